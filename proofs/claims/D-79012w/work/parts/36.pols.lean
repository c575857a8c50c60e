/-! POLICIES AS OBJECTS -/
set_option maxRecDepth 100000
/-- the object at a is a policy of the attributes A, k deep at most; it is never written again (tags 7, 8) -/
def Rep (E : GE) (h : AH) : Nat → Nat → Att → Prop
  | 0, _, _ => False
  | k + 1, a, A => (∃ m, m < 8 ∧ A = attOne m ∧ h a = some (7, gO 17 [.int (nI m)])) ∨
    (∃ l L B, B.length = L.length ∧ LI E 7 h l L ∧ (∀ (i y : Nat) (b : Att), L[i]? = some y → B[i]? = some b → Rep E h k y b) ∧
      ((2 ≤ B.length ∧ A = attAny B ∧ h a = some (7, gO 19 [.ref l])) ∨ (2 ≤ B.length ∧ A = attAll B ∧ h a = some (7, gO 18 [.ref l])) ∨ (∃ c, c ≤ 9 ∧ A = attSome c B ∧ h a = some (7, gO 16 [.int (nI c), .ref l]))))
theorem Rep.fr {E : GE} {h h' : AH} {P : Nat → Prop} (hf : Fr P h h') (h7 : ¬ P 7) (h8 : ¬ P 8) : ∀ {k a : Nat} {A : Att}, Rep E h k a A → Rep E h' k a A
  | 0, _, _, hr => hr
  | k + 1, a, A, hr => by
    rcases hr with ⟨m, h1, h2, h3⟩ | ⟨l, L, B, h1, h2, h3, h4⟩
    · exact Or.inl ⟨m, h1, h2, hf _ _ _ h3 h7⟩
    · refine Or.inr ⟨l, L, B, h1, h2.fr hf h7 h8, fun i y b z1 z2 => Rep.fr hf h7 h8 (h3 i y b z1 z2), ?_⟩
      rcases h4 with ⟨zn, z1, z2⟩ | ⟨zn, z1, z2⟩ | ⟨c, z0, z1, z2⟩
      · exact Or.inl ⟨zn, z1, hf _ _ _ z2 h7⟩
      · exact Or.inr (Or.inl ⟨zn, z1, hf _ _ _ z2 h7⟩)
      · exact Or.inr (Or.inr ⟨c, z0, z1, hf _ _ _ z2 h7⟩)
theorem Rep.up {E : GE} {h : AH} : ∀ {k a : Nat} {A : Att}, Rep E h k a A → Rep E h (k + 1) a A
  | 0, _, _, hr => hr.elim
  | k + 1, a, A, hr => by
    rcases hr with hr | ⟨l, L, B, h1, h2, h3, h4⟩
    · exact Or.inl hr
    · exact Or.inr ⟨l, L, B, h1, h2, fun i y b z1 z2 => Rep.up (h3 i y b z1 z2), h4⟩
theorem Rep.le {E : GE} {h : AH} {k j a : Nat} {A : Att} (hk : k ≤ j) (hr : Rep E h k a A) : Rep E h j a A := by
  induction j with
  | zero =>
    cases k with
    | zero => exact hr
    | succ k => omega
  | succ j ih =>
    rcases Nat.eq_or_lt_of_le hk with e | e
    · rw [← e]
      exact hr
    · exact (ih (by omega)).up
theorem Rep.le1 {E : GE} {h : AH} {k a : Nat} {A : Att} (hr : Rep E h k a A) (x : Nat) : aE A x ≤ 1 := by
  cases k with
  | zero => exact hr.elim
  | succ k =>
    rcases hr with ⟨m, h1, rfl, h3⟩ | ⟨l, L, B, h1, h2, h3, ⟨-, rfl, -⟩ | ⟨-, rfl, -⟩ | ⟨c, -, rfl, -⟩⟩
    · show x / 2 ^ m % 2 ≤ 1
      omega
    · show (if cnt B x = 0 then 0 else 1) ≤ 1
      split <;> omega
    · show (if cnt B x = B.length then 1 else 0) ≤ 1
      split <;> omega
    · show (if c ≤ cnt B x then 1 else 0) ≤ 1
      split <;> omega
/-- what stands in a list of policies -/
def RT (E : GE) (t : Nat) (h : AH) (k l : Nat) (L : List Nat) (B : List Att) : Prop := B.length = L.length ∧ LI E t h l L ∧ ∀ (i y : Nat) (b : Att), L[i]? = some y → B[i]? = some b → Rep E h k y b
abbrev RL (E : GE) (h : AH) (k l : Nat) (L : List Nat) (B : List Att) : Prop := RT E 7 h k l L B
theorem RT.cnt_le {E : GE} {t : Nat} {h : AH} {k l : Nat} {L : List Nat} {B : List Att} (hr : RT E t h k l L B) (x : Nat) : cnt B x ≤ B.length := by
  have key : ∀ B : List Att, (∀ b ∈ B, aE b x ≤ 1) → cnt B x ≤ B.length := by
    intro B
    induction B with
    | nil => intro _; exact Nat.le_refl _
    | cons b B ih =>
      intro z
      show aE b x + cnt B x ≤ B.length + 1
      have := z b List.mem_cons_self
      have := ih (fun b' hb => z b' (List.mem_cons_of_mem _ hb))
      omega
  refine key B (fun b hb => ?_)
  obtain ⟨i, hi⟩ := List.getElem?_of_mem hb
  have hlt : i < L.length := by rw [← hr.1]; exact (List.getElem?_eq_some_iff.mp hi).1
  exact (hr.2.2 i L[i] b (List.getElem?_eq_getElem hlt) hi).le1 x
theorem drp {B : List Att} {i : Nat} {b : Att} (h : B[i]? = some b) : B.drop i = b :: B.drop (i + 1) := by
  obtain ⟨h1, h2⟩ := List.getElem?_eq_some_iff.mp h
  rw [List.drop_eq_getElem_cons h1, h2]
theorem RT.el {E : GE} {t : Nat} {h : AH} {k l i : Nat} {L : List Nat} {B : List Att} (hr : RT E t h k l L B) (hi : i < L.length) : ∃ y b, L[i]? = some y ∧ B[i]? = some b ∧ Rep E h k y b ∧ B.drop i = b :: B.drop (i + 1) := by
  have hb : i < B.length := by rw [hr.1]; exact hi
  exact ⟨L[i], B[i], List.getElem?_eq_getElem hi, List.getElem?_eq_getElem hb, hr.2.2 i _ _ (List.getElem?_eq_getElem hi) (List.getElem?_eq_getElem hb), drp (List.getElem?_eq_getElem hb)⟩
theorem RT.out {E : GE} {t : Nat} {h : AH} {k l i : Nat} {L : List Nat} {B : List Att} (hr : RT E t h k l L B) (hi : ¬ i < L.length) : B.drop i = [] := List.drop_eq_nil_of_le (by rw [hr.1]; omega)
theorem RT.len {E : GE} {t : Nat} {h : AH} {k l : Nat} {L : List Nat} {B : List Att} (hr : RT E t h k l L B) : L.length ≤ 32 := hr.2.1.1
abbrev mX19_isFulfilled : GM := (yX19_isFulfilled, 2, (some .boolean), [], { frames := 0, cells := 0, slots := 0, locals := 0 }, 255)
theorem uX19_isFulfilled : gCu cX19_isFulfilled mX19_isFulfilled 1 := ⟨q1244, q115, q1246, ⟨by decide +kernel, by decide +kernel, by decide +kernel⟩, rfl⟩
set_option maxHeartbeats 400000 in
theorem ctX19_isFulfilled {E : GE} {h : AH} {a m : Nat} (x : Nat) (ha : h a = some (7, gO 17 [.int (nI m)])) (hm : m < 8) (hx : x < 2147483648) : Ct E cX19_isFulfilled mX19_isFulfilled [.ref a, .int (nI x)] (h) (pN fun r h' => r = (x / 2 ^ m % 2) ∧ h' = h) (noX) := by
  refine g_enter (own := "SecretVault$One") [some (.ref a), some (.int (nI x))] (by decide +kernel) rfl rfl (Nat.le_of_ble_eq_true rfl) rfl rfl (fun X => ?_)
  have hdv : x / 2 ^ m ≤ x := Nat.div_le_self _ _
  refine g_iload1 dX19_isFulfilled_0 ?_
  first | refine g_aload0 dX19_isFulfilled_1 ?_ | refine g_aloadQ0 dX19_isFulfilled_1 ?_ | refine g_aloadN0 dX19_isFulfilled_1 ?_
  refine g_get (k0 := 0) (by first | assumption | exact g_up_self _ _ _ | (refine g_upf ?_ ?_ <;> assumption) | (refine g_upt ?_ ?_ (by decide) <;> assumption)) in_X19 q1856 rfl (by decide) rfl dX19_isFulfilled_2 ?_
  refine g_ishrN dX19_isFulfilled_5 (by omega) (by omega) ?_
  refine g_iconst (nI 1) dX19_isFulfilled_6 (by decide) ?_
  refine g_iand1 dX19_isFulfilled_7 (by omega) ?_
  refine g_iconst (nI 1) dX19_isFulfilled_8 (by decide) ?_
  first | refine g_icmpN_ne (tgt := 16) dX19_isFulfilled_9 (by decide) (by omega) (by omega) (fun c_9 => ?_) (fun c_9 => ?_) | refine g_icmpU_ne (tgt := 16) dX19_isFulfilled_9 (by decide) (by omega) (by omega) (fun c_9 => ?_) (fun c_9 => ?_) | refine g_icmp_ne (tgt := 16) dX19_isFulfilled_9 (by decide) (fun c_9 => ?_) (fun c_9 => ?_)
  · refine g_iconst (nI 0) dX19_isFulfilled_16 (by decide) ?_
    exact g_zret dX19_isFulfilled_17 rfl (nar_zb (by omega)) ⟨_, rfl, by omega, rfl⟩
  · refine g_iconst (nI 1) dX19_isFulfilled_12 (by decide) ?_
    refine g_goto (tgt := 17) dX19_isFulfilled_13 (by decide) ?_
    exact g_zret dX19_isFulfilled_17 rfl (nar_zb (by omega)) ⟨_, rfl, by omega, rfl⟩
abbrev mX19_members : GM := (yX19_members, 1, (some .int), [], { frames := 0, cells := 0, slots := 0, locals := 0 }, 255)
theorem uX19_members : gCu cX19_members mX19_members 0 := ⟨q1959, q115, q1961, ⟨by decide +kernel, by decide +kernel, by decide +kernel⟩, rfl⟩
set_option maxHeartbeats 400000 in
theorem ctX19_members {E : GE} {h : AH} {a m : Nat} (ha : h a = some (7, gO 17 [.int (nI m)])) (hm : m < 8) : Ct E cX19_members mX19_members [.ref a] (h) (pN fun r h' => r = (2 ^ m) ∧ h' = h) (noX) := by
  refine g_enter (own := "SecretVault$One") [some (.ref a)] (by decide +kernel) rfl rfl (Nat.le_of_ble_eq_true rfl) rfl rfl (fun X => ?_)
  have hp : 2 ^ m < 2 ^ 8 := Nat.pow_lt_pow_right (by decide) hm
  refine g_iconst (nI 1) dX19_members_0 (by decide) ?_
  first | refine g_aload0 dX19_members_1 ?_ | refine g_aloadQ0 dX19_members_1 ?_ | refine g_aloadN0 dX19_members_1 ?_
  refine g_get (k0 := 0) (by first | assumption | exact g_up_self _ _ _ | (refine g_upf ?_ ?_ <;> assumption) | (refine g_upt ?_ ?_ (by decide) <;> assumption)) in_X19 q1856 rfl (by decide) rfl dX19_members_2 ?_
  refine g_ishlN dX19_members_5 (by omega) (by omega) ?_
  exact g_iret dX19_members_6 rfl ⟨_, rfl, by rw [Nat.one_mul], rfl⟩
abbrev mX1_fulfilledOf (N : Nat) : GM := (yX1_fulfilledOf, 4, (some .int), [], { frames := 2 * N + 6, cells := 0, slots := 0, locals := 44 * N + 260 }, 255)
theorem kX1_fulfilledOf (N : Nat) : gCs cX1_fulfilledOf (mX1_fulfilledOf N) 2 := ⟨q1210, q67, q1211, (show gDs yX1_fulfilledOf 2 from ⟨by decide +kernel, by decide +kernel, by decide +kernel⟩), rfl⟩
abbrev mX1_membersOf (N : Nat) : GM := (yX1_membersOf, 3, (some .int), [], { frames := 2 * N + 6, cells := 0, slots := 0, locals := 44 * N + 260 }, 255)
theorem kX1_membersOf (N : Nat) : gCs cX1_membersOf (mX1_membersOf N) 1 := ⟨q1949, q67, q1950, (show gDs yX1_membersOf 1 from ⟨by decide +kernel, by decide +kernel, by decide +kernel⟩), rfl⟩
abbrev mX21_isFulfilled (N : Nat) : GM := (yX21_isFulfilled, 2, (some .boolean), [], { frames := 2 * N + 5, cells := 0, slots := 0, locals := 44 * N + 239 }, 255)
theorem uX21_isFulfilled (N : Nat) : gCu cX21_isFulfilled (mX21_isFulfilled N) 1 := ⟨q1237, q117, q1239, (show gDs yX21_isFulfilled 1 from ⟨by decide +kernel, by decide +kernel, by decide +kernel⟩), rfl⟩
abbrev mX21_members (N : Nat) : GM := (yX21_members, 1, (some .int), [], { frames := 2 * N + 5, cells := 0, slots := 0, locals := 44 * N + 239 }, 255)
theorem uX21_members (N : Nat) : gCu cX21_members (mX21_members N) 0 := ⟨q1953, q117, q1955, (show gDs yX21_members 0 from ⟨by decide +kernel, by decide +kernel, by decide +kernel⟩), rfl⟩
set_option maxHeartbeats 400000 in
theorem ctX21_isFulfilled {E : GE} {h : AH} {N a l x : Nat} {L : List Nat} {B : List Att}  (ha : h a = some (7, gO 19 [.ref l])) (hL : RL E h N l L B) (hx : x < 2147483648) (IH : ∀ (l : Nat) (L : List Nat) (B : List Att), RL E h N l L B → Ct E cX1_fulfilledOf (mX1_fulfilledOf N) [.ref l, .int (nI x)] h (pN fun r h' => r = cnt B x ∧ h' = h) noX) : Ct E cX21_isFulfilled (mX21_isFulfilled (N + 1)) [.ref a, .int (nI x)] (h) (pN fun r h' => r = (if cnt B x = 0 then 0 else 1) ∧ h' = h) (noX) := by
  refine g_enter (own := "SecretVault$Any") [some (.ref a), some (.int (nI x))] (show plainName yX21_isFulfilled.cls = true by decide +kernel) rfl rfl (Nat.le_of_ble_eq_true rfl) rfl rfl (fun X => ?_)
  have hc0 := hL.cnt_le x
  have hc1 := hL.len
  have hc2 := hL.1
  have hli := hL.2.1
  first | refine g_aload0 dX21_isFulfilled_0 ?_ | refine g_aloadQ0 dX21_isFulfilled_0 ?_ | refine g_aloadN0 dX21_isFulfilled_0 ?_
  refine g_get (k0 := 0) (by first | assumption | exact g_up_self _ _ _ | (refine g_upf ?_ ?_ <;> assumption) | (refine g_upt ?_ ?_ (by decide) <;> assumption)) in_X21 q1883 rfl (by decide) rfl dX21_isFulfilled_1 ?_
  refine g_iload1 dX21_isFulfilled_4 ?_
  refine g_callSN (IH _ _ _ hL) (kX1_fulfilledOf _) q1240 ⟨by show 2 * N + 6 + 1 ≤ 2 * (N + 1) + 5; omega, by show 8 + (4 + 11) + (44 * N + 260) ≤ 44 * (N + 1) + 239; omega⟩ ⟨Nat.le_refl _, Nat.le_refl _⟩ rfl (Nat.le_of_ble_eq_true rfl) dX21_isFulfilled_5 k_x (k_n (fun r_5 h_5 p_5 => ?_))
  obtain ⟨rfl, rfl⟩ := p_5
  first | refine g_ifN_le (tgt := 15) dX21_isFulfilled_8 (by decide) (by omega) (fun c_8 => ?_) (fun c_8 => ?_) | refine g_if_le (tgt := 15) dX21_isFulfilled_8 (by decide) (fun c_8 => ?_) (fun c_8 => ?_)
  · refine g_iconst (nI 0) dX21_isFulfilled_15 (by decide) ?_
    exact g_zret (hk := Nat.zero_le _) (hn := Nat.zero_le _) dX21_isFulfilled_16 rfl (nar_zb (by omega)) ⟨_, rfl, by first | (rw [if_pos (by omega)]) | (rw [if_neg (by omega)]), rfl⟩
  · refine g_iconst (nI 1) dX21_isFulfilled_11 (by decide) ?_
    refine g_goto (tgt := 16) dX21_isFulfilled_12 (by decide) ?_
    exact g_zret (hk := Nat.zero_le _) (hn := Nat.zero_le _) dX21_isFulfilled_16 rfl (nar_zb (by omega)) ⟨_, rfl, by first | (rw [if_pos (by omega)]) | (rw [if_neg (by omega)]), rfl⟩
set_option maxHeartbeats 400000 in
theorem ctX21_members {E : GE} {h : AH} {N a l : Nat} {L : List Nat} {B : List Att}  (ha : h a = some (7, gO 19 [.ref l])) (hL : RL E h N l L B) (IH : ∀ (l : Nat) (L : List Nat) (B : List Att), RL E h N l L B → Ct E cX1_membersOf (mX1_membersOf N) [.ref l] h (pN fun r h' => r = mems B ∧ h' = h) noX) : Ct E cX21_members (mX21_members (N + 1)) [.ref a] (h) (pN fun r h' => r = (mems B) ∧ h' = h) (noX) := by
  refine g_enter (own := "SecretVault$Any") [some (.ref a)] (show plainName yX21_members.cls = true by decide +kernel) rfl rfl (Nat.le_of_ble_eq_true rfl) rfl rfl (fun X => ?_)
  first | refine g_aload0 dX21_members_0 ?_ | refine g_aloadQ0 dX21_members_0 ?_ | refine g_aloadN0 dX21_members_0 ?_
  refine g_get (k0 := 0) (by first | assumption | exact g_up_self _ _ _ | (refine g_upf ?_ ?_ <;> assumption) | (refine g_upt ?_ ?_ (by decide) <;> assumption)) in_X21 q1883 rfl (by decide) rfl dX21_members_1 ?_
  refine g_callSN (IH _ _ _ hL) (kX1_membersOf _) q1956 ⟨by show 2 * N + 6 + 1 ≤ 2 * (N + 1) + 5; omega, by show 8 + (3 + 11) + (44 * N + 260) ≤ 44 * (N + 1) + 239; omega⟩ ⟨Nat.le_refl _, Nat.le_refl _⟩ rfl (Nat.le_of_ble_eq_true rfl) dX21_members_4 k_x (k_n (fun r_4 h_4 p_4 => ?_))
  obtain ⟨rfl, rfl⟩ := p_4
  exact g_iret (hk := Nat.zero_le _) (hn := Nat.zero_le _) dX21_members_7 rfl ⟨_, rfl, rfl, rfl⟩
abbrev mX20_isFulfilled (N : Nat) : GM := (yX20_isFulfilled, 2, (some .boolean), [], { frames := 2 * N + 5, cells := 0, slots := 0, locals := 44 * N + 239 }, 255)
theorem uX20_isFulfilled (N : Nat) : gCu cX20_isFulfilled (mX20_isFulfilled N) 1 := ⟨q1206, q116, q1208, (show gDs yX20_isFulfilled 1 from ⟨by decide +kernel, by decide +kernel, by decide +kernel⟩), rfl⟩
abbrev mX20_members (N : Nat) : GM := (yX20_members, 1, (some .int), [], { frames := 2 * N + 5, cells := 0, slots := 0, locals := 44 * N + 239 }, 255)
theorem uX20_members (N : Nat) : gCu cX20_members (mX20_members N) 0 := ⟨q1945, q116, q1947, (show gDs yX20_members 0 from ⟨by decide +kernel, by decide +kernel, by decide +kernel⟩), rfl⟩
set_option maxHeartbeats 400000 in
theorem ctX20_isFulfilled {E : GE} {h : AH} {N a l x : Nat} {L : List Nat} {B : List Att}  (ha : h a = some (7, gO 18 [.ref l])) (hL : RL E h N l L B) (hx : x < 2147483648) (IH : ∀ (l : Nat) (L : List Nat) (B : List Att), RL E h N l L B → Ct E cX1_fulfilledOf (mX1_fulfilledOf N) [.ref l, .int (nI x)] h (pN fun r h' => r = cnt B x ∧ h' = h) noX) : Ct E cX20_isFulfilled (mX20_isFulfilled (N + 1)) [.ref a, .int (nI x)] (h) (pN fun r h' => r = (if cnt B x = B.length then 1 else 0) ∧ h' = h) (noX) := by
  refine g_enter (own := "SecretVault$All") [some (.ref a), some (.int (nI x))] (show plainName yX20_isFulfilled.cls = true by decide +kernel) rfl rfl (Nat.le_of_ble_eq_true rfl) rfl rfl (fun X => ?_)
  have hc0 := hL.cnt_le x
  have hc1 := hL.len
  have hc2 := hL.1
  have hli := hL.2.1
  first | refine g_aload0 dX20_isFulfilled_0 ?_ | refine g_aloadQ0 dX20_isFulfilled_0 ?_ | refine g_aloadN0 dX20_isFulfilled_0 ?_
  refine g_get (k0 := 0) (by first | assumption | exact g_up_self _ _ _ | (refine g_upf ?_ ?_ <;> assumption) | (refine g_upt ?_ ?_ (by decide) <;> assumption)) in_X20 q1872 rfl (by decide) rfl dX20_isFulfilled_1 ?_
  refine g_iload1 dX20_isFulfilled_4 ?_
  refine g_callSN (IH _ _ _ hL) (kX1_fulfilledOf _) q1209 ⟨by show 2 * N + 6 + 1 ≤ 2 * (N + 1) + 5; omega, by show 8 + (4 + 11) + (44 * N + 260) ≤ 44 * (N + 1) + 239; omega⟩ ⟨Nat.le_refl _, Nat.le_refl _⟩ rfl (Nat.le_of_ble_eq_true rfl) dX20_isFulfilled_5 k_x (k_n (fun r_5 h_5 p_5 => ?_))
  obtain ⟨rfl, rfl⟩ := p_5
  first | refine g_aload0 dX20_isFulfilled_8 ?_ | refine g_aloadQ0 dX20_isFulfilled_8 ?_ | refine g_aloadN0 dX20_isFulfilled_8 ?_
  refine g_get (k0 := 0) (by first | assumption | exact g_up_self _ _ _ | (refine g_upf ?_ ?_ <;> assumption) | (refine g_upt ?_ ?_ (by decide) <;> assumption)) in_X20 q1872 rfl (by decide) rfl dX20_isFulfilled_9 ?_
  refine g_callF (ctJ21_size _ hli) uJ21_size q1255 q1020 ⟨q1019, q1018, q1023, q1021, q994⟩ ⟨⟨by decide, by decide⟩, rfl⟩ (LI.at hli).choose_spec rfl ⟨by show 0 + 1 ≤ 2 * (N + 1) + 5; omega, by show 8 + (1 + 11) + (0) ≤ 44 * (N + 1) + 239; omega⟩ ⟨Nat.le_refl _, Nat.le_refl _⟩ rfl (Nat.le_of_ble_eq_true rfl) dX20_isFulfilled_12 k_x (k_n (fun r_12 h_12 p_12 => ?_))
  obtain ⟨rfl, z_12⟩ := p_12
  rw [z_12]
  first | refine g_icmpN_ne (tgt := 24) dX20_isFulfilled_17 (by decide) (by omega) (by omega) (fun c_17 => ?_) (fun c_17 => ?_) | refine g_icmpU_ne (tgt := 24) dX20_isFulfilled_17 (by decide) (by omega) (by omega) (fun c_17 => ?_) (fun c_17 => ?_) | refine g_icmp_ne (tgt := 24) dX20_isFulfilled_17 (by decide) (fun c_17 => ?_) (fun c_17 => ?_)
  · refine g_iconst (nI 0) dX20_isFulfilled_24 (by decide) ?_
    exact g_zret (hk := Nat.zero_le _) (hn := Nat.zero_le _) dX20_isFulfilled_25 rfl (nar_zb (by omega)) ⟨_, rfl, by first | (rw [if_pos (by omega)]) | (rw [if_neg (by omega)]), rfl⟩
  · refine g_iconst (nI 1) dX20_isFulfilled_20 (by decide) ?_
    refine g_goto (tgt := 25) dX20_isFulfilled_21 (by decide) ?_
    exact g_zret (hk := Nat.zero_le _) (hn := Nat.zero_le _) dX20_isFulfilled_25 rfl (nar_zb (by omega)) ⟨_, rfl, by first | (rw [if_pos (by omega)]) | (rw [if_neg (by omega)]), rfl⟩
set_option maxHeartbeats 400000 in
theorem ctX20_members {E : GE} {h : AH} {N a l : Nat} {L : List Nat} {B : List Att}  (ha : h a = some (7, gO 18 [.ref l])) (hL : RL E h N l L B) (IH : ∀ (l : Nat) (L : List Nat) (B : List Att), RL E h N l L B → Ct E cX1_membersOf (mX1_membersOf N) [.ref l] h (pN fun r h' => r = mems B ∧ h' = h) noX) : Ct E cX20_members (mX20_members (N + 1)) [.ref a] (h) (pN fun r h' => r = (mems B) ∧ h' = h) (noX) := by
  refine g_enter (own := "SecretVault$All") [some (.ref a)] (show plainName yX20_members.cls = true by decide +kernel) rfl rfl (Nat.le_of_ble_eq_true rfl) rfl rfl (fun X => ?_)
  first | refine g_aload0 dX20_members_0 ?_ | refine g_aloadQ0 dX20_members_0 ?_ | refine g_aloadN0 dX20_members_0 ?_
  refine g_get (k0 := 0) (by first | assumption | exact g_up_self _ _ _ | (refine g_upf ?_ ?_ <;> assumption) | (refine g_upt ?_ ?_ (by decide) <;> assumption)) in_X20 q1872 rfl (by decide) rfl dX20_members_1 ?_
  refine g_callSN (IH _ _ _ hL) (kX1_membersOf _) q1948 ⟨by show 2 * N + 6 + 1 ≤ 2 * (N + 1) + 5; omega, by show 8 + (3 + 11) + (44 * N + 260) ≤ 44 * (N + 1) + 239; omega⟩ ⟨Nat.le_refl _, Nat.le_refl _⟩ rfl (Nat.le_of_ble_eq_true rfl) dX20_members_4 k_x (k_n (fun r_4 h_4 p_4 => ?_))
  obtain ⟨rfl, rfl⟩ := p_4
  exact g_iret (hk := Nat.zero_le _) (hn := Nat.zero_le _) dX20_members_7 rfl ⟨_, rfl, rfl, rfl⟩
abbrev mX18_isFulfilled (N : Nat) : GM := (yX18_isFulfilled, 2, (some .boolean), [], { frames := 2 * N + 5, cells := 0, slots := 0, locals := 44 * N + 239 }, 255)
theorem uX18_isFulfilled (N : Nat) : gCu cX18_isFulfilled (mX18_isFulfilled N) 1 := ⟨q1250, q114, q1252, (show gDs yX18_isFulfilled 1 from ⟨by decide +kernel, by decide +kernel, by decide +kernel⟩), rfl⟩
abbrev mX18_members (N : Nat) : GM := (yX18_members, 1, (some .int), [], { frames := 2 * N + 5, cells := 0, slots := 0, locals := 44 * N + 239 }, 255)
theorem uX18_members (N : Nat) : gCu cX18_members (mX18_members N) 0 := ⟨q1964, q114, q1966, (show gDs yX18_members 0 from ⟨by decide +kernel, by decide +kernel, by decide +kernel⟩), rfl⟩
set_option maxHeartbeats 400000 in
theorem ctX18_isFulfilled {E : GE} {h : AH} {N a l x : Nat} {L : List Nat} {B : List Att} (c : Nat) (hc : c ≤ 9) (ha : h a = some (7, gO 16 [.int (nI c), .ref l])) (hL : RL E h N l L B) (hx : x < 2147483648) (IH : ∀ (l : Nat) (L : List Nat) (B : List Att), RL E h N l L B → Ct E cX1_fulfilledOf (mX1_fulfilledOf N) [.ref l, .int (nI x)] h (pN fun r h' => r = cnt B x ∧ h' = h) noX) : Ct E cX18_isFulfilled (mX18_isFulfilled (N + 1)) [.ref a, .int (nI x)] (h) (pN fun r h' => r = (if c ≤ cnt B x then 1 else 0) ∧ h' = h) (noX) := by
  refine g_enter (own := "SecretVault$Some") [some (.ref a), some (.int (nI x))] (show plainName yX18_isFulfilled.cls = true by decide +kernel) rfl rfl (Nat.le_of_ble_eq_true rfl) rfl rfl (fun X => ?_)
  have hc0 := hL.cnt_le x
  have hc1 := hL.len
  have hc2 := hL.1
  have hli := hL.2.1
  first | refine g_aload0 dX18_isFulfilled_0 ?_ | refine g_aloadQ0 dX18_isFulfilled_0 ?_ | refine g_aloadN0 dX18_isFulfilled_0 ?_
  refine g_get (k0 := 1) (by first | assumption | exact g_up_self _ _ _ | (refine g_upf ?_ ?_ <;> assumption) | (refine g_upt ?_ ?_ (by decide) <;> assumption)) in_X18 q1843 rfl (by decide) rfl dX18_isFulfilled_1 ?_
  refine g_iload1 dX18_isFulfilled_4 ?_
  refine g_callSN (IH _ _ _ hL) (kX1_fulfilledOf _) q1253 ⟨by show 2 * N + 6 + 1 ≤ 2 * (N + 1) + 5; omega, by show 8 + (4 + 11) + (44 * N + 260) ≤ 44 * (N + 1) + 239; omega⟩ ⟨Nat.le_refl _, Nat.le_refl _⟩ rfl (Nat.le_of_ble_eq_true rfl) dX18_isFulfilled_5 k_x (k_n (fun r_5 h_5 p_5 => ?_))
  obtain ⟨rfl, rfl⟩ := p_5
  first | refine g_aload0 dX18_isFulfilled_8 ?_ | refine g_aloadQ0 dX18_isFulfilled_8 ?_ | refine g_aloadN0 dX18_isFulfilled_8 ?_
  refine g_get (k0 := 0) (by first | assumption | exact g_up_self _ _ _ | (refine g_upf ?_ ?_ <;> assumption) | (refine g_upt ?_ ?_ (by decide) <;> assumption)) in_X18 q1841 rfl (by decide) rfl dX18_isFulfilled_9 ?_
  first | refine g_icmpN_lt (tgt := 19) dX18_isFulfilled_12 (by decide) (by omega) (by omega) (fun c_12 => ?_) (fun c_12 => ?_) | refine g_icmp_lt (tgt := 19) dX18_isFulfilled_12 (by decide) (fun c_12 => ?_) (fun c_12 => ?_)
  · refine g_iconst (nI 0) dX18_isFulfilled_19 (by decide) ?_
    exact g_zret (hk := Nat.zero_le _) (hn := Nat.zero_le _) dX18_isFulfilled_20 rfl (nar_zb (by omega)) ⟨_, rfl, by first | (rw [if_pos (by omega)]) | (rw [if_neg (by omega)]), rfl⟩
  · refine g_iconst (nI 1) dX18_isFulfilled_15 (by decide) ?_
    refine g_goto (tgt := 20) dX18_isFulfilled_16 (by decide) ?_
    exact g_zret (hk := Nat.zero_le _) (hn := Nat.zero_le _) dX18_isFulfilled_20 rfl (nar_zb (by omega)) ⟨_, rfl, by first | (rw [if_pos (by omega)]) | (rw [if_neg (by omega)]), rfl⟩
set_option maxHeartbeats 400000 in
theorem ctX18_members {E : GE} {h : AH} {N a l : Nat} {L : List Nat} {B : List Att} (c : Nat) (hc : c ≤ 9) (ha : h a = some (7, gO 16 [.int (nI c), .ref l])) (hL : RL E h N l L B) (IH : ∀ (l : Nat) (L : List Nat) (B : List Att), RL E h N l L B → Ct E cX1_membersOf (mX1_membersOf N) [.ref l] h (pN fun r h' => r = mems B ∧ h' = h) noX) : Ct E cX18_members (mX18_members (N + 1)) [.ref a] (h) (pN fun r h' => r = (mems B) ∧ h' = h) (noX) := by
  refine g_enter (own := "SecretVault$Some") [some (.ref a)] (show plainName yX18_members.cls = true by decide +kernel) rfl rfl (Nat.le_of_ble_eq_true rfl) rfl rfl (fun X => ?_)
  first | refine g_aload0 dX18_members_0 ?_ | refine g_aloadQ0 dX18_members_0 ?_ | refine g_aloadN0 dX18_members_0 ?_
  refine g_get (k0 := 1) (by first | assumption | exact g_up_self _ _ _ | (refine g_upf ?_ ?_ <;> assumption) | (refine g_upt ?_ ?_ (by decide) <;> assumption)) in_X18 q1843 rfl (by decide) rfl dX18_members_1 ?_
  refine g_callSN (IH _ _ _ hL) (kX1_membersOf _) q1967 ⟨by show 2 * N + 6 + 1 ≤ 2 * (N + 1) + 5; omega, by show 8 + (3 + 11) + (44 * N + 260) ≤ 44 * (N + 1) + 239; omega⟩ ⟨Nat.le_refl _, Nat.le_refl _⟩ rfl (Nat.le_of_ble_eq_true rfl) dX18_members_4 k_x (k_n (fun r_4 h_4 p_4 => ?_))
  obtain ⟨rfl, rfl⟩ := p_4
  exact g_iret (hk := Nat.zero_le _) (hn := Nat.zero_le _) dX18_members_7 rfl ⟨_, rfl, rfl, rfl⟩
def PCf (E : GE) (h : AH) (x N y : Nat) (b : Att) : Prop := (∃ m, h y = some (7, gO 17 [.int (nI m)]) ∧ Ct E cX19_isFulfilled mX19_isFulfilled [.ref y, .int (nI x)] h (pN fun r h' => r = aE b x ∧ h' = h) noX) ∨ (∃ m, h y = some (7, gO 19 [.ref m]) ∧ Ct E cX21_isFulfilled (mX21_isFulfilled N) [.ref y, .int (nI x)] h (pN fun r h' => r = aE b x ∧ h' = h) noX) ∨ (∃ m, h y = some (7, gO 18 [.ref m]) ∧ Ct E cX20_isFulfilled (mX20_isFulfilled N) [.ref y, .int (nI x)] h (pN fun r h' => r = aE b x ∧ h' = h) noX) ∨ (∃ c m, h y = some (7, gO 16 [.int (nI c), .ref m]) ∧ Ct E cX18_isFulfilled (mX18_isFulfilled N) [.ref y, .int (nI x)] h (pN fun r h' => r = aE b x ∧ h' = h) noX)
def PCm (E : GE) (h : AH) (N y : Nat) (b : Att) : Prop := (∃ m, h y = some (7, gO 17 [.int (nI m)]) ∧ Ct E cX19_members mX19_members [.ref y] h (pN fun r h' => r = aM b ∧ h' = h) noX) ∨ (∃ m, h y = some (7, gO 19 [.ref m]) ∧ Ct E cX21_members (mX21_members N) [.ref y] h (pN fun r h' => r = aM b ∧ h' = h) noX) ∨ (∃ m, h y = some (7, gO 18 [.ref m]) ∧ Ct E cX20_members (mX20_members N) [.ref y] h (pN fun r h' => r = aM b ∧ h' = h) noX) ∨ (∃ c m, h y = some (7, gO 16 [.int (nI c), .ref m]) ∧ Ct E cX18_members (mX18_members N) [.ref y] h (pN fun r h' => r = aM b ∧ h' = h) noX)
theorem Rep.rv {E : GE} {h : AH} {k a : Nat} {A : Att} (hr : Rep E h k a A) : ∃ C : String, gRv E h a C ∧ Cond.castable C "SecretVault$Policy" ∈ lw_tbl ∧ Cond.castable C "java/lang/Object" ∈ lw_tbl := by
  cases k with
  | zero => exact hr.elim
  | succ k =>
    rcases hr with ⟨m, -, -, h3⟩ | ⟨l, L, B, -, -, -, ⟨-, -, h3⟩ | ⟨-, -, h3⟩ | ⟨c, -, -, h3⟩⟩
    · exact ⟨_, gRv.g h3 rfl rfl, q1241, q2593⟩
    · exact ⟨_, gRv.g h3 rfl rfl, q1234, q2595⟩
    · exact ⟨_, gRv.g h3 rfl rfl, q1203, q2594⟩
    · exact ⟨_, gRv.g h3 rfl rfl, q1247, q2592⟩
theorem Rep.ob {E : GE} {h : AH} {k a : Nat} {A : Att} (hr : Rep E h k a A) : gOb E h a := by
  obtain ⟨C, h1, -, h2⟩ := hr.rv
  exact ⟨C, h1, h2⟩
set_option maxHeartbeats 400000 in
theorem ctX1_fulfilledOf_st {E : GE} {h : AH} {N l : Nat} {L : List Nat} {B : List Att} (x : Nat) (hL : RL E h N l L B) (hx : x < 2147483648) (hP : ∀ y b, Rep E h N y b → PCf E h x N y b) : Ct E cX1_fulfilledOf (mX1_fulfilledOf N) [.ref l, .int (nI x)] (h) (pN fun r h' => r = (cnt B x) ∧ h' = h) (noX) := by
  refine g_enter (own := "SecretVault") [some (.ref l), some (.int (nI x)), none, none] (show plainName yX1_fulfilledOf.cls = true by decide +kernel) rfl rfl (Nat.le_of_ble_eq_true rfl) rfl rfl (fun X => ?_)
  have hlen := hL.len
  have K0 : ∀ n i c, n + i = L.length → c ≤ i → i ≤ 32 → c + cnt (B.drop i) x = cnt B x → V E cX1_fulfilledOf "SecretVault" (mX1_fulfilledOf N) (pN fun r h' => r = (cnt B x) ∧ h' = h) noX X (h) 0 0 4 [some (.ref l), some (.int (nI x)), some (.int (nI c)), some (.int (nI i))] [] := by
    intro n
    induction n with
    | zero =>
      intro i c hn hc hi he
      have hni : ¬ i < L.length := by omega
      refine g_iload3 dX1_fulfilledOf_4 ?_
      first | refine g_aload0 dX1_fulfilledOf_5 ?_ | refine g_aloadQ0 dX1_fulfilledOf_5 ?_ | refine g_aloadN0 dX1_fulfilledOf_5 ?_
      refine g_callF (ctJ21_size _ hL.2.1) uJ21_size q1017 q1020 ⟨q1019, q1018, q1023, q1021, q994⟩ ⟨⟨by decide, by decide⟩, rfl⟩ (LI.at hL.2.1).choose_spec rfl ⟨by show 0 + 1 ≤ 2 * N + 6; omega, by show 8 + (1 + 11) + (0) ≤ 44 * N + 260; omega⟩ ⟨Nat.le_refl _, Nat.le_refl _⟩ rfl (Nat.le_of_ble_eq_true rfl) dX1_fulfilledOf_6 k_x (k_n (fun r_6 h_6 p_6 => ?_))
      obtain ⟨rfl, z_6⟩ := p_6
      rw [z_6]
      first | refine g_icmpN_ge (tgt := 47) dX1_fulfilledOf_11 (by decide) (by omega) (by omega) (fun c_11 => ?_) (fun c_11 => ?_) | refine g_icmp_ge (tgt := 47) dX1_fulfilledOf_11 (by decide) (fun c_11 => ?_) (fun c_11 => ?_)
      · refine g_iload2 dX1_fulfilledOf_47 ?_
        exact g_iret (hk := Nat.zero_le _) (hn := Nat.zero_le _) dX1_fulfilledOf_48 rfl ⟨_, rfl, by rw [← he, RT.out hL (Nat.not_lt.mpr c_11)]; rfl, rfl⟩
      · exact absurd (by omega) hni
    | succ n ih =>
      intro i c hn hc hi he
      refine g_iload3 dX1_fulfilledOf_4 ?_
      first | refine g_aload0 dX1_fulfilledOf_5 ?_ | refine g_aloadQ0 dX1_fulfilledOf_5 ?_ | refine g_aloadN0 dX1_fulfilledOf_5 ?_
      refine g_callF (ctJ21_size _ hL.2.1) uJ21_size q1017 q1020 ⟨q1019, q1018, q1023, q1021, q994⟩ ⟨⟨by decide, by decide⟩, rfl⟩ (LI.at hL.2.1).choose_spec rfl ⟨by show 0 + 1 ≤ 2 * N + 6; omega, by show 8 + (1 + 11) + (0) ≤ 44 * N + 260; omega⟩ ⟨Nat.le_refl _, Nat.le_refl _⟩ rfl (Nat.le_of_ble_eq_true rfl) dX1_fulfilledOf_6 k_x (k_n (fun r_6 h_6 p_6 => ?_))
      obtain ⟨rfl, z_6⟩ := p_6
      rw [z_6]
      first | refine g_icmpN_ge (tgt := 47) dX1_fulfilledOf_11 (by decide) (by omega) (by omega) (fun c_11 => ?_) (fun c_11 => ?_) | refine g_icmp_ge (tgt := 47) dX1_fulfilledOf_11 (by decide) (fun c_11 => ?_) (fun c_11 => ?_)
      · omega
      · refine g_iload2 dX1_fulfilledOf_14 ?_
        first | refine g_aload0 dX1_fulfilledOf_15 ?_ | refine g_aloadQ0 dX1_fulfilledOf_15 ?_ | refine g_aloadN0 dX1_fulfilledOf_15 ?_
        refine g_iload3 dX1_fulfilledOf_16 ?_
        refine g_callF (ctJ21_get _ _ hL.2.1 (Nat.lt_of_not_le c_11)) uJ21_get q1213 q1216 ⟨q1215, q1214, q1219, q1217, q994⟩ ⟨⟨by decide, by decide⟩, rfl⟩ (LI.at hL.2.1).choose_spec rfl ⟨by show 2 + 1 ≤ 2 * N + 6; omega, by show 8 + (2 + 11) + (43) ≤ 44 * N + 260; omega⟩ ⟨Nat.le_refl _, Nat.le_refl _⟩ rfl (Nat.le_of_ble_eq_true rfl) dX1_fulfilledOf_17 k_x (k_r (fun r_17 h_17 p_17 => ?_))
        obtain ⟨e_17, z_17⟩ := p_17
        rw [z_17]
        obtain ⟨y, b, e1, e2, hre, hdr⟩ := RT.el hL (Nat.lt_of_not_le c_11)
        obtain rfl : y = r_17 := Option.some.inj (e1.symm.trans e_17)
        have hle := hre.le1 x
        obtain ⟨C9, k1, k2, -⟩ := Rep.rv hre
        refine g_ck q1231 k1 k2 dX1_fulfilledOf_22 ?_
        refine g_iload1 dX1_fulfilledOf_25 ?_
        have K : V E cX1_fulfilledOf "SecretVault" (mX1_fulfilledOf N) (pN fun r h' => r = (cnt B x) ∧ h' = h) noX X (h) 0 0 31 [some (.ref l), some (.int (nI x)), some (.int (nI c)), some (.int (nI i))] [.int (nI (aE b x)), .int (nI c)] := by
          first | refine g_ifN_eq (tgt := 38) dX1_fulfilledOf_31 (by decide) (by omega) (fun c_31 => ?_) (fun c_31 => ?_) | refine g_if_eq (tgt := 38) dX1_fulfilledOf_31 (by decide) (fun c_31 => ?_) (fun c_31 => ?_)
          · have hz : aE b x = 0 := by omega
            refine g_iconst (nI 0) dX1_fulfilledOf_38 (by decide) ?_
            first | refine g_iaddN dX1_fulfilledOf_39 ?_ | refine g_iadd dX1_fulfilledOf_39 ?_
            refine g_istore2 dX1_fulfilledOf_40 (show ¬ 2 = 255 + 1 by decide) ?_
            first | refine g_iincN3 1 dX1_fulfilledOf_41 (by decide) (show ¬ 3 = 255 + 1 by decide) ?_ | refine g_iinc3 _ dX1_fulfilledOf_41 rfl (show ¬ 3 = 255 + 1 by decide) ?_
            refine g_goto (tgt := 4) dX1_fulfilledOf_44 (by decide) ?_
            exact ih (i + 1) _ (by omega) (by omega) (by omega) (by rw [← he, hdr]; show _ + cnt (B.drop (i + 1)) x = c + (aE b x + cnt (B.drop (i + 1)) x); omega)
          · have hz : aE b x = 1 := by have := hre.le1 x; omega
            refine g_iconst (nI 1) dX1_fulfilledOf_34 (by decide) ?_
            refine g_goto (tgt := 39) dX1_fulfilledOf_35 (by decide) ?_
            first | refine g_iaddN dX1_fulfilledOf_39 ?_ | refine g_iadd dX1_fulfilledOf_39 ?_
            refine g_istore2 dX1_fulfilledOf_40 (show ¬ 2 = 255 + 1 by decide) ?_
            first | refine g_iincN3 1 dX1_fulfilledOf_41 (by decide) (show ¬ 3 = 255 + 1 by decide) ?_ | refine g_iinc3 _ dX1_fulfilledOf_41 rfl (show ¬ 3 = 255 + 1 by decide) ?_
            refine g_goto (tgt := 4) dX1_fulfilledOf_44 (by decide) ?_
            exact ih (i + 1) _ (by omega) (by omega) (by omega) (by rw [← he, hdr]; show _ + cnt (B.drop (i + 1)) x = c + (aE b x + cnt (B.drop (i + 1)) x); omega)
        rcases hP y b hre with ⟨m, m1, m2⟩ | ⟨m, m1, m2⟩ | ⟨m, m1, m2⟩ | ⟨c, m, m1, m2⟩
        · refine g_callF m2 uX19_isFulfilled q1233 q1242 ⟨q1202, q1201, q1245, q1243, q1241⟩ ⟨⟨by decide, by decide⟩, rfl⟩ m1 rfl ⟨by show 0 + 1 ≤ 2 * N + 6; omega, by show 8 + (2 + 11) + (0) ≤ 44 * N + 260; omega⟩ ⟨Nat.le_refl _, Nat.le_refl _⟩ rfl (Nat.le_of_ble_eq_true rfl) dX1_fulfilledOf_26 k_x (k_n (fun r_26 h_26 p_26 => ?_))
          obtain ⟨rfl, z_26⟩ := p_26
          rw [z_26]
          exact K
        · refine g_callF m2 (uX21_isFulfilled _) q1233 q1235 ⟨q1202, q1201, q1238, q1236, q1234⟩ ⟨⟨by decide, by decide⟩, rfl⟩ m1 rfl ⟨by show 2 * N + 5 + 1 ≤ 2 * N + 6; omega, by show 8 + (2 + 11) + (44 * N + 239) ≤ 44 * N + 260; omega⟩ ⟨Nat.le_refl _, Nat.le_refl _⟩ rfl (Nat.le_of_ble_eq_true rfl) dX1_fulfilledOf_26 k_x (k_n (fun r_26 h_26 p_26 => ?_))
          obtain ⟨rfl, z_26⟩ := p_26
          rw [z_26]
          exact K
        · refine g_callF m2 (uX20_isFulfilled _) q1233 q1204 ⟨q1202, q1201, q1207, q1205, q1203⟩ ⟨⟨by decide, by decide⟩, rfl⟩ m1 rfl ⟨by show 2 * N + 5 + 1 ≤ 2 * N + 6; omega, by show 8 + (2 + 11) + (44 * N + 239) ≤ 44 * N + 260; omega⟩ ⟨Nat.le_refl _, Nat.le_refl _⟩ rfl (Nat.le_of_ble_eq_true rfl) dX1_fulfilledOf_26 k_x (k_n (fun r_26 h_26 p_26 => ?_))
          obtain ⟨rfl, z_26⟩ := p_26
          rw [z_26]
          exact K
        · refine g_callF m2 (uX18_isFulfilled _) q1233 q1248 ⟨q1202, q1201, q1251, q1249, q1247⟩ ⟨⟨by decide, by decide⟩, rfl⟩ m1 rfl ⟨by show 2 * N + 5 + 1 ≤ 2 * N + 6; omega, by show 8 + (2 + 11) + (44 * N + 239) ≤ 44 * N + 260; omega⟩ ⟨Nat.le_refl _, Nat.le_refl _⟩ rfl (Nat.le_of_ble_eq_true rfl) dX1_fulfilledOf_26 k_x (k_n (fun r_26 h_26 p_26 => ?_))
          obtain ⟨rfl, z_26⟩ := p_26
          rw [z_26]
          exact K
  refine g_iconst (nI 0) dX1_fulfilledOf_0 (by decide) ?_
  refine g_istore2 dX1_fulfilledOf_1 (show ¬ 2 = 255 + 1 by decide) ?_
  refine g_iconst (nI 0) dX1_fulfilledOf_2 (by decide) ?_
  refine g_istore3 dX1_fulfilledOf_3 (show ¬ 3 = 255 + 1 by decide) ?_
  exact K0 L.length 0 0 (by omega) (by omega) (by omega) (Nat.zero_add _)
set_option maxHeartbeats 400000 in
theorem ctX1_membersOf_st {E : GE} {h : AH} {N l : Nat} {L : List Nat} {B : List Att}  (hL : RL E h N l L B)  (hP : ∀ y b, Rep E h N y b → PCm E h N y b) : Ct E cX1_membersOf (mX1_membersOf N) [.ref l] (h) (pN fun r h' => r = (mems B) ∧ h' = h) (noX) := by
  refine g_enter (own := "SecretVault") [some (.ref l), none, none] (show plainName yX1_membersOf.cls = true by decide +kernel) rfl rfl (Nat.le_of_ble_eq_true rfl) rfl rfl (fun X => ?_)
  have hlen := hL.len
  have K0 : ∀ n i c, n + i = L.length → i ≤ 32 → c ||| mems (B.drop i) = mems B → V E cX1_membersOf "SecretVault" (mX1_membersOf N) (pN fun r h' => r = (mems B) ∧ h' = h) noX X (h) 0 0 4 [some (.ref l), some (.int (nI c)), some (.int (nI i))] [] := by
    intro n
    induction n with
    | zero =>
      intro i c hn hi he
      have hni : ¬ i < L.length := by omega
      refine g_iload2 dX1_membersOf_4 ?_
      first | refine g_aload0 dX1_membersOf_5 ?_ | refine g_aloadQ0 dX1_membersOf_5 ?_ | refine g_aloadN0 dX1_membersOf_5 ?_
      refine g_callF (ctJ21_size _ hL.2.1) uJ21_size q1017 q1020 ⟨q1019, q1018, q1023, q1021, q994⟩ ⟨⟨by decide, by decide⟩, rfl⟩ (LI.at hL.2.1).choose_spec rfl ⟨by show 0 + 1 ≤ 2 * N + 6; omega, by show 8 + (1 + 11) + (0) ≤ 44 * N + 260; omega⟩ ⟨Nat.le_refl _, Nat.le_refl _⟩ rfl (Nat.le_of_ble_eq_true rfl) dX1_membersOf_6 k_x (k_n (fun r_6 h_6 p_6 => ?_))
      obtain ⟨rfl, z_6⟩ := p_6
      rw [z_6]
      first | refine g_icmpN_ge (tgt := 38) dX1_membersOf_11 (by decide) (by omega) (by omega) (fun c_11 => ?_) (fun c_11 => ?_) | refine g_icmp_ge (tgt := 38) dX1_membersOf_11 (by decide) (fun c_11 => ?_) (fun c_11 => ?_)
      · refine g_iload1 dX1_membersOf_38 ?_
        exact g_iret (hk := Nat.zero_le _) (hn := Nat.zero_le _) dX1_membersOf_39 rfl ⟨_, rfl, by rw [← he, RT.out hL (Nat.not_lt.mpr c_11)]; exact (Nat.or_zero _).symm, rfl⟩
      · exact absurd (by omega) hni
    | succ n ih =>
      intro i c hn hi he
      refine g_iload2 dX1_membersOf_4 ?_
      first | refine g_aload0 dX1_membersOf_5 ?_ | refine g_aloadQ0 dX1_membersOf_5 ?_ | refine g_aloadN0 dX1_membersOf_5 ?_
      refine g_callF (ctJ21_size _ hL.2.1) uJ21_size q1017 q1020 ⟨q1019, q1018, q1023, q1021, q994⟩ ⟨⟨by decide, by decide⟩, rfl⟩ (LI.at hL.2.1).choose_spec rfl ⟨by show 0 + 1 ≤ 2 * N + 6; omega, by show 8 + (1 + 11) + (0) ≤ 44 * N + 260; omega⟩ ⟨Nat.le_refl _, Nat.le_refl _⟩ rfl (Nat.le_of_ble_eq_true rfl) dX1_membersOf_6 k_x (k_n (fun r_6 h_6 p_6 => ?_))
      obtain ⟨rfl, z_6⟩ := p_6
      rw [z_6]
      first | refine g_icmpN_ge (tgt := 38) dX1_membersOf_11 (by decide) (by omega) (by omega) (fun c_11 => ?_) (fun c_11 => ?_) | refine g_icmp_ge (tgt := 38) dX1_membersOf_11 (by decide) (fun c_11 => ?_) (fun c_11 => ?_)
      · omega
      · refine g_iload1 dX1_membersOf_14 ?_
        first | refine g_aload0 dX1_membersOf_15 ?_ | refine g_aloadQ0 dX1_membersOf_15 ?_ | refine g_aloadN0 dX1_membersOf_15 ?_
        refine g_iload2 dX1_membersOf_16 ?_
        refine g_callF (ctJ21_get _ _ hL.2.1 (Nat.lt_of_not_le c_11)) uJ21_get q1213 q1216 ⟨q1215, q1214, q1219, q1217, q994⟩ ⟨⟨by decide, by decide⟩, rfl⟩ (LI.at hL.2.1).choose_spec rfl ⟨by show 2 + 1 ≤ 2 * N + 6; omega, by show 8 + (2 + 11) + (43) ≤ 44 * N + 260; omega⟩ ⟨Nat.le_refl _, Nat.le_refl _⟩ rfl (Nat.le_of_ble_eq_true rfl) dX1_membersOf_17 k_x (k_r (fun r_17 h_17 p_17 => ?_))
        obtain ⟨e_17, z_17⟩ := p_17
        rw [z_17]
        obtain ⟨y, b, e1, e2, hre, hdr⟩ := RT.el hL (Nat.lt_of_not_le c_11)
        obtain rfl : y = r_17 := Option.some.inj (e1.symm.trans e_17)
        obtain ⟨C9, k1, k2, -⟩ := Rep.rv hre
        refine g_ck q1231 k1 k2 dX1_membersOf_22 ?_
        have K : V E cX1_membersOf "SecretVault" (mX1_membersOf N) (pN fun r h' => r = (mems B) ∧ h' = h) noX X (h) 0 0 30 [some (.ref l), some (.int (nI c)), some (.int (nI i))] [.int (nI (aM b)), .int (nI c)] := by
          first | refine g_iorN dX1_membersOf_30 ?_ | refine g_ior dX1_membersOf_30 ?_
          refine g_istore1 dX1_membersOf_31 (show ¬ 1 = 255 + 1 by decide) ?_
          first | refine g_iincN2 1 dX1_membersOf_32 (by decide) (show ¬ 2 = 255 + 1 by decide) ?_ | refine g_iinc2 _ dX1_membersOf_32 rfl (show ¬ 2 = 255 + 1 by decide) ?_
          refine g_goto (tgt := 4) dX1_membersOf_35 (by decide) ?_
          exact ih (i + 1) _ (by omega) (by omega) (by rw [← he, hdr]; exact Nat.or_assoc _ _ _)
        rcases hP y b hre with ⟨m, m1, m2⟩ | ⟨m, m1, m2⟩ | ⟨m, m1, m2⟩ | ⟨c, m, m1, m2⟩
        · refine g_callF m2 uX19_members q1940 q1957 ⟨q1942, q1941, q1960, q1958, q1241⟩ ⟨⟨by decide, by decide⟩, rfl⟩ m1 rfl ⟨by show 0 + 1 ≤ 2 * N + 6; omega, by show 8 + (1 + 11) + (0) ≤ 44 * N + 260; omega⟩ ⟨Nat.le_refl _, Nat.le_refl _⟩ rfl (Nat.le_of_ble_eq_true rfl) dX1_membersOf_25 k_x (k_n (fun r_25 h_25 p_25 => ?_))
          obtain ⟨rfl, z_25⟩ := p_25
          rw [z_25]
          exact K
        · refine g_callF m2 (uX21_members _) q1940 q1951 ⟨q1942, q1941, q1954, q1952, q1234⟩ ⟨⟨by decide, by decide⟩, rfl⟩ m1 rfl ⟨by show 2 * N + 5 + 1 ≤ 2 * N + 6; omega, by show 8 + (1 + 11) + (44 * N + 239) ≤ 44 * N + 260; omega⟩ ⟨Nat.le_refl _, Nat.le_refl _⟩ rfl (Nat.le_of_ble_eq_true rfl) dX1_membersOf_25 k_x (k_n (fun r_25 h_25 p_25 => ?_))
          obtain ⟨rfl, z_25⟩ := p_25
          rw [z_25]
          exact K
        · refine g_callF m2 (uX20_members _) q1940 q1943 ⟨q1942, q1941, q1946, q1944, q1203⟩ ⟨⟨by decide, by decide⟩, rfl⟩ m1 rfl ⟨by show 2 * N + 5 + 1 ≤ 2 * N + 6; omega, by show 8 + (1 + 11) + (44 * N + 239) ≤ 44 * N + 260; omega⟩ ⟨Nat.le_refl _, Nat.le_refl _⟩ rfl (Nat.le_of_ble_eq_true rfl) dX1_membersOf_25 k_x (k_n (fun r_25 h_25 p_25 => ?_))
          obtain ⟨rfl, z_25⟩ := p_25
          rw [z_25]
          exact K
        · refine g_callF m2 (uX18_members _) q1940 q1962 ⟨q1942, q1941, q1965, q1963, q1247⟩ ⟨⟨by decide, by decide⟩, rfl⟩ m1 rfl ⟨by show 2 * N + 5 + 1 ≤ 2 * N + 6; omega, by show 8 + (1 + 11) + (44 * N + 239) ≤ 44 * N + 260; omega⟩ ⟨Nat.le_refl _, Nat.le_refl _⟩ rfl (Nat.le_of_ble_eq_true rfl) dX1_membersOf_25 k_x (k_n (fun r_25 h_25 p_25 => ?_))
          obtain ⟨rfl, z_25⟩ := p_25
          rw [z_25]
          exact K
  refine g_iconst (nI 0) dX1_membersOf_0 (by decide) ?_
  refine g_istore1 dX1_membersOf_1 (show ¬ 1 = 255 + 1 by decide) ?_
  refine g_iconst (nI 0) dX1_membersOf_2 (by decide) ?_
  refine g_istore2 dX1_membersOf_3 (show ¬ 2 = 255 + 1 by decide) ?_
  exact K0 L.length 0 0 (by omega) (by omega) (Nat.zero_or _)
theorem ctX1_fulfilledOf {E : GE} {h : AH} (N : Nat) {x : Nat} (hx : x < 2147483648) : ∀ (l : Nat) (L : List Nat) (B : List Att), RL E h N l L B → Ct E cX1_fulfilledOf (mX1_fulfilledOf N) [.ref l, .int (nI x)] h (pN fun r h' => r = cnt B x ∧ h' = h) noX := by
  induction N with
  | zero => exact fun l L B hL => ctX1_fulfilledOf_st x hL hx (fun y b hr => hr.elim)
  | succ N ih =>
    refine fun l L B hL => ctX1_fulfilledOf_st x hL hx (fun y b hr => ?_)
    rcases hr with ⟨m, m1, rfl, m3⟩ | ⟨l', L', B', b1, b2, b3, ⟨-, rfl, z2⟩ | ⟨-, rfl, z2⟩ | ⟨c, c1, rfl, z2⟩⟩
    · exact Or.inl ⟨m, m3, ctX19_isFulfilled x m3 m1 hx⟩
    · exact Or.inr (Or.inl ⟨l', z2, ctX21_isFulfilled z2 ⟨b1, b2, b3⟩ hx ih⟩)
    · exact Or.inr (Or.inr (Or.inl ⟨l', z2, ctX20_isFulfilled z2 ⟨b1, b2, b3⟩ hx ih⟩))
    · exact Or.inr (Or.inr (Or.inr ⟨c, l', z2, ctX18_isFulfilled c c1 z2 ⟨b1, b2, b3⟩ hx ih⟩))
theorem ctX1_membersOf {E : GE} {h : AH} (N : Nat) : ∀ (l : Nat) (L : List Nat) (B : List Att), RL E h N l L B → Ct E cX1_membersOf (mX1_membersOf N) [.ref l] h (pN fun r h' => r = mems B ∧ h' = h) noX := by
  induction N with
  | zero => exact fun l L B hL => ctX1_membersOf_st hL (fun y b hr => hr.elim)
  | succ N ih =>
    refine fun l L B hL => ctX1_membersOf_st hL (fun y b hr => ?_)
    rcases hr with ⟨m, m1, rfl, m3⟩ | ⟨l', L', B', b1, b2, b3, ⟨-, rfl, z2⟩ | ⟨-, rfl, z2⟩ | ⟨c, c1, rfl, z2⟩⟩
    · exact Or.inl ⟨m, m3, ctX19_members m3 m1⟩
    · exact Or.inr (Or.inl ⟨l', z2, ctX21_members z2 ⟨b1, b2, b3⟩ ih⟩)
    · exact Or.inr (Or.inr (Or.inl ⟨l', z2, ctX20_members z2 ⟨b1, b2, b3⟩ ih⟩))
    · exact Or.inr (Or.inr (Or.inr ⟨c, l', z2, ctX18_members c c1 z2 ⟨b1, b2, b3⟩ ih⟩))
/-- a policy's methods, by its class -/
theorem Rep.pcf {E : GE} {h : AH} {N y x : Nat} {b : Att} (hr : Rep E h (N + 1) y b) (hx : x < 2147483648) : PCf E h x (N + 1) y b := by
  rcases hr with ⟨m, m1, rfl, m3⟩ | ⟨l', L', B', b1, b2, b3, ⟨-, rfl, z2⟩ | ⟨-, rfl, z2⟩ | ⟨c, c1, rfl, z2⟩⟩
  · exact Or.inl ⟨m, m3, ctX19_isFulfilled x m3 m1 hx⟩
  · exact Or.inr (Or.inl ⟨l', z2, ctX21_isFulfilled z2 ⟨b1, b2, b3⟩ hx (ctX1_fulfilledOf N hx)⟩)
  · exact Or.inr (Or.inr (Or.inl ⟨l', z2, ctX20_isFulfilled z2 ⟨b1, b2, b3⟩ hx (ctX1_fulfilledOf N hx)⟩))
  · exact Or.inr (Or.inr (Or.inr ⟨c, l', z2, ctX18_isFulfilled c c1 z2 ⟨b1, b2, b3⟩ hx (ctX1_fulfilledOf N hx)⟩))
theorem Rep.pcm {E : GE} {h : AH} {N y : Nat} {b : Att} (hr : Rep E h (N + 1) y b) : PCm E h (N + 1) y b := by
  rcases hr with ⟨m, m1, rfl, m3⟩ | ⟨l', L', B', b1, b2, b3, ⟨-, rfl, z2⟩ | ⟨-, rfl, z2⟩ | ⟨c, c1, rfl, z2⟩⟩
  · exact Or.inl ⟨m, m3, ctX19_members m3 m1⟩
  · exact Or.inr (Or.inl ⟨l', z2, ctX21_members z2 ⟨b1, b2, b3⟩ (ctX1_membersOf N)⟩)
  · exact Or.inr (Or.inr (Or.inl ⟨l', z2, ctX20_members z2 ⟨b1, b2, b3⟩ (ctX1_membersOf N)⟩))
  · exact Or.inr (Or.inr (Or.inr ⟨c, l', z2, ctX18_members c c1 z2 ⟨b1, b2, b3⟩ (ctX1_membersOf N)⟩))
theorem RT.fr {E : GE} {t : Nat} {h h' : AH} {k l : Nat} {L : List Nat} {B : List Att} {P : Nat → Prop} (hr : RT E t h k l L B) (hf : Fr P h h') (h7 : ¬ P 7) (h8 : ¬ P 8) (h1 : ¬ P t) (h2 : ¬ P (t + 1)) : RT E t h' k l L B := ⟨hr.1, hr.2.1.fr hf h1 h2, fun i y b z1 z2 => (hr.2.2 i y b z1 z2).fr hf h7 h8⟩
abbrev F0r : Nat → Prop := fun _ => False
theorem RT.fr0 {E : GE} {t : Nat} {h h' : AH} {k l : Nat} {L : List Nat} {B : List Att} (hr : RT E t h k l L B) (hf : Fr F0r h h') : RT E t h' k l L B := hr.fr hf id id id id
theorem Rep.fr0 {E : GE} {h h' : AH} {k a : Nat} {A : Att} (hr : Rep E h k a A) (hf : Fr F0r h h') : Rep E h' k a A := hr.fr hf id id
abbrev mX1_partsOf (N w : Nat) : GM := (yX1_partsOf, 2, (some (.object "java/util/List")), [], { frames := 9, cells := w, slots := 3 * w, locals := 200 }, 255)
theorem kX1_partsOf (N w : Nat) : gCs cX1_partsOf (mX1_partsOf N w) 1 := ⟨q1918, q67, q1919, (show gDs yX1_partsOf 1 from ⟨by decide +kernel, by decide +kernel, by decide +kernel⟩), rfl⟩
set_option maxHeartbeats 400000 in
theorem ctX1_partsOf_Any {E : GE} {h : AH} {N a l : Nat} (ha : h a = some (7, gO 19 [.ref l])) : Ct E cX1_partsOf (mX1_partsOf N 0) [.ref a] h (pR fun r h' => r = l ∧ h' = h) noX := by
  refine g_enter (own := "SecretVault") [some (.ref a), none] (show plainName yX1_partsOf.cls = true by decide +kernel) rfl rfl (Nat.le_of_ble_eq_true rfl) rfl rfl (fun X => ?_)
  first | refine g_aload0 dX1_partsOf_0 ?_ | refine g_aloadQ0 dX1_partsOf_0 ?_ | refine g_aloadN0 dX1_partsOf_0 ?_
  refine g_instS q1915 ha rfl dX1_partsOf_1 ?_
  refine g_ifN_eq (tgt := 17) dX1_partsOf_4 (by decide) (by decide) (fun c => False.elim (by revert c; decide)) (fun _ => ?_)
  first | refine g_aload0 dX1_partsOf_7 ?_ | refine g_aloadQ0 dX1_partsOf_7 ?_ | refine g_aloadN0 dX1_partsOf_7 ?_
  refine g_ckS q1915 ha rfl dX1_partsOf_8 ?_
  first | refine g_astore1 dX1_partsOf_11 (show ¬ 1 = 255 + 1 by decide) ?_ | refine g_astoreQ1 dX1_partsOf_11 (show ¬ 1 = 255 + 1 by decide) ?_ | refine g_astoreN1 dX1_partsOf_11 (show ¬ 1 = 255 + 1 by decide) ?_
  first | refine g_aload1 dX1_partsOf_12 ?_ | refine g_aloadQ1 dX1_partsOf_12 ?_ | refine g_aloadN1 dX1_partsOf_12 ?_
  refine g_getN (k0 := 0) (by first | assumption | exact g_up_self _ _ _ | (refine g_upf ?_ ?_ <;> assumption) | (refine g_upt ?_ ?_ (by decide) <;> assumption)) in_X21 q1884 rfl (by decide) rfl dX1_partsOf_13 ?_
  exact g_aret (hk := Nat.zero_le _) (hn := Nat.zero_le _) dX1_partsOf_16 rfl (Or.inl ⟨_, rfl⟩) ⟨_, rfl, rfl, rfl⟩
set_option maxRecDepth 100000 in
theorem nc_SecretVault_All_SecretVault_Any : gLf (Cond.not (Cond.castable "SecretVault$All" "SecretVault$Any")) := show _ ∈ flatC _ by decide +kernel
set_option maxHeartbeats 400000 in
theorem ctX1_partsOf_All {E : GE} {h : AH} {N a l : Nat} (ha : h a = some (7, gO 18 [.ref l])) : Ct E cX1_partsOf (mX1_partsOf N 0) [.ref a] h (pR fun r h' => r = l ∧ h' = h) noX := by
  refine g_enter (own := "SecretVault") [some (.ref a), none] (show plainName yX1_partsOf.cls = true by decide +kernel) rfl rfl (Nat.le_of_ble_eq_true rfl) rfl rfl (fun X => ?_)
  first | refine g_aload0 dX1_partsOf_0 ?_ | refine g_aloadQ0 dX1_partsOf_0 ?_ | refine g_aloadN0 dX1_partsOf_0 ?_
  refine g_instNo q1915 (gRv.g ha rfl rfl) nc_SecretVault_All_SecretVault_Any dX1_partsOf_1 ?_
  refine g_ifN_eq (tgt := 17) dX1_partsOf_4 (by decide) (by decide) (fun _ => ?_) (fun c => False.elim (by revert c; decide))
  first | refine g_aload0 dX1_partsOf_17 ?_ | refine g_aloadQ0 dX1_partsOf_17 ?_ | refine g_aloadN0 dX1_partsOf_17 ?_
  refine g_instS q1916 ha rfl dX1_partsOf_18 ?_
  refine g_ifN_eq (tgt := 34) dX1_partsOf_21 (by decide) (by decide) (fun c => False.elim (by revert c; decide)) (fun _ => ?_)
  first | refine g_aload0 dX1_partsOf_24 ?_ | refine g_aloadQ0 dX1_partsOf_24 ?_ | refine g_aloadN0 dX1_partsOf_24 ?_
  refine g_ckS q1916 ha rfl dX1_partsOf_25 ?_
  first | refine g_astore1 dX1_partsOf_28 (show ¬ 1 = 255 + 1 by decide) ?_ | refine g_astoreQ1 dX1_partsOf_28 (show ¬ 1 = 255 + 1 by decide) ?_ | refine g_astoreN1 dX1_partsOf_28 (show ¬ 1 = 255 + 1 by decide) ?_
  first | refine g_aload1 dX1_partsOf_29 ?_ | refine g_aloadQ1 dX1_partsOf_29 ?_ | refine g_aloadN1 dX1_partsOf_29 ?_
  refine g_getN (k0 := 0) (by first | assumption | exact g_up_self _ _ _ | (refine g_upf ?_ ?_ <;> assumption) | (refine g_upt ?_ ?_ (by decide) <;> assumption)) in_X20 q1873 rfl (by decide) rfl dX1_partsOf_30 ?_
  exact g_aret (hk := Nat.zero_le _) (hn := Nat.zero_le _) dX1_partsOf_33 rfl (Or.inl ⟨_, rfl⟩) ⟨_, rfl, rfl, rfl⟩
set_option maxRecDepth 100000 in
theorem nc_SecretVault_Some_SecretVault_Any : gLf (Cond.not (Cond.castable "SecretVault$Some" "SecretVault$Any")) := show _ ∈ flatC _ by decide +kernel
set_option maxRecDepth 100000 in
theorem nc_SecretVault_Some_SecretVault_All : gLf (Cond.not (Cond.castable "SecretVault$Some" "SecretVault$All")) := show _ ∈ flatC _ by decide +kernel
set_option maxHeartbeats 400000 in
theorem ctX1_partsOf_Some {E : GE} {h : AH} {N a l : Nat} {c : Nat} (ha : h a = some (7, gO 16 [.int (nI c), .ref l])) : Ct E cX1_partsOf (mX1_partsOf N 0) [.ref a] h (pR fun r h' => r = l ∧ h' = h) noX := by
  refine g_enter (own := "SecretVault") [some (.ref a), none] (show plainName yX1_partsOf.cls = true by decide +kernel) rfl rfl (Nat.le_of_ble_eq_true rfl) rfl rfl (fun X => ?_)
  first | refine g_aload0 dX1_partsOf_0 ?_ | refine g_aloadQ0 dX1_partsOf_0 ?_ | refine g_aloadN0 dX1_partsOf_0 ?_
  refine g_instNo q1915 (gRv.g ha rfl rfl) nc_SecretVault_Some_SecretVault_Any dX1_partsOf_1 ?_
  refine g_ifN_eq (tgt := 17) dX1_partsOf_4 (by decide) (by decide) (fun _ => ?_) (fun c => False.elim (by revert c; decide))
  first | refine g_aload0 dX1_partsOf_17 ?_ | refine g_aloadQ0 dX1_partsOf_17 ?_ | refine g_aloadN0 dX1_partsOf_17 ?_
  refine g_instNo q1916 (gRv.g ha rfl rfl) nc_SecretVault_Some_SecretVault_All dX1_partsOf_18 ?_
  refine g_ifN_eq (tgt := 34) dX1_partsOf_21 (by decide) (by decide) (fun _ => ?_) (fun c => False.elim (by revert c; decide))
  first | refine g_aload0 dX1_partsOf_34 ?_ | refine g_aloadQ0 dX1_partsOf_34 ?_ | refine g_aloadN0 dX1_partsOf_34 ?_
  refine g_instS q1912 ha rfl dX1_partsOf_35 ?_
  refine g_ifN_eq (tgt := 53) dX1_partsOf_38 (by decide) (by decide) (fun c => False.elim (by revert c; decide)) (fun _ => ?_)
  first | refine g_aload0 dX1_partsOf_41 ?_ | refine g_aloadQ0 dX1_partsOf_41 ?_ | refine g_aloadN0 dX1_partsOf_41 ?_
  refine g_ckS q1912 ha rfl dX1_partsOf_42 ?_
  first | refine g_astore1 dX1_partsOf_45 (show ¬ 1 = 255 + 1 by decide) ?_ | refine g_astoreQ1 dX1_partsOf_45 (show ¬ 1 = 255 + 1 by decide) ?_ | refine g_astoreN1 dX1_partsOf_45 (show ¬ 1 = 255 + 1 by decide) ?_
  first | refine g_aload1 dX1_partsOf_46 ?_ | refine g_aloadQ1 dX1_partsOf_46 ?_ | refine g_aloadN1 dX1_partsOf_46 ?_
  refine g_getN (k0 := 1) (by first | assumption | exact g_up_self _ _ _ | (refine g_upf ?_ ?_ <;> assumption) | (refine g_upt ?_ ?_ (by decide) <;> assumption)) in_X18 q1844 rfl (by decide) rfl dX1_partsOf_47 ?_
  refine g_goto (tgt := 60) dX1_partsOf_50 (by decide) ?_
  exact g_aret (hk := Nat.zero_le _) (hn := Nat.zero_le _) dX1_partsOf_60 rfl (Or.inl ⟨_, rfl⟩) ⟨_, rfl, rfl, rfl⟩
set_option maxRecDepth 100000 in
theorem nc_SecretVault_One_SecretVault_Any : gLf (Cond.not (Cond.castable "SecretVault$One" "SecretVault$Any")) := show _ ∈ flatC _ by decide +kernel
set_option maxRecDepth 100000 in
theorem nc_SecretVault_One_SecretVault_All : gLf (Cond.not (Cond.castable "SecretVault$One" "SecretVault$All")) := show _ ∈ flatC _ by decide +kernel
set_option maxRecDepth 100000 in
theorem nc_SecretVault_One_SecretVault_Some : gLf (Cond.not (Cond.castable "SecretVault$One" "SecretVault$Some")) := show _ ∈ flatC _ by decide +kernel
set_option maxHeartbeats 400000 in
theorem ctX1_partsOf_One {E : GE} {h : AH} {N a m : Nat} (T : Nat) (ha : h a = some (7, gO 17 [.int (nI m)])) : Ct E cX1_partsOf (mX1_partsOf N 1) [.ref a] h (pR fun r h' => h r = none ∧ h' = g_up h r (T, gO 9 [.int 0, .ref (eE E), .int 0])) noX := by
  refine g_enter (own := "SecretVault") [some (.ref a), none] (show plainName yX1_partsOf.cls = true by decide +kernel) rfl rfl (Nat.le_of_ble_eq_true rfl) rfl rfl (fun X => ?_)
  first | refine g_aload0 dX1_partsOf_0 ?_ | refine g_aloadQ0 dX1_partsOf_0 ?_ | refine g_aloadN0 dX1_partsOf_0 ?_
  refine g_instNo q1915 (gRv.g ha rfl rfl) nc_SecretVault_One_SecretVault_Any dX1_partsOf_1 ?_
  refine g_ifN_eq (tgt := 17) dX1_partsOf_4 (by decide) (by decide) (fun _ => ?_) (fun c => False.elim (by revert c; decide))
  first | refine g_aload0 dX1_partsOf_17 ?_ | refine g_aloadQ0 dX1_partsOf_17 ?_ | refine g_aloadN0 dX1_partsOf_17 ?_
  refine g_instNo q1916 (gRv.g ha rfl rfl) nc_SecretVault_One_SecretVault_All dX1_partsOf_18 ?_
  refine g_ifN_eq (tgt := 34) dX1_partsOf_21 (by decide) (by decide) (fun _ => ?_) (fun c => False.elim (by revert c; decide))
  first | refine g_aload0 dX1_partsOf_34 ?_ | refine g_aloadQ0 dX1_partsOf_34 ?_ | refine g_aloadN0 dX1_partsOf_34 ?_
  refine g_instNo q1912 (gRv.g ha rfl rfl) nc_SecretVault_One_SecretVault_Some dX1_partsOf_35 ?_
  refine g_ifN_eq (tgt := 53) dX1_partsOf_38 (by decide) (by decide) (fun _ => ?_) (fun c => False.elim (by revert c; decide))
  refine g_new 9 (T) [.int 0, .null, .int 0] in_J21 tyJ21_ok q1920 q965 q92 rfl nwJ21 (by show _ ≤ 1; decide) (by show _ ≤ 3 * 1; decide) dX1_partsOf_53 (fun q_53 f_53 => ?_)
  refine g_dup dX1_partsOf_56 rfl ?_
  refine g_callI (ctJ21_init _ (g_up_self _ _ _)) kJ21_init q1921 ⟨by show 3 + 1 ≤ 9; omega, by show 8 + (1 + 11) + (60) ≤ 200; omega⟩ ⟨by show _ ≤ 1; decide, by show _ ≤ 3 * 1; decide⟩ rfl (Nat.le_of_ble_eq_true rfl) dX1_partsOf_57 k_x (k_v (fun h_57 p_57 => ?_))
  subst p_57
  rw [g_upup]
  exact g_aret (hk := by show _ ≤ 1; decide) (hn := by show _ ≤ 3 * 1; decide) dX1_partsOf_60 rfl (Or.inl ⟨_, rfl⟩) ⟨_, rfl, f_53, rfl⟩
theorem dps_le {B : List Att} {i : Nat} {b : Att} (h : B.drop i = b :: B.drop (i + 1)) : aD b ≤ deps (B.drop i) := by
  rw [h]
  exact Nat.le_max_left _ _
theorem deps_drop {B : List Att} : ∀ i, deps (B.drop i) ≤ deps B := by
  intro i
  induction i generalizing B with
  | zero => exact Nat.le_refl _
  | succ i ih =>
    cases B with
    | nil => exact Nat.le_refl _
    | cons b B => exact Nat.le_trans (ih (B := B)) (Nat.le_max_right _ _)
abbrev mX1_sizeOf (N w : Nat) : GM := (yX1_sizeOf, 4, (some .int), [], { frames := N + 12, cells := w, slots := 3 * w, locals := 40 * N + 300 }, 255)
theorem kX1_sizeOf (N w : Nat) : gCs cX1_sizeOf (mX1_sizeOf N w) 1 := ⟨q1933, q67, q1934, (show gDs yX1_sizeOf 1 from ⟨by decide +kernel, by decide +kernel, by decide +kernel⟩), rfl⟩
set_option maxRecDepth 100000 in
theorem nc_SecretVault_Any_SecretVault_One : gLf (Cond.not (Cond.castable "SecretVault$Any" "SecretVault$One")) := show _ ∈ flatC _ by decide +kernel
set_option maxRecDepth 100000 in
theorem nc_SecretVault_Any_SecretVault_Some : gLf (Cond.not (Cond.castable "SecretVault$Any" "SecretVault$Some")) := show _ ∈ flatC _ by decide +kernel
set_option maxRecDepth 100000 in
theorem nc_SecretVault_All_SecretVault_One : gLf (Cond.not (Cond.castable "SecretVault$All" "SecretVault$One")) := show _ ∈ flatC _ by decide +kernel
set_option maxRecDepth 100000 in
theorem nc_SecretVault_All_SecretVault_Some : gLf (Cond.not (Cond.castable "SecretVault$All" "SecretVault$Some")) := show _ ∈ flatC _ by decide +kernel
set_option maxRecDepth 100000 in
theorem nc_SecretVault_Some_SecretVault_One : gLf (Cond.not (Cond.castable "SecretVault$Some" "SecretVault$One")) := show _ ∈ flatC _ by decide +kernel
set_option maxHeartbeats 400000 in
theorem ctX1_sizeOf_st {E : GE} {h : AH} {N a w : Nat} {A : Att} (hr : Rep E h (N + 1) a A) (hw : w = aS A)  (IH : ∀ (h : AH) (a : Nat) (A : Att), Rep E h N a A → Ct E cX1_sizeOf (mX1_sizeOf N (aS A)) [.ref a] h (pN fun r h' => r = aS A ∧ Fr F0r h h') noX) : Ct E cX1_sizeOf (mX1_sizeOf (N + 1) w) [.ref a] (h) (pN fun r h' => r = aS A ∧ Fr F0r h h') (noX) := by
  refine g_enter (own := "SecretVault") [some (.ref a), none, none, none] (show plainName yX1_sizeOf.cls = true by decide +kernel) rfl rfl (Nat.le_of_ble_eq_true rfl) rfl rfl (fun X => ?_)
  have K : ∀ (l t : Nat) (L : List Nat) (B : List Att), ∀ n i c h1 k nn, RT E t h1 N l L B → n + i = L.length → i ≤ 32 → Fr F0r h h1 → (c + sizs (B.drop i) = aS A) → k + sizs (B.drop i) ≤ w → nn + 3 * sizs (B.drop i) ≤ 3 * w → V E cX1_sizeOf "SecretVault" (mX1_sizeOf (N + 1) w) (pN fun r h' => r = aS A ∧ Fr F0r h h') noX X (h1) k nn 27 [some (.ref a), some (.int (nI c)), some (.ref l), some (.int (nI i))] [] := by
    intro l t L B n
    induction n with
    | zero =>
      intro i c h1 k nn hL hn hi hF hc hk hnn
      have hlen := hL.len
      have hni : ¬ i < L.length := by omega
      refine g_iload3 dX1_sizeOf_27 ?_
      first | refine g_aload2 dX1_sizeOf_28 ?_ | refine g_aloadQ2 dX1_sizeOf_28 ?_ | refine g_aloadN2 dX1_sizeOf_28 ?_
      refine g_callF (ctJ21_size _ hL.2.1) uJ21_size q1017 q1020 ⟨q1019, q1018, q1023, q1021, q994⟩ ⟨⟨by decide, by decide⟩, rfl⟩ (LI.at hL.2.1).choose_spec rfl ⟨by show 0 + 1 ≤ (N + 1) + 12; omega, by show 8 + (1 + 11) + (0) ≤ 40 * (N + 1) + 300; omega⟩ ⟨by show _ + 0 ≤ w; omega, by show _ + 0 ≤ 3 * w; omega⟩ rfl (Nat.le_of_ble_eq_true rfl) dX1_sizeOf_29 k_x (k_n (fun r_29 h_29 p_29 => ?_))
      obtain ⟨rfl, z_29⟩ := p_29
      rw [z_29]
      refine V.wide (k' := k) (n' := nn) (Nat.le_refl _) (Nat.le_refl _) ?_
      first | refine g_icmpN_ge (tgt := 59) dX1_sizeOf_34 (by decide) (by omega) (by omega) (fun c_34 => ?_) (fun c_34 => ?_) | refine g_icmp_ge (tgt := 59) dX1_sizeOf_34 (by decide) (fun c_34 => ?_) (fun c_34 => ?_)
      · refine g_iload1 dX1_sizeOf_59 ?_
        exact g_iret (hk := by show _ ≤ w; omega) (hn := by show _ ≤ 3 * w; omega) dX1_sizeOf_60 rfl ⟨_, rfl, by rw [RT.out hL (by omega)] at hc; exact hc, hF⟩
      · exact absurd (by omega) hni
    | succ n ih =>
      intro i c h1 k nn hL hn hi hF hc hk hnn
      have hlen := hL.len
      refine g_iload3 dX1_sizeOf_27 ?_
      first | refine g_aload2 dX1_sizeOf_28 ?_ | refine g_aloadQ2 dX1_sizeOf_28 ?_ | refine g_aloadN2 dX1_sizeOf_28 ?_
      refine g_callF (ctJ21_size _ hL.2.1) uJ21_size q1017 q1020 ⟨q1019, q1018, q1023, q1021, q994⟩ ⟨⟨by decide, by decide⟩, rfl⟩ (LI.at hL.2.1).choose_spec rfl ⟨by show 0 + 1 ≤ (N + 1) + 12; omega, by show 8 + (1 + 11) + (0) ≤ 40 * (N + 1) + 300; omega⟩ ⟨by show _ + 0 ≤ w; omega, by show _ + 0 ≤ 3 * w; omega⟩ rfl (Nat.le_of_ble_eq_true rfl) dX1_sizeOf_29 k_x (k_n (fun r_29 h_29 p_29 => ?_))
      obtain ⟨rfl, z_29⟩ := p_29
      rw [z_29]
      refine V.wide (k' := k) (n' := nn) (Nat.le_refl _) (Nat.le_refl _) ?_
      first | refine g_icmpN_ge (tgt := 59) dX1_sizeOf_34 (by decide) (by omega) (by omega) (fun c_34 => ?_) (fun c_34 => ?_) | refine g_icmp_ge (tgt := 59) dX1_sizeOf_34 (by decide) (fun c_34 => ?_) (fun c_34 => ?_)
      · refine g_iload1 dX1_sizeOf_59 ?_
        exact g_iret (hk := by show _ ≤ w; omega) (hn := by show _ ≤ 3 * w; omega) dX1_sizeOf_60 rfl ⟨_, rfl, by rw [RT.out hL (by omega)] at hc; exact hc, hF⟩
      · refine g_iload1 dX1_sizeOf_37 ?_
        first | refine g_aload2 dX1_sizeOf_38 ?_ | refine g_aloadQ2 dX1_sizeOf_38 ?_ | refine g_aloadN2 dX1_sizeOf_38 ?_
        refine g_iload3 dX1_sizeOf_39 ?_
        refine g_callF (ctJ21_get _ _ hL.2.1 (Nat.lt_of_not_le c_34)) uJ21_get q1213 q1216 ⟨q1215, q1214, q1219, q1217, q994⟩ ⟨⟨by decide, by decide⟩, rfl⟩ (LI.at hL.2.1).choose_spec rfl ⟨by show 2 + 1 ≤ (N + 1) + 12; omega, by show 8 + (2 + 11) + (43) ≤ 40 * (N + 1) + 300; omega⟩ ⟨by show _ + 0 ≤ w; omega, by show _ + 0 ≤ 3 * w; omega⟩ rfl (Nat.le_of_ble_eq_true rfl) dX1_sizeOf_40 k_x (k_r (fun r_40 h_40 p_40 => ?_))
        obtain ⟨e_40, z_40⟩ := p_40
        rw [z_40]
        refine V.wide (k' := k) (n' := nn) (Nat.le_refl _) (Nat.le_refl _) ?_
        obtain ⟨y, b, e1, e2, hre, hdr⟩ := RT.el hL (Nat.lt_of_not_le c_34)
        obtain rfl : y = r_40 := Option.some.inj (e1.symm.trans e_40)
        have hsz : sizs (B.drop i) = aS b + sizs (B.drop (i + 1)) := by rw [hdr]; rfl
        obtain ⟨C9, k1, k2, -⟩ := Rep.rv hre
        refine g_ck q1231 k1 k2 dX1_sizeOf_45 ?_
        refine g_callS (IH _ _ _ hre) (kX1_sizeOf _ _) q1932 ⟨by show N + 12 + 1 ≤ (N + 1) + 12; omega, by show 8 + (4 + 11) + (40 * N + 300) ≤ 40 * (N + 1) + 300; omega⟩ ⟨by show _ + aS b ≤ w; omega, by show _ + 3 * (aS b) ≤ 3 * w; omega⟩ rfl (Nat.le_of_ble_eq_true rfl) dX1_sizeOf_48 k_x (k_n (fun r_48 h_48 p_48 => ?_))
        obtain ⟨rfl, g_48⟩ := p_48
        refine V.wide (k' := k + aS b) (n' := nn + 3 * aS b) (Nat.le_refl _) (Nat.le_refl _) ?_
        first | refine g_iaddN dX1_sizeOf_51 ?_ | refine g_iadd dX1_sizeOf_51 ?_
        refine g_istore1 dX1_sizeOf_52 (show ¬ 1 = 255 + 1 by decide) ?_
        first | refine g_iincN3 1 dX1_sizeOf_53 (by decide) (show ¬ 3 = 255 + 1 by decide) ?_ | refine g_iinc3 _ dX1_sizeOf_53 rfl (show ¬ 3 = 255 + 1 by decide) ?_
        refine g_goto (tgt := 27) dX1_sizeOf_56 (by decide) ?_
        exact ih (i + 1) _ _ _ _ (hL.fr0 g_48) (by omega) (by omega) (hF.tr g_48) (by omega) (by omega) (by omega)
  rcases hr with ⟨m, m1, rfl, ha⟩ | ⟨l, L, B, b1, b2, b3, ⟨-, rfl, ha⟩ | ⟨-, rfl, ha⟩ | ⟨c, c1, rfl, ha⟩⟩
  · first | refine g_aload0 dX1_sizeOf_0 ?_ | refine g_aloadQ0 dX1_sizeOf_0 ?_ | refine g_aloadN0 dX1_sizeOf_0 ?_
    refine g_instS q1910 ha rfl dX1_sizeOf_1 ?_
    refine g_ifN_ne (tgt := 14) dX1_sizeOf_4 (by decide) (by decide) (fun _ => ?_) (fun c => False.elim (by revert c; decide))
    refine g_iconst (nI 1) dX1_sizeOf_14 (by decide) ?_
    refine g_goto (tgt := 19) dX1_sizeOf_15 (by decide) ?_
    refine g_istore1 dX1_sizeOf_19 (show ¬ 1 = 255 + 1 by decide) ?_
    first | refine g_aload0 dX1_sizeOf_20 ?_ | refine g_aloadQ0 dX1_sizeOf_20 ?_ | refine g_aloadN0 dX1_sizeOf_20 ?_
    refine g_callS (ctX1_partsOf_One (N := 0) 1000 ha) (kX1_partsOf _ _) q1917 ⟨by show 9 + 1 ≤ (N + 1) + 12; omega, by show 8 + (2 + 11) + (200) ≤ 40 * (N + 1) + 300; omega⟩ ⟨by show _ + 1 ≤ w; rw [hw]; exact Nat.le_refl _, by show _ + 3 * 1 ≤ 3 * w; rw [hw]; exact Nat.le_refl _⟩ rfl (Nat.le_of_ble_eq_true rfl) dX1_sizeOf_21 k_x (k_r (fun r_21 h_21 p_21 => ?_))
    obtain ⟨e_21, rfl⟩ := p_21
    have f_21 : Fr F0r h (g_up h r_21 (1000, gO 9 [.int 0, .ref (eE E), .int 0])) := Fr.new e_21
    first | refine g_astore2 dX1_sizeOf_24 (show ¬ 2 = 255 + 1 by decide) ?_ | refine g_astoreQ2 dX1_sizeOf_24 (show ¬ 2 = 255 + 1 by decide) ?_ | refine g_astoreN2 dX1_sizeOf_24 (show ¬ 2 = 255 + 1 by decide) ?_
    refine g_iconst (nI 0) dX1_sizeOf_25 (by decide) ?_
    refine g_istore3 dX1_sizeOf_26 (show ¬ 3 = 255 + 1 by decide) ?_
    exact K r_21 1000 [] []  0 0 _ _ _ _ ⟨rfl, LI.nil, fun i y b z => by simp at z⟩ rfl (by decide) f_21 rfl (by show _ ≤ w; rw [hw]; exact Nat.le_refl _) (by show _ ≤ 3 * w; rw [hw]; exact Nat.le_refl _)
  · first | refine g_aload0 dX1_sizeOf_0 ?_ | refine g_aloadQ0 dX1_sizeOf_0 ?_ | refine g_aloadN0 dX1_sizeOf_0 ?_
    refine g_instNo q1910 (gRv.g ha rfl rfl) nc_SecretVault_Any_SecretVault_One dX1_sizeOf_1 ?_
    refine g_ifN_ne (tgt := 14) dX1_sizeOf_4 (by decide) (by decide) (fun c => False.elim (by revert c; decide)) (fun _ => ?_)
    first | refine g_aload0 dX1_sizeOf_7 ?_ | refine g_aloadQ0 dX1_sizeOf_7 ?_ | refine g_aloadN0 dX1_sizeOf_7 ?_
    refine g_instNo q1912 (gRv.g ha rfl rfl) nc_SecretVault_Any_SecretVault_Some dX1_sizeOf_8 ?_
    refine g_ifN_eq (tgt := 18) dX1_sizeOf_11 (by decide) (by decide) (fun _ => ?_) (fun c => False.elim (by revert c; decide))
    refine g_iconst (nI 0) dX1_sizeOf_18 (by decide) ?_
    refine g_istore1 dX1_sizeOf_19 (show ¬ 1 = 255 + 1 by decide) ?_
    first | refine g_aload0 dX1_sizeOf_20 ?_ | refine g_aloadQ0 dX1_sizeOf_20 ?_ | refine g_aloadN0 dX1_sizeOf_20 ?_
    refine g_callS (ctX1_partsOf_Any (N := 0) ha) (kX1_partsOf _ _) q1917 ⟨by show 9 + 1 ≤ (N + 1) + 12; omega, by show 8 + (2 + 11) + (200) ≤ 40 * (N + 1) + 300; omega⟩ ⟨Nat.zero_le _, Nat.zero_le _⟩ rfl (Nat.le_of_ble_eq_true rfl) dX1_sizeOf_21 k_x (k_r (fun r_21 h_21 p_21 => ?_))
    obtain ⟨rfl, z_21⟩ := p_21
    rw [z_21]
    first | refine g_astore2 dX1_sizeOf_24 (show ¬ 2 = 255 + 1 by decide) ?_ | refine g_astoreQ2 dX1_sizeOf_24 (show ¬ 2 = 255 + 1 by decide) ?_ | refine g_astoreN2 dX1_sizeOf_24 (show ¬ 2 = 255 + 1 by decide) ?_
    refine g_iconst (nI 0) dX1_sizeOf_25 (by decide) ?_
    refine g_istore3 dX1_sizeOf_26 (show ¬ 3 = 255 + 1 by decide) ?_
    exact K _ 7 L B  L.length 0 _ h _ _ ⟨b1, b2, b3⟩ rfl (Nat.zero_le _) Fr.rf (by show _ + sizs B = _; first | exact Nat.zero_add _ | rfl) (by show 0 + sizs B ≤ w; rw [hw]; first | (rw [Nat.zero_add]; exact Nat.le_refl _) | (rw [Nat.zero_add]; exact Nat.le_add_left _ _)) (by show 0 + 3 * sizs B ≤ 3 * w; rw [hw]; first | (rw [Nat.zero_add]; exact Nat.le_refl _) | (rw [Nat.zero_add]; exact Nat.mul_le_mul_left 3 (Nat.le_add_left _ _)))
  · first | refine g_aload0 dX1_sizeOf_0 ?_ | refine g_aloadQ0 dX1_sizeOf_0 ?_ | refine g_aloadN0 dX1_sizeOf_0 ?_
    refine g_instNo q1910 (gRv.g ha rfl rfl) nc_SecretVault_All_SecretVault_One dX1_sizeOf_1 ?_
    refine g_ifN_ne (tgt := 14) dX1_sizeOf_4 (by decide) (by decide) (fun c => False.elim (by revert c; decide)) (fun _ => ?_)
    first | refine g_aload0 dX1_sizeOf_7 ?_ | refine g_aloadQ0 dX1_sizeOf_7 ?_ | refine g_aloadN0 dX1_sizeOf_7 ?_
    refine g_instNo q1912 (gRv.g ha rfl rfl) nc_SecretVault_All_SecretVault_Some dX1_sizeOf_8 ?_
    refine g_ifN_eq (tgt := 18) dX1_sizeOf_11 (by decide) (by decide) (fun _ => ?_) (fun c => False.elim (by revert c; decide))
    refine g_iconst (nI 0) dX1_sizeOf_18 (by decide) ?_
    refine g_istore1 dX1_sizeOf_19 (show ¬ 1 = 255 + 1 by decide) ?_
    first | refine g_aload0 dX1_sizeOf_20 ?_ | refine g_aloadQ0 dX1_sizeOf_20 ?_ | refine g_aloadN0 dX1_sizeOf_20 ?_
    refine g_callS (ctX1_partsOf_All (N := 0) ha) (kX1_partsOf _ _) q1917 ⟨by show 9 + 1 ≤ (N + 1) + 12; omega, by show 8 + (2 + 11) + (200) ≤ 40 * (N + 1) + 300; omega⟩ ⟨Nat.zero_le _, Nat.zero_le _⟩ rfl (Nat.le_of_ble_eq_true rfl) dX1_sizeOf_21 k_x (k_r (fun r_21 h_21 p_21 => ?_))
    obtain ⟨rfl, z_21⟩ := p_21
    rw [z_21]
    first | refine g_astore2 dX1_sizeOf_24 (show ¬ 2 = 255 + 1 by decide) ?_ | refine g_astoreQ2 dX1_sizeOf_24 (show ¬ 2 = 255 + 1 by decide) ?_ | refine g_astoreN2 dX1_sizeOf_24 (show ¬ 2 = 255 + 1 by decide) ?_
    refine g_iconst (nI 0) dX1_sizeOf_25 (by decide) ?_
    refine g_istore3 dX1_sizeOf_26 (show ¬ 3 = 255 + 1 by decide) ?_
    exact K _ 7 L B  L.length 0 _ h _ _ ⟨b1, b2, b3⟩ rfl (Nat.zero_le _) Fr.rf (by show _ + sizs B = _; first | exact Nat.zero_add _ | rfl) (by show 0 + sizs B ≤ w; rw [hw]; first | (rw [Nat.zero_add]; exact Nat.le_refl _) | (rw [Nat.zero_add]; exact Nat.le_add_left _ _)) (by show 0 + 3 * sizs B ≤ 3 * w; rw [hw]; first | (rw [Nat.zero_add]; exact Nat.le_refl _) | (rw [Nat.zero_add]; exact Nat.mul_le_mul_left 3 (Nat.le_add_left _ _)))
  · first | refine g_aload0 dX1_sizeOf_0 ?_ | refine g_aloadQ0 dX1_sizeOf_0 ?_ | refine g_aloadN0 dX1_sizeOf_0 ?_
    refine g_instNo q1910 (gRv.g ha rfl rfl) nc_SecretVault_Some_SecretVault_One dX1_sizeOf_1 ?_
    refine g_ifN_ne (tgt := 14) dX1_sizeOf_4 (by decide) (by decide) (fun c => False.elim (by revert c; decide)) (fun _ => ?_)
    first | refine g_aload0 dX1_sizeOf_7 ?_ | refine g_aloadQ0 dX1_sizeOf_7 ?_ | refine g_aloadN0 dX1_sizeOf_7 ?_
    refine g_instS q1912 ha rfl dX1_sizeOf_8 ?_
    refine g_ifN_eq (tgt := 18) dX1_sizeOf_11 (by decide) (by decide) (fun c => False.elim (by revert c; decide)) (fun _ => ?_)
    refine g_iconst (nI 1) dX1_sizeOf_14 (by decide) ?_
    refine g_goto (tgt := 19) dX1_sizeOf_15 (by decide) ?_
    refine g_istore1 dX1_sizeOf_19 (show ¬ 1 = 255 + 1 by decide) ?_
    first | refine g_aload0 dX1_sizeOf_20 ?_ | refine g_aloadQ0 dX1_sizeOf_20 ?_ | refine g_aloadN0 dX1_sizeOf_20 ?_
    refine g_callS (ctX1_partsOf_Some (N := 0) ha) (kX1_partsOf _ _) q1917 ⟨by show 9 + 1 ≤ (N + 1) + 12; omega, by show 8 + (2 + 11) + (200) ≤ 40 * (N + 1) + 300; omega⟩ ⟨Nat.zero_le _, Nat.zero_le _⟩ rfl (Nat.le_of_ble_eq_true rfl) dX1_sizeOf_21 k_x (k_r (fun r_21 h_21 p_21 => ?_))
    obtain ⟨rfl, z_21⟩ := p_21
    rw [z_21]
    first | refine g_astore2 dX1_sizeOf_24 (show ¬ 2 = 255 + 1 by decide) ?_ | refine g_astoreQ2 dX1_sizeOf_24 (show ¬ 2 = 255 + 1 by decide) ?_ | refine g_astoreN2 dX1_sizeOf_24 (show ¬ 2 = 255 + 1 by decide) ?_
    refine g_iconst (nI 0) dX1_sizeOf_25 (by decide) ?_
    refine g_istore3 dX1_sizeOf_26 (show ¬ 3 = 255 + 1 by decide) ?_
    exact K _ 7 L B  L.length 0 _ h _ _ ⟨b1, b2, b3⟩ rfl (Nat.zero_le _) Fr.rf (by show _ + sizs B = _; first | exact Nat.zero_add _ | rfl) (by show 0 + sizs B ≤ w; rw [hw]; first | (rw [Nat.zero_add]; exact Nat.le_refl _) | (rw [Nat.zero_add]; exact Nat.le_add_left _ _)) (by show 0 + 3 * sizs B ≤ 3 * w; rw [hw]; first | (rw [Nat.zero_add]; exact Nat.le_refl _) | (rw [Nat.zero_add]; exact Nat.mul_le_mul_left 3 (Nat.le_add_left _ _)))
theorem ctX1_sizeOf {E : GE} (N : Nat) : ∀ (h : AH) (a : Nat) (A : Att), Rep E h N a A → Ct E cX1_sizeOf (mX1_sizeOf N (aS A)) [.ref a] h (pN fun r h' => r = aS A ∧ Fr F0r h h') noX := by
  induction N with
  | zero => exact fun h a A hr => hr.elim
  | succ N ih => exact fun h a A hr => ctX1_sizeOf_st hr rfl ih
abbrev mX1_depthOf (N w : Nat) : GM := (yX1_depthOf, 4, (some .int), [], { frames := N + 12, cells := w, slots := 3 * w, locals := 40 * N + 300 }, 255)
theorem kX1_depthOf (N w : Nat) : gCs cX1_depthOf (mX1_depthOf N w) 1 := ⟨q1936, q67, q1937, (show gDs yX1_depthOf 1 from ⟨by decide +kernel, by decide +kernel, by decide +kernel⟩), rfl⟩
set_option maxHeartbeats 400000 in
theorem ctX1_depthOf_st {E : GE} {h : AH} {N a w : Nat} {A : Att} (hr : Rep E h (N + 1) a A) (hw : w = aS A) (hD : aD A < 2147483648) (IH : ∀ (h : AH) (a : Nat) (A : Att), Rep E h N a A → aD A < 2147483648 → Ct E cX1_depthOf (mX1_depthOf N (aS A)) [.ref a] h (pN fun r h' => r = aD A ∧ Fr F0r h h') noX) : Ct E cX1_depthOf (mX1_depthOf (N + 1) w) [.ref a] (h) (pN fun r h' => r = aD A ∧ Fr F0r h h') (noX) := by
  refine g_enter (own := "SecretVault") [some (.ref a), none, none, none] (show plainName yX1_depthOf.cls = true by decide +kernel) rfl rfl (Nat.le_of_ble_eq_true rfl) rfl rfl (fun X => ?_)
  have K : ∀ (l t : Nat) (L : List Nat) (B : List Att), (∀ c h1 k nn, c = deps B → Fr F0r h h1 → k ≤ w → nn ≤ 3 * w → V E cX1_depthOf "SecretVault" (mX1_depthOf (N + 1) w) (pN fun r h' => r = aD A ∧ Fr F0r h h') noX X (h1) k nn 43 [some (.ref a), some (.int (nI c)), some (.ref l), some (.int (nI L.length))] []) → ∀ n i c h1 k nn, RT E t h1 N l L B → n + i = L.length → i ≤ 32 → Fr F0r h h1 → (max c (deps (B.drop i)) = deps B ∧ c < 2147483648 ∧ deps B < 2147483648) → k + sizs (B.drop i) ≤ w → nn + 3 * sizs (B.drop i) ≤ 3 * w → V E cX1_depthOf "SecretVault" (mX1_depthOf (N + 1) w) (pN fun r h' => r = aD A ∧ Fr F0r h h') noX X (h1) k nn 9 [some (.ref a), some (.int (nI c)), some (.ref l), some (.int (nI i))] [] := by
    intro l t L B KE n
    induction n with
    | zero =>
      intro i c h1 k nn hL hn hi hF hc hk hnn
      have hlen := hL.len
      obtain ⟨hc1, hc2, hc3⟩ := hc
      have hni : ¬ i < L.length := by omega
      refine g_iload3 dX1_depthOf_9 ?_
      first | refine g_aload2 dX1_depthOf_10 ?_ | refine g_aloadQ2 dX1_depthOf_10 ?_ | refine g_aloadN2 dX1_depthOf_10 ?_
      refine g_callF (ctJ21_size _ hL.2.1) uJ21_size q1017 q1020 ⟨q1019, q1018, q1023, q1021, q994⟩ ⟨⟨by decide, by decide⟩, rfl⟩ (LI.at hL.2.1).choose_spec rfl ⟨by show 0 + 1 ≤ (N + 1) + 12; omega, by show 8 + (1 + 11) + (0) ≤ 40 * (N + 1) + 300; omega⟩ ⟨by show _ + 0 ≤ w; omega, by show _ + 0 ≤ 3 * w; omega⟩ rfl (Nat.le_of_ble_eq_true rfl) dX1_depthOf_11 k_x (k_n (fun r_11 h_11 p_11 => ?_))
      obtain ⟨rfl, z_11⟩ := p_11
      rw [z_11]
      refine V.wide (k' := k) (n' := nn) (Nat.le_refl _) (Nat.le_refl _) ?_
      first | refine g_icmpN_ge (tgt := 43) dX1_depthOf_16 (by decide) (by omega) (by omega) (fun c_16 => ?_) (fun c_16 => ?_) | refine g_icmp_ge (tgt := 43) dX1_depthOf_16 (by decide) (fun c_16 => ?_) (fun c_16 => ?_)
      · have hil : i = L.length := by omega
        subst hil
        exact KE c h1 _ _ (by rw [RT.out hL (by omega)] at hc1; rw [← hc1]; exact (Nat.max_zero c).symm) hF (by show _ ≤ w; omega) (by show _ ≤ 3 * w; omega)
      · exact absurd (by omega) hni
    | succ n ih =>
      intro i c h1 k nn hL hn hi hF hc hk hnn
      have hlen := hL.len
      obtain ⟨hc1, hc2, hc3⟩ := hc
      refine g_iload3 dX1_depthOf_9 ?_
      first | refine g_aload2 dX1_depthOf_10 ?_ | refine g_aloadQ2 dX1_depthOf_10 ?_ | refine g_aloadN2 dX1_depthOf_10 ?_
      refine g_callF (ctJ21_size _ hL.2.1) uJ21_size q1017 q1020 ⟨q1019, q1018, q1023, q1021, q994⟩ ⟨⟨by decide, by decide⟩, rfl⟩ (LI.at hL.2.1).choose_spec rfl ⟨by show 0 + 1 ≤ (N + 1) + 12; omega, by show 8 + (1 + 11) + (0) ≤ 40 * (N + 1) + 300; omega⟩ ⟨by show _ + 0 ≤ w; omega, by show _ + 0 ≤ 3 * w; omega⟩ rfl (Nat.le_of_ble_eq_true rfl) dX1_depthOf_11 k_x (k_n (fun r_11 h_11 p_11 => ?_))
      obtain ⟨rfl, z_11⟩ := p_11
      rw [z_11]
      refine V.wide (k' := k) (n' := nn) (Nat.le_refl _) (Nat.le_refl _) ?_
      first | refine g_icmpN_ge (tgt := 43) dX1_depthOf_16 (by decide) (by omega) (by omega) (fun c_16 => ?_) (fun c_16 => ?_) | refine g_icmp_ge (tgt := 43) dX1_depthOf_16 (by decide) (fun c_16 => ?_) (fun c_16 => ?_)
      · have hil : i = L.length := by omega
        subst hil
        exact KE c h1 _ _ (by rw [RT.out hL (by omega)] at hc1; rw [← hc1]; exact (Nat.max_zero c).symm) hF (by show _ ≤ w; omega) (by show _ ≤ 3 * w; omega)
      · refine g_iload1 dX1_depthOf_19 ?_
        first | refine g_aload2 dX1_depthOf_20 ?_ | refine g_aloadQ2 dX1_depthOf_20 ?_ | refine g_aloadN2 dX1_depthOf_20 ?_
        refine g_iload3 dX1_depthOf_21 ?_
        refine g_callF (ctJ21_get _ _ hL.2.1 (Nat.lt_of_not_le c_16)) uJ21_get q1213 q1216 ⟨q1215, q1214, q1219, q1217, q994⟩ ⟨⟨by decide, by decide⟩, rfl⟩ (LI.at hL.2.1).choose_spec rfl ⟨by show 2 + 1 ≤ (N + 1) + 12; omega, by show 8 + (2 + 11) + (43) ≤ 40 * (N + 1) + 300; omega⟩ ⟨by show _ + 0 ≤ w; omega, by show _ + 0 ≤ 3 * w; omega⟩ rfl (Nat.le_of_ble_eq_true rfl) dX1_depthOf_22 k_x (k_r (fun r_22 h_22 p_22 => ?_))
        obtain ⟨e_22, z_22⟩ := p_22
        rw [z_22]
        refine V.wide (k' := k) (n' := nn) (Nat.le_refl _) (Nat.le_refl _) ?_
        obtain ⟨y, b, e1, e2, hre, hdr⟩ := RT.el hL (Nat.lt_of_not_le c_16)
        obtain rfl : y = r_22 := Option.some.inj (e1.symm.trans e_22)
        have hsz : sizs (B.drop i) = aS b + sizs (B.drop (i + 1)) := by rw [hdr]; rfl
        have hdp : deps (B.drop i) = max (aD b) (deps (B.drop (i + 1))) := by rw [hdr]; rfl
        have hdl := deps_drop (B := B) i
        obtain ⟨C9, k1, k2, -⟩ := Rep.rv hre
        refine g_ck q1231 k1 k2 dX1_depthOf_27 ?_
        refine g_callS (IH _ _ _ hre (by omega)) (kX1_depthOf _ _) q1935 ⟨by show N + 12 + 1 ≤ (N + 1) + 12; omega, by show 8 + (4 + 11) + (40 * N + 300) ≤ 40 * (N + 1) + 300; omega⟩ ⟨by show _ + aS b ≤ w; omega, by show _ + 3 * (aS b) ≤ 3 * w; omega⟩ rfl (Nat.le_of_ble_eq_true rfl) dX1_depthOf_30 k_x (k_n (fun r_30 h_30 p_30 => ?_))
        obtain ⟨rfl, g_30⟩ := p_30
        refine V.wide (k' := k + aS b) (n' := nn + 3 * aS b) (Nat.le_refl _) (Nat.le_refl _) ?_
        refine g_callS (ctJ13_max _ _ (by omega) (by omega)) kJ13_max q1938 ⟨by show 0 + 1 ≤ (N + 1) + 12; omega, by show 8 + (2 + 11) + (0) ≤ 40 * (N + 1) + 300; omega⟩ ⟨by show _ + 0 ≤ w; omega, by show _ + 0 ≤ 3 * w; omega⟩ rfl (Nat.le_of_ble_eq_true rfl) dX1_depthOf_33 k_x (k_n (fun r_33 h_33 p_33 => ?_))
        obtain ⟨rfl, z_33⟩ := p_33
        rw [z_33]
        refine V.wide (k' := k + aS b) (n' := nn + 3 * aS b) (Nat.le_refl _) (Nat.le_refl _) ?_
        refine g_istore1 dX1_depthOf_36 (show ¬ 1 = 255 + 1 by decide) ?_
        first | refine g_iincN3 1 dX1_depthOf_37 (by decide) (show ¬ 3 = 255 + 1 by decide) ?_ | refine g_iinc3 _ dX1_depthOf_37 rfl (show ¬ 3 = 255 + 1 by decide) ?_
        refine g_goto (tgt := 9) dX1_depthOf_40 (by decide) ?_
        exact ih (i + 1) _ _ _ _ (hL.fr0 g_30) (by omega) (by omega) (hF.tr g_30) ⟨by omega, by omega, hc3⟩ (by omega) (by omega)
  rcases hr with ⟨m, m1, rfl, ha⟩ | ⟨l, L, B, b1, b2, b3, ⟨-, rfl, ha⟩ | ⟨-, rfl, ha⟩ | ⟨c, c1, rfl, ha⟩⟩
  · skip
    have KE : ∀ l (c2 : Nat) h1 k nn, c2 = deps ([] : List Att) → Fr F0r h h1 → k ≤ w → nn ≤ 3 * w → V E cX1_depthOf "SecretVault" (mX1_depthOf (N + 1) w) (pN fun r h' => r = aD (attOne m) ∧ Fr F0r h h') noX X (h1) k nn 43 [some (.ref a), some (.int (nI c2)), some (.ref l), some (.int (nI ([] : List Nat).length))] [] := by
      intro l c2 h1 k nn hc hF hk hnn
      have ha0 := ha
      have ha := hF _ _ _ ha0 id
      first | refine g_aload0 dX1_depthOf_43 ?_ | refine g_aloadQ0 dX1_depthOf_43 ?_ | refine g_aloadN0 dX1_depthOf_43 ?_
      refine g_instNo q1912 (gRv.g ha rfl rfl) nc_SecretVault_One_SecretVault_Some dX1_depthOf_44 ?_
      refine g_ifN_eq (tgt := 56) dX1_depthOf_47 (by decide) (by decide) (fun _ => ?_) (fun c => False.elim (by revert c; decide))
      refine g_iload1 dX1_depthOf_56 ?_
      exact g_iret (hk := hk) (hn := hnn) dX1_depthOf_57 rfl ⟨_, rfl, by rw [hc]; rfl, hF⟩
    refine g_iconst (nI 0) dX1_depthOf_0 (by decide) ?_
    refine g_istore1 dX1_depthOf_1 (show ¬ 1 = 255 + 1 by decide) ?_
    first | refine g_aload0 dX1_depthOf_2 ?_ | refine g_aloadQ0 dX1_depthOf_2 ?_ | refine g_aloadN0 dX1_depthOf_2 ?_
    refine g_callS (ctX1_partsOf_One (N := 0) 1000 ha) (kX1_partsOf _ _) q1917 ⟨by show 9 + 1 ≤ (N + 1) + 12; omega, by show 8 + (2 + 11) + (200) ≤ 40 * (N + 1) + 300; omega⟩ ⟨by show _ + 1 ≤ w; rw [hw]; exact Nat.le_refl _, by show _ + 3 * 1 ≤ 3 * w; rw [hw]; exact Nat.le_refl _⟩ rfl (Nat.le_of_ble_eq_true rfl) dX1_depthOf_3 k_x (k_r (fun r_3 h_3 p_3 => ?_))
    obtain ⟨e_3, rfl⟩ := p_3
    have f_3 : Fr F0r h (g_up h r_3 (1000, gO 9 [.int 0, .ref (eE E), .int 0])) := Fr.new e_3
    first | refine g_astore2 dX1_depthOf_6 (show ¬ 2 = 255 + 1 by decide) ?_ | refine g_astoreQ2 dX1_depthOf_6 (show ¬ 2 = 255 + 1 by decide) ?_ | refine g_astoreN2 dX1_depthOf_6 (show ¬ 2 = 255 + 1 by decide) ?_
    refine g_iconst (nI 0) dX1_depthOf_7 (by decide) ?_
    refine g_istore3 dX1_depthOf_8 (show ¬ 3 = 255 + 1 by decide) ?_
    exact K r_3 1000 [] [] (KE _) 0 0 _ _ _ _ ⟨rfl, LI.nil, fun i y b z => by simp at z⟩ rfl (by decide) f_3 ⟨rfl, by decide, by decide⟩ (by show _ ≤ w; rw [hw]; exact Nat.le_refl _) (by show _ ≤ 3 * w; rw [hw]; exact Nat.le_refl _)
  · have hdd : deps B < 2147483648 := by first | exact hD | (have hD1 : deps B + 1 < 2147483648 := hD; omega)
    have KE : ∀ l (c2 : Nat) h1 k nn, c2 = deps (B : List Att) → Fr F0r h h1 → k ≤ w → nn ≤ 3 * w → V E cX1_depthOf "SecretVault" (mX1_depthOf (N + 1) w) (pN fun r h' => r = aD (attAny B) ∧ Fr F0r h h') noX X (h1) k nn 43 [some (.ref a), some (.int (nI c2)), some (.ref l), some (.int (nI (L : List Nat).length))] [] := by
      intro l c2 h1 k nn hc hF hk hnn
      have ha0 := ha
      have ha := hF _ _ _ ha0 id
      first | refine g_aload0 dX1_depthOf_43 ?_ | refine g_aloadQ0 dX1_depthOf_43 ?_ | refine g_aloadN0 dX1_depthOf_43 ?_
      refine g_instNo q1912 (gRv.g ha rfl rfl) nc_SecretVault_Any_SecretVault_Some dX1_depthOf_44 ?_
      refine g_ifN_eq (tgt := 56) dX1_depthOf_47 (by decide) (by decide) (fun _ => ?_) (fun c => False.elim (by revert c; decide))
      refine g_iload1 dX1_depthOf_56 ?_
      exact g_iret (hk := hk) (hn := hnn) dX1_depthOf_57 rfl ⟨_, rfl, by rw [hc]; rfl, hF⟩
    refine g_iconst (nI 0) dX1_depthOf_0 (by decide) ?_
    refine g_istore1 dX1_depthOf_1 (show ¬ 1 = 255 + 1 by decide) ?_
    first | refine g_aload0 dX1_depthOf_2 ?_ | refine g_aloadQ0 dX1_depthOf_2 ?_ | refine g_aloadN0 dX1_depthOf_2 ?_
    refine g_callS (ctX1_partsOf_Any (N := 0) ha) (kX1_partsOf _ _) q1917 ⟨by show 9 + 1 ≤ (N + 1) + 12; omega, by show 8 + (2 + 11) + (200) ≤ 40 * (N + 1) + 300; omega⟩ ⟨Nat.zero_le _, Nat.zero_le _⟩ rfl (Nat.le_of_ble_eq_true rfl) dX1_depthOf_3 k_x (k_r (fun r_3 h_3 p_3 => ?_))
    obtain ⟨rfl, z_3⟩ := p_3
    rw [z_3]
    first | refine g_astore2 dX1_depthOf_6 (show ¬ 2 = 255 + 1 by decide) ?_ | refine g_astoreQ2 dX1_depthOf_6 (show ¬ 2 = 255 + 1 by decide) ?_ | refine g_astoreN2 dX1_depthOf_6 (show ¬ 2 = 255 + 1 by decide) ?_
    refine g_iconst (nI 0) dX1_depthOf_7 (by decide) ?_
    refine g_istore3 dX1_depthOf_8 (show ¬ 3 = 255 + 1 by decide) ?_
    exact K _ 7 L B (KE _) L.length 0 _ h _ _ ⟨b1, b2, b3⟩ rfl (Nat.zero_le _) Fr.rf ⟨Nat.zero_max _, by decide, hdd⟩ (by show 0 + sizs B ≤ w; rw [hw]; first | (rw [Nat.zero_add]; exact Nat.le_refl _) | (rw [Nat.zero_add]; exact Nat.le_add_left _ _)) (by show 0 + 3 * sizs B ≤ 3 * w; rw [hw]; first | (rw [Nat.zero_add]; exact Nat.le_refl _) | (rw [Nat.zero_add]; exact Nat.mul_le_mul_left 3 (Nat.le_add_left _ _)))
  · have hdd : deps B < 2147483648 := by first | exact hD | (have hD1 : deps B + 1 < 2147483648 := hD; omega)
    have KE : ∀ l (c2 : Nat) h1 k nn, c2 = deps (B : List Att) → Fr F0r h h1 → k ≤ w → nn ≤ 3 * w → V E cX1_depthOf "SecretVault" (mX1_depthOf (N + 1) w) (pN fun r h' => r = aD (attAll B) ∧ Fr F0r h h') noX X (h1) k nn 43 [some (.ref a), some (.int (nI c2)), some (.ref l), some (.int (nI (L : List Nat).length))] [] := by
      intro l c2 h1 k nn hc hF hk hnn
      have ha0 := ha
      have ha := hF _ _ _ ha0 id
      first | refine g_aload0 dX1_depthOf_43 ?_ | refine g_aloadQ0 dX1_depthOf_43 ?_ | refine g_aloadN0 dX1_depthOf_43 ?_
      refine g_instNo q1912 (gRv.g ha rfl rfl) nc_SecretVault_All_SecretVault_Some dX1_depthOf_44 ?_
      refine g_ifN_eq (tgt := 56) dX1_depthOf_47 (by decide) (by decide) (fun _ => ?_) (fun c => False.elim (by revert c; decide))
      refine g_iload1 dX1_depthOf_56 ?_
      exact g_iret (hk := hk) (hn := hnn) dX1_depthOf_57 rfl ⟨_, rfl, by rw [hc]; rfl, hF⟩
    refine g_iconst (nI 0) dX1_depthOf_0 (by decide) ?_
    refine g_istore1 dX1_depthOf_1 (show ¬ 1 = 255 + 1 by decide) ?_
    first | refine g_aload0 dX1_depthOf_2 ?_ | refine g_aloadQ0 dX1_depthOf_2 ?_ | refine g_aloadN0 dX1_depthOf_2 ?_
    refine g_callS (ctX1_partsOf_All (N := 0) ha) (kX1_partsOf _ _) q1917 ⟨by show 9 + 1 ≤ (N + 1) + 12; omega, by show 8 + (2 + 11) + (200) ≤ 40 * (N + 1) + 300; omega⟩ ⟨Nat.zero_le _, Nat.zero_le _⟩ rfl (Nat.le_of_ble_eq_true rfl) dX1_depthOf_3 k_x (k_r (fun r_3 h_3 p_3 => ?_))
    obtain ⟨rfl, z_3⟩ := p_3
    rw [z_3]
    first | refine g_astore2 dX1_depthOf_6 (show ¬ 2 = 255 + 1 by decide) ?_ | refine g_astoreQ2 dX1_depthOf_6 (show ¬ 2 = 255 + 1 by decide) ?_ | refine g_astoreN2 dX1_depthOf_6 (show ¬ 2 = 255 + 1 by decide) ?_
    refine g_iconst (nI 0) dX1_depthOf_7 (by decide) ?_
    refine g_istore3 dX1_depthOf_8 (show ¬ 3 = 255 + 1 by decide) ?_
    exact K _ 7 L B (KE _) L.length 0 _ h _ _ ⟨b1, b2, b3⟩ rfl (Nat.zero_le _) Fr.rf ⟨Nat.zero_max _, by decide, hdd⟩ (by show 0 + sizs B ≤ w; rw [hw]; first | (rw [Nat.zero_add]; exact Nat.le_refl _) | (rw [Nat.zero_add]; exact Nat.le_add_left _ _)) (by show 0 + 3 * sizs B ≤ 3 * w; rw [hw]; first | (rw [Nat.zero_add]; exact Nat.le_refl _) | (rw [Nat.zero_add]; exact Nat.mul_le_mul_left 3 (Nat.le_add_left _ _)))
  · have hdd : deps B < 2147483648 := by first | exact hD | (have hD1 : deps B + 1 < 2147483648 := hD; omega)
    have KE : ∀ l (c2 : Nat) h1 k nn, c2 = deps (B : List Att) → Fr F0r h h1 → k ≤ w → nn ≤ 3 * w → V E cX1_depthOf "SecretVault" (mX1_depthOf (N + 1) w) (pN fun r h' => r = aD (attSome c B) ∧ Fr F0r h h') noX X (h1) k nn 43 [some (.ref a), some (.int (nI c2)), some (.ref l), some (.int (nI (L : List Nat).length))] [] := by
      intro l c2 h1 k nn hc hF hk hnn
      have ha0 := ha
      have ha := hF _ _ _ ha0 id
      first | refine g_aload0 dX1_depthOf_43 ?_ | refine g_aloadQ0 dX1_depthOf_43 ?_ | refine g_aloadN0 dX1_depthOf_43 ?_
      refine g_instS q1912 ha rfl dX1_depthOf_44 ?_
      refine g_ifN_eq (tgt := 56) dX1_depthOf_47 (by decide) (by decide) (fun c => False.elim (by revert c; decide)) (fun _ => ?_)
      refine g_iload1 dX1_depthOf_50 ?_
      refine g_iconst (nI 1) dX1_depthOf_51 (by decide) ?_
      first | refine g_iaddN dX1_depthOf_52 ?_ | refine g_iadd dX1_depthOf_52 ?_
      refine g_goto (tgt := 57) dX1_depthOf_53 (by decide) ?_
      exact g_iret (hk := hk) (hn := hnn) dX1_depthOf_57 rfl ⟨_, rfl, by rw [hc]; rfl, hF⟩
    refine g_iconst (nI 0) dX1_depthOf_0 (by decide) ?_
    refine g_istore1 dX1_depthOf_1 (show ¬ 1 = 255 + 1 by decide) ?_
    first | refine g_aload0 dX1_depthOf_2 ?_ | refine g_aloadQ0 dX1_depthOf_2 ?_ | refine g_aloadN0 dX1_depthOf_2 ?_
    refine g_callS (ctX1_partsOf_Some (N := 0) ha) (kX1_partsOf _ _) q1917 ⟨by show 9 + 1 ≤ (N + 1) + 12; omega, by show 8 + (2 + 11) + (200) ≤ 40 * (N + 1) + 300; omega⟩ ⟨Nat.zero_le _, Nat.zero_le _⟩ rfl (Nat.le_of_ble_eq_true rfl) dX1_depthOf_3 k_x (k_r (fun r_3 h_3 p_3 => ?_))
    obtain ⟨rfl, z_3⟩ := p_3
    rw [z_3]
    first | refine g_astore2 dX1_depthOf_6 (show ¬ 2 = 255 + 1 by decide) ?_ | refine g_astoreQ2 dX1_depthOf_6 (show ¬ 2 = 255 + 1 by decide) ?_ | refine g_astoreN2 dX1_depthOf_6 (show ¬ 2 = 255 + 1 by decide) ?_
    refine g_iconst (nI 0) dX1_depthOf_7 (by decide) ?_
    refine g_istore3 dX1_depthOf_8 (show ¬ 3 = 255 + 1 by decide) ?_
    exact K _ 7 L B (KE _) L.length 0 _ h _ _ ⟨b1, b2, b3⟩ rfl (Nat.zero_le _) Fr.rf ⟨Nat.zero_max _, by decide, hdd⟩ (by show 0 + sizs B ≤ w; rw [hw]; first | (rw [Nat.zero_add]; exact Nat.le_refl _) | (rw [Nat.zero_add]; exact Nat.le_add_left _ _)) (by show 0 + 3 * sizs B ≤ 3 * w; rw [hw]; first | (rw [Nat.zero_add]; exact Nat.le_refl _) | (rw [Nat.zero_add]; exact Nat.mul_le_mul_left 3 (Nat.le_add_left _ _)))
theorem ctX1_depthOf {E : GE} (N : Nat) : ∀ (h : AH) (a : Nat) (A : Att), Rep E h N a A → aD A < 2147483648 → Ct E cX1_depthOf (mX1_depthOf N (aS A)) [.ref a] h (pN fun r h' => r = aD A ∧ Fr F0r h h') noX := by
  induction N with
  | zero => exact fun h a A hr => hr.elim
  | succ N ih => exact fun h a A hr hD => ctX1_depthOf_st hr rfl hD ih
