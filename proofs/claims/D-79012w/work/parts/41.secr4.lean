/-! SECRETS: shares of members, interpolation -/
set_option maxRecDepth 100000
/-- a list at l (tags t, t + 1) of the slot's shares at the places nd -/
def PT (E : GE) (S : Nat) (g : Nat → Nat) (s t : Nat) (h : AH) (l : Nat) (nd : List Nat) : Prop := ∃ A : List Nat, A.length = nd.length ∧ LI E t h l A ∧ ∀ (i y x : Nat), A[i]? = some y → nd[i]? = some x → (1 ≤ x ∧ x ≤ 24) ∧ gSh g s x 0 = 1 ∧ h y = some (S + 3 + x, shC g s x)
theorem PT.fr {E : GE} {S : Nat} {g : Nat → Nat} {s t : Nat} {h h' : AH} {l : Nat} {nd : List Nat} {P : Nat → Prop} (hp : PT E S g s t h l nd) (hf : Fr P h h') (h1 : ¬ P t) (h2 : ¬ P (t + 1)) (h3 : ∀ x, x ≤ 24 → ¬ P (S + 3 + x)) : PT E S g s t h' l nd := by
  obtain ⟨A, a1, a2, a3⟩ := hp
  refine ⟨A, a1, a2.fr hf h1 h2, fun i y x z1 z2 => ?_⟩
  obtain ⟨b1, b2, b3⟩ := a3 i y x z1 z2
  exact ⟨b1, b2, hf _ _ _ b3 (h3 x b1.2)⟩
theorem PT.el {E : GE} {S : Nat} {g : Nat → Nat} {s t : Nat} {h : AH} {l i : Nat} {nd A : List Nat} (a1 : A.length = nd.length) (a3 : ∀ (i y x : Nat), A[i]? = some y → nd[i]? = some x → (1 ≤ x ∧ x ≤ 24) ∧ gSh g s x 0 = 1 ∧ h y = some (S + 3 + x, shC g s x)) {y : Nat} (hy : y ∈ A) : gOb E h y := by
  obtain ⟨i, hi⟩ := List.getElem?_of_mem hy
  have hlt : i < nd.length := by rw [← a1]; exact (List.getElem?_eq_some_iff.mp hi).1
  obtain ⟨-, -, b3⟩ := a3 i y nd[i] hi (List.getElem?_eq_getElem hlt)
  exact gOb.of b3 rfl rfl q2563
theorem PT.add {E : GE} {S : Nat} {g : Nat → Nat} {s t : Nat} {h h' : AH} {l e x : Nat} {nd A : List Nat} (a1 : A.length = nd.length) (a3 : ∀ (i y x : Nat), A[i]? = some y → nd[i]? = some x → (1 ≤ x ∧ x ≤ 24) ∧ gSh g s x 0 = 1 ∧ h y = some (S + 3 + x, shC g s x)) (hl : LI E t h' l (A ++ [e])) (hf : Fr (fun u => u = t ∨ u = t + 1) h h') (hx : 1 ≤ x ∧ x ≤ 24) (hg : gSh g s x 0 = 1) (he : h e = some (S + 3 + x, shC g s x)) (hS : S + 28 ≤ t) : PT E S g s t h' l (nd ++ [x]) := by
  refine ⟨A ++ [e], by rw [List.length_append, List.length_append, a1]; rfl, hl, fun i y z z1 z2 => ?_⟩
  have key : (1 ≤ z ∧ z ≤ 24) ∧ gSh g s z 0 = 1 ∧ h y = some (S + 3 + z, shC g s z) := by
    by_cases hi : i < A.length
    · rw [List.getElem?_append_left hi] at z1
      rw [List.getElem?_append_left (by omega)] at z2
      exact a3 i y z z1 z2
    · rw [List.getElem?_append_right (by omega)] at z1
      rw [List.getElem?_append_right (by omega)] at z2
      have h0 : i - A.length = 0 := by
        have := (List.getElem?_eq_some_iff.mp z1).1
        simp only [List.length_singleton] at this
        omega
      rw [h0] at z1
      rw [← a1, h0] at z2
      cases z1
      cases z2
      exact ⟨hx, hg, he⟩
  refine ⟨key.1, key.2.1, hf _ _ _ key.2.2 (fun q => ?_)⟩
  rcases q with q | q <;> omega
abbrev mX5_sharesOf : GM := (yX5_sharesOf, 4, (some (.object "java/util/List")), [], { frames := 7, cells := 25, slots := 1539, locals := 191 }, 255)
theorem kX5_sharesOf : gCv cX5_sharesOf mX5_sharesOf 1 := ⟨q961, q962, q96, q963, ⟨by decide +kernel, by decide +kernel, by decide +kernel⟩, rfl⟩
theorem uX5_sharesOf : gCu cX5_sharesOf mX5_sharesOf 1 := ⟨q961, q96, q963, ⟨by decide +kernel, by decide +kernel, by decide +kernel⟩, rfl⟩
set_option maxHeartbeats 400000 in
theorem ctX5_sharesOf {E : GE} {h : AH} {S s a : Nat} {g : Nat → Nat} (T mem : Nat) (hs : seO E S g s a h) (hw : slW g s) (h1 : gOf g s 0 = 1) (hm : mem < 2147483648) (hT : S + 28 ≤ T) (hT8 : 8 < T) : Ct E cX5_sharesOf mX5_sharesOf [.ref a, .int (nI mem)] (h) (pR fun r h' => PT E S g s T h' r (tlL g s mem 0 24) ∧ Fr (fun u => u = T ∨ u = T + 1) h h') (noX) := by
  refine g_enter (own := "SecretVault$Secret") [some (.ref a), some (.int (nI mem)), none, none] (by decide +kernel) rfl rfl (Nat.le_of_ble_eq_true rfl) rfl rfl (fun X => ?_)
  have hs0 := hs
  obtain ⟨c, b0, p, fc, fs, ha, hc, hfc, hb0, hsh, hp⟩ := hs0
  have K : ∀ n y (hq : AH) l k nn, n + y = 24 → PT E S g s T hq l (tlL g s mem 0 y) → Fr (fun u => u = T ∨ u = T + 1) h hq → k ≤ 1 + y → nn ≤ 3 + 64 * y → V E cX5_sharesOf "SecretVault$Secret" mX5_sharesOf (pR fun r h' => PT E S g s T h' r (tlL g s mem 0 24) ∧ Fr (fun u => u = T ∨ u = T + 1) h h') noX X (hq) k nn 10 [some (.ref a), some (.int (nI mem)), some (.ref l), some (.int (nI (y + 1)))] [] := by
    intro n
    induction n with
    | zero =>
      intro y hq l k nn hn0 hP hF hk hnn
      obtain rfl : y = 24 := by omega
      refine g_iload3 dX5_sharesOf_10 ?_
      refine g_bipush (nI 24) dX5_sharesOf_11 (by decide) ?_
      first | refine g_icmpN_gt (tgt := 56) dX5_sharesOf_13 (by decide) (by omega) (by omega) (fun c_13 => ?_) (fun c_13 => ?_) | refine g_icmp_gt (tgt := 56) dX5_sharesOf_13 (by decide) (fun c_13 => ?_) (fun c_13 => ?_)
      · first | refine g_aload2 dX5_sharesOf_56 ?_ | refine g_aloadQ2 dX5_sharesOf_56 ?_ | refine g_aloadN2 dX5_sharesOf_56 ?_
        exact g_aret (hk := by show _ ≤ 25; omega) (hn := by show _ ≤ 1539; omega) dX5_sharesOf_57 rfl (Or.inl ⟨_, rfl⟩) ⟨_, rfl, hP, hF⟩
      · omega
    | succ n ih =>
      intro y hq l k nn hn0 hP hF hk hnn
      have hs1 := hs.fr hF (fun t ht q => by rcases q with q | q <;> omega) (fun q => by rcases q with q | q <;> omega) (fun q => by rcases q with q | q <;> omega)
      have qa := hF _ _ _ ha (fun q => by rcases q with q | q <;> omega)
      have qb := hF _ _ _ hb0 (fun q => by rcases q with q | q <;> omega)
      have hdv : mem / 2 ^ ((y + 1 - 1) / 3) ≤ mem := Nat.div_le_self _ _
      have htl := tlL_len g s mem 0 y
      refine g_iload3 dX5_sharesOf_10 ?_
      refine g_bipush (nI 24) dX5_sharesOf_11 (by decide) ?_
      first | refine g_icmpN_gt (tgt := 56) dX5_sharesOf_13 (by decide) (by omega) (by omega) (fun c_13 => ?_) (fun c_13 => ?_) | refine g_icmp_gt (tgt := 56) dX5_sharesOf_13 (by decide) (fun c_13 => ?_) (fun c_13 => ?_)
      · omega
      · first | refine g_aload0 dX5_sharesOf_16 ?_ | refine g_aloadQ0 dX5_sharesOf_16 ?_ | refine g_aloadN0 dX5_sharesOf_16 ?_
        refine g_get (k0 := 4) (by first | assumption | exact g_up_self _ _ _ | (refine g_upf ?_ ?_ <;> assumption) | (refine g_upt ?_ ?_ (by decide) <;> assumption)) in_X5 q669 rfl (by decide) rfl dX5_sharesOf_17 ?_
        refine g_iload3 dX5_sharesOf_20 ?_
        refine g_aald qb rfl (by omega) (by omega) dX5_sharesOf_21 ?_
        refine g_ifnull (tgt := 50) dX5_sharesOf_22 (by decide) (fun c_22 => ?_) (fun a_22 c_22 => ?_)
        · have hn := (hsh (y + 1) (by omega) (by omega)).n c_22
          have htE : tlL g s mem 0 (y + 1) = tlL g s mem 0 y := by show (if _ then _ else _) = _; rw [if_neg (fun z => hn z.2.1)]
          first | refine g_iincN3 1 dX5_sharesOf_50 (by decide) (by decide) ?_ | refine g_iinc3 _ dX5_sharesOf_50 rfl (by decide) ?_
          refine g_goto (tgt := 10) dX5_sharesOf_53 (by decide) ?_
          first | exact ih (y + 1) _ _ _ _ (by omega) (by rw [htE]; exact hP) hF (by omega) (by omega) | exact ih (y + 1) _ _ _ _ (by omega) (by rw [htE]; exact PT.add a1 a3 l_44 w_44 ⟨by omega, by omega⟩ hg1 qs hT) (hF.tr w_44) (Nat.le_refl _) (Nat.le_refl _)
        · obtain ⟨hg1, hga⟩ := (hsh (y + 1) (by omega) (by omega)).s c_22
          have qs := hF _ _ _ hga (fun q => by rcases q with q | q <;> omega)
          refine g_iload1 dX5_sharesOf_25 ?_
          refine g_iload3 dX5_sharesOf_26 ?_
          refine g_callSN (ctX1_ownerOf _ (by omega)) kX1_ownerOf q987 (by decide) ⟨by show k + 0 ≤ 25; omega, by show nn + 0 ≤ 1539; omega⟩ rfl (Nat.le_of_ble_eq_true rfl) dX5_sharesOf_27 k_x (k_n (fun r_27 h_27 p_27 => ?_))
          obtain ⟨rfl, z_27⟩ := p_27
          rw [z_27]
          refine V.wide (k' := k) (n' := nn) (Nat.le_refl _) (Nat.le_refl _) ?_
          refine g_ishrN dX5_sharesOf_30 (by omega) (by omega) ?_
          refine g_iconst (nI 1) dX5_sharesOf_31 (by decide) ?_
          refine g_iand1 dX5_sharesOf_32 (by omega) ?_
          refine g_iconst (nI 1) dX5_sharesOf_33 (by decide) ?_
          first | refine g_icmpN_ne (tgt := 50) dX5_sharesOf_34 (by decide) (by omega) (by omega) (fun c_34 => ?_) (fun c_34 => ?_) | refine g_icmpU_ne (tgt := 50) dX5_sharesOf_34 (by decide) (by omega) (by omega) (fun c_34 => ?_) (fun c_34 => ?_) | refine g_icmp_ne (tgt := 50) dX5_sharesOf_34 (by decide) (fun c_34 => ?_) (fun c_34 => ?_)
          · have htE : tlL g s mem 0 (y + 1) = tlL g s mem 0 y := by show (if _ then _ else _) = _; rw [if_neg (fun z => c_34 z.1)]
            first | refine g_iincN3 1 dX5_sharesOf_50 (by decide) (by decide) ?_ | refine g_iinc3 _ dX5_sharesOf_50 rfl (by decide) ?_
            refine g_goto (tgt := 10) dX5_sharesOf_53 (by decide) ?_
            first | exact ih (y + 1) _ _ _ _ (by omega) (by rw [htE]; exact hP) hF (by omega) (by omega) | exact ih (y + 1) _ _ _ _ (by omega) (by rw [htE]; exact PT.add a1 a3 l_44 w_44 ⟨by omega, by omega⟩ hg1 qs hT) (hF.tr w_44) (Nat.le_refl _) (Nat.le_refl _)
          · have htE : tlL g s mem 0 (y + 1) = tlL g s mem 0 y ++ [y + 1] := by show (if _ then _ else _) = _; rw [if_pos ⟨c_34, hg1, Or.inl rfl⟩]
            obtain ⟨A, a1, a2, a3⟩ := hP
            first | refine g_aload2 dX5_sharesOf_37 ?_ | refine g_aloadQ2 dX5_sharesOf_37 ?_ | refine g_aloadN2 dX5_sharesOf_37 ?_
            first | refine g_aload0 dX5_sharesOf_38 ?_ | refine g_aloadQ0 dX5_sharesOf_38 ?_ | refine g_aloadN0 dX5_sharesOf_38 ?_
            refine g_get (k0 := 4) (by first | assumption | exact g_up_self _ _ _ | (refine g_upf ?_ ?_ <;> assumption) | (refine g_upt ?_ ?_ (by decide) <;> assumption)) in_X5 q669 rfl (by decide) rfl dX5_sharesOf_39 ?_
            refine g_iload3 dX5_sharesOf_42 ?_
            refine g_aald qb rfl (by omega) (by omega) dX5_sharesOf_43 ?_
            rw [c_22]
            refine g_callF (ctJ21_add a2 (by omega) (fun y hy => PT.el (t := T) (l := l) (i := 0) a1 a3 hy) (gOb.of qs rfl rfl q2563)) uJ21_add q991 q995 ⟨q993, q992, q998, q996, q994⟩ ⟨⟨by decide, by decide⟩, rfl⟩ (LI.at a2).choose_spec rfl (by decide) ⟨by show k + 1 ≤ 25; omega, by show nn + 64 ≤ 1539; omega⟩ rfl (Nat.le_of_ble_eq_true rfl) dX5_sharesOf_44 k_x (k_n (fun r_44 h_44 p_44 => ?_))
            obtain ⟨rfl, l_44, w_44⟩ := p_44
            refine V.wide (k' := 1 + (y + 1)) (n' := 3 + 64 * (y + 1)) (by show k + 1 ≤ _; omega) (by show nn + 64 ≤ _; omega) ?_
            refine g_pop dX5_sharesOf_49 (by first | rfl | exact cat_rf _) ?_
            first | refine g_iincN3 1 dX5_sharesOf_50 (by decide) (by decide) ?_ | refine g_iinc3 _ dX5_sharesOf_50 rfl (by decide) ?_
            refine g_goto (tgt := 10) dX5_sharesOf_53 (by decide) ?_
            first | exact ih (y + 1) _ _ _ _ (by omega) (by rw [htE]; exact hP) hF (by omega) (by omega) | exact ih (y + 1) _ _ _ _ (by omega) (by rw [htE]; exact PT.add a1 a3 l_44 w_44 ⟨by omega, by omega⟩ hg1 qs hT) (hF.tr w_44) (Nat.le_refl _) (Nat.le_refl _)
  refine g_new 9 (T) [.int 0, .null, .int 0] in_J21 tyJ21_ok q964 q965 q92 rfl nwJ21 (Nat.le_of_ble_eq_true rfl) (Nat.le_of_ble_eq_true rfl) dX5_sharesOf_0 (fun q_0 f_0 => ?_)
  refine g_dup dX5_sharesOf_3 rfl ?_
  refine g_callI (ctJ21_init _ (g_up_self _ _ _)) kJ21_init q966 (by decide) ⟨Nat.le_of_ble_eq_true rfl, Nat.le_of_ble_eq_true rfl⟩ rfl (Nat.le_of_ble_eq_true rfl) dX5_sharesOf_4 k_x (k_v (fun h_4 p_4 => ?_))
  subst p_4
  rw [g_upup]
  first | refine g_astore2 dX5_sharesOf_7 (by decide) ?_ | refine g_astoreQ2 dX5_sharesOf_7 (by decide) ?_ | refine g_astoreN2 dX5_sharesOf_7 (by decide) ?_
  refine g_iconst (nI 1) dX5_sharesOf_8 (by decide) ?_
  refine g_istore3 dX5_sharesOf_9 (by decide) ?_
  exact K 24 0 _ _ _ _ (by omega) ⟨[], rfl, LI.nil, fun i y x z => by simp at z⟩ (Fr.new f_0) (by decide) (by decide)
/-- numerators, denominators as the component makes them -/
def iN (g : Nat → Nat) (s : Nat) (v : Nat → Nat) (x i : Nat) : Nat → Nat
  | 0 => gSh g s (v i) 1
  | j + 1 => if j = i then iN g s v x i j else iN g s v x i j * ((x + 1019 - v j) % 1019) % 1019
def iD (v : Nat → Nat) (i : Nat) : Nat → Nat
  | 0 => 1
  | j + 1 => if j = i then iD v i j else iD v i j * ((v i + 1019 - v j) % 1019) % 1019
theorem iN_lt {g : Nat → Nat} {s : Nat} {v : Nat → Nat} {x i : Nat} (h : gSh g s (v i) 1 < 1019) : ∀ j, iN g s v x i j < 1019
  | 0 => h
  | j + 1 => by
    unfold iN
    split
    · exact iN_lt h j
    · exact Nat.mod_lt _ (by decide)
theorem iD_lt {v : Nat → Nat} {i : Nat} : ∀ j, iD v i j < 1019
  | 0 => Nat.lt_of_sub_ne_zero (show 1019 - 1 ≠ 0 by decide)
  | j + 1 => by
    unfold iD
    split
    · exact iD_lt j
    · exact Nat.mod_lt _ (by decide)
theorem md_l (a b m : Nat) : a % m * b % m = a * b % m := by rw [Nat.mul_mod, Nat.mod_mod, ← Nat.mul_mod]
theorem md_r (a b m : Nat) : a * (b % m) % m = a * b % m := by rw [Nat.mul_comm, md_l, Nat.mul_comm]
theorem vaI_st (n d a b D m : Nat) : n * (d ^ D % m) % m * a % m * (b ^ D % m) % m = n * a % m * ((d * b % m) ^ D % m) % m := by
  have h1 : (d * b % m) ^ D % m = (d * b) ^ D % m := (Nat.pow_mod (d * b) D m).symm
  rw [h1, md_r, md_r, md_l, md_l, Nat.mul_pow]
  rw [md_r (n * a), Nat.mul_assoc (n * d ^ D % m) a, md_l, Nat.mul_mul_mul_comm]
theorem vaI_ND {g : Nat → Nat} {s : Nat} {v : Nat → Nat} {x i : Nat} (h : gSh g s (v i) 1 < 1019) : ∀ j, vaI g s v x i j = iN g s v x i j * (iD v i j ^ 1017 % 1019) % 1019
  | 0 => by
    show gSh g s (v i) 1 = gSh g s (v i) 1 * (1 ^ 1017 % 1019) % 1019
    rw [Nat.one_pow, show 1 % 1019 = 1 from rfl, Nat.mul_one, Nat.mod_eq_of_lt h]
  | j + 1 => by
    unfold vaI iN iD
    by_cases e : j = i
    · rw [if_pos e, if_pos e, if_pos e]
      exact vaI_ND h j
    · rw [if_neg e, if_neg e, if_neg e, vaI_ND h j]
      exact vaI_st _ _ _ _ _ _
theorem vaS_lt2 (g : Nat → Nat) (s : Nat) (v : Nat → Nat) (k x : Nat) : ∀ i, vaS g s v k x i < 1019
  | 0 => Nat.zero_lt_succ _
  | i + 1 => Nat.mod_lt _ (by decide)
theorem vaS_ND {g : Nat → Nat} {s : Nat} {v : Nat → Nat} {x i k : Nat} (h : gSh g s (v i) 1 < 1019) : (vaS g s v k x i + iN g s v x i k * (iD v i k ^ 1017 % 1019) % 1019) % 1019 = vaS g s v k x (i + 1) := by
  show _ = (vaS g s v k x i + vaI g s v x i k) % 1019
  rw [vaI_ND h]
theorem PT.at {E : GE} {S : Nat} {g : Nat → Nat} {s t : Nat} {h : AH} {l : Nat} {nd : List Nat} (hp : PT E S g s t h l nd) : ∃ fs, h l = some (t, gO 9 fs) := by
  obtain ⟨A, -, a2, -⟩ := hp
  exact a2.at
theorem PT.get {E : GE} {S : Nat} {g : Nat → Nat} {s t : Nat} {h : AH} {l : Nat} {nd : List Nat} (hp : PT E S g s t h l nd) : ∃ A, A.length = nd.length ∧ LI E t h l A ∧ ∀ (i y : Nat) (v : Nat → Nat), A[i]? = some y → nd[i]? = some (v i) → (1 ≤ v i ∧ v i ≤ 24) ∧ gSh g s (v i) 0 = 1 ∧ h y = some (S + 3 + v i, shC g s (v i)) := by
  obtain ⟨A, a1, a2, a3⟩ := hp
  exact ⟨A, a1, a2, fun i y v z1 z2 => a3 i y _ z1 z2⟩
abbrev mX5_interpolated : GM := (yX5_interpolated, 8, (some .int), [], { frames := 3, cells := 0, slots := 0, locals := 67 }, 255)
theorem kX5_interpolated : gCv cX5_interpolated mX5_interpolated 2 := ⟨q1441, q1442, q96, q1443, ⟨by decide +kernel, by decide +kernel, by decide +kernel⟩, rfl⟩
theorem uX5_interpolated : gCu cX5_interpolated mX5_interpolated 2 := ⟨q1441, q96, q1443, ⟨by decide +kernel, by decide +kernel, by decide +kernel⟩, rfl⟩
set_option maxHeartbeats 400000 in
theorem ctX5_interpolated {E : GE} {h : AH} {S s a t l : Nat} {g : Nat → Nat} {nd : List Nat} (v : Nat → Nat) (x : Nat) (hs : seO E S g s a h) (hw : slW g s) (h1 : gOf g s 0 = 1) (hP : PT E S g s t h l nd) (hv : ∀ i, i < nd.length → nd[i]? = some (v i)) (hk : gOf g s 1 ≤ nd.length) (hx : x ≤ 24) : Ct E cX5_interpolated mX5_interpolated [.ref a, .ref l, .int (nI x)] (h) (pN fun r h' => r = (vaS g s v (gOf g s 1) x (gOf g s 1)) ∧ h' = h) (noX) := by
  refine g_enter (own := "SecretVault$Secret") [some (.ref a), some (.ref l), some (.int (nI x)), none, none, none, none, none] (by decide +kernel) rfl rfl (Nat.le_of_ble_eq_true rfl) rfl rfl (fun X => ?_)
  have hs0 := hs
  obtain ⟨c, b0, p, fc, fs, ha, hc, hfc, hb0, hsh, hp⟩ := hs0
  obtain ⟨A, a1, a2, a3⟩ := hP.get
  obtain ⟨hk1, hk8⟩ := hw.k h1
  have hvb : ∀ i, i < gOf g s 1 → gSh g s (v i) 1 < 1019 := fun i hi => by
    have hi2 : i < A.length := by omega
    obtain ⟨n1, -, -⟩ := a3 i A[i] v (List.getElem?_eq_getElem hi2) (hv i (by omega))
    exact (hw.2.2.2.2.2.2 _ n1.1 n1.2).2.1
  have KI : ∀ i, i < gOf g s 1 → V E cX5_interpolated "SecretVault$Secret" mX5_interpolated (pN fun r h' => r = (vaS g s v (gOf g s 1) x (gOf g s 1)) ∧ h' = h) noX X (h) 0 0 127 [some (.ref a), some (.ref l), some (.int (nI x)), some (.int (nI (vaS g s v (gOf g s 1) x i))), some (.int (nI i)), some (.int (nI (iN g s v x i (gOf g s 1)))), some (.int (nI (iD v i (gOf g s 1)))), some (.int (nI (gOf g s 1)))] [] → ∀ n j, n + j = gOf g s 1 → V E cX5_interpolated "SecretVault$Secret" mX5_interpolated (pN fun r h' => r = (vaS g s v (gOf g s 1) x (gOf g s 1)) ∧ h' = h) noX X (h) 0 0 36 [some (.ref a), some (.ref l), some (.int (nI x)), some (.int (nI (vaS g s v (gOf g s 1) x i))), some (.int (nI i)), some (.int (nI (iN g s v x i j))), some (.int (nI (iD v i j))), some (.int (nI j))] [] := by
    intro i hi KE n
    have hvi := hvb i hi
    induction n with
    | zero =>
      intro j hn0
      obtain rfl : j = gOf g s 1 := by omega
      have hv1 := iN_lt (x := x) hvi (gOf g s 1)
      have hd1 := iD_lt (v := v) (i := i) (gOf g s 1)
      have hsm := vaS_lt2 g s v (gOf g s 1) x i
      refine g_iload7 dX5_interpolated_36 ?_
      first | refine g_aload0 dX5_interpolated_38 ?_ | refine g_aloadQ0 dX5_interpolated_38 ?_ | refine g_aloadN0 dX5_interpolated_38 ?_
      refine g_get (k0 := 0) (by first | assumption | exact g_up_self _ _ _ | (refine g_upf ?_ ?_ <;> assumption) | (refine g_upt ?_ ?_ (by decide) <;> assumption)) in_X5 q655 rfl (by decide) rfl dX5_interpolated_39 ?_
      first | refine g_icmpN_ge (tgt := 127) dX5_interpolated_42 (by decide) (by omega) (by omega) (fun c_42 => ?_) (fun c_42 => ?_) | refine g_icmp_ge (tgt := 127) dX5_interpolated_42 (by decide) (fun c_42 => ?_) (fun c_42 => ?_)
      · exact KE
      · omega
    | succ n ih =>
      intro j hn0
      have hv1 := iN_lt (x := x) hvi j
      have hd1 := iD_lt (v := v) (i := i) j
      have hsm := vaS_lt2 g s v (gOf g s 1) x i
      refine g_iload7 dX5_interpolated_36 ?_
      first | refine g_aload0 dX5_interpolated_38 ?_ | refine g_aloadQ0 dX5_interpolated_38 ?_ | refine g_aloadN0 dX5_interpolated_38 ?_
      refine g_get (k0 := 0) (by first | assumption | exact g_up_self _ _ _ | (refine g_upf ?_ ?_ <;> assumption) | (refine g_upt ?_ ?_ (by decide) <;> assumption)) in_X5 q655 rfl (by decide) rfl dX5_interpolated_39 ?_
      first | refine g_icmpN_ge (tgt := 127) dX5_interpolated_42 (by decide) (by omega) (by omega) (fun c_42 => ?_) (fun c_42 => ?_) | refine g_icmp_ge (tgt := 127) dX5_interpolated_42 (by decide) (fun c_42 => ?_) (fun c_42 => ?_)
      · omega
      · refine g_iload7 dX5_interpolated_45 ?_
        refine g_iload4 dX5_interpolated_47 ?_
        first | refine g_icmpN_eq (tgt := 121) dX5_interpolated_49 (by decide) (by omega) (by omega) (fun c_49 => ?_) (fun c_49 => ?_) | refine g_icmpU_eq (tgt := 121) dX5_interpolated_49 (by decide) (by omega) (by omega) (fun c_49 => ?_) (fun c_49 => ?_) | refine g_icmp_eq (tgt := 121) dX5_interpolated_49 (by decide) (fun c_49 => ?_) (fun c_49 => ?_)
        · have e1 : iN g s v x i (j + 1) = iN g s v x i j := by show (if _ then _ else _) = _; rw [if_pos c_49]
          have e2 : iD v i (j + 1) = iD v i j := by show (if _ then _ else _) = _; rw [if_pos c_49]
          first | refine g_iincN7 1 dX5_interpolated_121 (by decide) (by decide) ?_ | refine g_iinc7 _ dX5_interpolated_121 rfl (by decide) ?_
          refine g_goto (tgt := 36) dX5_interpolated_124 (by decide) ?_
          (have q := ih (j + 1) (by omega); rw [e1, e2] at q; exact q)
        · have e1 : iN g s v x i (j + 1) = iN g s v x i j * ((x + 1019 - v j) % 1019) % 1019 := by show (if _ then _ else _) = _; rw [if_neg c_49]
          have e2 : iD v i (j + 1) = iD v i j * ((v i + 1019 - v j) % 1019) % 1019 := by show (if _ then _ else _) = _; rw [if_neg c_49]
          have hm1 : (x + 1019 - v j) % 1019 < 1019 := Nat.mod_lt _ (by decide)
          have hm2 : (v i + 1019 - v j) % 1019 < 1019 := Nat.mod_lt _ (by decide)
          refine g_iload5 dX5_interpolated_52 ?_
          refine g_iload2 dX5_interpolated_54 ?_
          first | refine g_aload1 dX5_interpolated_55 ?_ | refine g_aloadQ1 dX5_interpolated_55 ?_ | refine g_aloadN1 dX5_interpolated_55 ?_
          refine g_iload7 dX5_interpolated_56 ?_
          refine g_callF (ctJ21_get _ _ a2 (by omega)) uJ21_get q1445 q1216 ⟨q1215, q1214, q1219, q1217, q994⟩ ⟨⟨by decide, by decide⟩, rfl⟩ (LI.at a2).choose_spec rfl (by decide) ⟨Nat.le_of_ble_eq_true rfl, Nat.le_of_ble_eq_true rfl⟩ rfl (Nat.le_of_ble_eq_true rfl) dX5_interpolated_58 k_x (k_r (fun r_58 h_58 p_58 => ?_))
          obtain ⟨e_58, z_58⟩ := p_58
          rw [z_58]
          obtain ⟨n_58, m_58, o_58⟩ := a3 _ _ v e_58 (hv j (by omega))
          refine g_ckS q652 o_58 rfl dX5_interpolated_63 ?_
          refine g_get (k0 := 0) (by first | assumption | exact g_up_self _ _ _ | (refine g_upf ?_ ?_ <;> assumption) | (refine g_upt ?_ ?_ (by decide) <;> assumption)) in_X6 q699 rfl (by decide) rfl dX5_interpolated_66 ?_
          refine g_callSN (ctX1_minus _ _ (by omega) (by omega)) kX1_minus q1446 (by decide) ⟨Nat.le_of_ble_eq_true rfl, Nat.le_of_ble_eq_true rfl⟩ rfl (Nat.le_of_ble_eq_true rfl) dX5_interpolated_69 k_x (k_n (fun r_69 h_69 p_69 => ?_))
          obtain ⟨rfl, rfl⟩ := p_69
          refine g_sipush (nI 1019) dX5_interpolated_72 (by decide) ?_
          refine g_callSN (ctX1_times _ _ _ (by omega) (by omega) (by omega)) kX1_times q1054 (by decide) ⟨Nat.le_of_ble_eq_true rfl, Nat.le_of_ble_eq_true rfl⟩ rfl (Nat.le_of_ble_eq_true rfl) dX5_interpolated_75 k_x (k_n (fun r_75 h_75 p_75 => ?_))
          obtain ⟨rfl, rfl⟩ := p_75
          refine g_istore5 dX5_interpolated_78 (by decide) ?_
          refine g_iload6 dX5_interpolated_80 ?_
          first | refine g_aload1 dX5_interpolated_82 ?_ | refine g_aloadQ1 dX5_interpolated_82 ?_ | refine g_aloadN1 dX5_interpolated_82 ?_
          refine g_iload4 dX5_interpolated_83 ?_
          refine g_callF (ctJ21_get _ _ a2 (by omega)) uJ21_get q1445 q1216 ⟨q1215, q1214, q1219, q1217, q994⟩ ⟨⟨by decide, by decide⟩, rfl⟩ (LI.at a2).choose_spec rfl (by decide) ⟨Nat.le_of_ble_eq_true rfl, Nat.le_of_ble_eq_true rfl⟩ rfl (Nat.le_of_ble_eq_true rfl) dX5_interpolated_85 k_x (k_r (fun r_85 h_85 p_85 => ?_))
          obtain ⟨e_85, z_85⟩ := p_85
          rw [z_85]
          obtain ⟨n_85, m_85, o_85⟩ := a3 _ _ v e_85 (hv i (by omega))
          refine g_ckS q652 o_85 rfl dX5_interpolated_90 ?_
          refine g_get (k0 := 0) (by first | assumption | exact g_up_self _ _ _ | (refine g_upf ?_ ?_ <;> assumption) | (refine g_upt ?_ ?_ (by decide) <;> assumption)) in_X6 q699 rfl (by decide) rfl dX5_interpolated_93 ?_
          first | refine g_aload1 dX5_interpolated_96 ?_ | refine g_aloadQ1 dX5_interpolated_96 ?_ | refine g_aloadN1 dX5_interpolated_96 ?_
          refine g_iload7 dX5_interpolated_97 ?_
          refine g_callF (ctJ21_get _ _ a2 (by omega)) uJ21_get q1445 q1216 ⟨q1215, q1214, q1219, q1217, q994⟩ ⟨⟨by decide, by decide⟩, rfl⟩ (LI.at a2).choose_spec rfl (by decide) ⟨Nat.le_of_ble_eq_true rfl, Nat.le_of_ble_eq_true rfl⟩ rfl (Nat.le_of_ble_eq_true rfl) dX5_interpolated_99 k_x (k_r (fun r_99 h_99 p_99 => ?_))
          obtain ⟨e_99, z_99⟩ := p_99
          rw [z_99]
          obtain ⟨n_99, m_99, o_99⟩ := a3 _ _ v e_99 (hv j (by omega))
          refine g_ckS q652 o_99 rfl dX5_interpolated_104 ?_
          refine g_get (k0 := 0) (by first | assumption | exact g_up_self _ _ _ | (refine g_upf ?_ ?_ <;> assumption) | (refine g_upt ?_ ?_ (by decide) <;> assumption)) in_X6 q699 rfl (by decide) rfl dX5_interpolated_107 ?_
          refine g_callSN (ctX1_minus _ _ (by omega) (by omega)) kX1_minus q1446 (by decide) ⟨Nat.le_of_ble_eq_true rfl, Nat.le_of_ble_eq_true rfl⟩ rfl (Nat.le_of_ble_eq_true rfl) dX5_interpolated_110 k_x (k_n (fun r_110 h_110 p_110 => ?_))
          obtain ⟨rfl, rfl⟩ := p_110
          refine g_sipush (nI 1019) dX5_interpolated_113 (by decide) ?_
          refine g_callSN (ctX1_times _ _ _ (by omega) (by omega) (by omega)) kX1_times q1054 (by decide) ⟨Nat.le_of_ble_eq_true rfl, Nat.le_of_ble_eq_true rfl⟩ rfl (Nat.le_of_ble_eq_true rfl) dX5_interpolated_116 k_x (k_n (fun r_116 h_116 p_116 => ?_))
          obtain ⟨rfl, rfl⟩ := p_116
          refine g_istore6 dX5_interpolated_119 (by decide) ?_
          first | refine g_iincN7 1 dX5_interpolated_121 (by decide) (by decide) ?_ | refine g_iinc7 _ dX5_interpolated_121 rfl (by decide) ?_
          refine g_goto (tgt := 36) dX5_interpolated_124 (by decide) ?_
          (have q := ih (j + 1) (by omega); rw [e1, e2] at q; exact q)
  have KO : ∀ n i num den j, n + i = gOf g s 1 → V E cX5_interpolated "SecretVault$Secret" mX5_interpolated (pN fun r h' => r = (vaS g s v (gOf g s 1) x (gOf g s 1)) ∧ h' = h) noX X (h) 0 0 5 [some (.ref a), some (.ref l), some (.int (nI x)), some (.int (nI (vaS g s v (gOf g s 1) x i))), some (.int (nI i)), num, den, j] [] := by
    intro n
    induction n with
    | zero =>
      intro i num den j hn0
      obtain rfl : i = gOf g s 1 := by omega
      refine g_iload4 dX5_interpolated_5 ?_
      first | refine g_aload0 dX5_interpolated_7 ?_ | refine g_aloadQ0 dX5_interpolated_7 ?_ | refine g_aloadN0 dX5_interpolated_7 ?_
      refine g_get (k0 := 0) (by first | assumption | exact g_up_self _ _ _ | (refine g_upf ?_ ?_ <;> assumption) | (refine g_upt ?_ ?_ (by decide) <;> assumption)) in_X5 q655 rfl (by decide) rfl dX5_interpolated_8 ?_
      first | refine g_icmpN_ge (tgt := 153) dX5_interpolated_11 (by decide) (by omega) (by omega) (fun c_11 => ?_) (fun c_11 => ?_) | refine g_icmp_ge (tgt := 153) dX5_interpolated_11 (by decide) (fun c_11 => ?_) (fun c_11 => ?_)
      · refine g_iload3 dX5_interpolated_153 ?_
        exact g_iret dX5_interpolated_154 rfl ⟨_, rfl, rfl, rfl⟩
      · omega
    | succ n ih =>
      intro i num den j hn0
      have hvi := hvb i (by omega)
      refine g_iload4 dX5_interpolated_5 ?_
      first | refine g_aload0 dX5_interpolated_7 ?_ | refine g_aloadQ0 dX5_interpolated_7 ?_ | refine g_aloadN0 dX5_interpolated_7 ?_
      refine g_get (k0 := 0) (by first | assumption | exact g_up_self _ _ _ | (refine g_upf ?_ ?_ <;> assumption) | (refine g_upt ?_ ?_ (by decide) <;> assumption)) in_X5 q655 rfl (by decide) rfl dX5_interpolated_8 ?_
      first | refine g_icmpN_ge (tgt := 153) dX5_interpolated_11 (by decide) (by omega) (by omega) (fun c_11 => ?_) (fun c_11 => ?_) | refine g_icmp_ge (tgt := 153) dX5_interpolated_11 (by decide) (fun c_11 => ?_) (fun c_11 => ?_)
      · omega
      · first | refine g_aload1 dX5_interpolated_14 ?_ | refine g_aloadQ1 dX5_interpolated_14 ?_ | refine g_aloadN1 dX5_interpolated_14 ?_
        refine g_iload4 dX5_interpolated_15 ?_
        refine g_callF (ctJ21_get _ _ a2 (by omega)) uJ21_get q1445 q1216 ⟨q1215, q1214, q1219, q1217, q994⟩ ⟨⟨by decide, by decide⟩, rfl⟩ (LI.at a2).choose_spec rfl (by decide) ⟨Nat.le_of_ble_eq_true rfl, Nat.le_of_ble_eq_true rfl⟩ rfl (Nat.le_of_ble_eq_true rfl) dX5_interpolated_17 k_x (k_r (fun r_17 h_17 p_17 => ?_))
        obtain ⟨e_17, z_17⟩ := p_17
        rw [z_17]
        obtain ⟨n_17, m_17, o_17⟩ := a3 _ _ v e_17 (hv i (by omega))
        refine g_ckS q652 o_17 rfl dX5_interpolated_22 ?_
        refine g_getN (k0 := 1) (by first | assumption | exact g_up_self _ _ _ | (refine g_upf ?_ ?_ <;> assumption) | (refine g_upt ?_ ?_ (by decide) <;> assumption)) in_X6 q703 rfl (by decide) rfl dX5_interpolated_25 ?_
        refine g_istore5 dX5_interpolated_28 (by decide) ?_
        refine g_iconst (nI 1) dX5_interpolated_30 (by decide) ?_
        refine g_istore6 dX5_interpolated_31 (by decide) ?_
        refine g_iconst (nI 0) dX5_interpolated_33 (by decide) ?_
        refine g_istore7 dX5_interpolated_34 (by decide) ?_
        refine KI i (by omega) ?_ (gOf g s 1) 0 (by omega)
        have hv1 := iN_lt (x := x) hvi (gOf g s 1)
        have hd1 := iD_lt (v := v) (i := i) (gOf g s 1)
        have hsm := vaS_lt2 g s v (gOf g s 1) x i
        have hpl : iD v i (gOf g s 1) ^ 1017 % 1019 < 1019 := Nat.mod_lt _ (by decide)
        have hml : iN g s v x i (gOf g s 1) * (iD v i (gOf g s 1) ^ 1017 % 1019) % 1019 < 1019 := Nat.mod_lt _ (by decide)
        refine g_iload3 dX5_interpolated_127 ?_
        refine g_iload5 dX5_interpolated_128 ?_
        refine g_iload6 dX5_interpolated_130 ?_
        refine g_callSN (ctX1_inverse _ (by omega)) kX1_inverse q1452 (by decide) ⟨Nat.le_of_ble_eq_true rfl, Nat.le_of_ble_eq_true rfl⟩ rfl (Nat.le_of_ble_eq_true rfl) dX5_interpolated_132 k_x (k_n (fun r_132 h_132 p_132 => ?_))
        obtain ⟨rfl, rfl⟩ := p_132
        refine g_sipush (nI 1019) dX5_interpolated_135 (by decide) ?_
        refine g_callSN (ctX1_times _ _ _ (by omega) (by omega) (by omega)) kX1_times q1054 (by decide) ⟨Nat.le_of_ble_eq_true rfl, Nat.le_of_ble_eq_true rfl⟩ rfl (Nat.le_of_ble_eq_true rfl) dX5_interpolated_138 k_x (k_n (fun r_138 h_138 p_138 => ?_))
        obtain ⟨rfl, rfl⟩ := p_138
        first | refine g_iaddN dX5_interpolated_141 ?_ | refine g_iadd dX5_interpolated_141 ?_
        refine g_sipush (nI 1019) dX5_interpolated_142 (by decide) ?_
        refine g_iremN dX5_interpolated_145 (by omega) (by omega) (by omega) ?_
        rw [vaS_ND hvi]
        refine g_istore3 dX5_interpolated_146 (by decide) ?_
        first | refine g_iincN4 1 dX5_interpolated_147 (by decide) (by decide) ?_ | refine g_iinc4 _ dX5_interpolated_147 rfl (by decide) ?_
        refine g_goto (tgt := 5) dX5_interpolated_150 (by decide) ?_
        exact ih (i + 1) _ _ _ (by omega)
  refine g_iconst (nI 0) dX5_interpolated_0 (by decide) ?_
  refine g_istore3 dX5_interpolated_1 (by decide) ?_
  refine g_iconst (nI 0) dX5_interpolated_2 (by decide) ?_
  refine g_istore4 dX5_interpolated_3 (by decide) ?_
  exact KO (gOf g s 1) 0 none none none (by omega)
theorem agF_le2 (g : Nat → Nat) (s : Nat) (v : Nat → Nat) (K : Nat) : ∀ d, agF g s v K d < 2
  | 0 => Nat.one_lt_two
  | d + 1 => by
    unfold agF
    split <;> decide
theorem agF_y {g : Nat → Nat} {s : Nat} {v : Nat → Nat} {K d : Nat} (h : vaS g s v K (v (K + d)) K = gSh g s (v (K + d)) 1) : agF g s v K d % 2 = agF g s v K (d + 1) := by
  have := agF_le2 g s v K d
  show _ = if _ then 1 else 0
  by_cases e : agF g s v K d = 1
  · rw [if_pos ⟨e, h⟩, e]
  · rw [if_neg (fun z => e z.1)]
    omega
theorem agF_n {g : Nat → Nat} {s : Nat} {v : Nat → Nat} {K d : Nat} (h : ¬ vaS g s v K (v (K + d)) K = gSh g s (v (K + d)) 1) : agF g s v K d &&& 0 = agF g s v K (d + 1) := by
  rw [Nat.and_zero]
  show _ = if _ then 1 else 0
  rw [if_neg (fun z => h z.2)]
abbrev mX5_agrees : GM := (yX5_agrees, 4, (some .boolean), [], { frames := 4, cells := 0, slots := 0, locals := 94 }, 255)
theorem kX5_agrees : gCv cX5_agrees mX5_agrees 1 := ⟨q1499, q1500, q96, q1501, ⟨by decide +kernel, by decide +kernel, by decide +kernel⟩, rfl⟩
theorem uX5_agrees : gCu cX5_agrees mX5_agrees 1 := ⟨q1499, q96, q1501, ⟨by decide +kernel, by decide +kernel, by decide +kernel⟩, rfl⟩
set_option maxHeartbeats 400000 in
theorem ctX5_agrees {E : GE} {h : AH} {S s a t l : Nat} {g : Nat → Nat} {nd : List Nat} (v : Nat → Nat) (hs : seO E S g s a h) (hw : slW g s) (h1 : gOf g s 0 = 1) (hP : PT E S g s t h l nd) (hv : ∀ i, i < nd.length → nd[i]? = some (v i)) : Ct E cX5_agrees mX5_agrees [.ref a, .ref l] (h) (pN fun r h' => r = (agF g s v (gOf g s 1) (nd.length - gOf g s 1)) ∧ h' = h) (noX) := by
  refine g_enter (own := "SecretVault$Secret") [some (.ref a), some (.ref l), none, none] (by decide +kernel) rfl rfl (Nat.le_of_ble_eq_true rfl) rfl rfl (fun X => ?_)
  have hs0 := hs
  obtain ⟨c, b0, p, fc, fs, ha, hc, hfc, hb0, hsh, hp⟩ := hs0
  obtain ⟨A, a1, a2, a3⟩ := hP.get
  obtain ⟨hk1, hk8⟩ := hw.k h1
  have h32 := a2.1
  have K0 : ∀ n d, n + (gOf g s 1 + d) = nd.length → V E cX5_agrees "SecretVault$Secret" mX5_agrees (pN fun r h' => r = (agF g s v (gOf g s 1) (nd.length - gOf g s 1)) ∧ h' = h) noX X (h) 0 0 7 [some (.ref a), some (.ref l), some (.int (nI (agF g s v (gOf g s 1) d))), some (.int (nI (gOf g s 1 + d)))] [] := by
    intro n
    induction n with
    | zero =>
      intro d hn0
      have hag := agF_le2 g s v (gOf g s 1) d
      refine g_iload3 dX5_agrees_7 ?_
      first | refine g_aload1 dX5_agrees_8 ?_ | refine g_aloadQ1 dX5_agrees_8 ?_ | refine g_aloadN1 dX5_agrees_8 ?_
      refine g_callF (ctJ21_size _ a2) uJ21_size q1503 q1020 ⟨q1019, q1018, q1023, q1021, q994⟩ ⟨⟨by decide, by decide⟩, rfl⟩ (LI.at a2).choose_spec rfl (by decide) ⟨Nat.le_of_ble_eq_true rfl, Nat.le_of_ble_eq_true rfl⟩ rfl (Nat.le_of_ble_eq_true rfl) dX5_agrees_9 k_x (k_n (fun r_9 h_9 p_9 => ?_))
      obtain ⟨rfl, z_9⟩ := p_9
      rw [z_9]
      first | refine g_icmpN_ge (tgt := 65) dX5_agrees_14 (by decide) (by omega) (by omega) (fun c_14 => ?_) (fun c_14 => ?_) | refine g_icmp_ge (tgt := 65) dX5_agrees_14 (by decide) (fun c_14 => ?_) (fun c_14 => ?_)
      · refine g_iload2 dX5_agrees_65 ?_
        exact g_zret dX5_agrees_66 rfl (nar_zb (by omega)) ⟨_, rfl, by rw [show nd.length - gOf g s 1 = d by omega], rfl⟩
      · omega
    | succ n ih =>
      intro d hn0
      have hag := agF_le2 g s v (gOf g s 1) d
      have hvl := vaS_lt2 g s v (gOf g s 1) (v (gOf g s 1 + d)) (gOf g s 1)
      have hgl : gSh g s (v (gOf g s 1 + d)) 1 < 1019 := by
        have hi2 : gOf g s 1 + d < A.length := by omega
        obtain ⟨n1, -, -⟩ := a3 _ A[gOf g s 1 + d] v (List.getElem?_eq_getElem hi2) (hv _ (by omega))
        exact (hw.2.2.2.2.2.2 _ n1.1 n1.2).2.1
      refine g_iload3 dX5_agrees_7 ?_
      first | refine g_aload1 dX5_agrees_8 ?_ | refine g_aloadQ1 dX5_agrees_8 ?_ | refine g_aloadN1 dX5_agrees_8 ?_
      refine g_callF (ctJ21_size _ a2) uJ21_size q1503 q1020 ⟨q1019, q1018, q1023, q1021, q994⟩ ⟨⟨by decide, by decide⟩, rfl⟩ (LI.at a2).choose_spec rfl (by decide) ⟨Nat.le_of_ble_eq_true rfl, Nat.le_of_ble_eq_true rfl⟩ rfl (Nat.le_of_ble_eq_true rfl) dX5_agrees_9 k_x (k_n (fun r_9 h_9 p_9 => ?_))
      obtain ⟨rfl, z_9⟩ := p_9
      rw [z_9]
      first | refine g_icmpN_ge (tgt := 65) dX5_agrees_14 (by decide) (by omega) (by omega) (fun c_14 => ?_) (fun c_14 => ?_) | refine g_icmp_ge (tgt := 65) dX5_agrees_14 (by decide) (fun c_14 => ?_) (fun c_14 => ?_)
      · omega
      · refine g_iload2 dX5_agrees_17 ?_
        first | refine g_aload0 dX5_agrees_18 ?_ | refine g_aloadQ0 dX5_agrees_18 ?_ | refine g_aloadN0 dX5_agrees_18 ?_
        first | refine g_aload1 dX5_agrees_19 ?_ | refine g_aloadQ1 dX5_agrees_19 ?_ | refine g_aloadN1 dX5_agrees_19 ?_
        first | refine g_aload1 dX5_agrees_20 ?_ | refine g_aloadQ1 dX5_agrees_20 ?_ | refine g_aloadN1 dX5_agrees_20 ?_
        refine g_iload3 dX5_agrees_21 ?_
        refine g_callF (ctJ21_get _ _ a2 (by omega)) uJ21_get q1445 q1216 ⟨q1215, q1214, q1219, q1217, q994⟩ ⟨⟨by decide, by decide⟩, rfl⟩ (LI.at a2).choose_spec rfl (by decide) ⟨Nat.le_of_ble_eq_true rfl, Nat.le_of_ble_eq_true rfl⟩ rfl (Nat.le_of_ble_eq_true rfl) dX5_agrees_22 k_x (k_r (fun r_22 h_22 p_22 => ?_))
        obtain ⟨e_22, z_22⟩ := p_22
        rw [z_22]
        obtain ⟨n_22, m_22, o_22⟩ := a3 _ _ v e_22 (hv (gOf g s 1 + d) (by omega))
        refine g_ckS q652 o_22 rfl dX5_agrees_27 ?_
        refine g_get (k0 := 0) (by first | assumption | exact g_up_self _ _ _ | (refine g_upf ?_ ?_ <;> assumption) | (refine g_upt ?_ ?_ (by decide) <;> assumption)) in_X6 q699 rfl (by decide) rfl dX5_agrees_30 ?_
        refine g_callVR (ctX5_interpolated v _ hs hw h1 hP hv (by omega) n_22.2) kX5_interpolated q1504 hs.rv (by decide) ⟨Nat.le_of_ble_eq_true rfl, Nat.le_of_ble_eq_true rfl⟩ rfl (Nat.le_of_ble_eq_true rfl) dX5_agrees_33 k_x (k_n (fun r_33 h_33 p_33 => ?_))
        obtain ⟨rfl, z_33⟩ := p_33
        rw [z_33]
        first | refine g_aload1 dX5_agrees_36 ?_ | refine g_aloadQ1 dX5_agrees_36 ?_ | refine g_aloadN1 dX5_agrees_36 ?_
        refine g_iload3 dX5_agrees_37 ?_
        refine g_callF (ctJ21_get _ _ a2 (by omega)) uJ21_get q1445 q1216 ⟨q1215, q1214, q1219, q1217, q994⟩ ⟨⟨by decide, by decide⟩, rfl⟩ (LI.at a2).choose_spec rfl (by decide) ⟨Nat.le_of_ble_eq_true rfl, Nat.le_of_ble_eq_true rfl⟩ rfl (Nat.le_of_ble_eq_true rfl) dX5_agrees_38 k_x (k_r (fun r_38 h_38 p_38 => ?_))
        obtain ⟨e_38, z_38⟩ := p_38
        rw [z_38]
        obtain ⟨n_38, m_38, o_38⟩ := a3 _ _ v e_38 (hv (gOf g s 1 + d) (by omega))
        refine g_ckS q652 o_38 rfl dX5_agrees_43 ?_
        refine g_getN (k0 := 1) (by first | assumption | exact g_up_self _ _ _ | (refine g_upf ?_ ?_ <;> assumption) | (refine g_upt ?_ ?_ (by decide) <;> assumption)) in_X6 q703 rfl (by decide) rfl dX5_agrees_46 ?_
        first | refine g_icmpN_ne (tgt := 56) dX5_agrees_49 (by decide) (by omega) (by omega) (fun c_49 => ?_) (fun c_49 => ?_) | refine g_icmpU_ne (tgt := 56) dX5_agrees_49 (by decide) (by omega) (by omega) (fun c_49 => ?_) (fun c_49 => ?_) | refine g_icmp_ne (tgt := 56) dX5_agrees_49 (by decide) (fun c_49 => ?_) (fun c_49 => ?_)
        · refine g_iconst (nI 0) dX5_agrees_56 (by decide) ?_
          first | refine g_iandN dX5_agrees_57 ?_ | refine g_iand dX5_agrees_57 ?_
          refine g_istore2 dX5_agrees_58 (by decide) ?_
          first | refine g_iincN3 1 dX5_agrees_59 (by decide) (by decide) ?_ | refine g_iinc3 _ dX5_agrees_59 rfl (by decide) ?_
          refine g_goto (tgt := 7) dX5_agrees_62 (by decide) ?_
          first | (rw [agF_y c_49]; exact ih (d + 1) (by omega)) | (rw [agF_n c_49]; exact ih (d + 1) (by omega))
        · refine g_iconst (nI 1) dX5_agrees_52 (by decide) ?_
          refine g_goto (tgt := 57) dX5_agrees_53 (by decide) ?_
          refine g_iand1 dX5_agrees_57 (by omega) ?_
          refine g_istore2 dX5_agrees_58 (by decide) ?_
          first | refine g_iincN3 1 dX5_agrees_59 (by decide) (by decide) ?_ | refine g_iinc3 _ dX5_agrees_59 rfl (by decide) ?_
          refine g_goto (tgt := 7) dX5_agrees_62 (by decide) ?_
          first | (rw [agF_y c_49]; exact ih (d + 1) (by omega)) | (rw [agF_n c_49]; exact ih (d + 1) (by omega))
  by_cases hlen : gOf g s 1 ≤ nd.length
  · skip
    refine g_iconst (nI 1) dX5_agrees_0 (by decide) ?_
    refine g_istore2 dX5_agrees_1 (by decide) ?_
    first | refine g_aload0 dX5_agrees_2 ?_ | refine g_aloadQ0 dX5_agrees_2 ?_ | refine g_aloadN0 dX5_agrees_2 ?_
    refine g_get (k0 := 0) (by first | assumption | exact g_up_self _ _ _ | (refine g_upf ?_ ?_ <;> assumption) | (refine g_upt ?_ ?_ (by decide) <;> assumption)) in_X5 q655 rfl (by decide) rfl dX5_agrees_3 ?_
    refine g_istore3 dX5_agrees_6 (by decide) ?_
    exact K0 (nd.length - gOf g s 1) 0 (by omega)
  · have e0 : agF g s v (gOf g s 1) (nd.length - gOf g s 1) = 1 := by rw [show nd.length - gOf g s 1 = 0 by omega]; rfl
    refine g_iconst (nI 1) dX5_agrees_0 (by decide) ?_
    refine g_istore2 dX5_agrees_1 (by decide) ?_
    first | refine g_aload0 dX5_agrees_2 ?_ | refine g_aloadQ0 dX5_agrees_2 ?_ | refine g_aloadN0 dX5_agrees_2 ?_
    refine g_get (k0 := 0) (by first | assumption | exact g_up_self _ _ _ | (refine g_upf ?_ ?_ <;> assumption) | (refine g_upt ?_ ?_ (by decide) <;> assumption)) in_X5 q655 rfl (by decide) rfl dX5_agrees_3 ?_
    refine g_istore3 dX5_agrees_6 (by decide) ?_
    refine g_iload3 dX5_agrees_7 ?_
    first | refine g_aload1 dX5_agrees_8 ?_ | refine g_aloadQ1 dX5_agrees_8 ?_ | refine g_aloadN1 dX5_agrees_8 ?_
    refine g_callF (ctJ21_size _ a2) uJ21_size q1503 q1020 ⟨q1019, q1018, q1023, q1021, q994⟩ ⟨⟨by decide, by decide⟩, rfl⟩ (LI.at a2).choose_spec rfl (by decide) ⟨Nat.le_of_ble_eq_true rfl, Nat.le_of_ble_eq_true rfl⟩ rfl (Nat.le_of_ble_eq_true rfl) dX5_agrees_9 k_x (k_n (fun r_9 h_9 p_9 => ?_))
    obtain ⟨rfl, z_9⟩ := p_9
    rw [z_9]
    first | refine g_icmpN_ge (tgt := 65) dX5_agrees_14 (by decide) (by omega) (by omega) (fun c_14 => ?_) (fun c_14 => ?_) | refine g_icmp_ge (tgt := 65) dX5_agrees_14 (by decide) (fun c_14 => ?_) (fun c_14 => ?_)
    · refine g_iload2 dX5_agrees_65 ?_
      exact g_zret dX5_agrees_66 rfl (nar_zb (by omega)) ⟨_, rfl, e0.symm, rfl⟩
    · omega
