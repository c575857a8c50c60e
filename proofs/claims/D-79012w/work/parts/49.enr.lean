/-! ENROLLING -/
set_option maxRecDepth 100000
/-- the memory once the first k places of a member have got shares -/
def enG (g : Nat → Nat) (s m : Nat) (U : Nat → Nat) : Nat → Nat → Nat
  | 0 => g
  | k + 1 => if enD g s (3 * m + 1 + k) then shG (enG g s m U k) s (3 * m + 1 + k) (U (3 * m + 1 + k)) (gOf g s 2) else enG g s m U k
def ecF (g : Nat → Nat) (s m : Nat) : Nat → Nat
  | 0 => 0
  | k + 1 => ecF g s m k + (if enD g s (3 * m + 1 + k) then 1 else 0)
theorem enG_w {g : Nat → Nat} {s m : Nat} {U : Nat → Nat} {w : Nat} (hw : w < 52) : ∀ k, gOf (enG g s m U k) s w = gOf g s w
  | 0 => rfl
  | k + 1 => by
    unfold enG
    split
    · exact (shG_w hw).trans (enG_w hw k)
    · exact enG_w hw k
theorem enG_y {g : Nat → Nat} {s m : Nat} {U : Nat → Nat} {y c : Nat} (h1 : 1 ≤ y) (hc : c < 3) (hy : gSh g s y 0 = 1 ∧ stF g s y = 0) : ∀ k, gSh (enG g s m U k) s y c = gSh g s y c
  | 0 => rfl
  | k + 1 => by
    unfold enG
    split
    · rename_i h
      exact (shG_y (by omega) h1 (fun e => h (by rw [← e]; exact hy)) hc).trans (enG_y h1 hc hy k)
    · exact enG_y h1 hc hy k
theorem enG_n {g : Nat → Nat} {s m : Nat} {U : Nat → Nat} {y c : Nat} (hc : c < 3) : ∀ k, 3 * m + 1 + k ≤ y → gSh (enG g s m U k) s y c = gSh g s y c
  | 0, _ => rfl
  | k + 1, hy => by
    unfold enG
    split
    · exact (shG_y (by omega) (by omega) (by omega) hc).trans (enG_n hc k (by omega))
    · exact enG_n hc k (by omega)
theorem slW_sh {g : Nat → Nat} {s x v e : Nat} (hw : slW g s) (h1 : gOf g s 0 = 1) (hx : 1 ≤ x) (hv : v < 1019) (he : e < 1000000) : slW (shG g s x v e) s := by
  obtain ⟨a0, a1, a2, a3, a4, a5, a6⟩ := hw
  unfold slW
  rw [shG_w (by decide), shG_w (by decide), shG_w (by decide), shG_w (by decide)]
  refine ⟨a0, a1, a2, a3, fun j hj => by rw [shG_w (by omega)]; exact a4 j hj, a5, fun y y1 y2 => ?_⟩
  by_cases ey : y = x
  · subst ey
    rw [shG_0, shG_1, shG_2]
    exact ⟨by omega, hv, he⟩
  · rw [shG_y hx y1 ey (by decide), shG_y hx y1 ey (by decide), shG_y hx y1 ey (by decide)]
    exact a6 y y1 y2
theorem slW_en {g : Nat → Nat} {s m : Nat} {U : Nat → Nat} (hw : slW g s) (h1 : gOf g s 0 = 1) (hU : ∀ x, U x < 1019) : ∀ k, slW (enG g s m U k) s
  | 0 => hw
  | k + 1 => by
    unfold enG
    split
    · exact slW_sh (slW_en hw h1 hU k) ((enG_w (by decide) k).trans h1) (by omega) (hU _) hw.2.2.2.1
    · exact slW_en hw h1 hU k
theorem PT.cg {E : GE} {S : Nat} {g g' : Nat → Nat} {s t : Nat} {h : AH} {l : Nat} {nd : List Nat} (hp : PT E S g s t h l nd) (hh : ∀ x, x ∈ nd → 1 ≤ x → gSh g s x 0 = 1 → ∀ c, c < 3 → gSh g' s x c = gSh g s x c) : PT E S g' s t h l nd := by
  obtain ⟨A, a1, a2, a3⟩ := hp
  refine ⟨A, a1, a2, fun i y x z1 z2 => ?_⟩
  obtain ⟨b1, b2, b3⟩ := a3 i y x z1 z2
  have hx := hh x (List.mem_of_getElem? z2) b1.1 b2
  refine ⟨b1, (hx 0 (by decide)).trans b2, ?_⟩
  unfold shC
  rw [hx 1 (by decide), hx 2 (by decide)]
  exact b3
abbrev mX2_enroll : GM := (yX2_enroll, 6, (some .int), [], { frames := 5, cells := 3, slots := 9, locals := 117 }, 255)
theorem kX2_enroll : gCv cX2_enroll mX2_enroll 3 := ⟨q1464, q1465, q68, q1466, ⟨by decide +kernel, by decide +kernel, by decide +kernel⟩, rfl⟩
theorem uX2_enroll : gCu cX2_enroll mX2_enroll 3 := ⟨q1464, q68, q1466, ⟨by decide +kernel, by decide +kernel, by decide +kernel⟩, rfl⟩
set_option maxHeartbeats 400000 in
theorem ctX2_enroll {E : GE} {h : AH} {B S s w a l t : Nat} {g : Nat → Nat} {nd : List Nat} (v : Nat → Nat) (m : Nat) (hm : WM E B g w h) (hbb : wB g) (hs : seO E S g s a h) (hw : slW g s) (h1 : gOf g s 0 = 1) (hP : PT E S g s t h l nd) (hv : ∀ i, i < nd.length → nd[i]? = some (v i)) (hkl : gOf g s 1 ≤ nd.length) (hgood : ∀ x, x ∈ nd → stF g s x = 0) (hm7 : m ≤ 7) (hBS : B + 10 ≤ S ∧ S + 28 ≤ t) : Ct E cX2_enroll mX2_enroll [.ref w, .ref a, .ref l, .int (nI m)] (h) (pN fun r h' => r = ecF g s m (g (1 + m)) ∧ seO E S (enG g s m (fun x => vaS g s v (gOf g s 1) x (gOf g s 1)) (g (1 + m))) s a h' ∧ Fr (fun u => u = S + 2) h h') (noX) := by
  refine g_enter (own := "SecretVault$World") [some (.ref w), some (.ref a), some (.ref l), some (.int (nI m)), none, none] (by decide +kernel) rfl rfl (Nat.le_of_ble_eq_true rfl) rfl rfl (fun X => ?_)
  obtain ⟨aw, ap, v3, v4, v5, fw, fp, z1, z2, z3, z4, z5⟩ := hm
  have hwt := hbb.1 m (by omega)
  obtain ⟨hk1, hk8⟩ := hw.k h1
  have K : ∀ n j (hq : AH) k nn, n + j = 3 → seO E S (enG g s m (fun x => vaS g s v (gOf g s 1) x (gOf g s 1)) (min j (g (1 + m)))) s a hq → Fr (fun u => u = S + 2) h hq → k ≤ j → nn ≤ 3 * j → V E cX2_enroll "SecretVault$World" mX2_enroll (pN fun r h' => r = ecF g s m (g (1 + m)) ∧ seO E S (enG g s m (fun x => vaS g s v (gOf g s 1) x (gOf g s 1)) (g (1 + m))) s a h' ∧ Fr (fun u => u = S + 2) h h') noX X (hq) k nn 9 [some (.ref w), some (.ref a), some (.ref l), some (.int (nI m)), some (.int (nI (ecF g s m (min j (g (1 + m)))))), some (.int (nI (3 * m + 1 + j)))] [] := by
    intro n
    induction n with
    | zero =>
      intro j hq k nn hn0 hsq hF hk hnn
      obtain rfl : j = 3 := by omega
      have em : min 3 (g (1 + m)) = g (1 + m) := by omega
      refine g_iload5 dX2_enroll_9 ?_
      refine g_iload3 dX2_enroll_11 ?_
      refine g_iconst (nI 1) dX2_enroll_12 (by decide) ?_
      first | refine g_iaddN dX2_enroll_13 ?_ | refine g_iadd dX2_enroll_13 ?_
      refine g_callSN (ctX1_firstPlace _) kX1_firstPlace q1079 (by decide) ⟨by show k + 0 ≤ 3; omega, by show nn + 0 ≤ 9; omega⟩ rfl (Nat.le_of_ble_eq_true rfl) dX2_enroll_14 k_x (k_n (fun r_14 h_14 p_14 => ?_))
      obtain ⟨rfl, z_14⟩ := p_14
      rw [z_14]
      refine V.wide (k' := k) (n' := nn) (Nat.le_refl _) (Nat.le_refl _) ?_
      first | refine g_icmpN_ge (tgt := 74) dX2_enroll_17 (by decide) (by omega) (by omega) (fun c_17 => ?_) (fun c_17 => ?_) | refine g_icmp_ge (tgt := 74) dX2_enroll_17 (by decide) (fun c_17 => ?_) (fun c_17 => ?_)
      · refine g_iload4 dX2_enroll_74 ?_
        exact g_iret (hk := by show _ ≤ 3; omega) (hn := by show _ ≤ 9; omega) dX2_enroll_76 rfl ⟨_, rfl, by rw [em], by rw [em] at hsq; exact hsq, hF⟩
      · omega
    | succ n ih =>
      intro j hq k nn hn0 hsq hF hk hnn
      have hwq := slW_en (m := m) (U := (fun x => vaS g s v (gOf g s 1) x (gOf g s 1))) hw h1 (fun x => vaS_lt2 _ _ _ _ _ _) (min j (g (1 + m)))
      have h1q := (enG_w (s := s) (g := g) (m := m) (U := (fun x => vaS g s v (gOf g s 1) x (gOf g s 1))) (w := 0) (by decide) (min j (g (1 + m)))).trans h1
      have hwm : WM E B g w hq := ⟨aw, ap, v3, v4, v5, fw, fp, hF _ _ _ z1 (by omega), hF _ _ _ z2 (by omega), z3, hF _ _ _ z4 (by omega), z5⟩
      have hus := usF_lt g (3 * m + 1 + j)
      have husE : usF g (3 * m + 1 + j) = if j < g (1 + m) then 1 else 0 := by
        unfold usF
        rw [show (3 * m + 1 + j - 1) % 3 = j by omega, show (3 * m + 1 + j - 1) / 3 = m by omega]
      have hgE : j < g (1 + m) → ∀ c, c < 3 → gSh (enG g s m (fun x => vaS g s v (gOf g s 1) x (gOf g s 1)) (min j (g (1 + m)))) s (3 * m + 1 + j) c = gSh g s (3 * m + 1 + j) c := fun hj c hc => by
        rw [show min j (g (1 + m)) = j by omega]
        exact enG_n hc j (Nat.le_refl _)
      have hstE : j < g (1 + m) → stF (enG g s m (fun x => vaS g s v (gOf g s 1) x (gOf g s 1)) (min j (g (1 + m)))) s (3 * m + 1 + j) = stF g s (3 * m + 1 + j) := fun hj => stF_cg (enG_w (by decide) _) hk8 (enG_w (by decide) _) (fun i hi => enG_w (by omega) _) (hgE hj 1 (by decide)) (hgE hj 2 (by decide))
      refine g_iload5 dX2_enroll_9 ?_
      refine g_iload3 dX2_enroll_11 ?_
      refine g_iconst (nI 1) dX2_enroll_12 (by decide) ?_
      first | refine g_iaddN dX2_enroll_13 ?_ | refine g_iadd dX2_enroll_13 ?_
      refine g_callSN (ctX1_firstPlace _) kX1_firstPlace q1079 (by decide) ⟨by show k + 0 ≤ 3; omega, by show nn + 0 ≤ 9; omega⟩ rfl (Nat.le_of_ble_eq_true rfl) dX2_enroll_14 k_x (k_n (fun r_14 h_14 p_14 => ?_))
      obtain ⟨rfl, z_14⟩ := p_14
      rw [z_14]
      refine V.wide (k' := k) (n' := nn) (Nat.le_refl _) (Nat.le_refl _) ?_
      first | refine g_icmpN_ge (tgt := 74) dX2_enroll_17 (by decide) (by (first | omega | (split <;> omega))) (by (first | omega | (split <;> omega))) (fun c_17 => ?_) (fun c_17 => ?_) | refine g_icmp_ge (tgt := 74) dX2_enroll_17 (by decide) (fun c_17 => ?_) (fun c_17 => ?_)
      · omega
      · first | refine g_aload0 dX2_enroll_20 ?_ | refine g_aloadQ0 dX2_enroll_20 ?_ | refine g_aloadN0 dX2_enroll_20 ?_
        refine g_iload5 dX2_enroll_21 ?_
        refine g_callVR (ctX2_isUsed hwm hbb ⟨by omega, by omega⟩) kX2_isUsed q1075 hwm.rv (by decide) ⟨by show k + 0 ≤ 3; omega, by show nn + 0 ≤ 9; omega⟩ rfl (Nat.le_of_ble_eq_true rfl) dX2_enroll_23 k_x (k_n (fun r_23 h_23 p_23 => ?_))
        obtain ⟨rfl, z_23⟩ := p_23
        rw [z_23]
        refine V.wide (k' := k) (n' := nn) (Nat.le_refl _) (Nat.le_refl _) ?_
        first | refine g_ifN_eq (tgt := 68) dX2_enroll_26 (by decide) (by (first | omega | (split <;> omega))) (fun c_26 => ?_) (fun c_26 => ?_) | refine g_if_eq (tgt := 68) dX2_enroll_26 (by decide) (fun c_26 => ?_) (fun c_26 => ?_)
        · have hj : ¬ j < g (1 + m) := fun q => by rw [if_pos q] at husE; omega
          have em : min (j + 1) (g (1 + m)) = min j (g (1 + m)) := by omega
          first | refine g_iincN5 1 dX2_enroll_68 (by decide) (by decide) ?_ | refine g_iinc5 _ dX2_enroll_68 rfl (by decide) ?_
          refine g_goto (tgt := 9) dX2_enroll_71 (by decide) ?_
          first | (have q := ih (j + 1) hq k nn (by omega) (by rw [em]; exact hsq) hF (by omega) (by omega); rw [em] at q; exact q) | (have ee : enG g s m (fun x => vaS g s v (gOf g s 1) x (gOf g s 1)) (j + 1) = enG g s m (fun x => vaS g s v (gOf g s 1) x (gOf g s 1)) j := if_neg hn; have ec : ecF g s m (j + 1) = ecF g s m j := (by show ecF g s m j + _ = _; rw [if_neg hn]; rfl); have q := ih (j + 1) hq k nn (by omega) (by rw [em1, ee]; rw [em0] at hsq; exact hsq) hF (by omega) (by omega); rw [em1, ec] at q; rw [em0]; exact q) | (have ee : enG g s m (fun x => vaS g s v (gOf g s 1) x (gOf g s 1)) (j + 1) = shG (enG g s m (fun x => vaS g s v (gOf g s 1) x (gOf g s 1)) j) s (3 * m + 1 + j) (vaS g s v (gOf g s 1) (3 * m + 1 + j) (gOf g s 1)) (gOf g s 2) := if_pos hy; have ec : ecF g s m (j + 1) = ecF g s m j + 1 := (by show ecF g s m j + _ = _; rw [if_pos hy]); refine (fun q => by rw [em1, ec] at q; rw [em0]; exact q) (ih (j + 1) _ (k + 1) (nn + 3) (by omega) ?_ ((hF.new2 f_44).put2 (g_upf y4 f_44) rfl rfl) (by omega) (by omega)); rw [em1, ee]; rw [em0] at y1 y2 y3 y5 y6; exact ⟨c9, b9, p9, fc9, _, seX.sh ⟨y1, y2, y3, y4, y5, y6⟩ f_44 ⟨by omega, by omega⟩ (by rw [enG_w (by decide)]; exact hw.2.2.2.2.2.1) (by rw [enG_w (by decide)]; exact hk8) (by omega)⟩)
        · have hj : j < g (1 + m) := by by_cases q : j < g (1 + m); exact q; rw [if_neg q] at husE; omega
          have em0 : min j (g (1 + m)) = j := by omega
          have em1 : min (j + 1) (g (1 + m)) = j + 1 := by omega
          first | refine g_aload1 dX2_enroll_29 ?_ | refine g_aloadQ1 dX2_enroll_29 ?_ | refine g_aloadN1 dX2_enroll_29 ?_
          refine g_iload5 dX2_enroll_30 ?_
          refine g_callVR (ctX5_isGood _ hsq hwq h1q (by omega)) kX5_isGood q1467 hsq.rv (by decide) ⟨by show k + 0 ≤ 3; omega, by show nn + 0 ≤ 9; omega⟩ rfl (Nat.le_of_ble_eq_true rfl) dX2_enroll_32 k_x (k_n (fun r_32 h_32 p_32 => ?_))
          obtain ⟨rfl, z_32⟩ := p_32
          rw [z_32]
          refine V.wide (k' := k) (n' := nn) (Nat.le_refl _) (Nat.le_refl _) ?_
          first | refine g_ifN_ne (tgt := 68) dX2_enroll_35 (by decide) (by (first | omega | (split <;> omega))) (fun c_35 => ?_) (fun c_35 => ?_) | refine g_if_ne (tgt := 68) dX2_enroll_35 (by decide) (fun c_35 => ?_) (fun c_35 => ?_)
          · have hn : ¬ enD g s (3 * m + 1 + j) := fun q => by rw [hgE hj 0 (by decide), hstE hj, if_neg q] at c_35; omega
            first | refine g_iincN5 1 dX2_enroll_68 (by decide) (by decide) ?_ | refine g_iinc5 _ dX2_enroll_68 rfl (by decide) ?_
            refine g_goto (tgt := 9) dX2_enroll_71 (by decide) ?_
            first | (have q := ih (j + 1) hq k nn (by omega) (by rw [em]; exact hsq) hF (by omega) (by omega); rw [em] at q; exact q) | (have ee : enG g s m (fun x => vaS g s v (gOf g s 1) x (gOf g s 1)) (j + 1) = enG g s m (fun x => vaS g s v (gOf g s 1) x (gOf g s 1)) j := if_neg hn; have ec : ecF g s m (j + 1) = ecF g s m j := (by show ecF g s m j + _ = _; rw [if_neg hn]; rfl); have q := ih (j + 1) hq k nn (by omega) (by rw [em1, ee]; rw [em0] at hsq; exact hsq) hF (by omega) (by omega); rw [em1, ec] at q; rw [em0]; exact q) | (have ee : enG g s m (fun x => vaS g s v (gOf g s 1) x (gOf g s 1)) (j + 1) = shG (enG g s m (fun x => vaS g s v (gOf g s 1) x (gOf g s 1)) j) s (3 * m + 1 + j) (vaS g s v (gOf g s 1) (3 * m + 1 + j) (gOf g s 1)) (gOf g s 2) := if_pos hy; have ec : ecF g s m (j + 1) = ecF g s m j + 1 := (by show ecF g s m j + _ = _; rw [if_pos hy]); refine (fun q => by rw [em1, ec] at q; rw [em0]; exact q) (ih (j + 1) _ (k + 1) (nn + 3) (by omega) ?_ ((hF.new2 f_44).put2 (g_upf y4 f_44) rfl rfl) (by omega) (by omega)); rw [em1, ee]; rw [em0] at y1 y2 y3 y5 y6; exact ⟨c9, b9, p9, fc9, _, seX.sh ⟨y1, y2, y3, y4, y5, y6⟩ f_44 ⟨by omega, by omega⟩ (by rw [enG_w (by decide)]; exact hw.2.2.2.2.2.1) (by rw [enG_w (by decide)]; exact hk8) (by omega)⟩)
          · have hy : enD g s (3 * m + 1 + j) := fun q => by rw [hgE hj 0 (by decide), hstE hj, if_pos q] at c_35; omega
            obtain ⟨c9, b9, p9, fc9, fs9, y1, y2, y3, y4, y5, y6⟩ := id hsq
            first | refine g_aload1 dX2_enroll_38 ?_ | refine g_aloadQ1 dX2_enroll_38 ?_ | refine g_aloadN1 dX2_enroll_38 ?_
            refine g_getN (k0 := 4) (by first | assumption | exact g_up_self _ _ _ | (refine g_upf ?_ ?_ <;> assumption) | (refine g_upt ?_ ?_ (by decide) <;> assumption)) in_X5 q670 rfl (by decide) rfl dX2_enroll_39 ?_
            refine g_iload5 dX2_enroll_42 ?_
            refine g_new 4 (S + 3 + (3 * m + 1 + j)) [.int 0, .int 0, .int 0] in_X6 tyX6_ok q1100 q693 q97 rfl nwX6 (by show _ ≤ 3; omega) (by show _ ≤ 9; omega) dX2_enroll_44 (fun q_44 f_44 => ?_)
            have hs44 := seO.fr (P := F0r) hsq (Fr.new (z := (S + 3 + (3 * m + 1 + j), gO 4 [.int 0, .int 0, .int 0])) f_44) (fun _ _ => id) id id
            have hP44 : PT E S (enG g s m (fun x => vaS g s v (gOf g s 1) x (gOf g s 1)) (min j (g (1 + m)))) s t (g_up hq q_44 (S + 3 + (3 * m + 1 + j), gO 4 [.int 0, .int 0, .int 0])) l nd := ((hP.fr hF (by omega) (by omega) (fun x hx => by omega)).fr (P := F0r) (Fr.new f_44) id id (fun _ _ => id)).cg (fun x hx x1 hg0 c hc => enG_y x1 hc ⟨hg0, hgood x hx⟩ _)
            have e1q : gOf (enG g s m (fun x => vaS g s v (gOf g s 1) x (gOf g s 1)) (min j (g (1 + m)))) s 1 = gOf g s 1 := enG_w (by decide) _
            have hval : ∀ i, i < gOf g s 1 → gSh (enG g s m (fun x => vaS g s v (gOf g s 1) x (gOf g s 1)) (min j (g (1 + m)))) s (v i) 1 = gSh g s (v i) 1 := fun i hi => by
              obtain ⟨A, a1, a2, a3⟩ := hP.get
              obtain ⟨n1, n2, -⟩ := a3 i A[i] v (List.getElem?_eq_getElem (by omega)) (hv i (by omega))
              exact enG_y n1.1 (by decide) ⟨n2, hgood _ (List.mem_of_getElem? (hv i (by omega)))⟩ _
            refine g_dup dX2_enroll_47 rfl ?_
            refine g_iload5 dX2_enroll_48 ?_
            first | refine g_aload1 dX2_enroll_50 ?_ | refine g_aloadQ1 dX2_enroll_50 ?_ | refine g_aloadN1 dX2_enroll_50 ?_
            first | refine g_aload2 dX2_enroll_51 ?_ | refine g_aloadQ2 dX2_enroll_51 ?_ | refine g_aloadN2 dX2_enroll_51 ?_
            refine g_iload5 dX2_enroll_52 ?_
            refine g_callVR (ctX5_interpolated v (3 * m + 1 + j) hs44 hwq h1q hP44 hv (by rw [e1q]; exact hkl) (by omega)) kX5_interpolated q1468 hs44.rv (by decide) ⟨by show k + 1 + 0 ≤ 3; omega, by show nn + 3 + 0 ≤ 9; omega⟩ rfl (Nat.le_of_ble_eq_true rfl) dX2_enroll_54 k_x (k_n (fun r_54 h_54 p_54 => ?_))
            obtain ⟨rfl, z_54⟩ := p_54
            rw [z_54]
            refine V.wide (k' := k + 1) (n' := nn + 3) (Nat.le_refl _) (Nat.le_refl _) ?_
            rw [e1q, vaS_cg _ hval]
            first | refine g_aload1 dX2_enroll_57 ?_ | refine g_aloadQ1 dX2_enroll_57 ?_ | refine g_aloadN1 dX2_enroll_57 ?_
            refine g_getN (k0 := 1) (g_upf y1 f_44) in_X5 q662 rfl (by decide) rfl dX2_enroll_58 ?_
            rw [show gOf (enG g s m (fun x => vaS g s v (gOf g s 1) x (gOf g s 1)) (min j (g (1 + m)))) s 2 = gOf g s 2 from enG_w (by decide) _]
            refine g_callI (ctX6_init _ _ _ (g_up_self _ _ _)) kX6_init q1104 (by decide) ⟨by show k + 1 + 0 ≤ 3; omega, by show nn + 3 + 0 ≤ 9; omega⟩ rfl (Nat.le_of_ble_eq_true rfl) dX2_enroll_61 k_x (k_v (fun h_61 p_61 => ?_))
            subst p_61
            rw [g_upup]
            refine V.wide (k' := k + 1) (n' := nn + 3) (Nat.le_refl _) (Nat.le_refl _) ?_
            refine g_aastS (g_upf y4 f_44) (g_up_self _ _ _) rfl rfl (by omega) (by omega) dX2_enroll_64 ?_
            first | refine g_iincN4 1 dX2_enroll_65 (by decide) (by decide) ?_ | refine g_iinc4 _ dX2_enroll_65 rfl (by decide) ?_
            first | refine g_iincN5 1 dX2_enroll_68 (by decide) (by decide) ?_ | refine g_iinc5 _ dX2_enroll_68 rfl (by decide) ?_
            refine g_goto (tgt := 9) dX2_enroll_71 (by decide) ?_
            first | (have q := ih (j + 1) hq k nn (by omega) (by rw [em]; exact hsq) hF (by omega) (by omega); rw [em] at q; exact q) | (have ee : enG g s m (fun x => vaS g s v (gOf g s 1) x (gOf g s 1)) (j + 1) = enG g s m (fun x => vaS g s v (gOf g s 1) x (gOf g s 1)) j := if_neg hn; have ec : ecF g s m (j + 1) = ecF g s m j := (by show ecF g s m j + _ = _; rw [if_neg hn]; rfl); have q := ih (j + 1) hq k nn (by omega) (by rw [em1, ee]; rw [em0] at hsq; exact hsq) hF (by omega) (by omega); rw [em1, ec] at q; rw [em0]; exact q) | (have ee : enG g s m (fun x => vaS g s v (gOf g s 1) x (gOf g s 1)) (j + 1) = shG (enG g s m (fun x => vaS g s v (gOf g s 1) x (gOf g s 1)) j) s (3 * m + 1 + j) (vaS g s v (gOf g s 1) (3 * m + 1 + j) (gOf g s 1)) (gOf g s 2) := if_pos hy; have ec : ecF g s m (j + 1) = ecF g s m j + 1 := (by show ecF g s m j + _ = _; rw [if_pos hy]); refine (fun q => by rw [em1, ec] at q; rw [em0]; exact q) (ih (j + 1) _ (k + 1) (nn + 3) (by omega) ?_ ((hF.new2 f_44).put2 (g_upf y4 f_44) rfl rfl) (by omega) (by omega)); rw [em1, ee]; rw [em0] at y1 y2 y3 y5 y6; exact ⟨c9, b9, p9, fc9, _, seX.sh ⟨y1, y2, y3, y4, y5, y6⟩ f_44 ⟨by omega, by omega⟩ (by rw [enG_w (by decide)]; exact hw.2.2.2.2.2.1) (by rw [enG_w (by decide)]; exact hk8) (by omega)⟩)
  refine g_iconst (nI 0) dX2_enroll_0 (by decide) ?_
  refine g_istore4 dX2_enroll_1 (by decide) ?_
  refine g_iload3 dX2_enroll_3 ?_
  refine g_callSN (ctX1_firstPlace _) kX1_firstPlace q1079 (by decide) ⟨Nat.le_of_ble_eq_true rfl, Nat.le_of_ble_eq_true rfl⟩ rfl (Nat.le_of_ble_eq_true rfl) dX2_enroll_4 k_x (k_n (fun r_4 h_4 p_4 => ?_))
  obtain ⟨rfl, z_4⟩ := p_4
  rw [z_4]
  refine g_istore5 dX2_enroll_7 (by decide) ?_
  exact K 3 0 h 0 0 (by omega) (by rw [Nat.zero_min]; exact hs) Fr.rf (by decide) (by decide)
