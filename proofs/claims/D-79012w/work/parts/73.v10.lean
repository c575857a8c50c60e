/-! THE VAULT: expel -/
set_option maxRecDepth 100000
theorem tRem_at (M : TW) (s x k : Nat) : (∀ i, i < 38 + 124 * s + (52 + 3 * (x - 1)) ∨ 38 + 124 * s + (52 + 3 * (x - 1)) + k ≤ i → tRem M s x k 1 i = M 1 i) ∧ ∀ i, 38 + 124 * s + (52 + 3 * (x - 1)) ≤ i → i < 38 + 124 * s + (52 + 3 * (x - 1)) + k → tRem M s x k 1 i = 0 := by
  induction k with
  | zero => exact ⟨fun i _ => rfl, fun i h1 h2 => by omega⟩
  | succ k ih =>
    refine ⟨fun i hi => ?_, fun i h1 h2 => ?_⟩
    · rw [tRem, tset_sn _ _ _ (by omega)]
      exact ih.1 i (by omega)
    · by_cases e : i = 38 + 124 * s + (52 + 3 * (x - 1) + k)
      · rw [e]
        exact tset_ss _ _ _ _
      · rw [tRem, tset_sn _ _ _ (by omega)]
        exact ih.2 i h1 (by omega)
theorem exP_at (M : TW) (s m i : Nat) : (∀ j, j < 38 + 124 * s + 52 + 9 * m ∨ 38 + 124 * s + 52 + 9 * m + 3 * i ≤ j → exP M s m i 1 j = M 1 j) ∧ (∀ j, 38 + 124 * s + 52 + 9 * m ≤ j → j < 38 + 124 * s + 52 + 9 * m + 3 * i → exP M s m i 1 j = 0) ∧ ∀ b, b ≠ 1 → exP M s m i b = M b := by
  induction i with
  | zero => exact ⟨fun j _ => rfl, fun j h1 h2 => by omega, fun b _ => rfl⟩
  | succ i ih =>
    obtain ⟨t1, t2⟩ := tRem_at (exP M s m i) s (3 * m + 1 + i) 3
    refine ⟨fun j hj => ?_, fun j h1 h2 => ?_, fun b hb => ?_⟩
    · rw [exP, t1 j (by omega)]
      exact ih.1 j (by omega)
    · by_cases e : 38 + 124 * s + 52 + 9 * m + 3 * i ≤ j
      · exact t2 j (by omega) (by omega)
      · rw [exP, t1 j (by omega)]
        exact ih.2.1 j h1 (by omega)
    · rw [exP, tRem_n _ _ _ _ _ hb]
      exact ih.2.2 b hb
theorem exN_ms (M : TW) (s m : Nat) : ∀ i, exN M s m i = msF (M 1) s m i
  | 0 => rfl
  | i + 1 => by
    have e : gSh (exP M s m i 1) s (3 * m + 1 + i) 0 = gSh (M 1) s (3 * m + 1 + i) 0 := by
      rw [gSh_of, gSh_of]
      exact (exP_at M s m i).1 _ (by omega)
    rw [exN, exN_ms M s m i, e]
    rfl
theorem seX.ex {E : GE} {S : Nat} {g g' : Nat → Nat} {s a c b : Nat} {p : Option Nat} {fc : Nat → Nat} {fs : Nat → Option Nat} {h h' : AH} {P : Nat → Prop} (hs : seX E S g s a c b p fc fs h) (hf : Fr P h h') (hp : ∀ u, P u → u = S + 2 ∨ 1000 ≤ u) (hS : 8 < S ∧ S + 28 ≤ 1000) (hle : gOf g s 11 ≤ 40) (hk : gOf g s 1 ≤ 8) (f : Nat → Option Nat) (hb : h' b = some (S + 2, gAR E 7 25 f)) (lo hi : Nat) (hf1 : ∀ x, f x = if lo ≤ x ∧ x < hi then none else fs x) (hg : ∀ w, w < 52 → gOf g' s w = gOf g s w) (hin : ∀ x, 1 ≤ x → x ≤ 24 → (lo ≤ x ∧ x < hi → gSh g' s x 0 = 0) ∧ (¬ (lo ≤ x ∧ x < hi) → ∀ c, c < 3 → gSh g' s x c = gSh g s x c)) : seX E S g' s a c b p fc f h' := by
  obtain ⟨h1, h2, h3, h4, h5, h6⟩ := hs
  have np : ∀ u, u ≠ S + 2 → u < 1000 → ¬ P u := fun u z1 z2 y => by have := hp u y; omega
  refine ⟨?_, ?_, fun j hj => ?_, hb, fun y y1 y2 => ?_, (h6.cg (g' := g') (hg 11 (by decide)) hle (fun k hk9 => hg _ (by omega))).fr hf (np 7 (by omega) (by decide)) (np 8 (by omega) (by decide))⟩
  · rw [hg 1 (by decide), hg 2 (by decide)]
    exact hf _ _ _ h1 (np _ (by omega) (by omega))
  · rw [hg 1 (by decide)]
    exact hf _ _ _ h2 (np _ (by omega) (by omega))
  · rw [hg 1 (by decide)] at hj
    rw [hg _ (by omega)]
    exact h3 j hj
  · by_cases e : lo ≤ y ∧ y < hi
    · exact Or.inr ⟨by rw [(hin y y1 y2).1 e]; decide, by rw [hf1, if_pos e]⟩
    · have hc := (hin y y1 y2).2 e
      rcases h5 y y1 y2 with ⟨k1, q2, k2, k3⟩ | ⟨k1, k2⟩
      · refine Or.inl ⟨(hc 0 (by decide)).trans k1, q2, by rw [hf1, if_neg e]; exact k2, ?_⟩
        unfold shC at k3 ⊢
        rw [hc 1 (by decide), hc 2 (by decide)]
        exact hf _ _ _ k3 (np _ (by omega) (by omega))
      · exact Or.inr ⟨fun z => k1 ((hc 0 (by decide)).symm.trans z), by rw [hf1, if_neg e]; exact k2⟩
theorem exP_sm {M : TW} {s m : Nat} (hW : vW M) (hm : m ≤ 7) : ∀ j, j < 4 → gOf (exP M s m 3 1) j 11 ≤ 40 ∧ gOf (exP M s m 3 1) j 1 ≤ 8 := fun j hj => by
  obtain ⟨t1, t2, t3⟩ := exP_at M s m 3
  have hx : ∀ w, w < 52 → 38 + 124 * j + w < 38 + 124 * s + 52 + 9 * m ∨ 38 + 124 * s + 52 + 9 * m + 3 * 3 ≤ 38 + 124 * j + w := fun w hw => by
    by_cases q : j ≤ s
    · exact Or.inl (by omega)
    · exact Or.inr (by omega)
  exact ⟨by rw [show gOf (exP M s m 3 1) j 11 = gOf (M 1) j 11 from t1 _ (hx 11 (by decide))]; exact (hW.sm j hj).1, by rw [show gOf (exP M s m 3 1) j 1 = gOf (M 1) j 1 from t1 _ (hx 1 (by decide))]; exact (hW.sm j hj).2⟩
theorem exP_sh {M : TW} {s m : Nat} (x : Nat) (hx1 : 1 ≤ x) : (3 * m + 1 ≤ x ∧ x < 3 * m + 1 + 3 → gSh (exP M s m 3 1) s x 0 = 0) ∧ (¬ (3 * m + 1 ≤ x ∧ x < 3 * m + 1 + 3) → ∀ c, c < 3 → gSh (exP M s m 3 1) s x c = gSh (M 1) s x c) := by
  obtain ⟨t1, t2, t3⟩ := exP_at M s m 3
  refine ⟨fun z => ?_, fun z c hc => ?_⟩
  · rw [gSh_of]
    exact t2 _ (by omega) (by omega)
  · rw [gSh_of, gSh_of]
    exact t1 _ (by omega)
abbrev mX1_expel : GM := (yX1_expel, 6, (some .int), [], { frames := 30, cells := 900, slots := 90000, locals := 1700 }, 255)
theorem kX1_expel : gCv cX1_expel mX1_expel 2 := ⟨q1473, q1474, q67, q1475, ⟨by decide +kernel, by decide +kernel, by decide +kernel⟩, rfl⟩
theorem uX1_expel : gCu cX1_expel mX1_expel 2 := ⟨q1473, q67, q1475, ⟨by decide +kernel, by decide +kernel, by decide +kernel⟩, rfl⟩
set_option maxHeartbeats 400000 in
theorem ctX1_expel {E : GE} {h : AH} {v : Nat} {L9 : List Nat} (M : TW) (s : Nat) (m9 : Nat) (hV : VO E M v L9 h) (hW : vW M) (hs : s < 4294967296) (hm9 : m9 < 4294967296)  : Ct E cX1_expel mX1_expel [.ref v, .int (nI s), .int (nI m9)] (h) (pN fun r h' => xc_expel M s m9 = 0 ∧ r = xv_expel M s m9 ∧ VO E (xm_expel M s m9) v L9 h' ∧ Fr vP h h') (fun C _ h' => cX ["java/lang/IndexOutOfBoundsException", "java/util/NoSuchElementException"] C (xc_expel M s m9) ∧ VO E (xm_expel M s m9) v L9 h' ∧ Fr vP h h') := by
  refine g_enter (own := "SecretVault") [some (.ref v), some (.int (nI s)), some (.int (nI m9)), none, none, none] (by decide +kernel) rfl rfl (Nat.le_of_ble_eq_true rfl) rfl rfl (fun X => ?_)
  obtain ⟨w, b, sv, hv, ⟨aw, ap, az, ad, fw, fp, fz, x1, x2, x3, x4, x5, x6, x7, x8⟩, hsv, hsb, hlen, hch⟩ := id hV
  have K : ∀ a c b9 pp fc fs, s < 4 → m9 ≤ 7 → gOf (M 1) s 0 = 1 → fz s = some a → seX E (110 + 30 * s) (M 1) s a c b9 pp fc fs h → ∀ n i (hq : AH) f, n + i = 3 → hq b9 = some (110 + 30 * s + 2, gAR E 7 25 f) → (∀ x, f x = if 3 * m9 + 1 ≤ x ∧ x < 3 * m9 + 1 + i then none else fs x) → Fr (fun u => u = 110 + 30 * s + 2 ∨ 1000 ≤ u) h hq → V E cX1_expel "SecretVault" mX1_expel (pN fun r h' => xc_expel M s m9 = 0 ∧ r = xv_expel M s m9 ∧ VO E (xm_expel M s m9) v L9 h' ∧ Fr vP h h') (fun C _ h' => cX ["java/lang/IndexOutOfBoundsException", "java/util/NoSuchElementException"] C (xc_expel M s m9) ∧ VO E (xm_expel M s m9) v L9 h' ∧ Fr vP h h') X (hq) 100 9000 35 [some (.ref v), some (.int (nI s)), some (.int (nI m9)), some (.ref a), some (.int (nI (msF (M 1) s m9 3))), some (.int (nI (3 * m9 + 1 + i)))] [] := by
    intro a c b9 pp fc fs hs4 hm7 g1 hfz hse n
    have hsl := hW.s4 s hs4
    induction n with
    | zero =>
      intro i hq f hn0 q4 hf1 hF
      obtain rfl : i = 3 := by omega
      refine g_iload5 dX1_expel_35 ?_
      refine g_iload2 dX1_expel_37 ?_
      refine g_iconst (nI 1) dX1_expel_38 (by decide) ?_
      first | refine g_iaddN dX1_expel_39 ?_ | refine g_iadd dX1_expel_39 ?_
      refine g_callS (ctX1_firstPlace _) kX1_firstPlace q1476 (by decide) ⟨Nat.le_of_ble_eq_true rfl, Nat.le_of_ble_eq_true rfl⟩ rfl (Nat.le_of_ble_eq_true rfl) dX1_expel_40 k_x (k_n (fun r_40 h_40 p_40 => ?_))
      obtain ⟨rfl, z_40⟩ := p_40
      rw [z_40]
      refine V.wide (k' := 100) (n' := 9000) (Nat.le_refl _) (Nat.le_refl _) ?_
      first | refine g_icmpN_ge (tgt := 60) dX1_expel_43 (by decide) (by omega) (by omega) (fun c_43 => ?_) (fun c_43 => ?_) | refine g_icmp_ge (tgt := 60) dX1_expel_43 (by decide) (fun c_43 => ?_) (fun c_43 => ?_)
      · have t9 := exP_at M s m9 3
        obtain ⟨⟨w2, b2, sv2, hv2, ⟨aw2, ap2, az2, ad2, fw2, fp2, fz2, X1, X2, X3, X4, X5, X6, X7, X8⟩, hsv2, hsb2, hlen2, hch2⟩, hF1⟩ := VO.sl (M' := exP M s m9 3) (s := s) (fz' := fz) (P := (fun u => u = 110 + 30 * s + 2 ∨ 1000 ≤ u)) hs4 hW ⟨x1, x2, x3, x4, x5, x6, x7, x8⟩ ⟨hv, ⟨aw, ap, az, ad, fw, fp, fz, x1, x2, x3, x4, x5, x6, x7, x8⟩, hsv, hsb, hlen, hch⟩ hF (fun u z => by omega) (hF _ _ _ x6 (by omega)) (fun _ _ => rfl) (Or.inl ⟨(t9.1 _ (by omega)).trans g1, a, hfz, _, _, _, _, _, seX.ex hse hF (fun u z => z) ⟨by omega, by omega⟩ hsl.2.2.2.2.2.1 hsl.2.2.1 f q4 _ _ hf1 (fun w9 hw9 => t9.1 _ (by omega)) (fun x y1 y2 => exP_sh x y1)⟩) (fun i hi => t9.1 i (by omega)) (fun j hj hjs w hw => t9.1 _ (by omega)) (by rw [t9.2.2 0 (by decide)]) (by rw [t9.2.2 0 (by decide)]) (by rw [t9.2.2 0 (by decide)]) (by rw [t9.2.2 0 (by decide)]) (t9.2.2 2 (by decide)) (t9.2.2 8 (by decide)) (t9.2.2 9 (by decide)) (t9.2.2 14 (by decide))
        first | refine g_aload0 dX1_expel_60 ?_ | refine g_aloadQ0 dX1_expel_60 ?_ | refine g_aloadN0 dX1_expel_60 ?_
        refine g_get (k0 := 0) (by first | assumption | exact g_up_self _ _ _ | (refine g_upf ?_ ?_ <;> assumption) | (refine g_upt ?_ ?_ (by decide) <;> assumption)) in_X1 q577 rfl (by decide) rfl dX1_expel_61 ?_
        refine g_sipush (nI 600) dX1_expel_64 (by decide) ?_
        refine g_bipush (nI 10) dX1_expel_67 (by decide) ?_
        refine g_iload1 dX1_expel_69 ?_
        first | refine g_imulN dX1_expel_70 ?_ | refine g_imul dX1_expel_70 ?_
        first | refine g_iaddN dX1_expel_71 ?_ | refine g_iadd dX1_expel_71 ?_
        refine g_iload2 dX1_expel_72 ?_
        first | refine g_iaddN dX1_expel_73 ?_ | refine g_iadd dX1_expel_73 ?_
        refine g_callVR (ctX2_note X1 X8 (by decide) ⟨by decide, by decide⟩ (by omega)) kX2_note q1105 (gRv.g X1 rfl rfl) (by decide) ⟨Nat.le_of_ble_eq_true rfl, Nat.le_of_ble_eq_true rfl⟩ rfl (Nat.le_of_ble_eq_true rfl) dX1_expel_74 k_x (k_v (fun h_74 p_74 => ?_))
        obtain ⟨d_74, f_74⟩ := p_74
        have q9 := VO.ev (c := 600 + 10 * s + m9) ⟨X1, X2, X3, X4, X5, X6, X7, X8⟩ ⟨hv2, ⟨aw2, ap2, az2, ad2, fw2, fp2, fz2, X1, X2, X3, X4, X5, X6, X7, X8⟩, hsv2, hsb2, hlen2, hch2⟩ (by rw [exP_g _ _ _ _ _ (by decide)]; exact hW.h17) (exP_sm hW hm7) d_74 f_74
        refine g_iload4 dX1_expel_77 ?_
        exact g_iret dX1_expel_79 rfl ⟨_, rfl, (by unfold xc_expel; (repeat' split) <;> first | rfl | (exfalso; omega)), (exN_ms M s m9 3).symm, (by unfold xm_expel; rw [if_pos ⟨by omega, by omega, by omega⟩]; exact q9.1), hF1.tr q9.2⟩
      · omega
    | succ n ih =>
      intro i hq f hn0 q4 hf1 hF
      have qa := hF _ _ _ hse.1 (by omega)
      refine g_iload5 dX1_expel_35 ?_
      refine g_iload2 dX1_expel_37 ?_
      refine g_iconst (nI 1) dX1_expel_38 (by decide) ?_
      first | refine g_iaddN dX1_expel_39 ?_ | refine g_iadd dX1_expel_39 ?_
      refine g_callS (ctX1_firstPlace _) kX1_firstPlace q1476 (by decide) ⟨Nat.le_of_ble_eq_true rfl, Nat.le_of_ble_eq_true rfl⟩ rfl (Nat.le_of_ble_eq_true rfl) dX1_expel_40 k_x (k_n (fun r_40 h_40 p_40 => ?_))
      obtain ⟨rfl, z_40⟩ := p_40
      rw [z_40]
      refine V.wide (k' := 100) (n' := 9000) (Nat.le_refl _) (Nat.le_refl _) ?_
      first | refine g_icmpN_ge (tgt := 60) dX1_expel_43 (by decide) (by omega) (by omega) (fun c_43 => ?_) (fun c_43 => ?_) | refine g_icmp_ge (tgt := 60) dX1_expel_43 (by decide) (fun c_43 => ?_) (fun c_43 => ?_)
      · omega
      · first | refine g_aload3 dX1_expel_46 ?_ | refine g_aloadQ3 dX1_expel_46 ?_ | refine g_aloadN3 dX1_expel_46 ?_
        refine g_getN (k0 := 4) (by first | assumption | exact g_up_self _ _ _ | (refine g_upf ?_ ?_ <;> assumption) | (refine g_upt ?_ ?_ (by decide) <;> assumption)) in_X5 q671 rfl (by decide) rfl dX1_expel_47 ?_
        refine g_iload5 dX1_expel_50 ?_
        refine g_null dX1_expel_52 ?_
        refine g_aastN q4 rfl (by omega) (by omega) dX1_expel_53 ?_
        first | refine g_iincN5 1 dX1_expel_54 (by decide) (by decide) ?_ | refine g_iinc5 _ dX1_expel_54 rfl (by decide) ?_
        refine g_goto (tgt := 35) dX1_expel_57 (by decide) ?_
        exact ih (i + 1) _ _ (by omega) (g_up_self _ _ _) (fun x => by by_cases e : x = 3 * m9 + 1 + i; (rw [e, nup_self, if_pos (by omega)]); (rw [nup_ne _ _ e, hf1]; by_cases e2 : 3 * m9 + 1 ≤ x ∧ x < 3 * m9 + 1 + i; (rw [if_pos e2, if_pos (by omega)]); (rw [if_neg e2, if_neg (by omega)]))) (hF.put2 q4 (Or.inl rfl) rfl)
  refine g_iload1 dX1_expel_0 ?_
  refine g_iconst (nI 4) dX1_expel_1 (by decide) ?_
  refine g_callS (ctX1_requireIndex s 4 (by omega) (by decide)) kX1_requireIndex q917 (by decide) ⟨Nat.le_of_ble_eq_true rfl, Nat.le_of_ble_eq_true rfl⟩ rfl (Nat.le_of_ble_eq_true rfl) dX1_expel_2 (fun C_ q_ h2_ px => by obtain ⟨rfl, c_2, rfl⟩ := px; exact gx_out0 rfl ⟨(by unfold cX xc_expel; (repeat' split) <;> first | exact ⟨Nat.zero_lt_succ _, rfl⟩ | (exfalso; omega)), (by unfold xm_expel; (repeat' split) <;> first | exact hV | (exfalso; omega)), Fr.rf⟩ (Nat.le_of_ble_eq_true rfl) (Nat.le_of_ble_eq_true rfl)) (k_v (fun h_2 p_2 => ?_))
  obtain ⟨i_2, z_2⟩ := p_2
  rw [z_2]
  refine g_iload2 dX1_expel_5 ?_
  refine g_callS (ctX1_requireMember m9 (by omega)) kX1_requireMember q914 (by decide) ⟨Nat.le_of_ble_eq_true rfl, Nat.le_of_ble_eq_true rfl⟩ rfl (Nat.le_of_ble_eq_true rfl) dX1_expel_6 (fun C_ q_ h2_ px => by obtain ⟨rfl, c_6, rfl⟩ := px; exact gx_out0 rfl ⟨(by unfold cX xc_expel; (repeat' split) <;> first | exact ⟨Nat.zero_lt_succ _, rfl⟩ | (exfalso; omega)), (by unfold xm_expel; (repeat' split) <;> first | exact hV | (exfalso; omega)), Fr.rf⟩ (Nat.le_of_ble_eq_true rfl) (Nat.le_of_ble_eq_true rfl)) (k_v (fun h_6 p_6 => ?_))
  obtain ⟨i_6, z_6⟩ := p_6
  rw [z_6]
  first | refine g_aload0 dX1_expel_9 ?_ | refine g_aloadQ0 dX1_expel_9 ?_ | refine g_aloadN0 dX1_expel_9 ?_
  refine g_iload1 dX1_expel_10 ?_
  refine g_callVR (ctX1_secretInX ⟨hv, ⟨aw, ap, az, ad, fw, fp, fz, x1, x2, x3, x4, x5, x6, x7, x8⟩, hsv, hsb, hlen, hch⟩ ⟨x1, x2, x3, x4, x5, x6, x7, x8⟩ hW s (by omega)) kX1_secretIn q1135 (gRv.g hv rfl rfl) (by decide) ⟨Nat.le_of_ble_eq_true rfl, Nat.le_of_ble_eq_true rfl⟩ rfl (Nat.le_of_ble_eq_true rfl) dX1_expel_11 (fun C_ q_ h2_ px => by obtain ⟨rfl, c_11, rfl⟩ := px; exact gx_out0 rfl ⟨(by unfold cX xc_expel; (repeat' split) <;> first | exact ⟨Nat.zero_lt_succ _, rfl⟩ | (exfalso; omega)), (by unfold xm_expel; (repeat' split) <;> first | exact hV | (exfalso; omega)), Fr.rf⟩ (Nat.le_of_ble_eq_true rfl) (Nat.le_of_ble_eq_true rfl)) (k_r (fun r_11 h_11 p_11 => ?_))
  obtain ⟨g1, hfz, hse, z_11⟩ := p_11
  rw [z_11]
  first | refine g_astore3 dX1_expel_14 (by decide) ?_ | refine g_astoreQ3 dX1_expel_14 (by decide) ?_ | refine g_astoreN3 dX1_expel_14 (by decide) ?_
  have hp2 := p2_le m9 (by omega)
  obtain ⟨cc_, bb_, pp_, fc, fs_, y1, y2, y3, y4, y5, y6⟩ := id hse
  first | refine g_aload3 dX1_expel_15 ?_ | refine g_aloadQ3 dX1_expel_15 ?_ | refine g_aloadN3 dX1_expel_15 ?_
  refine g_iconst (nI 1) dX1_expel_16 (by decide) ?_
  refine g_iload2 dX1_expel_17 ?_
  refine g_ishlN dX1_expel_18 (by omega) (by omega) ?_
  refine g_callVR (ctX5_sharesOf 1000 _ hse (hW.s4 s (by omega)) g1 (by have := p2_le m9 (by omega); omega) (by omega) (by decide)) kX5_sharesOf q960 hse.rv (by decide) ⟨Nat.le_of_ble_eq_true rfl, Nat.le_of_ble_eq_true rfl⟩ rfl (Nat.le_of_ble_eq_true rfl) dX1_expel_19 k_x (k_r (fun r_19 h_19 p_19 => ?_))
  obtain ⟨hp9, f_19⟩ := p_19
  have hl9 := tlL_m (M 1) s m9 (by omega)
  refine g_callF (ctJ21_size _ hp9.li) uJ21_size q1017 q1020 ⟨q1019, q1018, q1023, q1021, q994⟩ ⟨⟨by decide, by decide⟩, rfl⟩ (LI.at hp9.li).choose_spec rfl (by decide) ⟨Nat.le_of_ble_eq_true rfl, Nat.le_of_ble_eq_true rfl⟩ rfl (Nat.le_of_ble_eq_true rfl) dX1_expel_22 k_x (k_n (fun r_22 h_22 p_22 => ?_))
  obtain ⟨e98, z_22⟩ := p_22
  have e98 := e98.trans (hp9.choose_spec.1.trans hl9)
  subst e98
  rw [z_22]
  refine g_istore4 dX1_expel_27 (by decide) ?_
  refine g_iload2 dX1_expel_29 ?_
  refine g_callS (ctX1_firstPlace _) kX1_firstPlace q1476 (by decide) ⟨Nat.le_of_ble_eq_true rfl, Nat.le_of_ble_eq_true rfl⟩ rfl (Nat.le_of_ble_eq_true rfl) dX1_expel_30 k_x (k_n (fun r_30 h_30 p_30 => ?_))
  obtain ⟨rfl, z_30⟩ := p_30
  rw [z_30]
  refine g_istore5 dX1_expel_33 (by decide) ?_
  refine V.wide (k' := 100) (n' := 9000) (by decide) (by decide) ?_
  exact K _ _ _ _ _ _ (by omega) (by omega) g1 hfz ⟨y1, y2, y3, y4, y5, y6⟩ 3 0 h_19 fs_ rfl (f_19 _ _ _ y4 (by omega)) (fun x => by rw [if_neg (by omega)]) (f_19.mono (fun u z => by omega))
