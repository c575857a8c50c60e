/-! THE VAULT: the buffer -/
set_option maxRecDepth 100000
abbrev bP : Nat → Prop := fun u => u = 11 ∨ u = 12 ∨ 1000 ≤ u
theorem VX9.bf {E : GE} {M M' : TW} {v w b : Nat} {sv : Option Nat} {L : List Nat} {h h' : AH} (hV : VX9 E M v L w b sv h) (hf : Fr bP h h') (hb : SB E 11 h' b (tL (M' 14) (M' 0 15))) (e1 : M' 1 = M 1) (e3 : M' 0 3 = M 0 3) (e10 : M' 0 10 = M 0 10) (e16 : M' 0 16 = M 0 16) (e2 : M' 2 = M 2) (e8 : M' 8 = M 8) (e9 : M' 9 = M 9) : VX9 E M' v L w b sv h' := by
  obtain ⟨h1, h2, h3, h4, h5, h6⟩ := hV
  refine ⟨by rw [e16]; exact hf _ _ _ h1 (by decide), by rw [e1]; exact h2.fr hf (fun t ht => by omega) (by decide) (by decide), ?_, hb, by rw [e10]; exact h5, by rw [e8, e9]; exact h6.fr hf (by decide)⟩
  unfold svO at h3 ⊢
  rw [e3, e2]
  exact h3.imp (fun z => ⟨z.1, z.2.choose, z.2.choose_spec.1, z.2.choose_spec.2.fr hf (fun t ht => by omega) (by decide) (by decide)⟩) id
theorem Fr.bv {h h' : AH} (f : Fr bP h h') : Fr vP h h' := f.mono (fun u z => by omega)
def apL (p : Nat) : Nat → List Nat
  | 0 => []
  | i + 1 => if apB p i = 0 then apL p i else apL p i ++ [apB p i]
theorem apL_len (p : Nat) : ∀ i, (apL p i).length = apN p i
  | 0 => rfl
  | i + 1 => by
    rw [apL, apN]
    split
    · rw [apL_len p i]; rfl
    · rw [List.length_append, apL_len p i]; rfl
theorem tL_snoc (f : Nat → Nat) (n x : Nat) : tL (nup f n x) (n + 1) = tL f n ++ [x] := by
  unfold tL
  rw [List.range_succ, List.map_append, List.map_singleton, nup_self]
  congr 1
  apply List.map_congr_left
  intro k hk
  rw [List.mem_range] at hk
  exact nup_ne _ _ (by omega)
theorem tL_tTa (M : TW) (p : Nat) : ∀ i, tL (tTa M p i 14) (tTa M p i 0 15) = tL (M 14) (M 0 15) ++ apL p i
  | 0 => (List.append_nil _).symm
  | i + 1 => by
    rw [tTa, apL]
    split
    · exact tL_tTa M p i
    · rw [← List.append_assoc, ← tL_tTa M p i, ← tL_snoc]
      rfl
theorem tTa_b (M : TW) (p : Nat) : ∀ i, (∀ c, c ≠ 0 → c ≠ 14 → tTa M p i c = M c) ∧ ∀ j, j ≠ 15 → tTa M p i 0 j = M 0 j
  | 0 => ⟨fun _ _ _ => rfl, fun _ _ => rfl⟩
  | i + 1 => by
    obtain ⟨h1, h2⟩ := tTa_b M p i
    rw [tTa]
    split
    · exact ⟨h1, h2⟩
    · exact ⟨fun c hc hc2 => by rw [tset_n _ _ _ hc, tset_n _ _ _ hc2]; exact h1 c hc hc2, fun j hj => by rw [tset_sn _ _ _ hj, tset_n _ _ _ (by decide)]; exact h2 j hj⟩
abbrev mX1_append : GM := (yX1_append, 5, (some .int), [], { frames := 12, cells := 900, slots := 90000, locals := 300 }, 255)
theorem kX1_append : gCv cX1_append mX1_append 1 := ⟨q1704, q1705, q67, q1706, ⟨by decide +kernel, by decide +kernel, by decide +kernel⟩, rfl⟩
theorem uX1_append : gCu cX1_append mX1_append 1 := ⟨q1704, q67, q1706, ⟨by decide +kernel, by decide +kernel, by decide +kernel⟩, rfl⟩
set_option maxHeartbeats 400000 in
theorem ctX1_append {E : GE} {h : AH} {v : Nat} {L9 : List Nat} (M : TW) (p9 : Nat) (hV : VO E M v L9 h) (hW : vW M) (hp9 : p9 < 4294967296)  : Ct E cX1_append mX1_append [.ref v, .int (nI p9)] (h) (pN fun r h' => xc_append M p9 = 0 ∧ r = xv_append M p9 ∧ VO E (xm_append M p9) v L9 h' ∧ Fr vP h h') (fun C _ h' => cX ["java/lang/IllegalArgumentException", "java/lang/IllegalStateException"] C (xc_append M p9) ∧ VO E (xm_append M p9) v L9 h' ∧ Fr vP h h') := by
  refine g_enter (own := "SecretVault") [some (.ref v), some (.int (nI p9)), none, none, none] (by decide +kernel) rfl rfl (Nat.le_of_ble_eq_true rfl) rfl rfl (fun X => ?_)
  obtain ⟨w, b, sv, hv, ⟨aw, ap, az, ad, fw, fp, fz, x1, x2, x3, x4, x5, x6, x7, x8⟩, hsv, hsb, hlen, hch⟩ := id hV
  have h44 := apN_le p9 4
  have hM := tTa_15 M p9 4
  have hbl : (tL (M 14) (M 0 15)).length = M 0 15 := tL_len _ _
  have hm40 := hW.2.1.1
  obtain ⟨t1, t2⟩ := tTa_b M p9 4
  have hal := apL_len p9 4
  have K4 : ∀ q hh o4, apO p9 4 = 1 → SB E 1020 hh q (apL p9 4) → Fr tP h hh → V E cX1_append "SecretVault" mX1_append (pN fun r h' => xc_append M p9 = 0 ∧ r = xv_append M p9 ∧ VO E (xm_append M p9) v L9 h' ∧ Fr vP h h') (fun C _ h' => cX ["java/lang/IllegalArgumentException", "java/lang/IllegalStateException"] C (xc_append M p9) ∧ VO E (xm_append M p9) v L9 h' ∧ Fr vP h h') X (hh) 42 3300 11 [some (.ref v), some (.int (nI p9)), some (.ref q), some (.int (nI 4294967288)), o4] [] := by
    intro q hh o4 hO hq hF
    have hv2 := hF _ _ _ hv (by decide)
    have hsb2 := hsb.fr hF (by decide) (by decide)
    refine g_iload3 dX1_append_11 ?_
    refine g_if_lt (tgt := 68) dX1_append_12 (by decide) (fun _ => ?_) (fun c => absurd (by decide) c)
    first | refine g_aload0 dX1_append_68 ?_ | refine g_aloadQ0 dX1_append_68 ?_ | refine g_aloadN0 dX1_append_68 ?_
    refine g_get (k0 := 2) (by first | assumption | exact g_up_self _ _ _ | (refine g_upf ?_ ?_ <;> assumption) | (refine g_upt ?_ ?_ (by decide) <;> assumption)) in_X1 q579 rfl (by decide) rfl dX1_append_69 ?_
    refine g_callVR (ctJ4_lengthS hsb2) kJ4_length q1593 hsb2.rv (by decide) ⟨Nat.le_of_ble_eq_true rfl, Nat.le_of_ble_eq_true rfl⟩ rfl (Nat.le_of_ble_eq_true rfl) dX1_append_72 k_x (k_n (fun r_72 h_72 p_72 => ?_))
    obtain ⟨rfl, z_72⟩ := p_72
    rw [z_72]
    first | refine g_aload2 dX1_append_75 ?_ | refine g_aloadQ2 dX1_append_75 ?_ | refine g_aloadN2 dX1_append_75 ?_
    refine g_callVR (ctJ4_lengthS hq) kJ4_length q1593 hq.rv (by decide) ⟨Nat.le_of_ble_eq_true rfl, Nat.le_of_ble_eq_true rfl⟩ rfl (Nat.le_of_ble_eq_true rfl) dX1_append_76 k_x (k_n (fun r_76 h_76 p_76 => ?_))
    obtain ⟨rfl, z_76⟩ := p_76
    rw [z_76]
    first | refine g_iaddN dX1_append_79 ?_ | refine g_iadd dX1_append_79 ?_
    refine g_bipush (nI 40) dX1_append_80 (by decide) ?_
    first | refine g_icmpN_gt (tgt := 89) dX1_append_82 (by decide) (by omega) (by omega) (fun c_82 => ?_) (fun c_82 => ?_) | refine g_icmp_gt (tgt := 89) dX1_append_82 (by decide) (fun c_82 => ?_) (fun c_82 => ?_)
    · refine g_iconst (nI 0) dX1_append_89 (by decide) ?_
      refine g_callS (ctX1_requireState _ (by decide)) kX1_requireState q1080 (by decide) ⟨Nat.le_of_ble_eq_true rfl, Nat.le_of_ble_eq_true rfl⟩ rfl (Nat.le_of_ble_eq_true rfl) dX1_append_90 (fun C_ q_ h2_ px => by obtain ⟨rfl, c_90, rfl⟩ := px; first | exact absurd c_90 (by decide) | exact gx_out0 rfl ⟨(by unfold cX xc_append; (repeat' split) <;> first | exact ⟨Nat.zero_lt_succ _, rfl⟩ | (exfalso; omega)), (by unfold xm_append; rw [if_neg (by omega)]; exact hV.fr hF), hF.mono (fun u z => Nat.le_trans (by decide) z)⟩ (Nat.le_of_ble_eq_true rfl) (Nat.le_of_ble_eq_true rfl)) (k_v (fun h_90 p_90 => ?_))
      obtain ⟨b_90, z_90⟩ := p_90
      rw [z_90]
      first | refine g_aload0 dX1_append_93 ?_ | refine g_aloadQ0 dX1_append_93 ?_ | refine g_aloadN0 dX1_append_93 ?_
      refine g_get (k0 := 2) (by first | assumption | exact g_up_self _ _ _ | (refine g_upf ?_ ?_ <;> assumption) | (refine g_upt ?_ ?_ (by decide) <;> assumption)) in_X1 q579 rfl (by decide) rfl dX1_append_94 ?_
      first | refine g_aload2 dX1_append_97 ?_ | refine g_aloadQ2 dX1_append_97 ?_ | refine g_aloadN2 dX1_append_97 ?_
      refine g_callVR (ctJ4_append_4 hsb2 hq ⟨by decide, by decide, by decide⟩ (by omega) (by omega)) kJ4_append_4 q1708 hsb2.rv (by decide) ⟨Nat.le_of_ble_eq_true rfl, Nat.le_of_ble_eq_true rfl⟩ rfl (Nat.le_of_ble_eq_true rfl) dX1_append_98 k_x (k_r (fun r_98 h_98 p_98 => ?_))
      obtain ⟨e_98, x_98, f_98⟩ := p_98
      rw [e_98]
      have F9 : Fr bP h h_98 := (hF.mono (fun u z => Or.inr (Or.inr z))).tr (f_98.mono (fun u z => by omega))
      have hv3 := f_98 _ _ _ hv2 (by decide)
      refine g_pop dX1_append_101 (by first | rfl | exact cat_rf _) ?_
      first | refine g_aload0 dX1_append_102 ?_ | refine g_aloadQ0 dX1_append_102 ?_ | refine g_aloadN0 dX1_append_102 ?_
      refine g_get (k0 := 2) (by first | assumption | exact g_up_self _ _ _ | (refine g_upf ?_ ?_ <;> assumption) | (refine g_upt ?_ ?_ (by decide) <;> assumption)) in_X1 q579 rfl (by decide) rfl dX1_append_103 ?_
      refine g_callVR (ctJ4_lengthS x_98) kJ4_length q1593 x_98.rv (by decide) ⟨Nat.le_of_ble_eq_true rfl, Nat.le_of_ble_eq_true rfl⟩ rfl (Nat.le_of_ble_eq_true rfl) dX1_append_106 k_x (k_n (fun r_106 h_106 p_106 => ?_))
      obtain ⟨rfl, z_106⟩ := p_106
      rw [z_106]
      rw [List.length_append, hbl, hal]
      exact g_iret dX1_append_109 rfl ⟨_, rfl, (by unfold xc_append; (repeat' split) <;> first | rfl | (exfalso; first | omega | exact absurd b_90 (by decide))), rfl, ⟨w, b, sv, by unfold xm_append; rw [if_pos ⟨hO, by first | omega | exact absurd b_90 (by decide)⟩]; exact VX9.bf ⟨hv, ⟨aw, ap, az, ad, fw, fp, fz, x1, x2, x3, x4, x5, x6, x7, x8⟩, hsv, hsb, hlen, hch⟩ F9 (by rw [tL_tTa]; exact x_98) (t1 1 (by decide) (by decide)) (t2 3 (by decide)) (t2 10 (by decide)) (t2 16 (by decide)) (t1 2 (by decide) (by decide)) (t1 8 (by decide) (by decide)) (t1 9 (by decide) (by decide))⟩, F9.bv⟩
    · refine g_iconst (nI 1) dX1_append_85 (by decide) ?_
      refine g_goto (tgt := 90) dX1_append_86 (by decide) ?_
      refine g_callS (ctX1_requireState _ (by decide)) kX1_requireState q1080 (by decide) ⟨Nat.le_of_ble_eq_true rfl, Nat.le_of_ble_eq_true rfl⟩ rfl (Nat.le_of_ble_eq_true rfl) dX1_append_90 (fun C_ q_ h2_ px => by obtain ⟨rfl, c_90, rfl⟩ := px; first | exact absurd c_90 (by decide) | exact gx_out0 rfl ⟨(by unfold cX xc_append; (repeat' split) <;> first | exact ⟨Nat.zero_lt_succ _, rfl⟩ | (exfalso; omega)), (by unfold xm_append; rw [if_neg (by omega)]; exact hV.fr hF), hF.mono (fun u z => Nat.le_trans (by decide) z)⟩ (Nat.le_of_ble_eq_true rfl) (Nat.le_of_ble_eq_true rfl)) (k_v (fun h_90 p_90 => ?_))
      obtain ⟨b_90, z_90⟩ := p_90
      rw [z_90]
      first | refine g_aload0 dX1_append_93 ?_ | refine g_aloadQ0 dX1_append_93 ?_ | refine g_aloadN0 dX1_append_93 ?_
      refine g_get (k0 := 2) (by first | assumption | exact g_up_self _ _ _ | (refine g_upf ?_ ?_ <;> assumption) | (refine g_upt ?_ ?_ (by decide) <;> assumption)) in_X1 q579 rfl (by decide) rfl dX1_append_94 ?_
      first | refine g_aload2 dX1_append_97 ?_ | refine g_aloadQ2 dX1_append_97 ?_ | refine g_aloadN2 dX1_append_97 ?_
      refine g_callVR (ctJ4_append_4 hsb2 hq ⟨by decide, by decide, by decide⟩ (by omega) (by omega)) kJ4_append_4 q1708 hsb2.rv (by decide) ⟨Nat.le_of_ble_eq_true rfl, Nat.le_of_ble_eq_true rfl⟩ rfl (Nat.le_of_ble_eq_true rfl) dX1_append_98 k_x (k_r (fun r_98 h_98 p_98 => ?_))
      obtain ⟨e_98, x_98, f_98⟩ := p_98
      rw [e_98]
      have F9 : Fr bP h h_98 := (hF.mono (fun u z => Or.inr (Or.inr z))).tr (f_98.mono (fun u z => by omega))
      have hv3 := f_98 _ _ _ hv2 (by decide)
      refine g_pop dX1_append_101 (by first | rfl | exact cat_rf _) ?_
      first | refine g_aload0 dX1_append_102 ?_ | refine g_aloadQ0 dX1_append_102 ?_ | refine g_aloadN0 dX1_append_102 ?_
      refine g_get (k0 := 2) (by first | assumption | exact g_up_self _ _ _ | (refine g_upf ?_ ?_ <;> assumption) | (refine g_upt ?_ ?_ (by decide) <;> assumption)) in_X1 q579 rfl (by decide) rfl dX1_append_103 ?_
      refine g_callVR (ctJ4_lengthS x_98) kJ4_length q1593 x_98.rv (by decide) ⟨Nat.le_of_ble_eq_true rfl, Nat.le_of_ble_eq_true rfl⟩ rfl (Nat.le_of_ble_eq_true rfl) dX1_append_106 k_x (k_n (fun r_106 h_106 p_106 => ?_))
      obtain ⟨rfl, z_106⟩ := p_106
      rw [z_106]
      rw [List.length_append, hbl, hal]
      exact g_iret dX1_append_109 rfl ⟨_, rfl, (by unfold xc_append; (repeat' split) <;> first | rfl | (exfalso; first | omega | exact absurd b_90 (by decide))), rfl, ⟨w, b, sv, by unfold xm_append; rw [if_pos ⟨hO, by first | omega | exact absurd b_90 (by decide)⟩]; exact VX9.bf ⟨hv, ⟨aw, ap, az, ad, fw, fp, fz, x1, x2, x3, x4, x5, x6, x7, x8⟩, hsv, hsb, hlen, hch⟩ F9 (by rw [tL_tTa]; exact x_98) (t1 1 (by decide) (by decide)) (t2 3 (by decide)) (t2 10 (by decide)) (t2 16 (by decide)) (t1 2 (by decide) (by decide)) (t1 8 (by decide) (by decide)) (t1 9 (by decide) (by decide))⟩, F9.bv⟩
  have K3 : ∀ q hh o4, apO p9 3 = 1 → SB E 1020 hh q (apL p9 3) → Fr tP h hh → V E cX1_append "SecretVault" mX1_append (pN fun r h' => xc_append M p9 = 0 ∧ r = xv_append M p9 ∧ VO E (xm_append M p9) v L9 h' ∧ Fr vP h h') (fun C _ h' => cX ["java/lang/IllegalArgumentException", "java/lang/IllegalStateException"] C (xc_append M p9) ∧ VO E (xm_append M p9) v L9 h' ∧ Fr vP h h') X (hh) 34 2500 11 [some (.ref v), some (.int (nI p9)), some (.ref q), some (.int (nI 0)), o4] [] := by
    intro q hh o4 hO hq hF
    have hb9 := apB_lt p9 3
    have hdv : p9 / 2 ^ 0 ≤ p9 := Nat.div_le_self _ _
    refine g_iload3 dX1_append_11 ?_
    first | refine g_ifN_lt (tgt := 68) dX1_append_12 (by decide) (by omega) (fun c_12 => ?_) (fun c_12 => ?_) | refine g_if_lt (tgt := 68) dX1_append_12 (by decide) (fun c_12 => ?_) (fun c_12 => ?_)
    · omega
    · refine g_iload1 dX1_append_15 ?_
      refine g_iload3 dX1_append_16 ?_
      refine g_iushrN dX1_append_17 (by decide) (by omega) ?_
      refine g_sipush (nI 255) dX1_append_18 (by decide) ?_
      refine g_iand255 dX1_append_21 (by omega) ?_
      rw [show p9 / 2 ^ 0 % 256 = apB p9 3 from rfl]
      refine g_istore4 dX1_append_22 (by decide) ?_
      refine g_iload4 dX1_append_24 ?_
      first | refine g_ifN_eq (tgt := 41) dX1_append_26 (by decide) (by omega) (fun c_26 => ?_) (fun c_26 => ?_) | refine g_if_eq (tgt := 41) dX1_append_26 (by decide) (fun c_26 => ?_) (fun c_26 => ?_)
      · refine g_iconst (nI 1) dX1_append_41 (by decide) ?_
        refine g_goto (tgt := 46) dX1_append_42 (by decide) ?_
        refine g_callS (ctX1_require _ (by decide)) kX1_require q938 (by decide) ⟨Nat.le_of_ble_eq_true rfl, Nat.le_of_ble_eq_true rfl⟩ rfl (Nat.le_of_ble_eq_true rfl) dX1_append_46 (fun C_ q_ h2_ px => by obtain ⟨rfl, c_46, rfl⟩ := px; first | exact absurd c_46 (by decide) | (have hO9 : ¬ apO p9 4 = 1 := apO_down p9 4 0 (by rw [apO, if_neg (by omega)]; decide); exact gx_out0 rfl ⟨(by unfold cX xc_append; rw [if_pos hO9]; exact ⟨Nat.zero_lt_succ _, rfl⟩), (by unfold xm_append; rw [if_neg (fun z => hO9 z.1)]; exact hV.fr hF), hF.mono (fun u z => Nat.le_trans (by decide) z)⟩ (Nat.le_of_ble_eq_true rfl) (Nat.le_of_ble_eq_true rfl))) (k_v (fun h_46 p_46 => ?_))
        obtain ⟨b_46, z_46⟩ := p_46
        rw [z_46]
        refine g_iload4 dX1_append_49 ?_
        first | refine g_ifN_eq (tgt := 62) dX1_append_51 (by decide) (by omega) (fun c_51 => ?_) (fun c_51 => ?_) | refine g_if_eq (tgt := 62) dX1_append_51 (by decide) (fun c_51 => ?_) (fun c_51 => ?_)
        · refine g_iinc3 (nI 4294967288) dX1_append_62 (by decide) (by decide) ?_
          refine g_goto (tgt := 11) dX1_append_65 (by decide) ?_
          refine V.wide (k' := 42) (n' := 3300) (by decide) (by decide) ?_
          exact K4 _ _ _ (by rw [apO, if_pos ⟨hO, by omega⟩]) (by rw [apL]; first | (rw [if_pos (by omega)]; exact hq) | (rw [if_neg (by omega)]; exact x_58)) (by first | exact hF.tr (f_58.tm (fun u z => by omega)) | exact hF)
        · first | refine g_aload2 dX1_append_54 ?_ | refine g_aloadQ2 dX1_append_54 ?_ | refine g_aloadN2 dX1_append_54 ?_
          refine g_iload4 dX1_append_55 ?_
          refine g_i2cN dX1_append_57 (by omega) ?_
          refine g_callVR (ctJ4_append_3 _ hq (by omega) (by have := apL_len p9 3; have := apN_le p9 3; omega)) kJ4_append_3 q1707 hq.rv (by decide) ⟨Nat.le_of_ble_eq_true rfl, Nat.le_of_ble_eq_true rfl⟩ rfl (Nat.le_of_ble_eq_true rfl) dX1_append_58 k_x (k_r (fun r_58 h_58 p_58 => ?_))
          obtain ⟨e_58, x_58, f_58⟩ := p_58
          rw [e_58]
          refine g_pop dX1_append_61 (by first | rfl | exact cat_rf _) ?_
          refine g_iinc3 (nI 4294967288) dX1_append_62 (by decide) (by decide) ?_
          refine g_goto (tgt := 11) dX1_append_65 (by decide) ?_
          refine V.wide (k' := 42) (n' := 3300) (by decide) (by decide) ?_
          exact K4 _ _ _ (by rw [apO, if_pos ⟨hO, by omega⟩]) (by rw [apL]; first | (rw [if_pos (by omega)]; exact hq) | (rw [if_neg (by omega)]; exact x_58)) (by first | exact hF.tr (f_58.tm (fun u z => by omega)) | exact hF)
      · refine g_iload4 dX1_append_29 ?_
        refine g_bipush (nI 33) dX1_append_31 (by decide) ?_
        refine g_bipush (nI 126) dX1_append_33 (by decide) ?_
        refine g_callS (ctX1_in _ 33 126 (by omega) (by decide) (by decide)) kX1_in q935 (by decide) ⟨Nat.le_of_ble_eq_true rfl, Nat.le_of_ble_eq_true rfl⟩ rfl (Nat.le_of_ble_eq_true rfl) dX1_append_35 k_x (k_n (fun r_35 h_35 p_35 => ?_))
        obtain ⟨b_35, i_35, z_35⟩ := p_35
        rw [z_35]
        first | refine g_ifN_eq (tgt := 45) dX1_append_38 (by decide) (by omega) (fun c_38 => ?_) (fun c_38 => ?_) | refine g_if_eq (tgt := 45) dX1_append_38 (by decide) (fun c_38 => ?_) (fun c_38 => ?_)
        · refine g_iconst (nI 0) dX1_append_45 (by decide) ?_
          refine g_callS (ctX1_require _ (by decide)) kX1_require q938 (by decide) ⟨Nat.le_of_ble_eq_true rfl, Nat.le_of_ble_eq_true rfl⟩ rfl (Nat.le_of_ble_eq_true rfl) dX1_append_46 (fun C_ q_ h2_ px => by obtain ⟨rfl, c_46, rfl⟩ := px; first | exact absurd c_46 (by decide) | (have hO9 : ¬ apO p9 4 = 1 := apO_down p9 4 0 (by rw [apO, if_neg (by omega)]; decide); exact gx_out0 rfl ⟨(by unfold cX xc_append; rw [if_pos hO9]; exact ⟨Nat.zero_lt_succ _, rfl⟩), (by unfold xm_append; rw [if_neg (fun z => hO9 z.1)]; exact hV.fr hF), hF.mono (fun u z => Nat.le_trans (by decide) z)⟩ (Nat.le_of_ble_eq_true rfl) (Nat.le_of_ble_eq_true rfl))) (k_v (fun h_46 p_46 => ?_))
          obtain ⟨b_46, z_46⟩ := p_46
          rw [z_46]
          refine g_iload4 dX1_append_49 ?_
          first | refine g_ifN_eq (tgt := 62) dX1_append_51 (by decide) (by omega) (fun c_51 => ?_) (fun c_51 => ?_) | refine g_if_eq (tgt := 62) dX1_append_51 (by decide) (fun c_51 => ?_) (fun c_51 => ?_)
          · refine g_iinc3 (nI 4294967288) dX1_append_62 (by decide) (by decide) ?_
            refine g_goto (tgt := 11) dX1_append_65 (by decide) ?_
            refine V.wide (k' := 42) (n' := 3300) (by decide) (by decide) ?_
            exact K4 _ _ _ (by rw [apO, if_pos ⟨hO, by omega⟩]) (by rw [apL]; first | (rw [if_pos (by omega)]; exact hq) | (rw [if_neg (by omega)]; exact x_58)) (by first | exact hF.tr (f_58.tm (fun u z => by omega)) | exact hF)
          · first | refine g_aload2 dX1_append_54 ?_ | refine g_aloadQ2 dX1_append_54 ?_ | refine g_aloadN2 dX1_append_54 ?_
            refine g_iload4 dX1_append_55 ?_
            refine g_i2cN dX1_append_57 (by omega) ?_
            refine g_callVR (ctJ4_append_3 _ hq (by omega) (by have := apL_len p9 3; have := apN_le p9 3; omega)) kJ4_append_3 q1707 hq.rv (by decide) ⟨Nat.le_of_ble_eq_true rfl, Nat.le_of_ble_eq_true rfl⟩ rfl (Nat.le_of_ble_eq_true rfl) dX1_append_58 k_x (k_r (fun r_58 h_58 p_58 => ?_))
            obtain ⟨e_58, x_58, f_58⟩ := p_58
            rw [e_58]
            refine g_pop dX1_append_61 (by first | rfl | exact cat_rf _) ?_
            refine g_iinc3 (nI 4294967288) dX1_append_62 (by decide) (by decide) ?_
            refine g_goto (tgt := 11) dX1_append_65 (by decide) ?_
            refine V.wide (k' := 42) (n' := 3300) (by decide) (by decide) ?_
            exact K4 _ _ _ (by rw [apO, if_pos ⟨hO, by omega⟩]) (by rw [apL]; first | (rw [if_pos (by omega)]; exact hq) | (rw [if_neg (by omega)]; exact x_58)) (by first | exact hF.tr (f_58.tm (fun u z => by omega)) | exact hF)
        · refine g_iconst (nI 1) dX1_append_41 (by decide) ?_
          refine g_goto (tgt := 46) dX1_append_42 (by decide) ?_
          refine g_callS (ctX1_require _ (by decide)) kX1_require q938 (by decide) ⟨Nat.le_of_ble_eq_true rfl, Nat.le_of_ble_eq_true rfl⟩ rfl (Nat.le_of_ble_eq_true rfl) dX1_append_46 (fun C_ q_ h2_ px => by obtain ⟨rfl, c_46, rfl⟩ := px; first | exact absurd c_46 (by decide) | (have hO9 : ¬ apO p9 4 = 1 := apO_down p9 4 0 (by rw [apO, if_neg (by omega)]; decide); exact gx_out0 rfl ⟨(by unfold cX xc_append; rw [if_pos hO9]; exact ⟨Nat.zero_lt_succ _, rfl⟩), (by unfold xm_append; rw [if_neg (fun z => hO9 z.1)]; exact hV.fr hF), hF.mono (fun u z => Nat.le_trans (by decide) z)⟩ (Nat.le_of_ble_eq_true rfl) (Nat.le_of_ble_eq_true rfl))) (k_v (fun h_46 p_46 => ?_))
          obtain ⟨b_46, z_46⟩ := p_46
          rw [z_46]
          refine g_iload4 dX1_append_49 ?_
          first | refine g_ifN_eq (tgt := 62) dX1_append_51 (by decide) (by omega) (fun c_51 => ?_) (fun c_51 => ?_) | refine g_if_eq (tgt := 62) dX1_append_51 (by decide) (fun c_51 => ?_) (fun c_51 => ?_)
          · refine g_iinc3 (nI 4294967288) dX1_append_62 (by decide) (by decide) ?_
            refine g_goto (tgt := 11) dX1_append_65 (by decide) ?_
            refine V.wide (k' := 42) (n' := 3300) (by decide) (by decide) ?_
            exact K4 _ _ _ (by rw [apO, if_pos ⟨hO, by omega⟩]) (by rw [apL]; first | (rw [if_pos (by omega)]; exact hq) | (rw [if_neg (by omega)]; exact x_58)) (by first | exact hF.tr (f_58.tm (fun u z => by omega)) | exact hF)
          · first | refine g_aload2 dX1_append_54 ?_ | refine g_aloadQ2 dX1_append_54 ?_ | refine g_aloadN2 dX1_append_54 ?_
            refine g_iload4 dX1_append_55 ?_
            refine g_i2cN dX1_append_57 (by omega) ?_
            refine g_callVR (ctJ4_append_3 _ hq (by omega) (by have := apL_len p9 3; have := apN_le p9 3; omega)) kJ4_append_3 q1707 hq.rv (by decide) ⟨Nat.le_of_ble_eq_true rfl, Nat.le_of_ble_eq_true rfl⟩ rfl (Nat.le_of_ble_eq_true rfl) dX1_append_58 k_x (k_r (fun r_58 h_58 p_58 => ?_))
            obtain ⟨e_58, x_58, f_58⟩ := p_58
            rw [e_58]
            refine g_pop dX1_append_61 (by first | rfl | exact cat_rf _) ?_
            refine g_iinc3 (nI 4294967288) dX1_append_62 (by decide) (by decide) ?_
            refine g_goto (tgt := 11) dX1_append_65 (by decide) ?_
            refine V.wide (k' := 42) (n' := 3300) (by decide) (by decide) ?_
            exact K4 _ _ _ (by rw [apO, if_pos ⟨hO, by omega⟩]) (by rw [apL]; first | (rw [if_pos (by omega)]; exact hq) | (rw [if_neg (by omega)]; exact x_58)) (by first | exact hF.tr (f_58.tm (fun u z => by omega)) | exact hF)
  have K2 : ∀ q hh o4, apO p9 2 = 1 → SB E 1020 hh q (apL p9 2) → Fr tP h hh → V E cX1_append "SecretVault" mX1_append (pN fun r h' => xc_append M p9 = 0 ∧ r = xv_append M p9 ∧ VO E (xm_append M p9) v L9 h' ∧ Fr vP h h') (fun C _ h' => cX ["java/lang/IllegalArgumentException", "java/lang/IllegalStateException"] C (xc_append M p9) ∧ VO E (xm_append M p9) v L9 h' ∧ Fr vP h h') X (hh) 26 1700 11 [some (.ref v), some (.int (nI p9)), some (.ref q), some (.int (nI 8)), o4] [] := by
    intro q hh o4 hO hq hF
    have hb9 := apB_lt p9 2
    have hdv : p9 / 2 ^ 8 ≤ p9 := Nat.div_le_self _ _
    refine g_iload3 dX1_append_11 ?_
    first | refine g_ifN_lt (tgt := 68) dX1_append_12 (by decide) (by omega) (fun c_12 => ?_) (fun c_12 => ?_) | refine g_if_lt (tgt := 68) dX1_append_12 (by decide) (fun c_12 => ?_) (fun c_12 => ?_)
    · omega
    · refine g_iload1 dX1_append_15 ?_
      refine g_iload3 dX1_append_16 ?_
      refine g_iushrN dX1_append_17 (by decide) (by omega) ?_
      refine g_sipush (nI 255) dX1_append_18 (by decide) ?_
      refine g_iand255 dX1_append_21 (by omega) ?_
      rw [show p9 / 2 ^ 8 % 256 = apB p9 2 from rfl]
      refine g_istore4 dX1_append_22 (by decide) ?_
      refine g_iload4 dX1_append_24 ?_
      first | refine g_ifN_eq (tgt := 41) dX1_append_26 (by decide) (by omega) (fun c_26 => ?_) (fun c_26 => ?_) | refine g_if_eq (tgt := 41) dX1_append_26 (by decide) (fun c_26 => ?_) (fun c_26 => ?_)
      · refine g_iconst (nI 1) dX1_append_41 (by decide) ?_
        refine g_goto (tgt := 46) dX1_append_42 (by decide) ?_
        refine g_callS (ctX1_require _ (by decide)) kX1_require q938 (by decide) ⟨Nat.le_of_ble_eq_true rfl, Nat.le_of_ble_eq_true rfl⟩ rfl (Nat.le_of_ble_eq_true rfl) dX1_append_46 (fun C_ q_ h2_ px => by obtain ⟨rfl, c_46, rfl⟩ := px; first | exact absurd c_46 (by decide) | (have hO9 : ¬ apO p9 4 = 1 := apO_down p9 3 1 (by rw [apO, if_neg (by omega)]; decide); exact gx_out0 rfl ⟨(by unfold cX xc_append; rw [if_pos hO9]; exact ⟨Nat.zero_lt_succ _, rfl⟩), (by unfold xm_append; rw [if_neg (fun z => hO9 z.1)]; exact hV.fr hF), hF.mono (fun u z => Nat.le_trans (by decide) z)⟩ (Nat.le_of_ble_eq_true rfl) (Nat.le_of_ble_eq_true rfl))) (k_v (fun h_46 p_46 => ?_))
        obtain ⟨b_46, z_46⟩ := p_46
        rw [z_46]
        refine g_iload4 dX1_append_49 ?_
        first | refine g_ifN_eq (tgt := 62) dX1_append_51 (by decide) (by omega) (fun c_51 => ?_) (fun c_51 => ?_) | refine g_if_eq (tgt := 62) dX1_append_51 (by decide) (fun c_51 => ?_) (fun c_51 => ?_)
        · refine g_iinc3 (nI 0) dX1_append_62 (by decide) (by decide) ?_
          refine g_goto (tgt := 11) dX1_append_65 (by decide) ?_
          refine V.wide (k' := 34) (n' := 2500) (by decide) (by decide) ?_
          exact K3 _ _ _ (by rw [apO, if_pos ⟨hO, by omega⟩]) (by rw [apL]; first | (rw [if_pos (by omega)]; exact hq) | (rw [if_neg (by omega)]; exact x_58)) (by first | exact hF.tr (f_58.tm (fun u z => by omega)) | exact hF)
        · first | refine g_aload2 dX1_append_54 ?_ | refine g_aloadQ2 dX1_append_54 ?_ | refine g_aloadN2 dX1_append_54 ?_
          refine g_iload4 dX1_append_55 ?_
          refine g_i2cN dX1_append_57 (by omega) ?_
          refine g_callVR (ctJ4_append_3 _ hq (by omega) (by have := apL_len p9 2; have := apN_le p9 2; omega)) kJ4_append_3 q1707 hq.rv (by decide) ⟨Nat.le_of_ble_eq_true rfl, Nat.le_of_ble_eq_true rfl⟩ rfl (Nat.le_of_ble_eq_true rfl) dX1_append_58 k_x (k_r (fun r_58 h_58 p_58 => ?_))
          obtain ⟨e_58, x_58, f_58⟩ := p_58
          rw [e_58]
          refine g_pop dX1_append_61 (by first | rfl | exact cat_rf _) ?_
          refine g_iinc3 (nI 0) dX1_append_62 (by decide) (by decide) ?_
          refine g_goto (tgt := 11) dX1_append_65 (by decide) ?_
          refine V.wide (k' := 34) (n' := 2500) (by decide) (by decide) ?_
          exact K3 _ _ _ (by rw [apO, if_pos ⟨hO, by omega⟩]) (by rw [apL]; first | (rw [if_pos (by omega)]; exact hq) | (rw [if_neg (by omega)]; exact x_58)) (by first | exact hF.tr (f_58.tm (fun u z => by omega)) | exact hF)
      · refine g_iload4 dX1_append_29 ?_
        refine g_bipush (nI 33) dX1_append_31 (by decide) ?_
        refine g_bipush (nI 126) dX1_append_33 (by decide) ?_
        refine g_callS (ctX1_in _ 33 126 (by omega) (by decide) (by decide)) kX1_in q935 (by decide) ⟨Nat.le_of_ble_eq_true rfl, Nat.le_of_ble_eq_true rfl⟩ rfl (Nat.le_of_ble_eq_true rfl) dX1_append_35 k_x (k_n (fun r_35 h_35 p_35 => ?_))
        obtain ⟨b_35, i_35, z_35⟩ := p_35
        rw [z_35]
        first | refine g_ifN_eq (tgt := 45) dX1_append_38 (by decide) (by omega) (fun c_38 => ?_) (fun c_38 => ?_) | refine g_if_eq (tgt := 45) dX1_append_38 (by decide) (fun c_38 => ?_) (fun c_38 => ?_)
        · refine g_iconst (nI 0) dX1_append_45 (by decide) ?_
          refine g_callS (ctX1_require _ (by decide)) kX1_require q938 (by decide) ⟨Nat.le_of_ble_eq_true rfl, Nat.le_of_ble_eq_true rfl⟩ rfl (Nat.le_of_ble_eq_true rfl) dX1_append_46 (fun C_ q_ h2_ px => by obtain ⟨rfl, c_46, rfl⟩ := px; first | exact absurd c_46 (by decide) | (have hO9 : ¬ apO p9 4 = 1 := apO_down p9 3 1 (by rw [apO, if_neg (by omega)]; decide); exact gx_out0 rfl ⟨(by unfold cX xc_append; rw [if_pos hO9]; exact ⟨Nat.zero_lt_succ _, rfl⟩), (by unfold xm_append; rw [if_neg (fun z => hO9 z.1)]; exact hV.fr hF), hF.mono (fun u z => Nat.le_trans (by decide) z)⟩ (Nat.le_of_ble_eq_true rfl) (Nat.le_of_ble_eq_true rfl))) (k_v (fun h_46 p_46 => ?_))
          obtain ⟨b_46, z_46⟩ := p_46
          rw [z_46]
          refine g_iload4 dX1_append_49 ?_
          first | refine g_ifN_eq (tgt := 62) dX1_append_51 (by decide) (by omega) (fun c_51 => ?_) (fun c_51 => ?_) | refine g_if_eq (tgt := 62) dX1_append_51 (by decide) (fun c_51 => ?_) (fun c_51 => ?_)
          · refine g_iinc3 (nI 0) dX1_append_62 (by decide) (by decide) ?_
            refine g_goto (tgt := 11) dX1_append_65 (by decide) ?_
            refine V.wide (k' := 34) (n' := 2500) (by decide) (by decide) ?_
            exact K3 _ _ _ (by rw [apO, if_pos ⟨hO, by omega⟩]) (by rw [apL]; first | (rw [if_pos (by omega)]; exact hq) | (rw [if_neg (by omega)]; exact x_58)) (by first | exact hF.tr (f_58.tm (fun u z => by omega)) | exact hF)
          · first | refine g_aload2 dX1_append_54 ?_ | refine g_aloadQ2 dX1_append_54 ?_ | refine g_aloadN2 dX1_append_54 ?_
            refine g_iload4 dX1_append_55 ?_
            refine g_i2cN dX1_append_57 (by omega) ?_
            refine g_callVR (ctJ4_append_3 _ hq (by omega) (by have := apL_len p9 2; have := apN_le p9 2; omega)) kJ4_append_3 q1707 hq.rv (by decide) ⟨Nat.le_of_ble_eq_true rfl, Nat.le_of_ble_eq_true rfl⟩ rfl (Nat.le_of_ble_eq_true rfl) dX1_append_58 k_x (k_r (fun r_58 h_58 p_58 => ?_))
            obtain ⟨e_58, x_58, f_58⟩ := p_58
            rw [e_58]
            refine g_pop dX1_append_61 (by first | rfl | exact cat_rf _) ?_
            refine g_iinc3 (nI 0) dX1_append_62 (by decide) (by decide) ?_
            refine g_goto (tgt := 11) dX1_append_65 (by decide) ?_
            refine V.wide (k' := 34) (n' := 2500) (by decide) (by decide) ?_
            exact K3 _ _ _ (by rw [apO, if_pos ⟨hO, by omega⟩]) (by rw [apL]; first | (rw [if_pos (by omega)]; exact hq) | (rw [if_neg (by omega)]; exact x_58)) (by first | exact hF.tr (f_58.tm (fun u z => by omega)) | exact hF)
        · refine g_iconst (nI 1) dX1_append_41 (by decide) ?_
          refine g_goto (tgt := 46) dX1_append_42 (by decide) ?_
          refine g_callS (ctX1_require _ (by decide)) kX1_require q938 (by decide) ⟨Nat.le_of_ble_eq_true rfl, Nat.le_of_ble_eq_true rfl⟩ rfl (Nat.le_of_ble_eq_true rfl) dX1_append_46 (fun C_ q_ h2_ px => by obtain ⟨rfl, c_46, rfl⟩ := px; first | exact absurd c_46 (by decide) | (have hO9 : ¬ apO p9 4 = 1 := apO_down p9 3 1 (by rw [apO, if_neg (by omega)]; decide); exact gx_out0 rfl ⟨(by unfold cX xc_append; rw [if_pos hO9]; exact ⟨Nat.zero_lt_succ _, rfl⟩), (by unfold xm_append; rw [if_neg (fun z => hO9 z.1)]; exact hV.fr hF), hF.mono (fun u z => Nat.le_trans (by decide) z)⟩ (Nat.le_of_ble_eq_true rfl) (Nat.le_of_ble_eq_true rfl))) (k_v (fun h_46 p_46 => ?_))
          obtain ⟨b_46, z_46⟩ := p_46
          rw [z_46]
          refine g_iload4 dX1_append_49 ?_
          first | refine g_ifN_eq (tgt := 62) dX1_append_51 (by decide) (by omega) (fun c_51 => ?_) (fun c_51 => ?_) | refine g_if_eq (tgt := 62) dX1_append_51 (by decide) (fun c_51 => ?_) (fun c_51 => ?_)
          · refine g_iinc3 (nI 0) dX1_append_62 (by decide) (by decide) ?_
            refine g_goto (tgt := 11) dX1_append_65 (by decide) ?_
            refine V.wide (k' := 34) (n' := 2500) (by decide) (by decide) ?_
            exact K3 _ _ _ (by rw [apO, if_pos ⟨hO, by omega⟩]) (by rw [apL]; first | (rw [if_pos (by omega)]; exact hq) | (rw [if_neg (by omega)]; exact x_58)) (by first | exact hF.tr (f_58.tm (fun u z => by omega)) | exact hF)
          · first | refine g_aload2 dX1_append_54 ?_ | refine g_aloadQ2 dX1_append_54 ?_ | refine g_aloadN2 dX1_append_54 ?_
            refine g_iload4 dX1_append_55 ?_
            refine g_i2cN dX1_append_57 (by omega) ?_
            refine g_callVR (ctJ4_append_3 _ hq (by omega) (by have := apL_len p9 2; have := apN_le p9 2; omega)) kJ4_append_3 q1707 hq.rv (by decide) ⟨Nat.le_of_ble_eq_true rfl, Nat.le_of_ble_eq_true rfl⟩ rfl (Nat.le_of_ble_eq_true rfl) dX1_append_58 k_x (k_r (fun r_58 h_58 p_58 => ?_))
            obtain ⟨e_58, x_58, f_58⟩ := p_58
            rw [e_58]
            refine g_pop dX1_append_61 (by first | rfl | exact cat_rf _) ?_
            refine g_iinc3 (nI 0) dX1_append_62 (by decide) (by decide) ?_
            refine g_goto (tgt := 11) dX1_append_65 (by decide) ?_
            refine V.wide (k' := 34) (n' := 2500) (by decide) (by decide) ?_
            exact K3 _ _ _ (by rw [apO, if_pos ⟨hO, by omega⟩]) (by rw [apL]; first | (rw [if_pos (by omega)]; exact hq) | (rw [if_neg (by omega)]; exact x_58)) (by first | exact hF.tr (f_58.tm (fun u z => by omega)) | exact hF)
  have K1 : ∀ q hh o4, apO p9 1 = 1 → SB E 1020 hh q (apL p9 1) → Fr tP h hh → V E cX1_append "SecretVault" mX1_append (pN fun r h' => xc_append M p9 = 0 ∧ r = xv_append M p9 ∧ VO E (xm_append M p9) v L9 h' ∧ Fr vP h h') (fun C _ h' => cX ["java/lang/IllegalArgumentException", "java/lang/IllegalStateException"] C (xc_append M p9) ∧ VO E (xm_append M p9) v L9 h' ∧ Fr vP h h') X (hh) 18 900 11 [some (.ref v), some (.int (nI p9)), some (.ref q), some (.int (nI 16)), o4] [] := by
    intro q hh o4 hO hq hF
    have hb9 := apB_lt p9 1
    have hdv : p9 / 2 ^ 16 ≤ p9 := Nat.div_le_self _ _
    refine g_iload3 dX1_append_11 ?_
    first | refine g_ifN_lt (tgt := 68) dX1_append_12 (by decide) (by omega) (fun c_12 => ?_) (fun c_12 => ?_) | refine g_if_lt (tgt := 68) dX1_append_12 (by decide) (fun c_12 => ?_) (fun c_12 => ?_)
    · omega
    · refine g_iload1 dX1_append_15 ?_
      refine g_iload3 dX1_append_16 ?_
      refine g_iushrN dX1_append_17 (by decide) (by omega) ?_
      refine g_sipush (nI 255) dX1_append_18 (by decide) ?_
      refine g_iand255 dX1_append_21 (by omega) ?_
      rw [show p9 / 2 ^ 16 % 256 = apB p9 1 from rfl]
      refine g_istore4 dX1_append_22 (by decide) ?_
      refine g_iload4 dX1_append_24 ?_
      first | refine g_ifN_eq (tgt := 41) dX1_append_26 (by decide) (by omega) (fun c_26 => ?_) (fun c_26 => ?_) | refine g_if_eq (tgt := 41) dX1_append_26 (by decide) (fun c_26 => ?_) (fun c_26 => ?_)
      · refine g_iconst (nI 1) dX1_append_41 (by decide) ?_
        refine g_goto (tgt := 46) dX1_append_42 (by decide) ?_
        refine g_callS (ctX1_require _ (by decide)) kX1_require q938 (by decide) ⟨Nat.le_of_ble_eq_true rfl, Nat.le_of_ble_eq_true rfl⟩ rfl (Nat.le_of_ble_eq_true rfl) dX1_append_46 (fun C_ q_ h2_ px => by obtain ⟨rfl, c_46, rfl⟩ := px; first | exact absurd c_46 (by decide) | (have hO9 : ¬ apO p9 4 = 1 := apO_down p9 2 2 (by rw [apO, if_neg (by omega)]; decide); exact gx_out0 rfl ⟨(by unfold cX xc_append; rw [if_pos hO9]; exact ⟨Nat.zero_lt_succ _, rfl⟩), (by unfold xm_append; rw [if_neg (fun z => hO9 z.1)]; exact hV.fr hF), hF.mono (fun u z => Nat.le_trans (by decide) z)⟩ (Nat.le_of_ble_eq_true rfl) (Nat.le_of_ble_eq_true rfl))) (k_v (fun h_46 p_46 => ?_))
        obtain ⟨b_46, z_46⟩ := p_46
        rw [z_46]
        refine g_iload4 dX1_append_49 ?_
        first | refine g_ifN_eq (tgt := 62) dX1_append_51 (by decide) (by omega) (fun c_51 => ?_) (fun c_51 => ?_) | refine g_if_eq (tgt := 62) dX1_append_51 (by decide) (fun c_51 => ?_) (fun c_51 => ?_)
        · refine g_iinc3 (nI 8) dX1_append_62 (by decide) (by decide) ?_
          refine g_goto (tgt := 11) dX1_append_65 (by decide) ?_
          refine V.wide (k' := 26) (n' := 1700) (by decide) (by decide) ?_
          exact K2 _ _ _ (by rw [apO, if_pos ⟨hO, by omega⟩]) (by rw [apL]; first | (rw [if_pos (by omega)]; exact hq) | (rw [if_neg (by omega)]; exact x_58)) (by first | exact hF.tr (f_58.tm (fun u z => by omega)) | exact hF)
        · first | refine g_aload2 dX1_append_54 ?_ | refine g_aloadQ2 dX1_append_54 ?_ | refine g_aloadN2 dX1_append_54 ?_
          refine g_iload4 dX1_append_55 ?_
          refine g_i2cN dX1_append_57 (by omega) ?_
          refine g_callVR (ctJ4_append_3 _ hq (by omega) (by have := apL_len p9 1; have := apN_le p9 1; omega)) kJ4_append_3 q1707 hq.rv (by decide) ⟨Nat.le_of_ble_eq_true rfl, Nat.le_of_ble_eq_true rfl⟩ rfl (Nat.le_of_ble_eq_true rfl) dX1_append_58 k_x (k_r (fun r_58 h_58 p_58 => ?_))
          obtain ⟨e_58, x_58, f_58⟩ := p_58
          rw [e_58]
          refine g_pop dX1_append_61 (by first | rfl | exact cat_rf _) ?_
          refine g_iinc3 (nI 8) dX1_append_62 (by decide) (by decide) ?_
          refine g_goto (tgt := 11) dX1_append_65 (by decide) ?_
          refine V.wide (k' := 26) (n' := 1700) (by decide) (by decide) ?_
          exact K2 _ _ _ (by rw [apO, if_pos ⟨hO, by omega⟩]) (by rw [apL]; first | (rw [if_pos (by omega)]; exact hq) | (rw [if_neg (by omega)]; exact x_58)) (by first | exact hF.tr (f_58.tm (fun u z => by omega)) | exact hF)
      · refine g_iload4 dX1_append_29 ?_
        refine g_bipush (nI 33) dX1_append_31 (by decide) ?_
        refine g_bipush (nI 126) dX1_append_33 (by decide) ?_
        refine g_callS (ctX1_in _ 33 126 (by omega) (by decide) (by decide)) kX1_in q935 (by decide) ⟨Nat.le_of_ble_eq_true rfl, Nat.le_of_ble_eq_true rfl⟩ rfl (Nat.le_of_ble_eq_true rfl) dX1_append_35 k_x (k_n (fun r_35 h_35 p_35 => ?_))
        obtain ⟨b_35, i_35, z_35⟩ := p_35
        rw [z_35]
        first | refine g_ifN_eq (tgt := 45) dX1_append_38 (by decide) (by omega) (fun c_38 => ?_) (fun c_38 => ?_) | refine g_if_eq (tgt := 45) dX1_append_38 (by decide) (fun c_38 => ?_) (fun c_38 => ?_)
        · refine g_iconst (nI 0) dX1_append_45 (by decide) ?_
          refine g_callS (ctX1_require _ (by decide)) kX1_require q938 (by decide) ⟨Nat.le_of_ble_eq_true rfl, Nat.le_of_ble_eq_true rfl⟩ rfl (Nat.le_of_ble_eq_true rfl) dX1_append_46 (fun C_ q_ h2_ px => by obtain ⟨rfl, c_46, rfl⟩ := px; first | exact absurd c_46 (by decide) | (have hO9 : ¬ apO p9 4 = 1 := apO_down p9 2 2 (by rw [apO, if_neg (by omega)]; decide); exact gx_out0 rfl ⟨(by unfold cX xc_append; rw [if_pos hO9]; exact ⟨Nat.zero_lt_succ _, rfl⟩), (by unfold xm_append; rw [if_neg (fun z => hO9 z.1)]; exact hV.fr hF), hF.mono (fun u z => Nat.le_trans (by decide) z)⟩ (Nat.le_of_ble_eq_true rfl) (Nat.le_of_ble_eq_true rfl))) (k_v (fun h_46 p_46 => ?_))
          obtain ⟨b_46, z_46⟩ := p_46
          rw [z_46]
          refine g_iload4 dX1_append_49 ?_
          first | refine g_ifN_eq (tgt := 62) dX1_append_51 (by decide) (by omega) (fun c_51 => ?_) (fun c_51 => ?_) | refine g_if_eq (tgt := 62) dX1_append_51 (by decide) (fun c_51 => ?_) (fun c_51 => ?_)
          · refine g_iinc3 (nI 8) dX1_append_62 (by decide) (by decide) ?_
            refine g_goto (tgt := 11) dX1_append_65 (by decide) ?_
            refine V.wide (k' := 26) (n' := 1700) (by decide) (by decide) ?_
            exact K2 _ _ _ (by rw [apO, if_pos ⟨hO, by omega⟩]) (by rw [apL]; first | (rw [if_pos (by omega)]; exact hq) | (rw [if_neg (by omega)]; exact x_58)) (by first | exact hF.tr (f_58.tm (fun u z => by omega)) | exact hF)
          · first | refine g_aload2 dX1_append_54 ?_ | refine g_aloadQ2 dX1_append_54 ?_ | refine g_aloadN2 dX1_append_54 ?_
            refine g_iload4 dX1_append_55 ?_
            refine g_i2cN dX1_append_57 (by omega) ?_
            refine g_callVR (ctJ4_append_3 _ hq (by omega) (by have := apL_len p9 1; have := apN_le p9 1; omega)) kJ4_append_3 q1707 hq.rv (by decide) ⟨Nat.le_of_ble_eq_true rfl, Nat.le_of_ble_eq_true rfl⟩ rfl (Nat.le_of_ble_eq_true rfl) dX1_append_58 k_x (k_r (fun r_58 h_58 p_58 => ?_))
            obtain ⟨e_58, x_58, f_58⟩ := p_58
            rw [e_58]
            refine g_pop dX1_append_61 (by first | rfl | exact cat_rf _) ?_
            refine g_iinc3 (nI 8) dX1_append_62 (by decide) (by decide) ?_
            refine g_goto (tgt := 11) dX1_append_65 (by decide) ?_
            refine V.wide (k' := 26) (n' := 1700) (by decide) (by decide) ?_
            exact K2 _ _ _ (by rw [apO, if_pos ⟨hO, by omega⟩]) (by rw [apL]; first | (rw [if_pos (by omega)]; exact hq) | (rw [if_neg (by omega)]; exact x_58)) (by first | exact hF.tr (f_58.tm (fun u z => by omega)) | exact hF)
        · refine g_iconst (nI 1) dX1_append_41 (by decide) ?_
          refine g_goto (tgt := 46) dX1_append_42 (by decide) ?_
          refine g_callS (ctX1_require _ (by decide)) kX1_require q938 (by decide) ⟨Nat.le_of_ble_eq_true rfl, Nat.le_of_ble_eq_true rfl⟩ rfl (Nat.le_of_ble_eq_true rfl) dX1_append_46 (fun C_ q_ h2_ px => by obtain ⟨rfl, c_46, rfl⟩ := px; first | exact absurd c_46 (by decide) | (have hO9 : ¬ apO p9 4 = 1 := apO_down p9 2 2 (by rw [apO, if_neg (by omega)]; decide); exact gx_out0 rfl ⟨(by unfold cX xc_append; rw [if_pos hO9]; exact ⟨Nat.zero_lt_succ _, rfl⟩), (by unfold xm_append; rw [if_neg (fun z => hO9 z.1)]; exact hV.fr hF), hF.mono (fun u z => Nat.le_trans (by decide) z)⟩ (Nat.le_of_ble_eq_true rfl) (Nat.le_of_ble_eq_true rfl))) (k_v (fun h_46 p_46 => ?_))
          obtain ⟨b_46, z_46⟩ := p_46
          rw [z_46]
          refine g_iload4 dX1_append_49 ?_
          first | refine g_ifN_eq (tgt := 62) dX1_append_51 (by decide) (by omega) (fun c_51 => ?_) (fun c_51 => ?_) | refine g_if_eq (tgt := 62) dX1_append_51 (by decide) (fun c_51 => ?_) (fun c_51 => ?_)
          · refine g_iinc3 (nI 8) dX1_append_62 (by decide) (by decide) ?_
            refine g_goto (tgt := 11) dX1_append_65 (by decide) ?_
            refine V.wide (k' := 26) (n' := 1700) (by decide) (by decide) ?_
            exact K2 _ _ _ (by rw [apO, if_pos ⟨hO, by omega⟩]) (by rw [apL]; first | (rw [if_pos (by omega)]; exact hq) | (rw [if_neg (by omega)]; exact x_58)) (by first | exact hF.tr (f_58.tm (fun u z => by omega)) | exact hF)
          · first | refine g_aload2 dX1_append_54 ?_ | refine g_aloadQ2 dX1_append_54 ?_ | refine g_aloadN2 dX1_append_54 ?_
            refine g_iload4 dX1_append_55 ?_
            refine g_i2cN dX1_append_57 (by omega) ?_
            refine g_callVR (ctJ4_append_3 _ hq (by omega) (by have := apL_len p9 1; have := apN_le p9 1; omega)) kJ4_append_3 q1707 hq.rv (by decide) ⟨Nat.le_of_ble_eq_true rfl, Nat.le_of_ble_eq_true rfl⟩ rfl (Nat.le_of_ble_eq_true rfl) dX1_append_58 k_x (k_r (fun r_58 h_58 p_58 => ?_))
            obtain ⟨e_58, x_58, f_58⟩ := p_58
            rw [e_58]
            refine g_pop dX1_append_61 (by first | rfl | exact cat_rf _) ?_
            refine g_iinc3 (nI 8) dX1_append_62 (by decide) (by decide) ?_
            refine g_goto (tgt := 11) dX1_append_65 (by decide) ?_
            refine V.wide (k' := 26) (n' := 1700) (by decide) (by decide) ?_
            exact K2 _ _ _ (by rw [apO, if_pos ⟨hO, by omega⟩]) (by rw [apL]; first | (rw [if_pos (by omega)]; exact hq) | (rw [if_neg (by omega)]; exact x_58)) (by first | exact hF.tr (f_58.tm (fun u z => by omega)) | exact hF)
  have K0 : ∀ q hh o4, apO p9 0 = 1 → SB E 1020 hh q (apL p9 0) → Fr tP h hh → V E cX1_append "SecretVault" mX1_append (pN fun r h' => xc_append M p9 = 0 ∧ r = xv_append M p9 ∧ VO E (xm_append M p9) v L9 h' ∧ Fr vP h h') (fun C _ h' => cX ["java/lang/IllegalArgumentException", "java/lang/IllegalStateException"] C (xc_append M p9) ∧ VO E (xm_append M p9) v L9 h' ∧ Fr vP h h') X (hh) 10 100 11 [some (.ref v), some (.int (nI p9)), some (.ref q), some (.int (nI 24)), o4] [] := by
    intro q hh o4 hO hq hF
    have hb9 := apB_lt p9 0
    have hdv : p9 / 2 ^ 24 ≤ p9 := Nat.div_le_self _ _
    refine g_iload3 dX1_append_11 ?_
    first | refine g_ifN_lt (tgt := 68) dX1_append_12 (by decide) (by omega) (fun c_12 => ?_) (fun c_12 => ?_) | refine g_if_lt (tgt := 68) dX1_append_12 (by decide) (fun c_12 => ?_) (fun c_12 => ?_)
    · omega
    · refine g_iload1 dX1_append_15 ?_
      refine g_iload3 dX1_append_16 ?_
      refine g_iushrN dX1_append_17 (by decide) (by omega) ?_
      refine g_sipush (nI 255) dX1_append_18 (by decide) ?_
      refine g_iand255 dX1_append_21 (by omega) ?_
      rw [show p9 / 2 ^ 24 % 256 = apB p9 0 from rfl]
      refine g_istore4 dX1_append_22 (by decide) ?_
      refine g_iload4 dX1_append_24 ?_
      first | refine g_ifN_eq (tgt := 41) dX1_append_26 (by decide) (by omega) (fun c_26 => ?_) (fun c_26 => ?_) | refine g_if_eq (tgt := 41) dX1_append_26 (by decide) (fun c_26 => ?_) (fun c_26 => ?_)
      · refine g_iconst (nI 1) dX1_append_41 (by decide) ?_
        refine g_goto (tgt := 46) dX1_append_42 (by decide) ?_
        refine g_callS (ctX1_require _ (by decide)) kX1_require q938 (by decide) ⟨Nat.le_of_ble_eq_true rfl, Nat.le_of_ble_eq_true rfl⟩ rfl (Nat.le_of_ble_eq_true rfl) dX1_append_46 (fun C_ q_ h2_ px => by obtain ⟨rfl, c_46, rfl⟩ := px; first | exact absurd c_46 (by decide) | (have hO9 : ¬ apO p9 4 = 1 := apO_down p9 1 3 (by rw [apO, if_neg (by omega)]; decide); exact gx_out0 rfl ⟨(by unfold cX xc_append; rw [if_pos hO9]; exact ⟨Nat.zero_lt_succ _, rfl⟩), (by unfold xm_append; rw [if_neg (fun z => hO9 z.1)]; exact hV.fr hF), hF.mono (fun u z => Nat.le_trans (by decide) z)⟩ (Nat.le_of_ble_eq_true rfl) (Nat.le_of_ble_eq_true rfl))) (k_v (fun h_46 p_46 => ?_))
        obtain ⟨b_46, z_46⟩ := p_46
        rw [z_46]
        refine g_iload4 dX1_append_49 ?_
        first | refine g_ifN_eq (tgt := 62) dX1_append_51 (by decide) (by omega) (fun c_51 => ?_) (fun c_51 => ?_) | refine g_if_eq (tgt := 62) dX1_append_51 (by decide) (fun c_51 => ?_) (fun c_51 => ?_)
        · refine g_iinc3 (nI 16) dX1_append_62 (by decide) (by decide) ?_
          refine g_goto (tgt := 11) dX1_append_65 (by decide) ?_
          refine V.wide (k' := 18) (n' := 900) (by decide) (by decide) ?_
          exact K1 _ _ _ (by rw [apO, if_pos ⟨hO, by omega⟩]) (by rw [apL]; first | (rw [if_pos (by omega)]; exact hq) | (rw [if_neg (by omega)]; exact x_58)) (by first | exact hF.tr (f_58.tm (fun u z => by omega)) | exact hF)
        · first | refine g_aload2 dX1_append_54 ?_ | refine g_aloadQ2 dX1_append_54 ?_ | refine g_aloadN2 dX1_append_54 ?_
          refine g_iload4 dX1_append_55 ?_
          refine g_i2cN dX1_append_57 (by omega) ?_
          refine g_callVR (ctJ4_append_3 _ hq (by omega) (by have := apL_len p9 0; have := apN_le p9 0; omega)) kJ4_append_3 q1707 hq.rv (by decide) ⟨Nat.le_of_ble_eq_true rfl, Nat.le_of_ble_eq_true rfl⟩ rfl (Nat.le_of_ble_eq_true rfl) dX1_append_58 k_x (k_r (fun r_58 h_58 p_58 => ?_))
          obtain ⟨e_58, x_58, f_58⟩ := p_58
          rw [e_58]
          refine g_pop dX1_append_61 (by first | rfl | exact cat_rf _) ?_
          refine g_iinc3 (nI 16) dX1_append_62 (by decide) (by decide) ?_
          refine g_goto (tgt := 11) dX1_append_65 (by decide) ?_
          refine V.wide (k' := 18) (n' := 900) (by decide) (by decide) ?_
          exact K1 _ _ _ (by rw [apO, if_pos ⟨hO, by omega⟩]) (by rw [apL]; first | (rw [if_pos (by omega)]; exact hq) | (rw [if_neg (by omega)]; exact x_58)) (by first | exact hF.tr (f_58.tm (fun u z => by omega)) | exact hF)
      · refine g_iload4 dX1_append_29 ?_
        refine g_bipush (nI 33) dX1_append_31 (by decide) ?_
        refine g_bipush (nI 126) dX1_append_33 (by decide) ?_
        refine g_callS (ctX1_in _ 33 126 (by omega) (by decide) (by decide)) kX1_in q935 (by decide) ⟨Nat.le_of_ble_eq_true rfl, Nat.le_of_ble_eq_true rfl⟩ rfl (Nat.le_of_ble_eq_true rfl) dX1_append_35 k_x (k_n (fun r_35 h_35 p_35 => ?_))
        obtain ⟨b_35, i_35, z_35⟩ := p_35
        rw [z_35]
        first | refine g_ifN_eq (tgt := 45) dX1_append_38 (by decide) (by omega) (fun c_38 => ?_) (fun c_38 => ?_) | refine g_if_eq (tgt := 45) dX1_append_38 (by decide) (fun c_38 => ?_) (fun c_38 => ?_)
        · refine g_iconst (nI 0) dX1_append_45 (by decide) ?_
          refine g_callS (ctX1_require _ (by decide)) kX1_require q938 (by decide) ⟨Nat.le_of_ble_eq_true rfl, Nat.le_of_ble_eq_true rfl⟩ rfl (Nat.le_of_ble_eq_true rfl) dX1_append_46 (fun C_ q_ h2_ px => by obtain ⟨rfl, c_46, rfl⟩ := px; first | exact absurd c_46 (by decide) | (have hO9 : ¬ apO p9 4 = 1 := apO_down p9 1 3 (by rw [apO, if_neg (by omega)]; decide); exact gx_out0 rfl ⟨(by unfold cX xc_append; rw [if_pos hO9]; exact ⟨Nat.zero_lt_succ _, rfl⟩), (by unfold xm_append; rw [if_neg (fun z => hO9 z.1)]; exact hV.fr hF), hF.mono (fun u z => Nat.le_trans (by decide) z)⟩ (Nat.le_of_ble_eq_true rfl) (Nat.le_of_ble_eq_true rfl))) (k_v (fun h_46 p_46 => ?_))
          obtain ⟨b_46, z_46⟩ := p_46
          rw [z_46]
          refine g_iload4 dX1_append_49 ?_
          first | refine g_ifN_eq (tgt := 62) dX1_append_51 (by decide) (by omega) (fun c_51 => ?_) (fun c_51 => ?_) | refine g_if_eq (tgt := 62) dX1_append_51 (by decide) (fun c_51 => ?_) (fun c_51 => ?_)
          · refine g_iinc3 (nI 16) dX1_append_62 (by decide) (by decide) ?_
            refine g_goto (tgt := 11) dX1_append_65 (by decide) ?_
            refine V.wide (k' := 18) (n' := 900) (by decide) (by decide) ?_
            exact K1 _ _ _ (by rw [apO, if_pos ⟨hO, by omega⟩]) (by rw [apL]; first | (rw [if_pos (by omega)]; exact hq) | (rw [if_neg (by omega)]; exact x_58)) (by first | exact hF.tr (f_58.tm (fun u z => by omega)) | exact hF)
          · first | refine g_aload2 dX1_append_54 ?_ | refine g_aloadQ2 dX1_append_54 ?_ | refine g_aloadN2 dX1_append_54 ?_
            refine g_iload4 dX1_append_55 ?_
            refine g_i2cN dX1_append_57 (by omega) ?_
            refine g_callVR (ctJ4_append_3 _ hq (by omega) (by have := apL_len p9 0; have := apN_le p9 0; omega)) kJ4_append_3 q1707 hq.rv (by decide) ⟨Nat.le_of_ble_eq_true rfl, Nat.le_of_ble_eq_true rfl⟩ rfl (Nat.le_of_ble_eq_true rfl) dX1_append_58 k_x (k_r (fun r_58 h_58 p_58 => ?_))
            obtain ⟨e_58, x_58, f_58⟩ := p_58
            rw [e_58]
            refine g_pop dX1_append_61 (by first | rfl | exact cat_rf _) ?_
            refine g_iinc3 (nI 16) dX1_append_62 (by decide) (by decide) ?_
            refine g_goto (tgt := 11) dX1_append_65 (by decide) ?_
            refine V.wide (k' := 18) (n' := 900) (by decide) (by decide) ?_
            exact K1 _ _ _ (by rw [apO, if_pos ⟨hO, by omega⟩]) (by rw [apL]; first | (rw [if_pos (by omega)]; exact hq) | (rw [if_neg (by omega)]; exact x_58)) (by first | exact hF.tr (f_58.tm (fun u z => by omega)) | exact hF)
        · refine g_iconst (nI 1) dX1_append_41 (by decide) ?_
          refine g_goto (tgt := 46) dX1_append_42 (by decide) ?_
          refine g_callS (ctX1_require _ (by decide)) kX1_require q938 (by decide) ⟨Nat.le_of_ble_eq_true rfl, Nat.le_of_ble_eq_true rfl⟩ rfl (Nat.le_of_ble_eq_true rfl) dX1_append_46 (fun C_ q_ h2_ px => by obtain ⟨rfl, c_46, rfl⟩ := px; first | exact absurd c_46 (by decide) | (have hO9 : ¬ apO p9 4 = 1 := apO_down p9 1 3 (by rw [apO, if_neg (by omega)]; decide); exact gx_out0 rfl ⟨(by unfold cX xc_append; rw [if_pos hO9]; exact ⟨Nat.zero_lt_succ _, rfl⟩), (by unfold xm_append; rw [if_neg (fun z => hO9 z.1)]; exact hV.fr hF), hF.mono (fun u z => Nat.le_trans (by decide) z)⟩ (Nat.le_of_ble_eq_true rfl) (Nat.le_of_ble_eq_true rfl))) (k_v (fun h_46 p_46 => ?_))
          obtain ⟨b_46, z_46⟩ := p_46
          rw [z_46]
          refine g_iload4 dX1_append_49 ?_
          first | refine g_ifN_eq (tgt := 62) dX1_append_51 (by decide) (by omega) (fun c_51 => ?_) (fun c_51 => ?_) | refine g_if_eq (tgt := 62) dX1_append_51 (by decide) (fun c_51 => ?_) (fun c_51 => ?_)
          · refine g_iinc3 (nI 16) dX1_append_62 (by decide) (by decide) ?_
            refine g_goto (tgt := 11) dX1_append_65 (by decide) ?_
            refine V.wide (k' := 18) (n' := 900) (by decide) (by decide) ?_
            exact K1 _ _ _ (by rw [apO, if_pos ⟨hO, by omega⟩]) (by rw [apL]; first | (rw [if_pos (by omega)]; exact hq) | (rw [if_neg (by omega)]; exact x_58)) (by first | exact hF.tr (f_58.tm (fun u z => by omega)) | exact hF)
          · first | refine g_aload2 dX1_append_54 ?_ | refine g_aloadQ2 dX1_append_54 ?_ | refine g_aloadN2 dX1_append_54 ?_
            refine g_iload4 dX1_append_55 ?_
            refine g_i2cN dX1_append_57 (by omega) ?_
            refine g_callVR (ctJ4_append_3 _ hq (by omega) (by have := apL_len p9 0; have := apN_le p9 0; omega)) kJ4_append_3 q1707 hq.rv (by decide) ⟨Nat.le_of_ble_eq_true rfl, Nat.le_of_ble_eq_true rfl⟩ rfl (Nat.le_of_ble_eq_true rfl) dX1_append_58 k_x (k_r (fun r_58 h_58 p_58 => ?_))
            obtain ⟨e_58, x_58, f_58⟩ := p_58
            rw [e_58]
            refine g_pop dX1_append_61 (by first | rfl | exact cat_rf _) ?_
            refine g_iinc3 (nI 16) dX1_append_62 (by decide) (by decide) ?_
            refine g_goto (tgt := 11) dX1_append_65 (by decide) ?_
            refine V.wide (k' := 18) (n' := 900) (by decide) (by decide) ?_
            exact K1 _ _ _ (by rw [apO, if_pos ⟨hO, by omega⟩]) (by rw [apL]; first | (rw [if_pos (by omega)]; exact hq) | (rw [if_neg (by omega)]; exact x_58)) (by first | exact hF.tr (f_58.tm (fun u z => by omega)) | exact hF)
  refine g_new 6 (1020) [.null, .int 0, .int 0, .int 0] in_J4 tyJ4_ok q192 q193 q73 rfl nwJ4 (Nat.le_of_ble_eq_true rfl) (Nat.le_of_ble_eq_true rfl) dX1_append_0 (fun q_0 f_0 => ?_)
  refine g_dup dX1_append_3 rfl ?_
  refine g_callI (ctJ4_init (t := 1020) (g_up_self _ _ _)) kJ4_init q194 (by decide) ⟨Nat.le_of_ble_eq_true rfl, Nat.le_of_ble_eq_true rfl⟩ rfl (Nat.le_of_ble_eq_true rfl) dX1_append_4 k_x (k_v (fun h_4 p_4 => ?_))
  obtain ⟨x_4, g_4⟩ := p_4
  have F_4 : Fr tP h h_4 := Fa.frN f_0 g_4
  first | refine g_astore2 dX1_append_7 (by decide) ?_ | refine g_astoreQ2 dX1_append_7 (by decide) ?_ | refine g_astoreN2 dX1_append_7 (by decide) ?_
  refine g_bipush (nI 24) dX1_append_8 (by decide) ?_
  refine g_istore3 dX1_append_10 (by decide) ?_
  refine V.wide (k' := 10) (n' := 100) (by decide) (by decide) ?_
  exact K0 _ _ _ rfl x_4 F_4
