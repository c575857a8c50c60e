/-! THE WORLD: copies -/
set_option maxRecDepth 100000
theorem g_upN {h : AH} {q b : Nat} {x : Nat × va_E} (hb : g_up h q x b = none) : h b = none := by
  unfold g_up at hb
  split at hb
  · cases hb
  · exact hb
theorem fit_Z {x : Nat} (h : x ≤ 1) : fits .boolean (.int (nI x)) = true := by
  rcases (show x = 0 ∨ x = 1 by omega) with rfl | rfl <;> rfl
theorem cp8 {f g : Nat → Nat} {m : Nat} (h : m < 8) : cpN f g 0 0 8 m = f m := by
  unfold cpN va_cpy
  rw [if_pos (by omega)]
  congr 1
  omega
abbrev cpP (B : Nat) : Nat → Prop := fun u => u = B + 4 ∨ u = B + 5 ∨ u = 1080
theorem seO.at {E : GE} {S : Nat} {g : Nat → Nat} {s a : Nat} {h : AH} (hs : seO E S g s a h) : ∃ fs, h a = some (S, gO 3 fs) := by
  obtain ⟨c, b, p, fc, fs, h1, -⟩ := hs
  exact ⟨_, h1⟩
theorem take_s {L : List Nat} {i v : Nat} (h : L[i]? = some v) : L.take i ++ [v] = L.take (i + 1) := by
  rw [List.take_succ, h]
  rfl
abbrev mX2_copy : GM := (yX2_copy, 4, (some (.object "SecretVault$World")), [], { frames := 5, cells := 160, slots := 1900, locals := 154 }, 255)
theorem kX2_copy : gCv cX2_copy mX2_copy 0 := ⟨q636, q637, q68, q638, ⟨by decide +kernel, by decide +kernel, by decide +kernel⟩, rfl⟩
theorem uX2_copy : gCu cX2_copy mX2_copy 0 := ⟨q636, q68, q638, ⟨by decide +kernel, by decide +kernel, by decide +kernel⟩, rfl⟩
set_option maxHeartbeats 400000 in
theorem ctX2_copy {E : GE} {h : AH} {B a : Nat} {g : Nat → Nat} (C : Nat) (hw : WO E B g a h) (hg : ∀ s, s < 4 → slW g s) (hb : wB g) (h17 : g 17 ≤ 20) (hev : ∀ v ∈ evL g, v < 2147483648) (hBC : B + 128 ≤ C ∨ C + 128 ≤ B) (hB : 8 < B ∧ B + 128 ≤ 1000) (hC : 8 < C ∧ C + 128 ≤ 1000) : Ct E cX2_copy mX2_copy [.ref a] (h) (pR fun r h' => WO E C g r h' ∧ Fr (cpP C) h h') (noX) := by
  refine g_enter (own := "SecretVault$World") [some (.ref a), none, none, none] (by decide +kernel) rfl rfl (Nat.le_of_ble_eq_true rfl) rfl rfl (fun X => ?_)
  obtain ⟨aw, ap, az, ad, fw, fp, fz, z1, z2, z3, z4, z5, z6, z7, z8⟩ := hw
  have KD : ∀ (hq : AH) r bw bp bz bd gw gp gz k nn l2 l3, h r = none → hq r = some (C, gO 1 [.ref bw, .ref bp, .ref bz, .ref bd, .int (nI 1)]) → hq bw = some (C + 1, gAIn E 8 gw) → (∀ m, m < 8 → gw m = g (1 + m)) → hq bp = some (C + 2, gAZn E 8 gp) → (∀ m, m < 8 → gp m = g (9 + m)) → hq bz = some (C + 3, gAR E 6 4 gz) → (∀ s, s < 4 → slO E C g s (gz s) hq) → DQ E (C + 4) hq bd (evL g) → Fr (cpP C) h hq → k ≤ 160 → nn ≤ 1900 → V E cX2_copy "SecretVault$World" mX2_copy (pR fun r h' => WO E C g r h' ∧ Fr (cpP C) h h') noX X (hq) k nn 123 [some (.ref a), some (.ref r), l2, l3] [] := by
    intro hq r bw bp bz bd gw gp gz k nn l2 l3 fr q1 q2 q3 q4 q5 q6 q7 q8 hF hk hnn
    have qa := hF _ _ _ z1 (by rintro (q | q | q) <;> omega)
    first | refine g_aload1 dX2_copy_123 ?_ | refine g_aloadQ1 dX2_copy_123 ?_ | refine g_aloadN1 dX2_copy_123 ?_
    first | refine g_aload0 dX2_copy_124 ?_ | refine g_aloadQ0 dX2_copy_124 ?_ | refine g_aloadN0 dX2_copy_124 ?_
    refine g_get (k0 := 4) (by first | assumption | exact g_up_self _ _ _ | (refine g_upf ?_ ?_ <;> assumption) | (refine g_upt ?_ ?_ (by decide) <;> assumption)) in_X2 q179 rfl (by decide) rfl dX2_copy_125 ?_
    refine g_put (k0 := 4) (by first | assumption | exact g_up_self _ _ _ | (refine g_upf ?_ ?_ <;> assumption) | (refine g_upt ?_ ?_ (by decide) <;> assumption)) in_X2 q179 tyX2_ok nmX2 rfl (by decide) rfl (by rfl) (by rfl) (Nat.le_of_ble_eq_true rfl) dX2_copy_128 ?_
    first | refine g_aload1 dX2_copy_131 ?_ | refine g_aloadQ1 dX2_copy_131 ?_ | refine g_aloadN1 dX2_copy_131 ?_
    exact g_aret (hk := by show _ ≤ 160; omega) (hn := by show _ ≤ 1900; omega) dX2_copy_132 rfl (Or.inl ⟨_, rfl⟩) ⟨_, rfl, ⟨bw, bp, bz, bd, gw, gp, gz, g_up_self _ _ _, g_upt q2 q1 (by omega), q3, g_upt q4 q1 (by omega), q5, g_upt q6 q1 (by omega), fun s hs => (q7 s hs).fr (P := fun u => u = C) (Fr.put q1 rfl) (fun t ht => by omega) (by omega) (by omega), q8.fr (P := fun u => u = C) (Fr.put q1 rfl) (by omega) (by omega) (by omega)⟩, hF.upn fr⟩
  have KC : ∀ it arr N hd f, DX E (B + 4) h ad (evL g) arr N hd f → ∀ n i (hq : AH) r bw bp bz bd gw gp gz x k nn l3, n + i = g 17 → hq it = some (1080, gO 10 [.int (nI ((hd + i) % N)), .int (nI ((evL g).length - i)), .int x, .ref ad]) → hq r = some (C, gO 1 [.ref bw, .ref bp, .ref bz, .ref bd, .int (nI 1)]) → hq bw = some (C + 1, gAIn E 8 gw) → (∀ m, m < 8 → gw m = g (1 + m)) → hq bp = some (C + 2, gAZn E 8 gp) → (∀ m, m < 8 → gp m = g (9 + m)) → hq bz = some (C + 3, gAR E 6 4 gz) → (∀ s, s < 4 → slO E C g s (gz s) hq) → DQ E (C + 4) hq bd ((evL g).take i) → Fr (cpP C) h hq → h r = none → k ≤ 115 + 2 * i → nn ≤ 500 + 65 * i → V E cX2_copy "SecretVault$World" mX2_copy (pR fun r h' => WO E C g r h' ∧ Fr (cpP C) h h') noX X (hq) k nn 87 [some (.ref a), some (.ref r), some (.ref it), l3] [] := by
    intro it arr N hd f hx n
    have hel := evL_len g
    induction n with
    | zero =>
      intro i hq r bw bp bz bd gw gp gz x k nn l3 hn0 hit q1 q2 q3 q4 q5 q6 q7 q8 hF fr hk hnn
      have xd := hx.fr hF (by rintro (q | q | q) <;> omega) (by rintro (q | q | q) <;> omega) (by rintro (q | q | q) <;> omega)
      have hz0 : ¬ 0 < (evL g).length - i := by omega
      first | refine g_aload2 dX2_copy_87 ?_ | refine g_aloadQ2 dX2_copy_87 ?_ | refine g_aloadN2 dX2_copy_87 ?_
      refine g_callF (ctJ31_hasNext hit (by omega)) uJ31_hasNext q750 q754 ⟨q752, q751, q757, q755, q753⟩ ⟨⟨by decide, by decide⟩, rfl⟩ hit rfl (by decide) ⟨by show k + 0 ≤ 160; omega, by show nn + 0 ≤ 1900; omega⟩ rfl (Nat.le_of_ble_eq_true rfl) dX2_copy_88 k_x (k_n (fun r_88 h_88 p_88 => ?_))
      obtain ⟨rfl, z_88⟩ := p_88
      rw [z_88]
      refine V.wide (k' := k) (n' := nn) (Nat.le_refl _) (Nat.le_refl _) ?_
      first | refine g_ifN_eq (tgt := 123) dX2_copy_93 (by decide) (by (first | omega | (split <;> omega))) (fun c_93 => ?_) (fun c_93 => ?_) | refine g_if_eq (tgt := 123) dX2_copy_93 (by decide) (fun c_93 => ?_) (fun c_93 => ?_)
      · exact KD hq r bw bp bz bd gw gp gz _ _ _ _ fr q1 q2 q3 q4 q5 q6 q7 (by rw [List.take_of_length_le (by omega)] at q8; exact q8) hF (by omega) (by omega)
      · exact absurd (if_neg hz0) c_93
    | succ n ih =>
      intro i hq r bw bp bz bd gw gp gz x k nn l3 hn0 hit q1 q2 q3 q4 q5 q6 q7 q8 hF fr hk hnn
      have xd := hx.fr hF (by rintro (q | q | q) <;> omega) (by rintro (q | q | q) <;> omega) (by rintro (q | q | q) <;> omega)
      have hi : i < g 17 := by omega
      obtain ⟨v, hv⟩ : ∃ v, (evL g)[i]? = some v := ⟨_, evL_at hi⟩
      have hvb := hev v (List.mem_of_getElem? hv)
      first | refine g_aload2 dX2_copy_87 ?_ | refine g_aloadQ2 dX2_copy_87 ?_ | refine g_aloadN2 dX2_copy_87 ?_
      refine g_callF (ctJ31_hasNext hit (by omega)) uJ31_hasNext q750 q754 ⟨q752, q751, q757, q755, q753⟩ ⟨⟨by decide, by decide⟩, rfl⟩ hit rfl (by decide) ⟨by show k + 0 ≤ 160; omega, by show nn + 0 ≤ 1900; omega⟩ rfl (Nat.le_of_ble_eq_true rfl) dX2_copy_88 k_x (k_n (fun r_88 h_88 p_88 => ?_))
      obtain ⟨rfl, z_88⟩ := p_88
      rw [z_88]
      refine V.wide (k' := k) (n' := nn) (Nat.le_refl _) (Nat.le_refl _) ?_
      first | refine g_ifN_eq (tgt := 123) dX2_copy_93 (by decide) (by (first | omega | (split <;> omega))) (fun c_93 => ?_) (fun c_93 => ?_) | refine g_if_eq (tgt := 123) dX2_copy_93 (by decide) (fun c_93 => ?_) (fun c_93 => ?_)
      · (rw [if_pos (by omega)] at c_93; cases c_93)
      · first | refine g_aload2 dX2_copy_96 ?_ | refine g_aloadQ2 dX2_copy_96 ?_ | refine g_aloadN2 dX2_copy_96 ?_
        refine g_callF (ctJ31_next hit xd ⟨by omega, by omega, by omega⟩ hv) uJ31_next q760 q763 ⟨q762, q761, q766, q764, q753⟩ ⟨⟨by decide, by decide⟩, rfl⟩ hit rfl (by decide) ⟨by show k + 0 ≤ 160; omega, by show nn + 0 ≤ 1900; omega⟩ rfl (Nat.le_of_ble_eq_true rfl) dX2_copy_97 k_x (k_r (fun r_97 h_97 p_97 => ?_))
        obtain ⟨b_97, x9, z_97⟩ := p_97
        rw [z_97]
        refine V.wide (k' := k) (n' := nn) (Nat.le_refl _) (Nat.le_refl _) ?_
        have f9 : Fr (fun u => u = 1080) hq h_97 := by
          rw [z_97]
          exact Fr.put hit rfl
        rw [← z_97]
        have hit2 := (congrFun z_97 it).trans (g_up_self _ _ _)
        have bb := b_97.fr f9 (by omega)
        have p1 := f9 _ _ _ q1 (by omega)
        refine g_ckR q795 bb.rv dX2_copy_102 ?_
        refine g_callVR (ctJ17_intValue bb) kJ17_intValue q796 bb.rv (by decide) ⟨by show k + 0 ≤ 160; omega, by show nn + 0 ≤ 1900; omega⟩ rfl (Nat.le_of_ble_eq_true rfl) dX2_copy_105 k_x (k_n (fun r_105 h_105 p_105 => ?_))
        obtain ⟨rfl, z_105⟩ := p_105
        rw [z_105]
        refine V.wide (k' := k) (n' := nn) (Nat.le_refl _) (Nat.le_refl _) ?_
        refine g_istore3 dX2_copy_108 (by decide) ?_
        first | refine g_aload1 dX2_copy_109 ?_ | refine g_aloadQ1 dX2_copy_109 ?_ | refine g_aloadN1 dX2_copy_109 ?_
        refine g_get (k0 := 3) p1 in_X2 q177 rfl (by decide) rfl dX2_copy_110 ?_
        refine g_iload3 dX2_copy_113 ?_
        refine g_callS (ctJ17_valueOf _ hvb) kJ17_valueOf q800 (by decide) ⟨by show k + 1 ≤ 160; omega, by show nn + 1 ≤ 1900; omega⟩ rfl (Nat.le_of_ble_eq_true rfl) dX2_copy_114 k_x (k_r (fun r_114 h_114 p_114 => ?_))
        obtain ⟨b_114, f_114⟩ := p_114
        refine V.wide (k' := k + 1) (n' := nn + 1) (Nat.le_refl _) (Nat.le_refl _) ?_
        have q8b : DQ E (C + 4) h_114 bd ((evL g).take i) := (q8.fr f9 (by omega) (by omega) (by omega)).fr f_114 id id id
        refine g_callVR (ctJ1_addLastQ (by omega) q8b b_114 (by rw [List.length_take]; omega)) kJ1_addLast q820 q8b.rv (by decide) ⟨by show k + 1 + 1 ≤ 160; omega, by show nn + 1 + 64 ≤ 1900; omega⟩ rfl (Nat.le_of_ble_eq_true rfl) dX2_copy_117 k_x (k_v (fun h_117 p_117 => ?_))
        obtain ⟨x_117, f_117⟩ := p_117
        refine V.wide (k' := k + 2) (n' := nn + 65) (Nat.le_refl _) (Nat.le_refl _) ?_
        rw [take_s hv] at x_117
        have fA : Fr (fun u => u = 1080 ∨ u = C + 4 ∨ u = C + 5) hq h_117 := ((f9.mono (P' := fun u => u = 1080 ∨ u = C + 4 ∨ u = C + 5) (fun t z => Or.inl z)).tr (f_114.mono (fun t z => z.elim))).tr (f_117.mono (fun t z => Or.inr z))
        have hit3 := f_117 _ _ _ (f_114 _ _ _ hit2 id) (by omega)
        refine g_goto (tgt := 87) dX2_copy_120 (by decide) ?_
        exact ih (i + 1) h_117 r bw bp bz bd gw gp gz _ _ _ _ (by omega) hit3 (fA _ _ _ q1 (by omega)) (fA _ _ _ q2 (by omega)) q3 (fA _ _ _ q4 (by omega)) q5 (fA _ _ _ q6 (by omega)) (fun s hs => (q7 s hs).fr fA (fun t ht => by omega) (by omega) (by omega)) x_117 (hF.tr (fA.mono (fun t z => by rcases z with z | z | z; exact Or.inr (Or.inr z); exact Or.inl z; exact Or.inr (Or.inl z)))) fr (by omega) (by omega)
  have KB : ∀ r bw bp bz bd gw gp, h r = none → h bz = none → ∀ n s (hq : AH) gz k nn, n + s = 4 → hq r = some (C, gO 1 [.ref bw, .ref bp, .ref bz, .ref bd, .int (nI 1)]) → hq bw = some (C + 1, gAIn E 8 gw) → (∀ m, m < 8 → gw m = g (1 + m)) → hq bp = some (C + 2, gAZn E 8 gp) → (∀ m, m < 8 → gp m = g (9 + m)) → hq bz = some (C + 3, gAR E 6 4 gz) → (∀ j, j < s → slO E C g j (gz j) hq) → DQ E (C + 4) hq bd [] → Fr F0r h hq → k ≤ 6 + 27 * s → nn ≤ 45 + 110 * s → V E cX2_copy "SecretVault$World" mX2_copy (pR fun r h' => WO E C g r h' ∧ Fr (cpP C) h h') noX X (hq) k nn 40 [some (.ref a), some (.ref r), some (.int (nI s)), none] [] := by
    intro r bw bp bz bd gw gp fr fz9 n
    induction n with
    | zero =>
      intro s hq gz k nn hn0 q1 q2 q3 q4 q5 q6 q7 q8 hF hk hnn
      have qa := hF.at z1
      have qz := hF.at z6
      obtain rfl : s = 4 := by omega
      obtain ⟨arr, N, hd, f, hx⟩ := z8
      have xd := hx.fr hF id id id
      refine g_iload2 dX2_copy_40 ?_
      refine g_iconst (nI 4) dX2_copy_41 (by decide) ?_
      first | refine g_icmpN_ge (tgt := 79) dX2_copy_42 (by decide) (by omega) (by omega) (fun c_42 => ?_) (fun c_42 => ?_) | refine g_icmp_ge (tgt := 79) dX2_copy_42 (by decide) (fun c_42 => ?_) (fun c_42 => ?_)
      · first | refine g_aload0 dX2_copy_79 ?_ | refine g_aloadQ0 dX2_copy_79 ?_ | refine g_aloadN0 dX2_copy_79 ?_
        refine g_get (k0 := 3) (by first | assumption | exact g_up_self _ _ _ | (refine g_upf ?_ ?_ <;> assumption) | (refine g_upt ?_ ?_ (by decide) <;> assumption)) in_X2 q177 rfl (by decide) rfl dX2_copy_80 ?_
        refine g_callVR (ctJ1_iterator 1080 xd ⟨by omega, by omega, by omega⟩) kJ1_iterator q719 xd.rv (by decide) ⟨by show k + 1 ≤ 160; omega, by show nn + 4 ≤ 1900; omega⟩ rfl (Nat.le_of_ble_eq_true rfl) dX2_copy_83 k_x (k_r (fun r_83 h_83 p_83 => ?_))
        obtain ⟨e_83, z_83⟩ := p_83
        have f8 : Fr F0r hq h_83 := by
          rw [z_83]
          exact Fr.new e_83
        have hit := (congrFun z_83 r_83).trans (g_up_self _ _ _)
        first | refine g_astore2 dX2_copy_86 (by decide) ?_ | refine g_astoreQ2 dX2_copy_86 (by decide) ?_ | refine g_astoreN2 dX2_copy_86 (by decide) ?_
        have e0 : (hd + 0) % N = hd := by rw [Nat.add_zero]; exact Nat.mod_eq_of_lt hx.2.2.2.1
        exact KC r_83 arr N hd f hx (g 17) 0 h_83 r bw bp bz bd gw gp gz _ _ _ _ (by omega) (by rw [e0, Nat.sub_zero]; exact hit) (f8.at q1) (f8.at q2) q3 (f8.at q4) q5 (f8.at q6) (fun s hs => (q7 s hs).fr f8 (fun _ _ => id) id id) (by rw [List.take_zero]; exact q8.fr f8 id id id) ((hF.tr f8).mono (fun t z => z.elim)) fr (by show k + 1 ≤ _; omega) (by show nn + 4 ≤ _; omega)
      · omega
    | succ n ih =>
      intro s hq gz k nn hn0 q1 q2 q3 q4 q5 q6 q7 q8 hF hk hnn
      have qa := hF.at z1
      have qz := hF.at z6
      refine g_iload2 dX2_copy_40 ?_
      refine g_iconst (nI 4) dX2_copy_41 (by decide) ?_
      first | refine g_icmpN_ge (tgt := 79) dX2_copy_42 (by decide) (by omega) (by omega) (fun c_42 => ?_) (fun c_42 => ?_) | refine g_icmp_ge (tgt := 79) dX2_copy_42 (by decide) (fun c_42 => ?_) (fun c_42 => ?_)
      · omega
      · first | refine g_aload1 dX2_copy_45 ?_ | refine g_aloadQ1 dX2_copy_45 ?_ | refine g_aloadN1 dX2_copy_45 ?_
        refine g_get (k0 := 2) (by first | assumption | exact g_up_self _ _ _ | (refine g_upf ?_ ?_ <;> assumption) | (refine g_upt ?_ ?_ (by decide) <;> assumption)) in_X2 q175 rfl (by decide) rfl dX2_copy_46 ?_
        refine g_iload2 dX2_copy_49 ?_
        first | refine g_aload0 dX2_copy_50 ?_ | refine g_aloadQ0 dX2_copy_50 ?_ | refine g_aloadN0 dX2_copy_50 ?_
        refine g_get (k0 := 2) (by first | assumption | exact g_up_self _ _ _ | (refine g_upf ?_ ?_ <;> assumption) | (refine g_upt ?_ ?_ (by decide) <;> assumption)) in_X2 q175 rfl (by decide) rfl dX2_copy_51 ?_
        refine g_iload2 dX2_copy_54 ?_
        refine g_aald qz rfl (by omega) (by omega) dX2_copy_55 ?_
        refine g_ifnonnull (tgt := 63) dX2_copy_56 (by decide) (fun a_56 c_56 => ?_) (fun c_56 => ?_)
        · obtain ⟨hg1, hsq0⟩ := (z7 s (by omega)).s c_56
          have hsq := hsq0.fr hF (fun _ _ => id) id id
          first | refine g_aload0 dX2_copy_63 ?_ | refine g_aloadQ0 dX2_copy_63 ?_ | refine g_aloadN0 dX2_copy_63 ?_
          refine g_get (k0 := 2) (by first | assumption | exact g_up_self _ _ _ | (refine g_upf ?_ ?_ <;> assumption) | (refine g_upt ?_ ?_ (by decide) <;> assumption)) in_X2 q175 rfl (by decide) rfl dX2_copy_64 ?_
          refine g_iload2 dX2_copy_67 ?_
          refine g_aald qz rfl (by omega) (by omega) dX2_copy_68 ?_
          rw [c_56]
          refine g_callVR (ctX5_copy (C + 10 + 30 * s) hsq (hg s (by omega))) kX5_copy q642 hsq.rv (by decide) ⟨by show k + 27 ≤ 160; omega, by show nn + 110 ≤ 1900; omega⟩ rfl (Nat.le_of_ble_eq_true rfl) dX2_copy_69 k_x (k_r (fun r_69 h_69 p_69 => ?_))
          obtain ⟨s_69, f_69⟩ := p_69
          refine V.wide (k' := 6 + 27 * (s + 1)) (n' := 45 + 110 * (s + 1)) (by show k + 27 ≤ _; omega) (by show nn + 110 ≤ _; omega) ?_
          obtain ⟨fs9, s9⟩ := s_69.at
          first | (refine g_aastN q6 rfl (by omega) (by omega) dX2_copy_72 ?_) | (refine g_aastS (f_69.at q6) s9 rfl rfl (by omega) (by omega) dX2_copy_72 ?_)
          first | refine g_iincN2 1 dX2_copy_73 (by decide) (by decide) ?_ | refine g_iinc2 _ dX2_copy_73 rfl (by decide) ?_
          refine g_goto (tgt := 40) dX2_copy_76 (by decide) ?_
          first | exact ih (s + 1) _ _ _ _ (by omega) (g_upt q1 q6 (by omega)) (g_upt q2 q6 (by omega)) q3 (g_upt q4 q6 (by omega)) q5 (g_up_self _ _ _) (fun j hj => by by_cases e : j = s; (rw [e, nup_self]; exact Or.inr ⟨hn, rfl⟩); (rw [nup_ne _ _ e]; exact (q7 j (by omega)).fr (P := fun u => u = C + 3) (Fr.put q6 rfl) (fun t ht => by omega) (by omega) (by omega))) (q8.fr (P := fun u => u = C + 3) (Fr.put q6 rfl) (by omega) (by omega) (by omega)) (hF.upn fz9) (by omega) (by omega) | exact ih (s + 1) _ _ _ _ (by omega) (g_upt (f_69.at q1) (f_69.at q6) (by omega)) (g_upt (f_69.at q2) (f_69.at q6) (by omega)) q3 (g_upt (f_69.at q4) (f_69.at q6) (by omega)) q5 (g_up_self _ _ _) (fun j hj => by by_cases e : j = s; (rw [e, nup_self]; exact Or.inl ⟨hg1, _, rfl, s_69.fr (P := fun u => u = C + 3) (Fr.put (f_69.at q6) rfl) (fun t ht => by omega) (by omega) (by omega)⟩); (rw [nup_ne _ _ e]; exact ((q7 j (by omega)).fr f_69 (fun _ _ => id) id id).fr (P := fun u => u = C + 3) (Fr.put (f_69.at q6) rfl) (fun t ht => by omega) (by omega) (by omega))) ((q8.fr f_69 id id id).fr (P := fun u => u = C + 3) (Fr.put (f_69.at q6) rfl) (by omega) (by omega) (by omega)) ((hF.tr f_69).upn fz9) (Nat.le_refl _) (Nat.le_refl _)
        · have hn := (z7 s (by omega)).n c_56
          refine g_null dX2_copy_59 ?_
          refine g_goto (tgt := 72) dX2_copy_60 (by decide) ?_
          first | (refine g_aastN q6 rfl (by omega) (by omega) dX2_copy_72 ?_) | (refine g_aastS (f_69.at q6) s9 rfl rfl (by omega) (by omega) dX2_copy_72 ?_)
          first | refine g_iincN2 1 dX2_copy_73 (by decide) (by decide) ?_ | refine g_iinc2 _ dX2_copy_73 rfl (by decide) ?_
          refine g_goto (tgt := 40) dX2_copy_76 (by decide) ?_
          first | exact ih (s + 1) _ _ _ _ (by omega) (g_upt q1 q6 (by omega)) (g_upt q2 q6 (by omega)) q3 (g_upt q4 q6 (by omega)) q5 (g_up_self _ _ _) (fun j hj => by by_cases e : j = s; (rw [e, nup_self]; exact Or.inr ⟨hn, rfl⟩); (rw [nup_ne _ _ e]; exact (q7 j (by omega)).fr (P := fun u => u = C + 3) (Fr.put q6 rfl) (fun t ht => by omega) (by omega) (by omega))) (q8.fr (P := fun u => u = C + 3) (Fr.put q6 rfl) (by omega) (by omega) (by omega)) (hF.upn fz9) (by omega) (by omega) | exact ih (s + 1) _ _ _ _ (by omega) (g_upt (f_69.at q1) (f_69.at q6) (by omega)) (g_upt (f_69.at q2) (f_69.at q6) (by omega)) q3 (g_upt (f_69.at q4) (f_69.at q6) (by omega)) q5 (g_up_self _ _ _) (fun j hj => by by_cases e : j = s; (rw [e, nup_self]; exact Or.inl ⟨hg1, _, rfl, s_69.fr (P := fun u => u = C + 3) (Fr.put (f_69.at q6) rfl) (fun t ht => by omega) (by omega) (by omega)⟩); (rw [nup_ne _ _ e]; exact ((q7 j (by omega)).fr f_69 (fun _ _ => id) id id).fr (P := fun u => u = C + 3) (Fr.put (f_69.at q6) rfl) (fun t ht => by omega) (by omega) (by omega))) ((q8.fr f_69 id id id).fr (P := fun u => u = C + 3) (Fr.put (f_69.at q6) rfl) (by omega) (by omega) (by omega)) ((hF.tr f_69).upn fz9) (Nat.le_refl _) (Nat.le_refl _)
  refine g_new 1 (C) [.null, .null, .null, .null, .int 0] in_X2 tyX2_ok q639 q132 q68 rfl nwX2 (Nat.le_of_ble_eq_true rfl) (Nat.le_of_ble_eq_true rfl) dX2_copy_0 (fun q_0 f_0 => ?_)
  refine g_dup dX2_copy_3 rfl ?_
  refine g_callI (ctX2_init _ (g_up_self _ _ _) (by omega)) kX2_init q640 (by decide) ⟨Nat.le_of_ble_eq_true rfl, Nat.le_of_ble_eq_true rfl⟩ rfl (Nat.le_of_ble_eq_true rfl) dX2_copy_4 k_x (k_v (fun h_4 p_4 => ?_))
  obtain ⟨bw, bp, bz, bd, gw, gp, i1, i2, i3, i4, i5, i6, i7, i8, n1, n2, n3⟩ := p_4
  have hF : Fr F0r h h_4 := fun b t e hb _ => i8 b _ (g_upf hb f_0) (fun z => by rw [z, f_0] at hb; cases hb)
  have m1 := g_upN n1
  have m2 := g_upN n2
  have m3 := g_upN n3
  have qa := hF.at z1
  have qw := hF.at z2
  have qp := hF.at z4
  first | refine g_astore1 dX2_copy_7 (by decide) ?_ | refine g_astoreQ1 dX2_copy_7 (by decide) ?_ | refine g_astoreN1 dX2_copy_7 (by decide) ?_
  first | refine g_aload0 dX2_copy_8 ?_ | refine g_aloadQ0 dX2_copy_8 ?_ | refine g_aloadN0 dX2_copy_8 ?_
  refine g_get (k0 := 0) (by first | assumption | exact g_up_self _ _ _ | (refine g_upf ?_ ?_ <;> assumption) | (refine g_upt ?_ ?_ (by decide) <;> assumption)) in_X2 q170 rfl (by decide) rfl dX2_copy_9 ?_
  refine g_iconst (nI 0) dX2_copy_12 (by decide) ?_
  first | refine g_aload1 dX2_copy_13 ?_ | refine g_aloadQ1 dX2_copy_13 ?_ | refine g_aloadN1 dX2_copy_13 ?_
  refine g_get (k0 := 0) (by first | assumption | exact g_up_self _ _ _ | (refine g_upf ?_ ?_ <;> assumption) | (refine g_upt ?_ ?_ (by decide) <;> assumption)) in_X2 q170 rfl (by decide) rfl dX2_copy_14 ?_
  refine g_iconst (nI 0) dX2_copy_17 (by decide) ?_
  refine g_bipush (nI 8) dX2_copy_18 (by decide) ?_
  refine g_copyI (j := 0) (ty := .int) (sp := 0) (dp := 0) (m := 8) ⟨q641, q285, q284, q83⟩ qw i2 rfl rfl (fun _ _ => rfl) (by decide) (by decide) (by decide) (Nat.le_of_ble_eq_true rfl) (Nat.le_of_ble_eq_true rfl) dX2_copy_20 ?_
  have j1 := g_upt (x' := gAIn E 8 (cpN fw gw 0 0 8)) i1 i2 (by omega)
  have j4 := g_upt (x' := gAIn E 8 (cpN fw gw 0 0 8)) i4 i2 (by omega)
  have j6 := g_upt (x' := gAIn E 8 (cpN fw gw 0 0 8)) i6 i2 (by omega)
  have jF := hF.upn (z := (C + 1, gAIn E 8 (cpN fw gw 0 0 8))) m1
  have ja := jF.at z1
  have jp := jF.at z4
  first | refine g_aload0 dX2_copy_23 ?_ | refine g_aloadQ0 dX2_copy_23 ?_ | refine g_aloadN0 dX2_copy_23 ?_
  refine g_get (k0 := 1) (by first | assumption | exact g_up_self _ _ _ | (refine g_upf ?_ ?_ <;> assumption) | (refine g_upt ?_ ?_ (by decide) <;> assumption)) in_X2 q172 rfl (by decide) rfl dX2_copy_24 ?_
  refine g_iconst (nI 0) dX2_copy_27 (by decide) ?_
  first | refine g_aload1 dX2_copy_28 ?_ | refine g_aloadQ1 dX2_copy_28 ?_ | refine g_aloadN1 dX2_copy_28 ?_
  refine g_get (k0 := 1) (by first | assumption | exact g_up_self _ _ _ | (refine g_upf ?_ ?_ <;> assumption) | (refine g_upt ?_ ?_ (by decide) <;> assumption)) in_X2 q172 rfl (by decide) rfl dX2_copy_29 ?_
  refine g_iconst (nI 0) dX2_copy_32 (by decide) ?_
  refine g_bipush (nI 8) dX2_copy_33 (by decide) ?_
  refine g_copyI (j := 2) (ty := .boolean) (sp := 0) (dp := 0) (m := 8) ⟨q641, q285, q284, q83⟩ jp j4 rfl rfl (fun i hi => by rw [Nat.zero_add, z5 i (by omega)]; exact fit_Z (hb.2 i (by omega))) (by decide) (by decide) (by decide) (Nat.le_of_ble_eq_true rfl) (Nat.le_of_ble_eq_true rfl) dX2_copy_35 ?_
  refine g_iconst (nI 0) dX2_copy_38 (by decide) ?_
  refine g_istore2 dX2_copy_39 (by decide) ?_
  exact KB q_0 bw bp bz bd (cpN fw gw 0 0 8) (cpN fp gp 0 0 8) f_0 m3 4 0 _ _ _ _ (by omega) (g_upt j1 j4 (by omega)) (g_upt (g_up_self _ _ _) j4 (by omega)) (fun m hm => (cp8 hm).trans (z3 m hm)) (g_up_self _ _ _) (fun m hm => (cp8 hm).trans (z5 m hm)) (g_upt j6 j4 (by omega)) (fun j hj => absurd hj (Nat.not_lt_zero j)) ((i7.fr (P := fun u => u = C + 1) (Fr.put i2 rfl) (by omega) (by omega) (by omega)).fr (P := fun u => u = C + 2) (Fr.put j4 rfl) (by omega) (by omega) (by omega)) (jF.upn m2) (Nat.le_of_ble_eq_true rfl) (Nat.le_of_ble_eq_true rfl)
