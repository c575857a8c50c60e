/-! GROUPS ARE MADE -/
set_option maxRecDepth 100000
theorem seO.fl {E : GE} {S : Nat} {g : Nat → Nat} {s a : Nat} {h : AH} (hs : seO E S g s a h) (x : Nat) : flF g s x ≤ 1 := by
  obtain ⟨c, b, p, fc, fs, -, -, -, -, -, h6⟩ := hs
  unfold flF
  split
  · exact Nat.le_refl _
  · rename_i hn
    rcases h6 with ⟨z, -⟩ | ⟨-, a, -, hr⟩
    · exact absurd z hn
    · exact hr.le1 x
def ggF (g : Nat → Nat) (s m : Nat) : Nat := if g (9 + m) = 1 then gdF g s m 3 else 0
theorem ggF_l (g : Nat → Nat) (s m : Nat) : ggF g s m ≤ 3 := by
  unfold ggF
  split
  · exact gdF_le g s m 3
  · omega
theorem sgF_l (g : Nat → Nat) (s set : Nat) : ∀ m, sgF g s set m ≤ 3 * m
  | 0 => Nat.le_refl _
  | m + 1 => by
    have h1 := sgF_l g s set m
    have h2 := gdF_le g s m 3
    show sgF g s set m + _ ≤ 3 * (m + 1)
    split
    · split <;> omega
    · omega
abbrev mX22_init : GM := (yX22_init, 7, none, [], { frames := 421, cells := 2, slots := 264, locals := 9221 }, 255)
theorem kX22_init : gCi cX22_init mX22_init 2 := ⟨q1978, q118, q1979, ⟨by decide +kernel, by decide +kernel, by decide +kernel⟩, rfl, rfl, rfl⟩
set_option maxHeartbeats 400000 in
theorem ctX22_init {E : GE} {h : AH} {B S s w a q : Nat} {g : Nat → Nat} (ha : h q = some (1010, gO 20 [.null])) (hm : WM E B g w h) (hbb : wB g) (hs : seO E S g s a h) (hw : slW g s) (h1 : gOf g s 0 = 1) (hBS : 8 < B ∧ B + 10 ≤ S ∧ S + 28 ≤ 1000) : Ct E cX22_init mX22_init [.ref q, .ref w, .ref a] (h) (pV fun h' => GR E h' q g s ∧ Fa q h h') (noX) := by
  refine g_enter (own := "SecretVault$Groups") [some (.ref q), some (.ref w), some (.ref a), none, none, none, none] (by decide +kernel) rfl rfl (Nat.le_of_ble_eq_true rfl) rfl rfl (fun X => ?_)
  obtain ⟨aw, ap, v3, v4, v5, fw, fp, z1, z2, z3, z4, z5⟩ := hm
  obtain ⟨hk1, hk8⟩ := hw.k h1
  have hqn : ∀ {b : Nat} {x : Nat × va_E}, h b = some x → x.1 ≠ 1010 → b ≠ q := fun hb hn e => by
    rw [e, ha] at hb
    cases hb
    exact hn rfl
  have fr : ∀ {hq : AH}, Fa q h hq → Fr (fun u => u = 1010) h hq := fun hF b t x hb hn => hF b _ hb (hqn hb hn)
  have K2 : ∀ arr gd G, h arr = none → (∀ m, m < 8 → G m = ggF g s m) → ∀ n i (hq : AH) F x y, n + i = 256 → hq q = some (1010, gO 20 [.ref arr]) → hq arr = some (1011, gAZn E 256 F) → hq gd = some (1012, gAIn E 8 G) → Fa q h hq → (∀ j, j < i → F j = if opF g s j then 1 else 0) → V E cX22_init "SecretVault$Groups" mX22_init (pV fun h' => GR E h' q g s ∧ Fa q h h') noX X (hq) 2 264 61 [some (.ref q), some (.ref w), some (.ref a), some (.ref gd), some (.int (nI i)), x, y] [] := by
    intro arr gd G fa hG n
    induction n with
    | zero =>
      intro i hq F x y hn0 q1 q2 q3 hF hd
      obtain rfl : i = 256 := by omega
      refine g_iload4 dX22_init_61 ?_
      first | refine g_aload0 dX22_init_63 ?_ | refine g_aloadQ0 dX22_init_63 ?_ | refine g_aloadN0 dX22_init_63 ?_
      refine g_get (k0 := 0) (by first | assumption | exact g_up_self _ _ _ | (refine g_upf ?_ ?_ <;> assumption) | (refine g_upt ?_ ?_ (by decide) <;> assumption)) in_X22 q1984 rfl (by decide) rfl dX22_init_64 ?_
      refine g_alen q2 (Or.inr (Or.inr (Or.inl ⟨_, rfl⟩))) rfl dX22_init_67 ?_
      rw [show Int32.ofNat 256 = nI 256 from rfl]
      first | refine g_icmpN_ge (tgt := 155) dX22_init_68 (by decide) (by omega) (by omega) (fun c_68 => ?_) (fun c_68 => ?_) | refine g_icmp_ge (tgt := 155) dX22_init_68 (by decide) (fun c_68 => ?_) (fun c_68 => ?_)
      · exact g_vret dX22_init_155 rfl ⟨rfl, ⟨arr, F, q1, q2, hd⟩, hF⟩
      · omega
    | succ n ih =>
      intro i hq F x y hn0 q1 q2 q3 hF hd
      have hF1 := fr hF
      have hsq := hs.fr hF1 (fun t ht => by omega) (by omega) (by omega)
      have hwm : WM E B g w hq := ⟨aw, ap, v3, v4, v5, fw, fp, hF1 _ _ _ z1 (by omega), hF1 _ _ _ z2 (by omega), z3, hF1 _ _ _ z4 (by omega), z5⟩
      have qp := hF1 _ _ _ z4 (by omega)
      have qw := hF1 _ _ _ z1 (by omega)
      obtain ⟨c9, b9, p9, fc9, fs9, y1, -⟩ := id hsq
      have hE : opF g s i ↔ gOf g s 1 ≤ sgF g s i 8 ∧ flF g s (i &&& pmF g 8) = 1 := by
        rw [pmF_tk, sgF_tl g s i 8 (Nat.le_refl _)]
        exact ⟨fun z => ⟨z.2, z.1⟩, fun z => ⟨z.2, z.1⟩⟩
      have hsl := sgF_l g s i 8
      have hpl : pmF g 8 < 256 := pmF_lt g 8
      have hfl := hsq.fl (i &&& pmF g 8)
      have KE : V E cX22_init "SecretVault$Groups" mX22_init (pV fun h' => GR E h' q g s ∧ Fa q h h') noX X (hq) 2 264 114 [some (.ref q), some (.ref w), some (.ref a), some (.ref gd), some (.int (nI i)), some (.int (nI (sgF g s i 8))), some (.int (nI 8))] [] := by
        first | refine g_aload0 dX22_init_114 ?_ | refine g_aloadQ0 dX22_init_114 ?_ | refine g_aloadN0 dX22_init_114 ?_
        refine g_get (k0 := 0) (by first | assumption | exact g_up_self _ _ _ | (refine g_upf ?_ ?_ <;> assumption) | (refine g_upt ?_ ?_ (by decide) <;> assumption)) in_X22 q1984 rfl (by decide) rfl dX22_init_115 ?_
        refine g_iload4 dX22_init_118 ?_
        refine g_iload5 dX22_init_120 ?_
        first | refine g_aload2 dX22_init_122 ?_ | refine g_aloadQ2 dX22_init_122 ?_ | refine g_aloadN2 dX22_init_122 ?_
        refine g_getN (k0 := 0) (by first | assumption | exact g_up_self _ _ _ | (refine g_upf ?_ ?_ <;> assumption) | (refine g_upt ?_ ?_ (by decide) <;> assumption)) in_X5 q654 rfl (by decide) rfl dX22_init_123 ?_
        first | refine g_icmpN_lt (tgt := 147) dX22_init_126 (by decide) (by (first | omega | (split <;> omega))) (by (first | omega | (split <;> omega))) (fun c_126 => ?_) (fun c_126 => ?_) | refine g_icmp_lt (tgt := 147) dX22_init_126 (by decide) (fun c_126 => ?_) (fun c_126 => ?_)
        · refine g_iconst (nI 0) dX22_init_147 (by decide) ?_
          refine g_zastN (by first | assumption | exact g_up_self _ _ _ | (refine g_upf ?_ ?_ <;> assumption) | (refine g_upt ?_ ?_ (by decide) <;> assumption)) (by (first | omega | (split <;> omega))) (by (first | omega | (split <;> omega))) (by (first | omega | (split <;> omega))) dX22_init_148 ?_
          first | refine g_iincN4 1 dX22_init_149 (by decide) (by decide) ?_ | refine g_iinc4 _ dX22_init_149 rfl (by decide) ?_
          refine g_goto (tgt := 61) dX22_init_152 (by decide) ?_
          first | exact ih (i + 1) _ _ _ _ (by omega) (g_upt q1 q2 (by decide)) (g_up_self _ _ _) (g_upt q3 q2 (by decide)) (hF.upn fa) (fun j hj => by by_cases e : j = i; (rw [e, nup_self, if_neg (fun z => by have := hE.mp z; omega)]); (rw [nup_ne _ _ e]; exact hd j (by omega))) | exact ih (i + 1) _ _ _ _ (by omega) (g_upt q1 q2 (by decide)) (g_up_self _ _ _) (g_upt q3 q2 (by decide)) (hF.upn fa) (fun j hj => by by_cases e : j = i; (rw [e, nup_self, if_pos (hE.mpr ⟨by omega, by omega⟩)]); (rw [nup_ne _ _ e]; exact hd j (by omega)))
        · first | refine g_aload2 dX22_init_129 ?_ | refine g_aloadQ2 dX22_init_129 ?_ | refine g_aloadN2 dX22_init_129 ?_
          refine g_iload4 dX22_init_130 ?_
          first | refine g_aload1 dX22_init_132 ?_ | refine g_aloadQ1 dX22_init_132 ?_ | refine g_aloadN1 dX22_init_132 ?_
          refine g_callVR (ctX2_presentMembers hwm hbb) kX2_presentMembers q1982 hwm.rv (by decide) ⟨by decide, by decide⟩ rfl (Nat.le_of_ble_eq_true rfl) dX22_init_133 k_x (k_n (fun r_133 h_133 p_133 => ?_))
          obtain ⟨rfl, z_133⟩ := p_133
          rw [z_133]
          refine V.wide (k' := 2) (n' := 264) (Nat.le_refl _) (Nat.le_refl _) ?_
          first | refine g_iandN dX22_init_136 ?_ | refine g_iand dX22_init_136 ?_
          refine g_callVR (ctX5_isFulfilled hsq (by have : i &&& pmF g 8 ≤ i := Nat.and_le_left; omega)) kX5_isFulfilled q1983 hsq.rv (by decide) ⟨by decide, by decide⟩ rfl (Nat.le_of_ble_eq_true rfl) dX22_init_137 k_x (k_n (fun r_137 h_137 p_137 => ?_))
          obtain ⟨rfl, z_137⟩ := p_137
          rw [z_137]
          refine V.wide (k' := 2) (n' := 264) (Nat.le_refl _) (Nat.le_refl _) ?_
          first | refine g_ifN_eq (tgt := 147) dX22_init_140 (by decide) (by (first | omega | (split <;> omega))) (fun c_140 => ?_) (fun c_140 => ?_) | refine g_if_eq (tgt := 147) dX22_init_140 (by decide) (fun c_140 => ?_) (fun c_140 => ?_)
          · refine g_iconst (nI 0) dX22_init_147 (by decide) ?_
            refine g_zastN (by first | assumption | exact g_up_self _ _ _ | (refine g_upf ?_ ?_ <;> assumption) | (refine g_upt ?_ ?_ (by decide) <;> assumption)) (by (first | omega | (split <;> omega))) (by (first | omega | (split <;> omega))) (by (first | omega | (split <;> omega))) dX22_init_148 ?_
            first | refine g_iincN4 1 dX22_init_149 (by decide) (by decide) ?_ | refine g_iinc4 _ dX22_init_149 rfl (by decide) ?_
            refine g_goto (tgt := 61) dX22_init_152 (by decide) ?_
            first | exact ih (i + 1) _ _ _ _ (by omega) (g_upt q1 q2 (by decide)) (g_up_self _ _ _) (g_upt q3 q2 (by decide)) (hF.upn fa) (fun j hj => by by_cases e : j = i; (rw [e, nup_self, if_neg (fun z => by have := hE.mp z; omega)]); (rw [nup_ne _ _ e]; exact hd j (by omega))) | exact ih (i + 1) _ _ _ _ (by omega) (g_upt q1 q2 (by decide)) (g_up_self _ _ _) (g_upt q3 q2 (by decide)) (hF.upn fa) (fun j hj => by by_cases e : j = i; (rw [e, nup_self, if_pos (hE.mpr ⟨by omega, by omega⟩)]); (rw [nup_ne _ _ e]; exact hd j (by omega)))
          · refine g_iconst (nI 1) dX22_init_143 (by decide) ?_
            refine g_goto (tgt := 148) dX22_init_144 (by decide) ?_
            refine g_zastN (by first | assumption | exact g_up_self _ _ _ | (refine g_upf ?_ ?_ <;> assumption) | (refine g_upt ?_ ?_ (by decide) <;> assumption)) (by (first | omega | (split <;> omega))) (by (first | omega | (split <;> omega))) (by (first | omega | (split <;> omega))) dX22_init_148 ?_
            first | refine g_iincN4 1 dX22_init_149 (by decide) (by decide) ?_ | refine g_iinc4 _ dX22_init_149 rfl (by decide) ?_
            refine g_goto (tgt := 61) dX22_init_152 (by decide) ?_
            first | exact ih (i + 1) _ _ _ _ (by omega) (g_upt q1 q2 (by decide)) (g_up_self _ _ _) (g_upt q3 q2 (by decide)) (hF.upn fa) (fun j hj => by by_cases e : j = i; (rw [e, nup_self, if_neg (fun z => by have := hE.mp z; omega)]); (rw [nup_ne _ _ e]; exact hd j (by omega))) | exact ih (i + 1) _ _ _ _ (by omega) (g_upt q1 q2 (by decide)) (g_up_self _ _ _) (g_upt q3 q2 (by decide)) (hF.upn fa) (fun j hj => by by_cases e : j = i; (rw [e, nup_self, if_pos (hE.mpr ⟨by omega, by omega⟩)]); (rw [nup_ne _ _ e]; exact hd j (by omega)))
      have K3 : ∀ n m, n + m = 8 → V E cX22_init "SecretVault$Groups" mX22_init (pV fun h' => GR E h' q g s ∧ Fa q h h') noX X (hq) 2 264 77 [some (.ref q), some (.ref w), some (.ref a), some (.ref gd), some (.int (nI i)), some (.int (nI (sgF g s i m))), some (.int (nI m))] [] := by
        intro n
        induction n with
        | zero =>
          intro m hm0
          obtain rfl : m = 8 := by omega
          refine g_iload6 dX22_init_77 ?_
          refine g_bipush (nI 8) dX22_init_79 (by decide) ?_
          first | refine g_icmpN_ge (tgt := 114) dX22_init_81 (by decide) (by omega) (by omega) (fun c_81 => ?_) (fun c_81 => ?_) | refine g_icmp_ge (tgt := 114) dX22_init_81 (by decide) (fun c_81 => ?_) (fun c_81 => ?_)
          · exact KE
          · omega
        | succ n ih3 =>
          intro m hm0
          have hsm := sgF_l g s i m
          have hgg := ggF_l g s m
          have hdv : i / 2 ^ m ≤ i := Nat.div_le_self _ _
          have hGm := hG m (by omega)
          refine g_iload6 dX22_init_77 ?_
          refine g_bipush (nI 8) dX22_init_79 (by decide) ?_
          first | refine g_icmpN_ge (tgt := 114) dX22_init_81 (by decide) (by omega) (by omega) (fun c_81 => ?_) (fun c_81 => ?_) | refine g_icmp_ge (tgt := 114) dX22_init_81 (by decide) (fun c_81 => ?_) (fun c_81 => ?_)
          · omega
          · refine g_iload5 dX22_init_84 ?_
            refine g_iload4 dX22_init_86 ?_
            refine g_iload6 dX22_init_88 ?_
            refine g_ishrN dX22_init_90 (by omega) (by omega) ?_
            refine g_iconst (nI 1) dX22_init_91 (by decide) ?_
            refine g_iand1 dX22_init_92 (by omega) ?_
            refine g_iconst (nI 1) dX22_init_93 (by decide) ?_
            first | refine g_icmpN_ne (tgt := 104) dX22_init_94 (by decide) (by omega) (by omega) (fun c_94 => ?_) (fun c_94 => ?_) | refine g_icmpU_ne (tgt := 104) dX22_init_94 (by decide) (by omega) (by omega) (fun c_94 => ?_) (fun c_94 => ?_) | refine g_icmp_ne (tgt := 104) dX22_init_94 (by decide) (fun c_94 => ?_) (fun c_94 => ?_)
            · refine g_iconst (nI 0) dX22_init_104 (by decide) ?_
              first | refine g_iaddN dX22_init_105 ?_ | refine g_iadd dX22_init_105 ?_
              refine g_istore5 dX22_init_106 (by decide) ?_
              first | refine g_iincN6 1 dX22_init_108 (by decide) (by decide) ?_ | refine g_iinc6 _ dX22_init_108 rfl (by decide) ?_
              refine g_goto (tgt := 77) dX22_init_111 (by decide) ?_
              first | (have e : sgF g s i m + 0 = sgF g s i (m + 1) := (by show _ = sgF g s i m + _; rw [if_neg (by omega)]); rw [e]; exact ih3 (m + 1) (by omega)) | (have e : sgF g s i m + ggF g s m = sgF g s i (m + 1) := (by show _ = sgF g s i m + _; rw [if_pos (by omega)]; rfl); rw [e]; exact ih3 (m + 1) (by omega))
            · first | refine g_aload3 dX22_init_97 ?_ | refine g_aloadQ3 dX22_init_97 ?_ | refine g_aloadN3 dX22_init_97 ?_
              refine g_iload6 dX22_init_98 ?_
              refine g_ialdN q3 (by omega) (by omega) dX22_init_100 ?_
              rw [hGm]
              refine g_goto (tgt := 105) dX22_init_101 (by decide) ?_
              first | refine g_iaddN dX22_init_105 ?_ | refine g_iadd dX22_init_105 ?_
              refine g_istore5 dX22_init_106 (by decide) ?_
              first | refine g_iincN6 1 dX22_init_108 (by decide) (by decide) ?_ | refine g_iinc6 _ dX22_init_108 rfl (by decide) ?_
              refine g_goto (tgt := 77) dX22_init_111 (by decide) ?_
              first | (have e : sgF g s i m + 0 = sgF g s i (m + 1) := (by show _ = sgF g s i m + _; rw [if_neg (by omega)]); rw [e]; exact ih3 (m + 1) (by omega)) | (have e : sgF g s i m + ggF g s m = sgF g s i (m + 1) := (by show _ = sgF g s i m + _; rw [if_pos (by omega)]; rfl); rw [e]; exact ih3 (m + 1) (by omega))
      refine g_iload4 dX22_init_61 ?_
      first | refine g_aload0 dX22_init_63 ?_ | refine g_aloadQ0 dX22_init_63 ?_ | refine g_aloadN0 dX22_init_63 ?_
      refine g_get (k0 := 0) (by first | assumption | exact g_up_self _ _ _ | (refine g_upf ?_ ?_ <;> assumption) | (refine g_upt ?_ ?_ (by decide) <;> assumption)) in_X22 q1984 rfl (by decide) rfl dX22_init_64 ?_
      refine g_alen q2 (Or.inr (Or.inr (Or.inl ⟨_, rfl⟩))) rfl dX22_init_67 ?_
      rw [show Int32.ofNat 256 = nI 256 from rfl]
      first | refine g_icmpN_ge (tgt := 155) dX22_init_68 (by decide) (by omega) (by omega) (fun c_68 => ?_) (fun c_68 => ?_) | refine g_icmp_ge (tgt := 155) dX22_init_68 (by decide) (fun c_68 => ?_) (fun c_68 => ?_)
      · omega
      · refine g_iconst (nI 0) dX22_init_71 (by decide) ?_
        refine g_istore5 dX22_init_72 (by decide) ?_
        refine g_iconst (nI 0) dX22_init_74 (by decide) ?_
        refine g_istore6 dX22_init_75 (by decide) ?_
        exact K3 8 0 (by omega)
  have K1 : ∀ arr gd, h arr = none → h gd = none → ∀ n m (hq : AH) F G, n + m = 8 → hq q = some (1010, gO 20 [.ref arr]) → hq arr = some (1011, gAZn E 256 F) → hq gd = some (1012, gAIn E 8 G) → Fa q h hq → (∀ j, j < m → G j = ggF g s j) → V E cX22_init "SecretVault$Groups" mX22_init (pV fun h' => GR E h' q g s ∧ Fa q h h') noX X (hq) 2 264 21 [some (.ref q), some (.ref w), some (.ref a), some (.ref gd), some (.int (nI m)), none, none] [] := by
    intro arr gd fa fg n
    induction n with
    | zero =>
      intro m hq F G hn0 q1 q2 q3 hF hG
      obtain rfl : m = 8 := by omega
      refine g_iload4 dX22_init_21 ?_
      refine g_bipush (nI 8) dX22_init_23 (by decide) ?_
      first | refine g_icmpN_ge (tgt := 58) dX22_init_25 (by decide) (by omega) (by omega) (fun c_25 => ?_) (fun c_25 => ?_) | refine g_icmp_ge (tgt := 58) dX22_init_25 (by decide) (fun c_25 => ?_) (fun c_25 => ?_)
      · refine g_iconst (nI 0) dX22_init_58 (by decide) ?_
        refine g_istore4 dX22_init_59 (by decide) ?_
        exact K2 arr gd G fa hG 256 0 hq F _ _ (by omega) q1 q2 q3 hF (fun j hj => absurd hj (Nat.not_lt_zero j))
      · omega
    | succ n ih =>
      intro m hq F G hn0 q1 q2 q3 hF hG
      have hF1 := fr hF
      have hsq := hs.fr hF1 (fun t ht => by omega) (by omega) (by omega)
      have hwm : WM E B g w hq := ⟨aw, ap, v3, v4, v5, fw, fp, hF1 _ _ _ z1 (by omega), hF1 _ _ _ z2 (by omega), z3, hF1 _ _ _ z4 (by omega), z5⟩
      have qp := hF1 _ _ _ z4 (by omega)
      have qw := hF1 _ _ _ z1 (by omega)
      obtain ⟨c9, b9, p9, fc9, fs9, y1, -⟩ := id hsq
      have e1 := z5 m (by omega)
      have e2 := hbb.2 m (by omega)
      have hgd := gdF_le g s m 3
      refine g_iload4 dX22_init_21 ?_
      refine g_bipush (nI 8) dX22_init_23 (by decide) ?_
      first | refine g_icmpN_ge (tgt := 58) dX22_init_25 (by decide) (by omega) (by omega) (fun c_25 => ?_) (fun c_25 => ?_) | refine g_icmp_ge (tgt := 58) dX22_init_25 (by decide) (fun c_25 => ?_) (fun c_25 => ?_)
      · omega
      · first | refine g_aload3 dX22_init_28 ?_ | refine g_aloadQ3 dX22_init_28 ?_ | refine g_aloadN3 dX22_init_28 ?_
        refine g_iload4 dX22_init_29 ?_
        first | refine g_aload1 dX22_init_31 ?_ | refine g_aloadQ1 dX22_init_31 ?_ | refine g_aloadN1 dX22_init_31 ?_
        refine g_getN (k0 := 1) (by first | assumption | exact g_up_self _ _ _ | (refine g_upf ?_ ?_ <;> assumption) | (refine g_upt ?_ ?_ (by decide) <;> assumption)) in_X2 q173 rfl (by decide) rfl dX22_init_32 ?_
        refine g_iload4 dX22_init_35 ?_
        refine g_zaldN qp (by omega) (by omega) dX22_init_37 ?_
        rw [e1]
        first | refine g_ifN_eq (tgt := 50) dX22_init_38 (by decide) (by omega) (fun c_38 => ?_) (fun c_38 => ?_) | refine g_if_eq (tgt := 50) dX22_init_38 (by decide) (fun c_38 => ?_) (fun c_38 => ?_)
        · refine g_iconst (nI 0) dX22_init_50 (by decide) ?_
          refine g_iastN (by first | assumption | exact g_up_self _ _ _ | (refine g_upf ?_ ?_ <;> assumption) | (refine g_upt ?_ ?_ (by decide) <;> assumption)) (by omega) (by omega) dX22_init_51 ?_
          first | refine g_iincN4 1 dX22_init_52 (by decide) (by decide) ?_ | refine g_iinc4 _ dX22_init_52 rfl (by decide) ?_
          refine g_goto (tgt := 21) dX22_init_55 (by decide) ?_
          first | exact ih (m + 1) _ F _ (by omega) (g_upt q1 q3 (by decide)) (g_upt q2 q3 (by decide)) (g_up_self _ _ _) (hF.upn fg) (fun j hj => by by_cases e : j = m; (rw [e, nup_self]; exact (if_neg (by omega)).symm); (rw [nup_ne _ _ e]; exact hG j (by omega))) | exact ih (m + 1) _ F _ (by omega) (g_upt q1 q3 (by decide)) (g_upt q2 q3 (by decide)) (g_up_self _ _ _) (hF.upn fg) (fun j hj => by by_cases e : j = m; (rw [e, nup_self]; exact (if_pos (by omega)).symm); (rw [nup_ne _ _ e]; exact hG j (by omega)))
        · first | refine g_aload2 dX22_init_41 ?_ | refine g_aloadQ2 dX22_init_41 ?_ | refine g_aloadN2 dX22_init_41 ?_
          refine g_iload4 dX22_init_42 ?_
          refine g_callVR (ctX5_goodOf _ hsq hw h1 (by omega)) kX5_goodOf q1981 hsq.rv (by decide) ⟨by decide, by decide⟩ rfl (Nat.le_of_ble_eq_true rfl) dX22_init_44 k_x (k_n (fun r_44 h_44 p_44 => ?_))
          obtain ⟨rfl, z_44⟩ := p_44
          rw [z_44]
          refine V.wide (k' := 2) (n' := 264) (Nat.le_refl _) (Nat.le_refl _) ?_
          refine g_goto (tgt := 51) dX22_init_47 (by decide) ?_
          refine g_iastN (by first | assumption | exact g_up_self _ _ _ | (refine g_upf ?_ ?_ <;> assumption) | (refine g_upt ?_ ?_ (by decide) <;> assumption)) (by omega) (by omega) dX22_init_51 ?_
          first | refine g_iincN4 1 dX22_init_52 (by decide) (by decide) ?_ | refine g_iinc4 _ dX22_init_52 rfl (by decide) ?_
          refine g_goto (tgt := 21) dX22_init_55 (by decide) ?_
          first | exact ih (m + 1) _ F _ (by omega) (g_upt q1 q3 (by decide)) (g_upt q2 q3 (by decide)) (g_up_self _ _ _) (hF.upn fg) (fun j hj => by by_cases e : j = m; (rw [e, nup_self]; exact (if_neg (by omega)).symm); (rw [nup_ne _ _ e]; exact hG j (by omega))) | exact ih (m + 1) _ F _ (by omega) (g_upt q1 q3 (by decide)) (g_upt q2 q3 (by decide)) (g_up_self _ _ _) (hF.upn fg) (fun j hj => by by_cases e : j = m; (rw [e, nup_self]; exact (if_pos (by omega)).symm); (rw [nup_ne _ _ e]; exact hG j (by omega)))
  first | refine g_aload0 dX22_init_0 ?_ | refine g_aloadQ0 dX22_init_0 ?_ | refine g_aloadN0 dX22_init_0 ?_
  refine g_objInit q1980 q129 q130 dX22_init_1 (Nat.le_of_ble_eq_true rfl) (Nat.le_of_ble_eq_true rfl) ?_
  first | refine g_aload0 dX22_init_4 ?_ | refine g_aloadQ0 dX22_init_4 ?_ | refine g_aloadN0 dX22_init_4 ?_
  refine g_sipush (nI 256) dX22_init_5 (by decide) ?_
  refine g_newz (1011) q163 (nI_pos (by omega)) (nI_clamp (by omega)) (by show _ * 1 ≤ _; omega) (Nat.le_of_ble_eq_true rfl) (Nat.le_of_ble_eq_true rfl) dX22_init_8 (fun q_8 f_8 => ?_)
  have hn8 : q_8 ≠ q := fun e => by rw [e, ha] at f_8; cases f_8
  refine g_putF (k0 := 0) (by first | assumption | exact g_up_self _ _ _ | exact g_upf ha f_8) in_X22 q1984 tyX22_ok nmX22 rfl (by decide) rfl rfl rfl (by rfl) (by rfl) (Nat.le_of_ble_eq_true rfl) dX22_init_10 ?_
  refine g_bipush (nI 8) dX22_init_13 (by decide) ?_
  refine g_newi (1012) q162 (nI_pos (by omega)) (nI_clamp (by omega)) (by show _ * 4 ≤ _; omega) (Nat.le_of_ble_eq_true rfl) (Nat.le_of_ble_eq_true rfl) dX22_init_15 (fun q_15 f_15 => ?_)
  first | refine g_astore3 dX22_init_17 (by decide) ?_ | refine g_astoreQ3 dX22_init_17 (by decide) ?_ | refine g_astoreN3 dX22_init_17 (by decide) ?_
  refine g_iconst (nI 0) dX22_init_18 (by decide) ?_
  refine g_istore4 dX22_init_19 (by decide) ?_
  refine V.wide (k' := 2) (n' := 264) (by decide) (by decide) ?_
  have b0 := g_up_self (g_up h q_8 (1011, gAZ E 256 (fun _ => 0))) q (1010, gO 20 [.ref q_8])
  have hn15 : q_15 ≠ q := fun e => by rw [e] at f_15; cases f_15.symm.trans (g_up_self _ _ _)
  exact K1 q_8 q_15 f_8 ((Fa.rf.new f_8).put.none f_15 hn15) 8 0 _ (fun _ => 0) (fun _ => 0) (by omega) (g_upf b0 f_15) (g_upf (g_up_of (g_up_self _ _ _) hn8) f_15) (g_up_self _ _ _) ((Fa.rf.new f_8).put.new f_15) (fun j hj => absurd hj (Nat.not_lt_zero j))
