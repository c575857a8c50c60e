/-! TEXTS OF POLICIES -/
set_option maxRecDepth 100000
abbrev wP (t : Nat) : Nat → Prop := fun u => t ≤ u ∧ u ≤ t + 5
def tlT (sep enc : Nat) : List Att → List Nat
  | [] => []
  | b :: l => sep :: (txA enc b ++ tlT sep enc l)
theorem txL_tl {sep enc : Nat} {b : Att} {l : List Att} : txL sep enc (b :: l) = txA enc b ++ tlT sep enc l := by
  induction l generalizing b with
  | nil => exact (List.append_nil _).symm
  | cons c l ih =>
    show txA enc b ++ sep :: txL sep enc (c :: l) = txA enc b ++ (sep :: (txA enc c ++ tlT sep enc l))
    rw [ih]
/-- the text of the parts from i on -/
def rsT (sep enc i : Nat) (B : List Att) : List Nat := if i = 0 then txL sep enc B else tlT sep enc (B.drop i)
theorem rsT_z {sep enc i : Nat} {b : Att} {B : List Att} (h0 : i = 0) (h : B.drop i = b :: B.drop (i + 1)) : rsT sep enc i B = txA enc b ++ rsT sep enc (i + 1) B := by
  subst h0
  show (if 0 = 0 then txL sep enc B else _) = _ ++ (if 0 + 1 = 0 then _ else tlT sep enc (B.drop (0 + 1)))
  rw [if_pos rfl, if_neg (by decide), ← txL_tl, ← h, List.drop_zero]
theorem rsT_s {sep enc i : Nat} {b : Att} {B : List Att} (h0 : ¬ i = 0) (h : B.drop i = b :: B.drop (i + 1)) : rsT sep enc i B = [sep] ++ txA enc b ++ rsT sep enc (i + 1) B := by
  unfold rsT
  rw [if_neg h0, if_neg (by omega), h]
  rfl
theorem rsT_end {sep enc i : Nat} {B : List Att} (h : B.drop i = []) : rsT sep enc i B = [] := by
  unfold rsT
  split
  · rename_i z
    subst z
    rw [List.drop_zero] at h
    rw [h]
    rfl
  · rw [h]
    rfl
def cw : List Att → Nat
  | [] => 0
  | b :: l => 9 + 20 * (aT b).length + cw l
theorem txA_len {enc : Nat} {b : Att} : (aT b).length ≤ (txA enc b).length := by
  unfold txA
  split
  · simp only [List.length_append]
    omega
  · exact Nat.le_refl _
theorem cw_tl {sep enc : Nat} {l : List Att} : cw l + 11 * l.length ≤ 20 * (tlT sep enc l).length := by
  induction l with
  | nil => exact Nat.le_refl _
  | cons b l ih =>
    have h := txA_len (enc := enc) (b := b)
    show 9 + 20 * (aT b).length + cw l + 11 * (l.length + 1) ≤ 20 * ((txA enc b ++ tlT sep enc l).length + 1)
    rw [List.length_append]
    omega
theorem cw_le {sep enc : Nat} {B : List Att} : cw B + 11 * B.length ≤ 20 * (txL sep enc B).length + 20 := by
  cases B with
  | nil => exact Nat.zero_le _
  | cons b l =>
    have h := txA_len (enc := enc) (b := b)
    have h2 := cw_tl (sep := sep) (enc := enc) (l := l)
    rw [txL_tl, List.length_append]
    show 9 + 20 * (aT b).length + cw l + 11 * (l.length + 1) ≤ _
    omega
theorem cw_dr {i : Nat} {b : Att} {B : List Att} (h : B.drop i = b :: B.drop (i + 1)) : cw (B.drop i) = 9 + 20 * (aT b).length + cw (B.drop (i + 1)) := by
  rw [h]
  rfl
theorem wd0 {k b c : Nat} (h : b ≤ c) : k + b ≤ k + c := Nat.add_le_add_left h k
theorem wd1 {k a b c : Nat} (h : a + b ≤ c) : k + a + b ≤ k + c := by omega
theorem Fr.toW {t : Nat} {h h' : AH} (f : Fr (fun u => u = t ∨ u = t + 1) h h') : Fr (wP t) h h' := f.mono (fun u z => ⟨by omega, by omega⟩)
theorem Fr.toW2 {t : Nat} {h h' : AH} (f : Fr (fun u => u = t + 2 ∨ u = t + 2 + 1) h h') : Fr (wP t) h h' := f.mono (fun u z => ⟨by omega, by omega⟩)
theorem Fr.f0 {P : Nat → Prop} {h h' : AH} (f : Fr F0r h h') : Fr P h h' := f.mono (fun u z => z.elim)
/-- an object is made and its constructor changes it alone: what was there is kept -/
theorem Fa.frN {P : Nat → Prop} {h h' : AH} {q : Nat} {z : Nat × va_E} (hq : h q = Option.none) (f : Fa q (g_up h q z) h') : Fr P h h' := fun a t e z1 _ => f _ _ (g_upf z1 hq) (g_fne hq z1)
theorem wPn {t a : Nat} (h : a < t) : ¬ wP t a := fun z => absurd z.1 (Nat.not_le.mpr h)
/-- the class of a policy -/
theorem Rep.cls {E : GE} {h : AH} {k y : Nat} {b : Att} (hr : Rep E h k y b) : (aK b = 1 ∧ ∃ l, h y = some (7, gO 19 [.ref l])) ∨ (¬ aK b = 1 ∧ ∃ m, h y = some (7, gO 17 [.int (nI m)])) ∨ (¬ aK b = 1 ∧ ∃ l, h y = some (7, gO 18 [.ref l])) ∨ (¬ aK b = 1 ∧ ∃ c l, h y = some (7, gO 16 [.int (nI c), .ref l])) := by
  cases k with
  | zero => exact hr.elim
  | succ k =>
    rcases hr with ⟨m, h1, rfl, h3⟩ | ⟨l, L, B, h1, h2, h3, ⟨-, rfl, z⟩ | ⟨-, rfl, z⟩ | ⟨c, -, rfl, z⟩⟩
    · exact Or.inr (Or.inl ⟨by show ¬ 0 = 1; decide, m, h3⟩)
    · exact Or.inl ⟨rfl, l, z⟩
    · exact Or.inr (Or.inr (Or.inl ⟨by show ¬ 2 = 1; decide, l, z⟩))
    · exact Or.inr (Or.inr (Or.inr ⟨by show ¬ 3 = 1; decide, c, l, z⟩))
abbrev mX1_write (N w : Nat) : GM := (yX1_write, 6, none, [], { frames := N + 14, cells := 20 * w, slots := 2000 * w, locals := 60 * N + 500 }, 255)
theorem kX1_write (N w : Nat) : gCs cX1_write (mX1_write N w) 2 := ⟨q1908, q67, q1909, (show gDs yX1_write 2 from ⟨by decide +kernel, by decide +kernel, by decide +kernel⟩), rfl⟩
set_option maxHeartbeats 400000 in
theorem ctX1_write_One {E : GE} {h : AH} {N a q t m w : Nat} {L : List Nat} (ht : 8 < t) (hE : gE E) (ha : h a = some (7, gO 17 [.int (nI m)])) (hm : m < 8) (hx : SB E t h q L) (hlen : L.length + 1 ≤ 100) (hw : 1 ≤ w) : Ct E cX1_write (mX1_write (N + 1) w) [.ref a, .ref q] (h) (pV fun h' => SB E t h' q (L ++ aT (attOne m)) ∧ Fr (wP t) h h') (noX) := by
  refine g_enter (own := "SecretVault") [some (.ref a), some (.ref q), none, none, none, none] (show plainName yX1_write.cls = true by decide +kernel) rfl rfl (Nat.le_of_ble_eq_true rfl) rfl rfl (fun X => ?_)
  first | refine g_aload0 dX1_write_0 ?_ | refine g_aloadQ0 dX1_write_0 ?_ | refine g_aloadN0 dX1_write_0 ?_
  refine g_instS q1910 ha rfl dX1_write_1 ?_
  refine g_ifN_eq (tgt := 22) dX1_write_4 (by decide) (by decide) (fun c => False.elim (by revert c; decide)) (fun _ => ?_)
  first | refine g_aload0 dX1_write_7 ?_ | refine g_aloadQ0 dX1_write_7 ?_ | refine g_aloadN0 dX1_write_7 ?_
  refine g_ckS q1910 ha rfl dX1_write_8 ?_
  first | refine g_astore2 dX1_write_11 (show ¬ 2 = 255 + 1 by decide) ?_ | refine g_astoreQ2 dX1_write_11 (show ¬ 2 = 255 + 1 by decide) ?_ | refine g_astoreN2 dX1_write_11 (show ¬ 2 = 255 + 1 by decide) ?_
  first | refine g_aload1 dX1_write_12 ?_ | refine g_aloadQ1 dX1_write_12 ?_ | refine g_aloadN1 dX1_write_12 ?_
  first | refine g_aload2 dX1_write_13 ?_ | refine g_aloadQ2 dX1_write_13 ?_ | refine g_aloadN2 dX1_write_13 ?_
  refine g_getN (k0 := 0) (by first | assumption | exact g_up_self _ _ _ | (refine g_upf ?_ ?_ <;> assumption) | (refine g_upt ?_ ?_ (by decide) <;> assumption)) in_X19 q1857 rfl (by decide) rfl dX1_write_14 ?_
  refine g_callVR (ctJ4_append_2 m hx (by omega) (by omega)) kJ4_append_2 q1911 hx.rv ⟨by show 5 + 1 ≤ (N + 1) + 14; omega, by show 8 + (2 + 11) + (127) ≤ 60 * (N + 1) + 500; omega⟩ ⟨by show 0 + 1 ≤ 20 * w; omega, by show 0 + 142 ≤ 2000 * w; omega⟩ rfl (Nat.le_of_ble_eq_true rfl) dX1_write_17 k_x (k_r (fun r_17 h_17 p_17 => ?_))
  obtain ⟨e_17, x_17, f_17⟩ := p_17
  rw [dgL_1 (by omega)] at x_17
  refine g_pop dX1_write_20 (by first | rfl | exact cat_rf _) ?_
  exact g_vret (hk := by show 0 + 1 ≤ 20 * w; omega) (hn := by show 0 + 142 ≤ 2000 * w; omega) dX1_write_21 rfl ⟨rfl, x_17, f_17.toW⟩
set_option maxRecDepth 100000 in
theorem nc_SecretVault_Any_SecretVault_All : gLf (Cond.not (Cond.castable "SecretVault$Any" "SecretVault$All")) := show _ ∈ flatC _ by decide +kernel
set_option maxHeartbeats 400000 in
theorem ctX1_write_Any {E : GE} {h : AH} {N a q t w l : Nat} {L Ls : List Nat} {B : List Att} (ht : 8 < t) (hE : gE E) (ha : h a = some (7, gO 19 [.ref l])) (hL : RL E h N l Ls B) (hn2 : 2 ≤ B.length) (hx : SB E t h q L) (hw : w = (aT (attAny B)).length) (hlen : L.length + w ≤ 100) (IH : ∀ (h : AH) (a : Nat) (A : Att) (L : List Nat), Rep E h N a A → SB E t h q L → L.length + (aT A).length ≤ 100 → Ct E cX1_write (mX1_write N (aT A).length) [.ref a, .ref q] h (pV fun h' => SB E t h' q (L ++ aT A) ∧ Fr (wP t) h h') noX) : Ct E cX1_write (mX1_write (N + 1) w) [.ref a, .ref q] (h) (pV fun h' => SB E t h' q (L ++ aT (attAny B)) ∧ Fr (wP t) h h') (noX) := by
  refine g_enter (own := "SecretVault") [some (.ref a), some (.ref q), none, none, none, none] (show plainName yX1_write.cls = true by decide +kernel) rfl rfl (Nat.le_of_ble_eq_true rfl) rfl rfl (fun X => ?_)
  have ht7 : 7 < t := by omega
  have hB := hL.1
  have hB2 := hL.len
  have hcw := cw_le (sep := 124) (enc := 0) (B := B)
  have hlT : (L ++ txL 124 0 B).length ≤ 100 ∧ w = (L ++ txL 124 0 B).length - L.length + 0 := by
    have z : (aT (attAny B)).length = (txL 124 0 B).length := rfl
    simp only [List.length_append] at *
    omega
  have hwl : w = (txL 124 0 B).length + 0 := by
    have z := hlT.2
    simp only [List.length_append, List.length_cons, List.length_nil] at z
    omega
  have K : ∀ n i hh C k nn (x5 : Option Value), n + i = B.length → i ≤ 32 → RT E 7 hh N l Ls B → SB E t hh q C → C ++ rsT 124 0 i B = L ++ txL 124 0 B → Fr (wP t) h hh → k + cw (B.drop i) + 1 ≤ 20 * w → nn + 100 * cw (B.drop i) + 142 ≤ 2000 * w → V E cX1_write "SecretVault" (mX1_write (N + 1) w) (pV fun h' => SB E t h' q (L ++ aT (attAny B)) ∧ Fr (wP t) h h') noX X (hh) k nn 83 [some (.ref a), some (.ref q), some (.int (nI 124)), some (.ref l), some (.int (nI i)), x5] [] := by
    intro n
    induction n with
    | zero =>
      intro i hh C k nn x5 hn hi hR hx1 hC hF hk hnn
      have ha1 := hF _ _ _ ha (wPn ht7)
      have hRl := hR.1
      have hCl : C.length ≤ 100 := by have z := congrArg List.length hC; rw [List.length_append] at z; have := hlT.1; omega
      have hC2 : C.length + 1 ≤ 101 := by omega
      refine g_iload4 dX1_write_83 ?_
      first | refine g_aload3 dX1_write_85 ?_ | refine g_aloadQ3 dX1_write_85 ?_ | refine g_aloadN3 dX1_write_85 ?_
      refine g_callF (ctJ21_size _ hR.2.1) uJ21_size q1017 q1020 ⟨q1019, q1018, q1023, q1021, q994⟩ ⟨⟨by decide, by decide⟩, rfl⟩ (LI.at hR.2.1).choose_spec rfl ⟨by show 0 + 1 ≤ (N + 1) + 14; omega, by show 8 + (1 + 11) + (0) ≤ 60 * (N + 1) + 500; omega⟩ ⟨by show _ + 0 ≤ 20 * w; omega, by show _ + 0 ≤ 2000 * w; omega⟩ rfl (Nat.le_of_ble_eq_true rfl) dX1_write_86 k_x (k_n (fun r_86 h_86 p_86 => ?_))
      obtain ⟨rfl, z_86⟩ := p_86
      rw [z_86]
      refine V.wide (k' := k) (n' := nn) (by first | exact Nat.le_refl _ | exact wd0 (by decide) | exact wd1 (by decide)) (by first | exact Nat.le_refl _ | exact wd0 (by decide) | exact wd1 (by decide)) ?_
      first | refine g_icmpN_ge (tgt := 209) dX1_write_91 (by decide) (by omega) (by omega) (fun c_91 => ?_) (fun c_91 => ?_) | refine g_icmp_ge (tgt := 209) dX1_write_91 (by decide) (fun c_91 => ?_) (fun c_91 => ?_)
      · first | refine g_aload1 dX1_write_209 ?_ | refine g_aloadQ1 dX1_write_209 ?_ | refine g_aloadN1 dX1_write_209 ?_
        first | refine g_aload0 dX1_write_210 ?_ | refine g_aloadQ0 dX1_write_210 ?_ | refine g_aloadN0 dX1_write_210 ?_
        refine g_instNo q1912 (gRv.g ha1 rfl rfl) nc_SecretVault_Any_SecretVault_Some dX1_write_211 ?_
        refine g_ifN_eq (tgt := 222) dX1_write_214 (by decide) (by decide) (fun _ => ?_) (fun c => False.elim (by revert c; decide))
        refine g_ldcS hE.l99 dX1_write_222 ?_
        refine g_callVR (ctJ4_append (u := t + 10) hx1 (hE.c99 _ _) ⟨by omega, by omega, by omega⟩ (by simp only [List.length_cons, List.length_nil]; omega) (by decide)) kJ4_append q1914 hx1.rv ⟨by show 5 + 1 ≤ (N + 1) + 14; omega, by show 8 + (2 + 11) + (127) ≤ 60 * (N + 1) + 500; omega⟩ ⟨by show _ + 1 ≤ 20 * w; omega, by show _ + 142 ≤ 2000 * w; omega⟩ rfl (Nat.le_of_ble_eq_true rfl) dX1_write_224 k_x (k_r (fun r_224 h_224 p_224 => ?_))
        obtain ⟨e_224, x_224, f_224⟩ := p_224
        refine V.wide (k' := k + 1) (n' := nn + 142) (by first | exact Nat.le_refl _ | exact wd0 (by decide) | exact wd1 (by decide)) (by first | exact Nat.le_refl _ | exact wd0 (by decide) | exact wd1 (by decide)) ?_
        refine g_pop dX1_write_227 (by first | rfl | exact cat_rf _) ?_
        exact g_vret (hk := by show _ ≤ 20 * w; omega) (hn := by show _ ≤ 2000 * w; omega) dX1_write_228 rfl ⟨rfl, (by rw [rsT_end (RT.out hR (by omega))] at hC; rw [hC] at x_224; exact x_224), hF.tr f_224.toW⟩
      · omega
    | succ n ih =>
      intro i hh C k nn x5 hn hi hR hx1 hC hF hk hnn
      have ha1 := hF _ _ _ ha (wPn ht7)
      have hRl := hR.1
      have hCl : C.length ≤ 100 := by have z := congrArg List.length hC; rw [List.length_append] at z; have := hlT.1; omega
      have hil : i < B.length := by omega
      obtain ⟨y, b, e1, e2, hre, hdr⟩ := RT.el hR (show i < Ls.length by omega)
      have hcd := cw_dr hdr
      have hbl := txA_len (enc := 0) (b := b)
      have K0 : V E cX1_write "SecretVault" (mX1_write (N + 1) w) (pV fun h' => SB E t h' q (L ++ aT (attAny B)) ∧ Fr (wP t) h h') noX X (hh) k nn 122 [some (.ref a), some (.ref q), some (.int (nI 124)), some (.ref l), some (.int (nI i)), some (.int (nI 0))] [] := by
        first | refine g_aload1 dX1_write_122 ?_ | refine g_aloadQ1 dX1_write_122 ?_ | refine g_aloadN1 dX1_write_122 ?_
        refine g_iload4 dX1_write_123 ?_
        first | refine g_ifN_ne (tgt := 133) dX1_write_125 (by decide) (by omega) (fun c_125 => ?_) (fun c_125 => ?_) | refine g_if_ne (tgt := 133) dX1_write_125 (by decide) (fun c_125 => ?_) (fun c_125 => ?_)
        · rw [rsT_s c_125 hdr, txA_z (by decide)] at hC
          have hCz := congrArg List.length hC
          simp only [List.length_append, List.length_cons, List.length_nil] at hCz
          have hlT1 := hlT.1
          simp only [List.length_append, List.length_cons, List.length_nil] at hlT1
          refine g_new 6 (t + 2) [.null, .int 0, .int 0, .int 0] in_J4 tyJ4_ok q192 q193 q73 rfl nwJ4 (by show _ + 1 ≤ 20 * w; omega) (by show _ + 4 ≤ 2000 * w; omega) dX1_write_133 (fun q_133 f_133 => ?_)
          refine g_dup dX1_write_136 rfl ?_
          refine g_callI (ctJ4_init (t := t + 2) (g_up_self _ _ _)) kJ4_init q194 ⟨by show 3 + 1 ≤ (N + 1) + 14; omega, by show 8 + (1 + 11) + (61) ≤ 60 * (N + 1) + 500; omega⟩ ⟨by show _ + 1 ≤ 20 * w; omega, by show _ + 16 ≤ 2000 * w; omega⟩ rfl (Nat.le_of_ble_eq_true rfl) dX1_write_137 k_x (k_v (fun h_137 p_137 => ?_))
          obtain ⟨x_137, g_137⟩ := p_137
          have f_137 : Fr F0r hh h_137 := Fa.frN f_133 g_137
          refine V.wide (k' := k + 2) (n' := nn + 20) (by first | exact Nat.le_refl _ | exact wd0 (by decide) | exact wd1 (by decide)) (by first | exact Nat.le_refl _ | exact wd0 (by decide) | exact wd1 (by decide)) ?_
          refine g_ldcS hE.l99 dX1_write_140 ?_
          refine g_callVR (ctJ4_append (u := t + 10) x_137 (hE.c99 _ _) ⟨by omega, by omega, by omega⟩ (by decide) (by decide)) kJ4_append q1914 x_137.rv ⟨by show 5 + 1 ≤ (N + 1) + 14; omega, by show 8 + (2 + 11) + (127) ≤ 60 * (N + 1) + 500; omega⟩ ⟨by show _ + 1 ≤ 20 * w; omega, by show _ + 142 ≤ 2000 * w; omega⟩ rfl (Nat.le_of_ble_eq_true rfl) dX1_write_142 k_x (k_r (fun r_142 h_142 p_142 => ?_))
          obtain ⟨e_142, x_142, f_142⟩ := p_142
          rw [e_142]
          refine V.wide (k' := k + 3) (n' := nn + 162) (by first | exact Nat.le_refl _ | exact wd0 (by decide) | exact wd1 (by decide)) (by first | exact Nat.le_refl _ | exact wd0 (by decide) | exact wd1 (by decide)) ?_
          refine g_iload2 dX1_write_145 ?_
          refine g_callVR (ctJ4_append_3 124 x_142 (by decide) (by decide)) kJ4_append_3 q1707 x_142.rv ⟨by show 5 + 1 ≤ (N + 1) + 14; omega, by show 8 + (2 + 11) + (125) ≤ 60 * (N + 1) + 500; omega⟩ ⟨by show _ + 1 ≤ 20 * w; omega, by show _ + 142 ≤ 2000 * w; omega⟩ rfl (Nat.le_of_ble_eq_true rfl) dX1_write_146 k_x (k_r (fun r_146 h_146 p_146 => ?_))
          obtain ⟨e_146, x_146, f_146⟩ := p_146
          rw [e_146]
          refine V.wide (k' := k + 4) (n' := nn + 304) (by first | exact Nat.le_refl _ | exact wd0 (by decide) | exact wd1 (by decide)) (by first | exact Nat.le_refl _ | exact wd0 (by decide) | exact wd1 (by decide)) ?_
          refine g_callVR (ctJ4_toString (t + 4) x_146 ⟨by omega, by omega⟩) kJ4_toString q1618 x_146.rv ⟨by show 5 + 1 ≤ (N + 1) + 14; omega, by show 8 + (1 + 11) + (151) ≤ 60 * (N + 1) + 500; omega⟩ ⟨by show _ + 2 ≤ 20 * w; omega, by show _ + 146 ≤ 2000 * w; omega⟩ rfl (Nat.le_of_ble_eq_true rfl) dX1_write_149 k_x (k_r (fun r_149 h_149 p_149 => ?_))
          obtain ⟨e_149, x_149, f_149⟩ := p_149
          have F_149 : Fr (wP t) hh h_149 := f_137.f0.tr (f_142.toW2.tr (f_146.toW2.tr f_149.f0))
          have X_149 : SB E t h_149 q C := (((hx1.fr f_137 id id).fr f_142 (by omega) (by omega)).fr f_146 (by omega) (by omega)).fr f_149 id id
          refine V.wide (k' := k + 6) (n' := nn + 450) (by first | exact Nat.le_refl _ | exact wd0 (by decide) | exact wd1 (by decide)) (by first | exact Nat.le_refl _ | exact wd0 (by decide) | exact wd1 (by decide)) ?_
          refine g_callVR (ctJ4_append (by first | exact X_149 | exact hx1) (by first | exact x_149.st | exact hE.c99 (t + 10) _) ⟨by omega, by omega, by omega⟩ (by simp only [List.length_append, List.length_cons, List.length_nil]; omega) (by first | decide | (simp only [List.length_append, List.length_cons, List.length_nil]; omega))) kJ4_append q1914 (by first | exact X_149.rv | exact hx1.rv) ⟨by show 5 + 1 ≤ (N + 1) + 14; omega, by show 8 + (2 + 11) + (127) ≤ 60 * (N + 1) + 500; omega⟩ ⟨by show _ + 1 ≤ 20 * w; omega, by show _ + 142 ≤ 2000 * w; omega⟩ rfl (Nat.le_of_ble_eq_true rfl) dX1_write_152 k_x (k_r (fun r_152 h_152 p_152 => ?_))
          obtain ⟨e_152, x_152, f_152⟩ := p_152
          rw [e_152]
          have F_152 : Fr (wP t) hh h_152 := by first | exact F_149.tr f_152.toW | exact f_152.toW
          refine V.wide (k' := k + 7) (n' := nn + 592) (by first | exact Nat.le_refl _ | exact wd0 (by decide) | exact wd1 (by decide)) (by first | exact Nat.le_refl _ | exact wd0 (by decide) | exact wd1 (by decide)) ?_
          refine g_iload5 dX1_write_155 ?_
          first | refine g_ifN_eq (tgt := 165) dX1_write_157 (by decide) (by omega) (fun c_157 => ?_) (fun c_157 => ?_) | refine g_if_eq (tgt := 165) dX1_write_157 (by decide) (fun c_157 => ?_) (fun c_157 => ?_)
          · refine g_ldcS hE.l99 dX1_write_165 ?_
            refine g_callVR (ctJ4_append (u := t + 10) x_152 (hE.c99 _ _) ⟨by omega, by omega, by omega⟩ (by simp only [List.length_append, List.length_cons, List.length_nil]; omega) (by decide)) kJ4_append q1914 x_152.rv ⟨by show 5 + 1 ≤ (N + 1) + 14; omega, by show 8 + (2 + 11) + (127) ≤ 60 * (N + 1) + 500; omega⟩ ⟨by show _ + 1 ≤ 20 * w; omega, by show _ + 142 ≤ 2000 * w; omega⟩ rfl (Nat.le_of_ble_eq_true rfl) dX1_write_167 k_x (k_r (fun r_167 h_167 p_167 => ?_))
            obtain ⟨e_167, x_167, f_167⟩ := p_167
            have F_167 := F_152.tr f_167.toW
            have hR3 := hR.fr F_167 (by omega) (by omega) (by omega) (by omega)
            refine V.wide (k' := k + 8) (n' := nn + 734) (by first | exact Nat.le_refl _ | exact wd0 (by decide) | exact wd1 (by decide)) (by first | exact Nat.le_refl _ | exact wd0 (by decide) | exact wd1 (by decide)) ?_
            refine g_pop dX1_write_170 (by first | rfl | exact cat_rf _) ?_
            first | refine g_aload3 dX1_write_171 ?_ | refine g_aloadQ3 dX1_write_171 ?_ | refine g_aloadN3 dX1_write_171 ?_
            refine g_iload4 dX1_write_172 ?_
            refine g_callF (ctJ21_get _ _ hR3.2.1 (show i < Ls.length by omega)) uJ21_get q1213 q1216 ⟨q1215, q1214, q1219, q1217, q994⟩ ⟨⟨by decide, by decide⟩, rfl⟩ (LI.at hR3.2.1).choose_spec rfl ⟨by show 2 + 1 ≤ (N + 1) + 14; omega, by show 8 + (2 + 11) + (43) ≤ 60 * (N + 1) + 500; omega⟩ ⟨by show _ + 0 ≤ 20 * w; omega, by show _ + 0 ≤ 2000 * w; omega⟩ rfl (Nat.le_of_ble_eq_true rfl) dX1_write_174 k_x (k_r (fun r_174 h_174 p_174 => ?_))
            obtain ⟨g_174, z_174⟩ := p_174
            rw [z_174]
            refine V.wide (k' := k + 8) (n' := nn + 734) (by first | exact Nat.le_refl _ | exact wd0 (by decide) | exact wd1 (by decide)) (by first | exact Nat.le_refl _ | exact wd0 (by decide) | exact wd1 (by decide)) ?_
            obtain rfl : y = r_174 := Option.some.inj (e1.symm.trans g_174)
            obtain ⟨C9, k1, k2, -⟩ := Rep.rv (hre.fr F_167 (wPn ht7) (wPn ht))
            refine g_ck q1231 k1 k2 dX1_write_179 ?_
            first | refine g_aload1 dX1_write_182 ?_ | refine g_aloadQ1 dX1_write_182 ?_ | refine g_aloadN1 dX1_write_182 ?_
            refine g_callS (IH _ _ _ _ (hre.fr F_167 (wPn ht7) (wPn ht)) x_167 (by simp only [List.length_append, List.length_cons, List.length_nil]; omega)) (kX1_write _ _) q1907 ⟨by show N + 14 + 1 ≤ (N + 1) + 14; omega, by show 8 + (6 + 11) + (60 * N + 500) ≤ 60 * (N + 1) + 500; omega⟩ ⟨by show _ + 20 * (aT b).length ≤ 20 * w; omega, by show _ + 2000 * (aT b).length ≤ 2000 * w; omega⟩ rfl (Nat.le_of_ble_eq_true rfl) dX1_write_183 k_x (k_v (fun h_183 p_183 => ?_))
            obtain ⟨x_183, f_183⟩ := p_183
            refine V.wide (k' := k + 8 + 20 * (aT b).length) (n' := nn + 734 + 2000 * (aT b).length) (Nat.le_refl _) (Nat.le_refl _) ?_
            first | refine g_aload1 dX1_write_186 ?_ | refine g_aloadQ1 dX1_write_186 ?_ | refine g_aloadN1 dX1_write_186 ?_
            refine g_iload5 dX1_write_187 ?_
            first | refine g_ifN_eq (tgt := 197) dX1_write_189 (by decide) (by omega) (fun c_189 => ?_) (fun c_189 => ?_) | refine g_if_eq (tgt := 197) dX1_write_189 (by decide) (fun c_189 => ?_) (fun c_189 => ?_)
            · refine g_ldcS hE.l99 dX1_write_197 ?_
              refine g_callVR (ctJ4_append (u := t + 10) x_183 (hE.c99 _ _) ⟨by omega, by omega, by omega⟩ (by simp only [List.length_append, List.length_cons, List.length_nil]; omega) (by decide)) kJ4_append q1914 x_183.rv ⟨by show 5 + 1 ≤ (N + 1) + 14; omega, by show 8 + (2 + 11) + (127) ≤ 60 * (N + 1) + 500; omega⟩ ⟨by show _ + 1 ≤ 20 * w; omega, by show _ + 142 ≤ 2000 * w; omega⟩ rfl (Nat.le_of_ble_eq_true rfl) dX1_write_199 k_x (k_r (fun r_199 h_199 p_199 => ?_))
              obtain ⟨e_199, x_199, f_199⟩ := p_199
              have F_199 := F_167.tr (f_183.tr f_199.toW)
              refine V.wide (k' := k + 9 + 20 * (aT b).length) (n' := nn + 876 + 2000 * (aT b).length) (by show k + 8 + 20 * (aT b).length + 1 ≤ _; omega) (by show nn + 734 + 2000 * (aT b).length + 142 ≤ _; omega) ?_
              refine g_pop dX1_write_202 (by first | rfl | exact cat_rf _) ?_
              first | refine g_iincN4 1 dX1_write_203 (by decide) (show ¬ 4 = 255 + 1 by decide) ?_ | refine g_iinc4 _ dX1_write_203 rfl (show ¬ 4 = 255 + 1 by decide) ?_
              refine g_goto (tgt := 83) dX1_write_206 (by decide) ?_
              exact ih (i + 1) _ _ _ _ _ (by omega) (by omega) (hR.fr F_199 (wPn ht7) (wPn ht) (wPn ht7) (wPn ht)) x_199 (by rw [← hC]; simp [List.append_assoc]) (hF.tr F_199) (by omega) (by omega)
            · omega
          · omega
        · rw [rsT_z c_125 hdr, txA_z (by decide)] at hC
          have hCz := congrArg List.length hC
          simp only [List.length_append, List.length_cons, List.length_nil] at hCz
          have hlT1 := hlT.1
          simp only [List.length_append, List.length_cons, List.length_nil] at hlT1
          refine g_ldcS hE.l99 dX1_write_128 ?_
          refine g_goto (tgt := 152) dX1_write_130 (by decide) ?_
          refine g_callVR (ctJ4_append (by first | exact X_149 | exact hx1) (by first | exact x_149.st | exact hE.c99 (t + 10) _) ⟨by omega, by omega, by omega⟩ (by simp only [List.length_append, List.length_cons, List.length_nil]; omega) (by first | decide | (simp only [List.length_append, List.length_cons, List.length_nil]; omega))) kJ4_append q1914 (by first | exact X_149.rv | exact hx1.rv) ⟨by show 5 + 1 ≤ (N + 1) + 14; omega, by show 8 + (2 + 11) + (127) ≤ 60 * (N + 1) + 500; omega⟩ ⟨by show _ + 1 ≤ 20 * w; omega, by show _ + 142 ≤ 2000 * w; omega⟩ rfl (Nat.le_of_ble_eq_true rfl) dX1_write_152 k_x (k_r (fun r_152 h_152 p_152 => ?_))
          obtain ⟨e_152, x_152, f_152⟩ := p_152
          rw [e_152]
          have F_152 : Fr (wP t) hh h_152 := by first | exact F_149.tr f_152.toW | exact f_152.toW
          refine V.wide (k' := k + 7) (n' := nn + 592) (by first | exact Nat.le_refl _ | exact wd0 (by decide) | exact wd1 (by decide)) (by first | exact Nat.le_refl _ | exact wd0 (by decide) | exact wd1 (by decide)) ?_
          refine g_iload5 dX1_write_155 ?_
          first | refine g_ifN_eq (tgt := 165) dX1_write_157 (by decide) (by omega) (fun c_157 => ?_) (fun c_157 => ?_) | refine g_if_eq (tgt := 165) dX1_write_157 (by decide) (fun c_157 => ?_) (fun c_157 => ?_)
          · refine g_ldcS hE.l99 dX1_write_165 ?_
            refine g_callVR (ctJ4_append (u := t + 10) x_152 (hE.c99 _ _) ⟨by omega, by omega, by omega⟩ (by simp only [List.length_append, List.length_cons, List.length_nil]; omega) (by decide)) kJ4_append q1914 x_152.rv ⟨by show 5 + 1 ≤ (N + 1) + 14; omega, by show 8 + (2 + 11) + (127) ≤ 60 * (N + 1) + 500; omega⟩ ⟨by show _ + 1 ≤ 20 * w; omega, by show _ + 142 ≤ 2000 * w; omega⟩ rfl (Nat.le_of_ble_eq_true rfl) dX1_write_167 k_x (k_r (fun r_167 h_167 p_167 => ?_))
            obtain ⟨e_167, x_167, f_167⟩ := p_167
            have F_167 := F_152.tr f_167.toW
            have hR3 := hR.fr F_167 (by omega) (by omega) (by omega) (by omega)
            refine V.wide (k' := k + 8) (n' := nn + 734) (by first | exact Nat.le_refl _ | exact wd0 (by decide) | exact wd1 (by decide)) (by first | exact Nat.le_refl _ | exact wd0 (by decide) | exact wd1 (by decide)) ?_
            refine g_pop dX1_write_170 (by first | rfl | exact cat_rf _) ?_
            first | refine g_aload3 dX1_write_171 ?_ | refine g_aloadQ3 dX1_write_171 ?_ | refine g_aloadN3 dX1_write_171 ?_
            refine g_iload4 dX1_write_172 ?_
            refine g_callF (ctJ21_get _ _ hR3.2.1 (show i < Ls.length by omega)) uJ21_get q1213 q1216 ⟨q1215, q1214, q1219, q1217, q994⟩ ⟨⟨by decide, by decide⟩, rfl⟩ (LI.at hR3.2.1).choose_spec rfl ⟨by show 2 + 1 ≤ (N + 1) + 14; omega, by show 8 + (2 + 11) + (43) ≤ 60 * (N + 1) + 500; omega⟩ ⟨by show _ + 0 ≤ 20 * w; omega, by show _ + 0 ≤ 2000 * w; omega⟩ rfl (Nat.le_of_ble_eq_true rfl) dX1_write_174 k_x (k_r (fun r_174 h_174 p_174 => ?_))
            obtain ⟨g_174, z_174⟩ := p_174
            rw [z_174]
            refine V.wide (k' := k + 8) (n' := nn + 734) (by first | exact Nat.le_refl _ | exact wd0 (by decide) | exact wd1 (by decide)) (by first | exact Nat.le_refl _ | exact wd0 (by decide) | exact wd1 (by decide)) ?_
            obtain rfl : y = r_174 := Option.some.inj (e1.symm.trans g_174)
            obtain ⟨C9, k1, k2, -⟩ := Rep.rv (hre.fr F_167 (wPn ht7) (wPn ht))
            refine g_ck q1231 k1 k2 dX1_write_179 ?_
            first | refine g_aload1 dX1_write_182 ?_ | refine g_aloadQ1 dX1_write_182 ?_ | refine g_aloadN1 dX1_write_182 ?_
            refine g_callS (IH _ _ _ _ (hre.fr F_167 (wPn ht7) (wPn ht)) x_167 (by simp only [List.length_append, List.length_cons, List.length_nil]; omega)) (kX1_write _ _) q1907 ⟨by show N + 14 + 1 ≤ (N + 1) + 14; omega, by show 8 + (6 + 11) + (60 * N + 500) ≤ 60 * (N + 1) + 500; omega⟩ ⟨by show _ + 20 * (aT b).length ≤ 20 * w; omega, by show _ + 2000 * (aT b).length ≤ 2000 * w; omega⟩ rfl (Nat.le_of_ble_eq_true rfl) dX1_write_183 k_x (k_v (fun h_183 p_183 => ?_))
            obtain ⟨x_183, f_183⟩ := p_183
            refine V.wide (k' := k + 8 + 20 * (aT b).length) (n' := nn + 734 + 2000 * (aT b).length) (Nat.le_refl _) (Nat.le_refl _) ?_
            first | refine g_aload1 dX1_write_186 ?_ | refine g_aloadQ1 dX1_write_186 ?_ | refine g_aloadN1 dX1_write_186 ?_
            refine g_iload5 dX1_write_187 ?_
            first | refine g_ifN_eq (tgt := 197) dX1_write_189 (by decide) (by omega) (fun c_189 => ?_) (fun c_189 => ?_) | refine g_if_eq (tgt := 197) dX1_write_189 (by decide) (fun c_189 => ?_) (fun c_189 => ?_)
            · refine g_ldcS hE.l99 dX1_write_197 ?_
              refine g_callVR (ctJ4_append (u := t + 10) x_183 (hE.c99 _ _) ⟨by omega, by omega, by omega⟩ (by simp only [List.length_append, List.length_cons, List.length_nil]; omega) (by decide)) kJ4_append q1914 x_183.rv ⟨by show 5 + 1 ≤ (N + 1) + 14; omega, by show 8 + (2 + 11) + (127) ≤ 60 * (N + 1) + 500; omega⟩ ⟨by show _ + 1 ≤ 20 * w; omega, by show _ + 142 ≤ 2000 * w; omega⟩ rfl (Nat.le_of_ble_eq_true rfl) dX1_write_199 k_x (k_r (fun r_199 h_199 p_199 => ?_))
              obtain ⟨e_199, x_199, f_199⟩ := p_199
              have F_199 := F_167.tr (f_183.tr f_199.toW)
              refine V.wide (k' := k + 9 + 20 * (aT b).length) (n' := nn + 876 + 2000 * (aT b).length) (by show k + 8 + 20 * (aT b).length + 1 ≤ _; omega) (by show nn + 734 + 2000 * (aT b).length + 142 ≤ _; omega) ?_
              refine g_pop dX1_write_202 (by first | rfl | exact cat_rf _) ?_
              first | refine g_iincN4 1 dX1_write_203 (by decide) (show ¬ 4 = 255 + 1 by decide) ?_ | refine g_iinc4 _ dX1_write_203 rfl (show ¬ 4 = 255 + 1 by decide) ?_
              refine g_goto (tgt := 83) dX1_write_206 (by decide) ?_
              exact ih (i + 1) _ _ _ _ _ (by omega) (by omega) (hR.fr F_199 (wPn ht7) (wPn ht) (wPn ht7) (wPn ht)) x_199 (by rw [← hC]; simp [List.append_assoc]) (hF.tr F_199) (by omega) (by omega)
            · omega
          · omega
      refine g_iload4 dX1_write_83 ?_
      first | refine g_aload3 dX1_write_85 ?_ | refine g_aloadQ3 dX1_write_85 ?_ | refine g_aloadN3 dX1_write_85 ?_
      refine g_callF (ctJ21_size _ hR.2.1) uJ21_size q1017 q1020 ⟨q1019, q1018, q1023, q1021, q994⟩ ⟨⟨by decide, by decide⟩, rfl⟩ (LI.at hR.2.1).choose_spec rfl ⟨by show 0 + 1 ≤ (N + 1) + 14; omega, by show 8 + (1 + 11) + (0) ≤ 60 * (N + 1) + 500; omega⟩ ⟨by show _ + 0 ≤ 20 * w; omega, by show _ + 0 ≤ 2000 * w; omega⟩ rfl (Nat.le_of_ble_eq_true rfl) dX1_write_86 k_x (k_n (fun r_86 h_86 p_86 => ?_))
      obtain ⟨rfl, z_86⟩ := p_86
      rw [z_86]
      refine V.wide (k' := k) (n' := nn) (by first | exact Nat.le_refl _ | exact wd0 (by decide) | exact wd1 (by decide)) (by first | exact Nat.le_refl _ | exact wd0 (by decide) | exact wd1 (by decide)) ?_
      first | refine g_icmpN_ge (tgt := 209) dX1_write_91 (by decide) (by omega) (by omega) (fun c_91 => ?_) (fun c_91 => ?_) | refine g_icmp_ge (tgt := 209) dX1_write_91 (by decide) (fun c_91 => ?_) (fun c_91 => ?_)
      · omega
      · first | refine g_aload0 dX1_write_94 ?_ | refine g_aloadQ0 dX1_write_94 ?_ | refine g_aloadN0 dX1_write_94 ?_
        refine g_instNo q1916 (gRv.g ha1 rfl rfl) nc_SecretVault_Any_SecretVault_All dX1_write_95 ?_
        refine g_ifN_eq (tgt := 119) dX1_write_98 (by decide) (by decide) (fun _ => ?_) (fun c => False.elim (by revert c; decide))
        refine g_iconst (nI 0) dX1_write_119 (by decide) ?_
        refine g_istore5 dX1_write_120 (show ¬ 5 = 255 + 1 by decide) ?_
        exact K0
  first | refine g_aload0 dX1_write_0 ?_ | refine g_aloadQ0 dX1_write_0 ?_ | refine g_aloadN0 dX1_write_0 ?_
  refine g_instNo q1910 (gRv.g ha rfl rfl) nc_SecretVault_Any_SecretVault_One dX1_write_1 ?_
  refine g_ifN_eq (tgt := 22) dX1_write_4 (by decide) (by decide) (fun _ => ?_) (fun c => False.elim (by revert c; decide))
  first | refine g_aload0 dX1_write_22 ?_ | refine g_aloadQ0 dX1_write_22 ?_ | refine g_aloadN0 dX1_write_22 ?_
  refine g_instNo q1912 (gRv.g ha rfl rfl) nc_SecretVault_Any_SecretVault_Some dX1_write_23 ?_
  refine g_ifN_eq (tgt := 48) dX1_write_26 (by decide) (by decide) (fun _ => ?_) (fun c => False.elim (by revert c; decide))
  first | refine g_aload0 dX1_write_48 ?_ | refine g_aloadQ0 dX1_write_48 ?_ | refine g_aloadN0 dX1_write_48 ?_
  refine g_instS q1915 ha rfl dX1_write_49 ?_
  refine g_ifN_eq (tgt := 60) dX1_write_52 (by decide) (by decide) (fun c => False.elim (by revert c; decide)) (fun _ => ?_)
  refine g_bipush (nI 124) dX1_write_55 (by decide) ?_
  refine g_goto (tgt := 74) dX1_write_57 (by decide) ?_
  refine g_istore2 dX1_write_74 (show ¬ 2 = 255 + 1 by decide) ?_
  first | refine g_aload0 dX1_write_75 ?_ | refine g_aloadQ0 dX1_write_75 ?_ | refine g_aloadN0 dX1_write_75 ?_
  refine g_callS (ctX1_partsOf_Any (N := 0) ha) (kX1_partsOf _ _) q1917 ⟨by show 9 + 1 ≤ (N + 1) + 14; omega, by show 8 + (2 + 11) + (200) ≤ 60 * (N + 1) + 500; omega⟩ ⟨by show _ + 0 ≤ 20 * w; omega, by show _ + 0 ≤ 2000 * w; omega⟩ rfl (Nat.le_of_ble_eq_true rfl) dX1_write_76 k_x (k_r (fun r_76 h_76 p_76 => ?_))
  obtain ⟨rfl, z_76⟩ := p_76
  rw [z_76]
  refine V.wide (k' := 0) (n' := 0) (by first | exact Nat.le_refl _ | exact wd0 (by decide) | exact wd1 (by decide)) (by first | exact Nat.le_refl _ | exact wd0 (by decide) | exact wd1 (by decide)) ?_
  first | refine g_astore3 dX1_write_79 (show ¬ 3 = 255 + 1 by decide) ?_ | refine g_astoreQ3 dX1_write_79 (show ¬ 3 = 255 + 1 by decide) ?_ | refine g_astoreN3 dX1_write_79 (show ¬ 3 = 255 + 1 by decide) ?_
  refine g_iconst (nI 0) dX1_write_80 (by decide) ?_
  refine g_istore4 dX1_write_81 (show ¬ 4 = 255 + 1 by decide) ?_
  exact K B.length 0 _ L 0 0 _ rfl (Nat.zero_le _) hL hx rfl Fr.rf (by rw [List.drop_zero]; omega) (by rw [List.drop_zero]; omega)
set_option maxHeartbeats 400000 in
theorem ctX1_write_All {E : GE} {h : AH} {N a q t w l : Nat} {L Ls : List Nat} {B : List Att} (ht : 8 < t) (hE : gE E) (ha : h a = some (7, gO 18 [.ref l])) (hL : RL E h N l Ls B) (hn2 : 2 ≤ B.length) (hx : SB E t h q L) (hw : w = (aT (attAll B)).length) (hlen : L.length + w ≤ 100) (IH : ∀ (h : AH) (a : Nat) (A : Att) (L : List Nat), Rep E h N a A → SB E t h q L → L.length + (aT A).length ≤ 100 → Ct E cX1_write (mX1_write N (aT A).length) [.ref a, .ref q] h (pV fun h' => SB E t h' q (L ++ aT A) ∧ Fr (wP t) h h') noX) : Ct E cX1_write (mX1_write (N + 1) w) [.ref a, .ref q] (h) (pV fun h' => SB E t h' q (L ++ aT (attAll B)) ∧ Fr (wP t) h h') (noX) := by
  refine g_enter (own := "SecretVault") [some (.ref a), some (.ref q), none, none, none, none] (show plainName yX1_write.cls = true by decide +kernel) rfl rfl (Nat.le_of_ble_eq_true rfl) rfl rfl (fun X => ?_)
  have ht7 : 7 < t := by omega
  have hB := hL.1
  have hB2 := hL.len
  have hcw := cw_le (sep := 38) (enc := 1) (B := B)
  have hlT : (L ++ txL 38 1 B).length ≤ 100 ∧ w = (L ++ txL 38 1 B).length - L.length + 0 := by
    have z : (aT (attAll B)).length = (txL 38 1 B).length := rfl
    simp only [List.length_append] at *
    omega
  have hwl : w = (txL 38 1 B).length + 0 := by
    have z := hlT.2
    simp only [List.length_append, List.length_cons, List.length_nil] at z
    omega
  have K : ∀ n i hh C k nn (x5 : Option Value), n + i = B.length → i ≤ 32 → RT E 7 hh N l Ls B → SB E t hh q C → C ++ rsT 38 1 i B = L ++ txL 38 1 B → Fr (wP t) h hh → k + cw (B.drop i) + 1 ≤ 20 * w → nn + 100 * cw (B.drop i) + 142 ≤ 2000 * w → V E cX1_write "SecretVault" (mX1_write (N + 1) w) (pV fun h' => SB E t h' q (L ++ aT (attAll B)) ∧ Fr (wP t) h h') noX X (hh) k nn 83 [some (.ref a), some (.ref q), some (.int (nI 38)), some (.ref l), some (.int (nI i)), x5] [] := by
    intro n
    induction n with
    | zero =>
      intro i hh C k nn x5 hn hi hR hx1 hC hF hk hnn
      have ha1 := hF _ _ _ ha (wPn ht7)
      have hRl := hR.1
      have hCl : C.length ≤ 100 := by have z := congrArg List.length hC; rw [List.length_append] at z; have := hlT.1; omega
      have hC2 : C.length + 1 ≤ 101 := by omega
      refine g_iload4 dX1_write_83 ?_
      first | refine g_aload3 dX1_write_85 ?_ | refine g_aloadQ3 dX1_write_85 ?_ | refine g_aloadN3 dX1_write_85 ?_
      refine g_callF (ctJ21_size _ hR.2.1) uJ21_size q1017 q1020 ⟨q1019, q1018, q1023, q1021, q994⟩ ⟨⟨by decide, by decide⟩, rfl⟩ (LI.at hR.2.1).choose_spec rfl ⟨by show 0 + 1 ≤ (N + 1) + 14; omega, by show 8 + (1 + 11) + (0) ≤ 60 * (N + 1) + 500; omega⟩ ⟨by show _ + 0 ≤ 20 * w; omega, by show _ + 0 ≤ 2000 * w; omega⟩ rfl (Nat.le_of_ble_eq_true rfl) dX1_write_86 k_x (k_n (fun r_86 h_86 p_86 => ?_))
      obtain ⟨rfl, z_86⟩ := p_86
      rw [z_86]
      refine V.wide (k' := k) (n' := nn) (by first | exact Nat.le_refl _ | exact wd0 (by decide) | exact wd1 (by decide)) (by first | exact Nat.le_refl _ | exact wd0 (by decide) | exact wd1 (by decide)) ?_
      first | refine g_icmpN_ge (tgt := 209) dX1_write_91 (by decide) (by omega) (by omega) (fun c_91 => ?_) (fun c_91 => ?_) | refine g_icmp_ge (tgt := 209) dX1_write_91 (by decide) (fun c_91 => ?_) (fun c_91 => ?_)
      · first | refine g_aload1 dX1_write_209 ?_ | refine g_aloadQ1 dX1_write_209 ?_ | refine g_aloadN1 dX1_write_209 ?_
        first | refine g_aload0 dX1_write_210 ?_ | refine g_aloadQ0 dX1_write_210 ?_ | refine g_aloadN0 dX1_write_210 ?_
        refine g_instNo q1912 (gRv.g ha1 rfl rfl) nc_SecretVault_All_SecretVault_Some dX1_write_211 ?_
        refine g_ifN_eq (tgt := 222) dX1_write_214 (by decide) (by decide) (fun _ => ?_) (fun c => False.elim (by revert c; decide))
        refine g_ldcS hE.l99 dX1_write_222 ?_
        refine g_callVR (ctJ4_append (u := t + 10) hx1 (hE.c99 _ _) ⟨by omega, by omega, by omega⟩ (by simp only [List.length_cons, List.length_nil]; omega) (by decide)) kJ4_append q1914 hx1.rv ⟨by show 5 + 1 ≤ (N + 1) + 14; omega, by show 8 + (2 + 11) + (127) ≤ 60 * (N + 1) + 500; omega⟩ ⟨by show _ + 1 ≤ 20 * w; omega, by show _ + 142 ≤ 2000 * w; omega⟩ rfl (Nat.le_of_ble_eq_true rfl) dX1_write_224 k_x (k_r (fun r_224 h_224 p_224 => ?_))
        obtain ⟨e_224, x_224, f_224⟩ := p_224
        refine V.wide (k' := k + 1) (n' := nn + 142) (by first | exact Nat.le_refl _ | exact wd0 (by decide) | exact wd1 (by decide)) (by first | exact Nat.le_refl _ | exact wd0 (by decide) | exact wd1 (by decide)) ?_
        refine g_pop dX1_write_227 (by first | rfl | exact cat_rf _) ?_
        exact g_vret (hk := by show _ ≤ 20 * w; omega) (hn := by show _ ≤ 2000 * w; omega) dX1_write_228 rfl ⟨rfl, (by rw [rsT_end (RT.out hR (by omega))] at hC; rw [hC] at x_224; exact x_224), hF.tr f_224.toW⟩
      · omega
    | succ n ih =>
      intro i hh C k nn x5 hn hi hR hx1 hC hF hk hnn
      have ha1 := hF _ _ _ ha (wPn ht7)
      have hRl := hR.1
      have hCl : C.length ≤ 100 := by have z := congrArg List.length hC; rw [List.length_append] at z; have := hlT.1; omega
      have hil : i < B.length := by omega
      obtain ⟨y, b, e1, e2, hre, hdr⟩ := RT.el hR (show i < Ls.length by omega)
      have hcd := cw_dr hdr
      have hbl := txA_len (enc := 1) (b := b)
      have K0 : ∀ (hek : ¬ aK b = 1), V E cX1_write "SecretVault" (mX1_write (N + 1) w) (pV fun h' => SB E t h' q (L ++ aT (attAll B)) ∧ Fr (wP t) h h') noX X (hh) k nn 122 [some (.ref a), some (.ref q), some (.int (nI 38)), some (.ref l), some (.int (nI i)), some (.int (nI 0))] [] := by
        intro hek
        first | refine g_aload1 dX1_write_122 ?_ | refine g_aloadQ1 dX1_write_122 ?_ | refine g_aloadN1 dX1_write_122 ?_
        refine g_iload4 dX1_write_123 ?_
        first | refine g_ifN_ne (tgt := 133) dX1_write_125 (by decide) (by omega) (fun c_125 => ?_) (fun c_125 => ?_) | refine g_if_ne (tgt := 133) dX1_write_125 (by decide) (fun c_125 => ?_) (fun c_125 => ?_)
        · rw [rsT_s c_125 hdr, txA_n hek] at hC
          have hCz := congrArg List.length hC
          simp only [List.length_append, List.length_cons, List.length_nil] at hCz
          have hlT1 := hlT.1
          simp only [List.length_append, List.length_cons, List.length_nil] at hlT1
          refine g_new 6 (t + 2) [.null, .int 0, .int 0, .int 0] in_J4 tyJ4_ok q192 q193 q73 rfl nwJ4 (by show _ + 1 ≤ 20 * w; omega) (by show _ + 4 ≤ 2000 * w; omega) dX1_write_133 (fun q_133 f_133 => ?_)
          refine g_dup dX1_write_136 rfl ?_
          refine g_callI (ctJ4_init (t := t + 2) (g_up_self _ _ _)) kJ4_init q194 ⟨by show 3 + 1 ≤ (N + 1) + 14; omega, by show 8 + (1 + 11) + (61) ≤ 60 * (N + 1) + 500; omega⟩ ⟨by show _ + 1 ≤ 20 * w; omega, by show _ + 16 ≤ 2000 * w; omega⟩ rfl (Nat.le_of_ble_eq_true rfl) dX1_write_137 k_x (k_v (fun h_137 p_137 => ?_))
          obtain ⟨x_137, g_137⟩ := p_137
          have f_137 : Fr F0r hh h_137 := Fa.frN f_133 g_137
          refine V.wide (k' := k + 2) (n' := nn + 20) (by first | exact Nat.le_refl _ | exact wd0 (by decide) | exact wd1 (by decide)) (by first | exact Nat.le_refl _ | exact wd0 (by decide) | exact wd1 (by decide)) ?_
          refine g_ldcS hE.l99 dX1_write_140 ?_
          refine g_callVR (ctJ4_append (u := t + 10) x_137 (hE.c99 _ _) ⟨by omega, by omega, by omega⟩ (by decide) (by decide)) kJ4_append q1914 x_137.rv ⟨by show 5 + 1 ≤ (N + 1) + 14; omega, by show 8 + (2 + 11) + (127) ≤ 60 * (N + 1) + 500; omega⟩ ⟨by show _ + 1 ≤ 20 * w; omega, by show _ + 142 ≤ 2000 * w; omega⟩ rfl (Nat.le_of_ble_eq_true rfl) dX1_write_142 k_x (k_r (fun r_142 h_142 p_142 => ?_))
          obtain ⟨e_142, x_142, f_142⟩ := p_142
          rw [e_142]
          refine V.wide (k' := k + 3) (n' := nn + 162) (by first | exact Nat.le_refl _ | exact wd0 (by decide) | exact wd1 (by decide)) (by first | exact Nat.le_refl _ | exact wd0 (by decide) | exact wd1 (by decide)) ?_
          refine g_iload2 dX1_write_145 ?_
          refine g_callVR (ctJ4_append_3 38 x_142 (by decide) (by decide)) kJ4_append_3 q1707 x_142.rv ⟨by show 5 + 1 ≤ (N + 1) + 14; omega, by show 8 + (2 + 11) + (125) ≤ 60 * (N + 1) + 500; omega⟩ ⟨by show _ + 1 ≤ 20 * w; omega, by show _ + 142 ≤ 2000 * w; omega⟩ rfl (Nat.le_of_ble_eq_true rfl) dX1_write_146 k_x (k_r (fun r_146 h_146 p_146 => ?_))
          obtain ⟨e_146, x_146, f_146⟩ := p_146
          rw [e_146]
          refine V.wide (k' := k + 4) (n' := nn + 304) (by first | exact Nat.le_refl _ | exact wd0 (by decide) | exact wd1 (by decide)) (by first | exact Nat.le_refl _ | exact wd0 (by decide) | exact wd1 (by decide)) ?_
          refine g_callVR (ctJ4_toString (t + 4) x_146 ⟨by omega, by omega⟩) kJ4_toString q1618 x_146.rv ⟨by show 5 + 1 ≤ (N + 1) + 14; omega, by show 8 + (1 + 11) + (151) ≤ 60 * (N + 1) + 500; omega⟩ ⟨by show _ + 2 ≤ 20 * w; omega, by show _ + 146 ≤ 2000 * w; omega⟩ rfl (Nat.le_of_ble_eq_true rfl) dX1_write_149 k_x (k_r (fun r_149 h_149 p_149 => ?_))
          obtain ⟨e_149, x_149, f_149⟩ := p_149
          have F_149 : Fr (wP t) hh h_149 := f_137.f0.tr (f_142.toW2.tr (f_146.toW2.tr f_149.f0))
          have X_149 : SB E t h_149 q C := (((hx1.fr f_137 id id).fr f_142 (by omega) (by omega)).fr f_146 (by omega) (by omega)).fr f_149 id id
          refine V.wide (k' := k + 6) (n' := nn + 450) (by first | exact Nat.le_refl _ | exact wd0 (by decide) | exact wd1 (by decide)) (by first | exact Nat.le_refl _ | exact wd0 (by decide) | exact wd1 (by decide)) ?_
          refine g_callVR (ctJ4_append (by first | exact X_149 | exact hx1) (by first | exact x_149.st | exact hE.c99 (t + 10) _) ⟨by omega, by omega, by omega⟩ (by simp only [List.length_append, List.length_cons, List.length_nil]; omega) (by first | decide | (simp only [List.length_append, List.length_cons, List.length_nil]; omega))) kJ4_append q1914 (by first | exact X_149.rv | exact hx1.rv) ⟨by show 5 + 1 ≤ (N + 1) + 14; omega, by show 8 + (2 + 11) + (127) ≤ 60 * (N + 1) + 500; omega⟩ ⟨by show _ + 1 ≤ 20 * w; omega, by show _ + 142 ≤ 2000 * w; omega⟩ rfl (Nat.le_of_ble_eq_true rfl) dX1_write_152 k_x (k_r (fun r_152 h_152 p_152 => ?_))
          obtain ⟨e_152, x_152, f_152⟩ := p_152
          rw [e_152]
          have F_152 : Fr (wP t) hh h_152 := by first | exact F_149.tr f_152.toW | exact f_152.toW
          refine V.wide (k' := k + 7) (n' := nn + 592) (by first | exact Nat.le_refl _ | exact wd0 (by decide) | exact wd1 (by decide)) (by first | exact Nat.le_refl _ | exact wd0 (by decide) | exact wd1 (by decide)) ?_
          refine g_iload5 dX1_write_155 ?_
          first | refine g_ifN_eq (tgt := 165) dX1_write_157 (by decide) (by omega) (fun c_157 => ?_) (fun c_157 => ?_) | refine g_if_eq (tgt := 165) dX1_write_157 (by decide) (fun c_157 => ?_) (fun c_157 => ?_)
          · refine g_ldcS hE.l99 dX1_write_165 ?_
            refine g_callVR (ctJ4_append (u := t + 10) x_152 (hE.c99 _ _) ⟨by omega, by omega, by omega⟩ (by simp only [List.length_append, List.length_cons, List.length_nil]; omega) (by decide)) kJ4_append q1914 x_152.rv ⟨by show 5 + 1 ≤ (N + 1) + 14; omega, by show 8 + (2 + 11) + (127) ≤ 60 * (N + 1) + 500; omega⟩ ⟨by show _ + 1 ≤ 20 * w; omega, by show _ + 142 ≤ 2000 * w; omega⟩ rfl (Nat.le_of_ble_eq_true rfl) dX1_write_167 k_x (k_r (fun r_167 h_167 p_167 => ?_))
            obtain ⟨e_167, x_167, f_167⟩ := p_167
            have F_167 := F_152.tr f_167.toW
            have hR3 := hR.fr F_167 (by omega) (by omega) (by omega) (by omega)
            refine V.wide (k' := k + 8) (n' := nn + 734) (by first | exact Nat.le_refl _ | exact wd0 (by decide) | exact wd1 (by decide)) (by first | exact Nat.le_refl _ | exact wd0 (by decide) | exact wd1 (by decide)) ?_
            refine g_pop dX1_write_170 (by first | rfl | exact cat_rf _) ?_
            first | refine g_aload3 dX1_write_171 ?_ | refine g_aloadQ3 dX1_write_171 ?_ | refine g_aloadN3 dX1_write_171 ?_
            refine g_iload4 dX1_write_172 ?_
            refine g_callF (ctJ21_get _ _ hR3.2.1 (show i < Ls.length by omega)) uJ21_get q1213 q1216 ⟨q1215, q1214, q1219, q1217, q994⟩ ⟨⟨by decide, by decide⟩, rfl⟩ (LI.at hR3.2.1).choose_spec rfl ⟨by show 2 + 1 ≤ (N + 1) + 14; omega, by show 8 + (2 + 11) + (43) ≤ 60 * (N + 1) + 500; omega⟩ ⟨by show _ + 0 ≤ 20 * w; omega, by show _ + 0 ≤ 2000 * w; omega⟩ rfl (Nat.le_of_ble_eq_true rfl) dX1_write_174 k_x (k_r (fun r_174 h_174 p_174 => ?_))
            obtain ⟨g_174, z_174⟩ := p_174
            rw [z_174]
            refine V.wide (k' := k + 8) (n' := nn + 734) (by first | exact Nat.le_refl _ | exact wd0 (by decide) | exact wd1 (by decide)) (by first | exact Nat.le_refl _ | exact wd0 (by decide) | exact wd1 (by decide)) ?_
            obtain rfl : y = r_174 := Option.some.inj (e1.symm.trans g_174)
            obtain ⟨C9, k1, k2, -⟩ := Rep.rv (hre.fr F_167 (wPn ht7) (wPn ht))
            refine g_ck q1231 k1 k2 dX1_write_179 ?_
            first | refine g_aload1 dX1_write_182 ?_ | refine g_aloadQ1 dX1_write_182 ?_ | refine g_aloadN1 dX1_write_182 ?_
            refine g_callS (IH _ _ _ _ (hre.fr F_167 (wPn ht7) (wPn ht)) x_167 (by simp only [List.length_append, List.length_cons, List.length_nil]; omega)) (kX1_write _ _) q1907 ⟨by show N + 14 + 1 ≤ (N + 1) + 14; omega, by show 8 + (6 + 11) + (60 * N + 500) ≤ 60 * (N + 1) + 500; omega⟩ ⟨by show _ + 20 * (aT b).length ≤ 20 * w; omega, by show _ + 2000 * (aT b).length ≤ 2000 * w; omega⟩ rfl (Nat.le_of_ble_eq_true rfl) dX1_write_183 k_x (k_v (fun h_183 p_183 => ?_))
            obtain ⟨x_183, f_183⟩ := p_183
            refine V.wide (k' := k + 8 + 20 * (aT b).length) (n' := nn + 734 + 2000 * (aT b).length) (Nat.le_refl _) (Nat.le_refl _) ?_
            first | refine g_aload1 dX1_write_186 ?_ | refine g_aloadQ1 dX1_write_186 ?_ | refine g_aloadN1 dX1_write_186 ?_
            refine g_iload5 dX1_write_187 ?_
            first | refine g_ifN_eq (tgt := 197) dX1_write_189 (by decide) (by omega) (fun c_189 => ?_) (fun c_189 => ?_) | refine g_if_eq (tgt := 197) dX1_write_189 (by decide) (fun c_189 => ?_) (fun c_189 => ?_)
            · refine g_ldcS hE.l99 dX1_write_197 ?_
              refine g_callVR (ctJ4_append (u := t + 10) x_183 (hE.c99 _ _) ⟨by omega, by omega, by omega⟩ (by simp only [List.length_append, List.length_cons, List.length_nil]; omega) (by decide)) kJ4_append q1914 x_183.rv ⟨by show 5 + 1 ≤ (N + 1) + 14; omega, by show 8 + (2 + 11) + (127) ≤ 60 * (N + 1) + 500; omega⟩ ⟨by show _ + 1 ≤ 20 * w; omega, by show _ + 142 ≤ 2000 * w; omega⟩ rfl (Nat.le_of_ble_eq_true rfl) dX1_write_199 k_x (k_r (fun r_199 h_199 p_199 => ?_))
              obtain ⟨e_199, x_199, f_199⟩ := p_199
              have F_199 := F_167.tr (f_183.tr f_199.toW)
              refine V.wide (k' := k + 9 + 20 * (aT b).length) (n' := nn + 876 + 2000 * (aT b).length) (by show k + 8 + 20 * (aT b).length + 1 ≤ _; omega) (by show nn + 734 + 2000 * (aT b).length + 142 ≤ _; omega) ?_
              refine g_pop dX1_write_202 (by first | rfl | exact cat_rf _) ?_
              first | refine g_iincN4 1 dX1_write_203 (by decide) (show ¬ 4 = 255 + 1 by decide) ?_ | refine g_iinc4 _ dX1_write_203 rfl (show ¬ 4 = 255 + 1 by decide) ?_
              refine g_goto (tgt := 83) dX1_write_206 (by decide) ?_
              exact ih (i + 1) _ _ _ _ _ (by omega) (by omega) (hR.fr F_199 (wPn ht7) (wPn ht) (wPn ht7) (wPn ht)) x_199 (by rw [← hC]; simp [List.append_assoc]) (hF.tr F_199) (by omega) (by omega)
            · omega
          · omega
        · rw [rsT_z c_125 hdr, txA_n hek] at hC
          have hCz := congrArg List.length hC
          simp only [List.length_append, List.length_cons, List.length_nil] at hCz
          have hlT1 := hlT.1
          simp only [List.length_append, List.length_cons, List.length_nil] at hlT1
          refine g_ldcS hE.l99 dX1_write_128 ?_
          refine g_goto (tgt := 152) dX1_write_130 (by decide) ?_
          refine g_callVR (ctJ4_append (by first | exact X_149 | exact hx1) (by first | exact x_149.st | exact hE.c99 (t + 10) _) ⟨by omega, by omega, by omega⟩ (by simp only [List.length_append, List.length_cons, List.length_nil]; omega) (by first | decide | (simp only [List.length_append, List.length_cons, List.length_nil]; omega))) kJ4_append q1914 (by first | exact X_149.rv | exact hx1.rv) ⟨by show 5 + 1 ≤ (N + 1) + 14; omega, by show 8 + (2 + 11) + (127) ≤ 60 * (N + 1) + 500; omega⟩ ⟨by show _ + 1 ≤ 20 * w; omega, by show _ + 142 ≤ 2000 * w; omega⟩ rfl (Nat.le_of_ble_eq_true rfl) dX1_write_152 k_x (k_r (fun r_152 h_152 p_152 => ?_))
          obtain ⟨e_152, x_152, f_152⟩ := p_152
          rw [e_152]
          have F_152 : Fr (wP t) hh h_152 := by first | exact F_149.tr f_152.toW | exact f_152.toW
          refine V.wide (k' := k + 7) (n' := nn + 592) (by first | exact Nat.le_refl _ | exact wd0 (by decide) | exact wd1 (by decide)) (by first | exact Nat.le_refl _ | exact wd0 (by decide) | exact wd1 (by decide)) ?_
          refine g_iload5 dX1_write_155 ?_
          first | refine g_ifN_eq (tgt := 165) dX1_write_157 (by decide) (by omega) (fun c_157 => ?_) (fun c_157 => ?_) | refine g_if_eq (tgt := 165) dX1_write_157 (by decide) (fun c_157 => ?_) (fun c_157 => ?_)
          · refine g_ldcS hE.l99 dX1_write_165 ?_
            refine g_callVR (ctJ4_append (u := t + 10) x_152 (hE.c99 _ _) ⟨by omega, by omega, by omega⟩ (by simp only [List.length_append, List.length_cons, List.length_nil]; omega) (by decide)) kJ4_append q1914 x_152.rv ⟨by show 5 + 1 ≤ (N + 1) + 14; omega, by show 8 + (2 + 11) + (127) ≤ 60 * (N + 1) + 500; omega⟩ ⟨by show _ + 1 ≤ 20 * w; omega, by show _ + 142 ≤ 2000 * w; omega⟩ rfl (Nat.le_of_ble_eq_true rfl) dX1_write_167 k_x (k_r (fun r_167 h_167 p_167 => ?_))
            obtain ⟨e_167, x_167, f_167⟩ := p_167
            have F_167 := F_152.tr f_167.toW
            have hR3 := hR.fr F_167 (by omega) (by omega) (by omega) (by omega)
            refine V.wide (k' := k + 8) (n' := nn + 734) (by first | exact Nat.le_refl _ | exact wd0 (by decide) | exact wd1 (by decide)) (by first | exact Nat.le_refl _ | exact wd0 (by decide) | exact wd1 (by decide)) ?_
            refine g_pop dX1_write_170 (by first | rfl | exact cat_rf _) ?_
            first | refine g_aload3 dX1_write_171 ?_ | refine g_aloadQ3 dX1_write_171 ?_ | refine g_aloadN3 dX1_write_171 ?_
            refine g_iload4 dX1_write_172 ?_
            refine g_callF (ctJ21_get _ _ hR3.2.1 (show i < Ls.length by omega)) uJ21_get q1213 q1216 ⟨q1215, q1214, q1219, q1217, q994⟩ ⟨⟨by decide, by decide⟩, rfl⟩ (LI.at hR3.2.1).choose_spec rfl ⟨by show 2 + 1 ≤ (N + 1) + 14; omega, by show 8 + (2 + 11) + (43) ≤ 60 * (N + 1) + 500; omega⟩ ⟨by show _ + 0 ≤ 20 * w; omega, by show _ + 0 ≤ 2000 * w; omega⟩ rfl (Nat.le_of_ble_eq_true rfl) dX1_write_174 k_x (k_r (fun r_174 h_174 p_174 => ?_))
            obtain ⟨g_174, z_174⟩ := p_174
            rw [z_174]
            refine V.wide (k' := k + 8) (n' := nn + 734) (by first | exact Nat.le_refl _ | exact wd0 (by decide) | exact wd1 (by decide)) (by first | exact Nat.le_refl _ | exact wd0 (by decide) | exact wd1 (by decide)) ?_
            obtain rfl : y = r_174 := Option.some.inj (e1.symm.trans g_174)
            obtain ⟨C9, k1, k2, -⟩ := Rep.rv (hre.fr F_167 (wPn ht7) (wPn ht))
            refine g_ck q1231 k1 k2 dX1_write_179 ?_
            first | refine g_aload1 dX1_write_182 ?_ | refine g_aloadQ1 dX1_write_182 ?_ | refine g_aloadN1 dX1_write_182 ?_
            refine g_callS (IH _ _ _ _ (hre.fr F_167 (wPn ht7) (wPn ht)) x_167 (by simp only [List.length_append, List.length_cons, List.length_nil]; omega)) (kX1_write _ _) q1907 ⟨by show N + 14 + 1 ≤ (N + 1) + 14; omega, by show 8 + (6 + 11) + (60 * N + 500) ≤ 60 * (N + 1) + 500; omega⟩ ⟨by show _ + 20 * (aT b).length ≤ 20 * w; omega, by show _ + 2000 * (aT b).length ≤ 2000 * w; omega⟩ rfl (Nat.le_of_ble_eq_true rfl) dX1_write_183 k_x (k_v (fun h_183 p_183 => ?_))
            obtain ⟨x_183, f_183⟩ := p_183
            refine V.wide (k' := k + 8 + 20 * (aT b).length) (n' := nn + 734 + 2000 * (aT b).length) (Nat.le_refl _) (Nat.le_refl _) ?_
            first | refine g_aload1 dX1_write_186 ?_ | refine g_aloadQ1 dX1_write_186 ?_ | refine g_aloadN1 dX1_write_186 ?_
            refine g_iload5 dX1_write_187 ?_
            first | refine g_ifN_eq (tgt := 197) dX1_write_189 (by decide) (by omega) (fun c_189 => ?_) (fun c_189 => ?_) | refine g_if_eq (tgt := 197) dX1_write_189 (by decide) (fun c_189 => ?_) (fun c_189 => ?_)
            · refine g_ldcS hE.l99 dX1_write_197 ?_
              refine g_callVR (ctJ4_append (u := t + 10) x_183 (hE.c99 _ _) ⟨by omega, by omega, by omega⟩ (by simp only [List.length_append, List.length_cons, List.length_nil]; omega) (by decide)) kJ4_append q1914 x_183.rv ⟨by show 5 + 1 ≤ (N + 1) + 14; omega, by show 8 + (2 + 11) + (127) ≤ 60 * (N + 1) + 500; omega⟩ ⟨by show _ + 1 ≤ 20 * w; omega, by show _ + 142 ≤ 2000 * w; omega⟩ rfl (Nat.le_of_ble_eq_true rfl) dX1_write_199 k_x (k_r (fun r_199 h_199 p_199 => ?_))
              obtain ⟨e_199, x_199, f_199⟩ := p_199
              have F_199 := F_167.tr (f_183.tr f_199.toW)
              refine V.wide (k' := k + 9 + 20 * (aT b).length) (n' := nn + 876 + 2000 * (aT b).length) (by show k + 8 + 20 * (aT b).length + 1 ≤ _; omega) (by show nn + 734 + 2000 * (aT b).length + 142 ≤ _; omega) ?_
              refine g_pop dX1_write_202 (by first | rfl | exact cat_rf _) ?_
              first | refine g_iincN4 1 dX1_write_203 (by decide) (show ¬ 4 = 255 + 1 by decide) ?_ | refine g_iinc4 _ dX1_write_203 rfl (show ¬ 4 = 255 + 1 by decide) ?_
              refine g_goto (tgt := 83) dX1_write_206 (by decide) ?_
              exact ih (i + 1) _ _ _ _ _ (by omega) (by omega) (hR.fr F_199 (wPn ht7) (wPn ht) (wPn ht7) (wPn ht)) x_199 (by rw [← hC]; simp [List.append_assoc]) (hF.tr F_199) (by omega) (by omega)
            · omega
          · omega
      have K1 : ∀ (hek : aK b = 1), V E cX1_write "SecretVault" (mX1_write (N + 1) w) (pV fun h' => SB E t h' q (L ++ aT (attAll B)) ∧ Fr (wP t) h h') noX X (hh) k nn 122 [some (.ref a), some (.ref q), some (.int (nI 38)), some (.ref l), some (.int (nI i)), some (.int (nI 1))] [] := by
        intro hek
        first | refine g_aload1 dX1_write_122 ?_ | refine g_aloadQ1 dX1_write_122 ?_ | refine g_aloadN1 dX1_write_122 ?_
        refine g_iload4 dX1_write_123 ?_
        first | refine g_ifN_ne (tgt := 133) dX1_write_125 (by decide) (by omega) (fun c_125 => ?_) (fun c_125 => ?_) | refine g_if_ne (tgt := 133) dX1_write_125 (by decide) (fun c_125 => ?_) (fun c_125 => ?_)
        · rw [rsT_s c_125 hdr, txA_y rfl hek] at hC
          have hCz := congrArg List.length hC
          simp only [List.length_append, List.length_cons, List.length_nil] at hCz
          have hlT1 := hlT.1
          simp only [List.length_append, List.length_cons, List.length_nil] at hlT1
          refine g_new 6 (t + 2) [.null, .int 0, .int 0, .int 0] in_J4 tyJ4_ok q192 q193 q73 rfl nwJ4 (by show _ + 1 ≤ 20 * w; omega) (by show _ + 4 ≤ 2000 * w; omega) dX1_write_133 (fun q_133 f_133 => ?_)
          refine g_dup dX1_write_136 rfl ?_
          refine g_callI (ctJ4_init (t := t + 2) (g_up_self _ _ _)) kJ4_init q194 ⟨by show 3 + 1 ≤ (N + 1) + 14; omega, by show 8 + (1 + 11) + (61) ≤ 60 * (N + 1) + 500; omega⟩ ⟨by show _ + 1 ≤ 20 * w; omega, by show _ + 16 ≤ 2000 * w; omega⟩ rfl (Nat.le_of_ble_eq_true rfl) dX1_write_137 k_x (k_v (fun h_137 p_137 => ?_))
          obtain ⟨x_137, g_137⟩ := p_137
          have f_137 : Fr F0r hh h_137 := Fa.frN f_133 g_137
          refine V.wide (k' := k + 2) (n' := nn + 20) (by first | exact Nat.le_refl _ | exact wd0 (by decide) | exact wd1 (by decide)) (by first | exact Nat.le_refl _ | exact wd0 (by decide) | exact wd1 (by decide)) ?_
          refine g_ldcS hE.l99 dX1_write_140 ?_
          refine g_callVR (ctJ4_append (u := t + 10) x_137 (hE.c99 _ _) ⟨by omega, by omega, by omega⟩ (by decide) (by decide)) kJ4_append q1914 x_137.rv ⟨by show 5 + 1 ≤ (N + 1) + 14; omega, by show 8 + (2 + 11) + (127) ≤ 60 * (N + 1) + 500; omega⟩ ⟨by show _ + 1 ≤ 20 * w; omega, by show _ + 142 ≤ 2000 * w; omega⟩ rfl (Nat.le_of_ble_eq_true rfl) dX1_write_142 k_x (k_r (fun r_142 h_142 p_142 => ?_))
          obtain ⟨e_142, x_142, f_142⟩ := p_142
          rw [e_142]
          refine V.wide (k' := k + 3) (n' := nn + 162) (by first | exact Nat.le_refl _ | exact wd0 (by decide) | exact wd1 (by decide)) (by first | exact Nat.le_refl _ | exact wd0 (by decide) | exact wd1 (by decide)) ?_
          refine g_iload2 dX1_write_145 ?_
          refine g_callVR (ctJ4_append_3 38 x_142 (by decide) (by decide)) kJ4_append_3 q1707 x_142.rv ⟨by show 5 + 1 ≤ (N + 1) + 14; omega, by show 8 + (2 + 11) + (125) ≤ 60 * (N + 1) + 500; omega⟩ ⟨by show _ + 1 ≤ 20 * w; omega, by show _ + 142 ≤ 2000 * w; omega⟩ rfl (Nat.le_of_ble_eq_true rfl) dX1_write_146 k_x (k_r (fun r_146 h_146 p_146 => ?_))
          obtain ⟨e_146, x_146, f_146⟩ := p_146
          rw [e_146]
          refine V.wide (k' := k + 4) (n' := nn + 304) (by first | exact Nat.le_refl _ | exact wd0 (by decide) | exact wd1 (by decide)) (by first | exact Nat.le_refl _ | exact wd0 (by decide) | exact wd1 (by decide)) ?_
          refine g_callVR (ctJ4_toString (t + 4) x_146 ⟨by omega, by omega⟩) kJ4_toString q1618 x_146.rv ⟨by show 5 + 1 ≤ (N + 1) + 14; omega, by show 8 + (1 + 11) + (151) ≤ 60 * (N + 1) + 500; omega⟩ ⟨by show _ + 2 ≤ 20 * w; omega, by show _ + 146 ≤ 2000 * w; omega⟩ rfl (Nat.le_of_ble_eq_true rfl) dX1_write_149 k_x (k_r (fun r_149 h_149 p_149 => ?_))
          obtain ⟨e_149, x_149, f_149⟩ := p_149
          have F_149 : Fr (wP t) hh h_149 := f_137.f0.tr (f_142.toW2.tr (f_146.toW2.tr f_149.f0))
          have X_149 : SB E t h_149 q C := (((hx1.fr f_137 id id).fr f_142 (by omega) (by omega)).fr f_146 (by omega) (by omega)).fr f_149 id id
          refine V.wide (k' := k + 6) (n' := nn + 450) (by first | exact Nat.le_refl _ | exact wd0 (by decide) | exact wd1 (by decide)) (by first | exact Nat.le_refl _ | exact wd0 (by decide) | exact wd1 (by decide)) ?_
          refine g_callVR (ctJ4_append (by first | exact X_149 | exact hx1) (by first | exact x_149.st | exact hE.c99 (t + 10) _) ⟨by omega, by omega, by omega⟩ (by simp only [List.length_append, List.length_cons, List.length_nil]; omega) (by first | decide | (simp only [List.length_append, List.length_cons, List.length_nil]; omega))) kJ4_append q1914 (by first | exact X_149.rv | exact hx1.rv) ⟨by show 5 + 1 ≤ (N + 1) + 14; omega, by show 8 + (2 + 11) + (127) ≤ 60 * (N + 1) + 500; omega⟩ ⟨by show _ + 1 ≤ 20 * w; omega, by show _ + 142 ≤ 2000 * w; omega⟩ rfl (Nat.le_of_ble_eq_true rfl) dX1_write_152 k_x (k_r (fun r_152 h_152 p_152 => ?_))
          obtain ⟨e_152, x_152, f_152⟩ := p_152
          rw [e_152]
          have F_152 : Fr (wP t) hh h_152 := by first | exact F_149.tr f_152.toW | exact f_152.toW
          refine V.wide (k' := k + 7) (n' := nn + 592) (by first | exact Nat.le_refl _ | exact wd0 (by decide) | exact wd1 (by decide)) (by first | exact Nat.le_refl _ | exact wd0 (by decide) | exact wd1 (by decide)) ?_
          refine g_iload5 dX1_write_155 ?_
          first | refine g_ifN_eq (tgt := 165) dX1_write_157 (by decide) (by omega) (fun c_157 => ?_) (fun c_157 => ?_) | refine g_if_eq (tgt := 165) dX1_write_157 (by decide) (fun c_157 => ?_) (fun c_157 => ?_)
          · omega
          · refine g_ldcS hE.l109 dX1_write_160 ?_
            refine g_goto (tgt := 167) dX1_write_162 (by decide) ?_
            refine g_callVR (ctJ4_append (u := t + 10) x_152 (hE.c109 _ _) ⟨by omega, by omega, by omega⟩ (by simp only [List.length_append, List.length_cons, List.length_nil]; omega) (by decide)) kJ4_append q1914 x_152.rv ⟨by show 5 + 1 ≤ (N + 1) + 14; omega, by show 8 + (2 + 11) + (127) ≤ 60 * (N + 1) + 500; omega⟩ ⟨by show _ + 1 ≤ 20 * w; omega, by show _ + 142 ≤ 2000 * w; omega⟩ rfl (Nat.le_of_ble_eq_true rfl) dX1_write_167 k_x (k_r (fun r_167 h_167 p_167 => ?_))
            obtain ⟨e_167, x_167, f_167⟩ := p_167
            have F_167 := F_152.tr f_167.toW
            have hR3 := hR.fr F_167 (by omega) (by omega) (by omega) (by omega)
            refine V.wide (k' := k + 8) (n' := nn + 734) (by first | exact Nat.le_refl _ | exact wd0 (by decide) | exact wd1 (by decide)) (by first | exact Nat.le_refl _ | exact wd0 (by decide) | exact wd1 (by decide)) ?_
            refine g_pop dX1_write_170 (by first | rfl | exact cat_rf _) ?_
            first | refine g_aload3 dX1_write_171 ?_ | refine g_aloadQ3 dX1_write_171 ?_ | refine g_aloadN3 dX1_write_171 ?_
            refine g_iload4 dX1_write_172 ?_
            refine g_callF (ctJ21_get _ _ hR3.2.1 (show i < Ls.length by omega)) uJ21_get q1213 q1216 ⟨q1215, q1214, q1219, q1217, q994⟩ ⟨⟨by decide, by decide⟩, rfl⟩ (LI.at hR3.2.1).choose_spec rfl ⟨by show 2 + 1 ≤ (N + 1) + 14; omega, by show 8 + (2 + 11) + (43) ≤ 60 * (N + 1) + 500; omega⟩ ⟨by show _ + 0 ≤ 20 * w; omega, by show _ + 0 ≤ 2000 * w; omega⟩ rfl (Nat.le_of_ble_eq_true rfl) dX1_write_174 k_x (k_r (fun r_174 h_174 p_174 => ?_))
            obtain ⟨g_174, z_174⟩ := p_174
            rw [z_174]
            refine V.wide (k' := k + 8) (n' := nn + 734) (by first | exact Nat.le_refl _ | exact wd0 (by decide) | exact wd1 (by decide)) (by first | exact Nat.le_refl _ | exact wd0 (by decide) | exact wd1 (by decide)) ?_
            obtain rfl : y = r_174 := Option.some.inj (e1.symm.trans g_174)
            obtain ⟨C9, k1, k2, -⟩ := Rep.rv (hre.fr F_167 (wPn ht7) (wPn ht))
            refine g_ck q1231 k1 k2 dX1_write_179 ?_
            first | refine g_aload1 dX1_write_182 ?_ | refine g_aloadQ1 dX1_write_182 ?_ | refine g_aloadN1 dX1_write_182 ?_
            refine g_callS (IH _ _ _ _ (hre.fr F_167 (wPn ht7) (wPn ht)) x_167 (by simp only [List.length_append, List.length_cons, List.length_nil]; omega)) (kX1_write _ _) q1907 ⟨by show N + 14 + 1 ≤ (N + 1) + 14; omega, by show 8 + (6 + 11) + (60 * N + 500) ≤ 60 * (N + 1) + 500; omega⟩ ⟨by show _ + 20 * (aT b).length ≤ 20 * w; omega, by show _ + 2000 * (aT b).length ≤ 2000 * w; omega⟩ rfl (Nat.le_of_ble_eq_true rfl) dX1_write_183 k_x (k_v (fun h_183 p_183 => ?_))
            obtain ⟨x_183, f_183⟩ := p_183
            refine V.wide (k' := k + 8 + 20 * (aT b).length) (n' := nn + 734 + 2000 * (aT b).length) (Nat.le_refl _) (Nat.le_refl _) ?_
            first | refine g_aload1 dX1_write_186 ?_ | refine g_aloadQ1 dX1_write_186 ?_ | refine g_aloadN1 dX1_write_186 ?_
            refine g_iload5 dX1_write_187 ?_
            first | refine g_ifN_eq (tgt := 197) dX1_write_189 (by decide) (by omega) (fun c_189 => ?_) (fun c_189 => ?_) | refine g_if_eq (tgt := 197) dX1_write_189 (by decide) (fun c_189 => ?_) (fun c_189 => ?_)
            · omega
            · refine g_ldcS hE.l115 dX1_write_192 ?_
              refine g_goto (tgt := 199) dX1_write_194 (by decide) ?_
              refine g_callVR (ctJ4_append (u := t + 10) x_183 (hE.c115 _ _) ⟨by omega, by omega, by omega⟩ (by simp only [List.length_append, List.length_cons, List.length_nil]; omega) (by decide)) kJ4_append q1914 x_183.rv ⟨by show 5 + 1 ≤ (N + 1) + 14; omega, by show 8 + (2 + 11) + (127) ≤ 60 * (N + 1) + 500; omega⟩ ⟨by show _ + 1 ≤ 20 * w; omega, by show _ + 142 ≤ 2000 * w; omega⟩ rfl (Nat.le_of_ble_eq_true rfl) dX1_write_199 k_x (k_r (fun r_199 h_199 p_199 => ?_))
              obtain ⟨e_199, x_199, f_199⟩ := p_199
              have F_199 := F_167.tr (f_183.tr f_199.toW)
              refine V.wide (k' := k + 9 + 20 * (aT b).length) (n' := nn + 876 + 2000 * (aT b).length) (by show k + 8 + 20 * (aT b).length + 1 ≤ _; omega) (by show nn + 734 + 2000 * (aT b).length + 142 ≤ _; omega) ?_
              refine g_pop dX1_write_202 (by first | rfl | exact cat_rf _) ?_
              first | refine g_iincN4 1 dX1_write_203 (by decide) (show ¬ 4 = 255 + 1 by decide) ?_ | refine g_iinc4 _ dX1_write_203 rfl (show ¬ 4 = 255 + 1 by decide) ?_
              refine g_goto (tgt := 83) dX1_write_206 (by decide) ?_
              exact ih (i + 1) _ _ _ _ _ (by omega) (by omega) (hR.fr F_199 (wPn ht7) (wPn ht) (wPn ht7) (wPn ht)) x_199 (by rw [← hC]; simp [List.append_assoc]) (hF.tr F_199) (by omega) (by omega)
        · rw [rsT_z c_125 hdr, txA_y rfl hek] at hC
          have hCz := congrArg List.length hC
          simp only [List.length_append, List.length_cons, List.length_nil] at hCz
          have hlT1 := hlT.1
          simp only [List.length_append, List.length_cons, List.length_nil] at hlT1
          refine g_ldcS hE.l99 dX1_write_128 ?_
          refine g_goto (tgt := 152) dX1_write_130 (by decide) ?_
          refine g_callVR (ctJ4_append (by first | exact X_149 | exact hx1) (by first | exact x_149.st | exact hE.c99 (t + 10) _) ⟨by omega, by omega, by omega⟩ (by simp only [List.length_append, List.length_cons, List.length_nil]; omega) (by first | decide | (simp only [List.length_append, List.length_cons, List.length_nil]; omega))) kJ4_append q1914 (by first | exact X_149.rv | exact hx1.rv) ⟨by show 5 + 1 ≤ (N + 1) + 14; omega, by show 8 + (2 + 11) + (127) ≤ 60 * (N + 1) + 500; omega⟩ ⟨by show _ + 1 ≤ 20 * w; omega, by show _ + 142 ≤ 2000 * w; omega⟩ rfl (Nat.le_of_ble_eq_true rfl) dX1_write_152 k_x (k_r (fun r_152 h_152 p_152 => ?_))
          obtain ⟨e_152, x_152, f_152⟩ := p_152
          rw [e_152]
          have F_152 : Fr (wP t) hh h_152 := by first | exact F_149.tr f_152.toW | exact f_152.toW
          refine V.wide (k' := k + 7) (n' := nn + 592) (by first | exact Nat.le_refl _ | exact wd0 (by decide) | exact wd1 (by decide)) (by first | exact Nat.le_refl _ | exact wd0 (by decide) | exact wd1 (by decide)) ?_
          refine g_iload5 dX1_write_155 ?_
          first | refine g_ifN_eq (tgt := 165) dX1_write_157 (by decide) (by omega) (fun c_157 => ?_) (fun c_157 => ?_) | refine g_if_eq (tgt := 165) dX1_write_157 (by decide) (fun c_157 => ?_) (fun c_157 => ?_)
          · omega
          · refine g_ldcS hE.l109 dX1_write_160 ?_
            refine g_goto (tgt := 167) dX1_write_162 (by decide) ?_
            refine g_callVR (ctJ4_append (u := t + 10) x_152 (hE.c109 _ _) ⟨by omega, by omega, by omega⟩ (by simp only [List.length_append, List.length_cons, List.length_nil]; omega) (by decide)) kJ4_append q1914 x_152.rv ⟨by show 5 + 1 ≤ (N + 1) + 14; omega, by show 8 + (2 + 11) + (127) ≤ 60 * (N + 1) + 500; omega⟩ ⟨by show _ + 1 ≤ 20 * w; omega, by show _ + 142 ≤ 2000 * w; omega⟩ rfl (Nat.le_of_ble_eq_true rfl) dX1_write_167 k_x (k_r (fun r_167 h_167 p_167 => ?_))
            obtain ⟨e_167, x_167, f_167⟩ := p_167
            have F_167 := F_152.tr f_167.toW
            have hR3 := hR.fr F_167 (by omega) (by omega) (by omega) (by omega)
            refine V.wide (k' := k + 8) (n' := nn + 734) (by first | exact Nat.le_refl _ | exact wd0 (by decide) | exact wd1 (by decide)) (by first | exact Nat.le_refl _ | exact wd0 (by decide) | exact wd1 (by decide)) ?_
            refine g_pop dX1_write_170 (by first | rfl | exact cat_rf _) ?_
            first | refine g_aload3 dX1_write_171 ?_ | refine g_aloadQ3 dX1_write_171 ?_ | refine g_aloadN3 dX1_write_171 ?_
            refine g_iload4 dX1_write_172 ?_
            refine g_callF (ctJ21_get _ _ hR3.2.1 (show i < Ls.length by omega)) uJ21_get q1213 q1216 ⟨q1215, q1214, q1219, q1217, q994⟩ ⟨⟨by decide, by decide⟩, rfl⟩ (LI.at hR3.2.1).choose_spec rfl ⟨by show 2 + 1 ≤ (N + 1) + 14; omega, by show 8 + (2 + 11) + (43) ≤ 60 * (N + 1) + 500; omega⟩ ⟨by show _ + 0 ≤ 20 * w; omega, by show _ + 0 ≤ 2000 * w; omega⟩ rfl (Nat.le_of_ble_eq_true rfl) dX1_write_174 k_x (k_r (fun r_174 h_174 p_174 => ?_))
            obtain ⟨g_174, z_174⟩ := p_174
            rw [z_174]
            refine V.wide (k' := k + 8) (n' := nn + 734) (by first | exact Nat.le_refl _ | exact wd0 (by decide) | exact wd1 (by decide)) (by first | exact Nat.le_refl _ | exact wd0 (by decide) | exact wd1 (by decide)) ?_
            obtain rfl : y = r_174 := Option.some.inj (e1.symm.trans g_174)
            obtain ⟨C9, k1, k2, -⟩ := Rep.rv (hre.fr F_167 (wPn ht7) (wPn ht))
            refine g_ck q1231 k1 k2 dX1_write_179 ?_
            first | refine g_aload1 dX1_write_182 ?_ | refine g_aloadQ1 dX1_write_182 ?_ | refine g_aloadN1 dX1_write_182 ?_
            refine g_callS (IH _ _ _ _ (hre.fr F_167 (wPn ht7) (wPn ht)) x_167 (by simp only [List.length_append, List.length_cons, List.length_nil]; omega)) (kX1_write _ _) q1907 ⟨by show N + 14 + 1 ≤ (N + 1) + 14; omega, by show 8 + (6 + 11) + (60 * N + 500) ≤ 60 * (N + 1) + 500; omega⟩ ⟨by show _ + 20 * (aT b).length ≤ 20 * w; omega, by show _ + 2000 * (aT b).length ≤ 2000 * w; omega⟩ rfl (Nat.le_of_ble_eq_true rfl) dX1_write_183 k_x (k_v (fun h_183 p_183 => ?_))
            obtain ⟨x_183, f_183⟩ := p_183
            refine V.wide (k' := k + 8 + 20 * (aT b).length) (n' := nn + 734 + 2000 * (aT b).length) (Nat.le_refl _) (Nat.le_refl _) ?_
            first | refine g_aload1 dX1_write_186 ?_ | refine g_aloadQ1 dX1_write_186 ?_ | refine g_aloadN1 dX1_write_186 ?_
            refine g_iload5 dX1_write_187 ?_
            first | refine g_ifN_eq (tgt := 197) dX1_write_189 (by decide) (by omega) (fun c_189 => ?_) (fun c_189 => ?_) | refine g_if_eq (tgt := 197) dX1_write_189 (by decide) (fun c_189 => ?_) (fun c_189 => ?_)
            · omega
            · refine g_ldcS hE.l115 dX1_write_192 ?_
              refine g_goto (tgt := 199) dX1_write_194 (by decide) ?_
              refine g_callVR (ctJ4_append (u := t + 10) x_183 (hE.c115 _ _) ⟨by omega, by omega, by omega⟩ (by simp only [List.length_append, List.length_cons, List.length_nil]; omega) (by decide)) kJ4_append q1914 x_183.rv ⟨by show 5 + 1 ≤ (N + 1) + 14; omega, by show 8 + (2 + 11) + (127) ≤ 60 * (N + 1) + 500; omega⟩ ⟨by show _ + 1 ≤ 20 * w; omega, by show _ + 142 ≤ 2000 * w; omega⟩ rfl (Nat.le_of_ble_eq_true rfl) dX1_write_199 k_x (k_r (fun r_199 h_199 p_199 => ?_))
              obtain ⟨e_199, x_199, f_199⟩ := p_199
              have F_199 := F_167.tr (f_183.tr f_199.toW)
              refine V.wide (k' := k + 9 + 20 * (aT b).length) (n' := nn + 876 + 2000 * (aT b).length) (by show k + 8 + 20 * (aT b).length + 1 ≤ _; omega) (by show nn + 734 + 2000 * (aT b).length + 142 ≤ _; omega) ?_
              refine g_pop dX1_write_202 (by first | rfl | exact cat_rf _) ?_
              first | refine g_iincN4 1 dX1_write_203 (by decide) (show ¬ 4 = 255 + 1 by decide) ?_ | refine g_iinc4 _ dX1_write_203 rfl (show ¬ 4 = 255 + 1 by decide) ?_
              refine g_goto (tgt := 83) dX1_write_206 (by decide) ?_
              exact ih (i + 1) _ _ _ _ _ (by omega) (by omega) (hR.fr F_199 (wPn ht7) (wPn ht) (wPn ht7) (wPn ht)) x_199 (by rw [← hC]; simp [List.append_assoc]) (hF.tr F_199) (by omega) (by omega)
      refine g_iload4 dX1_write_83 ?_
      first | refine g_aload3 dX1_write_85 ?_ | refine g_aloadQ3 dX1_write_85 ?_ | refine g_aloadN3 dX1_write_85 ?_
      refine g_callF (ctJ21_size _ hR.2.1) uJ21_size q1017 q1020 ⟨q1019, q1018, q1023, q1021, q994⟩ ⟨⟨by decide, by decide⟩, rfl⟩ (LI.at hR.2.1).choose_spec rfl ⟨by show 0 + 1 ≤ (N + 1) + 14; omega, by show 8 + (1 + 11) + (0) ≤ 60 * (N + 1) + 500; omega⟩ ⟨by show _ + 0 ≤ 20 * w; omega, by show _ + 0 ≤ 2000 * w; omega⟩ rfl (Nat.le_of_ble_eq_true rfl) dX1_write_86 k_x (k_n (fun r_86 h_86 p_86 => ?_))
      obtain ⟨rfl, z_86⟩ := p_86
      rw [z_86]
      refine V.wide (k' := k) (n' := nn) (by first | exact Nat.le_refl _ | exact wd0 (by decide) | exact wd1 (by decide)) (by first | exact Nat.le_refl _ | exact wd0 (by decide) | exact wd1 (by decide)) ?_
      first | refine g_icmpN_ge (tgt := 209) dX1_write_91 (by decide) (by omega) (by omega) (fun c_91 => ?_) (fun c_91 => ?_) | refine g_icmp_ge (tgt := 209) dX1_write_91 (by decide) (fun c_91 => ?_) (fun c_91 => ?_)
      · omega
      · first | refine g_aload0 dX1_write_94 ?_ | refine g_aloadQ0 dX1_write_94 ?_ | refine g_aloadN0 dX1_write_94 ?_
        refine g_instS q1916 ha1 rfl dX1_write_95 ?_
        refine g_ifN_eq (tgt := 119) dX1_write_98 (by decide) (by decide) (fun c => False.elim (by revert c; decide)) (fun _ => ?_)
        first | refine g_aload3 dX1_write_101 ?_ | refine g_aloadQ3 dX1_write_101 ?_ | refine g_aloadN3 dX1_write_101 ?_
        refine g_iload4 dX1_write_102 ?_
        refine g_callF (ctJ21_get _ _ hR.2.1 (show i < Ls.length by omega)) uJ21_get q1213 q1216 ⟨q1215, q1214, q1219, q1217, q994⟩ ⟨⟨by decide, by decide⟩, rfl⟩ (LI.at hR.2.1).choose_spec rfl ⟨by show 2 + 1 ≤ (N + 1) + 14; omega, by show 8 + (2 + 11) + (43) ≤ 60 * (N + 1) + 500; omega⟩ ⟨by show _ + 0 ≤ 20 * w; omega, by show _ + 0 ≤ 2000 * w; omega⟩ rfl (Nat.le_of_ble_eq_true rfl) dX1_write_104 k_x (k_r (fun r_104 h_104 p_104 => ?_))
        obtain ⟨g_104, z_104⟩ := p_104
        rw [z_104]
        refine V.wide (k' := k) (n' := nn) (by first | exact Nat.le_refl _ | exact wd0 (by decide) | exact wd1 (by decide)) (by first | exact Nat.le_refl _ | exact wd0 (by decide) | exact wd1 (by decide)) ?_
        obtain rfl : y = r_104 := Option.some.inj (e1.symm.trans g_104)
        rcases hre.cls with ⟨hek, l9, k9⟩ | ⟨hek, m9, k9⟩ | ⟨hek, l9, k9⟩ | ⟨hek, c9, l9, k9⟩
        · refine g_instS q1915 k9 rfl dX1_write_109 ?_
          refine g_ifN_eq (tgt := 119) dX1_write_112 (by decide) (by decide) (fun c => False.elim (by revert c; decide)) (fun _ => ?_)
          refine g_iconst (nI 1) dX1_write_115 (by decide) ?_
          refine g_goto (tgt := 120) dX1_write_116 (by decide) ?_
          refine g_istore5 dX1_write_120 (show ¬ 5 = 255 + 1 by decide) ?_
          first | exact K1 hek | exact K0 hek
        · refine g_instNo q1915 (gRv.g k9 rfl rfl) nc_SecretVault_One_SecretVault_Any dX1_write_109 ?_
          refine g_ifN_eq (tgt := 119) dX1_write_112 (by decide) (by decide) (fun _ => ?_) (fun c => False.elim (by revert c; decide))
          refine g_iconst (nI 0) dX1_write_119 (by decide) ?_
          refine g_istore5 dX1_write_120 (show ¬ 5 = 255 + 1 by decide) ?_
          first | exact K1 hek | exact K0 hek
        · refine g_instNo q1915 (gRv.g k9 rfl rfl) nc_SecretVault_All_SecretVault_Any dX1_write_109 ?_
          refine g_ifN_eq (tgt := 119) dX1_write_112 (by decide) (by decide) (fun _ => ?_) (fun c => False.elim (by revert c; decide))
          refine g_iconst (nI 0) dX1_write_119 (by decide) ?_
          refine g_istore5 dX1_write_120 (show ¬ 5 = 255 + 1 by decide) ?_
          first | exact K1 hek | exact K0 hek
        · refine g_instNo q1915 (gRv.g k9 rfl rfl) nc_SecretVault_Some_SecretVault_Any dX1_write_109 ?_
          refine g_ifN_eq (tgt := 119) dX1_write_112 (by decide) (by decide) (fun _ => ?_) (fun c => False.elim (by revert c; decide))
          refine g_iconst (nI 0) dX1_write_119 (by decide) ?_
          refine g_istore5 dX1_write_120 (show ¬ 5 = 255 + 1 by decide) ?_
          first | exact K1 hek | exact K0 hek
  first | refine g_aload0 dX1_write_0 ?_ | refine g_aloadQ0 dX1_write_0 ?_ | refine g_aloadN0 dX1_write_0 ?_
  refine g_instNo q1910 (gRv.g ha rfl rfl) nc_SecretVault_All_SecretVault_One dX1_write_1 ?_
  refine g_ifN_eq (tgt := 22) dX1_write_4 (by decide) (by decide) (fun _ => ?_) (fun c => False.elim (by revert c; decide))
  first | refine g_aload0 dX1_write_22 ?_ | refine g_aloadQ0 dX1_write_22 ?_ | refine g_aloadN0 dX1_write_22 ?_
  refine g_instNo q1912 (gRv.g ha rfl rfl) nc_SecretVault_All_SecretVault_Some dX1_write_23 ?_
  refine g_ifN_eq (tgt := 48) dX1_write_26 (by decide) (by decide) (fun _ => ?_) (fun c => False.elim (by revert c; decide))
  first | refine g_aload0 dX1_write_48 ?_ | refine g_aloadQ0 dX1_write_48 ?_ | refine g_aloadN0 dX1_write_48 ?_
  refine g_instNo q1915 (gRv.g ha rfl rfl) nc_SecretVault_All_SecretVault_Any dX1_write_49 ?_
  refine g_ifN_eq (tgt := 60) dX1_write_52 (by decide) (by decide) (fun _ => ?_) (fun c => False.elim (by revert c; decide))
  first | refine g_aload0 dX1_write_60 ?_ | refine g_aloadQ0 dX1_write_60 ?_ | refine g_aloadN0 dX1_write_60 ?_
  refine g_instS q1916 ha rfl dX1_write_61 ?_
  refine g_ifN_eq (tgt := 72) dX1_write_64 (by decide) (by decide) (fun c => False.elim (by revert c; decide)) (fun _ => ?_)
  refine g_bipush (nI 38) dX1_write_67 (by decide) ?_
  refine g_goto (tgt := 74) dX1_write_69 (by decide) ?_
  refine g_istore2 dX1_write_74 (show ¬ 2 = 255 + 1 by decide) ?_
  first | refine g_aload0 dX1_write_75 ?_ | refine g_aloadQ0 dX1_write_75 ?_ | refine g_aloadN0 dX1_write_75 ?_
  refine g_callS (ctX1_partsOf_All (N := 0) ha) (kX1_partsOf _ _) q1917 ⟨by show 9 + 1 ≤ (N + 1) + 14; omega, by show 8 + (2 + 11) + (200) ≤ 60 * (N + 1) + 500; omega⟩ ⟨by show _ + 0 ≤ 20 * w; omega, by show _ + 0 ≤ 2000 * w; omega⟩ rfl (Nat.le_of_ble_eq_true rfl) dX1_write_76 k_x (k_r (fun r_76 h_76 p_76 => ?_))
  obtain ⟨rfl, z_76⟩ := p_76
  rw [z_76]
  refine V.wide (k' := 0) (n' := 0) (by first | exact Nat.le_refl _ | exact wd0 (by decide) | exact wd1 (by decide)) (by first | exact Nat.le_refl _ | exact wd0 (by decide) | exact wd1 (by decide)) ?_
  first | refine g_astore3 dX1_write_79 (show ¬ 3 = 255 + 1 by decide) ?_ | refine g_astoreQ3 dX1_write_79 (show ¬ 3 = 255 + 1 by decide) ?_ | refine g_astoreN3 dX1_write_79 (show ¬ 3 = 255 + 1 by decide) ?_
  refine g_iconst (nI 0) dX1_write_80 (by decide) ?_
  refine g_istore4 dX1_write_81 (show ¬ 4 = 255 + 1 by decide) ?_
  exact K B.length 0 _ L 0 0 _ rfl (Nat.zero_le _) hL hx rfl Fr.rf (by rw [List.drop_zero]; omega) (by rw [List.drop_zero]; omega)
set_option maxHeartbeats 400000 in
theorem ctX1_write_Some {E : GE} {h : AH} {N a q t w l c : Nat} {L Ls : List Nat} {B : List Att} (ht : 8 < t) (hE : gE E) (ha : h a = some (7, gO 16 [.int (nI c), .ref l])) (hL : RL E h N l Ls B) (hc : c ≤ 9) (hx : SB E t h q L) (hw : w = (aT (attSome c B)).length) (hlen : L.length + w ≤ 100) (IH : ∀ (h : AH) (a : Nat) (A : Att) (L : List Nat), Rep E h N a A → SB E t h q L → L.length + (aT A).length ≤ 100 → Ct E cX1_write (mX1_write N (aT A).length) [.ref a, .ref q] h (pV fun h' => SB E t h' q (L ++ aT A) ∧ Fr (wP t) h h') noX) : Ct E cX1_write (mX1_write (N + 1) w) [.ref a, .ref q] (h) (pV fun h' => SB E t h' q (L ++ aT (attSome c B)) ∧ Fr (wP t) h h') (noX) := by
  refine g_enter (own := "SecretVault") [some (.ref a), some (.ref q), none, none, none, none] (show plainName yX1_write.cls = true by decide +kernel) rfl rfl (Nat.le_of_ble_eq_true rfl) rfl rfl (fun X => ?_)
  have ht7 : 7 < t := by omega
  have hB := hL.1
  have hB2 := hL.len
  have hcw := cw_le (sep := 44) (enc := 0) (B := B)
  have hlT : (L ++ [48 + c, 111, 102, 40] ++ txL 44 0 B).length ≤ 100 ∧ w = (L ++ [48 + c, 111, 102, 40] ++ txL 44 0 B).length - L.length + 1 := by
    have z : (aT (attSome c B)).length = ([48 + c, 111, 102, 40] ++ txL 44 0 B ++ [41]).length := rfl
    simp only [List.length_append, List.length_cons, List.length_nil] at *
    omega
  have hwl : w = (txL 44 0 B).length + 5 := by
    have z := hlT.2
    simp only [List.length_append, List.length_cons, List.length_nil] at z
    omega
  have K : ∀ n i hh C k nn (x5 : Option Value), n + i = B.length → i ≤ 32 → RT E 7 hh N l Ls B → SB E t hh q C → C ++ rsT 44 0 i B = L ++ [48 + c, 111, 102, 40] ++ txL 44 0 B → Fr (wP t) h hh → k + cw (B.drop i) + 1 ≤ 20 * w → nn + 100 * cw (B.drop i) + 142 ≤ 2000 * w → V E cX1_write "SecretVault" (mX1_write (N + 1) w) (pV fun h' => SB E t h' q (L ++ aT (attSome c B)) ∧ Fr (wP t) h h') noX X (hh) k nn 83 [some (.ref a), some (.ref q), some (.int (nI 44)), some (.ref l), some (.int (nI i)), x5] [] := by
    intro n
    induction n with
    | zero =>
      intro i hh C k nn x5 hn hi hR hx1 hC hF hk hnn
      have ha1 := hF _ _ _ ha (wPn ht7)
      have hRl := hR.1
      have hCl : C.length ≤ 100 := by have z := congrArg List.length hC; rw [List.length_append] at z; have := hlT.1; omega
      have hC2 : C.length + 1 ≤ 101 := by omega
      refine g_iload4 dX1_write_83 ?_
      first | refine g_aload3 dX1_write_85 ?_ | refine g_aloadQ3 dX1_write_85 ?_ | refine g_aloadN3 dX1_write_85 ?_
      refine g_callF (ctJ21_size _ hR.2.1) uJ21_size q1017 q1020 ⟨q1019, q1018, q1023, q1021, q994⟩ ⟨⟨by decide, by decide⟩, rfl⟩ (LI.at hR.2.1).choose_spec rfl ⟨by show 0 + 1 ≤ (N + 1) + 14; omega, by show 8 + (1 + 11) + (0) ≤ 60 * (N + 1) + 500; omega⟩ ⟨by show _ + 0 ≤ 20 * w; omega, by show _ + 0 ≤ 2000 * w; omega⟩ rfl (Nat.le_of_ble_eq_true rfl) dX1_write_86 k_x (k_n (fun r_86 h_86 p_86 => ?_))
      obtain ⟨rfl, z_86⟩ := p_86
      rw [z_86]
      refine V.wide (k' := k) (n' := nn) (by first | exact Nat.le_refl _ | exact wd0 (by decide) | exact wd1 (by decide)) (by first | exact Nat.le_refl _ | exact wd0 (by decide) | exact wd1 (by decide)) ?_
      first | refine g_icmpN_ge (tgt := 209) dX1_write_91 (by decide) (by omega) (by omega) (fun c_91 => ?_) (fun c_91 => ?_) | refine g_icmp_ge (tgt := 209) dX1_write_91 (by decide) (fun c_91 => ?_) (fun c_91 => ?_)
      · first | refine g_aload1 dX1_write_209 ?_ | refine g_aloadQ1 dX1_write_209 ?_ | refine g_aloadN1 dX1_write_209 ?_
        first | refine g_aload0 dX1_write_210 ?_ | refine g_aloadQ0 dX1_write_210 ?_ | refine g_aloadN0 dX1_write_210 ?_
        refine g_instS q1912 ha1 rfl dX1_write_211 ?_
        refine g_ifN_eq (tgt := 222) dX1_write_214 (by decide) (by decide) (fun c => False.elim (by revert c; decide)) (fun _ => ?_)
        refine g_ldcS hE.l115 dX1_write_217 ?_
        refine g_goto (tgt := 224) dX1_write_219 (by decide) ?_
        refine g_callVR (ctJ4_append (u := t + 10) hx1 (hE.c115 _ _) ⟨by omega, by omega, by omega⟩ (by simp only [List.length_cons, List.length_nil]; omega) (by decide)) kJ4_append q1914 hx1.rv ⟨by show 5 + 1 ≤ (N + 1) + 14; omega, by show 8 + (2 + 11) + (127) ≤ 60 * (N + 1) + 500; omega⟩ ⟨by show _ + 1 ≤ 20 * w; omega, by show _ + 142 ≤ 2000 * w; omega⟩ rfl (Nat.le_of_ble_eq_true rfl) dX1_write_224 k_x (k_r (fun r_224 h_224 p_224 => ?_))
        obtain ⟨e_224, x_224, f_224⟩ := p_224
        refine V.wide (k' := k + 1) (n' := nn + 142) (by first | exact Nat.le_refl _ | exact wd0 (by decide) | exact wd1 (by decide)) (by first | exact Nat.le_refl _ | exact wd0 (by decide) | exact wd1 (by decide)) ?_
        refine g_pop dX1_write_227 (by first | rfl | exact cat_rf _) ?_
        exact g_vret (hk := by show _ ≤ 20 * w; omega) (hn := by show _ ≤ 2000 * w; omega) dX1_write_228 rfl ⟨rfl, (by rw [rsT_end (RT.out hR (by omega)), List.append_nil] at hC; rw [hC] at x_224; simpa [attSome, aT, List.append_assoc] using x_224), hF.tr f_224.toW⟩
      · omega
    | succ n ih =>
      intro i hh C k nn x5 hn hi hR hx1 hC hF hk hnn
      have ha1 := hF _ _ _ ha (wPn ht7)
      have hRl := hR.1
      have hCl : C.length ≤ 100 := by have z := congrArg List.length hC; rw [List.length_append] at z; have := hlT.1; omega
      have hil : i < B.length := by omega
      obtain ⟨y, b, e1, e2, hre, hdr⟩ := RT.el hR (show i < Ls.length by omega)
      have hcd := cw_dr hdr
      have hbl := txA_len (enc := 0) (b := b)
      have K0 : V E cX1_write "SecretVault" (mX1_write (N + 1) w) (pV fun h' => SB E t h' q (L ++ aT (attSome c B)) ∧ Fr (wP t) h h') noX X (hh) k nn 122 [some (.ref a), some (.ref q), some (.int (nI 44)), some (.ref l), some (.int (nI i)), some (.int (nI 0))] [] := by
        first | refine g_aload1 dX1_write_122 ?_ | refine g_aloadQ1 dX1_write_122 ?_ | refine g_aloadN1 dX1_write_122 ?_
        refine g_iload4 dX1_write_123 ?_
        first | refine g_ifN_ne (tgt := 133) dX1_write_125 (by decide) (by omega) (fun c_125 => ?_) (fun c_125 => ?_) | refine g_if_ne (tgt := 133) dX1_write_125 (by decide) (fun c_125 => ?_) (fun c_125 => ?_)
        · rw [rsT_s c_125 hdr, txA_z (by decide)] at hC
          have hCz := congrArg List.length hC
          simp only [List.length_append, List.length_cons, List.length_nil] at hCz
          have hlT1 := hlT.1
          simp only [List.length_append, List.length_cons, List.length_nil] at hlT1
          refine g_new 6 (t + 2) [.null, .int 0, .int 0, .int 0] in_J4 tyJ4_ok q192 q193 q73 rfl nwJ4 (by show _ + 1 ≤ 20 * w; omega) (by show _ + 4 ≤ 2000 * w; omega) dX1_write_133 (fun q_133 f_133 => ?_)
          refine g_dup dX1_write_136 rfl ?_
          refine g_callI (ctJ4_init (t := t + 2) (g_up_self _ _ _)) kJ4_init q194 ⟨by show 3 + 1 ≤ (N + 1) + 14; omega, by show 8 + (1 + 11) + (61) ≤ 60 * (N + 1) + 500; omega⟩ ⟨by show _ + 1 ≤ 20 * w; omega, by show _ + 16 ≤ 2000 * w; omega⟩ rfl (Nat.le_of_ble_eq_true rfl) dX1_write_137 k_x (k_v (fun h_137 p_137 => ?_))
          obtain ⟨x_137, g_137⟩ := p_137
          have f_137 : Fr F0r hh h_137 := Fa.frN f_133 g_137
          refine V.wide (k' := k + 2) (n' := nn + 20) (by first | exact Nat.le_refl _ | exact wd0 (by decide) | exact wd1 (by decide)) (by first | exact Nat.le_refl _ | exact wd0 (by decide) | exact wd1 (by decide)) ?_
          refine g_ldcS hE.l99 dX1_write_140 ?_
          refine g_callVR (ctJ4_append (u := t + 10) x_137 (hE.c99 _ _) ⟨by omega, by omega, by omega⟩ (by decide) (by decide)) kJ4_append q1914 x_137.rv ⟨by show 5 + 1 ≤ (N + 1) + 14; omega, by show 8 + (2 + 11) + (127) ≤ 60 * (N + 1) + 500; omega⟩ ⟨by show _ + 1 ≤ 20 * w; omega, by show _ + 142 ≤ 2000 * w; omega⟩ rfl (Nat.le_of_ble_eq_true rfl) dX1_write_142 k_x (k_r (fun r_142 h_142 p_142 => ?_))
          obtain ⟨e_142, x_142, f_142⟩ := p_142
          rw [e_142]
          refine V.wide (k' := k + 3) (n' := nn + 162) (by first | exact Nat.le_refl _ | exact wd0 (by decide) | exact wd1 (by decide)) (by first | exact Nat.le_refl _ | exact wd0 (by decide) | exact wd1 (by decide)) ?_
          refine g_iload2 dX1_write_145 ?_
          refine g_callVR (ctJ4_append_3 44 x_142 (by decide) (by decide)) kJ4_append_3 q1707 x_142.rv ⟨by show 5 + 1 ≤ (N + 1) + 14; omega, by show 8 + (2 + 11) + (125) ≤ 60 * (N + 1) + 500; omega⟩ ⟨by show _ + 1 ≤ 20 * w; omega, by show _ + 142 ≤ 2000 * w; omega⟩ rfl (Nat.le_of_ble_eq_true rfl) dX1_write_146 k_x (k_r (fun r_146 h_146 p_146 => ?_))
          obtain ⟨e_146, x_146, f_146⟩ := p_146
          rw [e_146]
          refine V.wide (k' := k + 4) (n' := nn + 304) (by first | exact Nat.le_refl _ | exact wd0 (by decide) | exact wd1 (by decide)) (by first | exact Nat.le_refl _ | exact wd0 (by decide) | exact wd1 (by decide)) ?_
          refine g_callVR (ctJ4_toString (t + 4) x_146 ⟨by omega, by omega⟩) kJ4_toString q1618 x_146.rv ⟨by show 5 + 1 ≤ (N + 1) + 14; omega, by show 8 + (1 + 11) + (151) ≤ 60 * (N + 1) + 500; omega⟩ ⟨by show _ + 2 ≤ 20 * w; omega, by show _ + 146 ≤ 2000 * w; omega⟩ rfl (Nat.le_of_ble_eq_true rfl) dX1_write_149 k_x (k_r (fun r_149 h_149 p_149 => ?_))
          obtain ⟨e_149, x_149, f_149⟩ := p_149
          have F_149 : Fr (wP t) hh h_149 := f_137.f0.tr (f_142.toW2.tr (f_146.toW2.tr f_149.f0))
          have X_149 : SB E t h_149 q C := (((hx1.fr f_137 id id).fr f_142 (by omega) (by omega)).fr f_146 (by omega) (by omega)).fr f_149 id id
          refine V.wide (k' := k + 6) (n' := nn + 450) (by first | exact Nat.le_refl _ | exact wd0 (by decide) | exact wd1 (by decide)) (by first | exact Nat.le_refl _ | exact wd0 (by decide) | exact wd1 (by decide)) ?_
          refine g_callVR (ctJ4_append (by first | exact X_149 | exact hx1) (by first | exact x_149.st | exact hE.c99 (t + 10) _) ⟨by omega, by omega, by omega⟩ (by simp only [List.length_append, List.length_cons, List.length_nil]; omega) (by first | decide | (simp only [List.length_append, List.length_cons, List.length_nil]; omega))) kJ4_append q1914 (by first | exact X_149.rv | exact hx1.rv) ⟨by show 5 + 1 ≤ (N + 1) + 14; omega, by show 8 + (2 + 11) + (127) ≤ 60 * (N + 1) + 500; omega⟩ ⟨by show _ + 1 ≤ 20 * w; omega, by show _ + 142 ≤ 2000 * w; omega⟩ rfl (Nat.le_of_ble_eq_true rfl) dX1_write_152 k_x (k_r (fun r_152 h_152 p_152 => ?_))
          obtain ⟨e_152, x_152, f_152⟩ := p_152
          rw [e_152]
          have F_152 : Fr (wP t) hh h_152 := by first | exact F_149.tr f_152.toW | exact f_152.toW
          refine V.wide (k' := k + 7) (n' := nn + 592) (by first | exact Nat.le_refl _ | exact wd0 (by decide) | exact wd1 (by decide)) (by first | exact Nat.le_refl _ | exact wd0 (by decide) | exact wd1 (by decide)) ?_
          refine g_iload5 dX1_write_155 ?_
          first | refine g_ifN_eq (tgt := 165) dX1_write_157 (by decide) (by omega) (fun c_157 => ?_) (fun c_157 => ?_) | refine g_if_eq (tgt := 165) dX1_write_157 (by decide) (fun c_157 => ?_) (fun c_157 => ?_)
          · refine g_ldcS hE.l99 dX1_write_165 ?_
            refine g_callVR (ctJ4_append (u := t + 10) x_152 (hE.c99 _ _) ⟨by omega, by omega, by omega⟩ (by simp only [List.length_append, List.length_cons, List.length_nil]; omega) (by decide)) kJ4_append q1914 x_152.rv ⟨by show 5 + 1 ≤ (N + 1) + 14; omega, by show 8 + (2 + 11) + (127) ≤ 60 * (N + 1) + 500; omega⟩ ⟨by show _ + 1 ≤ 20 * w; omega, by show _ + 142 ≤ 2000 * w; omega⟩ rfl (Nat.le_of_ble_eq_true rfl) dX1_write_167 k_x (k_r (fun r_167 h_167 p_167 => ?_))
            obtain ⟨e_167, x_167, f_167⟩ := p_167
            have F_167 := F_152.tr f_167.toW
            have hR3 := hR.fr F_167 (by omega) (by omega) (by omega) (by omega)
            refine V.wide (k' := k + 8) (n' := nn + 734) (by first | exact Nat.le_refl _ | exact wd0 (by decide) | exact wd1 (by decide)) (by first | exact Nat.le_refl _ | exact wd0 (by decide) | exact wd1 (by decide)) ?_
            refine g_pop dX1_write_170 (by first | rfl | exact cat_rf _) ?_
            first | refine g_aload3 dX1_write_171 ?_ | refine g_aloadQ3 dX1_write_171 ?_ | refine g_aloadN3 dX1_write_171 ?_
            refine g_iload4 dX1_write_172 ?_
            refine g_callF (ctJ21_get _ _ hR3.2.1 (show i < Ls.length by omega)) uJ21_get q1213 q1216 ⟨q1215, q1214, q1219, q1217, q994⟩ ⟨⟨by decide, by decide⟩, rfl⟩ (LI.at hR3.2.1).choose_spec rfl ⟨by show 2 + 1 ≤ (N + 1) + 14; omega, by show 8 + (2 + 11) + (43) ≤ 60 * (N + 1) + 500; omega⟩ ⟨by show _ + 0 ≤ 20 * w; omega, by show _ + 0 ≤ 2000 * w; omega⟩ rfl (Nat.le_of_ble_eq_true rfl) dX1_write_174 k_x (k_r (fun r_174 h_174 p_174 => ?_))
            obtain ⟨g_174, z_174⟩ := p_174
            rw [z_174]
            refine V.wide (k' := k + 8) (n' := nn + 734) (by first | exact Nat.le_refl _ | exact wd0 (by decide) | exact wd1 (by decide)) (by first | exact Nat.le_refl _ | exact wd0 (by decide) | exact wd1 (by decide)) ?_
            obtain rfl : y = r_174 := Option.some.inj (e1.symm.trans g_174)
            obtain ⟨C9, k1, k2, -⟩ := Rep.rv (hre.fr F_167 (wPn ht7) (wPn ht))
            refine g_ck q1231 k1 k2 dX1_write_179 ?_
            first | refine g_aload1 dX1_write_182 ?_ | refine g_aloadQ1 dX1_write_182 ?_ | refine g_aloadN1 dX1_write_182 ?_
            refine g_callS (IH _ _ _ _ (hre.fr F_167 (wPn ht7) (wPn ht)) x_167 (by simp only [List.length_append, List.length_cons, List.length_nil]; omega)) (kX1_write _ _) q1907 ⟨by show N + 14 + 1 ≤ (N + 1) + 14; omega, by show 8 + (6 + 11) + (60 * N + 500) ≤ 60 * (N + 1) + 500; omega⟩ ⟨by show _ + 20 * (aT b).length ≤ 20 * w; omega, by show _ + 2000 * (aT b).length ≤ 2000 * w; omega⟩ rfl (Nat.le_of_ble_eq_true rfl) dX1_write_183 k_x (k_v (fun h_183 p_183 => ?_))
            obtain ⟨x_183, f_183⟩ := p_183
            refine V.wide (k' := k + 8 + 20 * (aT b).length) (n' := nn + 734 + 2000 * (aT b).length) (Nat.le_refl _) (Nat.le_refl _) ?_
            first | refine g_aload1 dX1_write_186 ?_ | refine g_aloadQ1 dX1_write_186 ?_ | refine g_aloadN1 dX1_write_186 ?_
            refine g_iload5 dX1_write_187 ?_
            first | refine g_ifN_eq (tgt := 197) dX1_write_189 (by decide) (by omega) (fun c_189 => ?_) (fun c_189 => ?_) | refine g_if_eq (tgt := 197) dX1_write_189 (by decide) (fun c_189 => ?_) (fun c_189 => ?_)
            · refine g_ldcS hE.l99 dX1_write_197 ?_
              refine g_callVR (ctJ4_append (u := t + 10) x_183 (hE.c99 _ _) ⟨by omega, by omega, by omega⟩ (by simp only [List.length_append, List.length_cons, List.length_nil]; omega) (by decide)) kJ4_append q1914 x_183.rv ⟨by show 5 + 1 ≤ (N + 1) + 14; omega, by show 8 + (2 + 11) + (127) ≤ 60 * (N + 1) + 500; omega⟩ ⟨by show _ + 1 ≤ 20 * w; omega, by show _ + 142 ≤ 2000 * w; omega⟩ rfl (Nat.le_of_ble_eq_true rfl) dX1_write_199 k_x (k_r (fun r_199 h_199 p_199 => ?_))
              obtain ⟨e_199, x_199, f_199⟩ := p_199
              have F_199 := F_167.tr (f_183.tr f_199.toW)
              refine V.wide (k' := k + 9 + 20 * (aT b).length) (n' := nn + 876 + 2000 * (aT b).length) (by show k + 8 + 20 * (aT b).length + 1 ≤ _; omega) (by show nn + 734 + 2000 * (aT b).length + 142 ≤ _; omega) ?_
              refine g_pop dX1_write_202 (by first | rfl | exact cat_rf _) ?_
              first | refine g_iincN4 1 dX1_write_203 (by decide) (show ¬ 4 = 255 + 1 by decide) ?_ | refine g_iinc4 _ dX1_write_203 rfl (show ¬ 4 = 255 + 1 by decide) ?_
              refine g_goto (tgt := 83) dX1_write_206 (by decide) ?_
              exact ih (i + 1) _ _ _ _ _ (by omega) (by omega) (hR.fr F_199 (wPn ht7) (wPn ht) (wPn ht7) (wPn ht)) x_199 (by rw [← hC]; simp [List.append_assoc]) (hF.tr F_199) (by omega) (by omega)
            · omega
          · omega
        · rw [rsT_z c_125 hdr, txA_z (by decide)] at hC
          have hCz := congrArg List.length hC
          simp only [List.length_append, List.length_cons, List.length_nil] at hCz
          have hlT1 := hlT.1
          simp only [List.length_append, List.length_cons, List.length_nil] at hlT1
          refine g_ldcS hE.l99 dX1_write_128 ?_
          refine g_goto (tgt := 152) dX1_write_130 (by decide) ?_
          refine g_callVR (ctJ4_append (by first | exact X_149 | exact hx1) (by first | exact x_149.st | exact hE.c99 (t + 10) _) ⟨by omega, by omega, by omega⟩ (by simp only [List.length_append, List.length_cons, List.length_nil]; omega) (by first | decide | (simp only [List.length_append, List.length_cons, List.length_nil]; omega))) kJ4_append q1914 (by first | exact X_149.rv | exact hx1.rv) ⟨by show 5 + 1 ≤ (N + 1) + 14; omega, by show 8 + (2 + 11) + (127) ≤ 60 * (N + 1) + 500; omega⟩ ⟨by show _ + 1 ≤ 20 * w; omega, by show _ + 142 ≤ 2000 * w; omega⟩ rfl (Nat.le_of_ble_eq_true rfl) dX1_write_152 k_x (k_r (fun r_152 h_152 p_152 => ?_))
          obtain ⟨e_152, x_152, f_152⟩ := p_152
          rw [e_152]
          have F_152 : Fr (wP t) hh h_152 := by first | exact F_149.tr f_152.toW | exact f_152.toW
          refine V.wide (k' := k + 7) (n' := nn + 592) (by first | exact Nat.le_refl _ | exact wd0 (by decide) | exact wd1 (by decide)) (by first | exact Nat.le_refl _ | exact wd0 (by decide) | exact wd1 (by decide)) ?_
          refine g_iload5 dX1_write_155 ?_
          first | refine g_ifN_eq (tgt := 165) dX1_write_157 (by decide) (by omega) (fun c_157 => ?_) (fun c_157 => ?_) | refine g_if_eq (tgt := 165) dX1_write_157 (by decide) (fun c_157 => ?_) (fun c_157 => ?_)
          · refine g_ldcS hE.l99 dX1_write_165 ?_
            refine g_callVR (ctJ4_append (u := t + 10) x_152 (hE.c99 _ _) ⟨by omega, by omega, by omega⟩ (by simp only [List.length_append, List.length_cons, List.length_nil]; omega) (by decide)) kJ4_append q1914 x_152.rv ⟨by show 5 + 1 ≤ (N + 1) + 14; omega, by show 8 + (2 + 11) + (127) ≤ 60 * (N + 1) + 500; omega⟩ ⟨by show _ + 1 ≤ 20 * w; omega, by show _ + 142 ≤ 2000 * w; omega⟩ rfl (Nat.le_of_ble_eq_true rfl) dX1_write_167 k_x (k_r (fun r_167 h_167 p_167 => ?_))
            obtain ⟨e_167, x_167, f_167⟩ := p_167
            have F_167 := F_152.tr f_167.toW
            have hR3 := hR.fr F_167 (by omega) (by omega) (by omega) (by omega)
            refine V.wide (k' := k + 8) (n' := nn + 734) (by first | exact Nat.le_refl _ | exact wd0 (by decide) | exact wd1 (by decide)) (by first | exact Nat.le_refl _ | exact wd0 (by decide) | exact wd1 (by decide)) ?_
            refine g_pop dX1_write_170 (by first | rfl | exact cat_rf _) ?_
            first | refine g_aload3 dX1_write_171 ?_ | refine g_aloadQ3 dX1_write_171 ?_ | refine g_aloadN3 dX1_write_171 ?_
            refine g_iload4 dX1_write_172 ?_
            refine g_callF (ctJ21_get _ _ hR3.2.1 (show i < Ls.length by omega)) uJ21_get q1213 q1216 ⟨q1215, q1214, q1219, q1217, q994⟩ ⟨⟨by decide, by decide⟩, rfl⟩ (LI.at hR3.2.1).choose_spec rfl ⟨by show 2 + 1 ≤ (N + 1) + 14; omega, by show 8 + (2 + 11) + (43) ≤ 60 * (N + 1) + 500; omega⟩ ⟨by show _ + 0 ≤ 20 * w; omega, by show _ + 0 ≤ 2000 * w; omega⟩ rfl (Nat.le_of_ble_eq_true rfl) dX1_write_174 k_x (k_r (fun r_174 h_174 p_174 => ?_))
            obtain ⟨g_174, z_174⟩ := p_174
            rw [z_174]
            refine V.wide (k' := k + 8) (n' := nn + 734) (by first | exact Nat.le_refl _ | exact wd0 (by decide) | exact wd1 (by decide)) (by first | exact Nat.le_refl _ | exact wd0 (by decide) | exact wd1 (by decide)) ?_
            obtain rfl : y = r_174 := Option.some.inj (e1.symm.trans g_174)
            obtain ⟨C9, k1, k2, -⟩ := Rep.rv (hre.fr F_167 (wPn ht7) (wPn ht))
            refine g_ck q1231 k1 k2 dX1_write_179 ?_
            first | refine g_aload1 dX1_write_182 ?_ | refine g_aloadQ1 dX1_write_182 ?_ | refine g_aloadN1 dX1_write_182 ?_
            refine g_callS (IH _ _ _ _ (hre.fr F_167 (wPn ht7) (wPn ht)) x_167 (by simp only [List.length_append, List.length_cons, List.length_nil]; omega)) (kX1_write _ _) q1907 ⟨by show N + 14 + 1 ≤ (N + 1) + 14; omega, by show 8 + (6 + 11) + (60 * N + 500) ≤ 60 * (N + 1) + 500; omega⟩ ⟨by show _ + 20 * (aT b).length ≤ 20 * w; omega, by show _ + 2000 * (aT b).length ≤ 2000 * w; omega⟩ rfl (Nat.le_of_ble_eq_true rfl) dX1_write_183 k_x (k_v (fun h_183 p_183 => ?_))
            obtain ⟨x_183, f_183⟩ := p_183
            refine V.wide (k' := k + 8 + 20 * (aT b).length) (n' := nn + 734 + 2000 * (aT b).length) (Nat.le_refl _) (Nat.le_refl _) ?_
            first | refine g_aload1 dX1_write_186 ?_ | refine g_aloadQ1 dX1_write_186 ?_ | refine g_aloadN1 dX1_write_186 ?_
            refine g_iload5 dX1_write_187 ?_
            first | refine g_ifN_eq (tgt := 197) dX1_write_189 (by decide) (by omega) (fun c_189 => ?_) (fun c_189 => ?_) | refine g_if_eq (tgt := 197) dX1_write_189 (by decide) (fun c_189 => ?_) (fun c_189 => ?_)
            · refine g_ldcS hE.l99 dX1_write_197 ?_
              refine g_callVR (ctJ4_append (u := t + 10) x_183 (hE.c99 _ _) ⟨by omega, by omega, by omega⟩ (by simp only [List.length_append, List.length_cons, List.length_nil]; omega) (by decide)) kJ4_append q1914 x_183.rv ⟨by show 5 + 1 ≤ (N + 1) + 14; omega, by show 8 + (2 + 11) + (127) ≤ 60 * (N + 1) + 500; omega⟩ ⟨by show _ + 1 ≤ 20 * w; omega, by show _ + 142 ≤ 2000 * w; omega⟩ rfl (Nat.le_of_ble_eq_true rfl) dX1_write_199 k_x (k_r (fun r_199 h_199 p_199 => ?_))
              obtain ⟨e_199, x_199, f_199⟩ := p_199
              have F_199 := F_167.tr (f_183.tr f_199.toW)
              refine V.wide (k' := k + 9 + 20 * (aT b).length) (n' := nn + 876 + 2000 * (aT b).length) (by show k + 8 + 20 * (aT b).length + 1 ≤ _; omega) (by show nn + 734 + 2000 * (aT b).length + 142 ≤ _; omega) ?_
              refine g_pop dX1_write_202 (by first | rfl | exact cat_rf _) ?_
              first | refine g_iincN4 1 dX1_write_203 (by decide) (show ¬ 4 = 255 + 1 by decide) ?_ | refine g_iinc4 _ dX1_write_203 rfl (show ¬ 4 = 255 + 1 by decide) ?_
              refine g_goto (tgt := 83) dX1_write_206 (by decide) ?_
              exact ih (i + 1) _ _ _ _ _ (by omega) (by omega) (hR.fr F_199 (wPn ht7) (wPn ht) (wPn ht7) (wPn ht)) x_199 (by rw [← hC]; simp [List.append_assoc]) (hF.tr F_199) (by omega) (by omega)
            · omega
          · omega
      refine g_iload4 dX1_write_83 ?_
      first | refine g_aload3 dX1_write_85 ?_ | refine g_aloadQ3 dX1_write_85 ?_ | refine g_aloadN3 dX1_write_85 ?_
      refine g_callF (ctJ21_size _ hR.2.1) uJ21_size q1017 q1020 ⟨q1019, q1018, q1023, q1021, q994⟩ ⟨⟨by decide, by decide⟩, rfl⟩ (LI.at hR.2.1).choose_spec rfl ⟨by show 0 + 1 ≤ (N + 1) + 14; omega, by show 8 + (1 + 11) + (0) ≤ 60 * (N + 1) + 500; omega⟩ ⟨by show _ + 0 ≤ 20 * w; omega, by show _ + 0 ≤ 2000 * w; omega⟩ rfl (Nat.le_of_ble_eq_true rfl) dX1_write_86 k_x (k_n (fun r_86 h_86 p_86 => ?_))
      obtain ⟨rfl, z_86⟩ := p_86
      rw [z_86]
      refine V.wide (k' := k) (n' := nn) (by first | exact Nat.le_refl _ | exact wd0 (by decide) | exact wd1 (by decide)) (by first | exact Nat.le_refl _ | exact wd0 (by decide) | exact wd1 (by decide)) ?_
      first | refine g_icmpN_ge (tgt := 209) dX1_write_91 (by decide) (by omega) (by omega) (fun c_91 => ?_) (fun c_91 => ?_) | refine g_icmp_ge (tgt := 209) dX1_write_91 (by decide) (fun c_91 => ?_) (fun c_91 => ?_)
      · omega
      · first | refine g_aload0 dX1_write_94 ?_ | refine g_aloadQ0 dX1_write_94 ?_ | refine g_aloadN0 dX1_write_94 ?_
        refine g_instNo q1916 (gRv.g ha1 rfl rfl) nc_SecretVault_Some_SecretVault_All dX1_write_95 ?_
        refine g_ifN_eq (tgt := 119) dX1_write_98 (by decide) (by decide) (fun _ => ?_) (fun c => False.elim (by revert c; decide))
        refine g_iconst (nI 0) dX1_write_119 (by decide) ?_
        refine g_istore5 dX1_write_120 (show ¬ 5 = 255 + 1 by decide) ?_
        exact K0
  first | refine g_aload0 dX1_write_0 ?_ | refine g_aloadQ0 dX1_write_0 ?_ | refine g_aloadN0 dX1_write_0 ?_
  refine g_instNo q1910 (gRv.g ha rfl rfl) nc_SecretVault_Some_SecretVault_One dX1_write_1 ?_
  refine g_ifN_eq (tgt := 22) dX1_write_4 (by decide) (by decide) (fun _ => ?_) (fun c => False.elim (by revert c; decide))
  first | refine g_aload0 dX1_write_22 ?_ | refine g_aloadQ0 dX1_write_22 ?_ | refine g_aloadN0 dX1_write_22 ?_
  refine g_instS q1912 ha rfl dX1_write_23 ?_
  refine g_ifN_eq (tgt := 48) dX1_write_26 (by decide) (by decide) (fun c => False.elim (by revert c; decide)) (fun _ => ?_)
  first | refine g_aload0 dX1_write_29 ?_ | refine g_aloadQ0 dX1_write_29 ?_ | refine g_aloadN0 dX1_write_29 ?_
  refine g_ckS q1912 ha rfl dX1_write_30 ?_
  first | refine g_astore2 dX1_write_33 (show ¬ 2 = 255 + 1 by decide) ?_ | refine g_astoreQ2 dX1_write_33 (show ¬ 2 = 255 + 1 by decide) ?_ | refine g_astoreN2 dX1_write_33 (show ¬ 2 = 255 + 1 by decide) ?_
  first | refine g_aload1 dX1_write_34 ?_ | refine g_aloadQ1 dX1_write_34 ?_ | refine g_aloadN1 dX1_write_34 ?_
  first | refine g_aload2 dX1_write_35 ?_ | refine g_aloadQ2 dX1_write_35 ?_ | refine g_aloadN2 dX1_write_35 ?_
  refine g_getN (k0 := 0) (by first | assumption | exact g_up_self _ _ _ | (refine g_upf ?_ ?_ <;> assumption) | (refine g_upt ?_ ?_ (by decide) <;> assumption)) in_X18 q1842 rfl (by decide) rfl dX1_write_36 ?_
  refine g_callVR (ctJ4_append_2 c hx (by omega) (by simp only [List.length_append, List.length_cons, List.length_nil] at hlT; omega)) kJ4_append_2 q1911 hx.rv ⟨by show 5 + 1 ≤ (N + 1) + 14; omega, by show 8 + (2 + 11) + (127) ≤ 60 * (N + 1) + 500; omega⟩ ⟨by show _ + 1 ≤ 20 * w; omega, by show _ + 142 ≤ 2000 * w; omega⟩ rfl (Nat.le_of_ble_eq_true rfl) dX1_write_39 k_x (k_r (fun r_39 h_39 p_39 => ?_))
  obtain ⟨e_39, x_39, f_39⟩ := p_39
  rw [e_39]
  rw [dgL_1 (by omega)] at x_39
  refine V.wide (k' := 1) (n' := 142) (by first | exact Nat.le_refl _ | exact wd0 (by decide) | exact wd1 (by decide)) (by first | exact Nat.le_refl _ | exact wd0 (by decide) | exact wd1 (by decide)) ?_
  refine g_ldcS hE.l94 dX1_write_42 ?_
  refine g_callVR (ctJ4_append (u := t + 10) x_39 (hE.c94 _ _) ⟨by omega, by omega, by omega⟩ (by simp only [List.length_append, List.length_cons, List.length_nil] at *; omega) (by decide)) kJ4_append q1914 x_39.rv ⟨by show 5 + 1 ≤ (N + 1) + 14; omega, by show 8 + (2 + 11) + (127) ≤ 60 * (N + 1) + 500; omega⟩ ⟨by show _ + 1 ≤ 20 * w; omega, by show _ + 142 ≤ 2000 * w; omega⟩ rfl (Nat.le_of_ble_eq_true rfl) dX1_write_44 k_x (k_r (fun r_44 h_44 p_44 => ?_))
  obtain ⟨e_44, x_44, f_44⟩ := p_44
  have F_44 := f_39.tr f_44
  have ha2 := F_44 _ _ _ ha (by omega)
  refine V.wide (k' := 2) (n' := 284) (by first | exact Nat.le_refl _ | exact wd0 (by decide) | exact wd1 (by decide)) (by first | exact Nat.le_refl _ | exact wd0 (by decide) | exact wd1 (by decide)) ?_
  refine g_pop dX1_write_47 (by first | rfl | exact cat_rf _) ?_
  first | refine g_aload0 dX1_write_48 ?_ | refine g_aloadQ0 dX1_write_48 ?_ | refine g_aloadN0 dX1_write_48 ?_
  refine g_instNo q1915 (gRv.g ha2 rfl rfl) nc_SecretVault_Some_SecretVault_Any dX1_write_49 ?_
  refine g_ifN_eq (tgt := 60) dX1_write_52 (by decide) (by decide) (fun _ => ?_) (fun c => False.elim (by revert c; decide))
  first | refine g_aload0 dX1_write_60 ?_ | refine g_aloadQ0 dX1_write_60 ?_ | refine g_aloadN0 dX1_write_60 ?_
  refine g_instNo q1916 (gRv.g ha2 rfl rfl) nc_SecretVault_Some_SecretVault_All dX1_write_61 ?_
  refine g_ifN_eq (tgt := 72) dX1_write_64 (by decide) (by decide) (fun _ => ?_) (fun c => False.elim (by revert c; decide))
  refine g_bipush (nI 44) dX1_write_72 (by decide) ?_
  refine g_istore2 dX1_write_74 (show ¬ 2 = 255 + 1 by decide) ?_
  first | refine g_aload0 dX1_write_75 ?_ | refine g_aloadQ0 dX1_write_75 ?_ | refine g_aloadN0 dX1_write_75 ?_
  refine g_callS (ctX1_partsOf_Some (N := 0) ha2) (kX1_partsOf _ _) q1917 ⟨by show 9 + 1 ≤ (N + 1) + 14; omega, by show 8 + (2 + 11) + (200) ≤ 60 * (N + 1) + 500; omega⟩ ⟨by show _ + 0 ≤ 20 * w; omega, by show _ + 0 ≤ 2000 * w; omega⟩ rfl (Nat.le_of_ble_eq_true rfl) dX1_write_76 k_x (k_r (fun r_76 h_76 p_76 => ?_))
  obtain ⟨rfl, z_76⟩ := p_76
  rw [z_76]
  refine V.wide (k' := 2) (n' := 284) (by first | exact Nat.le_refl _ | exact wd0 (by decide) | exact wd1 (by decide)) (by first | exact Nat.le_refl _ | exact wd0 (by decide) | exact wd1 (by decide)) ?_
  first | refine g_astore3 dX1_write_79 (show ¬ 3 = 255 + 1 by decide) ?_ | refine g_astoreQ3 dX1_write_79 (show ¬ 3 = 255 + 1 by decide) ?_ | refine g_astoreN3 dX1_write_79 (show ¬ 3 = 255 + 1 by decide) ?_
  refine g_iconst (nI 0) dX1_write_80 (by decide) ?_
  refine g_istore4 dX1_write_81 (show ¬ 4 = 255 + 1 by decide) ?_
  exact K B.length 0 _ _ 2 284 _ rfl (Nat.zero_le _) (hL.fr F_44 (by omega) (by omega) (by omega) (by omega)) x_44 (by show _ ++ txL 44 0 B = _; simp [List.append_assoc]) F_44.toW (by rw [List.drop_zero]; omega) (by rw [List.drop_zero]; omega)
theorem ctX1_write {E : GE} (N : Nat) {q t : Nat} (ht : 8 < t) : ∀ (h : AH) (a : Nat) (A : Att) (L : List Nat), Rep E h N a A → SB E t h q L → L.length + (aT A).length ≤ 100 → Ct E cX1_write (mX1_write N (aT A).length) [.ref a, .ref q] h (pV fun h' => SB E t h' q (L ++ aT A) ∧ Fr (wP t) h h') noX := by
  induction N with
  | zero => exact fun h a A L hr => hr.elim
  | succ N ih =>
    intro h a A L hr hx hl hE
    rcases hr with ⟨m, m1, rfl, m3⟩ | ⟨l', L', B', b1, b2, b3, ⟨zn, rfl, z2⟩ | ⟨zn, rfl, z2⟩ | ⟨c, c1, rfl, z2⟩⟩
    · exact ctX1_write_One ht hE m3 m1 hx hl (Nat.le_refl _) hE
    · exact ctX1_write_Any ht hE z2 ⟨b1, b2, b3⟩ zn hx rfl hl ih hE
    · exact ctX1_write_All ht hE z2 ⟨b1, b2, b3⟩ zn hx rfl hl ih hE
    · exact ctX1_write_Some ht hE z2 ⟨b1, b2, b3⟩ c1 hx rfl hl ih hE
