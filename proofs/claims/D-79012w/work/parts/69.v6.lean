/-! THE VAULT: shares and policies are read -/
set_option maxRecDepth 100000
theorem STN.fr {E : GE} {t : Nat} {h h' : AH} {s : Nat} {L : List Nat} {P : Nat → Prop} (hx : STN E t h s L) (hf : Fr P h h') (h1 : ¬ P t) (h2 : ¬ P (t + 1)) : STN E t h' s L := by
  obtain ⟨arr, F, ⟨z1, z2⟩, r⟩ := hx
  exact ⟨arr, F, ⟨hf _ _ _ z1 h1, hf _ _ _ z2 h2⟩, r⟩
theorem STN.rd {E : GE} {h : AH} {s n : Nat} {t : Nat → Nat} (hx : STN E 1102 h s (tL t n)) (hn : n ≤ 40) : RD E h s t n := by
  obtain ⟨arr, F, h1, h2, h3, h4⟩ := hx
  exact ⟨arr, F, h1, h3, hn, fun i hi => h4 i _ (tL_at hi)⟩
theorem WX.fr {E : GE} {B : Nat} {g : Nat → Nat} {a aw ap az ad : Nat} {fw fp : Nat → Nat} {fz : Nat → Option Nat} {h h' : AH} {P : Nat → Prop} (hx : WX E B g a aw ap az ad fw fp fz h) (hf : Fr P h h') (hp : ∀ t, t < 128 → ¬ P (B + t)) (h7 : ¬ P 7) (h8 : ¬ P 8) : WX E B g a aw ap az ad fw fp fz h' := by
  obtain ⟨x1, x2, x3, x4, x5, x6, x7, x8⟩ := hx
  exact ⟨hf _ _ _ x1 (hp 0 (by decide)), hf _ _ _ x2 (hp 1 (by decide)), x3, hf _ _ _ x4 (hp 2 (by decide)), x5, hf _ _ _ x6 (hp 3 (by decide)), fun s hs => (x7 s hs).fr hf (fun t ht => by have := hp (10 + 30 * s + t) (by omega); rwa [show B + (10 + 30 * s + t) = B + 10 + 30 * s + t by omega] at this) h7 h8, x8.fr hf (hp 4 (by decide)) (hp 5 (by decide)) h7⟩
/-- the position of an error is laid down -/
theorem VX9.ep {E : GE} {M : TW} {v w b : Nat} {sv : Option Nat} {L : List Nat} {h : AH} (x : Nat) (hV : VX9 E M v L w b sv h) : VX9 E (tset M 0 16 x) v L w b sv (g_up h v (10, gO 0 [.ref w, va_rf sv, .ref b, .int (nI x), va_rf L.head?])) ∧ Fr (fun u => u = 10) h (g_up h v (10, gO 0 [.ref w, va_rf sv, .ref b, .int (nI x), va_rf L.head?])) := by
  obtain ⟨h1, h2, h3, h4, h5, h6⟩ := hV
  have hf : Fr (fun u => u = 10) h (g_up h v (10, gO 0 [.ref w, va_rf sv, .ref b, .int (nI x), va_rf L.head?])) := Fr.put h1 rfl
  refine ⟨⟨by rw [tset_ss]; exact g_up_self _ _ _, h2.fr hf (fun t ht => by omega) (by decide) (by decide), ?_, ?_, by rw [tset_sn _ _ _ (by decide)]; exact h5, h6.fr hf (by decide)⟩, hf⟩
  · unfold svO at h3 ⊢
    rw [tset_sn _ _ _ (by decide)]
    exact h3.imp (fun z => ⟨z.1, z.2.choose, z.2.choose_spec.1, z.2.choose_spec.2.fr hf (fun t ht => by omega) (by decide) (by decide)⟩) id
  · rw [tset_sn _ _ _ (by decide)]
    exact h4.fr hf (by decide) (by decide)
/-- the buffer is emptied -/
theorem VX9.em {E : GE} {M : TW} {v w b : Nat} {sv : Option Nat} {L : List Nat} {h h' : AH} (hV : VX9 E M v L w b sv h) (hf : Fr bP h h') (hb : SB E 11 h' b []) : VX9 E (tset M 0 15 0) v L w b sv h' := hV.bf hf (by rw [tset_ss]; exact hb) rfl (tset_sn _ _ _ (by decide)) (tset_sn _ _ _ (by decide)) (tset_sn _ _ _ (by decide)) rfl rfl rfl
theorem vW.p0 {M : TW} {x : Nat} (hW : vW M) (hx : x < 4294967296) : vW (tset (tset M 0 16 x) 0 15 0) := by
  obtain ⟨⟨a1, a2⟩, ⟨b1, b2⟩, c, d, e, f, g⟩ := hW
  refine ⟨⟨twB_set (twB_set a1 hx) (by decide), a2⟩, ⟨?_, fun i hi => ?_⟩, c, ?_, ?_, f, g⟩
  · rw [tset_ss]
    decide
  · rw [tset_ss] at hi
    exact absurd hi (Nat.not_lt_zero i)
  · rw [tset_sn _ _ _ (by decide), tset_sn _ _ _ (by decide)]
    exact d
  · rw [tset_sn _ _ _ (by decide), tset_sn _ _ _ (by decide)]
    exact e
/-- a cell is taken out -/
theorem g_cut {h : AH} {r : Nat} {z : Nat × va_E} (hr : h r = some z) : ∃ h', h' r = none ∧ h = g_up h' r z ∧ ∀ a, a ≠ r → h' a = h a := by
  refine ⟨fun a => if a = r then none else h a, if_pos rfl, ?_, fun a ha => if_neg ha⟩
  funext a
  by_cases e : a = r
  · rw [e, hr, g_up_self]
  · rw [g_up_ne _ e]
    exact (if_neg e).symm
abbrev mX1_takeBuffer : GM := (yX1_takeBuffer, 2, (some (.object "java/lang/String")), [], { frames := 6, cells := 4, slots := 300, locals := 171 }, 255)
theorem kX1_takeBuffer : gCv cX1_takeBuffer mX1_takeBuffer 0 := ⟨q1616, qs12, q67, q1617, ⟨by decide +kernel, by decide +kernel, by decide +kernel⟩, rfl⟩
theorem uX1_takeBuffer : gCu cX1_takeBuffer mX1_takeBuffer 0 := ⟨q1616, q67, q1617, ⟨by decide +kernel, by decide +kernel, by decide +kernel⟩, rfl⟩
set_option maxHeartbeats 400000 in
theorem ctX1_takeBuffer {E : GE} {h : AH} {v : Nat} {L9 : List Nat} {M : TW} {w b : Nat} {sv : Option Nat} (hVX : VX9 E M v L9 w b sv h) : Ct E cX1_takeBuffer mX1_takeBuffer [.ref v] (h) (pR fun r h' => h r = none ∧ STN E 1102 h' r (tL (M 14) (M 0 15)) ∧ SB E 11 h' b [] ∧ Fr (fun u => u = 11 ∨ u = 12) h h') (noX) := by
  refine g_enter (own := "SecretVault") [some (.ref v), none] (by decide +kernel) rfl rfl (Nat.le_of_ble_eq_true rfl) rfl rfl (fun X => ?_)
  obtain ⟨hv, h2, h3, hsb, h5, h6⟩ := id hVX
  first | refine g_aload0 dX1_takeBuffer_0 ?_ | refine g_aloadQ0 dX1_takeBuffer_0 ?_ | refine g_aloadN0 dX1_takeBuffer_0 ?_
  refine g_get (k0 := 2) (by first | assumption | exact g_up_self _ _ _ | (refine g_upf ?_ ?_ <;> assumption) | (refine g_upt ?_ ?_ (by decide) <;> assumption)) in_X1 q579 rfl (by decide) rfl dX1_takeBuffer_1 ?_
  refine g_callVR (ctJ4_toString 1102 hsb ⟨by decide, by decide⟩) kJ4_toString q1618 hsb.rv (by decide) ⟨Nat.le_of_ble_eq_true rfl, Nat.le_of_ble_eq_true rfl⟩ rfl (Nat.le_of_ble_eq_true rfl) dX1_takeBuffer_4 k_x (k_r (fun r_4 h_4 p_4 => ?_))
  obtain ⟨e_4, x_4, f_4⟩ := p_4
  have hv2 := f_4 _ _ _ hv id
  have hsb2 := hsb.fr f_4 id id
  first | refine g_astore1 dX1_takeBuffer_7 (by decide) ?_ | refine g_astoreQ1 dX1_takeBuffer_7 (by decide) ?_ | refine g_astoreN1 dX1_takeBuffer_7 (by decide) ?_
  first | refine g_aload0 dX1_takeBuffer_8 ?_ | refine g_aloadQ0 dX1_takeBuffer_8 ?_ | refine g_aloadN0 dX1_takeBuffer_8 ?_
  refine g_get (k0 := 2) (by first | assumption | exact g_up_self _ _ _ | (refine g_upf ?_ ?_ <;> assumption) | (refine g_upt ?_ ?_ (by decide) <;> assumption)) in_X1 q579 rfl (by decide) rfl dX1_takeBuffer_9 ?_
  refine g_iconst (nI 0) dX1_takeBuffer_12 (by decide) ?_
  refine g_callVR (ctJ4_setLength hsb2) kJ4_setLength q225 hsb2.rv (by decide) ⟨Nat.le_of_ble_eq_true rfl, Nat.le_of_ble_eq_true rfl⟩ rfl (Nat.le_of_ble_eq_true rfl) dX1_takeBuffer_13 k_x (k_v (fun h_13 p_13 => ?_))
  obtain ⟨y_13, f_13⟩ := p_13
  first | refine g_aload1 dX1_takeBuffer_16 ?_ | refine g_aloadQ1 dX1_takeBuffer_16 ?_ | refine g_aloadN1 dX1_takeBuffer_16 ?_
  exact g_aret dX1_takeBuffer_17 rfl (Or.inl ⟨_, rfl⟩) ⟨_, rfl, e_4, x_4.fr f_13 (by decide) (by decide), y_13, f_4.f0.tr f_13⟩
theorem VX9.eqv {E : GE} {M M' : TW} {v w b : Nat} {sv : Option Nat} {L : List Nat} {h : AH} (hV : VX9 E M v L w b sv h) (e1 : M' 1 = M 1) (e2 : M' 2 = M 2) (e8 : M' 8 = M 8) (e9 : M' 9 = M 9) (e14 : M' 14 = M 14) (e3 : M' 0 3 = M 0 3) (e10 : M' 0 10 = M 0 10) (e15 : M' 0 15 = M 0 15) (e16 : M' 0 16 = M 0 16) : VX9 E M' v L w b sv h := by
  obtain ⟨h1, h2, h3, h4, h5, h6⟩ := hV
  refine ⟨by rw [e16]; exact h1, by rw [e1]; exact h2, ?_, by rw [e14, e15]; exact h4, by rw [e10]; exact h5, by rw [e8, e9]; exact h6⟩
  unfold svO at h3 ⊢
  rw [e3, e2]
  exact h3
theorem Fa.tp {h h' : AH} {rd : Nat} {e : va_E} (hr : h rd = some (1100, e)) (f : Fa rd h h') : Fr (fun u => u = 1100) h h' := fun a t x z hp => f a _ z (fun y => by rw [y, hr] at z; cases z; exact hp rfl)
abbrev cP9 : Nat → Prop := fun u => u = 10 ∨ u = 11 ∨ u = 12 ∨ 1000 ≤ u
theorem Fr.cut {P : Nat → Prop} {H H2 hc : AH} {r : Nat} (f : Fr P H H2) (hr : H r = none) (hc3 : ∀ a, a ≠ r → hc a = H2 a) : Fr P H hc := fun a t e z hp => by
  rw [hc3 a (fun y => by rw [y, hr] at z; cases z)]
  exact f a t e z hp
abbrev mX1_importShare : GM := (yX1_importShare, 4, (some .int), [(16, 45, 46, 330)], { frames := 11, cells := 900, slots := 90000, locals := 232 }, 255)
theorem kX1_importShare : gCvW cX1_importShare mX1_importShare 1 := ⟨q1608, q1609, q67, q1610, ⟨by decide +kernel, by decide +kernel, by decide +kernel⟩, by decide⟩
set_option maxHeartbeats 400000 in
theorem ctX1_importShare {E : GE} {h : AH} {v : Nat} {L9 : List Nat} (M : TW) (s : Nat) (hV : VO E M v L9 h) (hW : vW M) (hs : s < 4294967296)  : Ct E cX1_importShare mX1_importShare [.ref v, .int (nI s)] (h) (pN fun r h' => xc_importShare M s = 0 ∧ r = xv_importShare M s ∧ VO E (xm_importShare M s) v L9 h' ∧ Fr vP h h') (fun C _ h' => cX ["java/lang/IndexOutOfBoundsException", "java/util/NoSuchElementException", "java/lang/IllegalArgumentException"] C (xc_importShare M s) ∧ VO E (xm_importShare M s) v L9 h' ∧ Fr vP h h') := by
  refine g_enterW (own := "SecretVault") [some (.ref v), some (.int (nI s)), none, none] (by decide +kernel) rfl (by decide) (Nat.le_of_ble_eq_true rfl) rfl rfl (fun X => ?_)
  obtain ⟨w, b, sv, hv, ⟨aw, ap, az, ad, fw, fp, fz, x1, x2, x3, x4, x5, x6, x7, x8⟩, hsv, hsb, hlen, hch⟩ := id hV
  have hT40 := hW.2.1.1
  have KH : ∀ a q hh o3, s < 4 → ¬ gOf (M 1) s 0 = 0 → ¬ (psR (M 14) (M 0 15)).1 = 1 → VX9 E (tset (tset M 0 16 4294967295) 0 15 0) v L9 w b sv hh → Fr vP h hh → (∃ u9 w9, hh q = some (9, gO 15 [.ref q, va_rf u9, va_rf w9, .null, .null, .int 0, .int (nI (psR (M 14) (M 0 15)).2)])) → V E cX1_importShare "SecretVault" mX1_importShare (pN fun r h' => xc_importShare M s = 0 ∧ r = xv_importShare M s ∧ VO E (xm_importShare M s) v L9 h' ∧ Fr vP h h') (fun C _ h' => cX ["java/lang/IndexOutOfBoundsException", "java/util/NoSuchElementException", "java/lang/IllegalArgumentException"] C (xc_importShare M s) ∧ VO E (xm_importShare M s) v L9 h' ∧ Fr vP h h') X (hh) 60 900 46 [some (.ref v), some (.int (nI s)), some (.ref a), o3] [.ref q] := by
    intro a q hh o3 hs4 hg0 hno hVh hF hq
    obtain ⟨u9, w9, hq⟩ := hq
    obtain ⟨hv8, r8⟩ := id hVh
    refine g_astore3 dX1_importShare_46 (by decide) ?_
    first | refine g_aload0 dX1_importShare_47 ?_ | refine g_aloadQ0 dX1_importShare_47 ?_ | refine g_aloadN0 dX1_importShare_47 ?_
    first | refine g_aload3 dX1_importShare_48 ?_ | refine g_aloadQ3 dX1_importShare_48 ?_ | refine g_aloadN3 dX1_importShare_48 ?_
    refine g_get (k0 := 6) (by first | assumption | exact g_up_self _ _ _ | (refine g_upf ?_ ?_ <;> assumption) | (refine g_upt ?_ ?_ (by decide) <;> assumption)) in_X17 q1681 rfl (by decide) rfl dX1_importShare_49 ?_
    refine g_put (k0 := 3) (by first | assumption | exact g_up_self _ _ _ | (refine g_upf ?_ ?_ <;> assumption) | (refine g_upt ?_ ?_ (by decide) <;> assumption)) in_X1 q580 tyX1_ok nmX1 rfl (by decide) rfl (by rfl) (by rfl) (Nat.le_of_ble_eq_true rfl) dX1_importShare_52 ?_
    obtain ⟨e8, f8⟩ := hVh.ep (psR (M 14) (M 0 15)).2
    have e9 : VX9 E (imM M) v L9 w b sv (g_up hh v (10, gO 0 [.ref w, va_rf sv, .ref b, .int (nI (psR (M 14) (M 0 15)).2), va_rf L9.head?])) := e8.eqv rfl rfl rfl rfl rfl rfl rfl rfl (by unfold imM; rw [if_neg hno]; rfl)
    have F9 : Fr vP h (g_up hh v (10, gO 0 [.ref w, va_rf sv, .ref b, .int (nI (psR (M 14) (M 0 15)).2), va_rf L9.head?])) := hF.tr (f8.mono (fun u z => by omega))
    exact g_throw0 (names := ["java/lang/RuntimeException", "java/lang/Exception"]) (by decide +kernel) (by decide +kernel) q941 q88 at_SecretVault_IllegalArgumentException at_SecretVault_IllegalArgumentException_g dX1_importShare_55 dX1_importShare_58 dX1_importShare_59 dX1_importShare_62 (by intro z hz; have e := List.mem_singleton.mp hz; rw [e]; decide) (by decide) (Nat.le_of_ble_eq_true rfl) (Nat.le_of_ble_eq_true rfl) (Nat.le_of_ble_eq_true rfl) (fun q => ⟨(by unfold cX xc_importShare; (repeat' split) <;> first | exact ⟨Nat.zero_lt_succ _, rfl⟩ | (exfalso; omega)), (by unfold xm_importShare; rw [if_pos ⟨by omega, by omega⟩, if_neg hno]; exact ⟨w, b, sv, e9⟩), F9⟩)
  refine g_iload1 dX1_importShare_0 ?_
  refine g_iconst (nI 4) dX1_importShare_1 (by decide) ?_
  refine g_callS (ctX1_requireIndex s 4 (by omega) (by decide)) kX1_requireIndex q917 (by decide) ⟨Nat.le_of_ble_eq_true rfl, Nat.le_of_ble_eq_true rfl⟩ rfl (Nat.le_of_ble_eq_true rfl) dX1_importShare_2 (fun C_ q_ h2_ px => by obtain ⟨rfl, c_2, rfl⟩ := px; exact gx_out ⟨(by unfold cX xc_importShare; (repeat' split) <;> first | exact ⟨Nat.zero_lt_succ _, rfl⟩ | (exfalso; omega)), (by unfold xm_importShare; (repeat' split) <;> first | exact hV | (exfalso; omega)), Fr.rf⟩ (Nat.le_of_ble_eq_true rfl) (Nat.le_of_ble_eq_true rfl) (by intro z hz; obtain rfl := List.mem_singleton.mp hz; exact Or.inl (by decide))) (k_v (fun h_2 p_2 => ?_))
  obtain ⟨i_2, z_2⟩ := p_2
  rw [z_2]
  first | refine g_aload0 dX1_importShare_5 ?_ | refine g_aloadQ0 dX1_importShare_5 ?_ | refine g_aloadN0 dX1_importShare_5 ?_
  refine g_iload1 dX1_importShare_6 ?_
  refine g_callVR (ctX1_secretInX ⟨hv, ⟨aw, ap, az, ad, fw, fp, fz, x1, x2, x3, x4, x5, x6, x7, x8⟩, hsv, hsb, hlen, hch⟩ ⟨x1, x2, x3, x4, x5, x6, x7, x8⟩ hW s (by omega)) kX1_secretIn q1135 (gRv.g hv rfl rfl) (by decide) ⟨Nat.le_of_ble_eq_true rfl, Nat.le_of_ble_eq_true rfl⟩ rfl (Nat.le_of_ble_eq_true rfl) dX1_importShare_7 (fun C_ q_ h2_ px => by obtain ⟨rfl, c_7, rfl⟩ := px; exact gx_out ⟨(by unfold cX xc_importShare; (repeat' split) <;> first | exact ⟨Nat.zero_lt_succ _, rfl⟩ | (exfalso; omega)), (by unfold xm_importShare; (repeat' split) <;> first | exact hV | (exfalso; omega)), Fr.rf⟩ (Nat.le_of_ble_eq_true rfl) (Nat.le_of_ble_eq_true rfl) (by intro z hz; obtain rfl := List.mem_singleton.mp hz; exact Or.inl (by decide))) (k_r (fun r_7 h_7 p_7 => ?_))
  obtain ⟨g1, hfz, hse, z_7⟩ := p_7
  rw [z_7]
  first | refine g_astore2 dX1_importShare_10 (by decide) ?_ | refine g_astoreQ2 dX1_importShare_10 (by decide) ?_ | refine g_astoreN2 dX1_importShare_10 (by decide) ?_
  first | refine g_aload0 dX1_importShare_11 ?_ | refine g_aloadQ0 dX1_importShare_11 ?_ | refine g_aloadN0 dX1_importShare_11 ?_
  refine g_iconst (nI 4294967295) dX1_importShare_12 (by decide) ?_
  refine g_put (k0 := 3) (by first | assumption | exact g_up_self _ _ _ | (refine g_upf ?_ ?_ <;> assumption) | (refine g_upt ?_ ?_ (by decide) <;> assumption)) in_X1 q580 tyX1_ok nmX1 rfl (by decide) rfl (by rfl) (by rfl) (Nat.le_of_ble_eq_true rfl) dX1_importShare_13 ?_
  obtain ⟨e0, f0⟩ := VX9.ep 4294967295 ⟨hv, ⟨aw, ap, az, ad, fw, fp, fz, x1, x2, x3, x4, x5, x6, x7, x8⟩, hsv, hsb, hlen, hch⟩
  have hv1 := e0.1
  have hrd : ∀ (n9 : Nat), True := fun _ => trivial
  refine g_new 14 (1100) [.null, .int 0] in_X16 tyX16_ok q1612 q1613 q112 rfl nwX16 (Nat.le_of_ble_eq_true rfl) (Nat.le_of_ble_eq_true rfl) dX1_importShare_16 (fun q_16 f_16 => ?_)
  refine g_dup dX1_importShare_19 rfl ?_
  first | refine g_aload0 dX1_importShare_20 ?_ | refine g_aloadQ0 dX1_importShare_20 ?_ | refine g_aloadN0 dX1_importShare_20 ?_
  refine g_callVR (ctX1_takeBuffer (e0.fr (Fr.new f_16) (fun _ z => z))) kX1_takeBuffer q1614 (gRv.g (g_upf hv1 f_16) rfl rfl) (by decide) ⟨Nat.le_of_ble_eq_true rfl, Nat.le_of_ble_eq_true rfl⟩ rfl (Nat.le_of_ble_eq_true rfl) dX1_importShare_21 k_x (k_r (fun r_21 h_21 p_21 => ?_))
  obtain ⟨n_21, st_21, sb_21, f_21⟩ := p_21
  have f16 : Fr tP (g_up h v (10, gO 0 [.ref w, va_rf sv, .ref b, .int (nI 4294967295), va_rf L9.head?])) (g_up (g_up h v (10, gO 0 [.ref w, va_rf sv, .ref b, .int (nI 4294967295), va_rf L9.head?])) q_16 (1100, gO 14 [.null, .int 0])) := Fr.new f_16
  have e2 := (e0.fr f16 (fun _ z => z)).em (f_21.mono (fun u z => by omega)) sb_21
  have hq1 := f_21 _ _ _ (g_up_self (g_up h v (10, gO 0 [.ref w, va_rf sv, .ref b, .int (nI 4294967295), va_rf L9.head?])) q_16 (1100, gO 14 [.null, .int 0])) (by decide)
  have FA : Fr cP9 h h_21 := (f0.mono (fun u z => Or.inl z)).tr ((f16.mono (fun u z => by omega)).tr (f_21.mono (fun u z => by omega)))
  refine g_callI (ctX16_init hq1) kX16_init q1619 (by decide) ⟨Nat.le_of_ble_eq_true rfl, Nat.le_of_ble_eq_true rfl⟩ rfl (Nat.le_of_ble_eq_true rfl) dX1_importShare_24 k_x (k_v (fun h_24 p_24 => ?_))
  rw [p_24]
  have f24 : Fr (fun u => u = 1100) h_21 (g_up h_21 q_16 (1100, gO 14 [.ref r_21, .int 0])) := Fr.put hq1 rfl
  have e3 := e2.fr f24 (fun u z => by omega)
  have FB : Fr cP9 h (g_up h_21 q_16 (1100, gO 14 [.ref r_21, .int 0])) := FA.tr (f24.mono (fun u z => by omega))
  have hrd : RD E (g_up h_21 q_16 (1100, gO 14 [.ref r_21, .int 0])) r_21 (M 14) (M 0 15) := (st_21.fr f24 (by decide) (by decide)).rd hT40
  refine g_callVR (ctX16_wholeShare (110 + 30 * s + 3 + psP (M 14) (M 0 15)) (g_up_self _ _ _) hrd) kX16_wholeShare q1630 (gRv.g (g_up_self _ _ _) rfl rfl) (by decide) ⟨Nat.le_of_ble_eq_true rfl, Nat.le_of_ble_eq_true rfl⟩ rfl (Nat.le_of_ble_eq_true rfl) dX1_importShare_27 (fun C_ q_ h2_ px => by obtain ⟨rfl, m_27, z1, z2, z3⟩ := px; exact gx_catch [] ⟨16, 45, 46, 330⟩ [] rfl (fun z hz => nomatch hz) (by decide) (by decide) q1611 q1669 (V.wide (k' := 60) (n' := 900) (by decide) (by decide) (KH _ _ _ _ i_2 (by omega) m_27 (e3.fr (z2.tp (g_up_self _ _ _)) (fun u z => by omega)) ((FB.tr ((z2.tp (g_up_self _ _ _)).mono (fun u z => by omega))).mono (fun u z => by omega)) z3))) (k_r (fun r_27 h_27 p_27 => ?_))
  obtain ⟨k1, k2, k3, k4, k5, k6, k7⟩ := p_27
  have fC := k7.tp (g_up_self _ _ _)
  obtain ⟨hc, c1, c2, c3⟩ := g_cut k6
  have fD := fC.cut k5 c3
  have FD : Fr cP9 h hc := FB.tr (fD.mono (fun u z => by omega))
  obtain ⟨cc_, bb_, pp_, fc, fs_, y1, y2, y3, y4, y5, y6⟩ := (id hse).fr FD (fun t ht => by omega) (by decide) (by decide)
  have hsl := hW.s4 s (by omega)
  rw [c2]
  have yb := g_upf (z := (110 + 30 * s + 3 + psP (M 14) (M 0 15), gO 4 [.int (nI (psP (M 14) (M 0 15))), .int (nI (psV (M 14) (M 0 15))), .int (nI (psE (M 14) (M 0 15)))])) y4 c1
  have ya := g_upf (z := (110 + 30 * s + 3 + psP (M 14) (M 0 15), gO 4 [.int (nI (psP (M 14) (M 0 15))), .int (nI (psV (M 14) (M 0 15))), .int (nI (psE (M 14) (M 0 15)))])) y1 c1
  have yr := g_up_self hc r_27 (110 + 30 * s + 3 + psP (M 14) (M 0 15), gO 4 [.int (nI (psP (M 14) (M 0 15))), .int (nI (psV (M 14) (M 0 15))), .int (nI (psE (M 14) (M 0 15)))])
  first | refine g_astore3 dX1_importShare_30 (by decide) ?_ | refine g_astoreQ3 dX1_importShare_30 (by decide) ?_ | refine g_astoreN3 dX1_importShare_30 (by decide) ?_
  first | refine g_aload2 dX1_importShare_31 ?_ | refine g_aloadQ2 dX1_importShare_31 ?_ | refine g_aloadN2 dX1_importShare_31 ?_
  refine g_getN (k0 := 4) (by first | assumption | exact g_up_self _ _ _ | (refine g_upf ?_ ?_ <;> assumption) | (refine g_upt ?_ ?_ (by decide) <;> assumption)) in_X5 q671 rfl (by decide) rfl dX1_importShare_32 ?_
  first | refine g_aload3 dX1_importShare_35 ?_ | refine g_aloadQ3 dX1_importShare_35 ?_ | refine g_aloadN3 dX1_importShare_35 ?_
  refine g_get (k0 := 0) (by first | assumption | exact g_up_self _ _ _ | (refine g_upf ?_ ?_ <;> assumption) | (refine g_upt ?_ ?_ (by decide) <;> assumption)) in_X6 q701 rfl (by decide) rfl dX1_importShare_36 ?_
  first | refine g_aload3 dX1_importShare_39 ?_ | refine g_aloadQ3 dX1_importShare_39 ?_ | refine g_aloadN3 dX1_importShare_39 ?_
  refine g_aastS yb yr rfl rfl (by omega) (by decide) dX1_importShare_40 ?_
  have yr2 := g_upt (x' := gAR E 7 25 (nup fs_ (psP (M 14) (M 0 15)) (some r_27))) yr yb (by omega)
  first | refine g_aload3 dX1_importShare_41 ?_ | refine g_aloadQ3 dX1_importShare_41 ?_ | refine g_aloadN3 dX1_importShare_41 ?_
  refine g_get (k0 := 0) (by first | assumption | exact g_up_self _ _ _ | (refine g_upf ?_ ?_ <;> assumption) | (refine g_upt ?_ ?_ (by decide) <;> assumption)) in_X6 q701 rfl (by decide) rfl dX1_importShare_42 ?_
  exact g_iret dX1_importShare_45 rfl ⟨_, rfl, (by unfold xc_importShare; (repeat' split) <;> first | rfl | (exfalso; omega)), rfl, by unfold xm_importShare; rw [if_pos ⟨by omega, by omega⟩, if_pos k1]; have q9 := VO.sl (M' := tShare (tset (tset M 0 16 4294967295) 0 15 0) s (psP (M 14) (M 0 15)) (psV (M 14) (M 0 15)) (psE (M 14) (M 0 15))) (s := s) (fz' := fz) (P := fun u => u = 110 + 30 * s + 2) (by omega) (hW.p0 (by decide)) (WX.fr ⟨x1, x2, x3, x4, x5, x6, x7, x8⟩ FD (fun t ht => by omega) (by decide) (by decide)) (e3.fr fD (fun u z => by omega)) ((Fr.new c1).put2 yb rfl rfl) (fun u z => by omega) (g_upt (g_upf (FD _ _ _ x6 (by decide)) c1) yb (by omega)) (fun _ _ => rfl) (Or.inl ⟨(shG_w (by decide)).trans g1, _, hfz, _, _, _, _, _, seX.sh ⟨y1, y2, y3, y4, y5, y6⟩ c1 k2 hsl.2.2.2.2.2.1 hsl.2.2.1 (by omega)⟩) (fun i hi => shG_ne (by omega)) (fun j hj hjs w hw => shG_s hjs k2 hw) rfl rfl rfl rfl rfl rfl rfl rfl; have e5 : imM M = (tset (tset M 0 16 4294967295) 0 15 0) := (by unfold imM; rw [if_pos k1]); rw [e5]; exact ⟨q9.1, (FD.mono (fun u z => by omega)).tr q9.2⟩⟩
theorem tPo_at (M : TW) (s n : Nat) (t : Nat → Nat) (k : Nat) : (∀ i, i < 38 + 124 * s + 11 ∨ 38 + 124 * s + 12 + k ≤ i → tPo M s n t k 1 i = M 1 i) ∧ tPo M s n t k 1 (38 + 124 * s + 11) = n ∧ ∀ j, j < k → tPo M s n t k 1 (38 + 124 * s + (12 + j)) = t j := by
  induction k with
  | zero => exact ⟨fun i hi => tset_sn _ _ _ (by omega), tset_ss _ _ _ _, fun j hj => absurd hj (Nat.not_lt_zero j)⟩
  | succ k ih =>
    obtain ⟨i1, i2, i3⟩ := ih
    refine ⟨fun i hi => ?_, ?_, fun j hj => ?_⟩
    · rw [tPo, tset_sn _ _ _ (by omega)]
      exact i1 i (by omega)
    · rw [tPo, tset_sn _ _ _ (by omega)]
      exact i2
    · by_cases e : j = k
      · rw [e]
        exact tset_ss _ _ _ _
      · rw [tPo, tset_sn _ _ _ (by omega)]
        exact i3 j (by omega)
theorem seX.po {E : GE} {S : Nat} {g g' : Nat → Nat} {s a c b : Nat} {p : Option Nat} {fc : Nat → Nat} {fs : Nat → Option Nat} {h : AH} (hs : seX E S g s a c b p fc fs h) (hS : 8 < S) (hk : gOf g s 1 ≤ 8) (hg : ∀ w, w < 11 ∨ 52 ≤ w ∧ w < 124 → gOf g' s w = gOf g s w) (p' : Option Nat) (hp : poO E g' s p' h) : seX E S g' s a c b p' fc fs (g_up h a (S, gO 3 [.int (nI (gOf g s 1)), .int (nI (gOf g s 2)), .ref c, va_rf p', .ref b])) := by
  obtain ⟨h1, h2, h3, h4, h5, h6⟩ := hs
  have fr : Fr (fun u => u = S) h (g_up h a (S, gO 3 [.int (nI (gOf g s 1)), .int (nI (gOf g s 2)), .ref c, va_rf p', .ref b])) := Fr.put h1 rfl
  refine ⟨?_, ?_, fun j hj => ?_, fr _ _ _ h4 (by omega), fun y y1 y2 => ?_, hp.fr fr (by omega) (by omega)⟩
  · rw [hg 1 (by omega), hg 2 (by omega)]
    exact g_up_self _ _ _
  · rw [hg 1 (by omega)]
    exact fr _ _ _ h2 (by omega)
  · rw [hg 1 (by omega)] at hj
    rw [hg _ (by omega)]
    exact h3 j hj
  · have hc : ∀ c, c < 3 → gSh g' s y c = gSh g s y c := fun c hc => by rw [gSh_of, gSh_of]; exact hg _ (by omega)
    rcases h5 y y1 y2 with ⟨k1, q2, k2, k3⟩ | ⟨k1, k2⟩
    · refine Or.inl ⟨(hc 0 (by decide)).trans k1, q2, k2, ?_⟩
      unfold shC at k3 ⊢
      rw [hc 1 (by decide), hc 2 (by decide)]
      exact fr _ _ _ k3 (by omega)
    · exact Or.inr ⟨fun z => k1 ((hc 0 (by decide)).symm.trans z), k2⟩
theorem VO.pol {E : GE} {M : TW} {v s : Nat} {L : List Nat} {h : AH} {w b aw ap az ad a c b2 : Nat} {sv pp : Option Nat} {fw fp fc : Nat → Nat} {fz fs : Nat → Option Nat} (hs : s < 4) (hW : vW M) (hx : WX E 100 (M 1) w aw ap az ad fw fp fz h) (hV : VX9 E (tset (tset M 0 16 4294967295) 0 15 0) v L w b sv h) (hfz : fz s = some a) (g1 : gOf (M 1) s 0 = 1) (hse : seX E (110 + 30 * s) (M 1) s a c b2 pp fc fs h) (p' : Option Nat) (hp : (M 0 15 = 0 ∧ p' = none) ∨ (¬ M 0 15 = 0 ∧ ∃ r, p' = some r ∧ Rep E h 200 r (mkAny (plT M).2.2))) : VO E (tset (tPo (tset M 0 16 4294967295) s (M 0 15) (M 14) (M 0 15)) 0 15 0) v L (g_up h a (110 + 30 * s, gO 3 [.int (nI (gOf (M 1) s 1)), .int (nI (gOf (M 1) s 2)), .ref c, va_rf p', .ref b2])) ∧ Fr vP h (g_up h a (110 + 30 * s, gO 3 [.int (nI (gOf (M 1) s 1)), .int (nI (gOf (M 1) s 2)), .ref c, va_rf p', .ref b2])) := by
  obtain ⟨t1, t2, t3⟩ := tPo_at (tset M 0 16 4294967295) s (M 0 15) (M 14) (M 0 15)
  have hn40 := hW.2.1.1
  have hb := fun k (hk : k ≠ 1) => tPo_n (tset M 0 16 4294967295) s (M 0 15) (M 14) (M 0 15) k hk
  have h0 : tPo (tset M 0 16 4294967295) s (M 0 15) (M 14) (M 0 15) 0 = tset M 0 16 4294967295 0 := hb 0 (by decide)
  have hsl := hW.s4 s hs
  have hpo : poO E (tPo (tset M 0 16 4294967295) s (M 0 15) (M 14) (M 0 15) 1) s p' h := by
    have e11 : gOf (tPo (tset M 0 16 4294967295) s (M 0 15) (M 14) (M 0 15) 1) s 11 = M 0 15 := t2
    have epl : plA (tPo (tset M 0 16 4294967295) s (M 0 15) (M 14) (M 0 15) 1) s = mkAny (plT M).2.2 := by
      unfold plA plR plT
      rw [e11, hrF_congr (t := M 14) (t' := pT (tPo (tset M 0 16 4294967295) s (M 0 15) (M 14) (M 0 15) 1) s) (fun i hi => t3 i hi)]
    unfold poO
    rw [e11, epl]
    exact hp
  have hg : ∀ w, w < 11 ∨ 52 ≤ w ∧ w < 124 → gOf (tPo (tset M 0 16 4294967295) s (M 0 15) (M 14) (M 0 15) 1) s w = gOf (M 1) s w := fun w hw => t1 _ (by omega)
  exact VO.sl (M := tset (tset M 0 16 4294967295) 0 15 0) (s := s) (fz' := fz) (P := fun u => u = 110 + 30 * s) hs (hW.p0 (by decide)) hx hV (Fr.put hse.1 rfl) (fun u z => by omega) (g_upt hx.2.2.2.2.2.1 hse.1 (by omega)) (fun _ _ => rfl) (Or.inl ⟨(hg 0 (by omega)).trans g1, a, hfz, _, _, _, _, _, hse.po (by omega) hsl.2.2.1 hg p' hpo⟩) (fun i hi => t1 i (by omega)) (fun j hj hjs w hw => t1 _ (by omega)) (by rw [tset_sn _ _ _ (show 3 ≠ 15 by decide), h0]; rfl) (by rw [tset_sn _ _ _ (show 10 ≠ 15 by decide), h0]; rfl) ((tset_ss _ _ _ _).trans (tset_ss _ _ _ _).symm) (by rw [tset_sn _ _ _ (show 16 ≠ 15 by decide), h0]; rfl) (hb 2 (by decide)) (hb 8 (by decide)) (hb 9 (by decide)) (hb 14 (by decide))
abbrev mX1_setPolicy : GM := (yX1_setPolicy, 6, (some .boolean), [(35, 61, 64, 330)], { frames := 250, cells := 900, slots := 90000, locals := 14000 }, 255)
theorem kX1_setPolicy : gCvW cX1_setPolicy mX1_setPolicy 1 := ⟨q1803, q1804, q67, q1805, ⟨by decide +kernel, by decide +kernel, by decide +kernel⟩, by decide⟩
set_option maxHeartbeats 400000 in
theorem ctX1_setPolicy {E : GE} {h : AH} {v : Nat} {L9 : List Nat} (M : TW) (s : Nat) (hV : VO E M v L9 h) (hW : vW M) (hs : s < 4294967296)  : Ct E cX1_setPolicy mX1_setPolicy [.ref v, .int (nI s)] (h) (pN fun r h' => xc_setPolicy M s = 0 ∧ r = xv_setPolicy M s ∧ VO E (xm_setPolicy M s) v L9 h' ∧ Fr vP h h') (fun C _ h' => cX ["java/lang/IndexOutOfBoundsException", "java/util/NoSuchElementException", "java/lang/IllegalArgumentException"] C (xc_setPolicy M s) ∧ VO E (xm_setPolicy M s) v L9 h' ∧ Fr vP h h') := by
  refine g_enterW (own := "SecretVault") [some (.ref v), some (.int (nI s)), none, none, none, none] (by decide +kernel) rfl (by decide) (Nat.le_of_ble_eq_true rfl) rfl rfl (fun X => ?_)
  obtain ⟨w, b, sv, hv, ⟨aw, ap, az, ad, fw, fp, fz, x1, x2, x3, x4, x5, x6, x7, x8⟩, hsv, hsb, hlen, hch⟩ := id hV
  have hT40 := hW.2.1.1
  have KH : ∀ a q tx hh o4 o5, s < 4 → ¬ gOf (M 1) s 0 = 0 → rdG M = 0 → VX9 E (tset (tset M 0 16 4294967295) 0 15 0) v L9 w b sv hh → Fr vP h hh → (∃ u9 w9, hh q = some (9, gO 15 [.ref q, va_rf u9, va_rf w9, .null, .null, .int 0, .int (nI (plT M).2.1)])) → V E cX1_setPolicy "SecretVault" mX1_setPolicy (pN fun r h' => xc_setPolicy M s = 0 ∧ r = xv_setPolicy M s ∧ VO E (xm_setPolicy M s) v L9 h' ∧ Fr vP h h') (fun C _ h' => cX ["java/lang/IndexOutOfBoundsException", "java/util/NoSuchElementException", "java/lang/IllegalArgumentException"] C (xc_setPolicy M s) ∧ VO E (xm_setPolicy M s) v L9 h' ∧ Fr vP h h') X (hh) 700 60000 64 [some (.ref v), some (.int (nI s)), some (.ref a), some (.ref tx), o4, o5] [.ref q] := by
    intro a q tx hh o4 o5 hs4 hg0 hno hVh hF hq
    obtain ⟨u9, w9, hq⟩ := hq
    obtain ⟨hv8, r8⟩ := id hVh
    refine g_astore5 dX1_setPolicy_64 (by decide) ?_
    first | refine g_aload0 dX1_setPolicy_66 ?_ | refine g_aloadQ0 dX1_setPolicy_66 ?_ | refine g_aloadN0 dX1_setPolicy_66 ?_
    first | refine g_aload5 dX1_setPolicy_67 ?_ | refine g_aloadQ5 dX1_setPolicy_67 ?_ | refine g_aloadN5 dX1_setPolicy_67 ?_
    refine g_get (k0 := 6) (by first | assumption | exact g_up_self _ _ _ | (refine g_upf ?_ ?_ <;> assumption) | (refine g_upt ?_ ?_ (by decide) <;> assumption)) in_X17 q1681 rfl (by decide) rfl dX1_setPolicy_69 ?_
    refine g_put (k0 := 3) (by first | assumption | exact g_up_self _ _ _ | (refine g_upf ?_ ?_ <;> assumption) | (refine g_upt ?_ ?_ (by decide) <;> assumption)) in_X1 q580 tyX1_ok nmX1 rfl (by decide) rfl (by rfl) (by rfl) (Nat.le_of_ble_eq_true rfl) dX1_setPolicy_72 ?_
    obtain ⟨e8, f8⟩ := hVh.ep (plT M).2.1
    have e9 : VX9 E (tset (tset M 0 16 (plT M).2.1) 0 15 0) v L9 w b sv (g_up hh v (10, gO 0 [.ref w, va_rf sv, .ref b, .int (nI (plT M).2.1), va_rf L9.head?])) := e8.eqv rfl rfl rfl rfl rfl rfl rfl rfl rfl
    have F9 : Fr vP h (g_up hh v (10, gO 0 [.ref w, va_rf sv, .ref b, .int (nI (plT M).2.1), va_rf L9.head?])) := hF.tr (f8.mono (fun u z => by omega))
    exact g_throw0 (names := ["java/lang/RuntimeException", "java/lang/Exception"]) (by decide +kernel) (by decide +kernel) q941 q88 at_SecretVault_IllegalArgumentException at_SecretVault_IllegalArgumentException_g dX1_setPolicy_75 dX1_setPolicy_78 dX1_setPolicy_79 dX1_setPolicy_82 (by intro z hz; have e := List.mem_singleton.mp hz; rw [e]; decide) (by decide) (Nat.le_of_ble_eq_true rfl) (Nat.le_of_ble_eq_true rfl) (Nat.le_of_ble_eq_true rfl) (fun q => ⟨(by unfold cX xc_setPolicy; (repeat' split) <;> first | exact ⟨Nat.zero_lt_succ _, rfl⟩ | (exfalso; omega)), (by unfold xm_setPolicy; rw [if_pos ⟨by omega, by omega⟩, if_neg (by omega)]; exact ⟨w, b, sv, e9⟩), F9⟩)
  refine g_iload1 dX1_setPolicy_0 ?_
  refine g_iconst (nI 4) dX1_setPolicy_1 (by decide) ?_
  refine g_callS (ctX1_requireIndex s 4 (by omega) (by decide)) kX1_requireIndex q917 (by decide) ⟨Nat.le_of_ble_eq_true rfl, Nat.le_of_ble_eq_true rfl⟩ rfl (Nat.le_of_ble_eq_true rfl) dX1_setPolicy_2 (fun C_ q_ h2_ px => by obtain ⟨rfl, c_2, rfl⟩ := px; exact gx_out ⟨(by unfold cX xc_setPolicy; (repeat' split) <;> first | exact ⟨Nat.zero_lt_succ _, rfl⟩ | (exfalso; omega)), (by unfold xm_setPolicy; (repeat' split) <;> first | exact hV | (exfalso; omega)), Fr.rf⟩ (Nat.le_of_ble_eq_true rfl) (Nat.le_of_ble_eq_true rfl) (by intro z hz; obtain rfl := List.mem_singleton.mp hz; exact Or.inl (by decide))) (k_v (fun h_2 p_2 => ?_))
  obtain ⟨i_2, z_2⟩ := p_2
  rw [z_2]
  first | refine g_aload0 dX1_setPolicy_5 ?_ | refine g_aloadQ0 dX1_setPolicy_5 ?_ | refine g_aloadN0 dX1_setPolicy_5 ?_
  refine g_iload1 dX1_setPolicy_6 ?_
  refine g_callVR (ctX1_secretInX ⟨hv, ⟨aw, ap, az, ad, fw, fp, fz, x1, x2, x3, x4, x5, x6, x7, x8⟩, hsv, hsb, hlen, hch⟩ ⟨x1, x2, x3, x4, x5, x6, x7, x8⟩ hW s (by omega)) kX1_secretIn q1135 (gRv.g hv rfl rfl) (by decide) ⟨Nat.le_of_ble_eq_true rfl, Nat.le_of_ble_eq_true rfl⟩ rfl (Nat.le_of_ble_eq_true rfl) dX1_setPolicy_7 (fun C_ q_ h2_ px => by obtain ⟨rfl, c_7, rfl⟩ := px; exact gx_out ⟨(by unfold cX xc_setPolicy; (repeat' split) <;> first | exact ⟨Nat.zero_lt_succ _, rfl⟩ | (exfalso; omega)), (by unfold xm_setPolicy; (repeat' split) <;> first | exact hV | (exfalso; omega)), Fr.rf⟩ (Nat.le_of_ble_eq_true rfl) (Nat.le_of_ble_eq_true rfl) (by intro z hz; obtain rfl := List.mem_singleton.mp hz; exact Or.inl (by decide))) (k_r (fun r_7 h_7 p_7 => ?_))
  obtain ⟨g1, hfz, hse, z_7⟩ := p_7
  rw [z_7]
  first | refine g_astore2 dX1_setPolicy_10 (by decide) ?_ | refine g_astoreQ2 dX1_setPolicy_10 (by decide) ?_ | refine g_astoreN2 dX1_setPolicy_10 (by decide) ?_
  first | refine g_aload0 dX1_setPolicy_11 ?_ | refine g_aloadQ0 dX1_setPolicy_11 ?_ | refine g_aloadN0 dX1_setPolicy_11 ?_
  refine g_callVR (ctX1_takeBuffer ⟨hv, ⟨aw, ap, az, ad, fw, fp, fz, x1, x2, x3, x4, x5, x6, x7, x8⟩, hsv, hsb, hlen, hch⟩) kX1_takeBuffer q1614 (gRv.g hv rfl rfl) (by decide) ⟨Nat.le_of_ble_eq_true rfl, Nat.le_of_ble_eq_true rfl⟩ rfl (Nat.le_of_ble_eq_true rfl) dX1_setPolicy_12 k_x (k_r (fun r_12 h_12 p_12 => ?_))
  obtain ⟨n_12, st_12, sb_12, f_12⟩ := p_12
  have e1 := VX9.em (M := M) ⟨hv, ⟨aw, ap, az, ad, fw, fp, fz, x1, x2, x3, x4, x5, x6, x7, x8⟩, hsv, hsb, hlen, hch⟩ (f_12.mono (fun u z => by omega)) sb_12
  have hv1 := e1.1
  have FA : Fr cP9 h h_12 := f_12.mono (fun u z => by omega)
  have hse1 := hse.fr f_12 (fun t ht => by omega) (by decide) (by decide)
  obtain ⟨cc_, bb_, pp_, fc, fs_, y1, y2, y3, y4, y5, y6⟩ := id hse1
  first | refine g_astore3 dX1_setPolicy_15 (by decide) ?_ | refine g_astoreQ3 dX1_setPolicy_15 (by decide) ?_ | refine g_astoreN3 dX1_setPolicy_15 (by decide) ?_
  first | refine g_aload2 dX1_setPolicy_16 ?_ | refine g_aloadQ2 dX1_setPolicy_16 ?_ | refine g_aloadN2 dX1_setPolicy_16 ?_
  refine g_getN (k0 := 3) (by first | assumption | exact g_up_self _ _ _ | (refine g_upf ?_ ?_ <;> assumption) | (refine g_upt ?_ ?_ (by decide) <;> assumption)) in_X5 q668 rfl (by decide) rfl dX1_setPolicy_17 ?_
  refine g_ifnull (tgt := 27) dX1_setPolicy_20 (by decide) (fun c_20 => ?_) (fun a_20 c_20 => ?_)
  · have hz : ¬ 0 < gOf (M 1) s 11 := by
      rcases y6 with ⟨z, -⟩ | ⟨-, a9, z, -⟩
      · omega
      · rw [z] at c_20; cases c_20
    refine g_iconst (nI 0) dX1_setPolicy_27 (by decide) ?_
    refine g_istore4 dX1_setPolicy_28 (by decide) ?_
    first | refine g_aload0 dX1_setPolicy_30 ?_ | refine g_aloadQ0 dX1_setPolicy_30 ?_ | refine g_aloadN0 dX1_setPolicy_30 ?_
    refine g_iconst (nI 4294967295) dX1_setPolicy_31 (by decide) ?_
    refine g_put (k0 := 3) (by first | assumption | exact g_up_self _ _ _ | (refine g_upf ?_ ?_ <;> assumption) | (refine g_upt ?_ ?_ (by decide) <;> assumption)) in_X1 q580 tyX1_ok nmX1 rfl (by decide) rfl (by rfl) (by rfl) (Nat.le_of_ble_eq_true rfl) dX1_setPolicy_32 ?_
    obtain ⟨e2, f2⟩ := e1.ep 4294967295
    have e3 : VX9 E (tset (tset M 0 16 4294967295) 0 15 0) v L9 w b sv (g_up h_12 v (10, gO 0 [.ref w, va_rf sv, .ref b, .int (nI 4294967295), va_rf L9.head?])) := e2.eqv rfl rfl rfl rfl rfl rfl rfl rfl rfl
    have FB : Fr cP9 h (g_up h_12 v (10, gO 0 [.ref w, va_rf sv, .ref b, .int (nI 4294967295), va_rf L9.head?])) := FA.tr (f2.mono (fun u z => Or.inl z))
    have hst : STN E 1102 (g_up h_12 v (10, gO 0 [.ref w, va_rf sv, .ref b, .int (nI 4294967295), va_rf L9.head?])) r_12 (tL (M 14) (M 0 15)) := st_12.fr f2 (by decide) (by decide)
    have sX : seX E (110 + 30 * s) (M 1) s r_7 cc_ bb_ pp_ fc fs_ (g_up h_12 v (10, gO 0 [.ref w, va_rf sv, .ref b, .int (nI 4294967295), va_rf L9.head?])) := ⟨f2 _ _ _ y1 (by omega), f2 _ _ _ y2 (by omega), y3, f2 _ _ _ y4 (by omega), fun x z1 z2 => (y5 x z1 z2).imp (fun z => ⟨z.1, z.2.choose, z.2.choose_spec.1, f2 _ _ _ z.2.choose_spec.2 (by omega)⟩) id, y6.fr f2 (by decide) (by decide)⟩
    have sX1 := sX.1
    have hxB := WX.fr ⟨x1, x2, x3, x4, x5, x6, x7, x8⟩ FB (fun t ht => by omega) (by decide) (by decide)
    first | refine g_aload2 dX1_setPolicy_35 ?_ | refine g_aloadQ2 dX1_setPolicy_35 ?_ | refine g_aloadN2 dX1_setPolicy_35 ?_
    first | refine g_aload3 dX1_setPolicy_36 ?_ | refine g_aloadQ3 dX1_setPolicy_36 ?_ | refine g_aloadN3 dX1_setPolicy_36 ?_
    refine g_callVR (ctJ5_lengthS hst.st) kJ5_length q1806 hst.st.rv (by decide) ⟨Nat.le_of_ble_eq_true rfl, Nat.le_of_ble_eq_true rfl⟩ rfl (Nat.le_of_ble_eq_true rfl) dX1_setPolicy_37 k_x (k_n (fun r_37 h_37 p_37 => ?_))
    obtain ⟨rfl, z_37⟩ := p_37
    rw [z_37]
    rw [tL_len]
    first | refine g_ifN_ne (tgt := 47) dX1_setPolicy_40 (by decide) (by omega) (fun c_40 => ?_) (fun c_40 => ?_) | refine g_if_ne (tgt := 47) dX1_setPolicy_40 (by decide) (fun c_40 => ?_) (fun c_40 => ?_)
    · refine g_new 14 (1100) [.null, .int 0] in_X16 tyX16_ok q1612 q1613 q112 rfl nwX16 (Nat.le_of_ble_eq_true rfl) (Nat.le_of_ble_eq_true rfl) dX1_setPolicy_47 (fun q_47 f_47 => ?_)
      have fN : Fr tP (g_up h_12 v (10, gO 0 [.ref w, va_rf sv, .ref b, .int (nI 4294967295), va_rf L9.head?])) (g_up (g_up h_12 v (10, gO 0 [.ref w, va_rf sv, .ref b, .int (nI 4294967295), va_rf L9.head?])) q_47 (1100, gO 14 [.ref r_12, .int 0])) := Fr.new f_47
      have hrd : RD E (g_up (g_up h_12 v (10, gO 0 [.ref w, va_rf sv, .ref b, .int (nI 4294967295), va_rf L9.head?])) q_47 (1100, gO 14 [.ref r_12, .int 0])) r_12 (M 14) (M 0 15) := (hst.fr (Fr.new (P := F0r) (z := (1100, gO 14 [.ref r_12, .int 0])) f_47) id id).rd hT40
      have e5 := e3.fr fN (fun _ z => z)
      refine g_dup dX1_setPolicy_50 rfl ?_
      first | refine g_aload3 dX1_setPolicy_51 ?_ | refine g_aloadQ3 dX1_setPolicy_51 ?_ | refine g_aloadN3 dX1_setPolicy_51 ?_
      refine g_callI (ctX16_init (g_up_self _ _ _)) kX16_init q1619 (by decide) ⟨Nat.le_of_ble_eq_true rfl, Nat.le_of_ble_eq_true rfl⟩ rfl (Nat.le_of_ble_eq_true rfl) dX1_setPolicy_52 k_x (k_v (fun h_52 p_52 => ?_))
      rw [p_52, g_upup]
      refine g_callVR (ctX16_wholePolicy (g_up_self _ _ _) hrd) kX16_wholePolicy q1807 (gRv.g (g_up_self _ _ _) rfl rfl) (by decide) ⟨Nat.le_of_ble_eq_true rfl, Nat.le_of_ble_eq_true rfl⟩ rfl (Nat.le_of_ble_eq_true rfl) dX1_setPolicy_55 (fun C_ q_ h2_ px => by obtain ⟨rfl, m_55, z2, z3⟩ := px; exact gx_catch [] ⟨35, 61, 64, 330⟩ [] rfl (fun z hz => nomatch hz) (by decide) (by decide) q1611 q1669 (V.wide (k' := 700) (n' := 60000) (by decide) (by decide) (KH _ _ _ _ _ _ i_2 (by omega) (rdG_n c_40 m_55) (e5.fr z2 (fun u z => by omega)) ((FB.tr ((fN.mono (fun u z => by omega)).tr (z2.mono (fun u z => by omega)))).mono (fun u z => by omega)) z3))) (k_r (fun r_55 h_55 p_55 => ?_))
      obtain ⟨k1, k2, k3⟩ := p_55
      have k3 : Fr (rP 1200) (g_up (g_up h_12 v (10, gO 0 [.ref w, va_rf sv, .ref b, .int (nI 4294967295), va_rf L9.head?])) q_47 (1100, gO 14 [.ref r_12, .int 0])) h_55 := k3
      have f9 : Fr tP (g_up h_12 v (10, gO 0 [.ref w, va_rf sv, .ref b, .int (nI 4294967295), va_rf L9.head?])) h_55 := fN.tr (k3.mono (fun u z => by omega))
      have e6 := e3.fr f9 (fun _ z => z)
      have sX2 : seX E (110 + 30 * s) (M 1) s r_7 cc_ bb_ pp_ fc fs_ h_55 := ⟨f9 _ _ _ sX.1 (by omega), f9 _ _ _ sX.2.1 (by omega), y3, f9 _ _ _ sX.2.2.2.1 (by omega), fun x z1 z2 => (sX.2.2.2.2.1 x z1 z2).imp (fun z => ⟨z.1, z.2.choose, z.2.choose_spec.1, f9 _ _ _ z.2.choose_spec.2 (by omega)⟩) id, sX.2.2.2.2.2.fr f9 (by decide) (by decide)⟩
      have sX21 := sX2.1
      have hxC := WX.fr hxB f9 (fun t ht => by omega) (by decide) (by decide)
      refine g_putN (k0 := 3) (by first | assumption | exact g_up_self _ _ _ | (refine g_upf ?_ ?_ <;> assumption) | (refine g_upt ?_ ?_ (by decide) <;> assumption)) in_X5 q668 tyX5_ok nmX5 rfl (by decide) rfl (by rfl) (by rfl) (Nat.le_of_ble_eq_true rfl) dX1_setPolicy_58 ?_
      refine g_goto (tgt := 83) dX1_setPolicy_61 (by decide) ?_
      refine g_iload4 dX1_setPolicy_83 ?_
      exact g_zret dX1_setPolicy_85 rfl (nar_zb (by omega)) ⟨_, rfl, (by unfold xc_setPolicy; rw [if_neg (by omega), if_neg (by omega), if_pos (by first | exact rdG_0 (by omega) | exact rdG_1 k1.1 k1.2)]), (by unfold xv_setPolicy; first | rw [if_pos hz] | rw [if_neg hz]), by unfold xm_setPolicy; rw [if_pos ⟨by omega, by omega⟩, if_pos (by first | exact rdG_0 (by omega) | exact rdG_1 k1.1 k1.2)]; first | (have q9 := VO.pol (M := M) (s := s) (by omega) hW hxB e3 hfz g1 sX none (Or.inl ⟨by omega, rfl⟩); exact ⟨q9.1, (FB.mono (fun u z => by omega)).tr q9.2⟩) | (have q9 := VO.pol (M := M) (s := s) (by omega) hW hxC e6 hfz g1 sX2 (some r_55) (Or.inr ⟨c_40, r_55, rfl, k2⟩); exact ⟨q9.1, ((FB.tr (f9.mono (fun u z => by omega))).mono (fun u z => by omega)).tr q9.2⟩)⟩
    · refine g_null dX1_setPolicy_43 ?_
      refine g_goto (tgt := 58) dX1_setPolicy_44 (by decide) ?_
      refine g_putN (k0 := 3) (by first | assumption | exact g_up_self _ _ _ | (refine g_upf ?_ ?_ <;> assumption) | (refine g_upt ?_ ?_ (by decide) <;> assumption)) in_X5 q668 tyX5_ok nmX5 rfl (by decide) rfl (by rfl) (by rfl) (Nat.le_of_ble_eq_true rfl) dX1_setPolicy_58 ?_
      refine g_goto (tgt := 83) dX1_setPolicy_61 (by decide) ?_
      refine g_iload4 dX1_setPolicy_83 ?_
      exact g_zret dX1_setPolicy_85 rfl (nar_zb (by omega)) ⟨_, rfl, (by unfold xc_setPolicy; rw [if_neg (by omega), if_neg (by omega), if_pos (by first | exact rdG_0 (by omega) | exact rdG_1 k1.1 k1.2)]), (by unfold xv_setPolicy; first | rw [if_pos hz] | rw [if_neg hz]), by unfold xm_setPolicy; rw [if_pos ⟨by omega, by omega⟩, if_pos (by first | exact rdG_0 (by omega) | exact rdG_1 k1.1 k1.2)]; first | (have q9 := VO.pol (M := M) (s := s) (by omega) hW hxB e3 hfz g1 sX none (Or.inl ⟨by omega, rfl⟩); exact ⟨q9.1, (FB.mono (fun u z => by omega)).tr q9.2⟩) | (have q9 := VO.pol (M := M) (s := s) (by omega) hW hxC e6 hfz g1 sX2 (some r_55) (Or.inr ⟨c_40, r_55, rfl, k2⟩); exact ⟨q9.1, ((FB.tr (f9.mono (fun u z => by omega))).mono (fun u z => by omega)).tr q9.2⟩)⟩
  · have hz : 0 < gOf (M 1) s 11 := by
      rcases y6 with ⟨-, z⟩ | ⟨z, -⟩
      · rw [z] at c_20; cases c_20
      · omega
    refine g_iconst (nI 1) dX1_setPolicy_23 (by decide) ?_
    refine g_goto (tgt := 28) dX1_setPolicy_24 (by decide) ?_
    refine g_istore4 dX1_setPolicy_28 (by decide) ?_
    first | refine g_aload0 dX1_setPolicy_30 ?_ | refine g_aloadQ0 dX1_setPolicy_30 ?_ | refine g_aloadN0 dX1_setPolicy_30 ?_
    refine g_iconst (nI 4294967295) dX1_setPolicy_31 (by decide) ?_
    refine g_put (k0 := 3) (by first | assumption | exact g_up_self _ _ _ | (refine g_upf ?_ ?_ <;> assumption) | (refine g_upt ?_ ?_ (by decide) <;> assumption)) in_X1 q580 tyX1_ok nmX1 rfl (by decide) rfl (by rfl) (by rfl) (Nat.le_of_ble_eq_true rfl) dX1_setPolicy_32 ?_
    obtain ⟨e2, f2⟩ := e1.ep 4294967295
    have e3 : VX9 E (tset (tset M 0 16 4294967295) 0 15 0) v L9 w b sv (g_up h_12 v (10, gO 0 [.ref w, va_rf sv, .ref b, .int (nI 4294967295), va_rf L9.head?])) := e2.eqv rfl rfl rfl rfl rfl rfl rfl rfl rfl
    have FB : Fr cP9 h (g_up h_12 v (10, gO 0 [.ref w, va_rf sv, .ref b, .int (nI 4294967295), va_rf L9.head?])) := FA.tr (f2.mono (fun u z => Or.inl z))
    have hst : STN E 1102 (g_up h_12 v (10, gO 0 [.ref w, va_rf sv, .ref b, .int (nI 4294967295), va_rf L9.head?])) r_12 (tL (M 14) (M 0 15)) := st_12.fr f2 (by decide) (by decide)
    have sX : seX E (110 + 30 * s) (M 1) s r_7 cc_ bb_ pp_ fc fs_ (g_up h_12 v (10, gO 0 [.ref w, va_rf sv, .ref b, .int (nI 4294967295), va_rf L9.head?])) := ⟨f2 _ _ _ y1 (by omega), f2 _ _ _ y2 (by omega), y3, f2 _ _ _ y4 (by omega), fun x z1 z2 => (y5 x z1 z2).imp (fun z => ⟨z.1, z.2.choose, z.2.choose_spec.1, f2 _ _ _ z.2.choose_spec.2 (by omega)⟩) id, y6.fr f2 (by decide) (by decide)⟩
    have sX1 := sX.1
    have hxB := WX.fr ⟨x1, x2, x3, x4, x5, x6, x7, x8⟩ FB (fun t ht => by omega) (by decide) (by decide)
    first | refine g_aload2 dX1_setPolicy_35 ?_ | refine g_aloadQ2 dX1_setPolicy_35 ?_ | refine g_aloadN2 dX1_setPolicy_35 ?_
    first | refine g_aload3 dX1_setPolicy_36 ?_ | refine g_aloadQ3 dX1_setPolicy_36 ?_ | refine g_aloadN3 dX1_setPolicy_36 ?_
    refine g_callVR (ctJ5_lengthS hst.st) kJ5_length q1806 hst.st.rv (by decide) ⟨Nat.le_of_ble_eq_true rfl, Nat.le_of_ble_eq_true rfl⟩ rfl (Nat.le_of_ble_eq_true rfl) dX1_setPolicy_37 k_x (k_n (fun r_37 h_37 p_37 => ?_))
    obtain ⟨rfl, z_37⟩ := p_37
    rw [z_37]
    rw [tL_len]
    first | refine g_ifN_ne (tgt := 47) dX1_setPolicy_40 (by decide) (by omega) (fun c_40 => ?_) (fun c_40 => ?_) | refine g_if_ne (tgt := 47) dX1_setPolicy_40 (by decide) (fun c_40 => ?_) (fun c_40 => ?_)
    · refine g_new 14 (1100) [.null, .int 0] in_X16 tyX16_ok q1612 q1613 q112 rfl nwX16 (Nat.le_of_ble_eq_true rfl) (Nat.le_of_ble_eq_true rfl) dX1_setPolicy_47 (fun q_47 f_47 => ?_)
      have fN : Fr tP (g_up h_12 v (10, gO 0 [.ref w, va_rf sv, .ref b, .int (nI 4294967295), va_rf L9.head?])) (g_up (g_up h_12 v (10, gO 0 [.ref w, va_rf sv, .ref b, .int (nI 4294967295), va_rf L9.head?])) q_47 (1100, gO 14 [.ref r_12, .int 0])) := Fr.new f_47
      have hrd : RD E (g_up (g_up h_12 v (10, gO 0 [.ref w, va_rf sv, .ref b, .int (nI 4294967295), va_rf L9.head?])) q_47 (1100, gO 14 [.ref r_12, .int 0])) r_12 (M 14) (M 0 15) := (hst.fr (Fr.new (P := F0r) (z := (1100, gO 14 [.ref r_12, .int 0])) f_47) id id).rd hT40
      have e5 := e3.fr fN (fun _ z => z)
      refine g_dup dX1_setPolicy_50 rfl ?_
      first | refine g_aload3 dX1_setPolicy_51 ?_ | refine g_aloadQ3 dX1_setPolicy_51 ?_ | refine g_aloadN3 dX1_setPolicy_51 ?_
      refine g_callI (ctX16_init (g_up_self _ _ _)) kX16_init q1619 (by decide) ⟨Nat.le_of_ble_eq_true rfl, Nat.le_of_ble_eq_true rfl⟩ rfl (Nat.le_of_ble_eq_true rfl) dX1_setPolicy_52 k_x (k_v (fun h_52 p_52 => ?_))
      rw [p_52, g_upup]
      refine g_callVR (ctX16_wholePolicy (g_up_self _ _ _) hrd) kX16_wholePolicy q1807 (gRv.g (g_up_self _ _ _) rfl rfl) (by decide) ⟨Nat.le_of_ble_eq_true rfl, Nat.le_of_ble_eq_true rfl⟩ rfl (Nat.le_of_ble_eq_true rfl) dX1_setPolicy_55 (fun C_ q_ h2_ px => by obtain ⟨rfl, m_55, z2, z3⟩ := px; exact gx_catch [] ⟨35, 61, 64, 330⟩ [] rfl (fun z hz => nomatch hz) (by decide) (by decide) q1611 q1669 (V.wide (k' := 700) (n' := 60000) (by decide) (by decide) (KH _ _ _ _ _ _ i_2 (by omega) (rdG_n c_40 m_55) (e5.fr z2 (fun u z => by omega)) ((FB.tr ((fN.mono (fun u z => by omega)).tr (z2.mono (fun u z => by omega)))).mono (fun u z => by omega)) z3))) (k_r (fun r_55 h_55 p_55 => ?_))
      obtain ⟨k1, k2, k3⟩ := p_55
      have k3 : Fr (rP 1200) (g_up (g_up h_12 v (10, gO 0 [.ref w, va_rf sv, .ref b, .int (nI 4294967295), va_rf L9.head?])) q_47 (1100, gO 14 [.ref r_12, .int 0])) h_55 := k3
      have f9 : Fr tP (g_up h_12 v (10, gO 0 [.ref w, va_rf sv, .ref b, .int (nI 4294967295), va_rf L9.head?])) h_55 := fN.tr (k3.mono (fun u z => by omega))
      have e6 := e3.fr f9 (fun _ z => z)
      have sX2 : seX E (110 + 30 * s) (M 1) s r_7 cc_ bb_ pp_ fc fs_ h_55 := ⟨f9 _ _ _ sX.1 (by omega), f9 _ _ _ sX.2.1 (by omega), y3, f9 _ _ _ sX.2.2.2.1 (by omega), fun x z1 z2 => (sX.2.2.2.2.1 x z1 z2).imp (fun z => ⟨z.1, z.2.choose, z.2.choose_spec.1, f9 _ _ _ z.2.choose_spec.2 (by omega)⟩) id, sX.2.2.2.2.2.fr f9 (by decide) (by decide)⟩
      have sX21 := sX2.1
      have hxC := WX.fr hxB f9 (fun t ht => by omega) (by decide) (by decide)
      refine g_putN (k0 := 3) (by first | assumption | exact g_up_self _ _ _ | (refine g_upf ?_ ?_ <;> assumption) | (refine g_upt ?_ ?_ (by decide) <;> assumption)) in_X5 q668 tyX5_ok nmX5 rfl (by decide) rfl (by rfl) (by rfl) (Nat.le_of_ble_eq_true rfl) dX1_setPolicy_58 ?_
      refine g_goto (tgt := 83) dX1_setPolicy_61 (by decide) ?_
      refine g_iload4 dX1_setPolicy_83 ?_
      exact g_zret dX1_setPolicy_85 rfl (nar_zb (by omega)) ⟨_, rfl, (by unfold xc_setPolicy; rw [if_neg (by omega), if_neg (by omega), if_pos (by first | exact rdG_0 (by omega) | exact rdG_1 k1.1 k1.2)]), (by unfold xv_setPolicy; first | rw [if_pos hz] | rw [if_neg hz]), by unfold xm_setPolicy; rw [if_pos ⟨by omega, by omega⟩, if_pos (by first | exact rdG_0 (by omega) | exact rdG_1 k1.1 k1.2)]; first | (have q9 := VO.pol (M := M) (s := s) (by omega) hW hxB e3 hfz g1 sX none (Or.inl ⟨by omega, rfl⟩); exact ⟨q9.1, (FB.mono (fun u z => by omega)).tr q9.2⟩) | (have q9 := VO.pol (M := M) (s := s) (by omega) hW hxC e6 hfz g1 sX2 (some r_55) (Or.inr ⟨c_40, r_55, rfl, k2⟩); exact ⟨q9.1, ((FB.tr (f9.mono (fun u z => by omega))).mono (fun u z => by omega)).tr q9.2⟩)⟩
    · refine g_null dX1_setPolicy_43 ?_
      refine g_goto (tgt := 58) dX1_setPolicy_44 (by decide) ?_
      refine g_putN (k0 := 3) (by first | assumption | exact g_up_self _ _ _ | (refine g_upf ?_ ?_ <;> assumption) | (refine g_upt ?_ ?_ (by decide) <;> assumption)) in_X5 q668 tyX5_ok nmX5 rfl (by decide) rfl (by rfl) (by rfl) (Nat.le_of_ble_eq_true rfl) dX1_setPolicy_58 ?_
      refine g_goto (tgt := 83) dX1_setPolicy_61 (by decide) ?_
      refine g_iload4 dX1_setPolicy_83 ?_
      exact g_zret dX1_setPolicy_85 rfl (nar_zb (by omega)) ⟨_, rfl, (by unfold xc_setPolicy; rw [if_neg (by omega), if_neg (by omega), if_pos (by first | exact rdG_0 (by omega) | exact rdG_1 k1.1 k1.2)]), (by unfold xv_setPolicy; first | rw [if_pos hz] | rw [if_neg hz]), by unfold xm_setPolicy; rw [if_pos ⟨by omega, by omega⟩, if_pos (by first | exact rdG_0 (by omega) | exact rdG_1 k1.1 k1.2)]; first | (have q9 := VO.pol (M := M) (s := s) (by omega) hW hxB e3 hfz g1 sX none (Or.inl ⟨by omega, rfl⟩); exact ⟨q9.1, (FB.mono (fun u z => by omega)).tr q9.2⟩) | (have q9 := VO.pol (M := M) (s := s) (by omega) hW hxC e6 hfz g1 sX2 (some r_55) (Or.inr ⟨c_40, r_55, rfl, k2⟩); exact ⟨q9.1, ((FB.tr (f9.mono (fun u z => by omega))).mono (fun u z => by omega)).tr q9.2⟩)⟩
