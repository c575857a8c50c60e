/-! BYTES AND TEXTS: rows -/
set_option maxRecDepth 100000
theorem nar_b : ∀ q, q < 128 → vp_nar .byte (nI q) = nI q := by decide +kernel
theorem i2b_N : ∀ q, q < 128 → (nI q).toInt8.toInt32 = nI q := by decide +kernel
theorem fit_b : ∀ q, q < 128 → fits .byte (.int (nI q)) = true := by decide +kernel
section GR8
variable {E : GE} {cc : ByteArray} {own : String} {M : GM} {Po : Option Value → AH → Prop} {Px : String → Nat → AH → Prop} {X : GX} {h : AH} {k n pc : Nat} {ls : List (Option Value)} {st : List Value}
theorem g_baldN {a t N i : Nat} {F : Nat → Nat} (ha : h a = some (t, gABn E N F)) (hi : i < N) (hN : N < 2147483648) (d : decode cc pc = .ok (.baload, 1)) (kk : V E cc own M Po Px X h k n (pc + 1) ls (.int (nI (F i)) :: st)) : V E cc own M Po Px X h k n pc ls (.int (nI i) :: .ref a :: st) := by
  refine g_bald ha (vp_in_nI hi hN) d ?_
  rw [nI_clamp (Nat.lt_trans hi hN)]
  exact kk
theorem g_bastN {a t N i x : Nat} {F : Nat → Nat} (ha : h a = some (t, gABn E N F)) (hi : i < N) (hN : N < 2147483648) (hx : x < 128) (d : decode cc pc = .ok (.bastore, 1)) (kk : V E cc own M Po Px X (g_up h a (t, gABn E N (nup F i x))) k n (pc + 1) ls st) : V E cc own M Po Px X h k n pc ls (.int (nI x) :: .int (nI i) :: .ref a :: st) := by
  refine g_bast ha (vp_in_nI hi hN) d ?_
  rw [nI_clamp (Nat.lt_trans hi hN), nar_b x hx, nup_nI]
  exact kk
theorem g_i2bN {x : Nat} (hx : x < 128) (d : decode cc pc = .ok (.i2b, 1)) (kk : V E cc own M Po Px X h k n (pc + 1) ls (.int (nI x) :: st)) : V E cc own M Po Px X h k n pc ls (.int (nI x) :: st) := by
  refine g_i2b d ?_
  rw [i2b_N x hx]
  exact kk
/-- bytes of the start are copied -/
theorem g_copyT {index b0 a t1 n0 n1 sp dp m : Nat} {F G : Nat → Nat} (hC : gCp own index) (hX : gTb E .byte b0 n0 (fun j => .int (nI (F j)))) (ha : h a = some (t1, gABn E n1 G)) (hfit : ∀ i, i < m → fits .byte (.int (nI (F (sp + i)))) = true) (h4 : sp + m ≤ n0) (h5 : dp + m ≤ n1) (hb : n0 < 2147483648 ∧ n1 < 2147483648)
    (hfr : 1 ≤ M.rm.frames) (hlo : (st.map fun v => v.category).sum + 24 ≤ M.rm.locals) (d : decode cc pc = .ok (.invokestatic index, 3)) (kk : V E cc own M Po Px X (g_up h a (t1, gABn E n1 (cpN F G sp dp m))) k n (pc + 3) ls st) : V E cc own M Po Px X h k n pc ls (.int (nI m) :: .int (nI dp) :: .ref a :: .int (nI sp) :: .ref b0 :: st) := by
  intro O H locs la hI hS hl hL
  obtain ⟨h0, ws, hP, hD, hm⟩ := id hI
  obtain ⟨q1, hq1⟩ := g_in (E := E) (H := H) hm ha
  refine vk_copyt O.hx O.hb (hl.1.trans O.hml.symm).symm O.hown (O.hts _ hC.1) (O.hts _ hC.2.1) (O.hts _ hC.2.2.1) (O.hts _ hC.2.2.2) O.hK hP hD hS (O.tb hX) q1 3 hq1 rfl (nI_pos (by omega)) (nI_pos (by omega)) (nI_pos (by omega)) (by rw [nI_clamp (by omega), nI_clamp (by omega)]; exact h4) (by rw [nI_clamp (by omega), nI_clamp (by omega)]; exact h5) (fun i hi => ?_) hfr (gcp_loc hlo) d (fun H1 locs1 hP1 hD1 hS1 => ?_)
  · rw [nI_clamp (by omega)] at hi
    rw [nI_clamp (by omega)]
    exact hfit i hi
  · rw [nI_clamp (by omega), nI_clamp (by omega), nI_clamp (by omega), cpy_I] at hP1 hD1
    exact kk O H1 locs1 la ⟨g_old O.hS0 hS1, _, hP1, hD1, g_put_in hD hm hq1⟩ hS1 hl hL
/-- an array of bytes is cloned -/
theorem g_cloneB {index a t N : Nat} {f : Nat → Int32} (t' : Nat) (ha : h a = some (t, gAB E N f)) (hfit : ∀ i, i < N → fits .byte (.int (f i)) = true) (hlk : Cond.methodLink own index ⟨"[B", "clone", "()Ljava/lang/Object;"⟩ ∈ lw_all) (hsm : Cond.sameMethod "[B" "java/lang/Object" "clone" "()Ljava/lang/Object;" ∈ lw_all) (hnat : Cond.native ⟨"java/lang/Object", "clone", "()Ljava/lang/Object;"⟩ ∈ lw_all) (hin : Cond.instanceMethod ⟨"java/lang/Object", "clone", "()Ljava/lang/Object;"⟩ ∈ lw_all) (hse : Cond.selects "[B" ⟨"[B", "clone", "()Ljava/lang/Object;"⟩ ⟨"java/lang/Object", "clone", "()Ljava/lang/Object;"⟩ ∈ lw_all) (hcl : Cond.castable "[B" "java/lang/Cloneable" ∈ lw_tbl)
    (hfr : 1 ≤ M.rm.frames) (hlo : (st.map fun v => v.category).sum + 14 ≤ M.rm.locals) (hk : k + 1 ≤ M.rm.cells) (hn : n + N ≤ M.rm.slots) (d : decode cc pc = .ok (.invokevirtual index, 3)) (kk : ∀ q : Nat, h q = none → V E cc own M Po Px X (g_up h q (t', gAB E N f)) (k + 1) (n + N) (pc + 3) ls (.ref q :: st)) : V E cc own M Po Px X h k n pc ls (.ref a :: st) := by
  intro O H locs la hI hS hl hL
  obtain ⟨h0, ws, hP, hD, hm⟩ := id hI
  obtain ⟨q0, hq⟩ := g_in (E := E) (H := H) hm ha
  have hRA := (O.hK.2 3 (E.dA 3, .byte) rfl).2
  refine va_clone O.hx O.hb (hl.1.trans O.hml.symm).symm O.hown (O.hts _ hlk) (O.hts _ hsm) (O.hts _ hnat) (O.hts _ hin) (O.hts _ hse) (O.cast hcl) O.hK hP hD hS O.hA q0 3 hq rfl (va_nm_byte hRA) (va_fit (fun i hi => hfit i hi)) hfr hlo hk hn d (fun q H1 hK1 hP1 hD1 hS1 => ?_)
  exact kk q (g_new_fresh hD1 hm) O H1 locs la ⟨g_old O.hS0 hS1, _, hP1, hD1, g_new_in hm⟩ hS1 hl hL
/-- a private method of a class above the receiver's -/
theorem g_callVP {index a : Nat} {C : String} {cc' : ByteArray} {M' : GM} {av st0 : List Value} {Po' : Option Value → AH → Prop} {Px' : String → Nat → AH → Prop} (hc : Ct E cc' M' (.ref a :: av) h Po' Px') (hk : gCu cc' M' av.length) (hlk : Cond.methodLink own index M'.y ∈ lw_all) (hpv : Cond.privateMethod M'.y ∈ lw_tbl) (hsm : Cond.sameMethod M'.y.cls M'.y.cls M'.y.name M'.y.desc ∈ lw_all) (hr : gRv E h a C) (hR : M'.rm.frames + 1 ≤ M.rm.frames ∧ 8 + (M'.nL + 11) + M'.rm.locals ≤ M.rm.locals) (hf : k + M'.rm.cells ≤ M.rm.cells ∧ n + M'.rm.slots ≤ M.rm.slots) (hst : st0 = av.reverse ++ .ref a :: st) (hcat : (st.map fun v => v.category).sum ≤ 8) (d : decode cc pc = .ok (.invokevirtual index, 3)) (kx : ∀ (C : String) (q : Nat) (h' : AH), Px' C q h' → VX E cc own M Po Px X h' (k + M'.rm.cells) (n + M'.rm.slots) pc ls C q) (kk : ∀ (v : Option Value) (h' : AH), Po' v h' → V E cc own M Po Px X h' (k + M'.rm.cells) (n + M'.rm.slots) (pc + 3) ls (v.toList ++ st)) : V E cc own M Po Px X h k n pc ls st0 := by
  intro O H locs la hI hS hl hL
  obtain ⟨k1, k2, k3, k4, k5⟩ := hk
  have hM := hc O.hE
  rw [gWs_0 k5] at hM
  have hp : PreV X.s H C a (va_Pc (.ref a :: av) (fun U => E.S0.WarmedH U.vm ∧ gI E h U.heap)) av := ⟨(g_preS O hI).1, O.rv hI hr, (g_preS (av := .ref a :: av) O hI).2⟩
  have hws : ∀ w ∈ ws_ M'.y cc' M'.nL M'.ret, ∀ (a' : Array Value) (U : State), X.s.WarmedH U.vm → w.before a' U = true := pay_in O.hts (lw_meth k3)
  have hini : (Cond.initialized M'.y.cls).before X.args X.s = true := O.hts _ k2
  have hK := vx_back (R := M.rm) (p := X.p) (e := X.e) (below := X.below) (s := X.s) (sargs := X.args) (len := 3) (W9 := 8) (bytes := cc') (maxL := M'.nL) (ret := M'.ret) hM hp.1 rfl rfl hR.1 hR.2 hws List.mem_cons_self (fun a' U hW => word_at hW (Or.inl (by first | rfl | simp [Cond.onTables, Cond.keeps, Cond.steady])) hini)
  refine g_tail O hS hl hL (mc := M'.rm.cells) (ms := M'.rm.slots) (a := (Value.ref a :: av).toArray) ?_ kx kk
  obtain ⟨-, ⟨cellB, hcB, hoB, hclB⟩, hPc⟩ := hp
  intro T hT X0
  obtain ⟨mk, methM, hnamed, hmethM, hstM, habM⟩ := Cond.instanceMethod_spec (O.hts _ k1)
  obtain ⟨methM', cM, hmethM', -, -, -, -, -, -, hsigM⟩ := Cond.code_spec hnamed (O.hts _ k3)
  cases hmethM.symm.trans hmethM'
  obtain ⟨cn, ck, r1, hcn, hck, hni, hf9, hn1⟩ := Cond.sameMethod_found (O.hts _ hsm)
  have hcls : mk.cls = cn := Option.some.inj ((findClass_of_methodNamed hnamed).symm.trans hcn)
  have hkP : X.s.vm.classes[mk.cls]? = some ck := by rw [hcls]; exact hck
  have hpr : methM.isPrivate = true := by
    have h1 := O.hE.2.2.1 _ hpv
    have e1 : E.S0.methodNamed? M'.y = some mk := by
      rw [← hnamed, ← State.methodNamed?_setVm O.hW.alike]
      simp only [State.methodNamed?]
      rfl
    have e2 : E.S0.vm.method? mk = some methM := by rw [← O.hW.alike.method?]; exact hmethM
    exact Cond.privateMethod_at h1 mk methM e1 e2
  have hselP : selectMethod X.e.platform X.s.vm cellB.cls mk = .method mk := selectMethod_private hmethM hpr
  obtain ⟨vm₁, X₁, hstep₁⟩ := X0.invokevirtual O.hx O.hown (O.hts _ hlk) hnamed hmethM hstM hkP hni ⟨k4.1, k4.2.1⟩ (a := a) (cell := cellB) (by rw [hT]; exact hcB) (fun z hz => by rw [hz] at hoB; cases hoB) hselP hmethM habM hkP hni (g := F0 X.m pc la st0) rfl (argsL := av) (rest := st) (by
    have e3 := k4.2.2
    rw [show parseMethodDescriptor M'.y.desc = some methM.sig from hsigM] at e3
    exact (Option.some.inj e3).symm) hst (by rw [O.hb]; exact d)
  rcases hK X.m X.meth X.c ⟨T.setVm vm₁, locs, k, n⟩ { F0 X.m pc la st0 with stack := st } (.invokevirtual index) mk (Value.ref a :: av).toArray X₁ rfl (hl.1.trans O.hml.symm) (by rw [O.hb]; exact d) (lv_room hcat) (X₁.named hnamed) ⟨hf.1, hf.2, hPc (T.setVm vm₁) hT X₁.warmed⟩ with ⟨v, ⟨U', l2, c2, s2⟩, X', ⟨g', mk', t, L, e1, e2, hq, h1, hL', h2, h3⟩, hsteps⟩ | ⟨q, ⟨U', l2, c2, s2⟩, X', ⟨g', mk', t, L, E', ce, e1, e2, hq, hce, hcv, hcl, h1, hL', h2, h3⟩, hsteps⟩
  · dsimp only [Pt.U, Pt.locs, Pt.cells, Pt.slots] at X' e1 e2 h1 h2 h3 hsteps
    subst h1; subst h2; subst h3
    exact Or.inl ⟨v, (T.setVm vm₁).calling g' mk' (Value.ref a :: av).toArray, t, U', L, hT, X', hL', e1, e2, hq, fun target h => hstep₁ _ fun acts => by rw [doInvoke_state]; exact hsteps.trans h⟩
  · dsimp only [Pt.U, Pt.locs, Pt.cells, Pt.slots] at X' e1 e2 h1 h2 h3 hsteps hcl
    subst h1; subst h2; subst h3
    exact Or.inr ⟨q, (T.setVm vm₁).calling g' mk' (Value.ref a :: av).toArray, t, U', L, E', ce, hT, X', hL', e1, e2, hq, hce, hcv, vx_cls X₁.warmed hcl, hstep₁ _ fun acts => by rw [doInvoke_state]; exact hsteps⟩
end GR8

def dOt : Term := .static "java/lang/Integer" "DigitOnes" "[B"
theorem dO_list : ((flatC (Jvm.Cond.and given_1 narrow_1)).drop 12).take 100 = (List.range 100).map (fun j => Cond.eq (.elem dOt (.int (Int32.ofNat j))) (.int (nI (48 + j % 10)))) := by decide +kernel
theorem dO_mem {j : Nat} (hj : j < 100) : gLf (Cond.eq (.elem dOt (.int (Int32.ofNat j))) (.int (nI (48 + j % 10)))) := List.mem_of_mem_drop (i := 12) (List.mem_of_mem_take (i := 100) (by rw [dO_list]; exact List.mem_map.mpr ⟨j, List.mem_range.mpr hj, rfl⟩))
theorem gE.dO {E : GE} (hE : gE E) : stV E dOt = some (.ref (stA E dOt)) ∧ gTb E .byte (stA E dOt) 100 (fun j => .int (nI (48 + j % 10))) := hE.tb (tm := dOt) (by decide) (show _ ∈ flatC _ by decide +kernel) (show _ ∈ flatC _ by decide +kernel) (fun j hj => va_eqt (hE.nr (dO_mem hj)))
theorem gE.dOz {E : GE} (hE : gE E) : va_Z "java/lang/Integer" "DigitOnes" "[B" (.ref (stA E dOt)) (gA E) E.S0 E.S0.heap := hE.zR hE.dO.1 q374 (List.mem_filter.mp q87).1
def dTt : Term := .static "java/lang/Integer" "DigitTens" "[B"
theorem dT_list : ((flatC (Jvm.Cond.and given_1 narrow_1)).drop 115).take 100 = (List.range 100).map (fun j => Cond.eq (.elem dTt (.int (Int32.ofNat j))) (.int (nI (48 + j / 10)))) := by decide +kernel
theorem dT_mem {j : Nat} (hj : j < 100) : gLf (Cond.eq (.elem dTt (.int (Int32.ofNat j))) (.int (nI (48 + j / 10)))) := List.mem_of_mem_drop (i := 115) (List.mem_of_mem_take (i := 100) (by rw [dT_list]; exact List.mem_map.mpr ⟨j, List.mem_range.mpr hj, rfl⟩))
theorem gE.dT {E : GE} (hE : gE E) : stV E dTt = some (.ref (stA E dTt)) ∧ gTb E .byte (stA E dTt) 100 (fun j => .int (nI (48 + j / 10))) := hE.tb (tm := dTt) (by decide) (show _ ∈ flatC _ by decide +kernel) (show _ ∈ flatC _ by decide +kernel) (fun j hj => va_eqt (hE.nr (dT_mem hj)))
theorem gE.dTz {E : GE} (hE : gE E) : va_Z "java/lang/Integer" "DigitTens" "[B" (.ref (stA E dTt)) (gA E) E.S0 E.S0.heap := hE.zR hE.dT.1 q376 (List.mem_filter.mp q87).1
theorem gE.cS {E : GE} (hE : gE E) : va_Z "java/lang/String" "COMPACT_STRINGS" "Z" (.int (nI 1)) (gA E) E.S0 E.S0.heap := hE.zI (show _ ∈ flatC _ by decide +kernel) q202 (List.mem_filter.mp q74).1
theorem g_eta {h : AH} {a : Nat} {x : Nat × va_E} (ha : h a = some x) : h = g_up h a x := by
  funext b
  unfold g_up
  split
  · rename_i e
    rw [e, ha]
  · rfl
theorem dg_at {v p : Nat} (h1 : p = 1 ∧ v < 10 ∨ p = 2 ∧ 10 ≤ v ∧ v < 100 ∨ p = 3 ∧ 100 ≤ v ∧ v < 1000 ∨ p = 4 ∧ 1000 ≤ v ∧ v < 10000 ∨ p = 5 ∧ 10000 ≤ v ∧ v < 100000 ∨ p = 6 ∧ 100000 ≤ v ∧ v < 1000000) : sb_dg v = p := by
  rcases h1 with ⟨rfl, h⟩ | ⟨rfl, h⟩ | ⟨rfl, h⟩ | ⟨rfl, h⟩ | ⟨rfl, h⟩ | ⟨rfl, h⟩ <;> (unfold sb_dg; (repeat rw [if_neg (by omega)]); rw [if_pos (by omega)])
theorem sub_le0 {m N : Nat} (h : m ≤ N) (hN : N < 2147483648) : nI m - nI N ≤ 0 := by
  rw [Int32.le_iff_toInt_le, Int32.toInt_sub, nI_toInt hN, nI_toInt (by omega)]
  show (if ((m : Int) - N) % 4294967296 < (4294967296 + 1) / 2 then ((m : Int) - N) % 4294967296 else ((m : Int) - N) % 4294967296 - 4294967296) ≤ 0
  split <;> omega
abbrev mJ17_stringSize : GM := (yJ17_stringSize, 4, (some .int), [], { frames := 0, cells := 0, slots := 0, locals := 0 }, 255)
theorem kJ17_stringSize : gCs cJ17_stringSize mJ17_stringSize 1 := ⟨q368, q87, q369, ⟨by decide +kernel, by decide +kernel, by decide +kernel⟩, rfl⟩
set_option maxHeartbeats 400000 in
theorem ctJ17_stringSize {E : GE} {h : AH} (v : Nat) (hv : v < 1000000) : Ct E cJ17_stringSize mJ17_stringSize [.int (nI v)] (h) (pN fun r h' => r = (sb_dg v) ∧ h' = h) (noX) := by
  refine g_enter (own := "java/lang/Integer") [some (.int (nI v)), none, none, none] (by decide +kernel) rfl rfl (Nat.le_of_ble_eq_true rfl) rfl rfl (fun X => ?_)
  have K6 : 100000 ≤ v → V E cJ17_stringSize "java/lang/Integer" mJ17_stringSize (pN fun r h' => r = (sb_dg v) ∧ h' = h) noX X (h) 0 0 16 [some (.int (-nI v)), some (.int (nI 0)), some (.int (nI 429496728600000)), some (.int (nI 6))] [] := by
    intro hlo
    refine g_iload3 dJ17_stringSize_16 ?_
    refine g_bipush (nI 10) dJ17_stringSize_17 (by decide) ?_
    first | refine g_icmpN_ge (tgt := 42) dJ17_stringSize_19 (by decide) (by omega) (by omega) (fun c_19 => ?_) (fun c_19 => ?_) | refine g_icmp_ge (tgt := 42) dJ17_stringSize_19 (by decide) (fun c_19 => ?_) (fun c_19 => ?_)
    · omega
    · refine g_iload0 dJ17_stringSize_22 ?_
      refine g_iload2 dJ17_stringSize_23 ?_
      refine g_icmp_le (tgt := 31) dJ17_stringSize_24 (by decide) (fun c_24 => ?_) (fun c_24 => ?_)
      · exfalso
        rw [show nI 429496728600000 = -nI 1000000 from rfl] at c_24
        have z_24 := (sb_nle (by omega) (by omega)).mp c_24
        omega
      · skip
        refine g_iload3 dJ17_stringSize_27 ?_
        refine g_iload1 dJ17_stringSize_28 ?_
        first | refine g_iaddN dJ17_stringSize_29 ?_ | refine g_iadd dJ17_stringSize_29 ?_
        exact g_iret dJ17_stringSize_30 rfl ⟨_, rfl, (dg_at (by omega)).symm, rfl⟩
  have K5 : 10000 ≤ v → V E cJ17_stringSize "java/lang/Integer" mJ17_stringSize (pN fun r h' => r = (sb_dg v) ∧ h' = h) noX X (h) 0 0 16 [some (.int (-nI v)), some (.int (nI 0)), some (.int (nI 42949672860000)), some (.int (nI 5))] [] := by
    intro hlo
    refine g_iload3 dJ17_stringSize_16 ?_
    refine g_bipush (nI 10) dJ17_stringSize_17 (by decide) ?_
    first | refine g_icmpN_ge (tgt := 42) dJ17_stringSize_19 (by decide) (by omega) (by omega) (fun c_19 => ?_) (fun c_19 => ?_) | refine g_icmp_ge (tgt := 42) dJ17_stringSize_19 (by decide) (fun c_19 => ?_) (fun c_19 => ?_)
    · omega
    · refine g_iload0 dJ17_stringSize_22 ?_
      refine g_iload2 dJ17_stringSize_23 ?_
      refine g_icmp_le (tgt := 31) dJ17_stringSize_24 (by decide) (fun c_24 => ?_) (fun c_24 => ?_)
      · rw [show nI 42949672860000 = -nI 100000 from rfl] at c_24
        have z_24 := (sb_nle (by omega) (by omega)).mp c_24
        refine g_bipush (nI 10) dJ17_stringSize_31 (by decide) ?_
        refine g_iload2 dJ17_stringSize_33 ?_
        refine g_imulN dJ17_stringSize_34 ?_
        refine g_istore2 dJ17_stringSize_35 (by decide) ?_
        first | refine g_iincN3 1 dJ17_stringSize_36 (by decide) (by decide) ?_ | refine g_iinc3 _ dJ17_stringSize_36 rfl (by decide) ?_
        refine g_goto (tgt := 16) dJ17_stringSize_39 (by decide) ?_
        exact K6 (by omega)
      · have z_24 : v < 100000 := Nat.lt_of_not_le (fun z => c_24 (by rw [show nI 42949672860000 = -nI 100000 from rfl]; exact (sb_nle (by omega) (by omega)).mpr z))
        refine g_iload3 dJ17_stringSize_27 ?_
        refine g_iload1 dJ17_stringSize_28 ?_
        first | refine g_iaddN dJ17_stringSize_29 ?_ | refine g_iadd dJ17_stringSize_29 ?_
        exact g_iret dJ17_stringSize_30 rfl ⟨_, rfl, (dg_at (by omega)).symm, rfl⟩
  have K4 : 1000 ≤ v → V E cJ17_stringSize "java/lang/Integer" mJ17_stringSize (pN fun r h' => r = (sb_dg v) ∧ h' = h) noX X (h) 0 0 16 [some (.int (-nI v)), some (.int (nI 0)), some (.int (nI 4294967286000)), some (.int (nI 4))] [] := by
    intro hlo
    refine g_iload3 dJ17_stringSize_16 ?_
    refine g_bipush (nI 10) dJ17_stringSize_17 (by decide) ?_
    first | refine g_icmpN_ge (tgt := 42) dJ17_stringSize_19 (by decide) (by omega) (by omega) (fun c_19 => ?_) (fun c_19 => ?_) | refine g_icmp_ge (tgt := 42) dJ17_stringSize_19 (by decide) (fun c_19 => ?_) (fun c_19 => ?_)
    · omega
    · refine g_iload0 dJ17_stringSize_22 ?_
      refine g_iload2 dJ17_stringSize_23 ?_
      refine g_icmp_le (tgt := 31) dJ17_stringSize_24 (by decide) (fun c_24 => ?_) (fun c_24 => ?_)
      · rw [show nI 4294967286000 = -nI 10000 from rfl] at c_24
        have z_24 := (sb_nle (by omega) (by omega)).mp c_24
        refine g_bipush (nI 10) dJ17_stringSize_31 (by decide) ?_
        refine g_iload2 dJ17_stringSize_33 ?_
        refine g_imulN dJ17_stringSize_34 ?_
        refine g_istore2 dJ17_stringSize_35 (by decide) ?_
        first | refine g_iincN3 1 dJ17_stringSize_36 (by decide) (by decide) ?_ | refine g_iinc3 _ dJ17_stringSize_36 rfl (by decide) ?_
        refine g_goto (tgt := 16) dJ17_stringSize_39 (by decide) ?_
        exact K5 (by omega)
      · have z_24 : v < 10000 := Nat.lt_of_not_le (fun z => c_24 (by rw [show nI 4294967286000 = -nI 10000 from rfl]; exact (sb_nle (by omega) (by omega)).mpr z))
        refine g_iload3 dJ17_stringSize_27 ?_
        refine g_iload1 dJ17_stringSize_28 ?_
        first | refine g_iaddN dJ17_stringSize_29 ?_ | refine g_iadd dJ17_stringSize_29 ?_
        exact g_iret dJ17_stringSize_30 rfl ⟨_, rfl, (dg_at (by omega)).symm, rfl⟩
  have K3 : 100 ≤ v → V E cJ17_stringSize "java/lang/Integer" mJ17_stringSize (pN fun r h' => r = (sb_dg v) ∧ h' = h) noX X (h) 0 0 16 [some (.int (-nI v)), some (.int (nI 0)), some (.int (nI 429496728600)), some (.int (nI 3))] [] := by
    intro hlo
    refine g_iload3 dJ17_stringSize_16 ?_
    refine g_bipush (nI 10) dJ17_stringSize_17 (by decide) ?_
    first | refine g_icmpN_ge (tgt := 42) dJ17_stringSize_19 (by decide) (by omega) (by omega) (fun c_19 => ?_) (fun c_19 => ?_) | refine g_icmp_ge (tgt := 42) dJ17_stringSize_19 (by decide) (fun c_19 => ?_) (fun c_19 => ?_)
    · omega
    · refine g_iload0 dJ17_stringSize_22 ?_
      refine g_iload2 dJ17_stringSize_23 ?_
      refine g_icmp_le (tgt := 31) dJ17_stringSize_24 (by decide) (fun c_24 => ?_) (fun c_24 => ?_)
      · rw [show nI 429496728600 = -nI 1000 from rfl] at c_24
        have z_24 := (sb_nle (by omega) (by omega)).mp c_24
        refine g_bipush (nI 10) dJ17_stringSize_31 (by decide) ?_
        refine g_iload2 dJ17_stringSize_33 ?_
        refine g_imulN dJ17_stringSize_34 ?_
        refine g_istore2 dJ17_stringSize_35 (by decide) ?_
        first | refine g_iincN3 1 dJ17_stringSize_36 (by decide) (by decide) ?_ | refine g_iinc3 _ dJ17_stringSize_36 rfl (by decide) ?_
        refine g_goto (tgt := 16) dJ17_stringSize_39 (by decide) ?_
        exact K4 (by omega)
      · have z_24 : v < 1000 := Nat.lt_of_not_le (fun z => c_24 (by rw [show nI 429496728600 = -nI 1000 from rfl]; exact (sb_nle (by omega) (by omega)).mpr z))
        refine g_iload3 dJ17_stringSize_27 ?_
        refine g_iload1 dJ17_stringSize_28 ?_
        first | refine g_iaddN dJ17_stringSize_29 ?_ | refine g_iadd dJ17_stringSize_29 ?_
        exact g_iret dJ17_stringSize_30 rfl ⟨_, rfl, (dg_at (by omega)).symm, rfl⟩
  have K2 : 10 ≤ v → V E cJ17_stringSize "java/lang/Integer" mJ17_stringSize (pN fun r h' => r = (sb_dg v) ∧ h' = h) noX X (h) 0 0 16 [some (.int (-nI v)), some (.int (nI 0)), some (.int (nI 42949672860)), some (.int (nI 2))] [] := by
    intro hlo
    refine g_iload3 dJ17_stringSize_16 ?_
    refine g_bipush (nI 10) dJ17_stringSize_17 (by decide) ?_
    first | refine g_icmpN_ge (tgt := 42) dJ17_stringSize_19 (by decide) (by omega) (by omega) (fun c_19 => ?_) (fun c_19 => ?_) | refine g_icmp_ge (tgt := 42) dJ17_stringSize_19 (by decide) (fun c_19 => ?_) (fun c_19 => ?_)
    · omega
    · refine g_iload0 dJ17_stringSize_22 ?_
      refine g_iload2 dJ17_stringSize_23 ?_
      refine g_icmp_le (tgt := 31) dJ17_stringSize_24 (by decide) (fun c_24 => ?_) (fun c_24 => ?_)
      · rw [show nI 42949672860 = -nI 100 from rfl] at c_24
        have z_24 := (sb_nle (by omega) (by omega)).mp c_24
        refine g_bipush (nI 10) dJ17_stringSize_31 (by decide) ?_
        refine g_iload2 dJ17_stringSize_33 ?_
        refine g_imulN dJ17_stringSize_34 ?_
        refine g_istore2 dJ17_stringSize_35 (by decide) ?_
        first | refine g_iincN3 1 dJ17_stringSize_36 (by decide) (by decide) ?_ | refine g_iinc3 _ dJ17_stringSize_36 rfl (by decide) ?_
        refine g_goto (tgt := 16) dJ17_stringSize_39 (by decide) ?_
        exact K3 (by omega)
      · have z_24 : v < 100 := Nat.lt_of_not_le (fun z => c_24 (by rw [show nI 42949672860 = -nI 100 from rfl]; exact (sb_nle (by omega) (by omega)).mpr z))
        refine g_iload3 dJ17_stringSize_27 ?_
        refine g_iload1 dJ17_stringSize_28 ?_
        first | refine g_iaddN dJ17_stringSize_29 ?_ | refine g_iadd dJ17_stringSize_29 ?_
        exact g_iret dJ17_stringSize_30 rfl ⟨_, rfl, (dg_at (by omega)).symm, rfl⟩
  have K1 : V E cJ17_stringSize "java/lang/Integer" mJ17_stringSize (pN fun r h' => r = (sb_dg v) ∧ h' = h) noX X (h) 0 0 16 [some (.int (-nI v)), some (.int (nI 0)), some (.int (nI 4294967286)), some (.int (nI 1))] [] := by
    refine g_iload3 dJ17_stringSize_16 ?_
    refine g_bipush (nI 10) dJ17_stringSize_17 (by decide) ?_
    first | refine g_icmpN_ge (tgt := 42) dJ17_stringSize_19 (by decide) (by omega) (by omega) (fun c_19 => ?_) (fun c_19 => ?_) | refine g_icmp_ge (tgt := 42) dJ17_stringSize_19 (by decide) (fun c_19 => ?_) (fun c_19 => ?_)
    · omega
    · refine g_iload0 dJ17_stringSize_22 ?_
      refine g_iload2 dJ17_stringSize_23 ?_
      refine g_icmp_le (tgt := 31) dJ17_stringSize_24 (by decide) (fun c_24 => ?_) (fun c_24 => ?_)
      · rw [show nI 4294967286 = -nI 10 from rfl] at c_24
        have z_24 := (sb_nle (by omega) (by omega)).mp c_24
        refine g_bipush (nI 10) dJ17_stringSize_31 (by decide) ?_
        refine g_iload2 dJ17_stringSize_33 ?_
        refine g_imulN dJ17_stringSize_34 ?_
        refine g_istore2 dJ17_stringSize_35 (by decide) ?_
        first | refine g_iincN3 1 dJ17_stringSize_36 (by decide) (by decide) ?_ | refine g_iinc3 _ dJ17_stringSize_36 rfl (by decide) ?_
        refine g_goto (tgt := 16) dJ17_stringSize_39 (by decide) ?_
        exact K2 (by omega)
      · have z_24 : v < 10 := Nat.lt_of_not_le (fun z => c_24 (by rw [show nI 4294967286 = -nI 10 from rfl]; exact (sb_nle (by omega) (by omega)).mpr z))
        refine g_iload3 dJ17_stringSize_27 ?_
        refine g_iload1 dJ17_stringSize_28 ?_
        first | refine g_iaddN dJ17_stringSize_29 ?_ | refine g_iadd dJ17_stringSize_29 ?_
        exact g_iret dJ17_stringSize_30 rfl ⟨_, rfl, (dg_at (by omega)).symm, rfl⟩
  refine g_iconst (nI 1) dJ17_stringSize_0 (by decide) ?_
  refine g_istore1 dJ17_stringSize_1 (by decide) ?_
  refine g_iload0 dJ17_stringSize_2 ?_
  first | refine g_ifN_lt (tgt := 11) dJ17_stringSize_3 (by decide) (by omega) (fun c_3 => ?_) (fun c_3 => ?_) | refine g_if_lt (tgt := 11) dJ17_stringSize_3 (by decide) (fun c_3 => ?_) (fun c_3 => ?_)
  · omega
  · refine g_iconst (nI 0) dJ17_stringSize_6 (by decide) ?_
    refine g_istore1 dJ17_stringSize_7 (by decide) ?_
    refine g_iload0 dJ17_stringSize_8 ?_
    refine g_ineg dJ17_stringSize_9 ?_
    refine g_istore0 dJ17_stringSize_10 (by decide) ?_
    refine g_bipush (nI 4294967286) dJ17_stringSize_11 (by decide) ?_
    refine g_istore2 dJ17_stringSize_13 (by decide) ?_
    refine g_iconst (nI 1) dJ17_stringSize_14 (by decide) ?_
    refine g_istore3 dJ17_stringSize_15 (by decide) ?_
    exact K1
/-- the digits of v from c on, those below w's told still to come -/
def DI (v c : Nat) (F : Nat → Nat) (w : Nat) (G : Nat → Nat) : Prop := (∀ j, j < c → G j = F j) ∧ (∀ k, sb_dg w ≤ k → k < sb_dg v → G (c + k) = sb_dec v k) ∧ (∀ k, k < sb_dg w → sb_dec w k = sb_dec v k) ∧ sb_dg w ≤ sb_dg v ∧ ∀ j, G j < 128
def DF9 (v c : Nat) (F G : Nat → Nat) : Prop := (∀ j, j < c → G j = F j) ∧ (∀ k, k < sb_dg v → G (c + k) = sb_dec v k) ∧ ∀ j, G j < 128
theorem dec_last (w : Nat) : sb_dec w (sb_dg w - 1) = 48 + w % 10 := by
  have h := sb_dg_in w
  unfold sb_dec
  rw [show sb_dg w - 1 - (sb_dg w - 1) = 0 by omega, Nat.pow_zero, Nat.div_one]
theorem dec_last2 {w : Nat} (h : 2 ≤ sb_dg w) : sb_dec w (sb_dg w - 2) = 48 + w / 10 % 10 := by
  unfold sb_dec
  rw [show sb_dg w - 1 - (sb_dg w - 2) = 1 by omega, Nat.pow_one]
theorem dec_100 {w k : Nat} (hw : 100 ≤ w) (hw2 : w < 2 ^ 31) (hk : k < sb_dg (w / 100)) : sb_dec (w / 100) k = sb_dec w k := by
  have e := sb_dg100 hw hw2
  unfold sb_dec
  rw [Nat.div_div_eq_div_mul, show sb_dg w - 1 - k = (sb_dg (w / 100) - 1 - k) + 2 by omega, Nat.pow_add]
  congr 3
  rw [Nat.mul_comm]
theorem DI.start {v c : Nat} {F : Nat → Nat} (hF : ∀ j, F j < 128) : DI v c F v F := ⟨fun _ _ => rfl, fun k h1 h2 => absurd h2 (by omega), fun _ _ => rfl, Nat.le_refl _, hF⟩
theorem nup_lt {F : Nat → Nat} {i x : Nat} (hF : ∀ j, F j < 128) (hx : x < 128) : ∀ j, nup F i x j < 128 := fun j => by
  unfold nup
  split
  · exact hx
  · exact hF j
theorem DI.step {v c w : Nat} {F G : Nat → Nat} (d : DI v c F w G) (hw : 100 ≤ w) (hw2 : w < 2 ^ 31) : DI v c F (w / 100) (nup (nup G (c + sb_dg w - 1) (48 + w % 100 % 10)) (c + sb_dg w - 1 - 1) (48 + w % 100 / 10)) := by
  obtain ⟨d1, d2, d3, d4, d5⟩ := d
  have e := sb_dg100 hw hw2
  have h1 := sb_dg_in (w / 100)
  refine ⟨fun j hj => ?_, fun k hk hk2 => ?_, fun k hk => (dec_100 hw hw2 hk).trans (d3 k (by omega)), by omega, nup_lt (nup_lt d5 (by omega)) (by omega)⟩
  · rw [nup_ne _ _ (by omega), nup_ne _ _ (by omega)]
    exact d1 j hj
  · by_cases k1 : k = sb_dg w - 2
    · rw [show c + k = c + sb_dg w - 1 - 1 by omega, nup_self, ← d3 k (by omega), k1, dec_last2 (by omega)]
      omega
    · rw [nup_ne _ _ (by omega)]
      by_cases k2 : k = sb_dg w - 1
      · rw [show c + k = c + sb_dg w - 1 by omega, nup_self, ← d3 k (by omega), k2, dec_last]
        omega
      · rw [nup_ne _ _ (by omega)]
        exact d2 k (by omega) hk2
theorem DI.one {v c w : Nat} {F G : Nat → Nat} (d : DI v c F w G) (hw : w < 10) : DF9 v c F (nup G (c + sb_dg w - 1) (48 + w % 10)) ∧ c + sb_dg w - 1 = c := by
  obtain ⟨d1, d2, d3, d4, d5⟩ := d
  have e : sb_dg w = 1 := dg_at (by omega)
  refine ⟨⟨fun j hj => ?_, fun k hk => ?_, nup_lt d5 (by omega)⟩, by omega⟩
  · rw [nup_ne _ _ (by omega)]
    exact d1 j hj
  · by_cases k1 : k = 0
    · have z := dec_last w
      rw [e] at z
      rw [k1, show c + 0 = c + sb_dg w - 1 by omega, nup_self, ← d3 0 (by omega), ← z]
    · rw [nup_ne _ _ (by omega)]
      exact d2 k (by omega) hk
theorem DI.two {v c w : Nat} {F G : Nat → Nat} (d : DI v c F w G) (hw : 10 ≤ w) (hw2 : w < 100) : DF9 v c F (nup (nup G (c + sb_dg w - 1) (48 + w % 10)) (c + sb_dg w - 1 - 1) (48 + w / 10)) ∧ c + sb_dg w - 1 - 1 = c := by
  obtain ⟨d1, d2, d3, d4, d5⟩ := d
  have e : sb_dg w = 2 := dg_at (by omega)
  refine ⟨⟨fun j hj => ?_, fun k hk => ?_, nup_lt (nup_lt d5 (by omega)) (by omega)⟩, by omega⟩
  · rw [nup_ne _ _ (by omega), nup_ne _ _ (by omega)]
    exact d1 j hj
  · by_cases k1 : k = 0
    · have z := dec_last2 (w := w) (by omega)
      rw [e] at z
      rw [k1, show c + 0 = c + sb_dg w - 1 - 1 by omega, nup_self, ← d3 0 (by omega), show (0 : Nat) = 2 - 2 from rfl, z]
      omega
    · rw [nup_ne _ _ (by omega)]
      by_cases k2 : k = 1
      · have z := dec_last w
        rw [e] at z
        rw [k2, show c + 1 = c + sb_dg w - 1 by omega, nup_self, ← d3 1 (by omega), show (1 : Nat) = 2 - 1 from rfl, z]
      · rw [nup_ne _ _ (by omega)]
        exact d2 k (by omega) hk
abbrev mJ17_getChars : GM := (yJ17_getChars, 7, (some .int), [], { frames := 0, cells := 0, slots := 0, locals := 0 }, 255)
theorem kJ17_getChars : gCs cJ17_getChars mJ17_getChars 3 := ⟨q371, q87, q372, ⟨by decide +kernel, by decide +kernel, by decide +kernel⟩, rfl⟩
set_option maxHeartbeats 400000 in
theorem ctJ17_getChars {E : GE} {h : AH} {arr t N : Nat} {F : Nat → Nat} (v c : Nat) (ha : h arr = some (t, gABn E N F)) (hF : ∀ j, F j < 128) (hv : v < 1000000) (hN : c + sb_dg v ≤ N) (hN2 : N < 1000) : Ct E cJ17_getChars mJ17_getChars [.int (nI v), .int (nI (c + sb_dg v)), .ref arr] (h) (pN fun r h' => r = c ∧ ∃ F', h' = g_up h arr (t, gABn E N F') ∧ DF9 v c F F') (noX) := by
  refine g_enter (own := "java/lang/Integer") [some (.int (nI v)), some (.int (nI (c + sb_dg v))), some (.ref arr), none, none, none, none] (by decide +kernel) rfl rfl (Nat.le_of_ble_eq_true rfl) rfl rfl (fun X => ?_)
  refine V.hE (fun hE => ?_)
  have K : ∀ w, w ≤ v → ∀ (G : Nat → Nat) (x3 x4 : Option Value), DI v c F w G → V E cJ17_getChars "java/lang/Integer" mJ17_getChars (pN fun r h' => r = c ∧ ∃ F', h' = g_up h arr (t, gABn E N F') ∧ DF9 v c F F') noX X (g_up h arr (t, gABn E N G)) 0 0 22 [some (.int (-nI w)), some (.int (nI (c + sb_dg v))), some (.ref arr), x3, x4, some (.int (nI (c + sb_dg w))), some (.int (nI 0))] [] := by
    intro w
    induction w using Nat.strongRecOn with
    | ind w ih =>
      intro hw G x3 x4 hd
      have hw1 := sb_dg_in w
      have hd4 := hd.2.2.2.1
      refine g_iload0 dJ17_getChars_22 ?_
      refine g_bipush (nI 4294967196) dJ17_getChars_23 (by decide) ?_
      refine g_icmp_gt (tgt := 72) dJ17_getChars_25 (by decide) (fun c_25 => ?_) (fun c_25 => ?_)
      · rw [show nI 4294967196 = -nI 100 from rfl] at c_25
        have z_25 : w < 100 := (sb_nlt (by omega) (by omega)).mp c_25
        first | refine g_aload2 dJ17_getChars_72 ?_ | refine g_aloadQ2 dJ17_getChars_72 ?_ | refine g_aloadN2 dJ17_getChars_72 ?_
        first | refine g_iincM5 1 dJ17_getChars_73 (by decide) (by omega) (by decide) ?_ | refine g_iinc5 _ dJ17_getChars_73 rfl (by decide) ?_
        refine g_iload5 dJ17_getChars_76 ?_
        refine g_gets (ref := "java/lang/Integer") hE.dOz q373 dJ17_getChars_78 ?_
        refine g_iload0 dJ17_getChars_81 ?_
        refine g_ineg dJ17_getChars_82 ?_
        rw [Int32.neg_neg]
        refine g_tb hE.dO.2 (by omega) (by decide) dJ17_getChars_83 ?_
        refine g_bastN (g_up_self _ _ _) (by omega) (by omega) (by omega) dJ17_getChars_84 ?_
        rw [g_upup]
        refine g_iload0 dJ17_getChars_85 ?_
        refine g_bipush (nI 4294967287) dJ17_getChars_86 (by decide) ?_
        refine g_icmp_ge (tgt := 104) dJ17_getChars_88 (by decide) (fun c_88 => ?_) (fun c_88 => ?_)
        · rw [show nI 4294967287 = -nI 9 from rfl] at c_88
          have z_88 : w ≤ 9 := (sb_nle (by omega) (by omega)).mp c_88
          obtain ⟨zf, zp⟩ := hd.one (by omega)
          refine g_iload6 dJ17_getChars_104 ?_
          first | refine g_ifN_eq (tgt := 118) dJ17_getChars_106 (by decide) (by omega) (fun c_106 => ?_) (fun c_106 => ?_) | refine g_if_eq (tgt := 118) dJ17_getChars_106 (by decide) (fun c_106 => ?_) (fun c_106 => ?_)
          · refine g_iload5 dJ17_getChars_118 ?_
            exact g_iret dJ17_getChars_120 rfl ⟨_, rfl, zp, _, rfl, zf⟩
          · omega
        · have z_88 : 10 ≤ w := Nat.lt_of_not_le (fun z => c_88 (by rw [show nI 4294967287 = -nI 9 from rfl]; exact (sb_nle (by omega) (by omega)).mpr z))
          obtain ⟨zf, zp⟩ := hd.two z_88 z_25
          have e_88 : sb_dg w = 2 := dg_at (by omega)
          first | refine g_aload2 dJ17_getChars_91 ?_ | refine g_aloadQ2 dJ17_getChars_91 ?_ | refine g_aloadN2 dJ17_getChars_91 ?_
          first | refine g_iincM5 1 dJ17_getChars_92 (by decide) (by omega) (by decide) ?_ | refine g_iinc5 _ dJ17_getChars_92 rfl (by decide) ?_
          refine g_iload5 dJ17_getChars_95 ?_
          refine g_gets (ref := "java/lang/Integer") hE.dTz q375 dJ17_getChars_97 ?_
          refine g_iload0 dJ17_getChars_100 ?_
          refine g_ineg dJ17_getChars_101 ?_
          rw [Int32.neg_neg]
          refine g_tb hE.dT.2 (by omega) (by decide) dJ17_getChars_102 ?_
          refine g_bastN (g_up_self _ _ _) (by omega) (by omega) (by omega) dJ17_getChars_103 ?_
          rw [g_upup]
          refine g_iload6 dJ17_getChars_104 ?_
          first | refine g_ifN_eq (tgt := 118) dJ17_getChars_106 (by decide) (by omega) (fun c_106 => ?_) (fun c_106 => ?_) | refine g_if_eq (tgt := 118) dJ17_getChars_106 (by decide) (fun c_106 => ?_) (fun c_106 => ?_)
          · refine g_iload5 dJ17_getChars_118 ?_
            exact g_iret dJ17_getChars_120 rfl ⟨_, rfl, zp, _, rfl, zf⟩
          · omega
      · have z_25 : 100 ≤ w := Nat.le_of_not_lt (fun z => c_25 (by rw [show nI 4294967196 = -nI 100 from rfl]; exact (sb_nlt (by omega) (by omega)).mpr z))
        have e_25 := sb_dg100 z_25 (by omega)
        have f_25 := sb_dg_in (w / 100)
        refine g_iload0 dJ17_getChars_28 ?_
        refine g_bipush (nI 100) dJ17_getChars_29 (by decide) ?_
        refine g_idiv dJ17_getChars_31 (by decide) ?_
        rw [show (nI 100 : Int32) = 100 from rfl, sb_ndiv (by omega)]
        refine g_istore3 dJ17_getChars_32 (by decide) ?_
        refine g_iload3 dJ17_getChars_33 ?_
        refine g_bipush (nI 100) dJ17_getChars_34 (by decide) ?_
        refine g_imul dJ17_getChars_36 ?_
        refine g_iload0 dJ17_getChars_37 ?_
        refine g_isub dJ17_getChars_38 ?_
        rw [show (nI 100 : Int32) = 100 from rfl, sb_nrem (by omega)]
        refine g_istore4 dJ17_getChars_39 (by decide) ?_
        refine g_iload3 dJ17_getChars_41 ?_
        refine g_istore0 dJ17_getChars_42 (by decide) ?_
        first | refine g_aload2 dJ17_getChars_43 ?_ | refine g_aloadQ2 dJ17_getChars_43 ?_ | refine g_aloadN2 dJ17_getChars_43 ?_
        first | refine g_iincM5 1 dJ17_getChars_44 (by decide) (by omega) (by decide) ?_ | refine g_iinc5 _ dJ17_getChars_44 rfl (by decide) ?_
        refine g_iload5 dJ17_getChars_47 ?_
        refine g_gets (ref := "java/lang/Integer") hE.dOz q373 dJ17_getChars_49 ?_
        refine g_iload4 dJ17_getChars_52 ?_
        refine g_tb hE.dO.2 (by omega) (by decide) dJ17_getChars_54 ?_
        refine g_bastN (g_up_self _ _ _) (by omega) (by omega) (by omega) dJ17_getChars_55 ?_
        rw [g_upup]
        first | refine g_aload2 dJ17_getChars_56 ?_ | refine g_aloadQ2 dJ17_getChars_56 ?_ | refine g_aloadN2 dJ17_getChars_56 ?_
        first | refine g_iincM5 1 dJ17_getChars_57 (by decide) (by omega) (by decide) ?_ | refine g_iinc5 _ dJ17_getChars_57 rfl (by decide) ?_
        refine g_iload5 dJ17_getChars_60 ?_
        refine g_gets (ref := "java/lang/Integer") hE.dTz q375 dJ17_getChars_62 ?_
        refine g_iload4 dJ17_getChars_65 ?_
        refine g_tb hE.dT.2 (by omega) (by decide) dJ17_getChars_67 ?_
        refine g_bastN (g_up_self _ _ _) (by omega) (by omega) (by omega) dJ17_getChars_68 ?_
        rw [g_upup]
        refine g_goto (tgt := 22) dJ17_getChars_69 (by decide) ?_
        have z_22 := hd.step z_25 (by omega)
        rw [show c + sb_dg w - 1 - 1 = c + sb_dg (w / 100) by omega] at z_22
        rw [show c + sb_dg w - 1 - 1 = c + sb_dg (w / 100) by omega]
        exact ih (w / 100) (by omega) (by omega) _ _ _ z_22
  refine g_iload1 dJ17_getChars_0 ?_
  refine g_istore5 dJ17_getChars_1 (by decide) ?_
  refine g_iload0 dJ17_getChars_3 ?_
  first | refine g_ifN_ge (tgt := 11) dJ17_getChars_4 (by decide) (by omega) (fun c_4 => ?_) (fun c_4 => ?_) | refine g_if_ge (tgt := 11) dJ17_getChars_4 (by decide) (fun c_4 => ?_) (fun c_4 => ?_)
  · refine g_iconst (nI 0) dJ17_getChars_11 (by decide) ?_
    refine g_istore6 dJ17_getChars_12 (by decide) ?_
    refine g_iload6 dJ17_getChars_14 ?_
    first | refine g_ifN_ne (tgt := 22) dJ17_getChars_16 (by decide) (by omega) (fun c_16 => ?_) (fun c_16 => ?_) | refine g_if_ne (tgt := 22) dJ17_getChars_16 (by decide) (fun c_16 => ?_) (fun c_16 => ?_)
    · omega
    · refine g_iload0 dJ17_getChars_19 ?_
      refine g_ineg dJ17_getChars_20 ?_
      refine g_istore0 dJ17_getChars_21 (by decide) ?_
      have q := K v (Nat.le_refl _) F none none (DI.start hF)
      rw [← g_eta ha] at q
      exact q
  · omega
theorem cpB_all {F G : Nat → Nat} {n : Nat} : ∀ i, i < n → cpN F G 0 0 n i = F i := fun i hi => by
  unfold cpN va_cpy
  rw [if_pos (by omega)]
  congr 1
  omega
theorem cpN_lt {F G : Nat → Nat} {sp dp n : Nat} (hF : ∀ j, F j < 128) (hG : ∀ j, G j < 128) : ∀ i, cpN F G sp dp n i < 128 := fun i => by
  unfold cpN va_cpy
  split
  · exact hF _
  · exact hG _
abbrev mJ2_copyOf : GM := (yJ2_copyOf, 3, (some (.array .byte)), [], { frames := 1, cells := 1, slots := 142, locals := 60 }, 255)
theorem kJ2_copyOf : gCs cJ2_copyOf mJ2_copyOf 2 := ⟨q271, q71, q272, ⟨by decide +kernel, by decide +kernel, by decide +kernel⟩, rfl⟩
set_option maxHeartbeats 400000 in
theorem ctJ2_copyOf {E : GE} {h : AH} {t N a : Nat} {F : Nat → Nat} (T m : Nat) (ha : h a = some (t, gABn E N F)) (hF : ∀ j, F j < 128) (hm2 : m ≤ 142) (hN2 : N ≤ 142) (hm : N < m) : Ct E cJ2_copyOf mJ2_copyOf [.ref a, .int (nI m)] (h) (pR fun r h' => h r = none ∧ ∃ G, h' = g_up h r (T, gABn E m G) ∧ (∀ j, j < N → j < m → G j = F j) ∧ ∀ j, G j < 128) (noX) := by
  refine g_enter (own := "java/util/Arrays") [some (.ref a), some (.int (nI m)), none] (by decide +kernel) rfl rfl (Nat.le_of_ble_eq_true rfl) rfl rfl (fun X => ?_)
  refine g_iload1 dJ2_copyOf_0 ?_
  first | refine g_aload0 dJ2_copyOf_1 ?_ | refine g_aloadQ0 dJ2_copyOf_1 ?_ | refine g_aloadN0 dJ2_copyOf_1 ?_
  refine g_alen (by first | assumption | exact g_up_self _ _ _ | (refine g_upf ?_ ?_ <;> assumption) | (refine g_upt ?_ ?_ (by decide) <;> assumption)) (by first | exact Or.inl ⟨_, rfl⟩ | exact Or.inr (Or.inr (Or.inl ⟨_, rfl⟩)) | exact Or.inr (Or.inr (Or.inr (Or.inl ⟨_, rfl⟩))) | exact Or.inr (Or.inr (Or.inr (Or.inr (Or.inr ⟨_, _, by decide, by decide, rfl⟩))))) rfl dJ2_copyOf_2 ?_
  rw [show Int32.ofNat N = nI N from rfl]
  first | refine g_icmpN_ne (tgt := 14) dJ2_copyOf_3 (by decide) (by omega) (by omega) (fun c_3 => ?_) (fun c_3 => ?_) | refine g_icmpU_ne (tgt := 14) dJ2_copyOf_3 (by decide) (by omega) (by omega) (fun c_3 => ?_) (fun c_3 => ?_) | refine g_icmp_ne (tgt := 14) dJ2_copyOf_3 (by decide) (fun c_3 => ?_) (fun c_3 => ?_)
  · refine g_iload1 dJ2_copyOf_14 ?_
    refine g_newb T q224 (nI_pos (by omega)) (nI_clamp (by omega)) (by show _ * 1 ≤ _; omega) (Nat.le_of_ble_eq_true rfl) (by show 0 + m ≤ 142; omega) dJ2_copyOf_15 (fun q_15 f_15 => ?_)
    have ha2 := g_upf (z := (T, gABn E m (fun _ => 0))) ha f_15
    change V _ _ _ _ _ _ _ (g_up _ q_15 (T, gABn E m (fun _ => 0))) _ _ _ _ _
    refine V.wide (k' := 1) (n' := 142) (by decide) (by show 0 + _ ≤ 142; omega) ?_
    first | refine g_astore2 dJ2_copyOf_17 (by decide) ?_ | refine g_astoreQ2 dJ2_copyOf_17 (by decide) ?_ | refine g_astoreN2 dJ2_copyOf_17 (by decide) ?_
    first | refine g_aload0 dJ2_copyOf_18 ?_ | refine g_aloadQ0 dJ2_copyOf_18 ?_ | refine g_aloadN0 dJ2_copyOf_18 ?_
    refine g_iconst (nI 0) dJ2_copyOf_19 (by decide) ?_
    first | refine g_aload2 dJ2_copyOf_20 ?_ | refine g_aloadQ2 dJ2_copyOf_20 ?_ | refine g_aloadN2 dJ2_copyOf_20 ?_
    refine g_iconst (nI 0) dJ2_copyOf_21 (by decide) ?_
    first | refine g_aload0 dJ2_copyOf_22 ?_ | refine g_aloadQ0 dJ2_copyOf_22 ?_ | refine g_aloadN0 dJ2_copyOf_22 ?_
    refine g_alen (by first | assumption | exact g_up_self _ _ _ | (refine g_upf ?_ ?_ <;> assumption) | (refine g_upt ?_ ?_ (by decide) <;> assumption)) (by first | exact Or.inl ⟨_, rfl⟩ | exact Or.inr (Or.inr (Or.inl ⟨_, rfl⟩)) | exact Or.inr (Or.inr (Or.inr (Or.inl ⟨_, rfl⟩))) | exact Or.inr (Or.inr (Or.inr (Or.inr (Or.inr ⟨_, _, by decide, by decide, rfl⟩))))) rfl dJ2_copyOf_23 ?_
    refine g_iload1 dJ2_copyOf_24 ?_
    refine g_callS (ctJ13_min _ _ (by omega) (by omega)) kJ13_min q280 (by decide) ⟨Nat.le_of_ble_eq_true rfl, Nat.le_of_ble_eq_true rfl⟩ rfl (Nat.le_of_ble_eq_true rfl) dJ2_copyOf_25 k_x (k_n (fun r_25 h_25 p_25 => ?_))
    obtain ⟨rfl, rfl⟩ := p_25
    refine g_copyI (j := 3) (ty := .byte) (G := fun _ => 0) (sp := 0) (dp := 0) (m := min N m) ⟨q283, q285, q284, q83⟩ ha2 (g_up_self _ _ _) rfl rfl (fun i hi => fit_b _ (hF _)) (by omega) (by omega) ⟨by omega, by omega⟩ (Nat.le_of_ble_eq_true rfl) (Nat.le_of_ble_eq_true rfl) dJ2_copyOf_28 ?_
    rw [g_upup]
    first | refine g_aload2 dJ2_copyOf_31 ?_ | refine g_aloadQ2 dJ2_copyOf_31 ?_ | refine g_aloadN2 dJ2_copyOf_31 ?_
    exact g_aret dJ2_copyOf_32 rfl (Or.inr ⟨_, rfl⟩) ⟨_, rfl, f_15, _, rfl, fun i hi hi2 => (show cpN _ _ 0 0 (min N m) i = _ by rw [Nat.min_eq_left (by omega)]; exact cpB_all i hi), cpN_lt hF (fun _ => by decide)⟩
  · omega
abbrev mJ2_checkLength : GM := (yJ2_checkLength, 2, none, [], { frames := 0, cells := 0, slots := 0, locals := 0 }, 255)
theorem kJ2_checkLength : gCs cJ2_checkLength mJ2_checkLength 2 := ⟨q419, q71, q420, ⟨by decide +kernel, by decide +kernel, by decide +kernel⟩, rfl⟩
set_option maxHeartbeats 400000 in
theorem ctJ2_checkLength {E : GE} {h : AH} (a b : Nat) (hb : b < 1000) (hab : a ≤ b) : Ct E cJ2_checkLength mJ2_checkLength [.int (nI a), .int (nI b)] (h) (pV fun h' => h' = h) (noX) := by
  refine g_enter (own := "java/util/Arrays") [some (.int (nI a)), some (.int (nI b))] (by decide +kernel) rfl rfl (Nat.le_of_ble_eq_true rfl) rfl rfl (fun X => ?_)
  refine g_iload1 dJ2_checkLength_0 ?_
  refine g_iload0 dJ2_checkLength_1 ?_
  first | refine g_icmpN_ge (tgt := 37) dJ2_checkLength_2 (by decide) (by omega) (by omega) (fun c_2 => ?_) (fun c_2 => ?_) | refine g_icmp_ge (tgt := 37) dJ2_checkLength_2 (by decide) (fun c_2 => ?_) (fun c_2 => ?_)
  · exact g_vret dJ2_checkLength_37 rfl ⟨rfl, rfl⟩
  · omega
abbrev mJ2_copyOfRangeByte : GM := (yJ2_copyOfRangeByte, 5, (some (.array .byte)), [], { frames := 1, cells := 1, slots := 142, locals := 60 }, 255)
theorem kJ2_copyOfRangeByte : gCs cJ2_copyOfRangeByte mJ2_copyOfRangeByte 3 := ⟨q416, q71, q417, ⟨by decide +kernel, by decide +kernel, by decide +kernel⟩, rfl⟩
set_option maxHeartbeats 400000 in
theorem ctJ2_copyOfRangeByte {E : GE} {h : AH} {t N a : Nat} {F : Nat → Nat} (T m : Nat) (ha : h a = some (t, gABn E N F)) (hF : ∀ j, F j < 128) (hm2 : m ≤ 142) (hN2 : N ≤ 142) (hm : m ≤ N) : Ct E cJ2_copyOfRangeByte mJ2_copyOfRangeByte [.ref a, .int (nI 0), .int (nI m)] (h) (pR fun r h' => h r = none ∧ ∃ G, h' = g_up h r (T, gABn E m G) ∧ (∀ j, j < N → j < m → G j = F j) ∧ ∀ j, G j < 128) (noX) := by
  refine g_enter (own := "java/util/Arrays") [some (.ref a), some (.int (nI 0)), some (.int (nI m)), none, none] (by decide +kernel) rfl rfl (Nat.le_of_ble_eq_true rfl) rfl rfl (fun X => ?_)
  refine g_iload1 dJ2_copyOfRangeByte_0 ?_
  refine g_iload2 dJ2_copyOfRangeByte_1 ?_
  refine g_callS (ctJ2_checkLength _ _ (by omega) (by omega)) kJ2_checkLength q418 (by decide) ⟨Nat.le_of_ble_eq_true rfl, Nat.le_of_ble_eq_true rfl⟩ rfl (Nat.le_of_ble_eq_true rfl) dJ2_copyOfRangeByte_2 k_x (k_v (fun h_2 p_2 => ?_))
  subst p_2
  refine g_iload2 dJ2_copyOfRangeByte_5 ?_
  refine g_iload1 dJ2_copyOfRangeByte_6 ?_
  first | refine g_isubN dJ2_copyOfRangeByte_7 (by omega) ?_ | refine g_isub dJ2_copyOfRangeByte_7 ?_
  refine g_istore3 dJ2_copyOfRangeByte_8 (by decide) ?_
  refine g_iload3 dJ2_copyOfRangeByte_9 ?_
  refine g_newb T q224 (nI_pos (by omega)) (nI_clamp (by omega)) (by show _ * 1 ≤ _; omega) (Nat.le_of_ble_eq_true rfl) (by show 0 + m ≤ 142; omega) dJ2_copyOfRangeByte_10 (fun q_10 f_10 => ?_)
  have ha2 := g_upf (z := (T, gABn E m (fun _ => 0))) ha f_10
  change V _ _ _ _ _ _ _ (g_up _ q_10 (T, gABn E m (fun _ => 0))) _ _ _ _ _
  refine V.wide (k' := 1) (n' := 142) (by decide) (by show 0 + _ ≤ 142; omega) ?_
  first | refine g_astore4 dJ2_copyOfRangeByte_12 (by decide) ?_ | refine g_astoreQ4 dJ2_copyOfRangeByte_12 (by decide) ?_ | refine g_astoreN4 dJ2_copyOfRangeByte_12 (by decide) ?_
  first | refine g_aload0 dJ2_copyOfRangeByte_14 ?_ | refine g_aloadQ0 dJ2_copyOfRangeByte_14 ?_ | refine g_aloadN0 dJ2_copyOfRangeByte_14 ?_
  refine g_iload1 dJ2_copyOfRangeByte_15 ?_
  first | refine g_aload4 dJ2_copyOfRangeByte_16 ?_ | refine g_aloadQ4 dJ2_copyOfRangeByte_16 ?_ | refine g_aloadN4 dJ2_copyOfRangeByte_16 ?_
  refine g_iconst (nI 0) dJ2_copyOfRangeByte_18 (by decide) ?_
  first | refine g_aload0 dJ2_copyOfRangeByte_19 ?_ | refine g_aloadQ0 dJ2_copyOfRangeByte_19 ?_ | refine g_aloadN0 dJ2_copyOfRangeByte_19 ?_
  refine g_alen (by first | assumption | exact g_up_self _ _ _ | (refine g_upf ?_ ?_ <;> assumption) | (refine g_upt ?_ ?_ (by decide) <;> assumption)) (by first | exact Or.inl ⟨_, rfl⟩ | exact Or.inr (Or.inr (Or.inl ⟨_, rfl⟩)) | exact Or.inr (Or.inr (Or.inr (Or.inl ⟨_, rfl⟩))) | exact Or.inr (Or.inr (Or.inr (Or.inr (Or.inr ⟨_, _, by decide, by decide, rfl⟩))))) rfl dJ2_copyOfRangeByte_20 ?_
  rw [show Int32.ofNat N = nI N from rfl]
  refine g_iload1 dJ2_copyOfRangeByte_21 ?_
  first | refine g_isubN dJ2_copyOfRangeByte_22 (by omega) ?_ | refine g_isub dJ2_copyOfRangeByte_22 ?_
  refine g_iload3 dJ2_copyOfRangeByte_23 ?_
  refine g_callS (ctJ13_min _ _ (by omega) (by omega)) kJ13_min q280 (by decide) ⟨Nat.le_of_ble_eq_true rfl, Nat.le_of_ble_eq_true rfl⟩ rfl (Nat.le_of_ble_eq_true rfl) dJ2_copyOfRangeByte_24 k_x (k_n (fun r_24 h_24 p_24 => ?_))
  obtain ⟨rfl, rfl⟩ := p_24
  refine g_copyI (j := 3) (ty := .byte) (G := fun _ => 0) (sp := 0) (dp := 0) (m := min (N - 0) (m - 0)) ⟨q283, q285, q284, q83⟩ ha2 (g_up_self _ _ _) rfl rfl (fun i hi => fit_b _ (hF _)) (by omega) (by omega) ⟨by omega, by omega⟩ (Nat.le_of_ble_eq_true rfl) (Nat.le_of_ble_eq_true rfl) dJ2_copyOfRangeByte_27 ?_
  rw [g_upup]
  first | refine g_aload4 dJ2_copyOfRangeByte_30 ?_ | refine g_aloadQ4 dJ2_copyOfRangeByte_30 ?_ | refine g_aloadN4 dJ2_copyOfRangeByte_30 ?_
  exact g_aret dJ2_copyOfRangeByte_32 rfl (Or.inr ⟨_, rfl⟩) ⟨_, rfl, f_10, _, rfl, fun i hi hi2 => (show cpN _ _ 0 0 (min (N - 0) (m - 0)) i = _ by rw [Nat.min_eq_right (by omega)]; exact cpB_all i (by omega)), cpN_lt hF (fun _ => by decide)⟩
abbrev mJ2_copyOfRange : GM := (yJ2_copyOfRange, 3, (some (.array .byte)), [], { frames := 2, cells := 1, slots := 142, locals := 84 }, 255)
theorem kJ2_copyOfRange : gCs cJ2_copyOfRange mJ2_copyOfRange 3 := ⟨q413, q71, q414, ⟨by decide +kernel, by decide +kernel, by decide +kernel⟩, rfl⟩
set_option maxHeartbeats 400000 in
theorem ctJ2_copyOfRange {E : GE} {h : AH} {t N a : Nat} {F : Nat → Nat} (T m : Nat) (ha : h a = some (t, gABn E N F)) (hF : ∀ j, F j < 128) (hm2 : m ≤ 142) (hN2 : N ≤ 142) (hm : m ≤ N) : Ct E cJ2_copyOfRange mJ2_copyOfRange [.ref a, .int (nI 0), .int (nI m)] (h) (pR fun r h' => h r = none ∧ ∃ G, h' = g_up h r (T, gABn E m G) ∧ (∀ j, j < N → j < m → G j = F j) ∧ ∀ j, G j < 128) (noX) := by
  refine g_enter (own := "java/util/Arrays") [some (.ref a), some (.int (nI 0)), some (.int (nI m))] (by decide +kernel) rfl rfl (Nat.le_of_ble_eq_true rfl) rfl rfl (fun X => ?_)
  rcases Nat.lt_or_eq_of_le hm with hm | rfl
  · skip
    refine g_iload1 dJ2_copyOfRange_0 ?_
    first | refine g_ifN_ne (tgt := 10) dJ2_copyOfRange_1 (by decide) (by omega) (fun c_1 => ?_) (fun c_1 => ?_) | refine g_if_ne (tgt := 10) dJ2_copyOfRange_1 (by decide) (fun c_1 => ?_) (fun c_1 => ?_)
    · omega
    · refine g_iload2 dJ2_copyOfRange_4 ?_
      first | refine g_aload0 dJ2_copyOfRange_5 ?_ | refine g_aloadQ0 dJ2_copyOfRange_5 ?_ | refine g_aloadN0 dJ2_copyOfRange_5 ?_
      refine g_alen (by first | assumption | exact g_up_self _ _ _ | (refine g_upf ?_ ?_ <;> assumption) | (refine g_upt ?_ ?_ (by decide) <;> assumption)) (by first | exact Or.inl ⟨_, rfl⟩ | exact Or.inr (Or.inr (Or.inl ⟨_, rfl⟩)) | exact Or.inr (Or.inr (Or.inr (Or.inl ⟨_, rfl⟩))) | exact Or.inr (Or.inr (Or.inr (Or.inr (Or.inr ⟨_, _, by decide, by decide, rfl⟩))))) rfl dJ2_copyOfRange_6 ?_
      rw [show Int32.ofNat N = nI N from rfl]
      first | refine g_icmpN_eq (tgt := 17) dJ2_copyOfRange_7 (by decide) (by omega) (by omega) (fun c_7 => ?_) (fun c_7 => ?_) | refine g_icmpU_eq (tgt := 17) dJ2_copyOfRange_7 (by decide) (by omega) (by omega) (fun c_7 => ?_) (fun c_7 => ?_) | refine g_icmp_eq (tgt := 17) dJ2_copyOfRange_7 (by decide) (fun c_7 => ?_) (fun c_7 => ?_)
      · omega
      · first | refine g_aload0 dJ2_copyOfRange_10 ?_ | refine g_aloadQ0 dJ2_copyOfRange_10 ?_ | refine g_aloadN0 dJ2_copyOfRange_10 ?_
        refine g_iload1 dJ2_copyOfRange_11 ?_
        refine g_iload2 dJ2_copyOfRange_12 ?_
        refine g_callS (ctJ2_copyOfRangeByte T _ (by assumption) (by assumption) (by omega) (by omega) (by omega)) kJ2_copyOfRangeByte q415 (by decide) ⟨Nat.le_of_ble_eq_true rfl, Nat.le_of_ble_eq_true rfl⟩ rfl (Nat.le_of_ble_eq_true rfl) dJ2_copyOfRange_13 k_x (k_r (fun r_13 h_13 p_13 => ?_))
        obtain ⟨e_13, G_13, z_13, w_13, v_13⟩ := p_13
        rw [z_13]
        exact g_aret dJ2_copyOfRange_16 rfl (Or.inr ⟨_, rfl⟩) ⟨_, rfl, e_13, _, rfl, w_13, v_13⟩
  · skip
    refine g_iload1 dJ2_copyOfRange_0 ?_
    first | refine g_ifN_ne (tgt := 10) dJ2_copyOfRange_1 (by decide) (by omega) (fun c_1 => ?_) (fun c_1 => ?_) | refine g_if_ne (tgt := 10) dJ2_copyOfRange_1 (by decide) (fun c_1 => ?_) (fun c_1 => ?_)
    · omega
    · refine g_iload2 dJ2_copyOfRange_4 ?_
      first | refine g_aload0 dJ2_copyOfRange_5 ?_ | refine g_aloadQ0 dJ2_copyOfRange_5 ?_ | refine g_aloadN0 dJ2_copyOfRange_5 ?_
      refine g_alen (by first | assumption | exact g_up_self _ _ _ | (refine g_upf ?_ ?_ <;> assumption) | (refine g_upt ?_ ?_ (by decide) <;> assumption)) (by first | exact Or.inl ⟨_, rfl⟩ | exact Or.inr (Or.inr (Or.inl ⟨_, rfl⟩)) | exact Or.inr (Or.inr (Or.inr (Or.inl ⟨_, rfl⟩))) | exact Or.inr (Or.inr (Or.inr (Or.inr (Or.inr ⟨_, _, by decide, by decide, rfl⟩))))) rfl dJ2_copyOfRange_6 ?_
      rw [show Int32.ofNat _ = nI _ from rfl]
      first | refine g_icmpN_eq (tgt := 17) dJ2_copyOfRange_7 (by decide) (by omega) (by omega) (fun c_7 => ?_) (fun c_7 => ?_) | refine g_icmpU_eq (tgt := 17) dJ2_copyOfRange_7 (by decide) (by omega) (by omega) (fun c_7 => ?_) (fun c_7 => ?_) | refine g_icmp_eq (tgt := 17) dJ2_copyOfRange_7 (by decide) (fun c_7 => ?_) (fun c_7 => ?_)
      · first | refine g_aload0 dJ2_copyOfRange_17 ?_ | refine g_aloadQ0 dJ2_copyOfRange_17 ?_ | refine g_aloadN0 dJ2_copyOfRange_17 ?_
        refine g_cloneB T (t := t) (f := fun j => nI (F j)) ha (fun i hi => fit_b _ (hF _)) q273 q274 q275 q276 q277 q278 (Nat.le_of_ble_eq_true rfl) (Nat.le_of_ble_eq_true rfl) (Nat.le_of_ble_eq_true rfl) (by show _ + _ ≤ 142; omega) dJ2_copyOfRange_18 (fun q_18 f_18 => ?_)
        refine V.wide (k' := 1) (n' := 142) (by decide) (by show 0 + _ ≤ 142; omega) ?_
        refine g_ckA (j := 3) (ty := .byte) (nm := "[B") (g_up_self _ _ _) rfl (fun s h => va_nm_byte h) q279 dJ2_copyOfRange_21 ?_
        exact g_aret dJ2_copyOfRange_24 rfl (Or.inr ⟨_, rfl⟩) ⟨_, rfl, f_18, F, rfl, fun _ _ _ => rfl, hF⟩
      · omega
