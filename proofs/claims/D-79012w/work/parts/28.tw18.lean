/-! FLOATS: the bits of a double and of a float; the twin: powers and health -/
set_option maxRecDepth 100000
section
variable {E : GE} {cc : ByteArray} {own : String} {M : GM} {Po : Option Value → AH → Prop} {Px : String → Nat → AH → Prop} {X : GX} {h : AH} {k n pc : Nat} {ls : List (Option Value)} {st : List Value}
theorem g_d2l {index : Nat} {b : UInt64} (q1 : Cond.methodLink own index ⟨"java/lang/Double", "doubleToRawLongBits", "(D)J"⟩ ∈ lw_all) (q2 : Cond.native ⟨"java/lang/Double", "doubleToRawLongBits", "(D)J"⟩ ∈ lw_all) (q3 : Cond.static ⟨"java/lang/Double", "doubleToRawLongBits", "(D)J"⟩ ∈ lw_all) (q4 : Cond.initialized "java/lang/Double" ∈ lw_all) (hf : 1 ≤ M.rm.frames) (hlo : (st.map fun v => v.category).sum + 15 ≤ M.rm.locals) (d : decode cc pc = .ok (.invokestatic index, 3)) (kk : V E cc own M Po Px X h k n (pc + 3) ls (.long b.toInt64 :: st)) : V E cc own M Po Px X h k n pc ls (.double b :: st) := fun O H locs la hI hS hl hL => vn_d2l O.hx O.hb (O.hml.trans hl.1.symm) O.hown (O.hts _ q1) (O.hts _ q2) (O.hts _ q3) (O.hts _ q4) hf hlo d (kk O H locs la hI hS hl hL)
theorem g_f2i {index : Nat} {b : UInt32} (q1 : Cond.methodLink own index ⟨"java/lang/Float", "floatToRawIntBits", "(F)I"⟩ ∈ lw_all) (q2 : Cond.native ⟨"java/lang/Float", "floatToRawIntBits", "(F)I"⟩ ∈ lw_all) (q3 : Cond.static ⟨"java/lang/Float", "floatToRawIntBits", "(F)I"⟩ ∈ lw_all) (q4 : Cond.initialized "java/lang/Float" ∈ lw_all) (hf : 1 ≤ M.rm.frames) (hlo : (st.map fun v => v.category).sum + 15 ≤ M.rm.locals) (d : decode cc pc = .ok (.invokestatic index, 3)) (kk : V E cc own M Po Px X h k n (pc + 3) ls (.int b.toInt32 :: st)) : V E cc own M Po Px X h k n pc ls (.float b :: st) := fun O H locs la hI hS hl hL => vn_f2i O.hx O.hb (O.hml.trans hl.1.symm) O.hown (O.hts _ q1) (O.hts _ q2) (O.hts _ q3) (O.hts _ q4) hf hlo d (kk O H locs la hI hS hl hL)
end
theorem f_nI (b : UInt32) : b.toInt32 = nI b.toNat := by
  apply Int32.toBitVec_inj.mp
  show b.toBitVec = BitVec.ofNat 32 b.toNat
  apply BitVec.eq_of_toNat_eq
  rw [BitVec.toNat_ofNat, Nat.mod_eq_of_lt (show b.toNat < 2 ^ 32 from b.toBitVec.isLt)]
  rfl
/-- a method of a class some of whose methods are run by rows of their own: it is none of these -/
theorem vx_ofWF {l : Launch} {y : MethodName} {ws ws' : List Cond} {rm : Room} {Pc : Array Value → State → Prop} {Qc : Array Value → State → Outcome → State → Prop} {XC : String → Addr → State → State → Prop} {mc ms : Nat} {free : Addr → Prop} {cc : ByteArray} {maxL : Nat} {ret : Option FieldType}
    (hy : plainFor y = true) (hw : ws = Cond.code y cc maxL ret :: ws')
    (body : ∀ p e s m args below meth c s₁, BodyLoose p l y (headSpec ws rm) cc maxL ret e s m args below meth c s₁ → c.maxLocals = maxL → (∀ x ∈ c.exceptionTable.toList, False) → Pc args s →
      W p l e (headSpec ws rm).room s m args below meth c s.heap [] 0 0 (vx_MQ below Qc XC args s mc ms free) (entryFrame m args maxL)) : vx_Met l y ws rm Pc Qc XC mc ms free := by
  refine Jvm.Free.MetFree.of_bodySF (code := cc) (maxLocals := maxL) (ret := ret) hy ?_ ?_
  · intro args s m h hn
    obtain ⟨meth, c, h1, h2, h3, h4, h5, h6, -, -⟩ := Cond.code_spec hn (atoms_spec (ws := ws) h _ (by rw [hw]; exact List.mem_cons_self))
    exact ⟨meth, c, h1, h2, h3, h4, h5, h6⟩
  · intro p e s m args below meth c s₁ B hml hP _
    have hh0 : s₁.heap = s.heap := by rw [B.state]; rfl
    have ht : ∀ x ∈ c.exceptionTable.toList, False := by
      obtain ⟨meth9, c9, h1, h2, -, -, -, -, h7, -⟩ := Cond.code_spec B.named (atoms_spec (ws := ws) B.pre _ (by rw [hw]; exact List.mem_cons_self))
      cases Option.some.inj (h1.symm.trans B.method)
      cases Option.some.inj (h2.symm.trans (Stand.of_body B).code)
      intro x hx
      rw [Array.isEmpty_iff.mp h7] at hx
      cases hx
    obtain ⟨t, a1, o, b1, b2, b3⟩ := body p e s m args below meth c s₁ B hml ht hP s₁ hh0 (Stand.of_body B)
    exact ⟨t, o, a1, b1, b2, b3⟩
theorem g_enterF {own : String} {E : GE} {cc : ByteArray} {M : GM} {av : List Value} {h : AH} {Po : Option Value → AH → Prop} {Px : String → Nat → AH → Prop} (ls : List (Option Value)) (hy : plainFor M.y = true) (how : M.y.cls = own) (hh : M.hh = []) (hlen : (lg_sl av).length ≤ M.nL) (hl : gP 0 ls = lv_args 0 av) (hlL : ls.length = M.nL)
    (body : ∀ X : GX, V E cc own M Po Px X h 0 0 0 ls []) : Ct E cc M av h Po Px := by
  intro hE
  subst how
  refine vx_ofWF (cc := cc) (maxL := M.nL) (ret := M.ret) (ws' := lw_all) hy (by unfold gWs gWd; rw [hh]) ?_
  intro p e s m args below meth c s₁ B hml hnt hv
  obtain ⟨rfl, hW, hI⟩ := hv
  have hl0 := lv_entry av (n := M.nL) hlen
  rw [lg_entry_eq]
  generalize (lg_sl av ++ List.replicate (M.nL - (lg_sl av).length) Slot.unset).toArray = la at hl0 ⊢
  have hts := atoms_spec (ws := gWs cc M) B.pre
  refine body (p, e, s, m, av.toArray, below, meth, c) ⟨B.exec, B.bytes, B.returns, B.notSynchronized, hml, findClass_of_methodNamed B.named, fun w h => hts w (List.mem_cons_of_mem _ h), hW, (name_of_methodNamed B.named B.method).1, ?_, hI.1, hE⟩ s.heap [] la hI va_S.rf ⟨hl0.1, hl0.2.1, fun q hq => ?_⟩ hlL
  · rw [hh]
    cases hc : c.exceptionTable.toList with
    | nil => rfl
    | cons x r => exact absurd (hc ▸ List.mem_cons_self) (fun z => hnt x z)
  · obtain ⟨j, v⟩ := q
    obtain ⟨-, h2, -⟩ := gL_mem.mp hq
    exact hl0.2.2 _ (hl ▸ gP_mem (Nat.zero_le _) h2)
abbrev mJ28_isNaN : GM := (yJ28_isNaN, 2, (some .boolean), [], { frames := 0, cells := 0, slots := 0, locals := 0 }, 0)
theorem kJ28_isNaN : gCs cJ28_isNaN mJ28_isNaN 1 := ⟨q2019, q119, q2020, ⟨by decide +kernel, by decide +kernel, by decide +kernel⟩, rfl⟩
theorem ctJ28_isNaN {E : GE} {h : AH} (b : UInt64) (hb : Op.cmpValue (FP.dcmp b b) .l = 0) : Ct E cJ28_isNaN mJ28_isNaN [.double b] h (pN fun r h' => r = 0 ∧ h' = h) noX := by
  refine g_enterF (own := "java/lang/Double") [some (.double b), none] (by decide +kernel) rfl rfl (Nat.le_of_ble_eq_true rfl) rfl rfl (fun X => ?_)
  refine g_dload0 dJ28_isNaN_0 rfl ?_
  refine g_dload0 dJ28_isNaN_1 rfl ?_
  refine g_dcmp dJ28_isNaN_2 ?_
  first | refine g_ifN_eq (tgt := 10) dJ28_isNaN_3 (by decide) (by omega) (fun c_3 => ?_) (fun c_3 => ?_) | refine g_if_eq (tgt := 10) dJ28_isNaN_3 (by decide) (fun c_3 => ?_) (fun c_3 => ?_)
  · refine g_iconst (nI 0) dJ28_isNaN_10 (by decide) ?_
    exact g_zret dJ28_isNaN_11 rfl (nar_zb (by omega)) ⟨_, rfl, rfl, rfl⟩
  · exact absurd hb c_3
abbrev mJ30_isNaN : GM := (yJ30_isNaN, 1, (some .boolean), [], { frames := 0, cells := 0, slots := 0, locals := 0 }, 255)
theorem kJ30_isNaN : gCs cJ30_isNaN mJ30_isNaN 1 := ⟨q2055, q121, q2056, ⟨by decide +kernel, by decide +kernel, by decide +kernel⟩, rfl⟩
theorem ctJ30_isNaN {E : GE} {h : AH} (b : UInt32) (hb : Op.cmpValue (FP.fcmp b b) .l = 0) : Ct E cJ30_isNaN mJ30_isNaN [.float b] h (pN fun r h' => r = 0 ∧ h' = h) noX := by
  refine g_enterF (own := "java/lang/Float") [some (.float b)] (by decide +kernel) rfl rfl (Nat.le_of_ble_eq_true rfl) rfl rfl (fun X => ?_)
  refine g_fload0 dJ30_isNaN_0 ?_
  refine g_fload0 dJ30_isNaN_1 ?_
  refine g_fcmp dJ30_isNaN_2 ?_
  first | refine g_ifN_eq (tgt := 10) dJ30_isNaN_3 (by decide) (by omega) (fun c_3 => ?_) (fun c_3 => ?_) | refine g_if_eq (tgt := 10) dJ30_isNaN_3 (by decide) (fun c_3 => ?_) (fun c_3 => ?_)
  · refine g_iconst (nI 0) dJ30_isNaN_10 (by decide) ?_
    exact g_zret dJ30_isNaN_11 rfl (nar_zb (by omega)) ⟨_, rfl, rfl, rfl⟩
  · exact absurd hb c_3
abbrev mJ28_doubleToLongBits : GM := (yJ28_doubleToLongBits, 2, (some .long), [], { frames := 1, cells := 0, slots := 0, locals := 30 }, 0)
theorem kJ28_doubleToLongBits : gCs cJ28_doubleToLongBits mJ28_doubleToLongBits 1 := ⟨q2016, q119, q2017, ⟨by decide +kernel, by decide +kernel, by decide +kernel⟩, rfl⟩
theorem ctJ28_doubleToLongBits {E : GE} {h : AH} (b : UInt64) (hb : Op.cmpValue (FP.dcmp b b) .l = 0) : Ct E cJ28_doubleToLongBits mJ28_doubleToLongBits [.double b] h (pL fun r h' => r = b.toInt64 ∧ h' = h) noX := by
  refine g_enterF (own := "java/lang/Double") [some (.double b), none] (by decide +kernel) rfl rfl (Nat.le_of_ble_eq_true rfl) rfl rfl (fun X => ?_)
  refine g_dload0 dJ28_doubleToLongBits_0 rfl ?_
  refine g_S1n0 (ctJ28_isNaN _ hb) kJ28_isNaN q2018 (by decide) ⟨rfl, rfl⟩ ⟨Nat.zero_le _, Nat.zero_le _⟩ (Nat.le_of_ble_eq_true rfl) dJ28_doubleToLongBits_1 (fun r_1 h_1 p_1 => ?_)
  obtain ⟨rfl, rfl⟩ := p_1
  first | refine g_ifN_ne (tgt := 12) dJ28_doubleToLongBits_4 (by decide) (by omega) (fun c_4 => ?_) (fun c_4 => ?_) | refine g_if_ne (tgt := 12) dJ28_doubleToLongBits_4 (by decide) (fun c_4 => ?_) (fun c_4 => ?_)
  · omega
  · refine g_dload0 dJ28_doubleToLongBits_7 rfl ?_
    refine g_d2l q2021 q2023 q2022 q119 (by decide) (by decide) dJ28_doubleToLongBits_8 ?_
    exact g_lret dJ28_doubleToLongBits_11 rfl ⟨_, rfl, rfl, rfl⟩
abbrev mJ30_floatToIntBits : GM := (yJ30_floatToIntBits, 1, (some .int), [], { frames := 1, cells := 0, slots := 0, locals := 30 }, 255)
theorem kJ30_floatToIntBits : gCs cJ30_floatToIntBits mJ30_floatToIntBits 1 := ⟨q2052, q121, q2053, ⟨by decide +kernel, by decide +kernel, by decide +kernel⟩, rfl⟩
theorem ctJ30_floatToIntBits {E : GE} {h : AH} (b : UInt32) (hb : Op.cmpValue (FP.fcmp b b) .l = 0) : Ct E cJ30_floatToIntBits mJ30_floatToIntBits [.float b] h (pN fun r h' => r = b.toNat ∧ h' = h) noX := by
  refine g_enterF (own := "java/lang/Float") [some (.float b)] (by decide +kernel) rfl rfl (Nat.le_of_ble_eq_true rfl) rfl rfl (fun X => ?_)
  refine g_fload0 dJ30_floatToIntBits_0 ?_
  refine g_S1n0 (ctJ30_isNaN _ hb) kJ30_isNaN q2054 (by decide) ⟨rfl, rfl⟩ ⟨Nat.zero_le _, Nat.zero_le _⟩ (Nat.le_of_ble_eq_true rfl) dJ30_floatToIntBits_1 (fun r_1 h_1 p_1 => ?_)
  obtain ⟨rfl, rfl⟩ := p_1
  first | refine g_ifN_ne (tgt := 12) dJ30_floatToIntBits_4 (by decide) (by omega) (fun c_4 => ?_) (fun c_4 => ?_) | refine g_if_ne (tgt := 12) dJ30_floatToIntBits_4 (by decide) (fun c_4 => ?_) (fun c_4 => ?_)
  · omega
  · refine g_fload0 dJ30_floatToIntBits_7 ?_
    refine g_f2i q2057 q2059 q2058 q121 (by decide) (by decide) dJ30_floatToIntBits_8 ?_
    rw [f_nI]
    exact g_iret dJ30_floatToIntBits_11 rfl ⟨_, rfl, rfl, rfl⟩
def dvN (n : Nat) : UInt64 := FP.ddiv (FP.i2d (nI n)) 4638707616191610880
def fvN (a b : Nat) : UInt32 := FP.fdiv (FP.i2f (nI a)) (FP.i2f (nI b))
theorem dv_ok : ∀ n, n < 257 → vf_n64 (dvN n) ∧ Op.cmpValue (FP.dcmp (dvN n) (dvN n)) .l = 0 := by
  unfold vf_n64
  decide +kernel
theorem fv_ok : ∀ b, b < 25 → ∀ a, a < 25 → b ≠ 0 → vf_n32 (fvN a b) ∧ Op.cmpValue (FP.fcmp (fvN a b) (fvN a b)) .l = 0 := by
  unfold vf_n32
  decide +kernel
theorem cnF_le (g : Nat → Nat) (s st x : Nat) : cnF g s st x ≤ x := by
  induction x with
  | zero => exact Nat.le_refl _
  | succ x ih =>
    rw [cnF]
    split <;> omega
/-- how often a member decides, among the first i sets -/
def pwN (g : Nat → Nat) (s m : Nat) : Nat → Nat
  | 0 => 0
  | i + 1 => pwN g s m i + (if i / 2 ^ m % 2 = 1 ∧ opF g s i ∧ ¬ opF g s (clB i m) then 1 else 0)
theorem pwN_le (g : Nat → Nat) (s m i : Nat) : pwN g s m i ≤ i := by
  induction i with
  | zero => exact Nat.le_refl _
  | succ i ih =>
    rw [pwN]
    split <;> omega
/-- how an operation of the twin ends that answers a long -/
def tEndL (E : GE) (A : Nat → Nat) (h : AH) (code : Nat) (val : Int64) (xm : TW) (r : Int64) (h' : AH) : Prop := ∃ M', h' = twO E A M' h ∧ M' 0 0 = code ∧ (code = 0 → r = val) ∧ tSame xm M'
abbrev mX3_healthBits : GM := (yX3_healthBits, 4, (some .int), [], { frames := 4, cells := 0, slots := 0, locals := 94 }, 255)
theorem kX3_healthBits : gCv cX3_healthBits mX3_healthBits 1 := ⟨q2505, q2506, q90, q2507, ⟨by decide +kernel, by decide +kernel, by decide +kernel⟩, rfl⟩
def xc_healthBits (M : TW) (s : Nat) : Nat := if ¬ s ≤ 3 then 1 else if gOf (M 1) s 0 = 0 then 2 else if cnF (M 1) s 4294967295 24 = 0 then 3 else 0
def xv_healthBits (M : TW) (s : Nat) : Nat := (fvN (cnF (M 1) s 0 24) (cnF (M 1) s 4294967295 24)).toNat
def xm_healthBits (M : TW) (s : Nat) : TW := M
set_option maxHeartbeats 400000 in
theorem ctX3_healthBits {E : GE} {h : AH} {A : Nat → Nat} (hA : twA A) (M : TW) (s : Nat) (hW : tWF M) (hs : s < 4294967296) : Ct E cX3_healthBits mX3_healthBits [.ref (A 0), .int (nI s)] (twO E A M h) (pN fun r h' => tEnd E A h (xc_healthBits M s ) (xv_healthBits M s ) (xm_healthBits M s ) r h') noX := by
  refine g_enter (own := "SecretVaultModel") [some (.ref (A 0)), some (.int (nI s)), none, none] (by decide +kernel) rfl rfl (Nat.le_of_ble_eq_true rfl) rfl rfl (fun X => ?_)
  have hB := hW.1
  have hc1 := cnF_le (M 1) s 4294967295 24
  have hc2 := cnF_le (M 1) s 0 24
  first | refine g_aload0 dX3_healthBits_0 ?_ | refine g_aloadQ0 dX3_healthBits_0 ?_ | refine g_aloadN0 dX3_healthBits_0 ?_
  refine g_iload1 dX3_healthBits_1 ?_
  refine g_V1n0 (ctX3_lacks hA _ _ hB (by omega)) kX3_lacks q2277 tw_0 rfl rfl (by decide) ⟨rfl, rfl⟩ ⟨Nat.zero_le _, Nat.zero_le _⟩ (Nat.le_of_ble_eq_true rfl) dX3_healthBits_2 (fun r_2 h_2 p_2 => ?_)
  obtain ⟨hi_2, rfl⟩ := p_2
  refine g_istore2 dX3_healthBits_5 (by decide) ?_
  refine g_iload2 dX3_healthBits_6 ?_
  first | refine g_ifN_eq (tgt := 16) dX3_healthBits_7 (by decide) (by first | omega | exact hB _ _ | (split <;> omega)) (fun c_7 => ?_) (fun c_7 => ?_) | refine g_if_eq (tgt := 16) dX3_healthBits_7 (by decide) (fun c_7 => ?_) (fun c_7 => ?_)
  · have hS := (hW.2.2.2.2 s (by omega)).P
    first | refine g_aload0 dX3_healthBits_16 ?_ | refine g_aloadQ0 dX3_healthBits_16 ?_ | refine g_aloadN0 dX3_healthBits_16 ?_
    refine g_iload1 dX3_healthBits_17 ?_
    refine g_iconst (nI 4294967295) dX3_healthBits_18 (by decide) ?_
    refine g_V2n0 (ctX3_count hA _ _ _ hB (by omega) (by decide) hS) kX3_count q2374 tw_0 rfl rfl (by decide) ⟨rfl, rfl⟩ ⟨Nat.zero_le _, Nat.zero_le _⟩ (Nat.le_of_ble_eq_true rfl) dX3_healthBits_19 (fun r_19 h_19 p_19 => ?_)
    obtain ⟨rfl, rfl⟩ := p_19
    refine g_istore3 dX3_healthBits_22 (by decide) ?_
    refine g_iload3 dX3_healthBits_23 ?_
    first | refine g_ifN_ne (tgt := 35) dX3_healthBits_24 (by decide) (by first | omega | exact hB _ _ | (split <;> omega)) (fun c_24 => ?_) (fun c_24 => ?_) | refine g_if_ne (tgt := 35) dX3_healthBits_24 (by decide) (fun c_24 => ?_) (fun c_24 => ?_)
    · have hok := fv_ok (cnF (M 1) s 4294967295 24) (by omega) (cnF (M 1) s 0 24) (by omega) c_24
      obtain ⟨hvf, hcd⟩ := hok
      unfold fvN at hvf hcd
      first | refine g_aload0 dX3_healthBits_35 ?_ | refine g_aloadQ0 dX3_healthBits_35 ?_ | refine g_aloadN0 dX3_healthBits_35 ?_
      first | refine g_aload0 dX3_healthBits_36 ?_ | refine g_aloadQ0 dX3_healthBits_36 ?_ | refine g_aloadN0 dX3_healthBits_36 ?_
      refine g_iload1 dX3_healthBits_37 ?_
      refine g_iconst (nI 0) dX3_healthBits_38 (by decide) ?_
      refine g_V2n0 (ctX3_count hA _ _ _ hB (by omega) (by decide) hS) kX3_count q2374 tw_0 rfl rfl (by decide) ⟨rfl, rfl⟩ ⟨Nat.zero_le _, Nat.zero_le _⟩ (Nat.le_of_ble_eq_true rfl) dX3_healthBits_39 (fun r_39 h_39 p_39 => ?_)
      obtain ⟨rfl, rfl⟩ := p_39
      refine g_i2f dX3_healthBits_42 ?_
      refine g_iload3 dX3_healthBits_43 ?_
      refine g_i2f dX3_healthBits_44 ?_
      refine g_fdiv dX3_healthBits_45 (by assumption) ?_
      refine g_S1n0 (ctJ30_floatToIntBits _ hcd) kJ30_floatToIntBits q2508 (by decide) ⟨rfl, rfl⟩ ⟨Nat.zero_le _, Nat.zero_le _⟩ (Nat.le_of_ble_eq_true rfl) dX3_healthBits_46 (fun r_46 h_46 p_46 => ?_)
      obtain ⟨rfl, rfl⟩ := p_46
      refine g_V1n0 (ctX3_done hA _ _) kX3_done q2173 tw_0 rfl rfl (by decide) ⟨rfl, rfl⟩ ⟨Nat.zero_le _, Nat.zero_le _⟩ (Nat.le_of_ble_eq_true rfl) dX3_healthBits_49 (fun r_49 h_49 p_49 => ?_)
      obtain ⟨rfl, rfl⟩ := p_49
      exact g_iret dX3_healthBits_52 rfl ⟨_, rfl, (by first | exact t_fails (by unfold xc_healthBits; (repeat' split) <;> omega) (by omega) (by unfold xm_healthBits; exact tSame.rf) | exact t_done (by unfold xc_healthBits; (repeat' split) <;> omega) rfl (by unfold xm_healthBits; exact tSame.rf))⟩
    · first | refine g_aload0 dX3_healthBits_27 ?_ | refine g_aloadQ0 dX3_healthBits_27 ?_ | refine g_aloadN0 dX3_healthBits_27 ?_
      refine g_iconst (nI 3) dX3_healthBits_28 (by decide) ?_
      refine g_V1n0 (ctX3_fails hA _ _) kX3_fails q2196 tw_0 rfl rfl (by decide) ⟨rfl, rfl⟩ ⟨Nat.zero_le _, Nat.zero_le _⟩ (Nat.le_of_ble_eq_true rfl) dX3_healthBits_29 (fun r_29 h_29 p_29 => ?_)
      obtain ⟨rfl, rfl⟩ := p_29
      refine g_goto (tgt := 52) dX3_healthBits_32 (by decide) ?_
      exact g_iret dX3_healthBits_52 rfl ⟨_, rfl, (by first | exact t_fails (by unfold xc_healthBits; (repeat' split) <;> omega) (by omega) (by unfold xm_healthBits; exact tSame.rf) | exact t_done (by unfold xc_healthBits; (repeat' split) <;> omega) rfl (by unfold xm_healthBits; exact tSame.rf))⟩
  · first | refine g_aload0 dX3_healthBits_10 ?_ | refine g_aloadQ0 dX3_healthBits_10 ?_ | refine g_aloadN0 dX3_healthBits_10 ?_
    refine g_iload2 dX3_healthBits_11 ?_
    refine g_V1n0 (ctX3_fails hA _ _) kX3_fails q2196 tw_0 rfl rfl (by decide) ⟨rfl, rfl⟩ ⟨Nat.zero_le _, Nat.zero_le _⟩ (Nat.le_of_ble_eq_true rfl) dX3_healthBits_12 (fun r_12 h_12 p_12 => ?_)
    obtain ⟨rfl, rfl⟩ := p_12
    exact g_iret dX3_healthBits_15 rfl ⟨_, rfl, (by first | exact t_fails (by unfold xc_healthBits; (repeat' split) <;> omega) (by omega) (by unfold xm_healthBits; exact tSame.rf) | exact t_done (by unfold xc_healthBits; (repeat' split) <;> omega) rfl (by unfold xm_healthBits; exact tSame.rf))⟩
abbrev mX3_powerBits : GM := (yX3_powerBits, 5, (some .long), [], { frames := 48, cells := 0, slots := 0, locals := 2675 }, 255)
theorem kX3_powerBits : gCv cX3_powerBits mX3_powerBits 2 := ⟨q2499, q2500, q90, q2501, ⟨by decide +kernel, by decide +kernel, by decide +kernel⟩, rfl⟩
def xc_powerBits (M : TW) (s m : Nat) : Nat := if ¬ s ≤ 3 ∨ ¬ m ≤ 7 then 1 else if gOf (M 1) s 0 = 0 then 2 else 0
def xv_powerBits (M : TW) (s m : Nat) : Int64 := (dvN (pwN (M 1) s m 256)).toInt64
theorem ctX3_opensZ {E : GE} {h : AH} {A : Nat → Nat} (hA : twA A) (M M' : TW) (s mem : Nat) (hI : tSame M M') (hc0 : M' 0 0 = 0) (hB' : twB M') (hs : s < 4) (hm : mem < 2147483648) (hS : slP (M 1) s) (hP : plW (M 1) s) : Ct E cX3_opens mX3_opens [.ref (A 0), .int (nI s), .int (nI mem)] (twO E A M' h) (pN fun r h' => r < 2 ∧ (r = 1 ↔ opF (M 1) s mem) ∧ ∃ M2, h' = twO E A M2 h ∧ tSame M M2 ∧ twB M2 ∧ M2 0 0 = 0) noX := by
  have e : M' 1 = M 1 := hI.1
  refine (ctX3_opens hA M' s mem hB' hs hm (by rw [e]; exact hS) (by rw [e]; exact hP)).impN (fun r h' z => ?_)
  obtain ⟨z1, z2, rfl⟩ := z
  rw [e] at z2
  exact ⟨z1, z2, _, rfl, hI.tr (tNd_same _ _), twB_op hB', hc0⟩
set_option maxHeartbeats 400000 in
theorem ctX3_powerBits {E : GE} {h : AH} {A : Nat → Nat} (hA : twA A) (M : TW) (s m : Nat) (hW : tWF M) (hWp : ∀ s, s < 4 → plW (M 1) s)  (hs : s < 4294967296) (hm : m < 4294967296) : Ct E cX3_powerBits mX3_powerBits [.ref (A 0), .int (nI s), .int (nI m)] (twO E A M h) (pL fun r h' => tEndL E A h (xc_powerBits M s m) (xv_powerBits M s m) M r h') noX := by
  refine g_enter (own := "SecretVaultModel") [some (.ref (A 0)), some (.int (nI s)), some (.int (nI m)), none, none] (by decide +kernel) rfl rfl (Nat.le_of_ble_eq_true rfl) rfl rfl (fun X => ?_)
  have hB := hW.1
  have L : ∀ i, 0 ≤ i → i ≤ 256 → s ≤ 3 → m ≤ 7 → ¬ gOf (M 1) s 0 = 0 → ∀ (M' : TW), tSame M M' → M' 0 0 = 0 → twB M' → V E cX3_powerBits "SecretVaultModel" mX3_powerBits (pL fun r h' => tEndL E A h (xc_powerBits M s m) (xv_powerBits M s m) M r h') noX X (twO E A M' h) 0 0 50 [some (.ref (A 0)), some (.int (nI (s))), some (.int (nI (m))), some (.int (nI (pwN (M 1) s m i))), some (.int (nI (i)))] [] := by
    intro i h00 h01 hs3 hm7 hh
    have hS := (hW.2.2.2.2 s (by omega)).P
    have hP := hWp s (by omega)
    refine g_for (fun i => ∀ (M' : TW), tSame M M' → M' 0 0 = 0 → twB M' → V E cX3_powerBits "SecretVaultModel" mX3_powerBits (pL fun r h' => tEndL E A h (xc_powerBits M s m) (xv_powerBits M s m) M r h') noX X (twO E A M' h) 0 0 50 [some (.ref (A 0)), some (.int (nI (s))), some (.int (nI (m))), some (.int (nI (pwN (M 1) s m i))), some (.int (nI (i)))] []) 0 256 ?_ ?_ i h00 h01
    · intro M' hI h0 hB1
      have hpw := pwN_le (M 1) s m 256
      obtain ⟨hvf, hcd⟩ := dv_ok (pwN (M 1) s m 256) (by omega)
      unfold dvN at hvf hcd
      refine g_iload4 dX3_powerBits_50 ?_
      refine g_sipush (nI 256) dX3_powerBits_52 (by decide) ?_
      first | refine g_icmpN_ge (tgt := 108) dX3_powerBits_55 (by decide) (by omega) (by omega) (fun c_55 => ?_) (fun c_55 => ?_) | refine g_icmp_ge (tgt := 108) dX3_powerBits_55 (by decide) (fun c_55 => ?_) (fun c_55 => ?_)
      · refine g_iload3 dX3_powerBits_108 ?_
        refine g_i2d dX3_powerBits_109 ?_
        refine g_ldc2d _ dX3_powerBits_110 q2502 ?_
        refine g_ddiv dX3_powerBits_113 (by assumption) ?_
        refine g_S1l0 (ctJ28_doubleToLongBits _ hcd) kJ28_doubleToLongBits q2503 (by decide) ⟨rfl, rfl⟩ ⟨Nat.zero_le _, Nat.zero_le _⟩ (Nat.le_of_ble_eq_true rfl) dX3_powerBits_114 (fun r_114 h_114 p_114 => ?_)
        obtain ⟨rfl, rfl⟩ := p_114
        exact g_lret dX3_powerBits_117 rfl ⟨_, rfl, _, rfl, by rw [h0]; unfold xc_powerBits; (repeat' split) <;> omega, fun _ => rfl, hI⟩
      · omega
    · intro i h0 hi ih M' hI hc0 hB1
      have hgn := pwN_le (M 1) s m i
      have hcl := clB_le i m
      refine g_iload4 dX3_powerBits_50 ?_
      refine g_sipush (nI 256) dX3_powerBits_52 (by decide) ?_
      first | refine g_icmpN_ge (tgt := 108) dX3_powerBits_55 (by decide) (by first | omega | exact Nat.lt_of_le_of_lt (Nat.div_le_self _ _) (by omega) | exact Nat.lt_of_le_of_lt (clB_le _ _) (by omega) | (have := Nat.pow_lt_pow_right (a := 2) (by decide) (show m < 8 by omega); omega)) (by first | omega | exact Nat.lt_of_le_of_lt (Nat.div_le_self _ _) (by omega) | exact Nat.lt_of_le_of_lt (clB_le _ _) (by omega) | (have := Nat.pow_lt_pow_right (a := 2) (by decide) (show m < 8 by omega); omega)) (fun c_55 => ?_) (fun c_55 => ?_) | refine g_icmp_ge (tgt := 108) dX3_powerBits_55 (by decide) (fun c_55 => ?_) (fun c_55 => ?_)
      · omega
      · refine g_iload3 dX3_powerBits_58 ?_
        refine g_iload4 dX3_powerBits_59 ?_
        refine g_iload2 dX3_powerBits_61 ?_
        refine g_ishrN dX3_powerBits_62 (by first | omega | exact Nat.lt_of_le_of_lt (Nat.div_le_self _ _) (by omega) | exact Nat.lt_of_le_of_lt (clB_le _ _) (by omega) | (have := Nat.pow_lt_pow_right (a := 2) (by decide) (show m < 8 by omega); omega)) (by first | omega | exact Nat.lt_of_le_of_lt (Nat.div_le_self _ _) (by omega) | exact Nat.lt_of_le_of_lt (clB_le _ _) (by omega) | (have := Nat.pow_lt_pow_right (a := 2) (by decide) (show m < 8 by omega); omega)) ?_
        refine g_iconst (nI 1) dX3_powerBits_63 (by decide) ?_
        refine g_iand1 dX3_powerBits_64 (by first | omega | exact Nat.lt_of_le_of_lt (Nat.div_le_self _ _) (by omega) | exact Nat.lt_of_le_of_lt (clB_le _ _) (by omega) | (have := Nat.pow_lt_pow_right (a := 2) (by decide) (show m < 8 by omega); omega)) ?_
        refine g_iconst (nI 1) dX3_powerBits_65 (by decide) ?_
        first | refine g_icmpN_ne (tgt := 99) dX3_powerBits_66 (by decide) (by first | omega | exact Nat.lt_of_le_of_lt (Nat.div_le_self _ _) (by omega) | exact Nat.lt_of_le_of_lt (clB_le _ _) (by omega) | (have := Nat.pow_lt_pow_right (a := 2) (by decide) (show m < 8 by omega); omega)) (by first | omega | exact Nat.lt_of_le_of_lt (Nat.div_le_self _ _) (by omega) | exact Nat.lt_of_le_of_lt (clB_le _ _) (by omega) | (have := Nat.pow_lt_pow_right (a := 2) (by decide) (show m < 8 by omega); omega)) (fun c_66 => ?_) (fun c_66 => ?_) | refine g_icmpU_ne (tgt := 99) dX3_powerBits_66 (by decide) (by first | omega | exact Nat.lt_of_le_of_lt (Nat.div_le_self _ _) (by omega) | exact Nat.lt_of_le_of_lt (clB_le _ _) (by omega) | (have := Nat.pow_lt_pow_right (a := 2) (by decide) (show m < 8 by omega); omega)) (by first | omega | exact Nat.lt_of_le_of_lt (Nat.div_le_self _ _) (by omega) | exact Nat.lt_of_le_of_lt (clB_le _ _) (by omega) | (have := Nat.pow_lt_pow_right (a := 2) (by decide) (show m < 8 by omega); omega)) (fun c_66 => ?_) (fun c_66 => ?_) | refine g_icmp_ne (tgt := 99) dX3_powerBits_66 (by decide) (fun c_66 => ?_) (fun c_66 => ?_)
        · refine g_iconst (nI 0) dX3_powerBits_99 (by decide) ?_
          first | refine g_iaddN dX3_powerBits_100 ?_ | refine g_iadd dX3_powerBits_100 ?_
          refine g_istore3 dX3_powerBits_101 (by decide) ?_
          first | refine g_iincN4 1 dX3_powerBits_102 (by decide) (by decide) ?_ | refine g_iinc4 _ dX3_powerBits_102 rfl (by decide) ?_
          refine g_goto (tgt := 50) dX3_powerBits_105 (by decide) ?_
          first | (rw [show pwN (M 1) s m (i + 1) = pwN (M 1) s m i + 1 from by rw [pwN, if_pos (by omega)]] at ih; exact ih _ hI hc0 hB1) | (rw [show pwN (M 1) s m (i + 1) = pwN (M 1) s m i + 0 from by rw [pwN, if_neg (by omega)]] at ih; exact ih _ hI hc0 hB1)
        · first | refine g_aload0 dX3_powerBits_69 ?_ | refine g_aloadQ0 dX3_powerBits_69 ?_ | refine g_aloadN0 dX3_powerBits_69 ?_
          refine g_iload1 dX3_powerBits_70 ?_
          refine g_iload4 dX3_powerBits_71 ?_
          refine g_V2n0 (ctX3_opensZ hA M _ _ _ hI hc0 hB1 (by omega) (by first | omega | exact Nat.lt_of_le_of_lt (clB_le _ _) (by omega)) hS hP) kX3_opens q2296 tw_0 rfl rfl (by decide) ⟨rfl, rfl⟩ ⟨Nat.zero_le _, Nat.zero_le _⟩ (Nat.le_of_ble_eq_true rfl) dX3_powerBits_73 (fun r_73 h_73 p_73 => ?_)
          obtain ⟨hr_73, hi_73, M73, rfl, hI, hB1, hc0⟩ := p_73
          first | refine g_ifN_eq (tgt := 99) dX3_powerBits_76 (by decide) (by first | omega | exact Nat.lt_of_le_of_lt (Nat.div_le_self _ _) (by omega) | exact Nat.lt_of_le_of_lt (clB_le _ _) (by omega) | (have := Nat.pow_lt_pow_right (a := 2) (by decide) (show m < 8 by omega); omega)) (fun c_76 => ?_) (fun c_76 => ?_) | refine g_if_eq (tgt := 99) dX3_powerBits_76 (by decide) (fun c_76 => ?_) (fun c_76 => ?_)
          · refine g_iconst (nI 0) dX3_powerBits_99 (by decide) ?_
            first | refine g_iaddN dX3_powerBits_100 ?_ | refine g_iadd dX3_powerBits_100 ?_
            refine g_istore3 dX3_powerBits_101 (by decide) ?_
            first | refine g_iincN4 1 dX3_powerBits_102 (by decide) (by decide) ?_ | refine g_iinc4 _ dX3_powerBits_102 rfl (by decide) ?_
            refine g_goto (tgt := 50) dX3_powerBits_105 (by decide) ?_
            first | (rw [show pwN (M 1) s m (i + 1) = pwN (M 1) s m i + 1 from by rw [pwN, if_pos (by omega)]] at ih; exact ih _ hI hc0 hB1) | (rw [show pwN (M 1) s m (i + 1) = pwN (M 1) s m i + 0 from by rw [pwN, if_neg (by omega)]] at ih; exact ih _ hI hc0 hB1)
          · first | refine g_aload0 dX3_powerBits_79 ?_ | refine g_aloadQ0 dX3_powerBits_79 ?_ | refine g_aloadN0 dX3_powerBits_79 ?_
            refine g_iload1 dX3_powerBits_80 ?_
            refine g_iload4 dX3_powerBits_81 ?_
            refine g_iconst (nI 1) dX3_powerBits_83 (by decide) ?_
            refine g_iload2 dX3_powerBits_84 ?_
            refine g_ishlN dX3_powerBits_85 (by first | omega | exact Nat.lt_of_le_of_lt (Nat.div_le_self _ _) (by omega) | exact Nat.lt_of_le_of_lt (clB_le _ _) (by omega) | (have := Nat.pow_lt_pow_right (a := 2) (by decide) (show m < 8 by omega); omega)) (by first | omega | exact Nat.lt_of_le_of_lt (Nat.div_le_self _ _) (by omega) | exact Nat.lt_of_le_of_lt (clB_le _ _) (by omega) | (have := Nat.pow_lt_pow_right (a := 2) (by decide) (show m < 8 by omega); omega)) ?_
            refine g_iconst (nI 4294967295) dX3_powerBits_86 (by decide) ?_
            first | refine g_ixorN dX3_powerBits_87 ?_ | refine g_ixor dX3_powerBits_87 ?_
            first | refine g_iandN dX3_powerBits_88 ?_ | refine g_iand dX3_powerBits_88 ?_
            refine g_V2n0 (ctX3_opensZ hA M _ _ _ hI hc0 hB1 (by omega) (by first | omega | exact Nat.lt_of_le_of_lt (clB_le _ _) (by omega)) hS hP) kX3_opens q2296 tw_0 rfl rfl (by decide) ⟨rfl, rfl⟩ ⟨Nat.zero_le _, Nat.zero_le _⟩ (Nat.le_of_ble_eq_true rfl) dX3_powerBits_89 (fun r_89 h_89 p_89 => ?_)
            obtain ⟨hr_89, hi0_r, M89, rfl, hI, hB1, hc0⟩ := p_89
            have hi_89 : r_89 = 1 ↔ opF (M 1) s (clB i m) := hi0_r
            first | refine g_ifN_ne (tgt := 99) dX3_powerBits_92 (by decide) (by first | omega | exact Nat.lt_of_le_of_lt (Nat.div_le_self _ _) (by omega) | exact Nat.lt_of_le_of_lt (clB_le _ _) (by omega) | (have := Nat.pow_lt_pow_right (a := 2) (by decide) (show m < 8 by omega); omega)) (fun c_92 => ?_) (fun c_92 => ?_) | refine g_if_ne (tgt := 99) dX3_powerBits_92 (by decide) (fun c_92 => ?_) (fun c_92 => ?_)
            · refine g_iconst (nI 0) dX3_powerBits_99 (by decide) ?_
              first | refine g_iaddN dX3_powerBits_100 ?_ | refine g_iadd dX3_powerBits_100 ?_
              refine g_istore3 dX3_powerBits_101 (by decide) ?_
              first | refine g_iincN4 1 dX3_powerBits_102 (by decide) (by decide) ?_ | refine g_iinc4 _ dX3_powerBits_102 rfl (by decide) ?_
              refine g_goto (tgt := 50) dX3_powerBits_105 (by decide) ?_
              first | (rw [show pwN (M 1) s m (i + 1) = pwN (M 1) s m i + 1 from by rw [pwN, if_pos (by omega)]] at ih; exact ih _ hI hc0 hB1) | (rw [show pwN (M 1) s m (i + 1) = pwN (M 1) s m i + 0 from by rw [pwN, if_neg (by omega)]] at ih; exact ih _ hI hc0 hB1)
            · refine g_iconst (nI 1) dX3_powerBits_95 (by decide) ?_
              refine g_goto (tgt := 100) dX3_powerBits_96 (by decide) ?_
              first | refine g_iaddN dX3_powerBits_100 ?_ | refine g_iadd dX3_powerBits_100 ?_
              refine g_istore3 dX3_powerBits_101 (by decide) ?_
              first | refine g_iincN4 1 dX3_powerBits_102 (by decide) (by decide) ?_ | refine g_iinc4 _ dX3_powerBits_102 rfl (by decide) ?_
              refine g_goto (tgt := 50) dX3_powerBits_105 (by decide) ?_
              first | (rw [show pwN (M 1) s m (i + 1) = pwN (M 1) s m i + 1 from by rw [pwN, if_pos (by omega)]] at ih; exact ih _ hI hc0 hB1) | (rw [show pwN (M 1) s m (i + 1) = pwN (M 1) s m i + 0 from by rw [pwN, if_neg (by omega)]] at ih; exact ih _ hI hc0 hB1)
  first | refine g_aload0 dX3_powerBits_0 ?_ | refine g_aloadQ0 dX3_powerBits_0 ?_ | refine g_aloadN0 dX3_powerBits_0 ?_
  refine g_iload1 dX3_powerBits_1 ?_
  refine g_S1n0 (ctX3_isSlot _ (by omega)) kX3_isSlot q2235 (by decide) ⟨rfl, rfl⟩ ⟨Nat.zero_le _, Nat.zero_le _⟩ (Nat.le_of_ble_eq_true rfl) dX3_powerBits_2 (fun r_2 h_2 p_2 => ?_)
  obtain ⟨hr_2, hi_2, rfl⟩ := p_2
  first | refine g_ifN_eq (tgt := 15) dX3_powerBits_5 (by decide) (by first | omega | exact hB _ _ | (split <;> omega)) (fun c_5 => ?_) (fun c_5 => ?_) | refine g_if_eq (tgt := 15) dX3_powerBits_5 (by decide) (fun c_5 => ?_) (fun c_5 => ?_)
  · refine g_iconst (nI 1) dX3_powerBits_15 (by decide) ?_
    refine g_goto (tgt := 33) dX3_powerBits_16 (by decide) ?_
    refine t_put0 hA q2098 dX3_powerBits_33 ?_
    first | refine g_aload0 dX3_powerBits_36 ?_ | refine g_aloadQ0 dX3_powerBits_36 ?_ | refine g_aloadN0 dX3_powerBits_36 ?_
    refine t_get0 hA q2098 dX3_powerBits_37 ?_
    rw [tset_ss]
    first | refine g_ifN_eq (tgt := 45) dX3_powerBits_40 (by decide) (by first | omega | exact hB _ _ | (split <;> omega)) (fun c_40 => ?_) (fun c_40 => ?_) | refine g_if_eq (tgt := 45) dX3_powerBits_40 (by decide) (fun c_40 => ?_) (fun c_40 => ?_)
    · omega
    · refine g_lconst 0 dX3_powerBits_43 rfl ?_
      exact g_lret dX3_powerBits_44 rfl ⟨_, rfl, _, rfl, by rw [tset_ss]; unfold xc_powerBits; (repeat' split) <;> omega, fun z => absurd z (by unfold xc_powerBits; (repeat' split) <;> omega), tSame.rf.f 0 _ (by decide)⟩
  · refine g_iload2 dX3_powerBits_8 ?_
    refine g_S1n0 (ctX3_isMember _ (by omega)) kX3_isMember q2190 (by decide) ⟨rfl, rfl⟩ ⟨Nat.zero_le _, Nat.zero_le _⟩ (Nat.le_of_ble_eq_true rfl) dX3_powerBits_9 (fun r_9 h_9 p_9 => ?_)
    obtain ⟨hr_9, hi_9, rfl⟩ := p_9
    first | refine g_ifN_ne (tgt := 19) dX3_powerBits_12 (by decide) (by first | omega | exact hB _ _ | (split <;> omega)) (fun c_12 => ?_) (fun c_12 => ?_) | refine g_if_ne (tgt := 19) dX3_powerBits_12 (by decide) (fun c_12 => ?_) (fun c_12 => ?_)
    · first | refine g_aload0 dX3_powerBits_19 ?_ | refine g_aloadQ0 dX3_powerBits_19 ?_ | refine g_aloadN0 dX3_powerBits_19 ?_
      refine g_iload1 dX3_powerBits_20 ?_
      refine g_iconst (nI 0) dX3_powerBits_21 (by decide) ?_
      refine g_V2n0 (ctX3_of hA _ _ _ (by omega) (by omega)) kX3_of q2220 tw_0 rfl rfl (by decide) ⟨rfl, rfl⟩ ⟨Nat.zero_le _, Nat.zero_le _⟩ (Nat.le_of_ble_eq_true rfl) dX3_powerBits_22 (fun r_22 h_22 p_22 => ?_)
      obtain ⟨rfl, rfl⟩ := p_22
      first | refine g_ifN_ne (tgt := 32) dX3_powerBits_25 (by decide) (by first | omega | exact hB _ _ | (split <;> omega)) (fun c_25 => ?_) (fun c_25 => ?_) | refine g_if_ne (tgt := 32) dX3_powerBits_25 (by decide) (fun c_25 => ?_) (fun c_25 => ?_)
      · refine g_iconst (nI 0) dX3_powerBits_32 (by decide) ?_
        refine t_put0 hA q2098 dX3_powerBits_33 ?_
        first | refine g_aload0 dX3_powerBits_36 ?_ | refine g_aloadQ0 dX3_powerBits_36 ?_ | refine g_aloadN0 dX3_powerBits_36 ?_
        refine t_get0 hA q2098 dX3_powerBits_37 ?_
        rw [tset_ss]
        first | refine g_ifN_eq (tgt := 45) dX3_powerBits_40 (by decide) (by first | omega | exact hB _ _ | (split <;> omega)) (fun c_40 => ?_) (fun c_40 => ?_) | refine g_if_eq (tgt := 45) dX3_powerBits_40 (by decide) (fun c_40 => ?_) (fun c_40 => ?_)
        · refine g_iconst (nI 0) dX3_powerBits_45 (by decide) ?_
          refine g_istore3 dX3_powerBits_46 (by decide) ?_
          refine g_iconst (nI 0) dX3_powerBits_47 (by decide) ?_
          refine g_istore4 dX3_powerBits_48 (by decide) ?_
          exact L 0 (by omega) (by omega) (by omega) (by omega) (by omega) _ (tSame.rf.f 0 0 (by decide)) (tset_ss _ _ _ _) (twB_set hB (by decide))
        · omega
      · refine g_iconst (nI 2) dX3_powerBits_28 (by decide) ?_
        refine g_goto (tgt := 33) dX3_powerBits_29 (by decide) ?_
        refine t_put0 hA q2098 dX3_powerBits_33 ?_
        first | refine g_aload0 dX3_powerBits_36 ?_ | refine g_aloadQ0 dX3_powerBits_36 ?_ | refine g_aloadN0 dX3_powerBits_36 ?_
        refine t_get0 hA q2098 dX3_powerBits_37 ?_
        rw [tset_ss]
        first | refine g_ifN_eq (tgt := 45) dX3_powerBits_40 (by decide) (by first | omega | exact hB _ _ | (split <;> omega)) (fun c_40 => ?_) (fun c_40 => ?_) | refine g_if_eq (tgt := 45) dX3_powerBits_40 (by decide) (fun c_40 => ?_) (fun c_40 => ?_)
        · omega
        · refine g_lconst 0 dX3_powerBits_43 rfl ?_
          exact g_lret dX3_powerBits_44 rfl ⟨_, rfl, _, rfl, by rw [tset_ss]; unfold xc_powerBits; (repeat' split) <;> omega, fun z => absurd z (by unfold xc_powerBits; (repeat' split) <;> omega), tSame.rf.f 0 _ (by decide)⟩
    · refine g_iconst (nI 1) dX3_powerBits_15 (by decide) ?_
      refine g_goto (tgt := 33) dX3_powerBits_16 (by decide) ?_
      refine t_put0 hA q2098 dX3_powerBits_33 ?_
      first | refine g_aload0 dX3_powerBits_36 ?_ | refine g_aloadQ0 dX3_powerBits_36 ?_ | refine g_aloadN0 dX3_powerBits_36 ?_
      refine t_get0 hA q2098 dX3_powerBits_37 ?_
      rw [tset_ss]
      first | refine g_ifN_eq (tgt := 45) dX3_powerBits_40 (by decide) (by first | omega | exact hB _ _ | (split <;> omega)) (fun c_40 => ?_) (fun c_40 => ?_) | refine g_if_eq (tgt := 45) dX3_powerBits_40 (by decide) (fun c_40 => ?_) (fun c_40 => ?_)
      · omega
      · refine g_lconst 0 dX3_powerBits_43 rfl ?_
        exact g_lret dX3_powerBits_44 rfl ⟨_, rfl, _, rfl, by rw [tset_ss]; unfold xc_powerBits; (repeat' split) <;> omega, fun z => absurd z (by unfold xc_powerBits; (repeat' split) <;> omega), tSame.rf.f 0 _ (by decide)⟩
