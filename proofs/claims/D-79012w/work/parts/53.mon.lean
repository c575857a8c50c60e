/-! CALLS OF SYNCHRONIZED METHODS: fillInStackTrace() where no traces are kept, getCause(); 'new' whose monitor is told of -/
set_option maxRecDepth 100000
section MON
variable {E : GE} {cc : ByteArray} {own : String} {M : GM} {Qv : Option Value → Heap → Prop} {Qx : String → Nat → Heap → Prop} {X : GX} {h : AH} {R : Heap → Prop} {k n pc : Nat} {ls : List (Option Value)} {st : List Value}
theorem gOk.thr (O : gOk E cc own M X) (ha : E.l.admits X.e) : ∃ (T : ThrowableC) (Z : Init0T), T.Links X.e.platform X.s ∧ Bundle.Ties T Z X.s := by
  have h : ∀ w ∈ Bundle.ownAtoms0 "SecretVault" 3 "java/lang/IllegalArgumentException" ["java/lang/RuntimeException", "java/lang/Exception"], w.before X.args X.s = true := vx_own (fun w hw => O.cd (at_SecretVault_IllegalArgumentException.1 w hw) (List.all_eq_true.mp at_SecretVault_IllegalArgumentException.2 w hw)) (vx_isRefq O.zU.1) (vx_isRefq O.zS.1) O.zU.2.word O.zS.2.word
  obtain ⟨T, Z, L, -, Y⟩ := ThrowableC.of_atoms (args := X.args) (pl := X.e.platform) (by rw [ha.platform]) (by rw [ha.platform]) (by rw [ha.platform]) (fun x hx => h x (by simp [Bundle.ownAtoms0, hx]))
  exact ⟨T, Z, L, Y⟩
theorem gI.cellO {H : Heap} {a t ci : Nat} {fs : List Value} {r : vw_C} (hI : gI E h H) (ha : h a = some (t, gO ci fs)) (hc : gCl[ci]? = some r) : ∃ cell : Cell, H[a]? = some cell ∧ cell.cls = E.D.1 ci ∧ cell.vm = .none ∧ ∀ k, k < r.2.2 → cell.slots[E.D.2 ci k]? = some (vp_V fs k) := by
  obtain ⟨h0, ws, hP, hD, hm⟩ := hI
  obtain ⟨q0, hq⟩ := g_in (E := E) (H := H) hm ha
  obtain ⟨r', h1, h2⟩ := hP q0 _ hq
  have e : r' = r := Option.some.inj (h1.symm.trans hc)
  subst e
  exact h2
theorem gOk.slot (O : gOk E cc own M X) {ci k c i : Nat} {r : vw_C} {kC : Class} {f : Field} (hc : gCl[ci]? = some r) (hk : k < r.2.2) (hf : X.s.fieldFound? (r.2.1 k).1 (r.2.1 k).2.1 (r.2.1 k).2.2.1 = some (c, kC, i, f)) : f.slot = E.D.2 ci k := by
  obtain ⟨hS, -⟩ := O.hK.1 ci r hc
  obtain ⟨cf, kf, fi, fd, h1, h2⟩ := hS k hk
  rw [hf] at h1
  cases h1
  exact h2
theorem gOk.sel (O : gOk E cc own M X) (ha : E.l.admits X.e) {C : String} {x : MethodName} {mx : MethodId} {cc9 : ClassId} (hc : X.s.vm.findClass C = some cc9) (hn : X.s.methodNamed? x = some mx) (hx : x.cls ≠ "java/lang/invoke/MethodHandle" ∧ x.cls ≠ "java/lang/invoke/VarHandle") (hs : Cond.selects C x x ∈ lw_all) : selectMethod X.e.platform X.s.vm cc9 mx = .method mx := by
  obtain ⟨c2, r2, m2, q1, q2, q3, q4, -⟩ := Cond.selects_spec (O.hts _ hs)
  cases hc.symm.trans q1
  cases (State.methodFound?_of_named hn hx).symm.trans q2
  cases hn.symm.trans q3
  rw [Launch.admits_selectMethod ha]
  exact q4
/-- the words of a class of Throwables: its place in the list, the places of its fields -/
def gTh (r : vw_C) (ks kb : Nat) (nn : Nat) : Prop := ks < r.2.2 ∧ kb < r.2.2 ∧ r.2.1 ks = (Bundle.tN, "stackTrace", Bundle.steD, false) ∧ r.2.1 kb = (Bundle.tN, "backtrace", "Ljava/lang/Object;", false) ∧ Cond.selects r.1 Bundle.tFill Bundle.tFill ∈ lw_all ∧ Cond.selects r.1 Bundle.tFill0 Bundle.tFill0 ∈ lw_all ∧ Cond.lays r.1 Bundle.tN "stackTrace" Bundle.steD ∈ lw_all ∧ Cond.instantiable r.1 nn ∈ lw_all
set_option maxHeartbeats 1000000 in
/-- fillInStackTrace() on an object whose monitor is free, no traces kept: nothing changes -/
theorem q_fill {index a t ci ks kb nn : Nat} {fs : List Value} {r : vw_C} {u : Option Nat} (hfr : ∀ H, R H → frA H a) (ha : h a = some (t, gO ci fs)) (hc : gCl[ci]? = some r) (hr : gTh r ks kb nn) (hz : va_Z Bundle.tN "UNASSIGNED_STACK" Bundle.steD (va_rf u) (gA E) E.S0 E.S0.heap) (hvs : fs[ks]? = some (va_rf u)) (hvb : fs[kb]? = some .null) (hlk : Cond.methodLink own index Bundle.tFill ∈ lw_all)
    (hfrm : 2 < M.rm.frames) (hlo : (st.map fun v => v.category).sum + 42 ≤ M.rm.locals) (d : decode cc pc = .ok (.invokevirtual index, 3)) (kk : VK E cc own M Qv Qx X (gJ E h R) k n (pc + 3) ls (.ref a :: st)) : VK E cc own M Qv Qx X (gJ E h R) k n pc ls (.ref a :: st) := by
  intro O H locs la hI hS hl hL T hT X0
  subst hT
  obtain ⟨hks, hkb, hTs, hTb, hs1, hs0, hly, hinst⟩ := hr
  obtain ⟨T9, Z, L, Y⟩ := O.thr X0.admits
  obtain ⟨cell, g1, g2, g3, g4⟩ := hI.1.cellO ha hc
  obtain ⟨cf0, f1, f2, f3⟩ := hfr _ hI.2
  cases g1.symm.trans f1
  have hpl : X.e.platform.magicAccessors = ({} : Platform).magicAccessors := by rw [X0.admits.platform]
  have hfound : X.s.vm.findClass r.1 = some cell.cls := by rw [g2]; exact (O.hK.1 ci r hc).2.1
  obtain ⟨c1, kX, hc1, hk, hord, -⟩ := Cond.instantiable_spec (O.hts _ hinst)
  obtain rfl : c1 = cell.cls := Option.some.inj (hc1.symm.trans hfound)
  have hsel0 := O.sel X0.admits hfound Y.fill0 (by decide) hs0
  have hselF := O.sel X0.admits hfound Y.fill (by decide) hs1
  obtain ⟨cellS0, hcS0, hiss⟩ := Y.statics
  obtain ⟨cf, kf, fi, f, aU, cellU, z1, z2, z3, z4, z5, z6, z7, z8⟩ := va_Z.moved O.hW.alike (hz.kept O.hS0.2.1)
  have e1 := Option.some.inj (Y.unassigned.symm.trans z1)
  simp only [Prod.mk.injEq] at e1
  obtain ⟨-, rfl, -, rfl⟩ := e1
  obtain rfl : aU = T9.aS := (Option.some.inj (L.statics.symm.trans z4)).symm
  cases hcS0.symm.trans z5
  have hcS : T.heap[T9.aS]? = some cellS0 := by rw [hS.2.1 _ (Array.getElem?_eq_some_iff.mp hcS0).1 z8]; exact hcS0
  have hneS : T9.aS ≠ a := fun e => z8 (by rw [e]; exact hI.1.notold ha)
  have hknownS : cellS0.vm ≠ .unknown := fun z => by rw [z] at hiss; cases hiss
  obtain ⟨u0, hu0⟩ : ∃ u0 : RefV, u0.v = va_rf u := ⟨⟨va_rf u, by cases u <;> rfl⟩, rfl⟩
  have hslS : T9.fStack.slot = E.D.2 ci ks := O.slot hc hks (by rw [hTs]; exact Y.stack)
  have hvS : cell.slots[T9.fStack.slot]? = some u0.v := by rw [hslS, g4 ks hks, hu0]; simp [vp_V, hvs]
  obtain ⟨ci198, i198, fB, hk198, hg198, ha198, hsB, -, hnB, htB, hffB⟩ := Cond.ownField (t := .object "java/lang/Object") Y.found L.cls (by decide +kernel) (O.hts _ q490) (O.hts _ q441) X.e.platform hpl
  have hslB : fB.slot = E.D.2 ci kb := O.slot hc hkb (by rw [hTb]; exact hffB)
  have hskip : SkipFacts T9 X.e.platform X.s (fun u => u) u0 (cell.withEntry T.cur) := ⟨{ ci198 := ci198, i198 := i198, fBack := fB }, ⟨hk198, hg198, ha198, hsB⟩, by
    show cell.slots[fB.slot]? = some .null
    rw [hslB, g4 kb hkb]
    simp [vp_V, hvb], fun _ _ => rfl⟩
  obtain ⟨tyS, dS, hdS, hdnS⟩ := Cond.laysAt hfound hk Y.stack (O.hts _ hly)
  have hfit : fits T9.fStack.type u0.v = true := by rw [Y.stackType]; exact fits_refV_array _ u0
  have htS : Takes X.s cell T9.fStack u0.v := ⟨(Array.getElem?_eq_some_iff.mp hvS).1, by simp [State.fitsSlot, State.slotType?, g3, hk, hord, tyS, hfit]⟩
  have htr : X.e.platform.stackTraces = false := (show X.e.platform.stackTraces = E.l.stackTraces by rw [X0.admits.platform]).trans O.hE.1
  have hla : la.size = X.c.maxLocals := hl.1.trans O.hml.symm
  obtain ⟨vm₁, X₁, hstep₁⟩ := X0.invokevirtual O.hx O.hown (O.hts _ hlk) Y.fill (L.method L.fillAt) L.fillStatic L.cls L.notInterface (by decide) (a := a) (cell := cell) g1 (fun z hz => by rw [g3] at hz; cases hz) hselF (L.method L.fillAt) L.fillAbstract L.cls L.notInterface (g := F0 X.m pc la (.ref a :: st)) rfl (argsL := []) (rest := st) (by rw [L.fillParams]; rfl) rfl (by rw [O.hb]; exact d)
  have hfr' := X₁.framesAbove hfrm
  have hwd' := X₁.stackAbove (g := F0 X.m pc la st) hla (K := 41) (by show 2 * 0 + (st.map fun v => v.category).sum + 41 ≤ _; omega)
  have hroom := X₁.notFull (g := F0 X.m pc la st) hla (vars := 1 + 2) (by omega) (by show 2 * 0 + (st.map fun v => v.category).sum + (1 + 2 + 11) ≤ _; omega)
  obtain ⟨g₀, hfrE⟩ := X₁.frames_eq
  have hlen : (T.setVm vm₁).frames.length = (Frame.java (F0 X.m pc la st) :: (T.setVm vm₁).frames.tail).length := by rw [hfrE]; rfl
  have hw14 : (stackUse [Frame.java (fillJ T9.fill a 16 [])]).2 = 14 := by
    rw [stackUse_java, stackUse_nil]
    simp [operandWords]
  obtain ⟨vm2, hW2, st2⟩ := Steps.fillColdAnyV X.p (V := T.setVm vm₁) (g := F0 X.m pc la st) (c := X.c) (self := a) X₁.here O.hx T9 L X₁.warmed (Nn := fun u => u) heapOnly_id (fun _ _ => rfl) (fun _ => rfl) (fun u x y => setCell_twice _ _ _ _) (cell := cell) (cellS := cellS0) (cN := cell.withEntry T.cur) (u0 := u0) (ig := .invokevirtual index) (len := 3) [] g1 (fun z hz => by rw [g3] at hz; cases hz) (by rw [g3]; simp) (Or.inl f2) hvS hsel0 hcS hneS hknownS (by rw [hu0]; exact z7) (fun _ hu => hu) (fun _ hu => hu) rfl rfl rfl rfl htS (by rw [O.hb]; exact d)
    (fun hne vm1 hW1 hA t' hs => by
      have htopE : (((T.setVm vm₁).setVm vm1).setCell a (cell.withEntry ((T.setVm vm₁).setVm vm1).cur)).topJava?.isSome := X₁.here.top
      have hfF : (fillInside ((T.setVm vm₁).setVm vm1) (F0 X.m pc la st) T9.fill a cell).frames = .java (entryFrameSync T9.fill #[.ref a] 1 a) :: .java (F0 X.m pc la st) :: (T.setVm vm₁).frames.tail := frames_entered (g := F0 X.m pc la st) htopE _
      have htopF : (fillInside ((T.setVm vm₁).setVm vm1) (F0 X.m pc la st) T9.fill a cell).topJava?.isSome := by rw [State.topJava?_of_frames hfF]; rfl
      refine L.nativeOff X.p htr hA hW1 (roomAbove (pushed := [.java (fillJ T9.fill a 16 [])]) (base := .java (F0 X.m pc la st) :: (T.setVm vm₁).frames.tail) (free := 41) (lim := X.e.platform.stackLimits (T.setVm vm₁).me) (State.frames_setTop _ hfF) (by rw [State.stackLimits_setTop _ htopF, State.stackLimits_pushFrame, State.stackLimits_setTop _ htopE]; rfl) (by rw [← hlen]; simp only [List.length_cons, List.length_nil]; omega) hwd' (by rw [hw14]; decide)) hs) hroom hskip
  have h2 : (cell.withEntry T.cur).left = cell := Cell.left_withEntry T.cur f2 f3
  have hb : ((cell.withEntry T.cur).setSlot T9.fStack.slot u0.v).left = cell := by
    rw [Cell.left_setSlot, h2]
    exact Cell.setSlot_same hvS
  have e9 : ((T.setVm vm₁).setVm vm2).setCell a (((cell.withEntry T.cur).setSlot T9.fStack.slot u0.v).left) = (T.setVm vm₁).setVm vm2 := by
    rw [hb]
    exact State.setCell_asItLies g1
  obtain ⟨t', a1, b1⟩ := kk O T.heap locs la hI hS hl hL ((T.setVm vm₁).setVm vm2) rfl (X₁.noted hW2)
  refine ⟨t', hstep₁ _ (fun acts => ?_), b1⟩
  rw [doInvoke_state]
  refine st2 _ ?_
  show Steps _ _ _ ((((T.setVm vm₁).setVm vm2).setCell a _).setTop _) _
  rw [e9]
  exact a1
def mGC : MethodName := ⟨"java/lang/Throwable", "getCause", "()Ljava/lang/Throwable;"⟩
theorem gc_0 : decode prog_56_method_8_code 0 = .ok (.aload_n 0, 1) := by decide +kernel
theorem gc_1 : decode prog_56_method_8_code 1 = .ok (.getfield 7, 3) := by decide +kernel
theorem gc_4 : decode prog_56_method_8_code 4 = .ok (.aload_n 0, 1) := by decide +kernel
theorem gc_5 : decode prog_56_method_8_code 5 = .ok (.if_acmp .ne 7, 3) := by decide +kernel
theorem gc_8 : decode prog_56_method_8_code 8 = .ok (.aconst_null, 1) := by decide +kernel
theorem gc_9 : decode prog_56_method_8_code 9 = .ok (.goto 7, 3) := by decide +kernel
theorem gc_12 : decode prog_56_method_8_code 12 = .ok (.aload_n 0, 1) := by decide +kernel
theorem gc_13 : decode prog_56_method_8_code 13 = .ok (.getfield 7, 3) := by decide +kernel
theorem gc_16 : decode prog_56_method_8_code 16 = .ok (.areturn, 1) := by decide +kernel
/-- a frame of getCause -/
abbrev gcJ (m : MethodId) (a pc : Nat) (st : List Value) : JFrame := { method := m, pc := pc, locals := #[.val (.ref a)], stack := st, locked := some a, monitorRoom := 1 }
def gcV (a : Nat) (o : Option Nat) : Option Nat := if o = some a then none else o
/-- the walk of getCause, from its entered state U -/
theorem gc_walk {p : Program} {e : Env} {below : List Frame} {s U : State} {mG : MethodId} {methG : Method} {cG : Code} {T9 : ThrowableC} {a : Nat} {o : Option Nat} {cellE : Cell} (hx : p.tables.exec = Jvm.exec) (L : T9.Links e.platform s) (hcl : mG.cls = T9.cT) (hA : At U mG cG below) (hW : s.WarmedH U.vm) (hbG : cG.code = prog_56_method_8_code) (hcell : U.heap[a]? = some cellE) (hkn : cellE.vm ≠ .unknown) (hv : cellE.slots[T9.fCause.slot]? = some (va_rf o)) :
    ∃ vm', s.WarmedH vm' ∧ ∀ t', Steps p.tables e below ((U.setVm vm').setTop (gcJ mG a 16 [va_rf (gcV a o)])) t' → Steps p.tables e below (U.setTop (gcJ mG a 0 [])) t' := by
  obtain ⟨vm1, hW1, st1⟩ := Steps.getfieldCold (tb := p.tables) (s₀ := s) (U := U) (f := gcJ mG a 1 [.ref a]) (a := a) (rest := []) (cell := cellE) (v := va_rf o) hA hx (by rw [hbG]; exact gc_1) hW (by rw [show (gcJ mG a 1 [.ref a]).method.cls = T9.cT from hcl]; exact L.link7) (by rw [show (gcJ mG a 1 [.ref a]).method.cls = T9.cT from hcl]; exact L.right7) L.cls L.at7 L.causeInstance rfl hcell hkn hv
  have hA1 : At (U.setVm vm1) mG cG below := hA.setVm (hW.alike.symm.trans hW1.alike)
  by_cases ho : o = some a
  · subst ho
    refine ⟨vm1, hW1, fun t' hs => ?_⟩
    jvm_step hA [hA.top, hx, hbG, gc_0, Value.isRef]
    refine st1 _ ?_
    jvm_step hA1 [hA.top, hA1.top, hx, hbG, gc_4, Value.isRef, va_rf]
    jvm_step hA1 [hA.top, hA1.top, hx, hbG, gc_5, va_rf, Value.asRef?, Op.if_acmp.holds]
    jvm_step hA1 [hA.top, hA1.top, hx, hbG, gc_8]
    jvm_step hA1 [hA.top, hA1.top, hx, hbG, gc_9]
    unfold gcV at hs
    rw [if_pos rfl] at hs
    exact hs
  · obtain ⟨vm2, hW2, st2⟩ := Steps.getfieldCold (tb := p.tables) (s₀ := s) (U := U.setVm vm1) (f := gcJ mG a 13 [.ref a]) (a := a) (rest := []) (cell := cellE) (v := va_rf o) hA1 hx (by rw [hbG]; exact gc_13) hW1 (by rw [show (gcJ mG a 13 [.ref a]).method.cls = T9.cT from hcl]; exact L.link7) (by rw [show (gcJ mG a 13 [.ref a]).method.cls = T9.cT from hcl]; exact L.right7) L.cls L.at7 L.causeInstance rfl hcell hkn hv
    refine ⟨vm2, hW2, fun t' hs => ?_⟩
    unfold gcV at hs
    rw [if_neg ho] at hs
    jvm_step hA [hA.top, hx, hbG, gc_0, Value.isRef]
    refine st1 _ ?_
    cases o with
    | none =>
      jvm_step hA1 [hA.top, hA1.top, hx, hbG, gc_4, Value.isRef, va_rf]
      jvm_step hA1 [hA.top, hA1.top, hx, hbG, gc_5, va_rf, Value.asRef?, Op.if_acmp.holds]
      jvm_step hA1 [hA.top, hA1.top, hx, hbG, gc_12, Value.isRef]
      exact st2 _ hs
    | some y =>
      have hne : ¬ y = a := fun z => ho (by rw [z])
      jvm_step hA1 [hA.top, hA1.top, hx, hbG, gc_4, Value.isRef, va_rf]
      jvm_step hA1 [hA.top, hA1.top, hx, hbG, gc_5, va_rf, Value.asRef?, Op.if_acmp.holds, hne]
      jvm_step hA1 [hA.top, hA1.top, hx, hbG, gc_12, Value.isRef]
      exact st2 _ hs
set_option maxHeartbeats 1000000 in
/-- getCause() of an object whose monitor is free -/
theorem q_getCause {index a t ci kc : Nat} {fs : List Value} {r : vw_C} {o : Option Nat} (hfr : ∀ H, R H → frA H a) (ha : h a = some (t, gO ci fs)) (hc : gCl[ci]? = some r) (hkc : kc < r.2.2) (hTc : r.2.1 kc = (Bundle.tN, "cause", "Ljava/lang/Throwable;", false)) (hvc : fs[kc]? = some (va_rf o)) (hs1 : Cond.selects r.1 mGC mGC ∈ lw_all) (hlk : Cond.methodLink own index mGC ∈ lw_all)
    (hfrm : 2 < M.rm.frames) (hlo : (st.map fun v => v.category).sum + 42 ≤ M.rm.locals) (d : decode cc pc = .ok (.invokevirtual index, 3)) (kk : VK E cc own M Qv Qx X (gJ E h R) k n (pc + 3) ls (va_rf (gcV a o) :: st)) : VK E cc own M Qv Qx X (gJ E h R) k n pc ls (.ref a :: st) := by
  intro O H locs la hI hS hl hL T hT X0
  subst hT
  obtain ⟨T9, Z, L, Y⟩ := O.thr X0.admits
  obtain ⟨cell, g1, g2, g3, g4⟩ := hI.1.cellO ha hc
  obtain ⟨cf0, f1, f2, f3⟩ := hfr _ hI.2
  cases g1.symm.trans f1
  have hfound : X.s.vm.findClass r.1 = some cell.cls := by rw [g2]; exact (O.hK.1 ci r hc).2.1
  obtain ⟨mG, methG, hnG, hmG, hstG, habG⟩ := Cond.instanceMethod_spec (O.hts _ (show Cond.instanceMethod mGC ∈ lw_all from q615))
  obtain ⟨methG', cG, hmG', hcG, hbG, hlG, hrG, hlkG, -, hsigG⟩ := Cond.codeSync_spec hnG (O.hts _ (show Cond.codeSync mGC prog_56_method_8_code 1 (some (.object "java/lang/Throwable")) ∈ lw_all from q630))
  obtain rfl : methG = methG' := Option.some.inj (hmG.symm.trans hmG')
  have hcl : mG.cls = T9.cT := Option.some.inj ((findClass_of_methodNamed hnG).symm.trans Y.found)
  have hselG := O.sel X0.admits hfound hnG (by decide) hs1
  have hslC : T9.fCause.slot = E.D.2 ci kc := O.slot hc hkc (by rw [hTc]; exact Y.cause)
  have hvC : cell.slots[T9.fCause.slot]? = some (va_rf o) := by rw [hslC, g4 kc hkc]; simp [vp_V, hvc]
  have hla : la.size = X.c.maxLocals := hl.1.trans O.hml.symm
  have hKG : X.s.vm.classes[mG.cls]? = some T9.kT := by rw [hcl]; exact L.cls
  obtain ⟨vm₁, X₁, hstep₁⟩ := X0.invokevirtual O.hx O.hown (O.hts _ hlk) hnG hmG hstG hKG L.notInterface (by decide) (a := a) (cell := cell) g1 (fun z hz => by rw [g3] at hz; cases hz) hselG hmG habG hKG L.notInterface (g := F0 X.m pc la (.ref a :: st)) rfl (argsL := []) (rest := st) (by
    have e := hsigG
    have e2 : parseMethodDescriptor mGC.desc = some methG.sig := e
    have e3 : (parseMethodDescriptor mGC.desc).map (fun d => d.parameters.length) = some 0 := by decide +kernel
    rw [e2] at e3
    exact (Option.some.inj e3).symm) rfl (by rw [O.hb]; exact d)
  have hroom := X₁.notFull (g := F0 X.m pc la st) hla (vars := 1 + 2) (by omega) (by show 2 * 0 + (st.map fun v => v.category).sum + (1 + 2 + 11) ≤ _; omega)
  have hmG1 : (T.setVm vm₁).vm.method? mG = some methG := by rw [X₁.warmed.alike.method?]; exact hmG
  have hpl1 : (T.setVm vm₁).plainMethod mG := X₁.warmed.plainAt (m := mG) (fun k hk => by
    cases hk.symm.trans hKG
    rw [L.name]
    decide)
  have hA := At.enter_sync (g := F0 X.m pc la st) X₁.here #[.ref a] a (cell.withEntry (T.setVm vm₁).cur) hmG1 hcG hpl1
  rw [hlG] at hA
  generalize hU : (((T.setVm vm₁).setCell a (cell.withEntry (T.setVm vm₁).cur)).setTop (F0 X.m pc la st)).pushFrame (.java (entryFrameSync mG #[.ref a] 1 a)) = U at hA
  have hlt : a < (T.setVm vm₁).heap.size := (Array.getElem?_eq_some_iff.mp g1).1
  have hcU : U.heap[a]? = some (cell.withEntry T.cur) := by
    rw [← hU]
    show (T.heap.setIfInBounds a (cell.withEntry T.cur))[a]? = _
    simp [show a < T.heap.size from hlt]
  have htopE : ((T.setVm vm₁).setCell a (cell.withEntry (T.setVm vm₁).cur)).topJava?.isSome := X₁.here.top
  have hfU : U.frames = .java (entryFrameSync mG #[.ref a] 1 a) :: .java (F0 X.m pc la st) :: (T.setVm vm₁).frames.tail := by
    rw [← hU]
    exact frames_entered (g := F0 X.m pc la st) htopE _
  have hWU : X.s.WarmedH U.vm := by rw [← hU]; exact X₁.warmed
  obtain ⟨vm3, hW3, walk⟩ := gc_walk (methG := methG) O.hx L hcl hA hWU hbG hcU (by show cell.vm ≠ _; rw [g3]; simp) (show (cell.withEntry T.cur).slots[T9.fCause.slot]? = some (va_rf o) from hvC)
  obtain ⟨t', a1, b1⟩ := kk O T.heap locs la hI hS hl hL ((T.setVm vm₁).setVm vm3) rfl (X₁.noted hW3)
  refine ⟨t', hstep₁ _ (fun acts => ?_), b1⟩
  rw [doInvoke_enter_sync X₁.here.top acts hmG1 hcG hlkG hstG rfl g1 (Or.inl f2) (by rw [hlG]; exact hroom)]
  rw [hlG, hU]
  show Steps _ _ _ (U.setTop (gcJ mG a 0 [])) t'
  refine walk _ ?_
  have hA3 : At (U.setVm vm3) mG cG X.below := hA.setVm (hWU.alike.symm.trans hW3.alike)
  have hm3 : (U.setVm vm3).vm.method? mG = some methG := by
    show vm3.method? mG = _
    rw [hW3.alike.method?]
    exact hmG
  have hcode3 : (U.setVm vm3).code? (F0 X.m pc la st).method = some X.c := by
    rw [State.code?_eq]
    show (vm3.method? X.m).bind _ = _
    rw [hW3.alike.method?, X₁.method]
    exact X₁.code
  have hcurU : (U.setVm vm3).cur = T.cur := by
    rw [← hU]
    rfl
  have h2 : (cell.withEntry T.cur).left = cell := Cell.left_withEntry T.cur f2 f3
  have e0 : U.setFrames (.java (F0 X.m pc la st) :: (T.setVm vm₁).frames.tail) = ((T.setVm vm₁).setCell a (cell.withEntry T.cur)).setTop (F0 X.m pc la st) := by
    rw [← hU]
    exact setFrames_entered (s := (T.setVm vm₁).setCell a (cell.withEntry T.cur)) X₁.here.top _
  have e3 : (((T.setVm vm₁).setCell a (cell.withEntry T.cur)).setCell a cell) = T.setVm vm₁ := by
    rw [setCell_twice]
    exact State.setCell_asItLies g1
  have e2 : (((U.setVm vm3).setCell a ((cell.withEntry T.cur).left)).setFrames (.java (F0 X.m pc la st) :: (T.setVm vm₁).frames.tail)) = ((T.setVm vm₁).setVm vm3).setTop (F0 X.m pc la st) := by
    rw [h2]
    show ((U.setFrames _).setCell a cell).setVm vm3 = _
    rw [e0]
    show ((((T.setVm vm₁).setCell a (cell.withEntry T.cur)).setCell a cell).setTop (F0 X.m pc la st)).setVm vm3 = _
    rw [e3]
    rfl
  have fin : ∀ v : Value, Steps X.p.tables X.e X.below (((T.setVm vm₁).setVm vm3).setTop { F0 X.m pc la (.ref a :: st) with pc := pc + 3, stack := v :: st }) t' → v.isRef = true → Steps X.p.tables X.e X.below ((U.setVm vm3).setTop (gcJ mG a 16 [v])) t' := by
    intro v hs hv
    jvm_step hA3 [hA.top, hA3.top, O.hx, hbG, gc_16, areturn.wp_sem, hv, FieldType.isReference]
    refine ⟨methG, hm3, ⟨_, hrG, rfl⟩, fun acts' => ?_⟩
    rw [doReturn_leave_sync (u := U.setVm vm3) (g := F0 X.m pc la st) (meth := methG) (cg := X.c) (ig := .invokevirtual index) (len := 3) (a := a) (cell := cell.withEntry T.cur) (f := gcJ mG a 16 []) (f₀ := entryFrameSync mG #[.ref a] 1 a) (r := (T.setVm vm₁).frames.tail) acts' (by rw [X0.admits.platform]) hfU hm3 hlkG rfl rfl hcU (by rw [hcurU]; rfl) hcode3 (by rw [O.hb]; exact d), e2]
    rw [State.setTop_setTop]
    exact hs
  exact fin _ a1 (by cases gcV a o <;> rfl)
/-- 'new' of an object: its monitor is free; what R says of monitors holds on -/
theorem q_newM {C : String} {T : u_T} {N index : Nat} {ty : Nat → FieldType} (ci t : Nat) (fs : List Value) (hin : ∀ w ∈ u_ws C T N, w ∈ lw_all) (hty : ∀ k, k < N → parseFieldDescriptor (T k).2.2.1 = some (ty k)) (hcl : Cond.classLink own index C ∈ lw_all) (hinst : Cond.instantiable C N ∈ lw_all) (hini : Cond.initialized C ∈ lw_all) (hc : gCl[ci]? = some (C, T, N)) (hfs : ∀ j, j < N → defaultValue (ty j) = vp_V fs j) (hk : k + 1 ≤ M.rm.cells) (hn : n + N ≤ M.rm.slots) (d : decode cc pc = .ok (.new index, 3)) (kk : ∀ q : Nat, h q = none → VK E cc own M Qv Qx X (gJ E (g_up h q (t, gO ci fs)) (fun H => R H ∧ frA H q)) (k + 1) (n + N) (pc + 3) ls (.ref q :: st)) (hRS : RS R := by first | exact RS.tt | exact RS.fr _ | assumption) : VK E cc own M Qv Qx X (gJ E h R) k n pc ls st := by
  intro O H locs la hI hS hl hL
  obtain ⟨⟨h0, ws, hP, hD, hm⟩, hR⟩ := hI
  have hKn := O.hK.1 ci _ hc
  refine W.newcK O.hx O.hb O.hown (O.hts _ hcl) (O.hts _ hinst) (O.hts _ hini) rfl d hk hn hKn.2.1 rfl fun H1 kC hkC e1 z1 o1 => ?_
  have hkp : ∀ (k : Nat) (x : Nat × va_E), ws[k]? = some x → H1[x.1]? = H[x.1]? := fun k x hx => o1 x.1 ((hP k x hx).lt)
  have hP1 : va_P E.D gCl (ws ++ [(H.size, .inr (ci, fs))]) H1 := (hP.kept hkp).app (fun k x hx => by
    have hz : k < 1 := (List.getElem?_eq_some_iff.mp hx).1
    rw [show k = 0 by omega] at hx
    cases hx
    exact ⟨_, hc, (u_born ty O.hts hin hKn hkC e1 hty).to hfs⟩)
  have hD1 : va_D (gA E) (ws ++ [(H.size, .inr (ci, fs))]) := hD.push hP rfl (O.hA _ hS.1)
  have hS1 : va_S (gA E) X.s.heap H1 locs := ⟨Nat.le_trans hS.1 (by omega), fun x h1 h2 => (o1 x (Nat.lt_of_lt_of_le h1 hS.1)).trans (hS.2.1 x h1 h2), hS.2.2⟩
  have hmo : monK H H1 := fun q c hq => ⟨c, by rw [o1 q (Array.getElem?_eq_some_iff.mp hq).1]; exact hq, rfl⟩
  exact kk H.size (g_new_fresh hD1 hm) O H1 locs la ⟨⟨g_old O.hS0 hS1, _, hP1, hD1, g_new_in hm⟩, hRS _ _ hmo hR, _, e1, rfl, rfl⟩ hS1 hl hL
end MON

