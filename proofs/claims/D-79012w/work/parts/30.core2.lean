/-! G LAYER, FURTHER: calls of nest mates, of interfaces, inherited, of methods with handlers; exceptions; objects of the start; references in arrays; casts -/
set_option maxRecDepth 100000
section GR2
variable {E : GE} {cc : ByteArray} {own : String} {M : GM} {Po : Option Value → AH → Prop} {Px : String → Nat → AH → Prop} {X : GX} {h : AH} {k n pc : Nat} {ls : List (Option Value)} {st : List Value}
/-! what comes behind a call -/
theorem k_i {Q : Int32 → AH → Prop} {pc' k' n' : Nat} (kk : ∀ r h', Q r h' → V E cc own M Po Px X h' k' n' pc' ls (.int r :: st)) : ∀ v h', pI Q v h' → V E cc own M Po Px X h' k' n' pc' ls (v.toList ++ st) := by
  rintro v h' ⟨r, rfl, p⟩
  exact kk r h' p
theorem k_n {Q : Nat → AH → Prop} {pc' k' n' : Nat} (kk : ∀ r h', Q r h' → V E cc own M Po Px X h' k' n' pc' ls (.int (nI r) :: st)) : ∀ v h', pN Q v h' → V E cc own M Po Px X h' k' n' pc' ls (v.toList ++ st) := by
  rintro v h' ⟨r, rfl, p⟩
  exact kk r h' p
theorem k_l {Q : Int64 → AH → Prop} {pc' k' n' : Nat} (kk : ∀ r h', Q r h' → V E cc own M Po Px X h' k' n' pc' ls (.long r :: st)) : ∀ v h', pL Q v h' → V E cc own M Po Px X h' k' n' pc' ls (v.toList ++ st) := by
  rintro v h' ⟨r, rfl, p⟩
  exact kk r h' p
theorem k_r {Q : Nat → AH → Prop} {pc' k' n' : Nat} (kk : ∀ r h', Q r h' → V E cc own M Po Px X h' k' n' pc' ls (.ref r :: st)) : ∀ v h', pR Q v h' → V E cc own M Po Px X h' k' n' pc' ls (v.toList ++ st) := by
  rintro v h' ⟨r, rfl, p⟩
  exact kk r h' p
theorem k_q {Q : Option Nat → AH → Prop} {pc' k' n' : Nat} (kk : ∀ r h', Q r h' → V E cc own M Po Px X h' k' n' pc' ls (va_rf r :: st)) : ∀ v h', pQ Q v h' → V E cc own M Po Px X h' k' n' pc' ls (v.toList ++ st) := by
  rintro v h' ⟨r, rfl, p⟩
  exact kk r h' p
theorem k_v {Q : AH → Prop} {pc' k' n' : Nat} (kk : ∀ h', Q h' → V E cc own M Po Px X h' k' n' pc' ls st) : ∀ v h', pV Q v h' → V E cc own M Po Px X h' k' n' pc' ls (v.toList ++ st) := by
  rintro v h' ⟨rfl, p⟩
  exact kk h' p
/-- nothing is thrown -/
theorem k_x {k' n' pc' : Nat} {ls' : List (Option Value)} : ∀ (C : String) (q : Nat) (h' : AH), noX C q h' → VX E cc own M Po Px X h' k' n' pc' ls' C q := fun _ _ _ z => z.elim
/-! an object that was there at the start -/
def OldO (E : GE) (C : String) (a : Nat) : Prop := ∃ cell : Cell, E.S0.heap[a]? = some cell ∧ cell.vm.isStatics = false ∧ E.S0.vm.findClass C = some cell.cls
/-- an object of class C: in the ghost heap, or of the start -/
def gRv (E : GE) (h : AH) (a : Nat) (C : String) : Prop := (∃ (t ci : Nat) (fs : List Value) (q : vw_C), h a = some (t, gO ci fs) ∧ gCl[ci]? = some q ∧ q.1 = C) ∨ OldO E C a
theorem gRv.g {E : GE} {h : AH} {a t ci : Nat} {C : String} {fs : List Value} {q : vw_C} (ha : h a = some (t, gO ci fs)) (hc : gCl[ci]? = some q) (hq : q.1 = C) : gRv E h a C := Or.inl ⟨t, ci, fs, q, ha, hc, hq⟩
theorem gI.old {H : Heap} (hI : gI E h H) {a : Nat} {cell : Cell} (ha : E.S0.heap[a]? = some cell) : H[a]? = some cell := by
  have hlt : a < E.S0.heap.size := (Array.getElem?_eq_some_iff.mp ha).1
  rw [hI.1.2.1 a hlt (fun z => absurd (show E.S0.heap.size ≤ a from z) (by omega))]
  exact ha
theorem gOk.rv (O : gOk E cc own M X) {H : Heap} (hI : gI E h H) {a : Nat} {C : String} (hr : gRv E h a C) : ∃ cell : Cell, H[a]? = some cell ∧ cell.vm.isStatics = false ∧ X.s.vm.findClass C = some cell.cls := by
  rcases hr with ⟨t, ci, fs, q, h1, h2, rfl⟩ | ⟨cell, h1, h2, h3⟩
  · exact g_recv O hI h1 h2
  · exact ⟨cell, hI.old h1, h2, by rw [O.hW.alike.findClass]; exact h3⟩
theorem gOk.nw (O : gOk E cc own M X) {w : Cond} (hw : w.onTables = true) (h : w ∈ lw_tbl) : va_Nw w E.S0 := va_Nw.of hw (O.hE.2.2.1 _ h)
theorem gOk.cast (O : gOk E cc own M X) {C T : String} (h : Cond.castable C T ∈ lw_tbl) : va_Nw (.castable C T) X.s := va_Nw.warmC O.hW (O.nw rfl h)
theorem gOk.nest (O : gOk E cc own M X) {a : String} {i : Nat} {x : MethodName} {hs : String} (h : Cond.methodLinkNest a i x hs ∈ lw_tbl) : va_Nw (.methodLinkNest a i x hs) X.s := va_Nw.warmM O.hW (O.nw rfl h)
theorem g_callSN {index : Nat} {host : String} {cc' : ByteArray} {M' : GM} {av st0 : List Value} {Po' : Option Value → AH → Prop} {Px' : String → Nat → AH → Prop} (hc : Ct E cc' M' av h Po' Px') (hk : gCs cc' M' av.length) (hlk : Cond.methodLinkNest own index M'.y host ∈ lw_tbl) (hR : M'.rm.frames + 1 ≤ M.rm.frames ∧ 8 + (M'.nL + 11) + M'.rm.locals ≤ M.rm.locals) (hf : k + M'.rm.cells ≤ M.rm.cells ∧ n + M'.rm.slots ≤ M.rm.slots) (hst : st0 = av.reverse ++ st) (hcat : (st.map fun v => v.category).sum ≤ 8) (d : decode cc pc = .ok (.invokestatic index, 3)) (kx : ∀ (C : String) (q : Nat) (h' : AH), Px' C q h' → VX E cc own M Po Px X h' (k + M'.rm.cells) (n + M'.rm.slots) pc ls C q) (kk : ∀ (v : Option Value) (h' : AH), Po' v h' → V E cc own M Po Px X h' (k + M'.rm.cells) (n + M'.rm.slots) (pc + 3) ls (v.toList ++ st)) : V E cc own M Po Px X h k n pc ls st0 := by
  intro O H locs la hI hS hl hL
  obtain ⟨k1, k2, k3, k4, k5⟩ := hk
  have hM := hc O.hE
  rw [gWs_0 k5] at hM
  exact g_tail O hS hl hL (vx_runSN (index := index) ⟨O.hx, O.hb, O.hml, O.hown, O.hts⟩ hM ⟨va_cnB av.length O.hts (lw_meth k3) rfl rfl rfl (O.nest hlk) (O.hts _ k2) k4 hR, O.hts _ k1, trivial⟩ (g_preS O hI) rfl rfl hl.1 hst (lv_room hcat) d hf) kx kk
theorem g_callVN {index a : Nat} {host : String} {cc' : ByteArray} {M' : GM} {av st0 : List Value} {Po' : Option Value → AH → Prop} {Px' : String → Nat → AH → Prop} (hc : Ct E cc' M' (.ref a :: av) h Po' Px') (hk : gCv cc' M' av.length) (hlk : Cond.methodLinkNest own index M'.y host ∈ lw_tbl) (hr : gRv E h a M'.y.cls) (hR : M'.rm.frames + 1 ≤ M.rm.frames ∧ 8 + (M'.nL + 11) + M'.rm.locals ≤ M.rm.locals) (hf : k + M'.rm.cells ≤ M.rm.cells ∧ n + M'.rm.slots ≤ M.rm.slots) (hst : st0 = av.reverse ++ .ref a :: st) (hcat : (st.map fun v => v.category).sum ≤ 8) (d : decode cc pc = .ok (.invokevirtual index, 3)) (kx : ∀ (C : String) (q : Nat) (h' : AH), Px' C q h' → VX E cc own M Po Px X h' (k + M'.rm.cells) (n + M'.rm.slots) pc ls C q) (kk : ∀ (v : Option Value) (h' : AH), Po' v h' → V E cc own M Po Px X h' (k + M'.rm.cells) (n + M'.rm.slots) (pc + 3) ls (v.toList ++ st)) : V E cc own M Po Px X h k n pc ls st0 := by
  intro O H locs la hI hS hl hL
  obtain ⟨k1, k2, k3, k4, k5, k6⟩ := hk
  have hM := hc O.hE
  rw [gWs_0 k6] at hM
  exact g_tail O hS hl hL (vx_runVN (index := index) (C := M'.y.cls) ⟨O.hx, O.hb, O.hml, O.hown, O.hts⟩ hM ⟨va_cnB av.length O.hts (lw_meth k4) rfl rfl rfl (O.nest hlk) (O.hts _ k3) k5 hR, O.hts _ k1, O.hts _ k2⟩ ⟨(g_preS O hI).1, O.rv hI hr, (g_preS (av := .ref a :: av) O hI).2⟩ rfl rfl hl.1 hst (lv_room hcat) d hf) kx kk
theorem g_callIN {index a : Nat} {host : String} {cc' : ByteArray} {M' : GM} {av st0 : List Value} {Po' : Option Value → AH → Prop} {Px' : String → Nat → AH → Prop} (hc : Ct E cc' M' (.ref a :: av) h Po' Px') (hk : gCi cc' M' av.length) (hlk : Cond.methodLinkNest own index M'.y host ∈ lw_tbl) (hR : M'.rm.frames + 1 ≤ M.rm.frames ∧ 8 + (M'.nL + 11) + M'.rm.locals ≤ M.rm.locals) (hf : k + M'.rm.cells ≤ M.rm.cells ∧ n + M'.rm.slots ≤ M.rm.slots) (hst : st0 = av.reverse ++ .ref a :: st) (hcat : (st.map fun v => v.category).sum ≤ 8) (d : decode cc pc = .ok (.invokespecial index, 3)) (kx : ∀ (C : String) (q : Nat) (h' : AH), Px' C q h' → VX E cc own M Po Px X h' (k + M'.rm.cells) (n + M'.rm.slots) pc ls C q) (kk : ∀ (v : Option Value) (h' : AH), Po' v h' → V E cc own M Po Px X h' (k + M'.rm.cells) (n + M'.rm.slots) (pc + 3) ls (v.toList ++ st)) : V E cc own M Po Px X h k n pc ls st0 := by
  intro O H locs la hI hS hl hL
  obtain ⟨k1, k2, k3, k4, k5, k6, k7⟩ := hk
  have hM := hc O.hE
  rw [gWs_0 k5, k7] at hM
  exact g_tail O hS hl hL (vx_runIN (index := index) ⟨O.hx, O.hb, O.hml, O.hown, O.hts⟩ hM ⟨va_cnB av.length O.hts (lw_meth k3) rfl rfl rfl (O.nest hlk) (O.hts _ k2) k4 hR, k6, O.hts _ k1⟩ (g_preS O hI) rfl rfl hl.1 hst (lv_room hcat) d hf) kx kk
/-- a method of the receiver's class itself, the receiver being of the start or new -/
theorem g_callVR {index a : Nat} {cc' : ByteArray} {M' : GM} {av st0 : List Value} {Po' : Option Value → AH → Prop} {Px' : String → Nat → AH → Prop} (hc : Ct E cc' M' (.ref a :: av) h Po' Px') (hk : gCv cc' M' av.length) (hlk : Cond.methodLink own index M'.y ∈ lw_all) (hr : gRv E h a M'.y.cls) (hR : M'.rm.frames + 1 ≤ M.rm.frames ∧ 8 + (M'.nL + 11) + M'.rm.locals ≤ M.rm.locals) (hf : k + M'.rm.cells ≤ M.rm.cells ∧ n + M'.rm.slots ≤ M.rm.slots) (hst : st0 = av.reverse ++ .ref a :: st) (hcat : (st.map fun v => v.category).sum ≤ 8) (d : decode cc pc = .ok (.invokevirtual index, 3)) (kx : ∀ (C : String) (q : Nat) (h' : AH), Px' C q h' → VX E cc own M Po Px X h' (k + M'.rm.cells) (n + M'.rm.slots) pc ls C q) (kk : ∀ (v : Option Value) (h' : AH), Po' v h' → V E cc own M Po Px X h' (k + M'.rm.cells) (n + M'.rm.slots) (pc + 3) ls (v.toList ++ st)) : V E cc own M Po Px X h k n pc ls st0 := by
  intro O H locs la hI hS hl hL
  obtain ⟨k1, k2, k3, k4, k5, k6⟩ := hk
  have hM := hc O.hE
  rw [gWs_0 k6] at hM
  exact g_tail O hS hl hL (vx_runV (index := index) (C := M'.y.cls) ⟨O.hx, O.hb, O.hml, O.hown, O.hts⟩ hM (cwV av.length O.hts (lw_V hlk k1 k2 k3 k4) rfl rfl rfl ⟨rfl, k5⟩ hR) ⟨(g_preS O hI).1, O.rv hI hr, (g_preS (av := .ref a :: av) O hI).2⟩ rfl rfl hl.1 hst (lv_room hcat) d hf) kx kk
/-- what a method is to callers that name it otherwise: C the receiver's class, x the name -/
def gCu (cc' : ByteArray) (M' : GM) (n : Nat) : Prop := Cond.instanceMethod M'.y ∈ lw_all ∧ Cond.initialized M'.y.cls ∈ lw_all ∧ Cond.code M'.y cc' M'.nL M'.ret ∈ lw_all ∧ gDs M'.y n ∧ M'.hh = []
/-- inherited: the name x finds the method y of a class above -/
theorem g_callU {index a : Nat} {C : String} {x : MethodName} {cc' : ByteArray} {M' : GM} {av st0 : List Value} {Po' : Option Value → AH → Prop} {Px' : String → Nat → AH → Prop} (hc : Ct E cc' M' (.ref a :: av) h Po' Px') (hk : gCu cc' M' av.length) (hlk : Cond.methodLink own index x ∈ lw_all) (hsm : Cond.sameMethod x.cls M'.y.cls x.name x.desc ∈ lw_all) (hse : Cond.selects C x M'.y ∈ lw_all) (hyx : M'.y = ⟨M'.y.cls, x.name, x.desc⟩) (hr : gRv E h a C) (hR : M'.rm.frames + 1 ≤ M.rm.frames ∧ 8 + (M'.nL + 11) + M'.rm.locals ≤ M.rm.locals) (hf : k + M'.rm.cells ≤ M.rm.cells ∧ n + M'.rm.slots ≤ M.rm.slots) (hst : st0 = av.reverse ++ .ref a :: st) (hcat : (st.map fun v => v.category).sum ≤ 8) (d : decode cc pc = .ok (.invokevirtual index, 3)) (kx : ∀ (C : String) (q : Nat) (h' : AH), Px' C q h' → VX E cc own M Po Px X h' (k + M'.rm.cells) (n + M'.rm.slots) pc ls C q) (kk : ∀ (v : Option Value) (h' : AH), Po' v h' → V E cc own M Po Px X h' (k + M'.rm.cells) (n + M'.rm.slots) (pc + 3) ls (v.toList ++ st)) : V E cc own M Po Px X h k n pc ls st0 := by
  intro O H locs la hI hS hl hL
  obtain ⟨k1, k2, k3, k4, k5⟩ := hk
  have hM := hc O.hE
  rw [gWs_0 k5] at hM
  have hG : GoodIn lw_all (va_wsU own index C M'.y.cls x M'.y (ws_ M'.y cc' M'.nL M'.ret)) := lw_app (fun w hw => by
    simp only [List.mem_cons, List.not_mem_nil, or_false] at hw
    rcases hw with rfl | rfl | rfl | rfl | rfl
    · exact hlk
    · exact hsm
    · exact hse
    · exact k1
    · exact k2) (lw_meth k3)
  have hds : (parseMethodDescriptor x.desc).map (fun d => d.parameters.length) = some av.length := by
    have z := k4.2.2
    rw [hyx] at z
    exact z
  exact g_tail O hS hl hL (vx_runU (index := index) (C := C) ⟨O.hx, O.hb, O.hml, O.hown, O.hts⟩ hM (va_cwU (owner := M'.y.cls) av.length O.hts hG rfl rfl rfl hyx ⟨k4.1, k4.2.1, hds⟩ hR) ⟨(g_preS O hI).1, O.rv hI hr, (g_preS (av := .ref a :: av) O hI).2⟩ rfl rfl hl.1 hst (lv_room hcat) d hf) kx kk
/-- the named method is abstract (declared by owner), the receiver's class has it -/
theorem g_callA {index a : Nat} {C owner : String} {x : MethodName} {cc' : ByteArray} {M' : GM} {av st0 : List Value} {Po' : Option Value → AH → Prop} {Px' : String → Nat → AH → Prop} (hc : Ct E cc' M' (.ref a :: av) h Po' Px') (hk : gCu cc' M' av.length) (hlk : Cond.methodLink own index x ∈ lw_all) (hsm : Cond.sameMethod x.cls owner x.name x.desc ∈ lw_all) (hse : Cond.selects C x M'.y ∈ lw_all) (hdc : Cond.declares ⟨owner, x.name, x.desc⟩ ∈ lw_tbl) (how : owner ≠ "java/lang/invoke/MethodHandle" ∧ owner ≠ "java/lang/invoke/VarHandle" ∧ x.desc = M'.y.desc) (hr : gRv E h a C) (hR : M'.rm.frames + 1 ≤ M.rm.frames ∧ 8 + (M'.nL + 11) + M'.rm.locals ≤ M.rm.locals) (hf : k + M'.rm.cells ≤ M.rm.cells ∧ n + M'.rm.slots ≤ M.rm.slots) (hst : st0 = av.reverse ++ .ref a :: st) (hcat : (st.map fun v => v.category).sum ≤ 8) (d : decode cc pc = .ok (.invokevirtual index, 3)) (kx : ∀ (C : String) (q : Nat) (h' : AH), Px' C q h' → VX E cc own M Po Px X h' (k + M'.rm.cells) (n + M'.rm.slots) pc ls C q) (kk : ∀ (v : Option Value) (h' : AH), Po' v h' → V E cc own M Po Px X h' (k + M'.rm.cells) (n + M'.rm.slots) (pc + 3) ls (v.toList ++ st)) : V E cc own M Po Px X h k n pc ls st0 := by
  intro O H locs la hI hS hl hL
  obtain ⟨k1, k2, k3, k4, k5⟩ := hk
  have hM := hc O.hE
  rw [gWs_0 k5] at hM
  have hG : GoodIn lw_all (va_wsU own index C owner x M'.y (ws_ M'.y cc' M'.nL M'.ret)) := lw_app (fun w hw => by
    simp only [List.mem_cons, List.not_mem_nil, or_false] at hw
    rcases hw with rfl | rfl | rfl | rfl | rfl
    · exact hlk
    · exact hsm
    · exact hse
    · exact k1
    · exact k2) (lw_meth k3)
  have hds : (parseMethodDescriptor x.desc).map (fun d => d.parameters.length) = some av.length := by
    rw [how.2.2]
    exact k4.2.2
  exact g_tail O hS hl hL (vx_runU (index := index) (C := C) ⟨O.hx, O.hb, O.hml, O.hown, O.hts⟩ hM (va_cwA (owner := owner) av.length O.hts hG rfl rfl rfl (va_Nw.warmD O.hW (O.nw rfl hdc)) ⟨how.1, how.2.1, hds⟩ hR) ⟨(g_preS O hI).1, O.rv hI hr, (g_preS (av := .ref a :: av) O hI).2⟩ rfl rfl hl.1 hst (lv_room hcat) d hf) kx kk
/-- overridden: the named method has code, that isn't run -/
theorem g_callO {index a : Nat} {C owner : String} {x : MethodName} {cc' : ByteArray} {M' : GM} {av st0 : List Value} {Po' : Option Value → AH → Prop} {Px' : String → Nat → AH → Prop} {b0 : ByteArray} {m0 : Nat} {r0 : Option FieldType} (hc : Ct E cc' M' (.ref a :: av) h Po' Px') (hk : gCu cc' M' av.length) (hlk : Cond.methodLink own index x ∈ lw_all) (hsm : Cond.sameMethod x.cls owner x.name x.desc ∈ lw_all) (hin : Cond.instanceMethod ⟨owner, x.name, x.desc⟩ ∈ lw_all) (hse : Cond.selects C x M'.y ∈ lw_all) (hcd : Cond.code ⟨owner, x.name, x.desc⟩ b0 m0 r0 ∈ lw_all) (how : owner ≠ "java/lang/invoke/MethodHandle" ∧ owner ≠ "java/lang/invoke/VarHandle" ∧ x.desc = M'.y.desc) (hr : gRv E h a C) (hR : M'.rm.frames + 1 ≤ M.rm.frames ∧ 8 + (M'.nL + 11) + M'.rm.locals ≤ M.rm.locals) (hf : k + M'.rm.cells ≤ M.rm.cells ∧ n + M'.rm.slots ≤ M.rm.slots) (hst : st0 = av.reverse ++ .ref a :: st) (hcat : (st.map fun v => v.category).sum ≤ 8) (d : decode cc pc = .ok (.invokevirtual index, 3)) (kx : ∀ (C : String) (q : Nat) (h' : AH), Px' C q h' → VX E cc own M Po Px X h' (k + M'.rm.cells) (n + M'.rm.slots) pc ls C q) (kk : ∀ (v : Option Value) (h' : AH), Po' v h' → V E cc own M Po Px X h' (k + M'.rm.cells) (n + M'.rm.slots) (pc + 3) ls (v.toList ++ st)) : V E cc own M Po Px X h k n pc ls st0 := by
  intro O H locs la hI hS hl hL
  obtain ⟨k1, k2, k3, k4, k5⟩ := hk
  have hM := hc O.hE
  rw [gWs_0 k5] at hM
  have hG : GoodIn lw_all (va_wsO own index C owner x M'.y (ws_ M'.y cc' M'.nL M'.ret)) := lw_app (fun w hw => by
    simp only [List.mem_cons, List.not_mem_nil, or_false] at hw
    rcases hw with rfl | rfl | rfl | rfl | rfl | rfl
    · exact hlk
    · exact hsm
    · exact hin
    · exact hse
    · exact k1
    · exact k2) (lw_meth k3)
  have hds : (parseMethodDescriptor x.desc).map (fun d => d.parameters.length) = some av.length := by
    rw [how.2.2]
    exact k4.2.2
  exact g_tail O hS hl hL (vx_runU (index := index) (C := C) ⟨O.hx, O.hb, O.hml, O.hown, O.hts⟩ hM (va_cwO (owner := owner) av.length O.hts hG rfl rfl rfl hcd ⟨how.1, how.2.1, hds⟩ hR) ⟨(g_preS O hI).1, O.rv hI hr, (g_preS (av := .ref a :: av) O hI).2⟩ rfl rfl hl.1 hst (lv_room hcat) d hf) kx kk
/-- behind a call of an interface's method -/
theorem g_tail5 {mc ms : Nat} {H : Heap} {locs : List Loc} {la : Array Slot} {st0 : List Value} {a : Array Value} {Po' : Option Value → AH → Prop} {Px' : String → Nat → AH → Prop} (O : gOk E cc own M X) (hS : va_S (gA E) X.s.heap H locs) (hl : lv_has la M.nL (gL M.c2 0 ls)) (hL : ls.length = M.nL) (hr : vx_Run5 X.p E.l X.e M.rm X.s X.m X.args X.below X.meth X.c H locs k n mc ms (F0 X.m pc la st0) st (gQc E Po' a) (gXC E Px') (gA E)) (kx : ∀ (C : String) (q : Nat) (h' : AH), Px' C q h' → VX E cc own M Po Px X h' (k + mc) (n + ms) pc ls C q) (kk : ∀ (v : Option Value) (h' : AH), Po' v h' → V E cc own M Po Px X h' (k + mc) (n + ms) (pc + 5) ls (v.toList ++ st)) : W X.p E.l X.e M.rm X.s X.m X.args X.below X.meth X.c H locs k n (vx_MQ X.below (gQc E Po) (gXC E Px) X.args X.s M.rm.cells M.rm.slots (gA E)) (F0 X.m pc la st0) := by
  intro T hT X0
  rcases hr T hT X0 with ⟨v, st₀, t, T', L, h0, X', hL', e1, e2, ⟨⟨v', h', hv, hp, hI'⟩, hF⟩, hst⟩ | ⟨q, st₀, t, T', L, C, ce, h0, X', hL', e1, e2, ⟨⟨h', hp, hI'⟩, hF⟩, hce, hcv, hcl, hst⟩
  · cases hv
    obtain ⟨-, -, hS2⟩ := vx_keep h0 e1 hS (fun _ _ z => z) (fun _ z => z) hL' hF
    obtain ⟨t2, a1, b1⟩ := kk v h' hp O T'.heap (locs ++ L) la (by rw [e1]; exact hI') hS2 hl hL T' rfl X'
    exact ⟨t2, hst t2 a1, b1⟩
  · obtain ⟨-, -, hS2⟩ := vx_keep h0 e1 hS (fun _ _ z => z) (fun _ z => z) hL' hF
    obtain ⟨t2, a1, b1⟩ := kx C q h' hp O T'.heap (locs ++ L) la st ce (by rw [e1]; exact hI') hS2 hl hL (by rw [e1]; exact hce) hcv hcl T' rfl X'
    exact ⟨t2, hst.trans a1, b1⟩
/-- a class at its number -/
theorem gOk.classAt (O : gOk E cc own M X) {ci : Nat} {q : vw_C} (hc : gCl[ci]? = some q) : ClassAt X.s q.1 (E.D.1 ci) := (O.hK.1 ci q hc).2
/-- an interface's method -/
theorem g_callF {index count a t ci : Nat} {fs : List Value} {q : vw_C} {x : MethodName} {cc' : ByteArray} {M' : GM} {av st0 : List Value} {Po' : Option Value → AH → Prop} {Px' : String → Nat → AH → Prop} (hc : Ct E cc' M' (.ref a :: av) h Po' Px') (hk : gCu cc' M' av.length) (hlk : Cond.methodLink own index x ∈ lw_all) (hse : Cond.selects q.1 x M'.y ∈ lw_all) (hF : Cond.declares x ∈ lw_tbl ∧ Cond.interfaceMethod x.cls x.cls x.name x.desc ∈ lw_tbl ∧ Cond.publicMethod M'.y ∈ lw_tbl ∧ Cond.unhidden q.1 x.name x.desc ∈ lw_tbl ∧ Cond.castable q.1 x.cls ∈ lw_tbl) (hx : (x.cls ≠ "java/lang/invoke/MethodHandle" ∧ x.cls ≠ "java/lang/invoke/VarHandle") ∧ x.desc = M'.y.desc) (ha : h a = some (t, gO ci fs)) (hcl : gCl[ci]? = some q) (hR : M'.rm.frames + 1 ≤ M.rm.frames ∧ 8 + (M'.nL + 11) + M'.rm.locals ≤ M.rm.locals) (hf : k + M'.rm.cells ≤ M.rm.cells ∧ n + M'.rm.slots ≤ M.rm.slots) (hst : st0 = av.reverse ++ .ref a :: st) (hcat : (st.map fun v => v.category).sum ≤ 8) (d : decode cc pc = .ok (.invokeinterface index count, 5)) (kx : ∀ (C : String) (q : Nat) (h' : AH), Px' C q h' → VX E cc own M Po Px X h' (k + M'.rm.cells) (n + M'.rm.slots) pc ls C q) (kk : ∀ (v : Option Value) (h' : AH), Po' v h' → V E cc own M Po Px X h' (k + M'.rm.cells) (n + M'.rm.slots) (pc + 5) ls (v.toList ++ st)) : V E cc own M Po Px X h k n pc ls st0 := by
  intro O H locs la hI hS hl hL
  obtain ⟨k1, k2, k3, k4, k5⟩ := hk
  have hM := hc O.hE
  rw [gWs_0 k5] at hM
  have hG : GoodIn lw_all (va_wsF own index q.1 x M'.y (ws_ M'.y cc' M'.nL M'.ret)) := lw_app (fun w hw => by
    simp only [List.mem_cons, List.not_mem_nil, or_false] at hw
    rcases hw with rfl | rfl | rfl | rfl
    · exact hlk
    · exact hse
    · exact k1
    · exact k2) (lw_meth k3)
  have hds : (parseMethodDescriptor x.desc).map (fun d => d.parameters.length) = some av.length := by
    rw [hx.2]
    exact k4.2.2
  have hw := O.hE.2.2.1
  have hFw : va_Fw q.1 x M'.y X.s := va_Fw.moved hx.1 O.hW.alike (va_Fw.of (hw _ hF.1) (hw _ hF.2.1) (hw _ hF.2.2.1) (hw _ hF.2.2.2.1) (hw _ hF.2.2.2.2))
  exact g_tail5 O hS hl hL (vx_runF (index := index) (C := q.1) (O.classAt hcl) ⟨O.hx, O.hb, O.hml, O.hown, O.hts⟩ hM (va_cwF av.length O.hts hG rfl rfl rfl hFw ⟨hx.1.1, hx.1.2, hds⟩ hR) ⟨(g_preS O hI).1, g_recv O hI ha hcl, (g_preS (av := .ref a :: av) O hI).2⟩ rfl rfl hl.1 hst (lv_room hcat) d hf) kx kk
/-- a superclass's method -/
theorem g_callSU {index a t ci : Nat} {fs : List Value} {q : vw_C} {cc' : ByteArray} {M' : GM} {av st0 : List Value} {Po' : Option Value → AH → Prop} {Px' : String → Nat → AH → Prop} (hc : Ct E cc' M' (.ref a :: av) h Po' Px') (hk : gCu cc' M' av.length) (hlk : Cond.methodLink own index M'.y ∈ lw_all) (hsm : Cond.sameMethod M'.y.cls M'.y.cls M'.y.name M'.y.desc ∈ lw_all) (hsp : Cond.superclass own M'.y.cls ∈ lw_all) (hni : M'.y.name ≠ "<init>") (ha : h a = some (t, gO ci fs)) (hcl : gCl[ci]? = some q) (hR : M'.rm.frames + 1 ≤ M.rm.frames ∧ 8 + (M'.nL + 11) + M'.rm.locals ≤ M.rm.locals) (hf : k + M'.rm.cells ≤ M.rm.cells ∧ n + M'.rm.slots ≤ M.rm.slots) (hst : st0 = av.reverse ++ .ref a :: st) (hcat : (st.map fun v => v.category).sum ≤ 8) (d : decode cc pc = .ok (.invokespecial index, 3)) (kx : ∀ (C : String) (q : Nat) (h' : AH), Px' C q h' → VX E cc own M Po Px X h' (k + M'.rm.cells) (n + M'.rm.slots) pc ls C q) (kk : ∀ (v : Option Value) (h' : AH), Po' v h' → V E cc own M Po Px X h' (k + M'.rm.cells) (n + M'.rm.slots) (pc + 3) ls (v.toList ++ st)) : V E cc own M Po Px X h k n pc ls st0 := by
  intro O H locs la hI hS hl hL
  obtain ⟨k1, k2, k3, k4, k5⟩ := hk
  have hM := hc O.hE
  rw [gWs_0 k5] at hM
  have hG : GoodIn lw_all (va_wsSU own index M'.y (ws_ M'.y cc' M'.nL M'.ret)) := lw_app (fun w hw => by
    simp only [List.mem_cons, List.not_mem_nil, or_false] at hw
    rcases hw with rfl | rfl | rfl | rfl | rfl
    · exact hlk
    · exact hsm
    · exact hsp
    · exact k1
    · exact k2) (lw_meth k3)
  exact g_tail O hS hl hL (vx_runSU (index := index) (C := q.1) (O.classAt hcl) ⟨O.hx, O.hb, O.hml, O.hown, O.hts⟩ hM (va_cwSU av.length O.hts hG rfl rfl rfl ⟨hni, k4.2.2⟩ hR) ⟨(g_preS O hI).1, g_recv O hI ha hcl, (g_preS (av := .ref a :: av) O hI).2⟩ rfl rfl hl.1 hst (lv_room hcat) d hf) kx kk
/-! methods with handlers, to their callers -/
def gCsW (cc' : ByteArray) (M' : GM) (n : Nat) : Prop := Cond.static M'.y ∈ lw_all ∧ Cond.initialized M'.y.cls ∈ lw_all ∧ Cond.codeWith M'.y cc' M'.nL M'.ret M'.hh ∈ lw_all ∧ gDs M'.y n ∧ M'.hh ≠ []
def gCvW (cc' : ByteArray) (M' : GM) (n : Nat) : Prop := Cond.instanceMethod M'.y ∈ lw_all ∧ Cond.selects M'.y.cls M'.y M'.y ∈ lw_all ∧ Cond.initialized M'.y.cls ∈ lw_all ∧ Cond.codeWith M'.y cc' M'.nL M'.ret M'.hh ∈ lw_all ∧ gDs M'.y n ∧ M'.hh ≠ []
theorem gWs_W {cc' : ByteArray} {M' : GM} (h0 : M'.hh ≠ []) : gWs cc' M' = wsW_ M'.y cc' M'.nL M'.ret M'.hh := by
  unfold gWs gWd
  split
  · rename_i e
    exact absurd e h0
  · rfl
theorem g_callSW {index : Nat} {cc' : ByteArray} {M' : GM} {av st0 : List Value} {Po' : Option Value → AH → Prop} {Px' : String → Nat → AH → Prop} (hc : Ct E cc' M' av h Po' Px') (hk : gCsW cc' M' av.length) (hlk : Cond.methodLink own index M'.y ∈ lw_all) (hR : M'.rm.frames + 1 ≤ M.rm.frames ∧ 8 + (M'.nL + 11) + M'.rm.locals ≤ M.rm.locals) (hf : k + M'.rm.cells ≤ M.rm.cells ∧ n + M'.rm.slots ≤ M.rm.slots) (hst : st0 = av.reverse ++ st) (hcat : (st.map fun v => v.category).sum ≤ 8) (d : decode cc pc = .ok (.invokestatic index, 3)) (kx : ∀ (C : String) (q : Nat) (h' : AH), Px' C q h' → VX E cc own M Po Px X h' (k + M'.rm.cells) (n + M'.rm.slots) pc ls C q) (kk : ∀ (v : Option Value) (h' : AH), Po' v h' → V E cc own M Po Px X h' (k + M'.rm.cells) (n + M'.rm.slots) (pc + 3) ls (v.toList ++ st)) : V E cc own M Po Px X h k n pc ls st0 := by
  intro O H locs la hI hS hl hL
  obtain ⟨k1, k2, k3, k4, k5⟩ := hk
  have hM := hc O.hE
  rw [gWs_W k5] at hM
  exact g_tail O hS hl hL (vx_runSX (index := index) (hh := M'.hh) ⟨O.hx, O.hb, O.hml, O.hown, O.hts⟩ hM (vx_cwSW av.length O.hts (lw_SW hlk k1 k2 k3) rfl rfl rfl k4 hR) (g_preS O hI) rfl rfl hl.1 hst (lv_room hcat) d hf) kx kk
theorem g_callVW {index a : Nat} {cc' : ByteArray} {M' : GM} {av st0 : List Value} {Po' : Option Value → AH → Prop} {Px' : String → Nat → AH → Prop} (hc : Ct E cc' M' (.ref a :: av) h Po' Px') (hk : gCvW cc' M' av.length) (hlk : Cond.methodLink own index M'.y ∈ lw_all) (hr : gRv E h a M'.y.cls) (hR : M'.rm.frames + 1 ≤ M.rm.frames ∧ 8 + (M'.nL + 11) + M'.rm.locals ≤ M.rm.locals) (hf : k + M'.rm.cells ≤ M.rm.cells ∧ n + M'.rm.slots ≤ M.rm.slots) (hst : st0 = av.reverse ++ .ref a :: st) (hcat : (st.map fun v => v.category).sum ≤ 8) (d : decode cc pc = .ok (.invokevirtual index, 3)) (kx : ∀ (C : String) (q : Nat) (h' : AH), Px' C q h' → VX E cc own M Po Px X h' (k + M'.rm.cells) (n + M'.rm.slots) pc ls C q) (kk : ∀ (v : Option Value) (h' : AH), Po' v h' → V E cc own M Po Px X h' (k + M'.rm.cells) (n + M'.rm.slots) (pc + 3) ls (v.toList ++ st)) : V E cc own M Po Px X h k n pc ls st0 := by
  intro O H locs la hI hS hl hL
  obtain ⟨k1, k2, k3, k4, k5, k6⟩ := hk
  have hM := hc O.hE
  rw [gWs_W k6] at hM
  exact g_tail O hS hl hL (vx_runVX (index := index) (hh := M'.hh) (C := M'.y.cls) ⟨O.hx, O.hb, O.hml, O.hown, O.hts⟩ hM (vx_cwVW av.length O.hts (lw_VW hlk k1 k2 k3 k4) rfl rfl rfl ⟨rfl, k5⟩ hR) ⟨(g_preS O hI).1, O.rv hI hr, (g_preS (av := .ref a :: av) O hI).2⟩ rfl rfl hl.1 hst (lv_room hcat) d hf) kx kk
theorem g_enterW {own : String} {E : GE} {cc : ByteArray} {M : GM} {av : List Value} {h : AH} {Po : Option Value → AH → Prop} {Px : String → Nat → AH → Prop} (ls : List (Option Value)) (hy : plainName M.y.cls = true) (how : M.y.cls = own) (hh : M.hh ≠ []) (hlen : (lg_sl av).length ≤ M.nL) (hl : gP 0 ls = lv_args 0 av) (hlL : ls.length = M.nL)
    (body : ∀ X : GX, V E cc own M Po Px X h 0 0 0 ls []) : Ct E cc M av h Po Px := by
  intro hE
  subst how
  refine vx_ofWH (cc := cc) (maxL := M.nL) (ret := M.ret) (hh := M.hh) (ws' := lw_all) hy (gWs_W hh) ?_
  intro p e s m args below meth c s₁ B hml hv
  obtain ⟨rfl, hW, hI⟩ := hv
  have hl0 := lv_entry av (n := M.nL) hlen
  rw [lg_entry_eq]
  generalize (lg_sl av ++ List.replicate (M.nL - (lg_sl av).length) Slot.unset).toArray = la at hl0 ⊢
  have hts := atoms_spec (ws := gWs cc M) B.pre
  refine body (p, e, s, m, av.toArray, below, meth, c) ⟨B.exec, B.bytes, B.returns, B.notSynchronized, hml, findClass_of_methodNamed B.named, fun w h => hts w (List.mem_cons_of_mem _ h), hW, (name_of_methodNamed B.named B.method).1, ?_, hI.1, hE⟩ s.heap [] la hI va_S.rf ⟨hl0.1, hl0.2.1, fun q hq => ?_⟩ hlL
  · refine vx_table (x := M.y) (bytes := cc) (maxL' := M.nL) (ret' := M.ret) B (hts _ ?_)
    rw [gWs_W hh]
    exact List.mem_cons_self
  · obtain ⟨j, v⟩ := q
    obtain ⟨-, h2, -⟩ := gL_mem.mp hq
    exact hl0.2.2 _ (hl ▸ gP_mem (Nat.zero_le _) h2)
end GR2

