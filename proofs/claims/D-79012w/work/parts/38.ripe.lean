/-! METHODS OF CLASSES OF WHICH NOTHING SAYS THAT THEY ARE INITIALISED (the constants' own classes): an instance method runs all the same; follows the library's MetFree.of_bodySF, Steps.callFree and vx_back, less the one clause -/
set_option maxRecDepth 100000
def apR (S : Spec) (x : MethodName) (pl : Platform) (s : State) (m : MethodId) (args : Array Value) (below : List Frame) : Prop :=
  s.status = .running ∧ s.curStatus? = some .runnable ∧ s.alone = true ∧ s.methodNamed? x = some m ∧ s.hears m below = true ∧ s.hasRoom pl S.room = true ∧ S.pre.before args s = true
def rMet (l : Launch) (x : MethodName) (S : Spec) (P : Array Value → State → Prop) (Q : Array Value → State → Outcome → State → Prop) : Prop :=
  ∀ (p : Program) e, l.admits e → FairCas e.choices → FairClock e.choices → ∀ s m args below,
    s.frames = .invoking m args :: below → apR S x e.platform s m args below → P args s →
    ∃ n o, (∀ k, k < n → Within (stepsAlone p.tables e k s) below) ∧ (stepsAlone p.tables e n s).status = .running ∧ Ended (stepsAlone p.tables e n s) below o ∧ Q args s o (stepsAlone p.tables e n s)
theorem rMet.of_body {l : Launch} {x : MethodName} {S : Spec} {P : Array Value → State → Prop} {Q : Array Value → State → Outcome → State → Prop} {code : ByteArray} {maxLocals : Nat} {ret : Option FieldType}
    (hx : plainFor x = true) (his : ∀ args s, S.pre.before args s = true → (Cond.code x code maxLocals ret).before args s = true)
    (body : ∀ (p : Program) (e : Env) (s : State) (m : MethodId) (args : Array Value) (below : List Frame) (meth : Method) (c : Code) (s₁ : State), p.tables.exec = Jvm.exec → s.methodNamed? x = some m → s.vm.method? m = some meth → meth.sig.returnType = ret → meth.locks = false → c.code = code → c.maxLocals = maxLocals → (∀ z ∈ c.exceptionTable.toList, False) → S.pre.before args s = true → s₁.heap = s.heap → Stand p l e S.room s m args below meth c s₁ [] 0 0 → P args s →
      ∃ s₂ o, Steps p.tables e below (s₁.setTop (entryFrame m args maxLocals)) s₂ ∧ s₂.status = .running ∧ Ended s₂ below o ∧ Q args s o s₂) : rMet l x S P Q := by
  intro p e ha hc hk s m args below hf happ hP
  obtain ⟨hrun, hable, halone, hname, hhears, hroom, hpre⟩ := happ
  obtain ⟨meth, c, hmeth, hcode, hbytes, hlocals, hret, hlocks, hexc, -⟩ := Cond.code_spec hname (his args s hpre)
  have hcur := State.cur_lt_of_frames hf
  have hf1 : (s.setFrames (.java (entryFrame m args maxLocals) :: below)).frames = .java (entryFrame m args maxLocals) :: below := State.frames_setFrames _ hcur
  have ht1 := State.topJava?_of_frames hf1
  have hplain : (s.setFrames (.java (entryFrame m args maxLocals) :: below)).plainMethod m := State.plainMethod.of_named (s := s) hx hname hmeth
  have hAt : At (s.setFrames (.java (entryFrame m args maxLocals) :: below)) m c below :=
    ⟨by rw [ht1]; rfl, ⟨[], by rw [hf1]; rfl⟩, hrun, by simpa using hable, by simpa using halone,
      by rw [State.code?_eq]; simp [State.setFrames, hmeth, hcode], hplain⟩
  have hstep : (stepThread p.tables e s).1 = (s.setFrames (.java (entryFrame m args maxLocals) :: below)).setTop (entryFrame m args maxLocals) := by
    have hfull : e.platform.stackFull (s.setFrames below).me (s.setFrames below).frames c.maxLocals = false := by
      obtain ⟨-, h1, -, h2⟩ := State.hasRoom_stack hroom
      rw [hf, List.length_cons] at h1
      rw [State.localsInUse_invoking hf hmeth hcode] at h2
      have hw := stackUse_le_stackWeight below
      rw [State.frames_setFrames _ hcur]
      exact Platform.stackFull_eq_false (by rw [State.stackLimits_setFrames]; omega) (by rw [State.stackLimits_setFrames]; omega)
    rw [stepThread_invoking hf, (doInvoke_java (s := s.setFrames below) (e := e) (meth := meth) (code := c) hmeth hcode hlocks hfull).1, State.setTop_self ht1]
    simp only [State.pushFrame, State.frames_setFrames _ hcur, State.setFrames_setFrames, hlocals, entryFrame]
  have hst : Stand p l e S.room s m args below meth c (s.setFrames (.java (entryFrame m args maxLocals) :: below)) [] 0 0 := by
    obtain ⟨t, ht, -⟩ := State.frames_cons hf
    exact ⟨ha, hc, hk, hf, hroom, hhears, hmeth, hcode, hAt, by rw [hf1]; rfl, State.WarmedH.refl s, by rw [State.stackLimits_setFrames], by rw [State.stackBytes_setFrames], (State.sameButNew.refl s ht).setFrames (.java (entryFrame m args maxLocals) :: below) hcur⟩
  obtain ⟨s₂, o, hs, hr, he, hp⟩ := body p e s m args below meth c (s.setFrames (.java (entryFrame m args maxLocals) :: below)) (by cases p <;> rfl) hname hmeth hret hlocks hbytes hlocals (by
    intro z hz
    rw [Array.isEmpty_iff.mp hexc] at hz
    cases hz) hpre rfl hst hP
  obtain ⟨n, hn, hw⟩ := Steps.head (tb := p.tables) (e := e) ⟨hrun, hable, halone⟩ ⟨[.invoking m args], hf, by simp, by simp⟩ (hstep ▸ hs)
  exact ⟨n, o, hw, hn ▸ hr, hn ▸ he, hn ▸ hp⟩
theorem apR.calling {S : Spec} {x : MethodName} {e : Env} {s : State} {g : JFrame} {c : Code} {below : List Frame} {m : MethodId} {args : Array Value} (h : At s g.method c below) {ig : Instr} {len : Nat} (hdg : decode c.code g.pc = .ok (ig, len)) (hnamed : s.methodNamed? x = some m)
    (hroom : (s.calling g m args).hasRoom e.platform S.room = true) (hpre : S.pre.before args s = true) : apR S x e.platform (s.calling g m args) m args (.java g :: s.frames.tail) := by
  have hcode : (s.calling g m args).code? g.method = some c := by
    have := h.code
    rw [State.code?_eq] at this ⊢
    simpa [State.calling, State.pushFrame, State.setFrames] using this
  refine ⟨h.running, ?_, ?_, hnamed, ?_, hroom, ?_⟩
  · simpa [State.calling] using h.runnable
  · simpa [State.calling] using h.alone
  · simp [State.hears, hcode, hdg, Except.toOption]
  · rw [State.calling_eq h.top, Cond.before_setFrames]; exact hpre
theorem r_call {l : Launch} {x : MethodName} {S : Spec} {P : Array Value → State → Prop} {Q : Array Value → State → Outcome → State → Prop} {e : Env} (hM : rMet l x S P Q) (p : Program) (ha : l.admits e) (hc : FairCas e.choices) (hk : FairClock e.choices)
    {s : State} {g : JFrame} {c : Code} {m : MethodId} {args : Array Value} {acts : List Action} {mid below : List Frame} (h : At s g.method c below)
    (hfr : (s.setTop g).frames = mid ++ below) (happ : apR S x e.platform (s.calling g m args) m args (.java g :: s.frames.tail)) (hP : P args (s.calling g m args)) :
    ∃ o s₂, Steps p.tables e below (doInvoke e (s.setTop g) acts m args).1 s₂ ∧ s₂.status = .running ∧ Ended s₂ (s.setTop g).frames o ∧ Q args (s.calling g m args) o s₂ := by
  have hft : (s.setTop g).frames = .java g :: s.frames.tail := State.frames_setTop' g h.top
  have hf' : (s.calling g m args).frames = .invoking m args :: (.java g :: s.frames.tail) := State.frames_calling h.top g m args
  have happ0 := happ
  obtain ⟨hrun, hable, halone, -⟩ := happ
  have hgo : (s.calling g m args).goesOn := ⟨hrun, hable, halone⟩
  obtain ⟨t, ht⟩ : ∃ t, (s.setTop g).threads[(s.setTop g).cur]? = some t := by
    obtain ⟨t, ht, -⟩ := State.frames_cons hft
    exact ⟨t, ht⟩
  obtain ⟨n, o, hw, hr, he, hp⟩ := hM p e ha hc hk (s.calling g m args) m args (.java g :: s.frames.tail) hf' happ0 hP
  have hstep : (stepThread p.tables e (s.calling g m args)).1 = (doInvoke e (s.setTop g) acts m args).1 := by
    rw [stepThread_invoking hf', doInvoke_state e (s.setTop g) acts, ← hft]
    show (doInvoke e (((s.setTop g).pushFrame (.invoking m args)).setFrames (s.setTop g).frames) [] m args).1 = _
    rw [State.pushFrame, State.setFrames_setFrames, State.setFrames_self ht]
  cases n with
  | zero => exact absurd ⟨[.invoking m args], hf', by simp, by simp⟩ he.not_within
  | succ k =>
    rw [stepsAlone_succ _ hgo, hstep] at hr he hp
    rw [hft]
    refine ⟨o, _, ⟨k, rfl, fun j hj => ?_⟩, hr, he, hp⟩
    have := hw (j + 1) (by omega)
    rw [stepsAlone_succ _ hgo, hstep, ← hft, hfr] at this
    exact this.weaken
section RPayer
variable {l : Launch} {R : Room} {p : Program} {e : Env} {below : List Frame} {s : State} {sargs : Array Value} {y : MethodName} {len W9 : Nat}
theorem r_back {ws : List Cond} {rm : Room} {Pc : Array Value → State → Prop} {Qc : Array Value → State → Outcome → State → Prop} {XC : String → Addr → State → State → Prop} {mc ms : Nat} {free : Addr → Prop} {bytes : ByteArray} {maxL : Nat} {ret : Option FieldType}
    (hM : rMet l y (headSpec ws rm) Pc (vx_Q Qc XC mc ms free)) (hblind : FrameBlind Pc) (hrc : rm.cells = mc) (hrs : rm.slots = ms)
    (hframes : rm.frames + 1 ≤ R.frames) (hlocals : W9 + (maxL + 11) + rm.locals ≤ R.locals)
    (hws : ∀ w ∈ ws, ∀ a' U, s.WarmedH U.vm → w.before a' U = true) (hcode : Cond.code y bytes maxL ret ∈ ws) :
    vx_Back l R p e below s sargs y len W9 (PreOf R mc ms Pc) (PostOf Qc mc ms free) (vx_Post XC mc ms free) := by
  intro m meth c A g ig mk a X hg hsize hdg hW hn hp
  have h1 : (headSpec ws rm).pre.before a A.U = true := atoms_intro fun w hw => hws w hw _ _ X.warmed
  have h2 : (Cond.code y bytes maxL ret).before a A.U = true := hws _ hcode _ _ X.warmed
  have h4 : A.cells + (headSpec ws rm).room.cells ≤ R.cells := by rw [show (headSpec ws rm).room.cells = mc from hrc]; exact hp.1
  have h5 : A.slots + (headSpec ws rm).room.slots ≤ R.slots := by rw [show (headSpec ws rm).room.slots = ms from hrs]; exact hp.2.1
  have hPc : Pc a (A.U.calling g mk a) := hblind _ _ _ _ hp.2.2
  obtain ⟨U, Ls, c0, s0⟩ := A
  dsimp only [Pt.U, Pt.locs, Pt.cells, Pt.slots] at h1 h2 h4 h5 X hn hPc ⊢
  obtain ⟨methY, cY, hmY, hcY, -, hlY, -, -, -, -⟩ := Cond.code_spec hn h2
  have h : At U g.method c below := by rw [hg]; exact X.here
  have hlocals9 : W9 + (maxL + 11) + (headSpec ws rm).room.locals ≤ R.locals := hlocals
  have happ : apR (headSpec ws rm) y e.platform (U.calling g mk a) mk a (.java g :: U.frames.tail) :=
    apR.calling (g := g) h hdg hn (X.room_calling (g := g) (R' := (headSpec ws rm).room) hsize hmY hcY hframes (by rw [hlY]; omega) h4 h5) h1
  obtain ⟨mid, hmid⟩ := h.above
  have hfr : (U.setTop g).frames = (.java g :: mid) ++ below := by rw [State.frames_setTop' g h.top, hmid]; rfl
  obtain ⟨o, s₂, hsteps, -, hend, hq⟩ := r_call hM p X.admits X.cas X.clock (acts := []) h hfr happ hPc
  have hq' : vx_Q Qc XC mc ms free a (U.calling g mk a) o s₂ := hq
  rw [State.frames_setTop' g h.top] at hend
  obtain ⟨g₀, hg0⟩ := Option.isSome_iff_exists.mp h.top
  obtain ⟨r, hr⟩ := State.topJava?_eq_some.mp hg0
  have hr' : (({ U with heap := s₂.heap, slotsUsed := s₂.slotsUsed } : State).setVm s₂.vm).frames = .java g₀ :: r := hr
  rcases hq' with ⟨hqc, L, hfe, hL⟩ | ⟨q, rfl, E, ce, L, hx, hce, hcv, hcl, hW₂, hsm, hL⟩
  · obtain ⟨⟨v, rfl⟩, hW₂, e2, q2, q3, q4, q5, q6⟩ := id hfe
    have e3 : s₂ = ({ (U.calling g mk a).setFrames s₂.frames with heap := s₂.heap, slotsUsed := s₂.slotsUsed } : State).setVm s₂.vm := by
      have : s₂ = ({ s₂ with vm := (U.calling g mk a).vm } : State).setVm s₂.vm := rfl
      rw [e2] at this
      exact this
    obtain ⟨c₂, i₂, len₂, hc₂, hd₂, hf₂⟩ := hend
    have hW' : U.WarmedH s₂.vm := hW₂
    have hcc : c₂ = c := by
      have h1 : s₂.code? g.method = U.code? g.method := by
        rw [State.code?_eq, State.code?_eq, hW'.alike.method?]
      exact Option.some.inj (hc₂.symm.trans (h1.trans h.code))
    subst hcc
    have hlen : len₂ = len := by rw [hdg] at hd₂; cases hd₂; rfl
    subst hlen
    have hs₂ : s₂ = (({ U with heap := s₂.heap, slotsUsed := s₂.slotsUsed } : State).setVm s₂.vm).setTop { g with pc := g.pc + len₂, stack := v.toList ++ g.stack } := by
      refine e3.trans ?_
      rw [hf₂, State.calling_eq h.top, State.setFrames_setFrames, State.setTop_of_frames _ hr', hr]
      rfl
    have hsame : U.sameButNew ({ U with heap := s₂.heap, slotsUsed := s₂.slotsUsed } : State) L mc ms := by
      refine ⟨?_, q2, q3, q4, q5, q6⟩
      obtain ⟨t, ht, -⟩ := State.frames_cons hr
      show ({ U with heap := s₂.heap, slotsUsed := s₂.slotsUsed } : State) = { U.setFrames U.frames with heap := s₂.heap, slotsUsed := s₂.slotsUsed }
      rw [State.setFrames_self ht]
    subst hg
    refine Or.inl ⟨v, ⟨(({ U with heap := s₂.heap, slotsUsed := s₂.slotsUsed } : State).setVm s₂.vm), Ls ++ L, c0 + mc, s0 + ms⟩,
      ⟨X.admits, X.cas, X.clock, X.frames, X.room, X.hears, X.method, X.code, (X.here.setHeapUsed s₂.heap s₂.slotsUsed).setVm hW'.alike, X.tail, State.WarmedH.trans X.warmed hW', X.limits, X.bytes, X.same.trans (hsame.setVm s.vm)⟩,
      ⟨g, mk, s₂, L, rfl, rfl, hqc, rfl, hL, rfl, rfl⟩, ?_⟩
    show Steps p.tables e below _ ((({ U with heap := s₂.heap, slotsUsed := s₂.slotsUsed } : State).setVm s₂.vm).setTop { g with pc := g.pc + len₂, stack := v.toList ++ g.stack })
    rw [← hs₂]
    exact hsteps
  · obtain ⟨e2, q2, q3, q4, q5, q6⟩ := id hsm
    have e3 : s₂ = ({ (U.calling g mk a).setFrames s₂.frames with heap := s₂.heap, slotsUsed := s₂.slotsUsed } : State).setVm s₂.vm := by
      have : s₂ = ({ s₂ with vm := (U.calling g mk a).vm } : State).setVm s₂.vm := rfl
      rw [e2] at this
      exact this
    have hf₂ : s₂.frames = .throwing q :: .java g :: U.frames.tail := hend
    have hW' : U.WarmedH s₂.vm := hW₂
    have hs₂ : s₂ = ((({ U with heap := s₂.heap, slotsUsed := s₂.slotsUsed } : State).setVm s₂.vm).setTop g).pushFrame (.throwing q) := by
      refine e3.trans ?_
      rw [hf₂, State.calling_eq h.top, State.setFrames_setFrames, State.pushFrame, State.frames_setTop _ hr', State.setTop_of_frames _ hr', State.setFrames_setFrames, hr]
      rfl
    have hsame : U.sameButNew ({ U with heap := s₂.heap, slotsUsed := s₂.slotsUsed } : State) L mc ms := by
      refine ⟨?_, q2, q3, q4, q5, q6⟩
      obtain ⟨t, ht, -⟩ := State.frames_cons hr
      show ({ U with heap := s₂.heap, slotsUsed := s₂.slotsUsed } : State) = { U.setFrames U.frames with heap := s₂.heap, slotsUsed := s₂.slotsUsed }
      rw [State.setFrames_self ht]
    subst hg
    refine Or.inr ⟨q, ⟨(({ U with heap := s₂.heap, slotsUsed := s₂.slotsUsed } : State).setVm s₂.vm), Ls ++ L, c0 + mc, s0 + ms⟩,
      ⟨X.admits, X.cas, X.clock, X.frames, X.room, X.hears, X.method, X.code, (X.here.setHeapUsed s₂.heap s₂.slotsUsed).setVm hW'.alike, X.tail, State.WarmedH.trans X.warmed hW', X.limits, X.bytes, X.same.trans (hsame.setVm s.vm)⟩,
      ⟨g, mk, s₂, L, E, ce, rfl, rfl, hx, hce, hcv, hcl, rfl, hL, rfl, rfl⟩, ?_⟩
    show Steps p.tables e below _ (((({ U with heap := s₂.heap, slotsUsed := s₂.slotsUsed } : State).setVm s₂.vm).setTop g).pushFrame (.throwing q))
    rw [← hs₂]
    exact hsteps
end RPayer
/-- a contract of a method of such a class -/
def CtR (E : GE) (cc : ByteArray) (M : GM) (av : List Value) (h : AH) (Po : Option Value → AH → Prop) (Px : String → Nat → AH → Prop) : Prop :=
  gE E → rMet E.l M.y (headSpec (gWs cc M) M.rm) (va_Pc av (fun U => E.S0.WarmedH U.vm ∧ gI E h U.heap)) (vx_Q (gQc E Po) (gXC E Px) M.rm.cells M.rm.slots (gA E))
theorem g_enterR {own : String} {E : GE} {cc : ByteArray} {M : GM} {av : List Value} {h : AH} {Po : Option Value → AH → Prop} {Px : String → Nat → AH → Prop} (ls : List (Option Value)) (hy : plainName M.y.cls = true) (how : M.y.cls = own) (hh : M.hh = []) (hlen : (lg_sl av).length ≤ M.nL) (hl : gP 0 ls = lv_args 0 av) (hlL : ls.length = M.nL)
    (body : ∀ X : GX, V E cc own M Po Px X h 0 0 0 ls []) : CtR E cc M av h Po Px := by
  intro hE
  subst how
  have hw : gWs cc M = Cond.code M.y cc M.nL M.ret :: lw_all := by unfold gWs gWd; rw [hh]
  refine rMet.of_body (code := cc) (maxLocals := M.nL) (ret := M.ret) (plainFor_of_name hy) (fun args s hp => atoms_spec (ws := gWs cc M) hp _ (by rw [hw]; exact List.mem_cons_self)) ?_
  intro p e s m args below meth c s₁ hexec hnamed hmeth hret hlocks hbytes hml hnt hpre hh0 hst hv
  obtain ⟨rfl, hW, hI⟩ := hv
  have hl0 := lv_entry av (n := M.nL) hlen
  rw [lg_entry_eq]
  generalize (lg_sl av ++ List.replicate (M.nL - (lg_sl av).length) Slot.unset).toArray = la at hl0 ⊢
  have hts := atoms_spec (ws := gWs cc M) hpre
  obtain ⟨t, a1, o, b1, b2, b3⟩ := body (p, e, s, m, av.toArray, below, meth, c) ⟨hexec, hbytes, hret, hlocks, hml, findClass_of_methodNamed hnamed, fun w h => hts w (List.mem_cons_of_mem _ h), hW, (name_of_methodNamed hnamed hmeth).1, (by
    rw [hh]
    cases hc : c.exceptionTable.toList with
    | nil => rfl
    | cons x r => exact absurd (hc ▸ List.mem_cons_self) (fun z => hnt x z)), hI.1, hE⟩ s.heap [] la hI va_S.rf ⟨hl0.1, hl0.2.1, fun q hq => (by
    obtain ⟨j, v⟩ := q
    obtain ⟨-, h2, -⟩ := gL_mem.mp hq
    exact hl0.2.2 _ (hl ▸ gP_mem (Nat.zero_le _) h2))⟩ hlL s₁ hh0 hst
  exact ⟨t, o, a1, b1, b2, b3⟩
def gCr (cc' : ByteArray) (M' : GM) (n : Nat) : Prop := Cond.instanceMethod M'.y ∈ lw_all ∧ Cond.code M'.y cc' M'.nL M'.ret ∈ lw_all ∧ gDs M'.y n ∧ M'.hh = []
section GR6
variable {E : GE} {cc : ByteArray} {own : String} {M : GM} {Po : Option Value → AH → Prop} {Px : String → Nat → AH → Prop} {X : GX} {h : AH} {k n pc : Nat} {ls : List (Option Value)} {st : List Value}
/-- the named method is abstract (declared by owner), the receiver's class C has it -/
theorem g_callAR {index a : Nat} {C owner : String} {x : MethodName} {cc' : ByteArray} {M' : GM} {av st0 : List Value} {Po' : Option Value → AH → Prop} {Px' : String → Nat → AH → Prop} (hc : CtR E cc' M' (.ref a :: av) h Po' Px') (hk : gCr cc' M' av.length) (hlk : Cond.methodLink own index x ∈ lw_all) (hsm : Cond.sameMethod x.cls owner x.name x.desc ∈ lw_all) (hse : Cond.selects C x M'.y ∈ lw_all) (hdc : Cond.declares ⟨owner, x.name, x.desc⟩ ∈ lw_tbl) (how : owner ≠ "java/lang/invoke/MethodHandle" ∧ owner ≠ "java/lang/invoke/VarHandle" ∧ x.desc = M'.y.desc) (hr : gRv E h a C) (hR : M'.rm.frames + 1 ≤ M.rm.frames ∧ 8 + (M'.nL + 11) + M'.rm.locals ≤ M.rm.locals) (hf : k + M'.rm.cells ≤ M.rm.cells ∧ n + M'.rm.slots ≤ M.rm.slots) (hst : st0 = av.reverse ++ .ref a :: st) (hcat : (st.map fun v => v.category).sum ≤ 8) (d : decode cc pc = .ok (.invokevirtual index, 3)) (kx : ∀ (C : String) (q : Nat) (h' : AH), Px' C q h' → VX E cc own M Po Px X h' (k + M'.rm.cells) (n + M'.rm.slots) pc ls C q) (kk : ∀ (v : Option Value) (h' : AH), Po' v h' → V E cc own M Po Px X h' (k + M'.rm.cells) (n + M'.rm.slots) (pc + 3) ls (v.toList ++ st)) : V E cc own M Po Px X h k n pc ls st0 := by
  intro O H locs la hI hS hl hL
  obtain ⟨k1, k3, k4, k5⟩ := hk
  have hM := hc O.hE
  rw [gWs_0 k5] at hM
  have hds : (parseMethodDescriptor x.desc).map (fun d => d.parameters.length) = some av.length := by
    rw [how.2.2]
    exact k4.2.2
  have hp : PreV X.s H C a (va_Pc (.ref a :: av) (fun U => E.S0.WarmedH U.vm ∧ gI E h U.heap)) av := ⟨(g_preS O hI).1, O.rv hI hr, (g_preS (av := .ref a :: av) O hI).2⟩
  have hws : ∀ w ∈ ws_ M'.y cc' M'.nL M'.ret, ∀ (a' : Array Value) (U : State), X.s.WarmedH U.vm → w.before a' U = true := pay_in O.hts (lw_meth k3)
  have hK := r_back (R := M.rm) (p := X.p) (e := X.e) (below := X.below) (s := X.s) (sargs := X.args) (len := 3) (W9 := 8) (bytes := cc') (maxL := M'.nL) (ret := M'.ret) hM hp.1 rfl rfl hR.1 hR.2 hws List.mem_cons_self
  refine g_tail O hS hl hL (mc := M'.rm.cells) (ms := M'.rm.slots) (a := (Value.ref a :: av).toArray) ?_ kx kk
  obtain ⟨-, ⟨cellB, hcB, hoB, hclB⟩, hPc⟩ := hp
  intro T hT X0
  rcases vx_callVU X0 O.hx (C := C) (owner := owner) (bytes := cc') (maxL := M'.nL) (ret := M'.ret) O.hown (O.hts _ hlk) (O.hts _ hsm) (va_Decl.abs (va_Nw.warmD O.hW (O.nw rfl hdc))) ⟨how.1, how.2.1⟩ (O.hts _ hse) (O.hts _ k1) (O.hts _ k3) hK (by rw [hT]; exact hcB) hoB hclB (g := F0 X.m pc la st0) rfl (hl.1.trans O.hml.symm) (argsL := av) (rest := st) (fun sig h9 => (by
      rw [h9] at hds
      exact (Option.some.inj hds).symm)) hst (lv_room hcat) (by rw [O.hb]; exact d)
    (fun vm₁ hW₁ => ⟨hf.1, hf.2, hPc (T.setVm vm₁) hT hW₁⟩) with ⟨v, vm₁, ⟨U', l2, c2, s2⟩, hW₁, X', ⟨g', mk, t, L, e1, e2, hq, h1, hL, h2, h3⟩, st⟩ | ⟨q, vm₁, ⟨U', l2, c2, s2⟩, hW₁, X', ⟨g', mk, t, L, E', ce, e1, e2, hq, hce, hcv, hcl, h1, hL, h2, h3⟩, st⟩
  · dsimp only [Pt.U, Pt.locs, Pt.cells, Pt.slots] at X' e1 e2 h1 h2 h3 st
    subst h1; subst h2; subst h3
    exact Or.inl ⟨v, (T.setVm vm₁).calling g' mk (Value.ref a :: av).toArray, t, U', L, hT, X', hL, e1, e2, hq, st⟩
  · dsimp only [Pt.U, Pt.locs, Pt.cells, Pt.slots] at X' e1 e2 h1 h2 h3 st hcl
    subst h1; subst h2; subst h3
    exact Or.inr ⟨q, (T.setVm vm₁).calling g' mk (Value.ref a :: av).toArray, t, U', L, E', ce, hT, X', hL, e1, e2, hq, hce, hcv, vx_cls hW₁ hcl, st⟩
end GR6

