/-! methods that throw: a contract of their own, what lays the exception, who lets it pass, who catches it -/
/-- x is a new cell of the class X; no old cell has changed -/
def yTh (X : String) (st : State) (x : Nat) (t : State) : Prop := st.heap.size ≤ x ∧ (∀ q : Nat, q < st.heap.size → t.heap[q]? = st.heap[q]?) ∧ ∃ cell : Cell, t.heap[x]? = some cell ∧ cell.vm = .none ∧ st.vm.findClass X = some cell.cls
def MetT (l : Launch) (y : MethodName) (ws : List Cond) (rm : Room) (Pc : Array Value → State → Prop) (X : String) (mc ms : Nat) : Prop :=
  MetFree l y (headSpec ws rm) Pc (fun _ _ _ _ _ => True) (fun _ st o t => ∃ x, o = .threw x ∧ yTh X st x t ∧ st.WarmedH t.vm ∧ st.sameButNew ({ t with vm := st.vm } : State) [] mc ms)
def yQT (below : List Frame) (X : String) (s : State) (mc ms : Nat) : State → Prop := fun t => ∃ x, t.status = .running ∧ Ended t below (.threw x) ∧ yTh X s x t ∧ s.WarmedH t.vm ∧ s.sameButNew ({ t with vm := s.vm } : State) [] mc ms
theorem MetT.ofW {l : Launch} {y : MethodName} {ws ws' : List Cond} {rm : Room} {Pc : Array Value → State → Prop} {X : String} {mc ms : Nat} {cc : ByteArray} {maxL : Nat} {ret : Option FieldType}
    (hy : plainName y.cls = true) (hw : ws = Cond.code y cc maxL ret :: ws')
    (body : ∀ p e s m args below meth c s₁, BodyLoose p l y (headSpec ws rm) cc maxL ret e s m args below meth c s₁ → c.maxLocals = maxL → c.exceptionTable.toList = [] → l.admits e → Pc args s →
      W p l e (headSpec ws rm).room s m args below meth c s.heap [] 0 0 (yQT below X s mc ms) (entryFrame m args maxL)) : MetT l y ws rm Pc X mc ms := by
  refine MetFree.of_bodyS (code := cc) (maxLocals := maxL) (ret := ret) hy ?_ ?_
  · intro args s m h hn
    obtain ⟨meth, c, h1, h2, h3, h4, h5, h6, -, -⟩ := Cond.code_spec hn (atoms_spec (ws := ws) h _ (by rw [hw]; exact List.mem_cons_self))
    exact ⟨meth, c, h1, h2, h3, h4, h5, h6⟩
  · intro p e s m args below meth c s₁ B hml hP _
    have hh0 : s₁.heap = s.heap := by rw [B.state]; rfl
    have hcode : (Cond.code y cc maxL ret).before args s = true := atoms_spec (ws := ws) B.pre _ (by rw [hw]; exact List.mem_cons_self)
    have hem : c.exceptionTable.toList = [] := by
      have := BodyLoose.noHandlers B hcode
      rw [Array.isEmpty_iff] at this
      rw [this]
    have X₀ := Stand.of_body B
    obtain ⟨t, a1, x, b1, b2, b3⟩ := body p e s m args below meth c s₁ B hml hem X₀.admits hP s₁ hh0 X₀
    exact ⟨t, .threw x, a1, b1, b2, x, rfl, b3⟩
/-- nothing written: the old cells are as they were -/
theorem same_old {s t : State} {k n : Nat} (h : s.sameButNew t [] k n) : ∀ q : Nat, q < s.heap.size → t.heap[q]? = s.heap[q]? := by
  intro q hq
  obtain ⟨-, -, -, -, -, h6⟩ := h
  obtain ⟨cq, hcq⟩ : ∃ cq, s.heap[q]? = some cq := ⟨_, Array.getElem?_eq_getElem hq⟩
  obtain ⟨c', h1, h2, h3, h4⟩ := h6 q cq hcq
  rw [h1, hcq]
  congr 1
  rw [h2]
  have : c'.slots = cq.slots := Array.ext_getElem? (fun i => h4 i (by simp))
  rw [this]
section YT
variable {p : Program} {l : Launch} {e : Env} {R : Room} {s : State} {m : MethodId} {args : Array Value} {below : List Frame} {meth : Method} {c : Code} {H : Heap} {cells slots : Nat} {Q : State → Prop}
variable {cc : ByteArray} {pc : Nat} {ls : Array Slot} {rest st0 As : List Value} {X : String}
/-- throw new X() -/
theorem yt_new {own : String} {names : List String} {idx ic : Nat} (hx : p.tables.exec = Jvm.exec) (hb : c.code = cc) (htr : e.platform.stackTraces = false) (hown : s.vm.findClass own = some m.cls) (hfit : Bundle.fit X = true) (hnames : ∀ n ∈ names, Bundle.fit n = true)
    (hat : ∀ w ∈ Bundle.ownAtoms0 own ic X names, w.before args s = true) (hcl : (Cond.classLink own idx X).before args s = true) (hini : (Cond.initialized X).before args s = true) (hem : c.exceptionTable.toList = []) (hlocks : meth.locks = false) (hsz : ls.size = c.maxLocals)
    (hs0 : s.heap.size ≤ H.size) (hF : names.length + 3 < R.frames) (hL : 13 * (names.length + 1) + 44 ≤ R.locals) (hc1 : cells + 1 ≤ R.cells) (hs1 : slots + 6 ≤ R.slots)
    (hd0 : decode cc pc = .ok (.new idx, 3)) (hd3 : decode cc (pc + 3) = .ok (.dup, 1)) (hd4 : decode cc (pc + 4) = .ok (.invokespecial ic, 3)) (hd7 : decode cc (pc + 7) = .ok (.athrow, 1)) :
    W p l e R s m args below meth c H [] cells slots (yQT below X s (cells + 1) (slots + 6)) (F0 m pc ls []) := by
  have hins : (Cond.instantiable X 6).before args s = true := hat _ (by simp [Bundle.ownAtoms0])
  obtain ⟨cX, kX0, hfX, -⟩ := Cond.instantiable_spec hins
  refine W.newcK hx hb hown hcl hins hini rfl hd0 hc1 hs1 hfX rfl fun H1 kX hkX e1 z1 o1 => ?_
  refine W.eq (g2 := F0 m (pc + 3) ls [.ref H.size]) rfl ?_
  refine lv_dup hx hb hd3 rfl ?_
  intro T hT XS
  obtain ⟨U, st, h1, h2, h3, h4, ce, h5, h6⟩ := XS.ctorThrow0 hx htr (own := own) (cls := X) (names := names) (ic := ic) hown hfit hnames hat (fun x hx => by cases hx) (a := H.size) (cX := cX) (kX := kX) hfX hkX (by rw [hT]; exact e1) hs0
    (g := F0 m (pc + 3 + 1) ls [.ref H.size, .ref H.size]) rfl hsz rfl rfl (rest := []) rfl (by rw [hb]; exact hd4) (by rw [hb]; exact hd7) (by rw [hem]; intro x hx; cases hx) hF (by
      show 2 * (F0 m (pc + 3 + 1) ls [.ref H.size, .ref H.size]).monitorRoom + _ + _ ≤ _
      have hz : (F0 m (pc + 3 + 1) ls [.ref H.size, .ref H.size]).monitorRoom = 0 := rfl
      rw [hz]
      show 2 * 0 + (1 + 0) + (13 * (names.length + 1) + 41) ≤ R.locals
      omega) hlocks
  exact ⟨U, st, H.size, h1, h2, ⟨hs0, same_old h4, ce, h5, h6.vm, h6.cls⟩, h3, h4⟩
/-- a call whose callee throws: where the machine is then -/
def yRun (p : Program) (l : Launch) (e : Env) (R : Room) (s : State) (m : MethodId) (args : Array Value) (below : List Frame) (meth : Method) (c : Code) (H : Heap) (cells slots mc ms : Nat) (g : JFrame) (rest : List Value) (X : String) : Prop :=
  ∀ T : State, T.heap = H → Stand p l e R s m args below meth c T [] cells slots → ∃ (T' : State) (x : Nat) (cell : Cell), Stand p l e R s m args below meth c T' [] (cells + mc) (slots + ms) ∧ H.size ≤ x ∧ (∀ q : Nat, q < H.size → T'.heap[q]? = H[q]?) ∧ H.size ≤ T'.heap.size ∧ T'.heap[x]? = some cell ∧ cell.vm = .none ∧ s.vm.findClass X = some cell.cls ∧
    ∀ target, Steps p.tables e below ((T'.setTop { g with stack := rest }).pushFrame (.throwing x)) target → Steps p.tables e below (T.setTop g) target
theorem yt_core {y : MethodName} {ws : List Cond} {rm : Room} {Pc : Array Value → State → Prop} {mc ms maxL : Nat} {bytes : ByteArray} {ret : Option FieldType} (hM : MetT l y ws rm Pc X mc ms) (hbl : FrameBlind Pc) (hrc : rm.cells = mc) (hrs : rm.slots = ms) (hfr0 : rm.frames + 1 ≤ R.frames) (hlo : 8 + (maxL + 11) + rm.locals ≤ R.locals)
    (hws : ∀ w ∈ ws, ∀ (a' : Array Value) (U : State), s.WarmedH U.vm → w.before a' U = true) (hcw : Cond.code y bytes maxL ret ∈ ws) (hini : ∀ (a' : Array Value) (U : State), s.WarmedH U.vm → (Cond.initialized y.cls).before a' U = true)
    {T : State} {g : JFrame} {ig : Instr} {len : Nat} {mk : MethodId} {a : Array Value} (XS : Stand p l e R s m args below meth c T [] cells slots) (hg : g.method = m) (hsize : g.locals.size = c.maxLocals) (hdg : decode c.code g.pc = .ok (ig, len)) (hW : 2 * g.monitorRoom + (g.stack.map fun v => v.category).sum ≤ 8) (hn : T.methodNamed? y = some mk) (hc : cells + mc ≤ R.cells) (hs : slots + ms ≤ R.slots) (hPc : Pc a T) :
    ∃ (T' : State) (x : Nat) (cell : Cell), Stand p l e R s m args below meth c T' [] (cells + mc) (slots + ms) ∧ T.heap.size ≤ x ∧ (∀ q : Nat, q < T.heap.size → T'.heap[q]? = T.heap[q]?) ∧ T.heap.size ≤ T'.heap.size ∧ T'.heap[x]? = some cell ∧ cell.vm = .none ∧ s.vm.findClass X = some cell.cls ∧
      ∀ acts target, Steps p.tables e below ((T'.setTop g).pushFrame (.throwing x)) target → Steps p.tables e below (doInvoke e (T.setTop g) acts mk a).1 target := by
  have h1 : (headSpec ws rm).pre.before a T = true := atoms_intro fun w hw => hws w hw _ _ XS.warmed
  have h2 := hws _ hcw a T XS.warmed
  obtain ⟨methY, cY, hmY, hcY, -, hlY, -⟩ := Cond.code_spec hn h2
  obtain ⟨kY, hkY, -⟩ := className_of_methodNamed hn
  have hinitY : kY.init = .initialized := Cond.initialized_spec (findClass_of_methodNamed hn) hkY (hini a T XS.warmed)
  have h : At T g.method c below := by rw [hg]; exact XS.here
  have happ : (headSpec ws rm).appliesLoose y e.platform (T.calling g mk a) = true :=
    Spec.appliesLoose_calling (g := g) h hdg hn hkY hinitY
      (XS.room_calling (g := g) (R' := rm) hsize hmY hcY hfr0 (by rw [hlY]; omega) (by rw [hrc]; exact hc) (by rw [hrs]; exact hs)) h1
  obtain ⟨mid, hmid⟩ := h.above
  have hfr : (T.setTop g).frames = (.java g :: mid) ++ below := by rw [State.frames_setTop' g h.top, hmid]; rfl
  have tailq : T.frames.tail = below := XS.tail
  have key : ∀ acts : List Action, ∃ o s₂, Steps p.tables e below (doInvoke e (T.setTop g) acts mk a).1 s₂ ∧ s₂.status = .running ∧ Ended s₂ (T.setTop g).frames o ∧ ∃ x, o = .threw x ∧ yTh X (T.calling g mk a) x s₂ ∧ (T.calling g mk a).WarmedH s₂.vm ∧ (T.calling g mk a).sameButNew ({ s₂ with vm := (T.calling g mk a).vm } : State) [] mc ms := fun acts =>
    Steps.callFree hM p XS.admits XS.cas XS.clock (acts := acts) hfr happ (hbl _ _ _ _ hPc) trivial
  obtain ⟨o, s₂, hsteps, -, hend, x, rfl, hth, hWm, hsame⟩ := key []
  rw [State.frames_setTop' g h.top, tailq] at hend
  obtain ⟨T', XS', hW', hsame', ht⟩ := XS.outOfThrown hg hend hWm hsame
  obtain ⟨hx0, -, cell, hx1, hx2, hx3⟩ := hth
  have hheap : s₂.heap = T'.heap := by rw [ht, Stand.throwing_heap]
  have hold := same_old hsame'
  refine ⟨T', x, cell, XS', hx0, fun q hq => hold q hq, hsame'.2.1, by rw [← hheap]; exact hx1, hx2, ?_, fun acts target hrest => ?_⟩
  · have h3 : T.vm.findClass X = some cell.cls := hx3
    rw [← XS.warmed.alike.findClass]
    exact h3
  · have e0 : (doInvoke e (T.setTop g) acts mk a).1 = (doInvoke e (T.setTop g) [] mk a).1 := by rw [doInvoke_state, doInvoke_state]
    rw [e0]
    refine hsteps.trans ?_
    rw [ht]
    exact hrest
theorem yt_runS {y : MethodName} {bytes : ByteArray} {maxL nL mc ms n index : Nat} {ret : Option FieldType} {ws : List Cond} {rm : Room} {Pc : Array Value → State → Prop} {Ts : List Cond} {own : String} {g : JFrame}
    (S : CallFix p m c cc nL s args Ts own) (hM : MetT l y ws rm Pc X mc ms) (cw : CallB R s args own index y bytes maxL ret ws rm mc ms n ∧ (Cond.static y).before args s = true) (hp : PreS s H Pc As)
    (hg : g.method = m) (hn : As.length = n) (hsize : g.locals.size = nL) (hstack : g.stack = As.reverse ++ rest) (hW : 2 * g.monitorRoom + (rest.map fun v => v.category).sum ≤ 8) (hdg : decode cc g.pc = .ok (.invokestatic index, 3)) (hf : cells + mc ≤ R.cells ∧ slots + ms ≤ R.slots) :
    yRun p l e R s m args below meth c H cells slots mc ms g rest X := by
  obtain ⟨⟨hrc, hrs, hfr, hlo, hws, hcw, hcode, hini, hy, hlen, hl⟩, hstt⟩ := cw
  obtain ⟨hx, hb, hml, ho, -⟩ := S
  intro T hT XS
  obtain ⟨mk, hnamed⟩ := Cond.code_named hcode
  obtain ⟨methM, cM, hmethM, -, -, -, -, -, -, hsigM⟩ := Cond.code_spec hnamed hcode
  have hstatic : methM.isStatic = true := Cond.static_spec hnamed hmethM hstt
  obtain ⟨kP, hkP, -⟩ := className_of_methodNamed hnamed
  have hinitP : kP.init = .initialized := Cond.initialized_spec (findClass_of_methodNamed hnamed) hkP hini
  obtain ⟨vm₁, X₁, hstep₁⟩ := XS.invokestatic hx ho hl hnamed hmethM hstatic hkP hinitP hy (g := g) hg (argsL := As) (rest := rest) (by rw [hn]; exact hlen _ hsigM) hstack (by rw [hb]; exact hdg)
  obtain ⟨T', x, cell, X', a1, a2, a3, a4, a5, a6, a7⟩ := yt_core hM hp.1 hrc hrs hfr hlo hws hcw (fun a' U hW => word_at hW (Or.inl (by first | rfl | simp [Cond.onTables, Cond.keeps, Cond.steady])) hini) X₁ (g := { g with stack := rest }) hg (hsize.trans hml.symm) (by rw [hb]; exact hdg) hW (X₁.named hnamed) hf.1 hf.2 (hp.2 (T.setVm vm₁) hT X₁.warmed)
  refine ⟨T', x, cell, X', by rw [← hT]; exact a1, fun q hq => by rw [← hT] at hq ⊢; exact a2 q hq, by rw [← hT]; exact a3, a4, a5, a6, fun target hrest => hstep₁ _ fun acts => ?_⟩
  exact a7 acts target hrest
theorem yt_runV {y : MethodName} {bytes : ByteArray} {maxL nL mc ms n index b : Nat} {ret : Option FieldType} {ws : List Cond} {rm : Room} {Pc : Array Value → State → Prop} {Ts : List Cond} {own C : String} {g : JFrame}
    (S : CallFix p m c cc nL s args Ts own) (hM : MetT l y ws rm Pc X mc ms) (cw : CallW R s args own C index y bytes maxL ret ws rm mc ms n) (hp : PreV s H C b Pc As)
    (hg : g.method = m) (hn : As.length = n) (hsize : g.locals.size = nL) (hstack : g.stack = As.reverse ++ .ref b :: rest) (hW : 2 * g.monitorRoom + (rest.map fun v => v.category).sum ≤ 8) (hdg : decode cc g.pc = .ok (.invokevirtual index, 3)) (hf : cells + mc ≤ R.cells ∧ slots + ms ≤ R.slots) :
    yRun p l e R s m args below meth c H cells slots mc ms g rest X := by
  obtain ⟨⟨hrc, hrs, hfr, hlo, hws, hcw, hcode, hini, hy, hlen, hl⟩, hinst, hsel⟩ := cw
  obtain ⟨hx, hb, hml, ho, -⟩ := S
  obtain ⟨hbl, ⟨cellB, hcB, hoB, hclB⟩, hPc⟩ := hp
  intro T hT XS
  obtain ⟨mk, methM, hnamed, hmethM, hstM, habM⟩ := Cond.instanceMethod_spec hinst
  obtain ⟨methM', cM, hmethM', -, -, -, -, -, -, hsigM⟩ := Cond.code_spec hnamed hcode
  cases hmethM.symm.trans hmethM'
  obtain ⟨c2, r2, m2, q1, q2, q3, q4, kP, hkP, hkPi⟩ := Cond.selects_spec hsel
  cases hclB.symm.trans q1
  cases (State.methodFound?_of_named hnamed hy).symm.trans q2
  cases hnamed.symm.trans q3
  have hselP : selectMethod e.platform s.vm cellB.cls mk = .method mk := by rw [Launch.admits_selectMethod XS.admits]; exact q4
  obtain ⟨vm₁, X₁, hstep₁⟩ := XS.invokevirtual hx ho hl hnamed hmethM hstM hkP hkPi hy (a := b) (cell := cellB) (by rw [hT]; exact hcB)
    (fun z h => by rw [h] at hoB; cases hoB) hselP hmethM habM hkP hkPi (g := g) hg (argsL := As) (rest := rest) (by rw [hn]; exact hlen _ hsigM) hstack (by rw [hb]; exact hdg)
  obtain ⟨T', x, cell, X', a1, a2, a3, a4, a5, a6, a7⟩ := yt_core hM hbl hrc hrs hfr hlo hws hcw (fun a' U hW => word_at hW (Or.inl (by first | rfl | simp [Cond.onTables, Cond.keeps, Cond.steady])) hini) X₁ (g := { g with stack := rest }) hg (hsize.trans hml.symm) (by rw [hb]; exact hdg) hW (X₁.named hnamed) hf.1 hf.2 (hPc (T.setVm vm₁) hT X₁.warmed)
  refine ⟨T', x, cell, X', by rw [← hT]; exact a1, fun q hq => by rw [← hT] at hq ⊢; exact a2 q hq, by rw [← hT]; exact a3, a4, a5, a6, fun target hrest => hstep₁ _ fun acts => ?_⟩
  exact a7 acts target hrest
/-- it goes through a method that has no handler -/
theorem yt_pass {mc ms : Nat} {g : JFrame} (hr : yRun p l e R s m args below meth c H cells slots mc ms g rest X) (hg : g.method = m) (hlk : g.locked = none) (hen : g.entered = []) (hem : c.exceptionTable.toList = []) (hlocks : meth.locks = false) (hs0 : s.heap.size ≤ H.size) (hold : ∀ q : Nat, q < s.heap.size → H[q]? = s.heap[q]?) :
    W p l e R s m args below meth c H [] cells slots (yQT below X s (cells + mc) (slots + ms)) g := by
  intro T hT XS
  obtain ⟨T', x, cell, X', a1, a2, a3, a4, a5, a6, a7⟩ := hr T hT XS
  obtain ⟨w1, w2, w3, w4, w5⟩ := X'.leaveThrown x (g := { g with stack := rest }) hg hlk hen (by rw [hem]; intro x hx; cases hx) hlocks
  exact ⟨_, a7 _ w1, x, w2, w3, ⟨Nat.le_trans hs0 a1, fun q hq => (a2 q (Nat.lt_of_lt_of_le hq hs0)).trans (hold q hq), cell, a4, a5, a6⟩, w4, w5⟩
end YT
section YC
variable {e : Env} {f : JFrame} {a : Nat} {Q : Handler → Pre} {K : CtlPost} {d : Bool} {acts : List Action}
/-- one row of a table of handlers, its class linked: taken if the object is of it, passed else -/
theorem fh_row {S : State} {x : ExceptionTableEntry} {t : List ExceptionTableEntry} {cT : ClassId} {cell : Cell} (hx : covers x f.pc = true) (h0 : x.catchType ≠ 0) (hl : S.vm.ClassLinks e.platform f.method.cls x.catchType cT) (hcell : S.heap[a]? = some cell) (hobj : ∀ k, cell.vm ≠ .statics k)
    (hk : ∃ k, S.vm.classes[cell.cls]? = some k) (hc : ∃ k, S.vm.classes[cT]? = some k) :
    wp (findHandler.go f a (x :: t)) Q K e d acts S ↔ if S.vm.assignable cell.cls cT = true then Q (.found x.handlerPc) d acts (S.setVm (S.vm.noted f.method.cls x.catchType (.cls cT))) else wp (findHandler.go f a t) Q K e d acts (S.setVm (S.vm.noted f.method.cls x.catchType (.cls cT))) := by
  simp only [covers] at hx
  obtain ⟨r1, r2⟩ := (resolveClass_links e.toSetting hl).op (op := VmOp.resolveClass f.method.cls x.catchType) rfl
  have hal : S.vm.Alike (S.vm.noted f.method.cls x.catchType (.cls cT)) := (Vm.Alike.refl S.vm).noted _ _ _
  obtain ⟨k1, hk1⟩ := hk
  obtain ⟨k2, hk2⟩ := hc
  obtain ⟨k3, hk3, -⟩ := hal.2.2 _ _ hk1
  obtain ⟨k4, hk4, -⟩ := hal.2.2 _ _ hk2
  have has : (S.vm.noted f.method.cls x.catchType (.cls cT)).assignable cell.cls cT = S.vm.assignable cell.cls cT := hal.assignable
  cases hfit : S.vm.assignable cell.cls cT <;> rw [hfit] at has <;>
    simp [findHandler.go, hx, h0, r1, r2, hcell, hobj, hk3, hk4, has, VmOp.dirties, VmOp.acts]
end YC
/-- how a row meets an exception of the class thrown -/
def yRow (pl : Platform) (s : State) (dc : ClassId) (thrown : ClassId) (b : Bool) (x : ExceptionTableEntry) : Prop := x.catchType ≠ 0 ∧ ∃ cT, s.vm.ClassLinks pl dc x.catchType cT ∧ s.vm.assignable thrown cT = b
theorem yRow_t {pl : Platform} (hpl : pl.magicAccessors = ({} : Platform).magicAccessors) {s : State} {args : Array Value} {dc thrown : ClassId} {x : ExceptionTableEntry} {own X nm : String} (hown : s.vm.findClass own = some dc) (h0 : x.catchType ≠ 0) (hl : (Cond.classLink own x.catchType nm).before args s = true) (hX : s.vm.findClass X = some thrown) (hc : (Cond.castable X nm).before args s = true) : yRow pl s dc thrown true x := by
  obtain ⟨c1, h1, hcl⟩ := Cond.classLink_spec hown hl pl hpl
  obtain ⟨c2, c3, h2, h3, h4⟩ := Cond.castable_spec hc
  cases hX.symm.trans h2
  cases h1.symm.trans h3
  exact ⟨h0, c1, hcl, h4⟩
theorem yRow_f {pl : Platform} (hpl : pl.magicAccessors = ({} : Platform).magicAccessors) {s : State} {args : Array Value} {dc thrown : ClassId} {x : ExceptionTableEntry} {own X nm : String} (hown : s.vm.findClass own = some dc) (h0 : x.catchType ≠ 0) (hl : (Cond.classLink own x.catchType nm).before args s = true) (hX : s.vm.findClass X = some thrown) (hc : va_Nc X nm s) : yRow pl s dc thrown false x := by
  obtain ⟨c1, h1, hcl⟩ := Cond.classLink_spec hown hl pl hpl
  obtain ⟨c2, c3, h2, h3, h4⟩ := hc
  cases hX.symm.trans h2
  cases h1.symm.trans h3
  exact ⟨h0, c1, hcl, h4⟩
/-- a row, in tables that are warmer than those at the start -/
theorem yRow.go {e : Env} {s S : State} {f : JFrame} {a : Nat} {cell : Cell} {b : Bool} {x : ExceptionTableEntry} {t : List ExceptionTableEntry} (h : yRow e.platform s f.method.cls cell.cls b x) (hx : covers x f.pc = true) (hW : s.WarmedH S.vm) (hcell : S.heap[a]? = some cell) (hobj : ∀ k, cell.vm ≠ .statics k) (hk : ∃ k, s.vm.classes[cell.cls]? = some k) :
    ∃ vm', s.WarmedH vm' ∧ ∀ (Q : Handler → Pre) (K : CtlPost) (d : Bool) (acts : List Action), wp (findHandler.go f a (x :: t)) Q K e d acts S ↔ if b = true then Q (.found x.handlerPc) d acts (S.setVm vm') else wp (findHandler.go f a t) Q K e d acts (S.setVm vm') := by
  obtain ⟨h0, cT, hl, hb⟩ := h
  obtain ⟨dk, _, _, kt, hd, _, _, _, _, hkt, _, hopen⟩ := hl.here
  obtain ⟨k0, hk0⟩ := hk
  obtain ⟨k1, hk1, -⟩ := hW.alike.2.2 _ _ hk0
  obtain ⟨k2, hk2, -⟩ := hW.alike.2.2 _ _ hkt
  refine ⟨_, hW.noted hd hopen (State.rightAt_cls hl), fun Q K d acts => ?_⟩
  rw [fh_row hx h0 (hW.classLinks hl) hcell hobj ⟨k1, hk1⟩ ⟨k2, hk2⟩, hW.alike.assignable, hb]
/-- the search ends at a row: the first one, or the second behind one that is passed -/
def yFound (e : Env) (s S : State) (f : JFrame) (a : Nat) (pc : Nat) : Prop := ∃ vm', s.WarmedH vm' ∧ ∀ (Q : Handler → Pre) (K : CtlPost) (d : Bool) (acts : List Action), wp (findHandler f a) Q K e d acts S ↔ Q (.found pc) d acts (S.setVm vm')
theorem yFound_1 {e : Env} {s S : State} {f : JFrame} {a : Nat} {cell : Cell} {meth : Method} {c : Code} {x : ExceptionTableEntry} {t : List ExceptionTableEntry} (hm : S.vm.method? f.method = some meth) (hc : meth.code = some c) (ht : c.exceptionTable.toList = x :: t) (hx : covers x f.pc = true) (h : yRow e.platform s f.method.cls cell.cls true x) (hW : s.WarmedH S.vm) (hcell : S.heap[a]? = some cell) (hobj : ∀ k, cell.vm ≠ .statics k) (hk : ∃ k, s.vm.classes[cell.cls]? = some k) : yFound e s S f a x.handlerPc := by
  obtain ⟨vm', hw, hq⟩ := h.go (t := t) hx hW hcell hobj hk
  refine ⟨vm', hw, fun Q K d acts => ?_⟩
  rw [W.findHandler_eq hm hc, ht, hq]
  simp
theorem yFound_2 {e : Env} {s S : State} {f : JFrame} {a : Nat} {cell : Cell} {meth : Method} {c : Code} {x z : ExceptionTableEntry} {t : List ExceptionTableEntry} (hm : S.vm.method? f.method = some meth) (hc : meth.code = some c) (ht : c.exceptionTable.toList = z :: x :: t) (hz : covers z f.pc = true) (hx : covers x f.pc = true) (h1 : yRow e.platform s f.method.cls cell.cls false z) (h : yRow e.platform s f.method.cls cell.cls true x) (hW : s.WarmedH S.vm) (hcell : S.heap[a]? = some cell) (hobj : ∀ k, cell.vm ≠ .statics k) (hk : ∃ k, s.vm.classes[cell.cls]? = some k) : yFound e s S f a x.handlerPc := by
  obtain ⟨vm1, hw1, hq1⟩ := h1.go (t := x :: t) hz hW hcell hobj hk
  obtain ⟨vm2, hw2, hq2⟩ := h.go (t := t) (S := S.setVm vm1) hx hw1 hcell hobj hk
  refine ⟨vm2, hw2, fun Q K d acts => ?_⟩
  rw [W.findHandler_eq hm hc, ht, hq1, if_neg (by decide), hq2, if_pos rfl]
  rfl
section YW
variable {p : Program} {l : Launch} {e : Env} {R : Room} {s : State} {m : MethodId} {args : Array Value} {below : List Frame} {meth : Method} {c : Code} {H : Heap} {cells slots : Nat} {Q : State → Prop}
variable {pc : Nat} {ls : Array Slot} {rest st0 : List Value} {X : String}
/-- into the handler -/
theorem y_caught {T : State} {g : JFrame} {a : Nat} {hpc : Nat} (XS : Stand p l e R s m args below meth c T [] cells slots) (hg : g.method = m) (hf : yFound e s ((T.setTop g).pushFrame (.throwing a)) g a hpc) :
    ∃ vm', Stand p l e R s m args below meth c (T.setVm vm') [] cells slots ∧ ∀ target, Steps p.tables e below ((T.setVm vm').setTop { g with pc := hpc, stack := [.ref a] }) target → Steps p.tables e below ((T.setTop g).pushFrame (.throwing a)) target := by
  obtain ⟨vm', hw, hfind⟩ := hf
  refine ⟨vm', XS.noted hw, fun target hrest => ?_⟩
  have h : At T g.method c below := by rw [hg]; exact XS.here
  obtain ⟨hgo, hwi⟩ := h.throwing a
  refine Steps.head hgo hwi ?_
  have hstep : (stepThrowing e ((T.setTop g).pushFrame (.throwing a)) a (.java g :: T.frames.tail)).Is ((((T.setTop g).pushFrame (.throwing a)).setVm vm').setFrames (.java { g with pc := hpc, stack := [.ref a] } :: T.frames.tail)) [] := by
    simp only [stepThrowing, searchFrame, vmDo]
    generalize hr : Sem.go _ e false [] ((T.setTop g).pushFrame (.throwing a)) = res
    obtain ⟨as, rfl, ha⟩ := Sem.eq_ok_of hr (a := Handler.found hpc) (s' := ((T.setTop g).pushFrame (.throwing a)).setVm vm') (acts' := []) (by simp [hfind _ _ _ _])
    exact ⟨rfl, ha⟩
  rw [stepThread_throwing (frames_entered h.top _), hstep.1]
  obtain ⟨g₀, hg0⟩ := Option.isSome_iff_exists.mp h.top
  obtain ⟨r, hr⟩ := State.topJava?_eq_some.mp hg0
  have hr' : (T.setVm vm').frames = .java g₀ :: r := hr
  rw [State.setTop_of_frames _ hr'] at hrest
  have e1 : ((((T.setTop g).pushFrame (.throwing a)).setVm vm').setFrames (.java { g with pc := hpc, stack := [.ref a] } :: T.frames.tail)) = (T.setVm vm').setFrames (.java { g with pc := hpc, stack := [.ref a] } :: r) := by
    rw [hr, List.tail_cons, State.pushFrame, State.setTop_of_frames _ hr]
    show (((T.setFrames _).setVm vm').setFrames _).setFrames _ = _
    rfl
  rw [e1]
  exact hrest
/-- a call whose callee throws, in a method that catches it -/
theorem yt_catch {mc ms hpc : Nat} (hr : yRun p l e R s m args below meth c H cells slots mc ms (F0 m pc ls st0) rest X) (hfd : ∀ (T : State) (x : Nat) (cell : Cell), Stand p l e R s m args below meth c T [] (cells + mc) (slots + ms) → T.heap[x]? = some cell → cell.vm = .none → s.vm.findClass X = some cell.cls → yFound e s ((T.setTop (F0 m pc ls rest)).pushFrame (.throwing x)) (F0 m pc ls rest) x hpc)
    (kk : ∀ (x : Nat) (H1 : Heap), (∀ q : Nat, q < H.size → H1[q]? = H[q]?) → H.size ≤ H1.size → W p l e R s m args below meth c H1 [] (cells + mc) (slots + ms) Q (F0 m hpc ls [.ref x])) : W p l e R s m args below meth c H [] cells slots Q (F0 m pc ls st0) := by
  intro T hT XS
  obtain ⟨T', x, cell, X', a1, a2, a3, a4, a5, a6, a7⟩ := hr T hT XS
  obtain ⟨vm', X2, hc⟩ := y_caught X' (g := F0 m pc ls rest) rfl (hfd T' x cell X' a4 a5 a6)
  obtain ⟨t, b1, b2⟩ := kk x T'.heap a2 a3 (T'.setVm vm') rfl X2
  exact ⟨t, a7 t (hc t b1), b2⟩
end YW
