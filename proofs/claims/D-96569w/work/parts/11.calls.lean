/-! CALLS: an invoking instruction links (vv_I), the callee keeps its contract (vv_callee), the walk goes on; or it throws. -/
set_option maxRecDepth 100000
/-- what is known of a state holds on: its tables warmed, its cells that are not A's as they were -/
def kM (A : Nat → Prop) (Kf : State → Prop) : Prop := ∀ u U : State, u.WarmedH U.vm → (∀ q : Nat, q < u.heap.size → ¬ A q → U.heap[q]? = u.heap[q]?) → Kf u → Kf U
section VC0
variable {p : Program} {l : Launch} {e : Env} {R : Room} {s : State} {m : MethodId} {args : Array Value} {below : List Frame} {meth : Method} {c : Code} {T : State} {locs : List Loc} {cells slots : Nat}
theorem vv_callee (X : Stand p l e R s m args below meth c T locs cells slots) {y : MethodName} {ws : List Cond} {rm : Room} {Pc : Array Value → State → Prop} {Qc : Array Value → State → Outcome → State → Nat → Nat → Prop} {mc ms maxL : Nat} {free : Addr → Prop}
    (hM : vv_Met l y ws rm Pc Qc mc ms free) (hrc : rm.cells = mc) (hrs : rm.slots = ms) (hframes : rm.frames + 1 ≤ R.frames) (hlocals : 8 + (maxL + 11) + rm.locals ≤ R.locals)
    {mk : MethodId} {methY : Method} {cY : Code} {a : Array Value} (hws : ∀ w ∈ ws, w.before a T = true) (hmY : T.vm.method? mk = some methY) (hcY : methY.code = some cY) (hlY : cY.maxLocals = maxL)
    (hinit : (Cond.initialized y.cls).before a T = true) {g : JFrame} (hg : g.method = m) (hsize : g.locals.size = c.maxLocals) {ig : Instr} {len : Nat} (hdg : decode c.code g.pc = .ok (ig, len))
    (hW : 2 * g.monitorRoom + (g.stack.map fun v => v.category).sum ≤ 8) (hn : T.methodNamed? y = some mk) (hcells : cells + mc ≤ R.cells) (hslots : slots + ms ≤ R.slots) (hP : Pc a (T.calling g mk a)) :
    ∃ (o : Outcome) (t T' : State) (L : List Loc) (k n : Nat), (k ≤ mc ∧ n ≤ ms) ∧ Stand p l e R s m args below meth c T' (locs ++ L) (cells + k) (slots + n) ∧ (∀ q ∈ L, free q.base) ∧ T'.heap = t.heap ∧ Qc a (T.calling g mk a) o t k n ∧
      Steps p.tables e below (doInvoke e (T.setTop g) [] mk a).1 (match o with | .returned v => T'.setTop { g with pc := g.pc + len, stack := v.toList ++ g.stack } | .threw x => (T'.setTop g).pushFrame (.throwing x)) := by
  obtain ⟨kY, hkY, -⟩ := className_of_methodNamed hn
  have hinitY : kY.init = .initialized := Cond.initialized_spec (findClass_of_methodNamed hn) hkY hinit
  have h : At T g.method c below := by rw [hg]; exact X.here
  have happ : (headSpec ws rm).appliesLoose y e.platform (T.calling g mk a) = true :=
    Spec.appliesLoose_calling (g := g) h hdg hn hkY hinitY
      (X.room_calling (g := g) (R' := (headSpec ws rm).room) hsize hmY hcY hframes (by rw [hlY]; show _ + (maxL + 11) + rm.locals ≤ _; omega) (by show _ + rm.cells ≤ _; omega) (by show _ + rm.slots ≤ _; omega)) (atoms_intro hws)
  obtain ⟨mid, hmid⟩ := h.above
  have hfr : (T.setTop g).frames = (.java g :: mid) ++ below := by rw [State.frames_setTop' g h.top, hmid]; rfl
  obtain ⟨o, s₂, hsteps, -, hend, k, n, hkn, hq, L, ⟨hW2, hsame⟩, hL⟩ := Steps.callFree hM p X.admits X.cas X.clock (acts := []) hfr happ hP trivial
  rw [State.frames_setTop' g h.top, X.tail] at hend
  cases o with
  | returned v =>
    obtain ⟨T', X', -, -, et⟩ := X.outOf hg hdg hend hW2 hsame
    refine ⟨.returned v, s₂, T', L, k, n, hkn, X', hL, by rw [et]; rfl, hq, ?_⟩
    show Steps _ _ _ _ (T'.setTop _)
    rw [← et]
    exact hsteps
  | threw x =>
    obtain ⟨T', X', -, -, et⟩ := X.outOfThrown hg hend hW2 hsame
    refine ⟨.threw x, s₂, T', L, k, n, hkn, X', hL, by rw [et, Stand.throwing_heap], hq, ?_⟩
    show Steps _ _ _ _ ((T'.setTop g).pushFrame (.throwing x))
    rw [← et]
    exact hsteps
end VC0
/-- an invoking instruction at the frame g links: what is left is the call of y with the arguments a over the operands rest -/
def vv_I (p : Program) (l : Launch) (e : Env) (R : Room) (s : State) (m : MethodId) (args : Array Value) (below : List Frame) (meth : Method) (c : Code) (H : Heap) (locs : List Loc) (cells slots : Nat) (g : JFrame) (rest : List Value) (y : MethodName) (a : Array Value) : Prop :=
  ∀ T : State, T.heap = H → Stand p l e R s m args below meth c T locs cells slots → ∃ (vm₁ : Vm) (mk : MethodId), Stand p l e R s m args below meth c (T.setVm vm₁) locs cells slots ∧ (T.setVm vm₁).methodNamed? y = some mk ∧
    ∀ target, Steps p.tables e below (doInvoke e ((T.setVm vm₁).setTop { g with stack := rest }) [] mk a).1 target → Steps p.tables e below (T.setTop g) target
section VC1
variable {p : Program} {l : Launch} {e : Env} {R : Room} {s : State} {m : MethodId} {args : Array Value} {below : List Frame} {meth : Method} {c : Code} {H : Heap} {locs : List Loc} {cells slots : Nat}
theorem vv_IV (hexec : p.tables.exec = Jvm.exec) {own C : String} {index : Nat} {y : MethodName} (hown : s.vm.findClass own = some m.cls) (hlink : (Cond.methodLink own index y).before args s = true) (hinst : (Cond.instanceMethod y).before args s = true) (hsel : (Cond.selects C y y).before args s = true)
    (hy : y.cls ≠ "java/lang/invoke/MethodHandle" ∧ y.cls ≠ "java/lang/invoke/VarHandle") (hsig : ∀ mk methM, s.methodNamed? y = some mk → s.vm.method? mk = some methM → parseMethodDescriptor y.desc = some methM.sig)
    {b : Addr} (hrec : ∃ cellB : Cell, H[b]? = some cellB ∧ cellB.vm.isStatics = false ∧ s.vm.findClass C = some cellB.cls)
    {g : JFrame} (hg : g.method = m) {argsL rest : List Value} (hlen : (parseMethodDescriptor y.desc).map (fun d => d.parameters.length) = some argsL.length)
    (hstack : g.stack = argsL.reverse ++ .ref b :: rest) (hdg : decode c.code g.pc = .ok (.invokevirtual index, 3)) : vv_I p l e R s m args below meth c H locs cells slots g rest y (Value.ref b :: argsL).toArray := by
  intro T hT X
  obtain ⟨cellB, hcell, hobj, hcls⟩ := hrec
  obtain ⟨mk, methM, hnamed, hmethM, hstM, habM⟩ := Cond.instanceMethod_spec hinst
  have hsigM := hsig _ _ hnamed hmethM
  obtain ⟨c2, r2, m2, q1, q2, q3, q4, kP, hkP, hkPi⟩ := Cond.selects_spec hsel
  cases hcls.symm.trans q1
  cases (State.methodFound?_of_named hnamed hy).symm.trans q2
  cases hnamed.symm.trans q3
  have hselP : selectMethod e.platform s.vm cellB.cls mk = .method mk := by rw [Launch.admits_selectMethod X.admits]; exact q4
  have hlen2 : argsL.length = methM.sig.parameters.length := by rw [hsigM] at hlen; exact (Option.some.inj hlen).symm
  obtain ⟨vm₁, X₁, hstep₁⟩ := X.invokevirtual hexec hown hlink hnamed hmethM hstM hkP hkPi hy (a := b) (cell := cellB) (by rw [hT]; exact hcell)
    (fun z h => by rw [h] at hobj; cases hobj) hselP hmethM habM hkP hkPi (g := g) hg (argsL := argsL) (rest := rest) hlen2 hstack hdg
  exact ⟨vm₁, mk, X₁, X₁.named hnamed, fun target h => hstep₁ _ fun acts => by rw [doInvoke_state]; exact h⟩
theorem vv_IS (hexec : p.tables.exec = Jvm.exec) {own : String} {index : Nat} {y : MethodName} (hown : s.vm.findClass own = some m.cls) (hlink : (Cond.methodLink own index y).before args s = true) (hstat : (Cond.static y).before args s = true) (hinit : (Cond.initialized y.cls).before args s = true)
    (hy : y.cls ≠ "java/lang/invoke/MethodHandle" ∧ y.cls ≠ "java/lang/invoke/VarHandle") (hsig : ∃ mk methM, s.methodNamed? y = some mk ∧ s.vm.method? mk = some methM ∧ parseMethodDescriptor y.desc = some methM.sig)
    {g : JFrame} (hg : g.method = m) {argsL rest : List Value} (hlen : (parseMethodDescriptor y.desc).map (fun d => d.parameters.length) = some argsL.length)
    (hstack : g.stack = argsL.reverse ++ rest) (hdg : decode c.code g.pc = .ok (.invokestatic index, 3)) : vv_I p l e R s m args below meth c H locs cells slots g rest y argsL.toArray := by
  intro T hT X
  obtain ⟨mk, methM, hnamed, hmethM, hsigM⟩ := hsig
  have hstatic : methM.isStatic = true := Cond.static_spec hnamed hmethM hstat
  obtain ⟨kP, hkP, -⟩ := className_of_methodNamed hnamed
  have hinitP : kP.init = .initialized := Cond.initialized_spec (findClass_of_methodNamed hnamed) hkP hinit
  have hlen2 : argsL.length = methM.sig.parameters.length := by rw [hsigM] at hlen; exact (Option.some.inj hlen).symm
  obtain ⟨vm₁, X₁, hstep₁⟩ := X.invokestatic hexec hown hlink hnamed hmethM hstatic hkP hinitP hy (g := g) hg (argsL := argsL) (rest := rest) hlen2 hstack hdg
  exact ⟨vm₁, mk, X₁, X₁.named hnamed, fun target h => hstep₁ _ fun acts => by rw [doInvoke_state]; exact h⟩
end VC1
/-- what the tables say of a method that is called: its code (with no handlers), its names -/
def vv_ok (y : MethodName) (bytes : ByteArray) (maxL : Nat) (rt : Option FieldType) (n : Nat) : Prop :=
  Cond.code y bytes maxL rt ∈ lw_all ∧ Cond.initialized y.cls ∈ lw_all ∧ (y.cls ≠ "java/lang/invoke/MethodHandle" ∧ y.cls ≠ "java/lang/invoke/VarHandle") ∧ (parseMethodDescriptor y.desc).map (fun d => d.parameters.length) = some n
def vv_okW (y : MethodName) (bytes : ByteArray) (maxL : Nat) (rt : Option FieldType) (hh : List (Nat × Nat × Nat × Nat)) (n : Nat) : Prop :=
  Cond.codeWith y bytes maxL rt hh ∈ lw_all ∧ Cond.initialized y.cls ∈ lw_all ∧ (y.cls ≠ "java/lang/invoke/MethodHandle" ∧ y.cls ≠ "java/lang/invoke/VarHandle") ∧ (parseMethodDescriptor y.desc).map (fun d => d.parameters.length) = some n
/-- both forms at once: ws is the list of the contract -/
def vv_oc (y : MethodName) (maxL n : Nat) (ws : List Cond) : Prop :=
  (∀ (args : Array Value) (s : State), (∀ w ∈ lw_all, w.before args s = true) → (∀ w ∈ ws, ∀ (a' : Array Value) (U : State), s.WarmedH U.vm → w.before a' U = true) ∧ (∀ (a' : Array Value) (U : State), s.WarmedH U.vm → (Cond.initialized y.cls).before a' U = true) ∧ (Cond.initialized y.cls).before args s = true ∧
    (∃ mk methM cM, s.methodNamed? y = some mk ∧ s.vm.method? mk = some methM ∧ methM.code = some cM ∧ cM.maxLocals = maxL ∧ parseMethodDescriptor y.desc = some methM.sig)) ∧
  (y.cls ≠ "java/lang/invoke/MethodHandle" ∧ y.cls ≠ "java/lang/invoke/VarHandle") ∧ (parseMethodDescriptor y.desc).map (fun d => d.parameters.length) = some n
theorem vv_ok.oc {y : MethodName} {bytes : ByteArray} {maxL : Nat} {rt : Option FieldType} {n : Nat} (h : vv_ok y bytes maxL rt n) : vv_oc y maxL n (ws_ y bytes maxL rt) := by
  obtain ⟨h1, h2, h3, h4⟩ := h
  refine ⟨fun args s hts => ⟨pay_in hts (lw_meth h1), fun a' U hW => (pay_in hts lw_self) _ h2 a' U hW, hts _ h2, ?_⟩, h3, h4⟩
  obtain ⟨mk, hnamed⟩ := Cond.code_named (hts _ h1)
  obtain ⟨methM, cM, hmethM, hc, -, hl, -, -, -, hsigM⟩ := Cond.code_spec hnamed (hts _ h1)
  exact ⟨mk, methM, cM, hnamed, hmethM, hc, hl, hsigM⟩
theorem vv_okW.oc {y : MethodName} {bytes : ByteArray} {maxL : Nat} {rt : Option FieldType} {hh : List (Nat × Nat × Nat × Nat)} {n : Nat} (h : vv_okW y bytes maxL rt hh n) : vv_oc y maxL n (wsW_ y bytes maxL rt hh) := by
  obtain ⟨h1, h2, h3, h4⟩ := h
  refine ⟨fun args s hts => ⟨pay_in hts (lw_methW h1), fun a' U hW => (pay_in hts lw_self) _ h2 a' U hW, hts _ h2, ?_⟩, h3, h4⟩
  obtain ⟨mk, methM, cM, hnamed, hmethM, hc, -, hl, -, -, -, hsigM⟩ := Cond.codeWith_spec (hts _ h1)
  exact ⟨mk, methM, cM, hnamed, hmethM, hc, hl, hsigM⟩
section VC2
variable {S : Type} {v : vv_T S} {l : Launch} {cc : ByteArray} {nL : Nat} {own nm : String} {ret : Option FieldType} {hh : List (Nat × Nat × Nat × Nat)} {R : Room} {Kf : State → Prop} {Wd : S → Heap → Prop} {A : Nat → Prop} {post : vv_O S}
variable {σ : S} {bc bs pc q : Nat} {ls ls' : List (Nat × Value)} {st stk : List Value}
/-- the walk behind a call, in general: the callee's end o at the abstract state u -/
theorem vv_go {p : Program} {e : Env} {s : State} {m : MethodId} {args : Array Value} {below : List Frame} {meth : Method} {c : Code} {Q : State → Prop} {H : Heap} {locs : List Loc} {cells slots : Nat} {arr : Array Slot}
    (hb : c.code = cc) (hml : c.maxLocals = nL) (hts : ∀ w ∈ lw_all, w.before args s = true) (hKm : kM A Kf) (hKf : Kf s) (hA : ∀ q : Nat, s.heap.size ≤ q → A q)
    {y : MethodName} {ws : List Cond} {maxL n : Nat} {rm : Room} {av : List Value} {post' : vv_O S} (hM : vv_Ct l y ws rm Kf Wd A av σ post') (hok : vv_oc y maxL n ws)
    (hroom : rm.frames + 1 ≤ R.frames ∧ 8 + (maxL + 11) + rm.locals ≤ R.locals) (hst : (st.map fun v => v.category).sum ≤ 8) {ig : Instr} {len : Nat} (d : decode cc pc = .ok (ig, len))
    (hc1 : cells + rm.cells ≤ R.cells) (hc2 : slots + rm.slots ≤ R.slots) (hW : Wd σ H) (hS : va_S A s.heap H locs) (hl : lv_has arr nL ls)
    (hI : vv_I p l e R s m args below meth c H locs cells slots (F0 m pc arr stk) st y av.toArray)
    (k : ∀ (o : Outcome) (u : S) (k1 n1 : Nat) (H1 : Heap) (locs1 : List Loc), k1 ≤ rm.cells → n1 ≤ rm.slots → post' o u k1 n1 → Wd u H1 → va_S A s.heap H1 locs1 → ∀ T' : State, T'.heap = H1 → Stand p l e R s m args below meth c T' locs1 (cells + k1) (slots + n1) →
      ∃ t, Steps p.tables e below (match o with | .returned r => T'.setTop (F0 m (pc + len) arr (r.toList ++ st)) | .threw x => (T'.setTop (F0 m pc arr st)).pushFrame (.throwing x)) t ∧ Q t) :
    W p l e R s m args below meth c H locs cells slots Q (F0 m pc arr stk) := by
  intro T hT X
  obtain ⟨vm₁, mk, X₁, hn, hgo⟩ := hI T hT X
  obtain ⟨⟨hw1, hw2, hw3, mk', methM, cM, hn', hm', hcM, hlM, -⟩, -, -⟩ := And.intro (hok.1 args s hts) hok.2
  have hmk : mk' = mk := Option.some.inj ((X₁.named hn').symm.trans hn)
  subst hmk
  have hmY : (T.setVm vm₁).vm.method? mk' = some methM := by
    have := X₁.warmed.alike.method? mk'
    rw [this]; exact hm'
  have hT1 : (T.setVm vm₁).heap = H := hT
  obtain ⟨o, t, T', L, k1, n1, hkn, X', hL, e1, ⟨⟨u, hp, hWu⟩, hF⟩, hsteps⟩ := vv_callee X₁ (g := F0 m pc arr st) hM rfl rfl hroom.1 hroom.2 (a := av.toArray) (fun w h => hw1 w h _ _ X₁.warmed) hmY hcM hlM (hw2 _ _ X₁.warmed) rfl (by rw [hml]; exact hl.1) (by rw [hb]; exact d) (by show 2 * 0 + (st.map fun v => v.category).sum ≤ 8; omega) hn hc1 hc2
    ⟨rfl, by show Wd σ (T.setVm vm₁).heap; rw [hT1]; exact hW, hKm _ _ (show s.WarmedH ((T.setVm vm₁).calling (F0 m pc arr st) mk' av.toArray).vm from X₁.warmed) (fun q h1 h2 => by show (T.setVm vm₁).heap[q]? = _; rw [hT1]; exact hS.2.1 q h1 h2) hKf, fun q h => hA q (by have h0 : (T.setVm vm₁).heap.size ≤ q := h; rw [hT1] at h0; exact Nat.le_trans hS.1 h0)⟩
  have hF1 : H.size ≤ t.heap.size := by have h0 : (T.setVm vm₁).heap.size ≤ t.heap.size := hF.1; rw [hT1] at h0; exact h0
  have hF2 : ∀ q : Nat, q < H.size → ¬ A q → t.heap[q]? = H[q]? := by
    intro q h1 h2
    have h0 : t.heap[q]? = (T.setVm vm₁).heap[q]? := hF.2 q (by show q < (T.setVm vm₁).heap.size; rw [hT1]; exact h1) h2
    rw [hT1] at h0; exact h0
  have hS1 : va_S A s.heap t.heap (locs ++ L) := ⟨Nat.le_trans hS.1 hF1, fun q h1 h2 => by rw [hF2 q (Nat.lt_of_lt_of_le h1 hS.1) h2]; exact hS.2.1 q h1 h2, fun x hx => by
    rcases List.mem_append.mp hx with h | h
    · exact hS.2.2 x h
    · exact hL x h⟩
  obtain ⟨t2, g1, g2⟩ := k o u k1 n1 t.heap (locs ++ L) hkn.1 hkn.2 hp hWu hS1 T' e1 X'
  exact ⟨t2, hgo _ (hsteps.trans g1), g2⟩
/-- a call through an object; it returns -/
theorem v_callV (F : vv_F v l cc nL own nm ret hh R Kf Wd A post) (hKm : kM A Kf)
    {y : MethodName} {ws : List Cond} {maxL idx b bc' bs' : Nat} {rm : Room} {C : String} {As : List Value} {p' : Option Value → S → Prop} (hM : vv_Ct l y ws rm Kf Wd A (.ref b :: As) σ (vv_R p')) (hok : vv_oc y maxL As.length ws)
    (hw1 : Cond.methodLink own idx y ∈ lw_all) (hw2 : Cond.instanceMethod y ∈ lw_all) (hw3 : Cond.selects C y y ∈ lw_all)
    (hrec : ∀ (s : State) (H : Heap), Kf s → Wd σ H → ∃ cell : Cell, H[b]? = some cell ∧ cell.vm.isStatics = false ∧ s.vm.findClass C = some cell.cls)
    (hroom : rm.frames + 1 ≤ R.frames ∧ 8 + (maxL + 11) + rm.locals ≤ R.locals) (hst : (st.map fun v => v.category).sum ≤ 8) (d : decode cc pc = .ok (.invokevirtual idx, 3)) (hq : pc + 3 = q) (hstk : stk = As.reverse ++ .ref b :: st)
    (hb1 : rm.cells + bc' = bc) (hb2 : rm.slots + bs' = bs) (k : ∀ r u, p' r u → v u bc' bs' q ls (r.toList ++ st)) : v σ bc bs pc ls stk := by
  obtain ⟨p, e, s, m, args, below, meth, c, ⟨hx, hb, hml, hown, hts⟩, -, ⟨hKf, hA⟩, rfl⟩ := F
  subst hq; subst hb1; subst hb2
  intro H locs cells slots arr hW hS h1 h2 hl
  refine vv_go hb hml hts hKm hKf hA hM hok hroom hst d (by omega) (by omega) hW hS hl (vv_IV hx hown (hts _ hw1) (hts _ hw2) (hts _ hw3) hok.2.1 ?_ (hrec s H hKf hW) rfl hok.2.2 hstk (by rw [hb]; exact d)) ?_
  · intro mk methM g1 g2
    obtain ⟨mk', methM', cM, g3, g4, -, -, g5⟩ := (hok.1 args s hts).2.2.2
    cases g1.symm.trans g3
    cases g2.symm.trans g4
    exact g5
  · intro o u k1 n1 H1 locs1 hk1 hn1 hp hWu hS1 T' hT' X'
    cases o with
    | threw x => exact absurd hp (fun h => h)
    | returned r => exact k r u hp H1 locs1 (cells + k1) (slots + n1) arr hWu hS1 (by omega) (by omega) hl T' hT' X'
/-- a static call; it returns -/
theorem v_callS (F : vv_F v l cc nL own nm ret hh R Kf Wd A post) (hKm : kM A Kf)
    {y : MethodName} {ws : List Cond} {maxL idx bc' bs' : Nat} {rm : Room} {As : List Value} {p' : Option Value → S → Prop} (hM : vv_Ct l y ws rm Kf Wd A As σ (vv_R p')) (hok : vv_oc y maxL As.length ws)
    (hw1 : Cond.methodLink own idx y ∈ lw_all) (hw2 : Cond.static y ∈ lw_all)
    (hroom : rm.frames + 1 ≤ R.frames ∧ 8 + (maxL + 11) + rm.locals ≤ R.locals) (hst : (st.map fun v => v.category).sum ≤ 8) (d : decode cc pc = .ok (.invokestatic idx, 3)) (hq : pc + 3 = q) (hstk : stk = As.reverse ++ st)
    (hb1 : rm.cells + bc' = bc) (hb2 : rm.slots + bs' = bs) (k : ∀ r u, p' r u → v u bc' bs' q ls (r.toList ++ st)) : v σ bc bs pc ls stk := by
  obtain ⟨p, e, s, m, args, below, meth, c, ⟨hx, hb, hml, hown, hts⟩, -, ⟨hKf, hA⟩, rfl⟩ := F
  subst hq; subst hb1; subst hb2
  intro H locs cells slots arr hW hS h1 h2 hl
  obtain ⟨-, -, hini, mk', methM', cM, g3, g4, -, -, g5⟩ := hok.1 args s hts
  refine vv_go hb hml hts hKm hKf hA hM hok hroom hst d (by omega) (by omega) hW hS hl (vv_IS hx hown (hts _ hw1) (hts _ hw2) hini hok.2.1 ⟨mk', methM', g3, g4, g5⟩ rfl hok.2.2 hstk (by rw [hb]; exact d)) ?_
  intro o u k1 n1 H1 locs1 hk1 hn1 hp hWu hS1 T' hT' X'
  cases o with
  | threw x => exact absurd hp (fun h => h)
  | returned r => exact k r u hp H1 locs1 (cells + k1) (slots + n1) arr hWu hS1 (by omega) (by omega) hl T' hT' X'
end VC2
