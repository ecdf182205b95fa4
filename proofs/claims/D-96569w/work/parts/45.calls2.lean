/-! FURTHER CALLS: constructors, super, overridden and nest mates' methods; a walk over another world -/
set_option maxRecDepth 100000
/-- the words that are not carried by the tables alone -/
def nestW : Cond → Bool
  | .fieldLinkNest _ _ _ _ _ _ => true
  | .methodLinkNest _ _ _ _ => true
  | .castable _ _ => true
  | .declares _ => true
  | _ => false
def kN (Kf : State → Prop) : Prop := ∀ U, Kf U → ∀ w ∈ lw_tbl, nestW w = true → va_Nw w U
section VL
variable {p : Program} {l : Launch} {e : Env} {R : Room} {s : State} {m : MethodId} {args : Array Value} {below : List Frame} {meth : Method} {c : Code} {H : Heap} {locs : List Loc} {cells slots : Nat}
theorem vv_len {y : MethodName} {n : Nat} (h : (parseMethodDescriptor y.desc).map (fun d => d.parameters.length) = some n) : ∀ sig, parseMethodDescriptor y.desc = some sig → n = sig.parameters.length := by
  intro sig hs
  rw [hs] at h
  exact (Option.some.inj h).symm
theorem vv_II (hexec : p.tables.exec = Jvm.exec) {own : String} {index maxL : Nat} {y : MethodName} {bytes : ByteArray} (hown : s.vm.findClass own = some m.cls) (hy1 : y.name = "<init>") (hlink : (Cond.methodLink own index y).before args s = true) (hinst : (Cond.instanceMethod y).before args s = true) (hcode : (Cond.code y bytes maxL none).before args s = true)
    (hy : y.cls ≠ "java/lang/invoke/MethodHandle" ∧ y.cls ≠ "java/lang/invoke/VarHandle") {b : Addr} {g : JFrame} (hg : g.method = m) {argsL rest : List Value} (hlen : (parseMethodDescriptor y.desc).map (fun d => d.parameters.length) = some argsL.length)
    (hstack : g.stack = argsL.reverse ++ .ref b :: rest) (hdg : decode c.code g.pc = .ok (.invokespecial index, 3)) : vv_I p l e R s m args below meth c H locs cells slots g rest y (Value.ref b :: argsL).toArray := by
  intro T hT X
  subst hg
  have hpl : e.platform.magicAccessors = ({} : Platform).magicAccessors := by rw [X.admits.platform]
  obtain ⟨mk, methM, cM, kP, vm₁, hnamed, hmethM, hcodeM, -, hlocalsM, -, hkP, -, hW₁, hstep₁⟩ := Steps.initColdArgs (e := e) X.here hexec X.warmed hpl hown hy1 hy hlink hinst hcode (f := g) rfl (vv_len hlen) hstack hdg
  have X₁ := X.noted hW₁
  exact ⟨vm₁, mk, X₁, X₁.named hnamed, fun target h => hstep₁ _ fun acts => by rw [doInvoke_state]; exact h⟩
theorem vv_IIN (hexec : p.tables.exec = Jvm.exec) {own host : String} {index maxL : Nat} {y : MethodName} {bytes : ByteArray} (hown : s.vm.findClass own = some m.cls) (hy1 : y.name = "<init>") (hlink : (Cond.methodLinkNest own index y host).before args s = true) (hinst : (Cond.instanceMethod y).before args s = true) (hcode : (Cond.code y bytes maxL none).before args s = true)
    (hy : y.cls ≠ "java/lang/invoke/MethodHandle" ∧ y.cls ≠ "java/lang/invoke/VarHandle") {b : Addr} {g : JFrame} (hg : g.method = m) {argsL rest : List Value} (hlen : (parseMethodDescriptor y.desc).map (fun d => d.parameters.length) = some argsL.length)
    (hstack : g.stack = argsL.reverse ++ .ref b :: rest) (hdg : decode c.code g.pc = .ok (.invokespecial index, 3)) : vv_I p l e R s m args below meth c H locs cells slots g rest y (Value.ref b :: argsL).toArray := by
  intro T hT X
  subst hg
  have hpl : e.platform.magicAccessors = ({} : Platform).magicAccessors := by rw [X.admits.platform]
  obtain ⟨mk, methM, cM, kP, vm₁, hnamed, hmethM, hcodeM, -, hlocalsM, -, hkP, -, hW₁, hstep₁⟩ := Steps.initColdArgsNest (e := e) X.here hexec X.warmed hpl hown hy1 hy hlink hinst hcode (f := g) rfl (vv_len hlen) hstack hdg
  have X₁ := X.noted hW₁
  exact ⟨vm₁, mk, X₁, X₁.named hnamed, fun target h => hstep₁ _ fun acts => by rw [doInvoke_state]; exact h⟩
theorem vv_IU (hexec : p.tables.exec = Jvm.exec) {own : String} {index maxL : Nat} {y : MethodName} {bytes : ByteArray} {ret : Option FieldType} (hown : s.vm.findClass own = some m.cls) (hlink : (Cond.methodLink own index y).before args s = true) (hsame : (Cond.sameMethod y.cls y.cls y.name y.desc).before args s = true) (hsup : (Cond.superclass own y.cls).before args s = true)
    (hinst : (Cond.instanceMethod y).before args s = true) (hcode : (Cond.code y bytes maxL ret).before args s = true) (hno : y.name ≠ "<init>")
    {b : Addr} (hrec : ∃ (cellB : Cell) (kB : Class), H[b]? = some cellB ∧ cellB.vm.isStatics = false ∧ s.vm.classes[cellB.cls]? = some kB)
    {g : JFrame} (hg : g.method = m) {argsL rest : List Value} (hlen : (parseMethodDescriptor y.desc).map (fun d => d.parameters.length) = some argsL.length)
    (hstack : g.stack = argsL.reverse ++ .ref b :: rest) (hdg : decode c.code g.pc = .ok (.invokespecial index, 3)) : vv_I p l e R s m args below meth c H locs cells slots g rest y (Value.ref b :: argsL).toArray := by
  intro T hT X
  obtain ⟨cellB, kB, hcell, hobj, hkB⟩ := hrec
  obtain ⟨mk, methM, hnamed, hmethM, hstM, habM⟩ := Cond.instanceMethod_spec hinst
  obtain ⟨methM', cM, hmethM', -, -, -, -, -, -, hsigM⟩ := Cond.code_spec hnamed hcode
  cases hmethM.symm.trans hmethM'
  obtain ⟨ps, dk, kp, hps, hdk, hkp, hsuper, -, -, hnid⟩ := Cond.superclass_spec hown hsup
  have hn : s.methodNamed? ⟨y.cls, y.name, y.desc⟩ = some mk := hnamed
  have hpm : ps = mk.cls := Option.some.inj (hps.symm.trans (findClass_of_methodNamed hnamed))
  have hsub : s.vm.isSubclass ps mk.cls = true := by rw [hpm]; simp [Vm.isSubclass, Vm.isSubclassAux]
  obtain ⟨vm₁, X₁, hstep₁⟩ := X.invokespecialUp hexec hown hlink hsame hn hmethM hstM habM hno hdk hnid hps hsuper hsub (a := b) (cell := cellB) (by rw [hT]; exact hcell)
    (fun z h => by rw [h] at hobj; cases hobj) hkB (g := g) hg (argsL := argsL) (rest := rest) (vv_len hlen _ hsigM) hstack hdg
  exact ⟨vm₁, mk, X₁, X₁.named hnamed, fun target h => hstep₁ _ (by rw [doInvoke_state]; exact h)⟩
theorem vv_IO (hexec : p.tables.exec = Jvm.exec) {own C : String} {index : Nat} {x y : MethodName} (hown : s.vm.findClass own = some m.cls) (hlink : (Cond.methodLink own index x).before args s = true) (hsame : (Cond.sameMethod x.cls x.cls x.name x.desc).before args s = true)
    (hd0 : va_Decl s x) (howner : x.cls ≠ "java/lang/invoke/MethodHandle" ∧ x.cls ≠ "java/lang/invoke/VarHandle") (hsel : (Cond.selects C x y).before args s = true) (hinst : (Cond.instanceMethod y).before args s = true)
    {b : Addr} (hrec : ∃ cellB : Cell, H[b]? = some cellB ∧ cellB.vm.isStatics = false ∧ s.vm.findClass C = some cellB.cls)
    {g : JFrame} (hg : g.method = m) {argsL rest : List Value} (hlen : (parseMethodDescriptor x.desc).map (fun d => d.parameters.length) = some argsL.length)
    (hstack : g.stack = argsL.reverse ++ .ref b :: rest) (hdg : decode c.code g.pc = .ok (.invokevirtual index, 3)) : vv_I p l e R s m args below meth c H locs cells slots g rest y (Value.ref b :: argsL).toArray := by
  intro T hT X
  obtain ⟨cellB, hcell, hobj, hcls⟩ := hrec
  obtain ⟨r0, r, hn, hrm, hstR, hsigR⟩ := hd0
  obtain ⟨cn, ck, r1, hcn, hck, hni, hf, hn1⟩ := Cond.sameMethod_found hsame
  cases hn.symm.trans hn1
  obtain ⟨mk, methM, hnamed, hmethM, -, habM⟩ := Cond.instanceMethod_spec hinst
  obtain ⟨c2, r2, m2, q1, q2, q3, q4, kP, hkP, hkPi⟩ := Cond.selects_spec hsel
  cases hcls.symm.trans q1
  cases hf.symm.trans q2
  cases hnamed.symm.trans q3
  have hselP : selectMethod e.platform s.vm cellB.cls r0 = .method mk := by rw [Launch.admits_selectMethod X.admits]; exact q4
  obtain ⟨vm₁, X₁, hstep₁⟩ := X.invokevirtualUp hexec hown hlink hsame howner hn hrm hstR (a := b) (cell := cellB) (by rw [hT]; exact hcell)
    (fun z h => by rw [h] at hobj; cases hobj) hselP hmethM habM hkP hkPi (g := g) hg (argsL := argsL) (rest := rest) (vv_len hlen _ hsigR) hstack hdg
  exact ⟨vm₁, mk, X₁, X₁.named hnamed, fun target h => hstep₁ _ fun acts => by rw [doInvoke_state]; exact h⟩
theorem vv_ISN (hexec : p.tables.exec = Jvm.exec) {own host : String} {index : Nat} {y : MethodName} (hown : s.vm.findClass own = some m.cls) (hlink : (Cond.methodLinkNest own index y host).before args s = true) (hstat : (Cond.static y).before args s = true) (hinit : (Cond.initialized y.cls).before args s = true)
    (hy : y.cls ≠ "java/lang/invoke/MethodHandle" ∧ y.cls ≠ "java/lang/invoke/VarHandle") (hsig : ∃ mk methM, s.methodNamed? y = some mk ∧ s.vm.method? mk = some methM ∧ parseMethodDescriptor y.desc = some methM.sig)
    {g : JFrame} (hg : g.method = m) {argsL rest : List Value} (hlen : (parseMethodDescriptor y.desc).map (fun d => d.parameters.length) = some argsL.length)
    (hstack : g.stack = argsL.reverse ++ rest) (hdg : decode c.code g.pc = .ok (.invokestatic index, 3)) : vv_I p l e R s m args below meth c H locs cells slots g rest y argsL.toArray := by
  intro T hT X
  obtain ⟨mk, methM, hnamed, hmethM, hsigM⟩ := hsig
  have hstatic : methM.isStatic = true := Cond.static_spec hnamed hmethM hstat
  obtain ⟨kP, hkP, -⟩ := className_of_methodNamed hnamed
  have hinitP : kP.init = .initialized := Cond.initialized_spec (findClass_of_methodNamed hnamed) hkP hinit
  obtain ⟨vm₁, X₁, hstep₁⟩ := X.invokestaticNest hexec hown hlink hnamed hmethM hstatic hkP hinitP hy (g := g) hg (argsL := argsL) (rest := rest) (vv_len hlen _ hsigM) hstack hdg
  exact ⟨vm₁, mk, X₁, X₁.named hnamed, fun target h => hstep₁ _ fun acts => by rw [doInvoke_state]; exact h⟩
end VL
/-- the invoking instruction at pc links to y, called with av over st -/
def vv_L {S : Type} (l : Launch) (cc : ByteArray) (own : String) (Kf : State → Prop) (Wd : S → Heap → Prop) (σ : S) (pc : Nat) (stk st : List Value) (y : MethodName) (av : List Value) (ig : Instr) : Prop :=
  decode cc pc = .ok (ig, 3) ∧ ∀ (p : Program) (e : Env) (R : Room) (s : State) (m : MethodId) (args : Array Value) (below : List Frame) (meth : Method) (c : Code) (H : Heap) (locs : List Loc) (cells slots : Nat) (arr : Array Slot), p.tables.exec = Jvm.exec → c.code = cc → s.vm.findClass own = some m.cls → (∀ w ∈ lw_all, w.before args s = true) → Kf s → Wd σ H →
    vv_I p l e R s m args below meth c H locs cells slots (F0 m pc arr stk) st y av.toArray
section VL2
variable {S : Type} {v : vv_T S} {l : Launch} {cc : ByteArray} {nL : Nat} {own nm : String} {ret : Option FieldType} {hh : List (Nat × Nat × Nat × Nat)} {R : Room} {Kf : State → Prop} {Wd : S → Heap → Prop} {A : Nat → Prop} {post : vv_O S}
variable {σ : S} {bc bs pc q : Nat} {ls ls' : List (Nat × Value)} {st stk : List Value} {y : MethodName} {ws : List Cond} {maxL maxL' idx b : Nat} {As : List Value} {bytes : ByteArray} {rt : Option FieldType}
theorem vv_LI (hok : vv_oc y maxL As.length ws) (hw1 : Cond.methodLink own idx y ∈ lw_all) (hw2 : Cond.instanceMethod y ∈ lw_all) (hw3 : Cond.code y bytes maxL' none ∈ lw_all) (hy : y.name = "<init>") (d : decode cc pc = .ok (.invokespecial idx, 3)) (hstk : stk = As.reverse ++ .ref b :: st) : vv_L l cc own Kf Wd σ pc stk st y (.ref b :: As) (.invokespecial idx) :=
  ⟨d, fun p e R s m args below meth c H locs cells slots arr hx hb ho hts _ _ => vv_II hx ho hy (hts _ hw1) (hts _ hw2) (hts _ hw3) hok.2.1 rfl hok.2.2 hstk (by rw [hb]; exact d)⟩
theorem vv_LIN {host : String} (hN : kN Kf) (hok : vv_oc y maxL As.length ws) (hw1 : Cond.methodLinkNest own idx y host ∈ lw_tbl) (hw2 : Cond.instanceMethod y ∈ lw_all) (hw3 : Cond.code y bytes maxL' none ∈ lw_all) (hy : y.name = "<init>") (d : decode cc pc = .ok (.invokespecial idx, 3)) (hstk : stk = As.reverse ++ .ref b :: st) : vv_L l cc own Kf Wd σ pc stk st y (.ref b :: As) (.invokespecial idx) :=
  ⟨d, fun p e R s m args below meth c H locs cells slots arr hx hb ho hts hK _ => vv_IIN hx ho hy (va_Nw.use rfl (hN s hK _ hw1 rfl)) (hts _ hw2) (hts _ hw3) hok.2.1 rfl hok.2.2 hstk (by rw [hb]; exact d)⟩
theorem vv_LU (hok : vv_oc y maxL As.length ws) (hw1 : Cond.methodLink own idx y ∈ lw_all) (hw2 : Cond.instanceMethod y ∈ lw_all) (hw3 : Cond.code y bytes maxL' rt ∈ lw_all) (hw4 : Cond.sameMethod y.cls y.cls y.name y.desc ∈ lw_all) (hw5 : Cond.superclass own y.cls ∈ lw_all) (hno : y.name ≠ "<init>")
    (hrec : ∀ (s : State) (H : Heap), Kf s → Wd σ H → ∃ (cellB : Cell) (kB : Class), H[b]? = some cellB ∧ cellB.vm.isStatics = false ∧ s.vm.classes[cellB.cls]? = some kB) (d : decode cc pc = .ok (.invokespecial idx, 3)) (hstk : stk = As.reverse ++ .ref b :: st) : vv_L l cc own Kf Wd σ pc stk st y (.ref b :: As) (.invokespecial idx) :=
  ⟨d, fun p e R s m args below meth c H locs cells slots arr hx hb ho hts hK hW => vv_IU hx ho (hts _ hw1) (hts _ hw4) (hts _ hw5) (hts _ hw2) (hts _ hw3) hno (hrec s H hK hW) rfl hok.2.2 hstk (by rw [hb]; exact d)⟩
theorem vv_LV {C : String} (hok : vv_oc y maxL As.length ws) (hw1 : Cond.methodLink own idx y ∈ lw_all) (hw2 : Cond.instanceMethod y ∈ lw_all) (hw3 : Cond.selects C y y ∈ lw_all)
    (hrec : ∀ (s : State) (H : Heap), Kf s → Wd σ H → ∃ cell : Cell, H[b]? = some cell ∧ cell.vm.isStatics = false ∧ s.vm.findClass C = some cell.cls) (d : decode cc pc = .ok (.invokevirtual idx, 3)) (hstk : stk = As.reverse ++ .ref b :: st) : vv_L l cc own Kf Wd σ pc stk st y (.ref b :: As) (.invokevirtual idx) := by
  refine ⟨d, fun p e R s m args below meth c H locs cells slots arr hx hb ho hts hK hW => vv_IV hx ho (hts _ hw1) (hts _ hw2) (hts _ hw3) hok.2.1 ?_ (hrec s H hK hW) rfl hok.2.2 hstk (by rw [hb]; exact d)⟩
  intro mk methM g1 g2
  obtain ⟨mk', methM', cM, g3, g4, -, -, g5⟩ := (hok.1 args s hts).2.2.2
  cases g1.symm.trans g3
  cases g2.symm.trans g4
  exact g5
theorem vv_LS (hok : vv_oc y maxL As.length ws) (hw1 : Cond.methodLink own idx y ∈ lw_all) (hw2 : Cond.static y ∈ lw_all) (d : decode cc pc = .ok (.invokestatic idx, 3)) (hstk : stk = As.reverse ++ st) : vv_L l cc own Kf Wd σ pc stk st y As (.invokestatic idx) := by
  refine ⟨d, fun p e R s m args below meth c H locs cells slots arr hx hb ho hts hK hW => ?_⟩
  obtain ⟨-, -, hini, mk', methM', cM, g3, g4, -, -, g5⟩ := hok.1 args s hts
  exact vv_IS hx ho (hts _ hw1) (hts _ hw2) hini hok.2.1 ⟨mk', methM', g3, g4, g5⟩ rfl hok.2.2 hstk (by rw [hb]; exact d)
theorem vv_LSN {host : String} (hN : kN Kf) (hok : vv_oc y maxL As.length ws) (hw1 : Cond.methodLinkNest own idx y host ∈ lw_tbl) (hw2 : Cond.static y ∈ lw_all) (d : decode cc pc = .ok (.invokestatic idx, 3)) (hstk : stk = As.reverse ++ st) : vv_L l cc own Kf Wd σ pc stk st y As (.invokestatic idx) := by
  refine ⟨d, fun p e R s m args below meth c H locs cells slots arr hx hb ho hts hK hW => ?_⟩
  obtain ⟨-, -, hini, mk', methM', cM, g3, g4, -, -, g5⟩ := hok.1 args s hts
  exact vv_ISN hx ho (va_Nw.use rfl (hN s hK _ hw1 rfl)) (hts _ hw2) hini hok.2.1 ⟨mk', methM', g3, g4, g5⟩ rfl hok.2.2 hstk (by rw [hb]; exact d)
/-- an overridden method: the instruction names x (declared with a code, or abstract), the receiver's class C selects y -/
theorem vv_LO {C : String} {x : MethodName} (hlen : (parseMethodDescriptor x.desc).map (fun d => d.parameters.length) = some As.length) (howner : x.cls ≠ "java/lang/invoke/MethodHandle" ∧ x.cls ≠ "java/lang/invoke/VarHandle") (hw1 : Cond.methodLink own idx x ∈ lw_all) (hw2 : Cond.sameMethod x.cls x.cls x.name x.desc ∈ lw_all) (hd : ∀ (args : Array Value) (s : State), (∀ w ∈ lw_all, w.before args s = true) → va_Decl s x)
    (hw3 : Cond.selects C x y ∈ lw_all) (hw4 : Cond.instanceMethod y ∈ lw_all)
    (hrec : ∀ (s : State) (H : Heap), Kf s → Wd σ H → ∃ cell : Cell, H[b]? = some cell ∧ cell.vm.isStatics = false ∧ s.vm.findClass C = some cell.cls) (d : decode cc pc = .ok (.invokevirtual idx, 3)) (hstk : stk = As.reverse ++ .ref b :: st) : vv_L l cc own Kf Wd σ pc stk st y (.ref b :: As) (.invokevirtual idx) :=
  ⟨d, fun p e R s m args below meth c H locs cells slots arr hx hb ho hts hK hW => vv_IO hx ho (hts _ hw1) (hts _ hw2) (hd args s hts) howner (hts _ hw3) (hts _ hw4) (hrec s H hK hW) rfl hlen hstk (by rw [hb]; exact d)⟩
theorem vv_decl {x : MethodName} (hi : Cond.instanceMethod x ∈ lw_all) (hc : Cond.code x bytes maxL rt ∈ lw_all) : ∀ (args : Array Value) (s : State), (∀ w ∈ lw_all, w.before args s = true) → va_Decl s x := fun _ _ hts => va_Decl.of (hts _ hi) (hts _ hc)
/-- a call; it returns -/
theorem v_call (F : vv_F v l cc nL own nm ret hh R Kf Wd A post) (hKm : kM A Kf) {av : List Value} {rm : Room} {bc' bs' n : Nat} {ig : Instr} {p' : Option Value → S → Prop} (hM : vv_Ct l y ws rm Kf Wd A av σ (vv_R p')) (hok : vv_oc y maxL n ws) (hL : vv_L l cc own Kf Wd σ pc stk st y av ig)
    (hroom : rm.frames + 1 ≤ R.frames ∧ 8 + (maxL + 11) + rm.locals ≤ R.locals) (hst : (st.map fun v => v.category).sum ≤ 8) (hq : pc + 3 = q) (hb1 : rm.cells + bc' = bc) (hb2 : rm.slots + bs' = bs) (k : ∀ r u, p' r u → v u bc' bs' q ls (r.toList ++ st)) : v σ bc bs pc ls stk := by
  obtain ⟨p, e, s, m, args, below, meth, c, ⟨hx, hb, hml, hown, hts⟩, -, ⟨hKf, hA⟩, rfl⟩ := F
  subst hq; subst hb1; subst hb2
  intro H locs cells slots arr hW hS h1 h2 hl
  refine vv_go hb hml hts hKm hKf hA hM hok hroom hst hL.1 (by omega) (by omega) hW hS hl (hL.2 p e R s m args below meth c H locs cells slots arr hx hb hown hts hKf hW) ?_
  intro o u k1 n1 H1 locs1 hk1 hn1 hp hWu hS1 T' hT' X'
  cases o with
  | threw x => exact absurd hp (fun h => h)
  | returned r => exact k r u hp H1 locs1 (cells + k1) (slots + n1) arr hWu hS1 (by omega) (by omega) hl T' hT' X'
/-- a walk over another world: g takes its states into this one's -/
theorem v_conv {S' : Type} {Wd' : S' → Heap → Prop} (g : S' → S) {σ' : S'} (F : vv_F v l cc nL own nm ret hh R Kf Wd A post) (h1 : ∀ H, Wd (g σ') H → Wd' σ' H) (h2 : ∀ u H, Wd' u H → Wd (g u) H)
    (h : ∀ v' : vv_T S', vv_F v' l cc nL own nm ret hh R Kf Wd' A (fun o u k n => post o (g u) k n) → v' σ' bc bs pc ls st) : v (g σ') bc bs pc ls st := by
  obtain ⟨p, e, s, m, args, below, meth, c, a1, a2, a3, rfl⟩ := F
  intro H locs cells slots arr hW hS g1 g2 hl
  refine vv_mono ?_ (h _ ⟨p, e, s, m, args, below, meth, c, a1, a2, a3, rfl⟩ H locs cells slots arr (h1 H hW) hS g1 g2 hl)
  rintro t ⟨o, b1, b2, k, n, b3, ⟨⟨u, b4, b5⟩, b6⟩, b7⟩
  exact ⟨o, b1, b2, k, n, b3, ⟨⟨g u, b4, h2 u _ b5⟩, b6⟩, b7⟩
/-- what a world tells may be used -/
theorem v_know (F : vv_F v l cc nL own nm ret hh R Kf Wd A post) {P : Prop} (h : ∀ H, Wd σ H → P) (k : P → v σ bc bs pc ls st) : v σ bc bs pc ls st := by
  obtain ⟨p, e, s, m, args, below, meth, c, a1, a2, a3, rfl⟩ := F
  intro H locs cells slots arr hW hS g1 g2 hl
  exact k (h H hW) H locs cells slots arr hW hS g1 g2 hl
/-- another name for the same cells -/
theorem v_ghost (F : vv_F v l cc nL own nm ret hh R Kf Wd A post) {σ' : S} (h : ∀ H, Wd σ H → Wd σ' H) (k : v σ' bc bs pc ls st) : v σ bc bs pc ls st := by
  obtain ⟨p, e, s, m, args, below, meth, c, a1, a2, a3, rfl⟩ := F
  intro H locs cells slots arr hW hS g1 g2 hl
  exact k H locs cells slots arr (h H hW) hS g1 g2 hl
/-- less room than there is -/
theorem v_room (F : vv_F v l cc nL own nm ret hh R Kf Wd A post) {bc' bs' : Nat} (h1 : bc' ≤ bc) (h2 : bs' ≤ bs) (k : v σ bc' bs' pc ls st) : v σ bc bs pc ls st := by
  obtain ⟨p, e, s, m, args, below, meth, c, a1, a2, a3, rfl⟩ := F
  intro H locs cells slots arr hW hS g1 g2 hl
  exact k H locs cells slots arr hW hS (by omega) (by omega) hl
end VL2
