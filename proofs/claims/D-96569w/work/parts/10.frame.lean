/-! THE FRAME OF THE WALKS. v σ bc bs pc ls st: from abstract state σ, with room for bc cells of bs slots, at pc, with locals ls and operands st, the method comes to its end as promised. -/
set_option maxRecDepth 100000
/-- how a method ends: its outcome, the new state, how many cells and slots it made -/
abbrev vv_O (S : Type) : Type := Outcome → S → Nat → Nat → Prop
abbrev vv_T (S : Type) : Type := S → Nat → Nat → Nat → List (Nat × Value) → List Value → Prop
def vv_Fe (first : State) (t : State) (L : List Loc) (k n : Nat) : Prop := first.WarmedH t.vm ∧ first.sameButNew ({ t with vm := first.vm } : State) L k n
def vv_MQ (below : List Frame) (Qc : Array Value → State → Outcome → State → Nat → Nat → Prop) (a : Array Value) (s : State) (mc ms : Nat) (free : Addr → Prop) : State → Prop := fun t =>
  ∃ o, t.status = .running ∧ Ended t below o ∧ ∃ k n, (k ≤ mc ∧ n ≤ ms) ∧ Qc a s o t k n ∧ ∃ L, vv_Fe s t L k n ∧ ∀ q ∈ L, free q.base
def vv_Met (l : Launch) (y : MethodName) (ws : List Cond) (rm : Room) (Pc : Array Value → State → Prop) (Qc : Array Value → State → Outcome → State → Nat → Nat → Prop) (mc ms : Nat) (free : Addr → Prop) : Prop :=
  MetFree l y (headSpec ws rm) Pc (fun _ _ _ _ _ => True) (fun a st o t => ∃ k n, (k ≤ mc ∧ n ≤ ms) ∧ Qc a st o t k n ∧ ∃ L, vv_Fe st t L k n ∧ ∀ q ∈ L, free q.base)
def vv_P {S : Type} (Kf : State → Prop) (Wd : S → Heap → Prop) (A : Nat → Prop) (av : List Value) (σ : S) : Array Value → State → Prop := fun a U => a = av.toArray ∧ Wd σ U.heap ∧ Kf U ∧ ∀ q : Nat, U.heap.size ≤ q → A q
def vv_Q {S : Type} (Wd : S → Heap → Prop) (A : Nat → Prop) (post : vv_O S) : Array Value → State → Outcome → State → Nat → Nat → Prop := fun _ st o t k n => (∃ u : S, post o u k n ∧ Wd u t.heap) ∧ va_F A st t
/-- a contract: from σ, with arguments av, the method ends with post -/
abbrev vv_Ct {S : Type} (l : Launch) (y : MethodName) (ws : List Cond) (R : Room) (Kf : State → Prop) (Wd : S → Heap → Prop) (A : Nat → Prop) (av : List Value) (σ : S) (post : vv_O S) : Prop :=
  vv_Met l y ws R (vv_P Kf Wd A av σ) (vv_Q Wd A post) R.cells R.slots A
/-- it returns -/
def vv_R {S : Type} (p : Option Value → S → Prop) : vv_O S := fun o u _ _ => match o with | .returned r => p r u | .threw _ => False
/-- it returns, or throws -/
def vv_RT {S : Type} (p : Option Value → S → Prop) (x : Nat → S → Prop) : vv_O S := fun o u _ _ => match o with | .returned r => p r u | .threw a => x a u
/-- it returns having made at most c u cells of three slots, or throws -/
def vv_RC {S : Type} (c : S → Nat) (p : Option Value → S → Prop) (x : Nat → S → Prop) : vv_O S := fun o u k n => match o with | .returned r => p r u ∧ k ≤ c u ∧ n ≤ 3 * c u | .threw a => x a u
def vv_V {S : Type} (p : Program) (l : Launch) (e : Env) (R : Room) (s : State) (m : MethodId) (args : Array Value) (below : List Frame) (meth : Method) (c : Code) (nL : Nat) (Wd : S → Heap → Prop) (A : Nat → Prop) (post : vv_O S) : vv_T S := fun σ bc bs pc ls st =>
  ∀ (H : Heap) (locs : List Loc) (cells slots : Nat) (arr : Array Slot), Wd σ H → va_S A s.heap H locs → cells + bc ≤ R.cells → slots + bs ≤ R.slots → lv_has arr nL ls → W p l e R s m args below meth c H locs cells slots (vv_MQ below (vv_Q Wd A post) args s R.cells R.slots A) (F0 m pc arr st)
def vv_F {S : Type} (v : vv_T S) (l : Launch) (cc : ByteArray) (nL : Nat) (own nm : String) (ret : Option FieldType) (hh : List (Nat × Nat × Nat × Nat)) (R : Room) (Kf : State → Prop) (Wd : S → Heap → Prop) (A : Nat → Prop) (post : vv_O S) : Prop :=
  ∃ (p : Program) (e : Env) (s : State) (m : MethodId) (args : Array Value) (below : List Frame) (meth : Method) (c : Code),
    (p.tables.exec = Jvm.exec ∧ c.code = cc ∧ c.maxLocals = nL ∧ s.vm.findClass own = some m.cls ∧ ∀ w ∈ lw_all, w.before args s = true) ∧
    (meth.sig.returnType = ret ∧ meth.locks = false ∧ meth.name = nm ∧ c.exceptionTable.toList.map (fun h => (h.startPc, h.endPc, h.handlerPc, h.catchType)) = hh) ∧
    (Kf s ∧ ∀ q : Nat, s.heap.size ≤ q → A q) ∧ v = vv_V p l e R s m args below meth c nL Wd A post
theorem vv_mono {p : Program} {l : Launch} {e : Env} {R : Room} {s : State} {m : MethodId} {args : Array Value} {below : List Frame} {meth : Method} {c : Code} {H : Heap} {locs : List Loc} {cells slots : Nat} {Q Q' : State → Prop} {g : JFrame} (h : ∀ t, Q t → Q' t) (k : W p l e R s m args below meth c H locs cells slots Q g) : W p l e R s m args below meth c H locs cells slots Q' g := by
  intro T hT X
  obtain ⟨t, a, b⟩ := k T hT X
  exact ⟨t, a, h t b⟩
theorem vv_MQ.of {below : List Frame} {Qc : Array Value → State → Outcome → State → Nat → Nat → Prop} {a : Array Value} {s : State} {mc ms k n : Nat} {free : Addr → Prop} (hk : k ≤ mc) (hn : n ≤ ms) (t : State) (h : MQ below (fun a s o t => Qc a s o t k n) a s k n free t) : vv_MQ below Qc a s mc ms free t := by
  obtain ⟨o, h1, h2, h3, L, h4, h5⟩ := h
  exact ⟨o, h1, h2, k, n, ⟨hk, hn⟩, h3, L, h4.2, h5⟩
section VV0
variable {S : Type} {l : Launch} {y : MethodName} {cc : ByteArray} {nL : Nat} {ret : Option FieldType} {R : Room} {Kf : State → Prop} {Wd : S → Heap → Prop} {A : Nat → Prop} {av : List Value} {σ : S} {post : vv_O S}
theorem vv_of (hy : plainName y.cls = true) (hn : (lg_sl av).length ≤ nL)
    (h : ∀ v : vv_T S, vv_F v l cc nL y.cls y.name ret [] R Kf Wd A post → v σ R.cells R.slots 0 (lv_args 0 av) []) : vv_Ct l y (ws_ y cc nL ret) R Kf Wd A av σ post := by
  refine MetFree.of_bodyS (code := cc) (maxLocals := nL) (ret := ret) hy ?_ ?_
  · intro args s m h hn
    obtain ⟨meth, c, h1, h2, h3, h4, h5, h6, -, -⟩ := Cond.code_spec hn (atoms_spec (ws := ws_ y cc nL ret) h _ List.mem_cons_self)
    exact ⟨meth, c, h1, h2, h3, h4, h5, h6⟩
  · intro p e s m args below meth c s₁ B hml hP _
    obtain ⟨rfl, hWd, hK, hA⟩ := hP
    have hh0 : s₁.heap = s.heap := by rw [B.state]; rfl
    have hts0 := atoms_spec (ws := ws_ y cc nL ret) B.pre
    have hcode := hts0 _ List.mem_cons_self
    have hts : ∀ w ∈ lw_all, w.before av.toArray s = true := fun w h => hts0 w (List.mem_cons_of_mem _ h)
    have hemp := BodyLoose.noHandlers B hcode
    have hemp2 : c.exceptionTable.toList = [] := by simpa using hemp
    have K := h _ ⟨p, e, s, m, av.toArray, below, meth, c, ⟨B.exec, B.bytes, hml, findClass_of_methodNamed B.named, hts⟩, ⟨B.returns, B.notSynchronized, (name_of_methodNamed B.named B.method).1, by rw [hemp2]; rfl⟩, ⟨hK, hA⟩, rfl⟩ s.heap [] 0 0 _ hWd va_S.rf (by omega) (by omega) (lv_entry av hn)
    rw [← lg_entry_eq] at K
    obtain ⟨t, a1, o, b1, b2, b3⟩ := K s₁ hh0 (Stand.of_body B)
    exact ⟨t, o, a1, b1, b2, b3⟩
theorem vv_ofW {hh : List (Nat × Nat × Nat × Nat)} (hy : plainName y.cls = true) (hn : (lg_sl av).length ≤ nL)
    (h : ∀ v : vv_T S, vv_F v l cc nL y.cls y.name ret hh R Kf Wd A post → v σ R.cells R.slots 0 (lv_args 0 av) []) : vv_Ct l y (wsW_ y cc nL ret hh) R Kf Wd A av σ post := by
  refine MetFree.of_bodyS (code := cc) (maxLocals := nL) (ret := ret) hy ?_ ?_
  · intro args s m h hn
    obtain ⟨m9, meth, c, hn9, h1, h2, h3, h4, -, h5, h6, -⟩ := Cond.codeWith_spec (atoms_spec (ws := wsW_ y cc nL ret hh) h _ List.mem_cons_self)
    cases hn.symm.trans hn9
    exact ⟨meth, c, h1, h2, h3, h4, h5, h6⟩
  · intro p e s m args below meth c s₁ B hml hP _
    obtain ⟨rfl, hWd, hK, hA⟩ := hP
    have hh0 : s₁.heap = s.heap := by rw [B.state]; rfl
    have hts0 := atoms_spec (ws := wsW_ y cc nL ret hh) B.pre
    have hcode := hts0 _ List.mem_cons_self
    have hts : ∀ w ∈ lw_all, w.before av.toArray s = true := fun w h => hts0 w (List.mem_cons_of_mem _ h)
    obtain ⟨m9, meth9, c9, hn9, h1, h2, h3, h4, h7, h5, h6, -⟩ := Cond.codeWith_spec hcode
    cases B.named.symm.trans hn9
    cases B.method.symm.trans h1
    cases (Stand.of_body B).code.symm.trans h2
    have K := h _ ⟨p, e, s, m, av.toArray, below, meth, c, ⟨B.exec, B.bytes, hml, findClass_of_methodNamed B.named, hts⟩, ⟨B.returns, B.notSynchronized, (name_of_methodNamed B.named B.method).1, h7⟩, ⟨hK, hA⟩, rfl⟩ s.heap [] 0 0 _ hWd va_S.rf (by omega) (by omega) (lv_entry av hn)
    rw [← lg_entry_eq] at K
    obtain ⟨t, a1, o, b1, b2, b3⟩ := K s₁ hh0 (Stand.of_body B)
    exact ⟨t, o, a1, b1, b2, b3⟩
end VV0
section VV1
variable {S : Type} {v : vv_T S} {l : Launch} {cc : ByteArray} {nL : Nat} {own nm : String} {ret : Option FieldType} {hh : List (Nat × Nat × Nat × Nat)} {R : Room} {Kf : State → Prop} {Wd : S → Heap → Prop} {A : Nat → Prop} {post : vv_O S}
variable {σ : S} {bc bs pc q : Nat} {ls ls' : List (Nat × Value)} {st : List Value}
theorem v_iconst (F : vv_F v l cc nL own nm ret hh R Kf Wd A post) {n : Int} {x : Int32} (d : decode cc pc = .ok (.iconst n, 1)) (hq : pc + 1 = q) (hv : Int32.ofInt n = x) (k : v σ bc bs q ls (.int x :: st)) : v σ bc bs pc ls (st) := by
  obtain ⟨p, e, s, m, args, below, meth, c, ⟨hx, hb, hml, hown, hts⟩, -, -, rfl⟩ := F
  subst hq
  intro H locs cells slots arr hW hS h1 h2 hl
  exact lv_iconst hx hb d hv (k H locs cells slots arr hW hS h1 h2 hl)
theorem v_bipush (F : vv_F v l cc nL own nm ret hh R Kf Wd A post) {n : Int} {x : Int32} (d : decode cc pc = .ok (.bipush n, 2)) (hq : pc + 2 = q) (hv : (Int8.ofInt n).toInt32 = x) (k : v σ bc bs q ls (.int x :: st)) : v σ bc bs pc ls (st) := by
  obtain ⟨p, e, s, m, args, below, meth, c, ⟨hx, hb, hml, hown, hts⟩, -, -, rfl⟩ := F
  subst hq
  intro H locs cells slots arr hW hS h1 h2 hl
  exact lv_bipush hx hb d hv (k H locs cells slots arr hW hS h1 h2 hl)
theorem v_sipush (F : vv_F v l cc nL own nm ret hh R Kf Wd A post) {n : Int} {x : Int32} (d : decode cc pc = .ok (.sipush n, 3)) (hq : pc + 3 = q) (hv : (Int16.ofInt n).toInt32 = x) (k : v σ bc bs q ls (.int x :: st)) : v σ bc bs pc ls (st) := by
  obtain ⟨p, e, s, m, args, below, meth, c, ⟨hx, hb, hml, hown, hts⟩, -, -, rfl⟩ := F
  subst hq
  intro H locs cells slots arr hW hS h1 h2 hl
  exact lv_sipush hx hb d hv (k H locs cells slots arr hW hS h1 h2 hl)
theorem v_lconst (F : vv_F v l cc nL own nm ret hh R Kf Wd A post) {n : Fin 2} {x : Int64} (d : decode cc pc = .ok (.lconst n, 1)) (hq : pc + 1 = q) (hv : Int64.ofNat (n : Nat) = x) (k : v σ bc bs q ls (.long x :: st)) : v σ bc bs pc ls (st) := by
  obtain ⟨p, e, s, m, args, below, meth, c, ⟨hx, hb, hml, hown, hts⟩, -, -, rfl⟩ := F
  subst hq
  intro H locs cells slots arr hW hS h1 h2 hl
  exact lv_lconst hx hb d hv (k H locs cells slots arr hW hS h1 h2 hl)
theorem v_null (F : vv_F v l cc nL own nm ret hh R Kf Wd A post)  (d : decode cc pc = .ok (.aconst_null, 1)) (hq : pc + 1 = q)  (k : v σ bc bs q ls (.null :: st)) : v σ bc bs pc ls (st) := by
  obtain ⟨p, e, s, m, args, below, meth, c, ⟨hx, hb, hml, hown, hts⟩, -, -, rfl⟩ := F
  subst hq
  intro H locs cells slots arr hW hS h1 h2 hl
  exact lv_null hx hb d  (k H locs cells slots arr hW hS h1 h2 hl)
theorem v_ldc (F : vv_F v l cc nL own nm ret hh R Kf Wd A post) {idx : Nat} {x : Int32} (hw : Jvm.Cond.constant own idx x ∈ lw_all) (d : decode cc pc = .ok (.ldc idx, 2)) (hq : pc + 2 = q) (k : v σ bc bs q ls (.int x :: st)) : v σ bc bs pc ls st := by
  obtain ⟨p, e, s, m, args, below, meth, c, ⟨hx, hb, hml, hown, hts⟩, -, -, rfl⟩ := F
  subst hq
  intro H locs cells slots arr hW hS h1 h2 hl
  exact lv_ldc hx hb hown (hts _ hw) d (k H locs cells slots arr hW hS h1 h2 hl)
theorem v_ldc2 (F : vv_F v l cc nL own nm ret hh R Kf Wd A post) {idx : Nat} {x : Int64} (hw : Jvm.Cond.constantLong own idx x ∈ lw_all) (d : decode cc pc = .ok (.ldc2_w idx, 3)) (hq : pc + 3 = q) (k : v σ bc bs q ls (.long x :: st)) : v σ bc bs pc ls st := by
  obtain ⟨p, e, s, m, args, below, meth, c, ⟨hx, hb, hml, hown, hts⟩, -, -, rfl⟩ := F
  subst hq
  intro H locs cells slots arr hW hS h1 h2 hl
  exact lv_ldc2 hx hb hown (hts _ hw) d (k H locs cells slots arr hW hS h1 h2 hl)
theorem v_iload_n (F : vv_F v l cc nL own nm ret hh R Kf Wd A post) {n : Fin 4} {i : Nat} {x : Int32} (j : Nat) (d : decode cc pc = .ok (.iload_n n, 1)) (hq : pc + 1 = q) (hj : ls[j]? = some (i, .int x)) (hi : (n : Nat) = i) (k : v σ bc bs q ls (.int x :: st)) : v σ bc bs pc ls st := by
  obtain ⟨p, e, s, m, args, below, meth, c, ⟨hx, hb, hml, hown, hts⟩, -, -, rfl⟩ := F
  subst hq
  intro H locs cells slots arr hW hS h1 h2 hl
  exact lv_iload_n hx hb d hi (lv_at hl j hj) (k H locs cells slots arr hW hS h1 h2 hl)
theorem v_iload (F : vv_F v l cc nL own nm ret hh R Kf Wd A post) {i : Nat} {x : Int32} (j : Nat) (d : decode cc pc = .ok (.iload i, 2)) (hq : pc + 2 = q) (hj : ls[j]? = some (i, .int x)) (k : v σ bc bs q ls (.int x :: st)) : v σ bc bs pc ls st := by
  obtain ⟨p, e, s, m, args, below, meth, c, ⟨hx, hb, hml, hown, hts⟩, -, -, rfl⟩ := F
  subst hq
  intro H locs cells slots arr hW hS h1 h2 hl
  exact lv_iload hx hb d (lv_at hl j hj) (k H locs cells slots arr hW hS h1 h2 hl)
theorem v_lload_n (F : vv_F v l cc nL own nm ret hh R Kf Wd A post) {n : Fin 4} {i : Nat} {x : Int64} (j : Nat) (d : decode cc pc = .ok (.lload_n n, 1)) (hq : pc + 1 = q) (hj : ls[j]? = some (i, .long x)) (hi : (n : Nat) = i) (k : v σ bc bs q ls (.long x :: st)) : v σ bc bs pc ls st := by
  obtain ⟨p, e, s, m, args, below, meth, c, ⟨hx, hb, hml, hown, hts⟩, -, -, rfl⟩ := F
  subst hq
  intro H locs cells slots arr hW hS h1 h2 hl
  exact lv_lload_n hx hb d hi (lv_at hl j hj) (k H locs cells slots arr hW hS h1 h2 hl)
theorem v_lload (F : vv_F v l cc nL own nm ret hh R Kf Wd A post) {i : Nat} {x : Int64} (j : Nat) (d : decode cc pc = .ok (.lload i, 2)) (hq : pc + 2 = q) (hj : ls[j]? = some (i, .long x)) (k : v σ bc bs q ls (.long x :: st)) : v σ bc bs pc ls st := by
  obtain ⟨p, e, s, m, args, below, meth, c, ⟨hx, hb, hml, hown, hts⟩, -, -, rfl⟩ := F
  subst hq
  intro H locs cells slots arr hW hS h1 h2 hl
  exact lv_lload hx hb d (lv_at hl j hj) (k H locs cells slots arr hW hS h1 h2 hl)
theorem v_aload_n (F : vv_F v l cc nL own nm ret hh R Kf Wd A post) {n : Fin 4} {i : Nat} {x : Nat} (j : Nat) (d : decode cc pc = .ok (.aload_n n, 1)) (hq : pc + 1 = q) (hj : ls[j]? = some (i, .ref x)) (hi : (n : Nat) = i) (k : v σ bc bs q ls (.ref x :: st)) : v σ bc bs pc ls st := by
  obtain ⟨p, e, s, m, args, below, meth, c, ⟨hx, hb, hml, hown, hts⟩, -, -, rfl⟩ := F
  subst hq
  intro H locs cells slots arr hW hS h1 h2 hl
  exact lv_aload_n hx hb d hi (lv_at hl j hj) (k H locs cells slots arr hW hS h1 h2 hl)
theorem v_aload (F : vv_F v l cc nL own nm ret hh R Kf Wd A post) {i : Nat} {x : Nat} (j : Nat) (d : decode cc pc = .ok (.aload i, 2)) (hq : pc + 2 = q) (hj : ls[j]? = some (i, .ref x)) (k : v σ bc bs q ls (.ref x :: st)) : v σ bc bs pc ls st := by
  obtain ⟨p, e, s, m, args, below, meth, c, ⟨hx, hb, hml, hown, hts⟩, -, -, rfl⟩ := F
  subst hq
  intro H locs cells slots arr hW hS h1 h2 hl
  exact lv_aload hx hb d (lv_at hl j hj) (k H locs cells slots arr hW hS h1 h2 hl)
theorem v_aload_nN (F : vv_F v l cc nL own nm ret hh R Kf Wd A post) {n : Fin 4} {i : Nat} (j : Nat) (d : decode cc pc = .ok (.aload_n n, 1)) (hq : pc + 1 = q) (hj : ls[j]? = some (i, .null)) (hi : (n : Nat) = i) (k : v σ bc bs q ls (.null :: st)) : v σ bc bs pc ls st := by
  obtain ⟨p, e, s, m, args, below, meth, c, ⟨hx, hb, hml, hown, hts⟩, -, -, rfl⟩ := F
  subst hq
  intro H locs cells slots arr hW hS h1 h2 hl
  exact lv_aload_nN hx hb d hi (lv_at hl j hj) (k H locs cells slots arr hW hS h1 h2 hl)
theorem v_aloadN (F : vv_F v l cc nL own nm ret hh R Kf Wd A post) {i : Nat} (j : Nat) (d : decode cc pc = .ok (.aload i, 2)) (hq : pc + 2 = q) (hj : ls[j]? = some (i, .null)) (k : v σ bc bs q ls (.null :: st)) : v σ bc bs pc ls st := by
  obtain ⟨p, e, s, m, args, below, meth, c, ⟨hx, hb, hml, hown, hts⟩, -, -, rfl⟩ := F
  subst hq
  intro H locs cells slots arr hW hS h1 h2 hl
  exact lv_aloadN hx hb d (lv_at hl j hj) (k H locs cells slots arr hW hS h1 h2 hl)
theorem v_istore_n (F : vv_F v l cc nL own nm ret hh R Kf Wd A post) {n : Fin 4} {i : Nat} {x : Int32} (d : decode cc pc = .ok (.istore_n n, 1)) (hq : pc + 1 = q) (hi : (n : Nat) = i) (hn : i < nL) (hf : (i, Value.int x) :: ls.filter (fun q => !(q.1 == i) && !(q.1 + 1 == i && q.2.category == 2)) = ls') (k : v σ bc bs q ls' st) : v σ bc bs pc ls (.int x :: st) := by
  obtain ⟨p, e, s, m, args, below, meth, c, ⟨hx, hb, hml, hown, hts⟩, -, -, rfl⟩ := F
  subst hq
  intro H locs cells slots arr hW hS h1 h2 hl
  exact lv_istore_n hx hb d hi hl hn hf (fun arr' hl' => k H locs cells slots arr' hW hS h1 h2 hl')
theorem v_istore (F : vv_F v l cc nL own nm ret hh R Kf Wd A post) {i : Nat} {x : Int32} (d : decode cc pc = .ok (.istore i, 2)) (hq : pc + 2 = q) (hn : i < nL) (hf : (i, Value.int x) :: ls.filter (fun q => !(q.1 == i) && !(q.1 + 1 == i && q.2.category == 2)) = ls') (k : v σ bc bs q ls' st) : v σ bc bs pc ls (.int x :: st) := by
  obtain ⟨p, e, s, m, args, below, meth, c, ⟨hx, hb, hml, hown, hts⟩, -, -, rfl⟩ := F
  subst hq
  intro H locs cells slots arr hW hS h1 h2 hl
  exact lv_istore hx hb d hl hn hf (fun arr' hl' => k H locs cells slots arr' hW hS h1 h2 hl')
theorem v_lstore_n (F : vv_F v l cc nL own nm ret hh R Kf Wd A post) {n : Fin 4} {i : Nat} {x : Int64} (d : decode cc pc = .ok (.lstore_n n, 1)) (hq : pc + 1 = q) (hi : (n : Nat) = i) (hn : i + 1 < nL) (hf : (i, Value.long x) :: ls.filter (fun q => !(q.1 == i) && (!(q.1 == i + 1) && !(q.1 + 1 == i && q.2.category == 2))) = ls') (k : v σ bc bs q ls' st) : v σ bc bs pc ls (.long x :: st) := by
  obtain ⟨p, e, s, m, args, below, meth, c, ⟨hx, hb, hml, hown, hts⟩, -, -, rfl⟩ := F
  subst hq
  intro H locs cells slots arr hW hS h1 h2 hl
  exact lv_lstore_n hx hb d hi hl hn hf (fun arr' hl' => k H locs cells slots arr' hW hS h1 h2 hl')
theorem v_lstore (F : vv_F v l cc nL own nm ret hh R Kf Wd A post) {i : Nat} {x : Int64} (d : decode cc pc = .ok (.lstore i, 2)) (hq : pc + 2 = q) (hn : i + 1 < nL) (hf : (i, Value.long x) :: ls.filter (fun q => !(q.1 == i) && (!(q.1 == i + 1) && !(q.1 + 1 == i && q.2.category == 2))) = ls') (k : v σ bc bs q ls' st) : v σ bc bs pc ls (.long x :: st) := by
  obtain ⟨p, e, s, m, args, below, meth, c, ⟨hx, hb, hml, hown, hts⟩, -, -, rfl⟩ := F
  subst hq
  intro H locs cells slots arr hW hS h1 h2 hl
  exact lv_lstore hx hb d hl hn hf (fun arr' hl' => k H locs cells slots arr' hW hS h1 h2 hl')
theorem v_astore_n (F : vv_F v l cc nL own nm ret hh R Kf Wd A post) {n : Fin 4} {i : Nat} {x : Nat} (d : decode cc pc = .ok (.astore_n n, 1)) (hq : pc + 1 = q) (hi : (n : Nat) = i) (hn : i < nL) (hf : (i, Value.ref x) :: ls.filter (fun q => !(q.1 == i) && !(q.1 + 1 == i && q.2.category == 2)) = ls') (k : v σ bc bs q ls' st) : v σ bc bs pc ls (.ref x :: st) := by
  obtain ⟨p, e, s, m, args, below, meth, c, ⟨hx, hb, hml, hown, hts⟩, -, -, rfl⟩ := F
  subst hq
  intro H locs cells slots arr hW hS h1 h2 hl
  exact lv_astore_n hx hb d hi hl hn hf (fun arr' hl' => k H locs cells slots arr' hW hS h1 h2 hl')
theorem v_astore (F : vv_F v l cc nL own nm ret hh R Kf Wd A post) {i : Nat} {x : Nat} (d : decode cc pc = .ok (.astore i, 2)) (hq : pc + 2 = q) (hn : i < nL) (hf : (i, Value.ref x) :: ls.filter (fun q => !(q.1 == i) && !(q.1 + 1 == i && q.2.category == 2)) = ls') (k : v σ bc bs q ls' st) : v σ bc bs pc ls (.ref x :: st) := by
  obtain ⟨p, e, s, m, args, below, meth, c, ⟨hx, hb, hml, hown, hts⟩, -, -, rfl⟩ := F
  subst hq
  intro H locs cells slots arr hW hS h1 h2 hl
  exact lv_astore hx hb d hl hn hf (fun arr' hl' => k H locs cells slots arr' hW hS h1 h2 hl')
theorem v_astore_nN (F : vv_F v l cc nL own nm ret hh R Kf Wd A post) {n : Fin 4} {i : Nat}  (d : decode cc pc = .ok (.astore_n n, 1)) (hq : pc + 1 = q) (hi : (n : Nat) = i) (hn : i < nL) (hf : (i, Value.null) :: ls.filter (fun q => !(q.1 == i) && !(q.1 + 1 == i && q.2.category == 2)) = ls') (k : v σ bc bs q ls' st) : v σ bc bs pc ls (.null :: st) := by
  obtain ⟨p, e, s, m, args, below, meth, c, ⟨hx, hb, hml, hown, hts⟩, -, -, rfl⟩ := F
  subst hq
  intro H locs cells slots arr hW hS h1 h2 hl
  exact lv_astore_nN hx hb d hi hl hn hf (fun arr' hl' => k H locs cells slots arr' hW hS h1 h2 hl')
theorem v_astoreN (F : vv_F v l cc nL own nm ret hh R Kf Wd A post) {i : Nat}  (d : decode cc pc = .ok (.astore i, 2)) (hq : pc + 2 = q) (hn : i < nL) (hf : (i, Value.null) :: ls.filter (fun q => !(q.1 == i) && !(q.1 + 1 == i && q.2.category == 2)) = ls') (k : v σ bc bs q ls' st) : v σ bc bs pc ls (.null :: st) := by
  obtain ⟨p, e, s, m, args, below, meth, c, ⟨hx, hb, hml, hown, hts⟩, -, -, rfl⟩ := F
  subst hq
  intro H locs cells slots arr hW hS h1 h2 hl
  exact lv_astoreN hx hb d hl hn hf (fun arr' hl' => k H locs cells slots arr' hW hS h1 h2 hl')
theorem v_iinc (F : vv_F v l cc nL own nm ret hh R Kf Wd A post) {i : Nat} {n : Int} {x y : Int32} (j : Nat) (d : decode cc pc = .ok (.iinc i n, 3)) (hq : pc + 3 = q) (hj : ls[j]? = some (i, .int x)) (hy : x + Int32.ofInt n = y) (hn : i < nL) (hf : (i, Value.int y) :: ls.filter (fun q => !(q.1 == i) && !(q.1 + 1 == i && q.2.category == 2)) = ls') (k : v σ bc bs q ls' st) : v σ bc bs pc ls st := by
  obtain ⟨p, e, s, m, args, below, meth, c, ⟨hx, hb, hml, hown, hts⟩, -, -, rfl⟩ := F
  subst hq
  intro H locs cells slots arr hW hS h1 h2 hl
  exact lv_iinc hx hb d hl hj hy hn hf (fun arr' hl' => k H locs cells slots arr' hW hS h1 h2 hl')
theorem v_sub (F : vv_F v l cc nL own nm ret hh R Kf Wd A post) (ks : List Nat) (hf : lv_pick ls ks = ls') (k : v σ bc bs pc ls' st) : v σ bc bs pc ls st := by
  obtain ⟨p, e, s, m, args, below, meth, c, ⟨hx, hb, hml, hown, hts⟩, -, -, rfl⟩ := F
  intro H locs cells slots arr hW hS h1 h2 hl
  exact k H locs cells slots arr hW hS h1 h2 (lv_sub hl ks hf)
theorem v_iadd (F : vv_F v l cc nL own nm ret hh R Kf Wd A post) {x y : Int32} (d : decode cc pc = .ok (.iadd, 1)) (hq : pc + 1 = q)  (k : v σ bc bs q ls (.int (x + y) :: st)) : v σ bc bs pc ls (.int y :: .int x :: st) := by
  obtain ⟨p, e, s, m, args, below, meth, c, ⟨hx, hb, hml, hown, hts⟩, -, -, rfl⟩ := F
  subst hq
  intro H locs cells slots arr hW hS h1 h2 hl
  exact lv_iadd hx hb d  (k H locs cells slots arr hW hS h1 h2 hl)
theorem v_isub (F : vv_F v l cc nL own nm ret hh R Kf Wd A post) {x y : Int32} (d : decode cc pc = .ok (.isub, 1)) (hq : pc + 1 = q)  (k : v σ bc bs q ls (.int (x - y) :: st)) : v σ bc bs pc ls (.int y :: .int x :: st) := by
  obtain ⟨p, e, s, m, args, below, meth, c, ⟨hx, hb, hml, hown, hts⟩, -, -, rfl⟩ := F
  subst hq
  intro H locs cells slots arr hW hS h1 h2 hl
  exact lv_isub hx hb d  (k H locs cells slots arr hW hS h1 h2 hl)
theorem v_imul (F : vv_F v l cc nL own nm ret hh R Kf Wd A post) {x y : Int32} (d : decode cc pc = .ok (.imul, 1)) (hq : pc + 1 = q)  (k : v σ bc bs q ls (.int (x * y) :: st)) : v σ bc bs pc ls (.int y :: .int x :: st) := by
  obtain ⟨p, e, s, m, args, below, meth, c, ⟨hx, hb, hml, hown, hts⟩, -, -, rfl⟩ := F
  subst hq
  intro H locs cells slots arr hW hS h1 h2 hl
  exact lv_imul hx hb d  (k H locs cells slots arr hW hS h1 h2 hl)
theorem v_iand (F : vv_F v l cc nL own nm ret hh R Kf Wd A post) {x y : Int32} (d : decode cc pc = .ok (.iand, 1)) (hq : pc + 1 = q)  (k : v σ bc bs q ls (.int (x &&& y) :: st)) : v σ bc bs pc ls (.int y :: .int x :: st) := by
  obtain ⟨p, e, s, m, args, below, meth, c, ⟨hx, hb, hml, hown, hts⟩, -, -, rfl⟩ := F
  subst hq
  intro H locs cells slots arr hW hS h1 h2 hl
  exact lv_iand hx hb d  (k H locs cells slots arr hW hS h1 h2 hl)
theorem v_ior (F : vv_F v l cc nL own nm ret hh R Kf Wd A post) {x y : Int32} (d : decode cc pc = .ok (.ior, 1)) (hq : pc + 1 = q)  (k : v σ bc bs q ls (.int (x ||| y) :: st)) : v σ bc bs pc ls (.int y :: .int x :: st) := by
  obtain ⟨p, e, s, m, args, below, meth, c, ⟨hx, hb, hml, hown, hts⟩, -, -, rfl⟩ := F
  subst hq
  intro H locs cells slots arr hW hS h1 h2 hl
  exact lv_ior hx hb d  (k H locs cells slots arr hW hS h1 h2 hl)
theorem v_ixor (F : vv_F v l cc nL own nm ret hh R Kf Wd A post) {x y : Int32} (d : decode cc pc = .ok (.ixor, 1)) (hq : pc + 1 = q)  (k : v σ bc bs q ls (.int (x ^^^ y) :: st)) : v σ bc bs pc ls (.int y :: .int x :: st) := by
  obtain ⟨p, e, s, m, args, below, meth, c, ⟨hx, hb, hml, hown, hts⟩, -, -, rfl⟩ := F
  subst hq
  intro H locs cells slots arr hW hS h1 h2 hl
  exact lv_ixor hx hb d  (k H locs cells slots arr hW hS h1 h2 hl)
theorem v_ishl (F : vv_F v l cc nL own nm ret hh R Kf Wd A post) {x y : Int32} (d : decode cc pc = .ok (.ishl, 1)) (hq : pc + 1 = q)  (k : v σ bc bs q ls (.int (x <<< (y &&& 31)) :: st)) : v σ bc bs pc ls (.int y :: .int x :: st) := by
  obtain ⟨p, e, s, m, args, below, meth, c, ⟨hx, hb, hml, hown, hts⟩, -, -, rfl⟩ := F
  subst hq
  intro H locs cells slots arr hW hS h1 h2 hl
  exact lv_ishl hx hb d  (k H locs cells slots arr hW hS h1 h2 hl)
theorem v_ishr (F : vv_F v l cc nL own nm ret hh R Kf Wd A post) {x y : Int32} (d : decode cc pc = .ok (.ishr, 1)) (hq : pc + 1 = q)  (k : v σ bc bs q ls (.int (x >>> (y &&& 31)) :: st)) : v σ bc bs pc ls (.int y :: .int x :: st) := by
  obtain ⟨p, e, s, m, args, below, meth, c, ⟨hx, hb, hml, hown, hts⟩, -, -, rfl⟩ := F
  subst hq
  intro H locs cells slots arr hW hS h1 h2 hl
  exact lv_ishr hx hb d  (k H locs cells slots arr hW hS h1 h2 hl)
theorem v_idiv (F : vv_F v l cc nL own nm ret hh R Kf Wd A post) {x y : Int32} (d : decode cc pc = .ok (.idiv, 1)) (hq : pc + 1 = q) (hne : ¬ y = 0) (k : v σ bc bs q ls (.int (x / y) :: st)) : v σ bc bs pc ls (.int y :: .int x :: st) := by
  obtain ⟨p, e, s, m, args, below, meth, c, ⟨hx, hb, hml, hown, hts⟩, -, -, rfl⟩ := F
  subst hq
  intro H locs cells slots arr hW hS h1 h2 hl
  exact lv_idiv hx hb d hne (k H locs cells slots arr hW hS h1 h2 hl)
theorem v_irem (F : vv_F v l cc nL own nm ret hh R Kf Wd A post) {x y : Int32} (d : decode cc pc = .ok (.irem, 1)) (hq : pc + 1 = q) (hne : ¬ y = 0) (k : v σ bc bs q ls (.int (x - x / y * y) :: st)) : v σ bc bs pc ls (.int y :: .int x :: st) := by
  obtain ⟨p, e, s, m, args, below, meth, c, ⟨hx, hb, hml, hown, hts⟩, -, -, rfl⟩ := F
  subst hq
  intro H locs cells slots arr hW hS h1 h2 hl
  exact lv_irem hx hb d hne (k H locs cells slots arr hW hS h1 h2 hl)
theorem v_ineg (F : vv_F v l cc nL own nm ret hh R Kf Wd A post) {x : Int32} (d : decode cc pc = .ok (.ineg, 1)) (hq : pc + 1 = q)  (k : v σ bc bs q ls (.int (-x) :: st)) : v σ bc bs pc ls (.int x :: st) := by
  obtain ⟨p, e, s, m, args, below, meth, c, ⟨hx, hb, hml, hown, hts⟩, -, -, rfl⟩ := F
  subst hq
  intro H locs cells slots arr hW hS h1 h2 hl
  exact lv_ineg hx hb d  (k H locs cells slots arr hW hS h1 h2 hl)
theorem v_ladd (F : vv_F v l cc nL own nm ret hh R Kf Wd A post) {x y : Int64} (d : decode cc pc = .ok (.ladd, 1)) (hq : pc + 1 = q)  (k : v σ bc bs q ls (.long (x + y) :: st)) : v σ bc bs pc ls (.long y :: .long x :: st) := by
  obtain ⟨p, e, s, m, args, below, meth, c, ⟨hx, hb, hml, hown, hts⟩, -, -, rfl⟩ := F
  subst hq
  intro H locs cells slots arr hW hS h1 h2 hl
  exact lv_ladd hx hb d  (k H locs cells slots arr hW hS h1 h2 hl)
theorem v_lsub (F : vv_F v l cc nL own nm ret hh R Kf Wd A post) {x y : Int64} (d : decode cc pc = .ok (.lsub, 1)) (hq : pc + 1 = q)  (k : v σ bc bs q ls (.long (x - y) :: st)) : v σ bc bs pc ls (.long y :: .long x :: st) := by
  obtain ⟨p, e, s, m, args, below, meth, c, ⟨hx, hb, hml, hown, hts⟩, -, -, rfl⟩ := F
  subst hq
  intro H locs cells slots arr hW hS h1 h2 hl
  exact lv_lsub hx hb d  (k H locs cells slots arr hW hS h1 h2 hl)
theorem v_lmul (F : vv_F v l cc nL own nm ret hh R Kf Wd A post) {x y : Int64} (d : decode cc pc = .ok (.lmul, 1)) (hq : pc + 1 = q)  (k : v σ bc bs q ls (.long (x * y) :: st)) : v σ bc bs pc ls (.long y :: .long x :: st) := by
  obtain ⟨p, e, s, m, args, below, meth, c, ⟨hx, hb, hml, hown, hts⟩, -, -, rfl⟩ := F
  subst hq
  intro H locs cells slots arr hW hS h1 h2 hl
  exact lv_lmul hx hb d  (k H locs cells slots arr hW hS h1 h2 hl)
theorem v_ldiv (F : vv_F v l cc nL own nm ret hh R Kf Wd A post) {x y : Int64} (d : decode cc pc = .ok (.ldiv, 1)) (hq : pc + 1 = q) (hne : ¬ y = 0) (k : v σ bc bs q ls (.long (x / y) :: st)) : v σ bc bs pc ls (.long y :: .long x :: st) := by
  obtain ⟨p, e, s, m, args, below, meth, c, ⟨hx, hb, hml, hown, hts⟩, -, -, rfl⟩ := F
  subst hq
  intro H locs cells slots arr hW hS h1 h2 hl
  exact lv_ldiv hx hb d hne (k H locs cells slots arr hW hS h1 h2 hl)
theorem v_lrem (F : vv_F v l cc nL own nm ret hh R Kf Wd A post) {x y : Int64} (d : decode cc pc = .ok (.lrem, 1)) (hq : pc + 1 = q) (hne : ¬ y = 0) (k : v σ bc bs q ls (.long (x - x / y * y) :: st)) : v σ bc bs pc ls (.long y :: .long x :: st) := by
  obtain ⟨p, e, s, m, args, below, meth, c, ⟨hx, hb, hml, hown, hts⟩, -, -, rfl⟩ := F
  subst hq
  intro H locs cells slots arr hW hS h1 h2 hl
  exact lv_lrem hx hb d hne (k H locs cells slots arr hW hS h1 h2 hl)
theorem v_i2l (F : vv_F v l cc nL own nm ret hh R Kf Wd A post) {x : Int32} (d : decode cc pc = .ok (.i2l, 1)) (hq : pc + 1 = q)  (k : v σ bc bs q ls (.long x.toInt64 :: st)) : v σ bc bs pc ls (.int x :: st) := by
  obtain ⟨p, e, s, m, args, below, meth, c, ⟨hx, hb, hml, hown, hts⟩, -, -, rfl⟩ := F
  subst hq
  intro H locs cells slots arr hW hS h1 h2 hl
  exact lv_i2l hx hb d rfl (k H locs cells slots arr hW hS h1 h2 hl)
theorem v_l2i (F : vv_F v l cc nL own nm ret hh R Kf Wd A post) {x : Int64} (d : decode cc pc = .ok (.l2i, 1)) (hq : pc + 1 = q)  (k : v σ bc bs q ls (.int x.toInt32 :: st)) : v σ bc bs pc ls (.long x :: st) := by
  obtain ⟨p, e, s, m, args, below, meth, c, ⟨hx, hb, hml, hown, hts⟩, -, -, rfl⟩ := F
  subst hq
  intro H locs cells slots arr hW hS h1 h2 hl
  exact lv_l2i hx hb d rfl (k H locs cells slots arr hW hS h1 h2 hl)
theorem v_i2b (F : vv_F v l cc nL own nm ret hh R Kf Wd A post) {x : Int32} (d : decode cc pc = .ok (.i2b, 1)) (hq : pc + 1 = q)  (k : v σ bc bs q ls (.int x.toInt8.toInt32 :: st)) : v σ bc bs pc ls (.int x :: st) := by
  obtain ⟨p, e, s, m, args, below, meth, c, ⟨hx, hb, hml, hown, hts⟩, -, -, rfl⟩ := F
  subst hq
  intro H locs cells slots arr hW hS h1 h2 hl
  exact lv_i2b hx hb d rfl (k H locs cells slots arr hW hS h1 h2 hl)
theorem v_i2s (F : vv_F v l cc nL own nm ret hh R Kf Wd A post) {x : Int32} (d : decode cc pc = .ok (.i2s, 1)) (hq : pc + 1 = q)  (k : v σ bc bs q ls (.int x.toInt16.toInt32 :: st)) : v σ bc bs pc ls (.int x :: st) := by
  obtain ⟨p, e, s, m, args, below, meth, c, ⟨hx, hb, hml, hown, hts⟩, -, -, rfl⟩ := F
  subst hq
  intro H locs cells slots arr hW hS h1 h2 hl
  exact lv_i2s hx hb d rfl (k H locs cells slots arr hW hS h1 h2 hl)
theorem v_iushr (F : vv_F v l cc nL own nm ret hh R Kf Wd A post) {x y : Int32} (d : decode cc pc = .ok (.iushr, 1)) (hq : pc + 1 = q)  (k : v σ bc bs q ls (.int (x.toUInt32 >>> (y.toUInt32 &&& Int32.toUInt32 31)).toInt32 :: st)) : v σ bc bs pc ls (.int y :: .int x :: st) := by
  obtain ⟨p, e, s, m, args, below, meth, c, ⟨hx, hb, hml, hown, hts⟩, -, -, rfl⟩ := F
  subst hq
  intro H locs cells slots arr hW hS h1 h2 hl
  exact lv_iushr hx hb d rfl (k H locs cells slots arr hW hS h1 h2 hl)
theorem v_lcmp (F : vv_F v l cc nL own nm ret hh R Kf Wd A post) {x y : Int64} (d : decode cc pc = .ok (.lcmp, 1)) (hq : pc + 1 = q)  (k : v σ bc bs q ls (.int (lg_cmp x y) :: st)) : v σ bc bs pc ls (.long y :: .long x :: st) := by
  obtain ⟨p, e, s, m, args, below, meth, c, ⟨hx, hb, hml, hown, hts⟩, -, -, rfl⟩ := F
  subst hq
  intro H locs cells slots arr hW hS h1 h2 hl
  exact W.lcmp hx hb d  (k H locs cells slots arr hW hS h1 h2 hl)
theorem v_dup (F : vv_F v l cc nL own nm ret hh R Kf Wd A post) {w : Value} (d : decode cc pc = .ok (.dup, 1)) (hq : pc + 1 = q) (hc : w.category = 1) (k : v σ bc bs q ls (w :: w :: st)) : v σ bc bs pc ls (w :: st) := by
  obtain ⟨p, e, s, m, args, below, meth, c, ⟨hx, hb, hml, hown, hts⟩, -, -, rfl⟩ := F
  subst hq
  intro H locs cells slots arr hW hS h1 h2 hl
  exact lv_dup hx hb d hc (k H locs cells slots arr hW hS h1 h2 hl)
theorem v_pop (F : vv_F v l cc nL own nm ret hh R Kf Wd A post) {w : Value} (d : decode cc pc = .ok (.pop, 1)) (hq : pc + 1 = q) (hc : w.category = 1) (k : v σ bc bs q ls (st)) : v σ bc bs pc ls (w :: st) := by
  obtain ⟨p, e, s, m, args, below, meth, c, ⟨hx, hb, hml, hown, hts⟩, -, -, rfl⟩ := F
  subst hq
  intro H locs cells slots arr hW hS h1 h2 hl
  exact lv_pop hx hb d hc (k H locs cells slots arr hW hS h1 h2 hl)
theorem v_dup_x1 (F : vv_F v l cc nL own nm ret hh R Kf Wd A post) {w z : Value} (d : decode cc pc = .ok (.dup_x1, 1)) (hq : pc + 1 = q) (hc : w.category = 1) (hc2 : z.category = 1) (k : v σ bc bs q ls (w :: z :: w :: st)) : v σ bc bs pc ls (w :: z :: st) := by
  obtain ⟨p, e, s, m, args, below, meth, c, ⟨hx, hb, hml, hown, hts⟩, -, -, rfl⟩ := F
  subst hq
  intro H locs cells slots arr hW hS h1 h2 hl
  exact lv_dup_x1 hx hb d hc hc2 (k H locs cells slots arr hW hS h1 h2 hl)
theorem v_dup2 (F : vv_F v l cc nL own nm ret hh R Kf Wd A post) {w z : Value} (d : decode cc pc = .ok (.dup2, 1)) (hq : pc + 1 = q) (hc : w.category = 1) (hc2 : z.category = 1) (k : v σ bc bs q ls (w :: z :: w :: z :: st)) : v σ bc bs pc ls (w :: z :: st) := by
  obtain ⟨p, e, s, m, args, below, meth, c, ⟨hx, hb, hml, hown, hts⟩, -, -, rfl⟩ := F
  subst hq
  intro H locs cells slots arr hW hS h1 h2 hl
  exact lv_dup2_11 hx hb d hc hc2 (k H locs cells slots arr hW hS h1 h2 hl)
theorem v_int (F : vv_F v l cc nL own nm ret hh R Kf Wd A post) {x y : Int32} (h : x = y) (k : v σ bc bs pc ls (.int y :: st)) : v σ bc bs pc ls (.int x :: st) := by subst h; exact k
theorem v_st (F : vv_F v l cc nL own nm ret hh R Kf Wd A post) {σ2 : S} (h : σ = σ2) (k : v σ2 bc bs pc ls st) : v σ bc bs pc ls st := by subst h; exact k
theorem v_if_eq (F : vv_F v l cc nL own nm ret hh R Kf Wd A post) {x : Int32} {off : Int} {tgt : Nat} (d : decode cc pc = .ok (.ifCond .eq off, 3)) (ht : (pc : Int) + off = (tgt : Int)) (hq : pc + 3 = q) (kt : x = 0 → v σ bc bs tgt ls st) (kf : ¬ x = 0 → v σ bc bs q ls st) : v σ bc bs pc ls (.int x :: st) := by
  obtain ⟨p, e, s, m, args, below, meth, c, ⟨hx, hb, hml, hown, hts⟩, -, -, rfl⟩ := F
  subst hq
  intro H locs cells slots arr hW hS h1 h2 hl
  exact lv_if_eq hx hb d ht (fun h => kt h H locs cells slots arr hW hS h1 h2 hl) (fun h => kf h H locs cells slots arr hW hS h1 h2 hl)
theorem v_if_ne (F : vv_F v l cc nL own nm ret hh R Kf Wd A post) {x : Int32} {off : Int} {tgt : Nat} (d : decode cc pc = .ok (.ifCond .ne off, 3)) (ht : (pc : Int) + off = (tgt : Int)) (hq : pc + 3 = q) (kt : ¬ x = 0 → v σ bc bs tgt ls st) (kf : x = 0 → v σ bc bs q ls st) : v σ bc bs pc ls (.int x :: st) := by
  obtain ⟨p, e, s, m, args, below, meth, c, ⟨hx, hb, hml, hown, hts⟩, -, -, rfl⟩ := F
  subst hq
  intro H locs cells slots arr hW hS h1 h2 hl
  exact lv_if_ne hx hb d ht (fun h => kt h H locs cells slots arr hW hS h1 h2 hl) (fun h => kf h H locs cells slots arr hW hS h1 h2 hl)
theorem v_if_lt (F : vv_F v l cc nL own nm ret hh R Kf Wd A post) {x : Int32} {off : Int} {tgt : Nat} (d : decode cc pc = .ok (.ifCond .lt off, 3)) (ht : (pc : Int) + off = (tgt : Int)) (hq : pc + 3 = q) (kt : x < 0 → v σ bc bs tgt ls st) (kf : ¬ x < 0 → v σ bc bs q ls st) : v σ bc bs pc ls (.int x :: st) := by
  obtain ⟨p, e, s, m, args, below, meth, c, ⟨hx, hb, hml, hown, hts⟩, -, -, rfl⟩ := F
  subst hq
  intro H locs cells slots arr hW hS h1 h2 hl
  exact lv_if_lt hx hb d ht (fun h => kt h H locs cells slots arr hW hS h1 h2 hl) (fun h => kf h H locs cells slots arr hW hS h1 h2 hl)
theorem v_if_ge (F : vv_F v l cc nL own nm ret hh R Kf Wd A post) {x : Int32} {off : Int} {tgt : Nat} (d : decode cc pc = .ok (.ifCond .ge off, 3)) (ht : (pc : Int) + off = (tgt : Int)) (hq : pc + 3 = q) (kt : 0 ≤ x → v σ bc bs tgt ls st) (kf : ¬ 0 ≤ x → v σ bc bs q ls st) : v σ bc bs pc ls (.int x :: st) := by
  obtain ⟨p, e, s, m, args, below, meth, c, ⟨hx, hb, hml, hown, hts⟩, -, -, rfl⟩ := F
  subst hq
  intro H locs cells slots arr hW hS h1 h2 hl
  exact lv_if_ge hx hb d ht (fun h => kt h H locs cells slots arr hW hS h1 h2 hl) (fun h => kf h H locs cells slots arr hW hS h1 h2 hl)
theorem v_if_gt (F : vv_F v l cc nL own nm ret hh R Kf Wd A post) {x : Int32} {off : Int} {tgt : Nat} (d : decode cc pc = .ok (.ifCond .gt off, 3)) (ht : (pc : Int) + off = (tgt : Int)) (hq : pc + 3 = q) (kt : 0 < x → v σ bc bs tgt ls st) (kf : ¬ 0 < x → v σ bc bs q ls st) : v σ bc bs pc ls (.int x :: st) := by
  obtain ⟨p, e, s, m, args, below, meth, c, ⟨hx, hb, hml, hown, hts⟩, -, -, rfl⟩ := F
  subst hq
  intro H locs cells slots arr hW hS h1 h2 hl
  exact lv_if_gt hx hb d ht (fun h => kt h H locs cells slots arr hW hS h1 h2 hl) (fun h => kf h H locs cells slots arr hW hS h1 h2 hl)
theorem v_if_le (F : vv_F v l cc nL own nm ret hh R Kf Wd A post) {x : Int32} {off : Int} {tgt : Nat} (d : decode cc pc = .ok (.ifCond .le off, 3)) (ht : (pc : Int) + off = (tgt : Int)) (hq : pc + 3 = q) (kt : x ≤ 0 → v σ bc bs tgt ls st) (kf : ¬ x ≤ 0 → v σ bc bs q ls st) : v σ bc bs pc ls (.int x :: st) := by
  obtain ⟨p, e, s, m, args, below, meth, c, ⟨hx, hb, hml, hown, hts⟩, -, -, rfl⟩ := F
  subst hq
  intro H locs cells slots arr hW hS h1 h2 hl
  exact lv_if_le hx hb d ht (fun h => kt h H locs cells slots arr hW hS h1 h2 hl) (fun h => kf h H locs cells slots arr hW hS h1 h2 hl)
theorem v_icmp_eq (F : vv_F v l cc nL own nm ret hh R Kf Wd A post) {x y : Int32} {off : Int} {tgt : Nat} (d : decode cc pc = .ok (.if_icmp .eq off, 3)) (ht : (pc : Int) + off = (tgt : Int)) (hq : pc + 3 = q) (kt : x = y → v σ bc bs tgt ls st) (kf : ¬ x = y → v σ bc bs q ls st) : v σ bc bs pc ls (.int y :: .int x :: st) := by
  obtain ⟨p, e, s, m, args, below, meth, c, ⟨hx, hb, hml, hown, hts⟩, -, -, rfl⟩ := F
  subst hq
  intro H locs cells slots arr hW hS h1 h2 hl
  exact lv_icmp_eq hx hb d ht (fun h => kt h H locs cells slots arr hW hS h1 h2 hl) (fun h => kf h H locs cells slots arr hW hS h1 h2 hl)
theorem v_icmp_ne (F : vv_F v l cc nL own nm ret hh R Kf Wd A post) {x y : Int32} {off : Int} {tgt : Nat} (d : decode cc pc = .ok (.if_icmp .ne off, 3)) (ht : (pc : Int) + off = (tgt : Int)) (hq : pc + 3 = q) (kt : ¬ x = y → v σ bc bs tgt ls st) (kf : x = y → v σ bc bs q ls st) : v σ bc bs pc ls (.int y :: .int x :: st) := by
  obtain ⟨p, e, s, m, args, below, meth, c, ⟨hx, hb, hml, hown, hts⟩, -, -, rfl⟩ := F
  subst hq
  intro H locs cells slots arr hW hS h1 h2 hl
  exact lv_icmp_ne hx hb d ht (fun h => kt h H locs cells slots arr hW hS h1 h2 hl) (fun h => kf h H locs cells slots arr hW hS h1 h2 hl)
theorem v_icmp_lt (F : vv_F v l cc nL own nm ret hh R Kf Wd A post) {x y : Int32} {off : Int} {tgt : Nat} (d : decode cc pc = .ok (.if_icmp .lt off, 3)) (ht : (pc : Int) + off = (tgt : Int)) (hq : pc + 3 = q) (kt : x < y → v σ bc bs tgt ls st) (kf : ¬ x < y → v σ bc bs q ls st) : v σ bc bs pc ls (.int y :: .int x :: st) := by
  obtain ⟨p, e, s, m, args, below, meth, c, ⟨hx, hb, hml, hown, hts⟩, -, -, rfl⟩ := F
  subst hq
  intro H locs cells slots arr hW hS h1 h2 hl
  exact lv_icmp_lt hx hb d ht (fun h => kt h H locs cells slots arr hW hS h1 h2 hl) (fun h => kf h H locs cells slots arr hW hS h1 h2 hl)
theorem v_icmp_ge (F : vv_F v l cc nL own nm ret hh R Kf Wd A post) {x y : Int32} {off : Int} {tgt : Nat} (d : decode cc pc = .ok (.if_icmp .ge off, 3)) (ht : (pc : Int) + off = (tgt : Int)) (hq : pc + 3 = q) (kt : y ≤ x → v σ bc bs tgt ls st) (kf : ¬ y ≤ x → v σ bc bs q ls st) : v σ bc bs pc ls (.int y :: .int x :: st) := by
  obtain ⟨p, e, s, m, args, below, meth, c, ⟨hx, hb, hml, hown, hts⟩, -, -, rfl⟩ := F
  subst hq
  intro H locs cells slots arr hW hS h1 h2 hl
  exact lv_icmp_ge hx hb d ht (fun h => kt h H locs cells slots arr hW hS h1 h2 hl) (fun h => kf h H locs cells slots arr hW hS h1 h2 hl)
theorem v_icmp_gt (F : vv_F v l cc nL own nm ret hh R Kf Wd A post) {x y : Int32} {off : Int} {tgt : Nat} (d : decode cc pc = .ok (.if_icmp .gt off, 3)) (ht : (pc : Int) + off = (tgt : Int)) (hq : pc + 3 = q) (kt : y < x → v σ bc bs tgt ls st) (kf : ¬ y < x → v σ bc bs q ls st) : v σ bc bs pc ls (.int y :: .int x :: st) := by
  obtain ⟨p, e, s, m, args, below, meth, c, ⟨hx, hb, hml, hown, hts⟩, -, -, rfl⟩ := F
  subst hq
  intro H locs cells slots arr hW hS h1 h2 hl
  exact lv_icmp_gt hx hb d ht (fun h => kt h H locs cells slots arr hW hS h1 h2 hl) (fun h => kf h H locs cells slots arr hW hS h1 h2 hl)
theorem v_icmp_le (F : vv_F v l cc nL own nm ret hh R Kf Wd A post) {x y : Int32} {off : Int} {tgt : Nat} (d : decode cc pc = .ok (.if_icmp .le off, 3)) (ht : (pc : Int) + off = (tgt : Int)) (hq : pc + 3 = q) (kt : x ≤ y → v σ bc bs tgt ls st) (kf : ¬ x ≤ y → v σ bc bs q ls st) : v σ bc bs pc ls (.int y :: .int x :: st) := by
  obtain ⟨p, e, s, m, args, below, meth, c, ⟨hx, hb, hml, hown, hts⟩, -, -, rfl⟩ := F
  subst hq
  intro H locs cells slots arr hW hS h1 h2 hl
  exact lv_icmp_le hx hb d ht (fun h => kt h H locs cells slots arr hW hS h1 h2 hl) (fun h => kf h H locs cells slots arr hW hS h1 h2 hl)
theorem v_goto (F : vv_F v l cc nL own nm ret hh R Kf Wd A post) {off : Int} {tgt : Nat} (d : decode cc pc = .ok (.goto off, 3)) (ht : (pc : Int) + off = (tgt : Int)) (k : v σ bc bs tgt ls st) : v σ bc bs pc ls st := by
  obtain ⟨p, e, s, m, args, below, meth, c, ⟨hx, hb, hml, hown, hts⟩, -, -, rfl⟩ := F
  intro H locs cells slots arr hW hS h1 h2 hl
  exact lv_goto hx hb d ht (k H locs cells slots arr hW hS h1 h2 hl)
theorem v_ifnull (F : vv_F v l cc nL own nm ret hh R Kf Wd A post) {x : Nat} {off : Int} (d : decode cc pc = .ok (.ifnull off, 3)) (hq : pc + 3 = q) (k : v σ bc bs q ls st) : v σ bc bs pc ls (.ref x :: st) := by
  obtain ⟨p, e, s, m, args, below, meth, c, ⟨hx, hb, hml, hown, hts⟩, -, -, rfl⟩ := F
  subst hq
  intro H locs cells slots arr hW hS h1 h2 hl
  exact lv_ifnull hx hb d (k H locs cells slots arr hW hS h1 h2 hl)
theorem v_ifnonnull (F : vv_F v l cc nL own nm ret hh R Kf Wd A post) {x : Nat} {off : Int} {tgt : Nat} (d : decode cc pc = .ok (.ifnonnull off, 3)) (ht : (pc : Int) + off = (tgt : Int)) (k : v σ bc bs tgt ls st) : v σ bc bs pc ls (.ref x :: st) := by
  obtain ⟨p, e, s, m, args, below, meth, c, ⟨hx, hb, hml, hown, hts⟩, -, -, rfl⟩ := F
  intro H locs cells slots arr hW hS h1 h2 hl
  exact lv_ifnonnull hx hb d ht (k H locs cells slots arr hW hS h1 h2 hl)
theorem v_ifnullN (F : vv_F v l cc nL own nm ret hh R Kf Wd A post) {off : Int} {tgt : Nat} (d : decode cc pc = .ok (.ifnull off, 3)) (ht : (pc : Int) + off = (tgt : Int)) (k : v σ bc bs tgt ls st) : v σ bc bs pc ls (.null :: st) := by
  obtain ⟨p, e, s, m, args, below, meth, c, ⟨hx, hb, hml, hown, hts⟩, -, -, rfl⟩ := F
  intro H locs cells slots arr hW hS h1 h2 hl
  exact lv_ifnullN hx hb d ht (k H locs cells slots arr hW hS h1 h2 hl)
theorem v_ifnonnullN (F : vv_F v l cc nL own nm ret hh R Kf Wd A post) {off : Int} (d : decode cc pc = .ok (.ifnonnull off, 3)) (hq : pc + 3 = q) (k : v σ bc bs q ls st) : v σ bc bs pc ls (.null :: st) := by
  obtain ⟨p, e, s, m, args, below, meth, c, ⟨hx, hb, hml, hown, hts⟩, -, -, rfl⟩ := F
  subst hq
  intro H locs cells slots arr hW hS h1 h2 hl
  exact lv_ifnonnullN hx hb d (k H locs cells slots arr hW hS h1 h2 hl)
theorem v_tableIn (F : vv_F v l cc nL own nm ret hh R Kf Wd A post) {dflt lo hi : Int} {offs : Array Int} {len : Nat} {x : Int32} {off : Int} {tgt : Nat} (d : decode cc pc = .ok (.tableswitch dflt lo hi offs, len)) (g1 : ¬ x.toInt < lo) (g2 : ¬ hi < x.toInt) (ho : offs[(x.toInt - lo).toNat]? = some off) (ht : (pc : Int) + off = (tgt : Int)) (k : v σ bc bs tgt ls st) : v σ bc bs pc ls (.int x :: st) := by
  obtain ⟨p, e, s, m, args, below, meth, c, ⟨hx, hb, hml, hown, hts⟩, -, -, rfl⟩ := F
  intro H locs cells slots arr hW hS h1 h2 hl
  exact lv_tableIn hx hb d g1 g2 ho ht (k H locs cells slots arr hW hS h1 h2 hl)
theorem v_tableOut (F : vv_F v l cc nL own nm ret hh R Kf Wd A post) {dflt lo hi : Int} {offs : Array Int} {len : Nat} {x : Int32} {tgt : Nat} (d : decode cc pc = .ok (.tableswitch dflt lo hi offs, len)) (g1 : x.toInt < lo ∨ hi < x.toInt) (ht : (pc : Int) + dflt = (tgt : Int)) (k : v σ bc bs tgt ls st) : v σ bc bs pc ls (.int x :: st) := by
  obtain ⟨p, e, s, m, args, below, meth, c, ⟨hx, hb, hml, hown, hts⟩, -, -, rfl⟩ := F
  intro H locs cells slots arr hW hS h1 h2 hl
  exact lv_tableOut hx hb d g1 ht (k H locs cells slots arr hW hS h1 h2 hl)
theorem v_lookup (F : vv_F v l cc nL own nm ret hh R Kf Wd A post) {dflt : Int} {ps : Array (Int × Int)} {len : Nat} {x : Int32} {off : Int} {tgt : Nat} (d : decode cc pc = .ok (.lookupswitch dflt ps, len)) (hp : (ps.toList.zip (ps.toList.drop 1)).all (fun (a, next) => a.1 < next.1) = true) (ho : Op.lookupswitch.offset ps.toList dflt x.toInt = off) (ht : (pc : Int) + off = (tgt : Int)) (k : v σ bc bs tgt ls st) : v σ bc bs pc ls (.int x :: st) := by
  obtain ⟨p, e, s, m, args, below, meth, c, ⟨hx, hb, hml, hown, hts⟩, -, -, rfl⟩ := F
  intro H locs cells slots arr hW hS h1 h2 hl
  exact lv_lookup hx hb d hp ho ht (k H locs cells slots arr hW hS h1 h2 hl)
theorem v_iret (F : vv_F v l cc nL own nm ret hh R Kf Wd A post) {x : Int32} (d : decode cc pc = .ok (.ireturn, 1)) (hr : ret = some .int) (hp : ∀ k n, k + bc ≤ R.cells → n + bs ≤ R.slots → post (.returned (some (.int x))) σ k n) : v σ bc bs pc ls [.int x] := by
  obtain ⟨p, e, s, m, args, below, meth, c, ⟨hx, hb, hml, hown, hts⟩, ⟨hr0, hlk, -, -⟩, -, rfl⟩ := F
  intro H locs cells slots arr hW hS h1 h2 hl
  refine vv_mono (vv_MQ.of (k := cells) (n := slots) (by omega) (by omega)) ?_
  exact W.iret (v := x) hx hb (hr0.trans hr) (fun t ht _ => ⟨⟨σ, hp _ _ h1 h2, by rw [ht]; exact hW⟩, hS.F ht⟩) hS.2.2 d (hlocks := hlk)
theorem v_zret (F : vv_F v l cc nL own nm ret hh R Kf Wd A post) {x : Int32} {ty : FieldType} (d : decode cc pc = .ok (.ireturn, 1)) (hr : ret = some ty) (hn : narrow ty (.int x) = .int x) (hp : ∀ k n, k + bc ≤ R.cells → n + bs ≤ R.slots → post (.returned (some (.int x))) σ k n) : v σ bc bs pc ls [.int x] := by
  obtain ⟨p, e, s, m, args, below, meth, c, ⟨hx, hb, hml, hown, hts⟩, ⟨hr0, hlk, -, -⟩, -, rfl⟩ := F
  intro H locs cells slots arr hW hS h1 h2 hl
  refine vv_mono (vv_MQ.of (k := cells) (n := slots) (by omega) (by omega)) ?_
  exact W.zret (v := x) hx hb (hr0.trans hr) hn (fun t ht _ => ⟨⟨σ, hp _ _ h1 h2, by rw [ht]; exact hW⟩, hS.F ht⟩) hS.2.2 d (hlocks := hlk)
theorem v_lret (F : vv_F v l cc nL own nm ret hh R Kf Wd A post) {x : Int64} (d : decode cc pc = .ok (.lreturn, 1)) (hr : ret = some .long) (hp : ∀ k n, k + bc ≤ R.cells → n + bs ≤ R.slots → post (.returned (some (.long x))) σ k n) : v σ bc bs pc ls [.long x] := by
  obtain ⟨p, e, s, m, args, below, meth, c, ⟨hx, hb, hml, hown, hts⟩, ⟨hr0, hlk, -, -⟩, -, rfl⟩ := F
  intro H locs cells slots arr hW hS h1 h2 hl
  refine vv_mono (vv_MQ.of (k := cells) (n := slots) (by omega) (by omega)) ?_
  exact W.lret (v := x) hx hb (hr0.trans hr) (fun t ht _ => ⟨⟨σ, hp _ _ h1 h2, by rw [ht]; exact hW⟩, hS.F ht⟩) hS.2.2 d (hlocks := hlk)
theorem v_vret (F : vv_F v l cc nL own nm ret hh R Kf Wd A post)  (d : decode cc pc = .ok (.return_, 1)) (hr : ret = none) (hp : ∀ k n, k + bc ≤ R.cells → n + bs ≤ R.slots → post (.returned (none)) σ k n) : v σ bc bs pc ls [] := by
  obtain ⟨p, e, s, m, args, below, meth, c, ⟨hx, hb, hml, hown, hts⟩, ⟨hr0, hlk, -, -⟩, -, rfl⟩ := F
  intro H locs cells slots arr hW hS h1 h2 hl
  refine vv_mono (vv_MQ.of (k := cells) (n := slots) (by omega) (by omega)) ?_
  exact W.vret hx hb (hr0.trans hr) (fun t ht _ => ⟨⟨σ, hp _ _ h1 h2, by rw [ht]; exact hW⟩, hS.F ht⟩) hS.2.2 d (hlocks := hlk)
end VV1
