/-! READING IN ANY WORLD; contracts at a fixed heap; calls by kind; what the law sees of the numbers -/
set_option maxRecDepth 100000
/-- at σ the world has the cell e at b -/
def hasE {S : Type} (D : va_G) (Wd : S → Heap → Prop) (σ : S) (b : Nat) (e : va_E) : Prop := ∀ H, Wd σ H → ∃ (A' : Nat → Prop) (L : List Nat) (f : Nat → va_E), lWd D A' (va_pl L f) H ∧ b ∈ L ∧ f b = e
/-- the field k of T is found from ref too -/
def refT (T : u_T) (ref : String) (k : Nat) : Prop := ∀ (args : Array Value) (s : State), (∀ w ∈ lw_all, w.before args s = true) → ∀ x, s.fieldFound? (T k).1 (T k).2.1 (T k).2.2.1 = some x → s.fieldFound? ref (T k).2.1 (T k).2.2.1 = some x
theorem refT_s (T : u_T) (k : Nat) : refT T (T k).1 k := fun _ _ _ _ h => h
theorem refO_same {ref : String} {k : Nat} (h : Cond.sameField ref (TX9 k).1 (TX9 k).2.1 (TX9 k).2.2.1 ∈ lw_all) : refO ref k := by
  intro args s hts x hx
  have w := hts _ h
  cases hr : s.fieldFound? ref (TX9 k).2.1 (TX9 k).2.2.1 with
  | none => simp [Cond.before, Cond.holds, Cond.value, hr] at w
  | some y => obtain ⟨c1, k1, i1, f1⟩ := y; rw [Cond.sameField_spec hr w] at hx; exact hx
section GR
variable {S : Type} {v : vv_T S} {l : Launch} {cc : ByteArray} {nL : Nat} {own nm : String} {ret : Option FieldType} {hh : List (Nat × Nat × Nat × Nat)} {R : Room} {Kf : State → Prop} {Wd : S → Heap → Prop} {A : Nat → Prop} {post : vv_O S} {D : va_G} {tys : List (ClassId × FieldType)}
variable {σ : S} {bc bs pc q : Nat} {ls : List (Nat × Value)} {st : List Value}
theorem g_get (F : vv_F v l cc nL own nm ret hh R Kf Wd A post) (hK : ∀ U, Kf U → va_K D vwCl tys U) {C ref : String} {T : u_T} {N ci k idx b : Nat} {fs : List Value} {w : Value} (hE : hasE D Wd σ b (.inr (ci, fs))) (hc : vwCl[ci]? = some (C, T, N)) (hin : ∀ w ∈ u_ws C T N, w ∈ lw_all) (hk : k < N) (hl : Cond.fieldLink own idx ref (T k).2.1 (T k).2.2.1 ∈ lw_all) (hr : refT T ref k) (hv : fs[k]? = some w) (d : decode cc pc = .ok (.getfield idx, 3)) (hq : pc + 3 = q) (kk : v σ bc bs q ls (w :: st)) : v σ bc bs pc ls (.ref b :: st) := by
  obtain ⟨p, e, s, m, args, below, meth, c, ⟨hx, hb, hml, hown, hts⟩, -, ⟨hKf, hA⟩, rfl⟩ := F
  subst hq
  intro H locs cells slots arr hW hS h1 h2 hl2
  obtain ⟨A', L, f, ⟨hP, -⟩, g1, g2⟩ := hE H hW
  obtain ⟨q0, hq0⟩ := va_pl_get (X := []) (f := f) g1
  rw [g2] at hq0
  exact va_get (D := D) hx hb hts hin hown (hK s hKf) hP q0 hq0 hc k hk (hts _ hl) (hr args s hts) hv d (kk H locs cells slots arr hW hS h1 h2 hl2)
theorem g_getN (F : vv_F v l cc nL own nm ret hh R Kf Wd A post) (hN : kN Kf) (hK : ∀ U, Kf U → va_K D vwCl tys U) {C ref host : String} {T : u_T} {N ci k idx b : Nat} {fs : List Value} {w : Value} (hE : hasE D Wd σ b (.inr (ci, fs))) (hc : vwCl[ci]? = some (C, T, N)) (hin : ∀ w ∈ u_ws C T N, w ∈ lw_all) (hk : k < N) (hl : Cond.fieldLinkNest own idx ref (T k).2.1 (T k).2.2.1 host ∈ lw_tbl) (hr : refT T ref k) (hv : fs[k]? = some w) (d : decode cc pc = .ok (.getfield idx, 3)) (hq : pc + 3 = q) (kk : v σ bc bs q ls (w :: st)) : v σ bc bs pc ls (.ref b :: st) := by
  obtain ⟨p, e, s, m, args, below, meth, c, ⟨hx, hb, hml, hown, hts⟩, -, ⟨hKf, hA⟩, rfl⟩ := F
  subst hq
  intro H locs cells slots arr hW hS h1 h2 hl2
  obtain ⟨A', L, f, ⟨hP, -⟩, g1, g2⟩ := hE H hW
  obtain ⟨q0, hq0⟩ := va_pl_get (X := []) (f := f) g1
  rw [g2] at hq0
  exact va_getN (D := D) hx hb hts hin hown (hK s hKf) hP q0 hq0 hc k hk (va_Nw.use rfl (hN s hKf _ hl rfl)) (hr args s hts) hv d (kk H locs cells slots arr hW hS h1 h2 hl2)
theorem g_iald (F : vv_F v l cc nL own nm ret hh R Kf Wd A post) (hK : ∀ U, Kf U → va_K D vwCl tys U) (t0 : Nat) {cA : ClassId} {N t b : Nat} {g : Nat → Int32} (hE : hasE D Wd σ b (.inl (cA, N, .inl g))) (h0 : tys[t0]? = some (cA, .int)) (ht : t < N) (hN : N ≤ 160) (d : decode cc pc = .ok (.iaload, 1)) (hq : pc + 1 = q) (kk : v σ bc bs q ls (.int (g t) :: st)) : v σ bc bs pc ls (.int (nI t) :: .ref b :: st) := by
  obtain ⟨p, e, s, m, args, below, meth, c, ⟨hx, hb, hml, hown, hts⟩, -, ⟨hKf, hA⟩, rfl⟩ := F
  subst hq
  intro H locs cells slots arr hW hS h1 h2 hl2
  obtain ⟨A', L, f, ⟨hP, -⟩, g1, g2⟩ := hE H hW
  obtain ⟨q0, hq0⟩ := va_pl_get (X := []) (f := f) g1
  rw [g2] at hq0
  refine va_iald (D := D) hx hb (hK s hKf) hP q0 t0 hq0 h0 (vp_in_nI ht (by omega)) d ?_
  rw [nI_clamp (by omega)]
  exact kk H locs cells slots arr hW hS h1 h2 hl2
theorem g_bald (F : vv_F v l cc nL own nm ret hh R Kf Wd A post) (hK : ∀ U, Kf U → va_K D vwCl tys U) (t0 : Nat) {cA : ClassId} {N t b : Nat} {g : Nat → Int32} (hE : hasE D Wd σ b (.inl (cA, N, .inl g))) (h0 : tys[t0]? = some (cA, .byte)) (ht : t < N) (hN : N ≤ 160) (d : decode cc pc = .ok (.baload, 1)) (hq : pc + 1 = q) (kk : v σ bc bs q ls (.int (g t) :: st)) : v σ bc bs pc ls (.int (nI t) :: .ref b :: st) := by
  obtain ⟨p, e, s, m, args, below, meth, c, ⟨hx, hb, hml, hown, hts⟩, -, ⟨hKf, hA⟩, rfl⟩ := F
  subst hq
  intro H locs cells slots arr hW hS h1 h2 hl2
  obtain ⟨A', L, f, ⟨hP, -⟩, g1, g2⟩ := hE H hW
  obtain ⟨q0, hq0⟩ := va_pl_get (X := []) (f := f) g1
  rw [g2] at hq0
  refine va_bald (D := D) hx hb (hK s hKf) hP q0 t0 hq0 h0 (vp_in_nI ht (by omega)) d ?_
  rw [nI_clamp (by omega)]
  exact kk H locs cells slots arr hW hS h1 h2 hl2
theorem g_sald (F : vv_F v l cc nL own nm ret hh R Kf Wd A post) (hK : ∀ U, Kf U → va_K D vwCl tys U) (t0 : Nat) {cA : ClassId} {N t b : Nat} {g : Nat → Int32} (hE : hasE D Wd σ b (.inl (cA, N, .inl g))) (h0 : tys[t0]? = some (cA, .short)) (ht : t < N) (hN : N ≤ 160) (d : decode cc pc = .ok (.saload, 1)) (hq : pc + 1 = q) (kk : v σ bc bs q ls (.int (g t) :: st)) : v σ bc bs pc ls (.int (nI t) :: .ref b :: st) := by
  obtain ⟨p, e, s, m, args, below, meth, c, ⟨hx, hb, hml, hown, hts⟩, -, ⟨hKf, hA⟩, rfl⟩ := F
  subst hq
  intro H locs cells slots arr hW hS h1 h2 hl2
  obtain ⟨A', L, f, ⟨hP, -⟩, g1, g2⟩ := hE H hW
  obtain ⟨q0, hq0⟩ := va_pl_get (X := []) (f := f) g1
  rw [g2] at hq0
  refine va_sald (D := D) hx hb (hK s hKf) hP q0 t0 hq0 h0 (vp_in_nI ht (by omega)) d ?_
  rw [nI_clamp (by omega)]
  exact kk H locs cells slots arr hW hS h1 h2 hl2
theorem g_aald (F : vv_F v l cc nL own nm ret hh R Kf Wd A post) (hK : ∀ U, Kf U → va_K D vwCl tys U) (t0 : Nat) {cA : ClassId} {ty : FieldType} {N t a b : Nat} {g : Nat → Option Nat} (hE : hasE D Wd σ b (.inl (cA, N, rfs g))) (h0 : tys[t0]? = some (cA, ty)) (hty : ty.isReference = true) (hg : g t = some a) (ht : t < N) (hN : N ≤ 160) (d : decode cc pc = .ok (.aaload, 1)) (hq : pc + 1 = q) (kk : v σ bc bs q ls (.ref a :: st)) : v σ bc bs pc ls (.int (nI t) :: .ref b :: st) := by
  obtain ⟨p, e, s, m, args, below, meth, c, ⟨hx, hb, hml, hown, hts⟩, -, ⟨hKf, hA⟩, rfl⟩ := F
  subst hq
  intro H locs cells slots arr hW hS h1 h2 hl2
  obtain ⟨A', L, f, ⟨hP, -⟩, g1, g2⟩ := hE H hW
  obtain ⟨q0, hq0⟩ := va_pl_get (X := []) (f := f) g1
  rw [g2] at hq0
  have hc : (nI t).toNatClampNeg = t := nI_clamp (by omega)
  have hin := vp_in_nI ht (show N < 2 ^ 31 by omega)
  refine W.aald (v := .ref a) (ty := ty) hx hb (hP q0 _ hq0) (((hK s hKf).2 t0 _ h0).1 N (fun j => va_rf (g j))) hty (fun q => by cases q) (by show ¬ (nI t < 0 ∨ (arrV _ _ _).slots.size ≤ _); rw [arrV_size]; exact hin) (by show (arrV _ _ _).slots[_]? = _; rw [hc, arrV_read _ _ ht, hg]; rfl) rfl rfl d (kk H locs cells slots arr hW hS h1 h2 hl2)
theorem g_alen (F : vv_F v l cc nL own nm ret hh R Kf Wd A post) (hK : ∀ U, Kf U → va_K D vwCl tys U) (t0 : Nat) {cA : ClassId} {ty : FieldType} {b : Nat} {x : vp_A} (hE : hasE D Wd σ b (.inl (cA, x))) (h0 : tys[t0]? = some (cA, ty)) {z : Int32} (hz : Int32.ofNat x.1 = z) (d : decode cc pc = .ok (.arraylength, 1)) (hq : pc + 1 = q) (kk : v σ bc bs q ls (.int z :: st)) : v σ bc bs pc ls (.ref b :: st) := by
  obtain ⟨p, e, s, m, args, below, meth, c, ⟨hx, hb, hml, hown, hts⟩, -, ⟨hKf, hA⟩, rfl⟩ := F
  subst hq
  intro H locs cells slots arr hW hS h1 h2 hl2
  obtain ⟨A', L, f, ⟨hP, -⟩, g1, g2⟩ := hE H hW
  obtain ⟨q0, hq0⟩ := va_pl_get (X := []) (f := f) g1
  rw [g2] at hq0
  exact va_alen (D := D) hx hb (hK s hKf) hP q0 t0 hq0 h0 hz d (kk H locs cells slots arr hW hS h1 h2 hl2)
/-- a contract that holds at each heap of a world, and leaves the heap -/
theorem vv_fix {y : MethodName} {ws : List Cond} {av : List Value} {x : Int32} (h : ∀ H0, Wd σ H0 → vv_Ct l y ws R Kf (fun (_ : Unit) H => H = H0) A av () (vv_i x (fun _ => True))) : vv_Ct l y ws R Kf Wd A av σ (vv_i x (fun u => u = σ)) := by
  intro p e h1 h2 h3 s m args below hf ha hP hK
  obtain ⟨hav, hW, hKf, hA⟩ := hP
  obtain ⟨n, o, g1, g2, g3, k, n', hk, ⟨⟨u, hu, hH⟩, hF⟩, hL⟩ := h s.heap hW p e h1 h2 h3 s m args below hf ha ⟨hav, rfl, hKf, hA⟩ hK
  refine ⟨n, o, g1, g2, g3, k, n', hk, ⟨⟨σ, ?_, ?_⟩, hF⟩, hL⟩
  · cases o with
    | returned r => exact ⟨hu.1, rfl⟩
    | threw z => exact hu
  · have hH2 : (stepsAlone p.tables e n s).heap = s.heap := hH
    rw [hH2]; exact hW
end GR
section VV0F
variable {S : Type} {l : Launch} {y : MethodName} {cc : ByteArray} {nL : Nat} {ret : Option FieldType} {R : Room} {Kf : State → Prop} {Wd : S → Heap → Prop} {A : Nat → Prop} {av : List Value} {σ : S} {post : vv_O S}
/-- as vv_of, for a class of the library -/
theorem vv_ofF (hy : plainFor y = true) (hn : (lg_sl av).length ≤ nL)
    (h : ∀ v : vv_T S, vv_F v l cc nL y.cls y.name ret [] R Kf Wd A post → v σ R.cells R.slots 0 (lv_args 0 av) []) : vv_Ct l y (ws_ y cc nL ret) R Kf Wd A av σ post := by
  refine MetFree.of_bodySF (code := cc) (maxLocals := nL) (ret := ret) hy ?_ ?_
  · intro args s m h hn
    obtain ⟨meth, c, h1, h2, h3, h4, h5, h6, -, -⟩ := Cond.code_spec hn (atoms_spec (ws := ws_ y cc nL ret) h _ List.mem_cons_self)
    exact ⟨meth, c, h1, h2, h3, h4, h5, h6⟩
  · intro p e s m args below meth c s₁ B hml hP _
    obtain ⟨rfl, hWd, hK, hA⟩ := hP
    have hh0 : s₁.heap = s.heap := by rw [B.state]; rfl
    have hts0 := atoms_spec (ws := ws_ y cc nL ret) B.pre
    have hcode := hts0 _ List.mem_cons_self
    have hts : ∀ w ∈ lw_all, w.before av.toArray s = true := fun w h => hts0 w (List.mem_cons_of_mem _ h)
    have hemp := BodyLoose.noHandlers B hcode
    have hemp2 : c.exceptionTable.toList = [] := by simpa using hemp
    have K := h _ ⟨p, e, s, m, av.toArray, below, meth, c, ⟨B.exec, B.bytes, hml, findClass_of_methodNamed B.named, hts⟩, ⟨B.returns, B.notSynchronized, (name_of_methodNamed B.named B.method).1, by rw [hemp2]; rfl⟩, ⟨hK, hA⟩, rfl⟩ s.heap [] 0 0 _ hWd va_S.rf (by omega) (by omega) (lv_entry av hn)
    rw [← lg_entry_eq] at K
    obtain ⟨t, a1, o, b1, b2, b3⟩ := K s₁ hh0 (Stand.of_body B)
    exact ⟨t, o, a1, b1, b2, b3⟩
end VV0F
theorem six {P : Nat → Prop} (h0 : P 0) (h1 : P 1) (h2 : P 2) (h3 : P 3) (h4 : P 4) (h5 : P 5) : ∀ k, k ≤ 5 → P k := by
  intro k hk
  rcases (show k = 0 ∨ k = 1 ∨ k = 2 ∨ k = 3 ∨ k = 4 ∨ k = 5 by omega) with rfl | rfl | rfl | rfl | rfl | rfl
  · exact h0
  · exact h1
  · exact h2
  · exact h3
  · exact h4
  · exact h5
abbrev sel6 {α : Type} (a b c d e f : α) (k : Nat) : α := match k with
  | 0 => a | 1 => b | 2 => c | 3 => d | 4 => e | _ => f
abbrev bN (k : Nat) : String := sel6 RX9 RX10 RX11 RX12 RX13 RX14 k
abbrev bT (k : Nat) : u_T := sel6 TX9 TX10 TX11 TX12 TX13 TX14 k
theorem bcl : ∀ k, k ≤ 5 → vwCl[7 + k]? = some (bN k, bT k, 3) := six rfl rfl rfl rfl rfl rfl
/-- an instruction may name x and link to an overriding method -/
def vv_od (x : MethodName) (n : Nat) : Prop := (parseMethodDescriptor x.desc).map (fun d => d.parameters.length) = some n ∧ (x.cls ≠ "java/lang/invoke/MethodHandle" ∧ x.cls ≠ "java/lang/invoke/VarHandle") ∧ Cond.sameMethod x.cls x.cls x.name x.desc ∈ lw_all ∧ ∀ (args : Array Value) (s : State), (∀ w ∈ lw_all, w.before args s = true) → va_Decl s x
section CV
variable {v : vv_T cS} {l : Launch} {cc : ByteArray} {nL : Nat} {own nm : String} {ret : Option FieldType} {hh : List (Nat × Nat × Nat × Nat)} {R : Room} {Kf : State → Prop} {D : va_G} {K : Nat → ClassId} {fv : List Value × (Nat → Nat)} {A : Nat → Prop} {Pn : cS → Prop} {post : vv_O cS}
variable {n n' : mS} {δ : Nat → Nat} {ν : Nat → Option (Mg × Nat)} {bc bs pc q : Nat} {ls : List (Nat × Value)} {st stk : List Value} {r : Int32} {P : cS → Prop} {ws : List Cond} {maxL maxL' idx sl f' lo' : Nat} {As : List Value} {bytes : ByteArray} {rt : Option FieldType}
theorem c_brecv (G : cG A fv Pn Kf D K) (hlv : cLv n sl) (hkk : tn (n 11 sl) ≤ 5) (s : State) (H : Heap) (hK : Kf s) (hW : cWdP Pn D K fv A (n, δ, ν) H) : ∃ cell : Cell, H[δ (200 + sl)]? = some cell ∧ cell.vm.isStatics = false ∧ s.vm.findClass (bN (tn (n 11 sl))) = some cell.cls :=
  c_cell (fs := []) G s H hK (k := 200 + sl) (ci := 7 + tn (n 11 sl)) (r := (bN (tn (n 11 sl)), bT (tn (n 11 sl)), 3)) (fun n' ha => ⟨_, by rw [cE_b hlv.lt (hlv.k ha), hlv.a ha]⟩) (bcl _ hkk) hW
theorem c_brecv2 (G : cG A fv Pn Kf D K) (hlv : cLv n sl) (hkk : tn (n 11 sl) ≤ 5) (s : State) (H : Heap) (hK : Kf s) (hW : cWdP Pn D K fv A (n, δ, ν) H) : ∃ (cellB : Cell) (kB : Class), H[δ (200 + sl)]? = some cellB ∧ cellB.vm.isStatics = false ∧ s.vm.classes[cellB.cls]? = some kB := by
  obtain ⟨cell, h1, h2, h3⟩ := c_brecv G hlv hkk s H hK hW
  obtain ⟨ks, hks, -⟩ := Vm.findClass_spec h3
  exact ⟨cell, ks, h1, h2, hks⟩
/-- a bulb's method is called, by its kind -/
theorem c_vcalli (F : vv_F v l cc nL own nm ret hh R Kf (cWdP Pn D K fv A) A post) (G : cG A fv Pn Kf D K) {x : MethodName} {y : Nat → MethodName} {ws : Nat → List Cond} {mL : Nat → Nat} (hlv : cLv n sl) (hkk : tn (n 11 sl) ≤ 5) (hl : Cond.methodLink own idx x ∈ lw_all) (hx : vv_od x As.length)
    (hy : ∀ k, k ≤ 5 → vv_oc (y k) (mL k) As.length (ws k) ∧ mL k ≤ 4 ∧ Cond.selects (bN k) x (y k) ∈ lw_all ∧ Cond.instanceMethod (y k) ∈ lw_all)
    (hM : ∀ k, k ≤ 5 → tn (n 11 sl) = k → vv_Ct l (y k) (ws k) (rm f' lo') Kf (cWdP Pn D K fv A) A (.ref (δ (200 + sl)) :: As) (n, δ, ν) (vv_i r P))
    (hroom : (Nat.ble (f' + 1) R.frames && Nat.ble (8 + (4 + 11) + lo') R.locals) = true) (hst : Nat.ble (st.map fun v => v.category).sum 8 = true) (d : decode cc pc = .ok (.invokevirtual idx, 3)) (hq : pc + 3 = q) (hstk : stk = As.reverse ++ .ref (δ (200 + sl)) :: st) (k : ∀ u, P u → v u bc bs q ls (.int r :: st)) : v (n, δ, ν) bc bs pc ls stk := by
  rw [Bool.and_eq_true] at hroom
  obtain ⟨h1, h2, h3, h4⟩ := hy _ hkk
  have e1 := Nat.le_of_ble_eq_true hroom.1
  have e2 := Nat.le_of_ble_eq_true hroom.2
  refine v_call F G.1 (hM _ hkk rfl) h1 (vv_LO hx.1 hx.2.1 hl hx.2.2.1 hx.2.2.2 h3 h4 (fun s H a b => c_brecv G hlv hkk s H a b) d hstk) ⟨e1, ?_⟩ (Nat.le_of_ble_eq_true hst) hq (bc' := bc) (bs' := bs) (Nat.zero_add _) (Nat.zero_add _) ?_
  · show 8 + (mL (tn (n 11 sl)) + 11) + (rm f' lo').locals ≤ R.locals
    have : (rm f' lo').locals = lo' := rfl
    omega
  · rintro _ u ⟨rfl, h⟩
    exact k u h
/-- super's method -/
theorem c_scalli (F : vv_F v l cc nL own nm ret hh R Kf (cWdP Pn D K fv A) A post) (G : cG A fv Pn Kf D K) {y : MethodName} (hlv : cLv n sl) (hkk : tn (n 11 sl) ≤ 5) (hM : vv_Ct l y ws (rm f' lo') Kf (cWdP Pn D K fv A) A (.ref (δ (200 + sl)) :: As) (n, δ, ν) (vv_i r P)) (hok : vv_oc y maxL As.length ws)
    (hw1 : Cond.methodLink own idx y ∈ lw_all) (hw2 : Cond.instanceMethod y ∈ lw_all) (hw3 : Cond.code y bytes maxL' rt ∈ lw_all) (hw4 : Cond.sameMethod y.cls y.cls y.name y.desc ∈ lw_all) (hw5 : Cond.superclass own y.cls ∈ lw_all) (hno : y.name ≠ "<init>")
    (hroom : (Nat.ble (f' + 1) R.frames && Nat.ble (8 + (maxL + 11) + lo') R.locals) = true) (hst : Nat.ble (st.map fun v => v.category).sum 8 = true) (d : decode cc pc = .ok (.invokespecial idx, 3)) (hq : pc + 3 = q) (hstk : stk = As.reverse ++ .ref (δ (200 + sl)) :: st) (k : ∀ u, P u → v u bc bs q ls (.int r :: st)) : v (n, δ, ν) bc bs pc ls stk := by
  rw [Bool.and_eq_true] at hroom
  refine v_call F G.1 hM hok (vv_LU hok hw1 hw2 hw3 hw4 hw5 hno (fun s H a b => c_brecv2 G hlv hkk s H a b) d hstk) ⟨Nat.le_of_ble_eq_true hroom.1, Nat.le_of_ble_eq_true hroom.2⟩ (Nat.le_of_ble_eq_true hst) hq (bc' := bc) (bs' := bs) (Nat.zero_add _) (Nat.zero_add _) ?_
  rintro _ u ⟨rfl, h⟩
  exact k u h
end CV
section SN
variable {S : Type} {v : vv_T S} {l : Launch} {cc : ByteArray} {nL : Nat} {own nm host : String} {ret : Option FieldType} {hh : List (Nat × Nat × Nat × Nat)} {R : Room} {Kf : State → Prop} {Wd : S → Heap → Prop} {A : Nat → Prop} {post : vv_O S}
variable {σ : S} {bc bs pc q : Nat} {ls : List (Nat × Value)} {st stk : List Value} {x : Int32} {P : S → Prop} {yy : MethodName} {ws : List Cond} {maxL idx f' lo' : Nat} {As : List Value}
theorem s_calliN (F : vv_F v l cc nL own nm ret hh R Kf Wd A post) (hN : kN Kf) (hKm : kM A Kf) (hM : vv_Ct l yy ws (rm f' lo') Kf Wd A As σ (vv_i x P)) (hok : vv_oc yy maxL As.length ws)
    (hl : Cond.methodLinkNest own idx yy host ∈ lw_tbl) (hs : Cond.static yy ∈ lw_all) (hroom : (Nat.ble (f' + 1) R.frames && Nat.ble (8 + (maxL + 11) + lo') R.locals) = true) (hst : Nat.ble (st.map fun v => v.category).sum 8 = true)
    (d : decode cc pc = .ok (.invokestatic idx, 3)) (hq : pc + 3 = q) (hstk : stk = As.reverse ++ st) (k : ∀ u, P u → v u bc bs q ls (.int x :: st)) : v σ bc bs pc ls stk := by
  rw [Bool.and_eq_true] at hroom
  refine v_call F hKm hM hok (vv_LSN hN hok hl hs d hstk) ⟨Nat.le_of_ble_eq_true hroom.1, Nat.le_of_ble_eq_true hroom.2⟩ (Nat.le_of_ble_eq_true hst) hq (bc' := bc) (bs' := bs) (Nat.zero_add _) (Nat.zero_add _) ?_
  rintro _ u ⟨rfl, h⟩
  exact k u h
theorem s_callj {x : Int64} (F : vv_F v l cc nL own nm ret hh R Kf Wd A post) (hKm : kM A Kf) (hM : vv_Ct l yy ws (rm f' lo') Kf Wd A As σ (vv_j x P)) (hok : vv_oc yy maxL As.length ws)
    (hl : Cond.methodLink own idx yy ∈ lw_all) (hs : Cond.static yy ∈ lw_all) (hroom : (Nat.ble (f' + 1) R.frames && Nat.ble (8 + (maxL + 11) + lo') R.locals) = true) (hst : Nat.ble (st.map fun v => v.category).sum 8 = true)
    (d : decode cc pc = .ok (.invokestatic idx, 3)) (hq : pc + 3 = q) (hstk : stk = As.reverse ++ st) (k : ∀ u, P u → v u bc bs q ls (.long x :: st)) : v σ bc bs pc ls stk := by
  rw [Bool.and_eq_true] at hroom
  refine v_callS F hKm hM hok hl hs ⟨Nat.le_of_ble_eq_true hroom.1, Nat.le_of_ble_eq_true hroom.2⟩ (Nat.le_of_ble_eq_true hst) d hq hstk (bc' := bc) (bs' := bs) (Nat.zero_add _) (Nat.zero_add _) ?_
  rintro _ u ⟨rfl, h⟩
  exact k u h
end SN
/-- the component's own numbers -/
def cow (k j : Nat) : Bool := scr k j || (asi k j || (decide (42 ≤ k) || (decide (k = 0) && decide (42 ≤ j))))
def cab (n : mS) : mS := fun k j => if cow k j = true then 0 else n k j
theorem cab_rd {n : mS} (k j : Nat) (h : cow k j = false) : cab n k j = n k j := by unfold cab; rw [h]; rfl
theorem cab_eq {n u : mS} (h : cab u = cab n) (k j : Nat) (hs : cow k j = false) : u k j = n k j := by
  rw [← cab_rd (n := u) k j hs, h, cab_rd k j hs]
theorem cab_us {n : mS} {k j : Nat} {x : Int32} (hs : cow k j = true) : cab (up n k j x) = cab n := by
  funext a c
  unfold cab up
  by_cases h : cow a c = true
  · rw [if_pos h, if_pos h]
  · rw [if_neg h, if_neg h]
    by_cases h1 : a = k
    · by_cases h2 : c = j
      · subst h1; subst h2; exact absurd hs h
      · rw [if_pos h1, if_neg h2]
    · rw [if_neg h1]
theorem cab_u {n : mS} {k j : Nat} {x : Int32} (hs : cow k j = false) : cab (up n k j x) = up (cab n) k j x := by
  funext a c
  unfold cab up
  by_cases h1 : a = k
  · by_cases h2 : c = j
    · subst h1; subst h2; rw [hs]; simp
    · simp [h1, h2]
  · simp [h1]
theorem cow_70 (t j : Nat) : cow (70 + t) j = true := by unfold cow; simp; omega
def cOk (n : mS) : Prop := Wf n ∧ ∀ p, p < tn (n 0 13) → okN (n 11 p) 5
theorem cOk.k {n : mS} (h : cOk n) {p : Nat} (hp : p < tn (n 0 13)) : tn (n 11 p) ≤ 5 := (h.2 p hp).2
theorem cOk.lv {n : mS} (h : cOk n) {p : Nat} (hp : p < tn (n 0 13)) : cLv n p := ⟨by omega, by have := h.1.1.1.2; omega⟩
theorem cOk.m8 {n : mS} (h : cOk n) : tn (n 0 13) ≤ 8 := h.1.1.1.2
theorem cOk.m {n : mS} (h : cOk n) : n 0 13 = nI (tn (n 0 13)) := h.1.1.1.1
theorem cOk_cab {n : mS} : cOk (cab n) ↔ cOk n := Iff.rfl
theorem cOk.of {n u : mS} (h : cOk n) (e : cab u = cab n) : cOk u := cOk_cab.mp (by rw [e]; exact cOk_cab.mpr h)
