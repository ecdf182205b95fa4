/-! WORLDS AS LISTS OF CELLS: for constructors -/
set_option maxRecDepth 100000
def lWd (D : va_G) (A : Nat → Prop) (ws : va_W) (H : Heap) : Prop := va_P D vwCl ws H ∧ va_D A ws
section LW
variable {v : vv_T va_W} {l : Launch} {cc : ByteArray} {nL : Nat} {own nm : String} {ret : Option FieldType} {hh : List (Nat × Nat × Nat × Nat)} {R : Room} {Kf : State → Prop} {D : va_G} {A : Nat → Prop} {post : vv_O va_W}
variable {ws : va_W} {bc bs pc q : Nat} {ls : List (Nat × Value)} {st : List Value} {tys : List (ClassId × FieldType)}
theorem l_newa (F : vv_F v l cc nL own nm ret hh R Kf (lWd D A) A post) (hK : ∀ U, Kf U → va_K D vwCl tys U) (t0 : Nat) {cA : ClassId} {ty : FieldType} (ht : tys[t0]? = some (cA, ty)) {atype : ArrayType} (hty : newarray.typeOf atype = ty) (hra : ∀ (U : State) (c : ClassId), va_RA U c ty = (U.vm.findClass ("[" ++ ty.toString) = some c)) (hw : Cond.arrayClass (newarray.typeOf atype) ∈ lw_all)
    {n : Int32} {N bc' bs' : Nat} {a0 : vp_A} (ha : ∀ c : ClassId, vp_cell c a0 = arrV c N (fun _ => defaultValue ty)) (hn : ¬ n < 0) (hN : n.toNatClampNeg = N) (hbytes : N * componentBytes ty ≤ 536870912) (d : decode cc pc = .ok (.newarray atype, 2)) (hq : pc + 2 = q) (hb1 : bc' + 1 = bc) (hb2 : bs' + N = bs)
    (k : ∀ a, v (ws ++ [(a, .inl (cA, a0))]) bc' bs' q ls (.ref a :: st)) : v ws bc bs pc ls (.int n :: st) := by
  obtain ⟨p, e, s, m, args, below, meth, c, ⟨hx, hb, hml, hown, hts⟩, -, ⟨hKf, hA⟩, rfl⟩ := F
  subst hq
  intro H locs cells slots arr hW hS h1 h2 hl
  refine va_newa hx hb (hts _ hw) hty (hK s hKf) hW.1 hW.2 hS hA ha hn hN hbytes (by omega) (by omega) d (fun a cA' H1 hK1 hP1 hD1 hS1 => ?_)
  have e1 : va_RA s cA' ty := (hK1.2 tys.length (cA', ty) (by rw [List.getElem?_append_right (Nat.le_refl _), Nat.sub_self]; rfl)).2
  have e2 : va_RA s cA ty := ((hK s hKf).2 t0 _ ht).2
  rw [hra] at e1 e2
  cases e1.symm.trans e2
  exact k a H1 locs (cells + 1) (slots + N) arr ⟨hP1, hD1⟩ hS1 (by omega) (by omega) hl
theorem l_put (F : vv_F v l cc nL own nm ret hh R Kf (lWd D A) A post) (hK : ∀ U, Kf U → va_K D vwCl tys U) {C : String} {T : u_T} {N ci idx a : Nat} (hin : ∀ w ∈ u_ws C T N, w ∈ lw_all) (ty0 : Nat → FieldType) (hty : ∀ k, k < N → parseFieldDescriptor (T k).2.2.1 = some (ty0 k)) (hnm : ∀ a, a < N → ∀ b, b < N → a ≠ b → (T a).2.1 ≠ (T b).2.1) (hc : vwCl[ci]? = some (C, T, N))
    (q0 : Nat) {fs fs' : List Value} (he : ws[q0]? = some (a, .inr (ci, fs))) (k : Nat) (hk : k < N) (hlen : fs.length = N) {w : Value} {ty : FieldType} (hl : Cond.fieldLink own idx (T k).1 (T k).2.1 (T k).2.2.1 ∈ lw_all) (hfin : (T k).2.2.2 = false) (hd : parseFieldDescriptor (T k).2.2.1 = some ty) (hn : narrow ty w = w) (hfit : fits ty w = true) (hs : fs.set k w = fs')
    (d : decode cc pc = .ok (.putfield idx, 3)) (hq : pc + 3 = q) (kk : v (ws.set q0 (a, .inr (ci, fs'))) bc bs q ls st) : v ws bc bs pc ls (w :: .ref a :: st) := by
  obtain ⟨p, e, s, m, args, below, meth, c, ⟨hx, hb, hml, hown, hts⟩, -, ⟨hKf, hA⟩, rfl⟩ := F
  subst hq; subst hs
  intro H locs cells slots arr hW hS h1 h2 hl2
  exact va_put (D := D) hx hb hts hin ty0 hty hnm hown (hK s hKf) hW.1 hW.2 hS q0 he hc k hk (hts _ hl) (fun _ h9 => h9) hfin hd hn hfit (by omega) d (fun H1 locs1 hP1 hD1 hS1 => kk H1 locs1 cells slots arr ⟨hP1, hD1⟩ hS1 h1 h2 hl2)
theorem l_putF (F : vv_F v l cc nL own "<init>" ret hh R Kf (lWd D A) A post) (hK : ∀ U, Kf U → va_K D vwCl tys U) {C : String} {T : u_T} {N ci idx a : Nat} (hin : ∀ w ∈ u_ws C T N, w ∈ lw_all) (ty0 : Nat → FieldType) (hty : ∀ k, k < N → parseFieldDescriptor (T k).2.2.1 = some (ty0 k)) (hnm : ∀ a, a < N → ∀ b, b < N → a ≠ b → (T a).2.1 ≠ (T b).2.1) (hc : vwCl[ci]? = some (C, T, N))
    (q0 : Nat) {fs fs' : List Value} (he : ws[q0]? = some (a, .inr (ci, fs))) (k : Nat) (hk : k < N) (hlen : fs.length = N) {w : Value} {ty : FieldType} (hl : Cond.fieldLink own idx (T k).1 (T k).2.1 (T k).2.2.1 ∈ lw_all) (hfin : (T k).2.2.2 = true) (hdecl : (T k).1 = own) (hd : parseFieldDescriptor (T k).2.2.1 = some ty) (hn : narrow ty w = w) (hfit : fits ty w = true) (hs : fs.set k w = fs')
    (d : decode cc pc = .ok (.putfield idx, 3)) (hq : pc + 3 = q) (kk : v (ws.set q0 (a, .inr (ci, fs'))) bc bs q ls st) : v ws bc bs pc ls (w :: .ref a :: st) := by
  obtain ⟨p, e, s, m, args, below, meth, c, ⟨hx, hb, hml, hown, hts⟩, ⟨-, -, hnme, -⟩, ⟨hKf, hA⟩, rfl⟩ := F
  subst hq; subst hs
  intro H locs cells slots arr hW hS h1 h2 hl2
  exact va_putF (D := D) hx hb hts hin ty0 hty hnm hown (hK s hKf) hW.1 hW.2 hS q0 he hc k hk (hts _ hl) (fun _ h9 => h9) hfin hnme hdecl hd hn hfit (by omega) d (fun H1 locs1 hP1 hD1 hS1 => kk H1 locs1 cells slots arr ⟨hP1, hD1⟩ hS1 h1 h2 hl2)
end LW
section OI
variable {S : Type} {v : vv_T S} {l : Launch} {cc : ByteArray} {nL : Nat} {own nm : String} {ret : Option FieldType} {hh : List (Nat × Nat × Nat × Nat)} {R : Room} {Kf : State → Prop} {Wd : S → Heap → Prop} {A : Nat → Prop} {post : vv_O S}
variable {σ : S} {bc bs pc q : Nat} {ls ls' : List (Nat × Value)} {st stk : List Value}
theorem v_objInit (F : vv_F v l cc nL own nm ret hh R Kf Wd A post) {idx a : Nat} (hw1 : Cond.methodLink own idx yJ14_init ∈ lw_all) (d : decode cc pc = .ok (.invokespecial idx, 3)) (hq : pc + 3 = q) (hst : (st.map fun v => v.category).sum ≤ 8) (hf : 1 ≤ R.frames) (hlo : 20 ≤ R.locals) (k : v σ bc bs q ls st) : v σ bc bs pc ls (.ref a :: st) := by
  obtain ⟨p, e, s, m, args, below, meth, c, ⟨hx, hb, hml, hown, hts⟩, -, -, rfl⟩ := F
  subst hq
  intro H locs cells slots arr hW hS h1 h2 hl
  exact W.objInit hx hb hown (hts _ hw1) (hts _ q171) (hts _ q172) (g := F0 m pc arr (.ref a :: st)) rfl (by rw [hml]; exact hl.1) rfl d hf (by show 2 * 0 + (st.map fun v => v.category).sum + 12 ≤ R.locals; omega) (k H locs cells slots arr hW hS h1 h2 hl)
end OI
