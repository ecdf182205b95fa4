/-! THE COMPONENT's WORLD: calls -/
set_option maxRecDepth 100000
section CC
variable {v : vv_T cS} {l : Launch} {cc : ByteArray} {nL : Nat} {own nm : String} {ret : Option FieldType} {hh : List (Nat × Nat × Nat × Nat)} {R : Room} {Kf : State → Prop} {D : va_G} {K : Nat → ClassId} {fv : List Value × (Nat → Nat)} {A : Nat → Prop} {Pn : cS → Prop} {post : vv_O cS}
variable {n n' : mS} {δ : Nat → Nat} {ν : Nat → Option (Mg × Nat)} {bc bs pc q : Nat} {ls : List (Nat × Value)} {st stk : List Value} {x : Int32} {P : cS → Prop} {y : MethodName} {ws : List Cond} {maxL idx f f' lo lo' : Nat} {As : List Value}
theorem c_cell (G : cG A fv Pn Kf D K) (s : State) (H : Heap) (hK : Kf s) {k ci : Nat} {fs : List Value} {r : vw_C} (hE : ∀ n', cAg n n' → ∃ fs, cE K fv n' δ k = some (.inr (ci, fs))) (hc : vwCl[ci]? = some r) (hW : cWdP Pn D K fv A (n, δ, ν) H) : ∃ cell : Cell, H[δ k]? = some cell ∧ cell.vm.isStatics = false ∧ s.vm.findClass r.1 = some cell.cls := by
  obtain ⟨n', L, f, hag, hrp, htx, hpn, hP, hD⟩ := hW
  obtain ⟨fs, hE⟩ := hE n' hag
  obtain ⟨g1, g2⟩ := hrp.1 k _ hE
  obtain ⟨q0, hq0⟩ := va_pl_get (X := []) (f := f) g1
  rw [g2] at hq0
  exact va_recv (G.2.1 s hK) hP hc hq0
theorem c_recv (G : cG A fv Pn Kf D K) (s : State) (H : Heap) (hK : Kf s) (hW : cWdP Pn D K fv A (n, δ, ν) H) : ∃ cell : Cell, H[δ 0]? = some cell ∧ cell.vm.isStatics = false ∧ s.vm.findClass RX0 = some cell.cls :=
  c_cell (fs := []) G s H hK (k := 0) (ci := 0) (r := (RX0, TX0, 31)) (fun n' _ => ⟨_, rfl⟩) rfl hW
theorem c_call {p' : Option Value → cS → Prop} (F : vv_F v l cc nL own nm ret hh R Kf (cWdP Pn D K fv A) A post) (G : cG A fv Pn Kf D K) (hM : vv_Ct l y ws (rm f' lo') Kf (cWdP Pn D K fv A) A (.ref (δ 0) :: As) (n, δ, ν) (vv_R p')) (hok : vv_oc y maxL As.length ws)
    (hl : Cond.methodLink own idx y ∈ lw_all) (hi : Cond.instanceMethod y ∈ lw_all ∧ Cond.selects RX0 y y ∈ lw_all) (hroom : (Nat.ble (f' + 1) R.frames && Nat.ble (8 + (maxL + 11) + lo') R.locals) = true) (hst : Nat.ble (st.map fun v => v.category).sum 8 = true)
    (d : decode cc pc = .ok (.invokevirtual idx, 3)) (hq : pc + 3 = q) (hstk : stk = As.reverse ++ .ref (δ 0) :: st) (k : ∀ r u, p' r u → v u bc bs q ls (r.toList ++ st)) : v (n, δ, ν) bc bs pc ls stk := by
  rw [Bool.and_eq_true] at hroom
  exact v_callV F G.1 hM hok hl hi.1 hi.2 (c_recv G) ⟨Nat.le_of_ble_eq_true hroom.1, Nat.le_of_ble_eq_true hroom.2⟩ (Nat.le_of_ble_eq_true hst) d hq hstk (bc' := bc) (bs' := bs) (Nat.zero_add _) (Nat.zero_add _) k
theorem c_calli (F : vv_F v l cc nL own nm ret hh R Kf (cWdP Pn D K fv A) A post) (G : cG A fv Pn Kf D K) (hM : vv_Ct l y ws (rm f' lo') Kf (cWdP Pn D K fv A) A (.ref (δ 0) :: As) (n, δ, ν) (vv_i x P)) (hok : vv_oc y maxL As.length ws)
    (hl : Cond.methodLink own idx y ∈ lw_all) (hi : Cond.instanceMethod y ∈ lw_all ∧ Cond.selects RX0 y y ∈ lw_all) (hroom : (Nat.ble (f' + 1) R.frames && Nat.ble (8 + (maxL + 11) + lo') R.locals) = true) (hst : Nat.ble (st.map fun v => v.category).sum 8 = true)
    (d : decode cc pc = .ok (.invokevirtual idx, 3)) (hq : pc + 3 = q) (hstk : stk = As.reverse ++ .ref (δ 0) :: st) (k : ∀ u, P u → v u bc bs q ls (.int x :: st)) : v (n, δ, ν) bc bs pc ls stk := by
  refine c_call F G hM hok hl hi hroom hst d hq hstk ?_
  rintro _ u ⟨rfl, h⟩
  exact k u h
theorem c_callj {x : Int64} (F : vv_F v l cc nL own nm ret hh R Kf (cWdP Pn D K fv A) A post) (G : cG A fv Pn Kf D K) (hM : vv_Ct l y ws (rm f' lo') Kf (cWdP Pn D K fv A) A (.ref (δ 0) :: As) (n, δ, ν) (vv_j x P)) (hok : vv_oc y maxL As.length ws)
    (hl : Cond.methodLink own idx y ∈ lw_all) (hi : Cond.instanceMethod y ∈ lw_all ∧ Cond.selects RX0 y y ∈ lw_all) (hroom : (Nat.ble (f' + 1) R.frames && Nat.ble (8 + (maxL + 11) + lo') R.locals) = true) (hst : Nat.ble (st.map fun v => v.category).sum 8 = true)
    (d : decode cc pc = .ok (.invokevirtual idx, 3)) (hq : pc + 3 = q) (hstk : stk = As.reverse ++ .ref (δ 0) :: st) (k : ∀ u, P u → v u bc bs q ls (.long x :: st)) : v (n, δ, ν) bc bs pc ls stk := by
  refine c_call F G hM hok hl hi hroom hst d hq hstk ?_
  rintro _ u ⟨rfl, h⟩
  exact k u h
theorem c_calln (F : vv_F v l cc nL own nm ret hh R Kf (cWdP Pn D K fv A) A post) (G : cG A fv Pn Kf D K) (hM : vv_Ct l y ws (rm f' lo') Kf (cWdP Pn D K fv A) A (.ref (δ 0) :: As) (n, δ, ν) (vv_n P)) (hok : vv_oc y maxL As.length ws)
    (hl : Cond.methodLink own idx y ∈ lw_all) (hi : Cond.instanceMethod y ∈ lw_all ∧ Cond.selects RX0 y y ∈ lw_all) (hroom : (Nat.ble (f' + 1) R.frames && Nat.ble (8 + (maxL + 11) + lo') R.locals) = true) (hst : Nat.ble (st.map fun v => v.category).sum 8 = true)
    (d : decode cc pc = .ok (.invokevirtual idx, 3)) (hq : pc + 3 = q) (hstk : stk = As.reverse ++ .ref (δ 0) :: st) (k : ∀ u, P u → v u bc bs q ls st) : v (n, δ, ν) bc bs pc ls stk := by
  refine c_call F G hM hok hl hi hroom hst d hq hstk ?_
  rintro _ u ⟨rfl, h⟩
  exact k u h
end CC
