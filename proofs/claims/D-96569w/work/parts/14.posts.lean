/-! POSTS in few forms, returns and calls for them -/
set_option maxRecDepth 100000
/-- answers the int x, P of the new state -/
def vv_i {S : Type} (x : Int32) (P : S → Prop) : vv_O S := vv_R fun r u => r = some (.int x) ∧ P u
def vv_j {S : Type} (x : Int64) (P : S → Prop) : vv_O S := vv_R fun r u => r = some (.long x) ∧ P u
def vv_n {S : Type} (P : S → Prop) : vv_O S := vv_R fun r u => r = none ∧ P u
/-- answers some int, P of it and of the new state -/
def vv_x {S : Type} (P : Int32 → S → Prop) : vv_O S := vv_R fun r u => ∃ x, r = some (.int x) ∧ P x u
section VP
variable {S : Type} {v : vv_T S} {l : Launch} {cc : ByteArray} {nL : Nat} {own nm : String} {ret : Option FieldType} {hh : List (Nat × Nat × Nat × Nat)} {R : Room} {Kf : State → Prop} {Wd : S → Heap → Prop} {A : Nat → Prop}
variable {σ : S} {bc bs pc q : Nat} {ls ls' : List (Nat × Value)} {st stk : List Value} {x y : Int32} {P : S → Prop}
theorem v_reti (F : vv_F v l cc nL own nm ret hh R Kf Wd A (vv_i y P)) (d : decode cc pc = .ok (.ireturn, 1)) (hr : ret = some .int) (h : x = y) (hp : P σ) : v σ bc bs pc ls [.int x] := v_iret F d hr (fun _ _ _ _ => ⟨by rw [h], hp⟩)
theorem v_retz {p : Prop} [Decidable p] (F : vv_F v l cc nL own nm ret hh R Kf Wd A (vv_i (bI p) P)) (d : decode cc pc = .ok (.ireturn, 1)) (hr : ret = some .boolean) (h : x = bI p) (hp : P σ) : v σ bc bs pc ls [.int x] := v_zret F d hr (by rw [h]; exact bI_nar) (fun _ _ _ _ => ⟨by rw [h], hp⟩)
theorem v_retj {x y : Int64} (F : vv_F v l cc nL own nm ret hh R Kf Wd A (vv_j y P)) (d : decode cc pc = .ok (.lreturn, 1)) (hr : ret = some .long) (h : x = y) (hp : P σ) : v σ bc bs pc ls [.long x] := v_lret F d hr (fun _ _ _ _ => ⟨by rw [h], hp⟩)
theorem v_retn (F : vv_F v l cc nL own nm ret hh R Kf Wd A (vv_n P)) (d : decode cc pc = .ok (.return_, 1)) (hr : ret = none) (hp : P σ) : v σ bc bs pc ls [] := v_vret F d hr (fun _ _ _ _ => ⟨rfl, hp⟩)
theorem v_retx {P : Int32 → S → Prop} (F : vv_F v l cc nL own nm ret hh R Kf Wd A (vv_x P)) (d : decode cc pc = .ok (.ireturn, 1)) (hr : ret = some .int) (hp : P x σ) : v σ bc bs pc ls [.int x] := v_iret F d hr (fun _ _ _ _ => ⟨x, rfl, hp⟩)
variable {post : vv_O S} {yy : MethodName} {ws : List Cond} {maxL idx f f' lo lo' : Nat} {As : List Value}
/-- static calls of methods that make no cells -/
theorem s_calli (F : vv_F v l cc nL own nm ret hh R Kf Wd A post) (hKm : kM A Kf) (hM : vv_Ct l yy ws (rm f' lo') Kf Wd A As σ (vv_i x P)) (hok : vv_oc yy maxL As.length ws)
    (hl : Cond.methodLink own idx yy ∈ lw_all) (hs : Cond.static yy ∈ lw_all) (hroom : (Nat.ble (f' + 1) R.frames && Nat.ble (8 + (maxL + 11) + lo') R.locals) = true) (hst : Nat.ble (st.map fun v => v.category).sum 8 = true)
    (d : decode cc pc = .ok (.invokestatic idx, 3)) (hq : pc + 3 = q) (hstk : stk = As.reverse ++ st) (k : ∀ u, P u → v u bc bs q ls (.int x :: st)) : v σ bc bs pc ls stk := by
  rw [Bool.and_eq_true] at hroom
  refine v_callS F hKm hM hok hl hs ⟨Nat.le_of_ble_eq_true hroom.1, Nat.le_of_ble_eq_true hroom.2⟩ (Nat.le_of_ble_eq_true hst) d hq hstk (bc' := bc) (bs' := bs) (Nat.zero_add _) (Nat.zero_add _) ?_
  rintro _ u ⟨rfl, h⟩
  exact k u h
end VP
section VPM
variable {v : vv_T mS} {l : Launch} {cc : ByteArray} {nL : Nat} {nm own : String} {ret : Option FieldType} {hh : List (Nat × Nat × Nat × Nat)} {R : Room} {Kf : State → Prop} {D : va_G} {ad : Nat → Nat} {cI cZ : ClassId} {A : Nat → Prop} {post : vv_O mS}
variable {σ : mS} {bc bs pc q : Nat} {ls : List (Nat × Value)} {st stk : List Value} {x : Int32} {P : mS → Prop} {y : MethodName} {ws : List Cond} {maxL idx f f' lo lo' : Nat} {As : List Value}
theorem m_call {p' : Option Value → mS → Prop} (F : vv_F v l cc nL own nm ret hh R Kf (mWd D ad cI cZ A) A post) (G : mG A Kf D cI cZ) (hM : vv_Ct l y ws (rm f' lo') Kf (mWd D ad cI cZ A) A (.ref (ad 0) :: As) σ (vv_R p')) (hok : vv_oc y maxL As.length ws)
    (hl : Cond.methodLink own idx y ∈ lw_all) (hi : Cond.instanceMethod y ∈ lw_all ∧ Cond.selects RX8 y y ∈ lw_all) (hroom : (Nat.ble (f' + 1) R.frames && Nat.ble (8 + (maxL + 11) + lo') R.locals) = true) (hst : Nat.ble (st.map fun v => v.category).sum 8 = true)
    (d : decode cc pc = .ok (.invokevirtual idx, 3)) (hq : pc + 3 = q) (hstk : stk = As.reverse ++ .ref (ad 0) :: st) (k : ∀ r u, p' r u → v u bc bs q ls (r.toList ++ st)) : v σ bc bs pc ls stk := by
  rw [Bool.and_eq_true] at hroom
  exact v_callV F G.1 hM hok hl hi.1 hi.2 (m_recv G) ⟨Nat.le_of_ble_eq_true hroom.1, Nat.le_of_ble_eq_true hroom.2⟩ (Nat.le_of_ble_eq_true hst) d hq hstk (bc' := bc) (bs' := bs) (Nat.zero_add _) (Nat.zero_add _) k
theorem m_calli (F : vv_F v l cc nL own nm ret hh R Kf (mWd D ad cI cZ A) A post) (G : mG A Kf D cI cZ) (hM : vv_Ct l y ws (rm f' lo') Kf (mWd D ad cI cZ A) A (.ref (ad 0) :: As) σ (vv_i x P)) (hok : vv_oc y maxL As.length ws)
    (hl : Cond.methodLink own idx y ∈ lw_all) (hi : Cond.instanceMethod y ∈ lw_all ∧ Cond.selects RX8 y y ∈ lw_all) (hroom : (Nat.ble (f' + 1) R.frames && Nat.ble (8 + (maxL + 11) + lo') R.locals) = true) (hst : Nat.ble (st.map fun v => v.category).sum 8 = true)
    (d : decode cc pc = .ok (.invokevirtual idx, 3)) (hq : pc + 3 = q) (hstk : stk = As.reverse ++ .ref (ad 0) :: st) (k : ∀ u, P u → v u bc bs q ls (.int x :: st)) : v σ bc bs pc ls stk := by
  refine m_call F G hM hok hl hi hroom hst d hq hstk ?_
  rintro _ u ⟨rfl, h⟩
  exact k u h
theorem m_callj {x : Int64} (F : vv_F v l cc nL own nm ret hh R Kf (mWd D ad cI cZ A) A post) (G : mG A Kf D cI cZ) (hM : vv_Ct l y ws (rm f' lo') Kf (mWd D ad cI cZ A) A (.ref (ad 0) :: As) σ (vv_j x P)) (hok : vv_oc y maxL As.length ws)
    (hl : Cond.methodLink own idx y ∈ lw_all) (hi : Cond.instanceMethod y ∈ lw_all ∧ Cond.selects RX8 y y ∈ lw_all) (hroom : (Nat.ble (f' + 1) R.frames && Nat.ble (8 + (maxL + 11) + lo') R.locals) = true) (hst : Nat.ble (st.map fun v => v.category).sum 8 = true)
    (d : decode cc pc = .ok (.invokevirtual idx, 3)) (hq : pc + 3 = q) (hstk : stk = As.reverse ++ .ref (ad 0) :: st) (k : ∀ u, P u → v u bc bs q ls (.long x :: st)) : v σ bc bs pc ls stk := by
  refine m_call F G hM hok hl hi hroom hst d hq hstk ?_
  rintro _ u ⟨rfl, h⟩
  exact k u h
theorem m_calln (F : vv_F v l cc nL own nm ret hh R Kf (mWd D ad cI cZ A) A post) (G : mG A Kf D cI cZ) (hM : vv_Ct l y ws (rm f' lo') Kf (mWd D ad cI cZ A) A (.ref (ad 0) :: As) σ (vv_n P)) (hok : vv_oc y maxL As.length ws)
    (hl : Cond.methodLink own idx y ∈ lw_all) (hi : Cond.instanceMethod y ∈ lw_all ∧ Cond.selects RX8 y y ∈ lw_all) (hroom : (Nat.ble (f' + 1) R.frames && Nat.ble (8 + (maxL + 11) + lo') R.locals) = true) (hst : Nat.ble (st.map fun v => v.category).sum 8 = true)
    (d : decode cc pc = .ok (.invokevirtual idx, 3)) (hq : pc + 3 = q) (hstk : stk = As.reverse ++ .ref (ad 0) :: st) (k : ∀ u, P u → v u bc bs q ls st) : v σ bc bs pc ls stk := by
  refine m_call F G hM hok hl hi hroom hst d hq hstk ?_
  rintro _ u ⟨rfl, h⟩
  exact k u h
theorem m_callx {P : Int32 → mS → Prop} (F : vv_F v l cc nL own nm ret hh R Kf (mWd D ad cI cZ A) A post) (G : mG A Kf D cI cZ) (hM : vv_Ct l y ws (rm f' lo') Kf (mWd D ad cI cZ A) A (.ref (ad 0) :: As) σ (vv_x P)) (hok : vv_oc y maxL As.length ws)
    (hl : Cond.methodLink own idx y ∈ lw_all) (hi : Cond.instanceMethod y ∈ lw_all ∧ Cond.selects RX8 y y ∈ lw_all) (hroom : (Nat.ble (f' + 1) R.frames && Nat.ble (8 + (maxL + 11) + lo') R.locals) = true) (hst : Nat.ble (st.map fun v => v.category).sum 8 = true)
    (d : decode cc pc = .ok (.invokevirtual idx, 3)) (hq : pc + 3 = q) (hstk : stk = As.reverse ++ .ref (ad 0) :: st) (k : ∀ x u, P x u → v u bc bs q ls (.int x :: st)) : v σ bc bs pc ls stk := by
  refine m_call F G hM hok hl hi hroom hst d hq hstk ?_
  rintro _ u ⟨x, rfl, h⟩
  exact k x u h
end VPM
