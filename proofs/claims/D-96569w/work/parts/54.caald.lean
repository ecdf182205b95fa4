/-! THE COMPONENT's WORLD: rows of references, the tape, rows by their number -/
set_option maxRecDepth 100000
section CA
variable {v : vv_T cS} {l : Launch} {cc : ByteArray} {nL : Nat} {own nm : String} {ret : Option FieldType} {hh : List (Nat × Nat × Nat × Nat)} {R : Room} {Kf : State → Prop} {D : va_G} {K : Nat → ClassId} {fv : List Value × (Nat → Nat)} {A : Nat → Prop} {Pn : cS → Prop} {post : vv_O cS}
variable {n n' : mS} {δ : Nat → Nat} {ν : Nat → Option (Mg × Nat)} {bc bs pc q : Nat} {ls : List (Nat × Value)} {st : List Value} {L : List Nat} {f : Nat → va_E} {H H1 : Heap}
/-- a row of references is read -/
theorem c_aald (F : vv_F v l cc nL own nm ret hh R Kf (cWdP Pn D K fv A) A post) (G : cG A fv Pn Kf D K) (k t0 N : Nat) {cA : ClassId} {ty : FieldType} {t a : Nat} (hE : ∀ n', cAg n n' → ∃ g : Nat → Option Nat, cE K fv n' δ k = some (.inl (cA, N, rfs g)) ∧ g t = some a) (ht0 : (kT K)[t0]? = some (cA, ty)) (hty : ty.isReference = true) (ht : t < N) (hN : N ≤ 160) (d : decode cc pc = .ok (.aaload, 1)) (hq : pc + 1 = q) (kk : v (n, δ, ν) bc bs q ls (.ref a :: st)) : v (n, δ, ν) bc bs pc ls (.int (nI t) :: .ref (δ k) :: st) := by
  obtain ⟨p, e, s, m, args, below, meth, c, ⟨hx, hb, hml, hown, hts⟩, -, ⟨hKf, hA⟩, rfl⟩ := F
  subst hq
  intro H locs cells slots arr hW hS h1 h2 hl2
  obtain ⟨n', L, f, hag, hrp, htx, hpn, hP, hD⟩ := id hW
  obtain ⟨g, hg, hga⟩ := hE n' hag
  obtain ⟨g1, g2⟩ := hrp.1 k _ hg
  obtain ⟨q0, hq0⟩ := va_pl_get (X := []) (f := f) g1
  rw [g2] at hq0
  have hc : (nI t).toNatClampNeg = t := nI_clamp (by omega)
  have hin := vp_in_nI ht (show N < 2 ^ 31 by omega)
  refine W.aald (v := .ref a) (ty := ty) hx hb (hP q0 _ hq0) (((G.2.1 s hKf).2 t0 _ ht0).1 N (fun j => va_rf (g j))) hty (fun q => by cases q) (by show ¬ (nI t < 0 ∨ (arrV _ _ _).slots.size ≤ _); rw [arrV_size]; exact hin) (by show (arrV _ _ _).slots[_]? = _; rw [hc, arrV_read _ _ ht, hga]; rfl) rfl rfl d (kk H locs cells slots arr hW hS h1 h2 hl2)
theorem c_plant (F : vv_F v l cc nL own nm ret hh R Kf (cWdP Pn D K fv A) A post) (G : cG A fv Pn Kf D K) {s : Nat} (hlv : cLv n s) (hs : s < 8) (d : decode cc pc = .ok (.aaload, 1)) (hq : pc + 1 = q) (kk : v (n, δ, ν) bc bs q ls (.ref (δ (200 + s)) :: st)) : v (n, δ, ν) bc bs pc ls (.int (nI s) :: .ref (δ 1) :: st) :=
  c_aald F G 1 4 8 (fun n' ha => ⟨_, rfl, by show (if s < 8 ∧ n' 56 s ≠ 0 then some (δ (200 + s)) else none) = _; rw [if_pos ⟨hs, by rw [hlv.k ha]; decide⟩]⟩) rfl rfl hs (by decide) d hq kk
theorem c_behind (F : vv_F v l cc nL own nm ret hh R Kf (cWdP Pn D K fv A) A post) (G : cG A fv Pn Kf D K) {t : Nat} (ht : t < 31) (d : decode cc pc = .ok (.aaload, 1)) (hq : pc + 1 = q) (kk : v (n, δ, ν) bc bs q ls (.ref (δ (100 + t)) :: st)) : v (n, δ, ν) bc bs pc ls (.int (nI t) :: .ref (δ 22) :: st) :=
  c_aald F G 22 8 31 (fun n' ha => ⟨_, rfl, rb_at ht⟩) rfl rfl ht (by decide) d hq kk
theorem c_imgr (F : vv_F v l cc nL own nm ret hh R Kf (cWdP Pn D K fv A) A post) (G : cG A fv Pn Kf D K) {t : Nat} (ht : t < 3) (d : decode cc pc = .ok (.aaload, 1)) (hq : pc + 1 = q) (kk : v (n, δ, ν) bc bs q ls (.ref (δ (140 + t)) :: st)) : v (n, δ, ν) bc bs pc ls (.int (nI t) :: .ref (δ 28) :: st) :=
  c_aald F G 28 8 3 (fun n' ha => ⟨_, rfl, rb_at ht⟩) rfl rfl ht (by decide) d hq kk
theorem c_sheet (F : vv_F v l cc nL own nm ret hh R Kf (cWdP Pn D K fv A) A post) (G : cG A fv Pn Kf D K) {t : Nat} (ht : t < 4) (d : decode cc pc = .ok (.aaload, 1)) (hq : pc + 1 = q) (kk : v (n, δ, ν) bc bs q ls (.ref (δ (150 + t)) :: st)) : v (n, δ, ν) bc bs pc ls (.int (nI t) :: .ref (δ 30) :: st) :=
  c_aald F G 30 9 4 (fun n' ha => ⟨_, rfl, rb_at ht⟩) rfl rfl ht (by decide) d hq kk
theorem c_text (F : vv_F v l cc nL own nm ret hh R Kf (cWdP Pn D K fv A) A post) (G : cG A fv Pn Kf D K) {t : Nat} (ht : t < tn (n 0 3)) (h6 : t < 6) (d : decode cc pc = .ok (.aaload, 1)) (hq : pc + 1 = q) (kk : v (n, δ, ν) bc bs q ls (.ref (δ (220 + t)) :: st)) : v (n, δ, ν) bc bs pc ls (.int (nI t) :: .ref (δ 8) :: st) :=
  c_aald F G 8 6 6 (fun n' ha => ⟨_, rfl, by show (if t < 6 ∧ t < tn (n' 0 3) + tn (n' 0 61) then some (δ (220 + t)) else none) = _; rw [ha.z, if_pos ⟨h6, by omega⟩]⟩) rfl rfl h6 (by decide) d hq kk
theorem cE_t {t : Nat} (h6 : t < 6) (ht : t < tn (n 0 3) + tn (n 0 61)) : cE K fv n δ (220 + t) = some (.inl (K 5, 3, rfs (rb 3 (fun w => δ (250 + 3 * t + w))))) := by
  unfold cE cE1
  rw [if_neg (by omega), if_neg (by omega), if_neg (by omega), if_neg (by omega), if_neg (by omega), if_neg (by omega), if_pos (by omega), Nat.add_sub_cancel_left, if_pos ht]
theorem c_node (F : vv_F v l cc nL own nm ret hh R Kf (cWdP Pn D K fv A) A post) (G : cG A fv Pn Kf D K) {t w : Nat} (ht : t < tn (n 0 3)) (h6 : t < 6) (hw : w < 3) (d : decode cc pc = .ok (.aaload, 1)) (hq : pc + 1 = q) (kk : v (n, δ, ν) bc bs q ls (.ref (δ (250 + 3 * t + w)) :: st)) : v (n, δ, ν) bc bs pc ls (.int (nI w) :: .ref (δ (220 + t)) :: st) :=
  c_aald F G (220 + t) 5 3 (fun n' ha => ⟨_, cE_t h6 (by rw [ha.z]; omega), rb_at hw⟩) rfl rfl hw (by decide) d hq kk
theorem cE_r {t : Nat} (ht : t < 31) : cE K fv n δ (100 + t) = some (.inl (K 0, 8, .inl (n (70 + t)))) := by
  unfold cE cE1
  rw [if_neg (by omega), if_pos (by omega), show 100 + t - 30 = 70 + t by omega]
theorem c_bld (F : vv_F v l cc nL own nm ret hh R Kf (cWdP Pn D K fv A) A post) (G : cG A fv Pn Kf D K) {t i : Nat} (ht : t < 31) (hi : i < 8) (d : decode cc pc = .ok (.iaload, 1)) (hq : pc + 1 = q) (kk : v (n, δ, ν) bc bs q ls (.int (n (70 + t) i) :: st)) : v (n, δ, ν) bc bs pc ls (.int (nI i) :: .ref (δ (100 + t)) :: st) :=
  c_ald F G (100 + t) (70 + t) 8 (fun _ => cE_r ht) (by unfold rowO; omega) hi (by decide) d hq kk
theorem c_bst (F : vv_F v l cc nL own nm ret hh R Kf (cWdP Pn D K fv A) A post) (G : cG A fv Pn Kf D K) {t i : Nat} {x : Int32} (ht : t < 31) (hi : i < 8) (d : decode cc pc = .ok (.iastore, 1)) (hq : pc + 1 = q) (kk : v (up n (70 + t) i x, δ, ν) bc bs q ls st) : v (n, δ, ν) bc bs pc ls (.int x :: .int (nI i) :: .ref (δ (100 + t)) :: st) :=
  c_ast F G (100 + t) (70 + t) 8 (fun _ => cE_r ht) (by unfold rdI; rw [if_neg (by omega), if_neg (by omega), if_neg (by omega), if_neg (by omega), if_neg (by omega), if_neg (by omega), if_neg (by omega), if_neg (by omega), if_pos (by omega)]; omega) (by unfold rowO; omega) (by unfold frc; omega) (by omega) (by omega) (by omega) hi (by decide) d hq kk
end CA
