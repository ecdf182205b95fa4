/-! THE REFERENCE's WORLD: σ 0 k: its field k, a number (field 25, a long, by its int); σ k j: place j of the array in field k -/
set_option maxRecDepth 100000
abbrev vwCl : List vw_C := [(RX0, TX0, 31), (RX2, TX2, 1), (RX4, TX4, 2), (RX5, TX5, 1), (RX6, TX6, 2), (RX7, TX7, 3), (RX8, TX8, 42), (RX9, TX9, 3), (RX10, TX10, 3), (RX11, TX11, 3), (RX12, TX12, 3), (RX13, TX13, 3), (RX14, TX14, 3), (RX1, TX1, 6), (RJ9, TJ9, 6)]
abbrev mS : Type := Nat → Nat → Int32
def up (σ : mS) (k j : Nat) (x : Int32) : mS := fun a b => if a = k then (if b = j then x else σ a b) else σ a b
def mF (ad : Nat → Nat) (σ : mS) : List Value := [.int (σ 0 0), .ref (ad 1), .ref (ad 2), .int (σ 0 3), .int (σ 0 4), .ref (ad 5), .int (σ 0 6), .int (σ 0 7), .int (σ 0 8), .int (σ 0 9), .ref (ad 10), .ref (ad 11), .ref (ad 12), .int (σ 0 13), .int (σ 0 14), .int (σ 0 15), .int (σ 0 16), .int (σ 0 17), .int (σ 0 18), .int (σ 0 19), .int (σ 0 20), .int (σ 0 21), .int (σ 0 22), .int (σ 0 23), .int (σ 0 24), .long (σ 0 25).toInt64, .int (σ 0 26), .int (σ 0 27), .int (σ 0 28), .ref (ad 29), .int (σ 0 30), .ref (ad 31), .ref (ad 32), .int (σ 0 33), .int (σ 0 34), .int (σ 0 35), .int (σ 0 36), .int (σ 0 37), .ref (ad 38), .ref (ad 39), .ref (ad 40), .ref (ad 41)]
def mW (ad : Nat → Nat) (cI cZ : ClassId) (σ : mS) : va_W := [(ad 0, .inr (6, mF ad σ)), (ad 1, .inl (cI, 960, .inl (σ 1))), (ad 2, .inl (cI, 6, .inl (σ 2))), (ad 5, .inl (cI, 160, .inl (σ 5))), (ad 10, .inl (cI, 8, .inl (σ 10))), (ad 11, .inl (cI, 8, .inl (σ 11))), (ad 12, .inl (cI, 24, .inl (σ 12))), (ad 29, .inl (cI, 24, .inl (σ 29))), (ad 31, .inl (cI, 8, .inl (σ 31))), (ad 32, .inl (cI, 24, .inl (σ 32))), (ad 38, .inl (cZ, 4, .inl (σ 38))), (ad 39, .inl (cI, 4, .inl (σ 39))), (ad 40, .inl (cI, 4, .inl (σ 40))), (ad 41, .inl (cI, 160, .inl (σ 41)))]
def mWd (D : va_G) (ad : Nat → Nat) (cI cZ : ClassId) (A : Nat → Prop) (σ : mS) (H : Heap) : Prop := va_P D vwCl (mW ad cI cZ σ) H ∧ va_D A (mW ad cI cZ σ)
def mG (A : Nat → Prop) (Kf : State → Prop) (D : va_G) (cI cZ : ClassId) : Prop := (kM A Kf) ∧ ∀ U, Kf U → va_K D vwCl [(cI, .int), (cZ, .boolean)] U
section MW
variable {v : vv_T mS} {l : Launch} {cc : ByteArray} {nL : Nat} {nm : String} {ret : Option FieldType} {hh : List (Nat × Nat × Nat × Nat)} {R : Room} {Kf : State → Prop} {D : va_G} {ad : Nat → Nat} {cI cZ : ClassId} {A : Nat → Prop} {post : vv_O mS}
variable {σ : mS} {bc bs pc q : Nat} {ls : List (Nat × Value)} {st : List Value}
theorem m_recv (G : mG A Kf D cI cZ) (s : State) (H : Heap) (hK : Kf s) (hW : mWd D ad cI cZ A σ H) : ∃ cell : Cell, H[ad 0]? = some cell ∧ cell.vm.isStatics = false ∧ s.vm.findClass RX8 = some cell.cls :=
  va_recv (G.2 s hK) hW.1 (ci := 6) (q0 := 0) rfl rfl
theorem m_get (F : vv_F v l cc nL RX8 nm ret hh R Kf (mWd D ad cI cZ A) A post) (G : mG A Kf D cI cZ) (k : Nat) {w : Value} {idx : Nat} (hk : k < 42) (hl : Cond.fieldLink RX8 idx (TX8 k).1 (TX8 k).2.1 (TX8 k).2.2.1 ∈ lw_all) (hv : (mF ad σ)[k]? = some w) (d : decode cc pc = .ok (.getfield idx, 3)) (hq : pc + 3 = q) (kk : v σ bc bs q ls (w :: st)) : v σ bc bs pc ls (.ref (ad 0) :: st) := by
  obtain ⟨p, e, s, m, args, below, meth, c, ⟨hx, hb, hml, hown, hts⟩, -, ⟨hKf, hA⟩, rfl⟩ := F
  subst hq
  intro H locs cells slots arr hW hS h1 h2 hl2
  exact va_get (D := D) (ci := 6) (C := RX8) (T := TX8) (N := 42) hx hb hts in_X8 hown (G.2 s hKf) hW.1 0 rfl rfl k hk (hts _ hl) (fun _ h9 => h9) hv d (kk H locs cells slots arr hW hS h1 h2 hl2)
theorem m_put (F : vv_F v l cc nL RX8 nm ret hh R Kf (mWd D ad cI cZ A) A post) (G : mG A Kf D cI cZ) (k : Nat) {w : Value} {x : Int32} {ty : FieldType} {idx : Nat} (hk : k < 42) (hl : Cond.fieldLink RX8 idx (TX8 k).1 (TX8 k).2.1 (TX8 k).2.2.1 ∈ lw_all) (hfin : (TX8 k).2.2.2 = false) (hd : parseFieldDescriptor (TX8 k).2.2.1 = some ty) (hn : narrow ty w = w) (hfit : fits ty w = true) (hs : (mF ad σ).set k w = mF ad (up σ 0 k x))
    (d : decode cc pc = .ok (.putfield idx, 3)) (hq : pc + 3 = q) (kk : v (up σ 0 k x) bc bs q ls st) : v σ bc bs pc ls (w :: .ref (ad 0) :: st) := by
  obtain ⟨p, e, s, m, args, below, meth, c, ⟨hx, hb, hml, hown, hts⟩, -, ⟨hKf, hA⟩, rfl⟩ := F
  subst hq
  intro H locs cells slots arr hW hS h1 h2 hl2
  refine va_put (D := D) (ci := 6) (C := RX8) (T := TX8) (N := 42) hx hb hts in_X8 tyX8 tyX8_ok nmX8 hown (G.2 s hKf) hW.1 hW.2 hS 0 rfl rfl k hk (hts _ hl) (fun _ h9 => h9) hfin hd hn hfit hk d (fun H1 locs1 hP1 hD1 hS1 => ?_)
  rw [hs] at hP1 hD1
  exact kk H1 locs1 cells slots arr ⟨hP1, hD1⟩ hS1 h1 h2 hl2
theorem m_put0 (F : vv_F v l cc nL RX8 nm ret hh R Kf (mWd D ad cI cZ A) A post) (G : mG A Kf D cI cZ) {idx : Nat} (hl : Cond.fieldLink RX8 idx (TX8 0).1 (TX8 0).2.1 (TX8 0).2.2.1 ∈ lw_all) {x : Int32} (d : decode cc pc = .ok (.putfield idx, 3)) (hq : pc + 3 = q) (kk : v (up σ 0 0 x) bc bs q ls st) : v σ bc bs pc ls (.int x :: .ref (ad 0) :: st) :=
  m_put F G 0 (by decide) hl rfl (ty := .int) (by decide +kernel) rfl rfl rfl d hq kk
theorem m_put3 (F : vv_F v l cc nL RX8 nm ret hh R Kf (mWd D ad cI cZ A) A post) (G : mG A Kf D cI cZ) {idx : Nat} (hl : Cond.fieldLink RX8 idx (TX8 3).1 (TX8 3).2.1 (TX8 3).2.2.1 ∈ lw_all) {x : Int32} (d : decode cc pc = .ok (.putfield idx, 3)) (hq : pc + 3 = q) (kk : v (up σ 0 3 x) bc bs q ls st) : v σ bc bs pc ls (.int x :: .ref (ad 0) :: st) :=
  m_put F G 3 (by decide) hl rfl (ty := .int) (by decide +kernel) rfl rfl rfl d hq kk
theorem m_put4 (F : vv_F v l cc nL RX8 nm ret hh R Kf (mWd D ad cI cZ A) A post) (G : mG A Kf D cI cZ) {idx : Nat} (hl : Cond.fieldLink RX8 idx (TX8 4).1 (TX8 4).2.1 (TX8 4).2.2.1 ∈ lw_all) {x : Int32} (d : decode cc pc = .ok (.putfield idx, 3)) (hq : pc + 3 = q) (kk : v (up σ 0 4 x) bc bs q ls st) : v σ bc bs pc ls (.int x :: .ref (ad 0) :: st) :=
  m_put F G 4 (by decide) hl rfl (ty := .int) (by decide +kernel) rfl rfl rfl d hq kk
theorem m_put6 (F : vv_F v l cc nL RX8 nm ret hh R Kf (mWd D ad cI cZ A) A post) (G : mG A Kf D cI cZ) {idx : Nat} (hl : Cond.fieldLink RX8 idx (TX8 6).1 (TX8 6).2.1 (TX8 6).2.2.1 ∈ lw_all) {x : Int32} (d : decode cc pc = .ok (.putfield idx, 3)) (hq : pc + 3 = q) (kk : v (up σ 0 6 x) bc bs q ls st) : v σ bc bs pc ls (.int x :: .ref (ad 0) :: st) :=
  m_put F G 6 (by decide) hl rfl (ty := .int) (by decide +kernel) rfl rfl rfl d hq kk
theorem m_put7 (F : vv_F v l cc nL RX8 nm ret hh R Kf (mWd D ad cI cZ A) A post) (G : mG A Kf D cI cZ) {idx : Nat} (hl : Cond.fieldLink RX8 idx (TX8 7).1 (TX8 7).2.1 (TX8 7).2.2.1 ∈ lw_all) {x : Int32} (d : decode cc pc = .ok (.putfield idx, 3)) (hq : pc + 3 = q) (kk : v (up σ 0 7 x) bc bs q ls st) : v σ bc bs pc ls (.int x :: .ref (ad 0) :: st) :=
  m_put F G 7 (by decide) hl rfl (ty := .int) (by decide +kernel) rfl rfl rfl d hq kk
theorem m_put8 (F : vv_F v l cc nL RX8 nm ret hh R Kf (mWd D ad cI cZ A) A post) (G : mG A Kf D cI cZ) {idx : Nat} (hl : Cond.fieldLink RX8 idx (TX8 8).1 (TX8 8).2.1 (TX8 8).2.2.1 ∈ lw_all) {x : Int32} (d : decode cc pc = .ok (.putfield idx, 3)) (hq : pc + 3 = q) (kk : v (up σ 0 8 x) bc bs q ls st) : v σ bc bs pc ls (.int x :: .ref (ad 0) :: st) :=
  m_put F G 8 (by decide) hl rfl (ty := .int) (by decide +kernel) rfl rfl rfl d hq kk
theorem m_put9 (F : vv_F v l cc nL RX8 nm ret hh R Kf (mWd D ad cI cZ A) A post) (G : mG A Kf D cI cZ) {idx : Nat} (hl : Cond.fieldLink RX8 idx (TX8 9).1 (TX8 9).2.1 (TX8 9).2.2.1 ∈ lw_all) {x : Int32} (d : decode cc pc = .ok (.putfield idx, 3)) (hq : pc + 3 = q) (kk : v (up σ 0 9 x) bc bs q ls st) : v σ bc bs pc ls (.int x :: .ref (ad 0) :: st) :=
  m_put F G 9 (by decide) hl rfl (ty := .int) (by decide +kernel) rfl rfl rfl d hq kk
theorem m_put13 (F : vv_F v l cc nL RX8 nm ret hh R Kf (mWd D ad cI cZ A) A post) (G : mG A Kf D cI cZ) {idx : Nat} (hl : Cond.fieldLink RX8 idx (TX8 13).1 (TX8 13).2.1 (TX8 13).2.2.1 ∈ lw_all) {x : Int32} (d : decode cc pc = .ok (.putfield idx, 3)) (hq : pc + 3 = q) (kk : v (up σ 0 13 x) bc bs q ls st) : v σ bc bs pc ls (.int x :: .ref (ad 0) :: st) :=
  m_put F G 13 (by decide) hl rfl (ty := .int) (by decide +kernel) rfl rfl rfl d hq kk
theorem m_put14 (F : vv_F v l cc nL RX8 nm ret hh R Kf (mWd D ad cI cZ A) A post) (G : mG A Kf D cI cZ) {idx : Nat} (hl : Cond.fieldLink RX8 idx (TX8 14).1 (TX8 14).2.1 (TX8 14).2.2.1 ∈ lw_all) {x : Int32} (d : decode cc pc = .ok (.putfield idx, 3)) (hq : pc + 3 = q) (kk : v (up σ 0 14 x) bc bs q ls st) : v σ bc bs pc ls (.int x :: .ref (ad 0) :: st) :=
  m_put F G 14 (by decide) hl rfl (ty := .int) (by decide +kernel) rfl rfl rfl d hq kk
theorem m_put15 (F : vv_F v l cc nL RX8 nm ret hh R Kf (mWd D ad cI cZ A) A post) (G : mG A Kf D cI cZ) {idx : Nat} (hl : Cond.fieldLink RX8 idx (TX8 15).1 (TX8 15).2.1 (TX8 15).2.2.1 ∈ lw_all) {x : Int32} (d : decode cc pc = .ok (.putfield idx, 3)) (hq : pc + 3 = q) (kk : v (up σ 0 15 x) bc bs q ls st) : v σ bc bs pc ls (.int x :: .ref (ad 0) :: st) :=
  m_put F G 15 (by decide) hl rfl (ty := .int) (by decide +kernel) rfl rfl rfl d hq kk
theorem m_put16 (F : vv_F v l cc nL RX8 nm ret hh R Kf (mWd D ad cI cZ A) A post) (G : mG A Kf D cI cZ) {idx : Nat} (hl : Cond.fieldLink RX8 idx (TX8 16).1 (TX8 16).2.1 (TX8 16).2.2.1 ∈ lw_all) {x : Int32} (d : decode cc pc = .ok (.putfield idx, 3)) (hq : pc + 3 = q) (kk : v (up σ 0 16 x) bc bs q ls st) : v σ bc bs pc ls (.int x :: .ref (ad 0) :: st) :=
  m_put F G 16 (by decide) hl rfl (ty := .int) (by decide +kernel) rfl rfl rfl d hq kk
theorem m_put17 (F : vv_F v l cc nL RX8 nm ret hh R Kf (mWd D ad cI cZ A) A post) (G : mG A Kf D cI cZ) {idx : Nat} (hl : Cond.fieldLink RX8 idx (TX8 17).1 (TX8 17).2.1 (TX8 17).2.2.1 ∈ lw_all) {x : Int32} (d : decode cc pc = .ok (.putfield idx, 3)) (hq : pc + 3 = q) (kk : v (up σ 0 17 x) bc bs q ls st) : v σ bc bs pc ls (.int x :: .ref (ad 0) :: st) :=
  m_put F G 17 (by decide) hl rfl (ty := .int) (by decide +kernel) rfl rfl rfl d hq kk
theorem m_put18 (F : vv_F v l cc nL RX8 nm ret hh R Kf (mWd D ad cI cZ A) A post) (G : mG A Kf D cI cZ) {idx : Nat} (hl : Cond.fieldLink RX8 idx (TX8 18).1 (TX8 18).2.1 (TX8 18).2.2.1 ∈ lw_all) {x : Int32} (d : decode cc pc = .ok (.putfield idx, 3)) (hq : pc + 3 = q) (kk : v (up σ 0 18 x) bc bs q ls st) : v σ bc bs pc ls (.int x :: .ref (ad 0) :: st) :=
  m_put F G 18 (by decide) hl rfl (ty := .int) (by decide +kernel) rfl rfl rfl d hq kk
theorem m_put19 (F : vv_F v l cc nL RX8 nm ret hh R Kf (mWd D ad cI cZ A) A post) (G : mG A Kf D cI cZ) {idx : Nat} (hl : Cond.fieldLink RX8 idx (TX8 19).1 (TX8 19).2.1 (TX8 19).2.2.1 ∈ lw_all) {x : Int32} (d : decode cc pc = .ok (.putfield idx, 3)) (hq : pc + 3 = q) (kk : v (up σ 0 19 x) bc bs q ls st) : v σ bc bs pc ls (.int x :: .ref (ad 0) :: st) :=
  m_put F G 19 (by decide) hl rfl (ty := .int) (by decide +kernel) rfl rfl rfl d hq kk
theorem m_put20 (F : vv_F v l cc nL RX8 nm ret hh R Kf (mWd D ad cI cZ A) A post) (G : mG A Kf D cI cZ) {idx : Nat} (hl : Cond.fieldLink RX8 idx (TX8 20).1 (TX8 20).2.1 (TX8 20).2.2.1 ∈ lw_all) {x : Int32} (d : decode cc pc = .ok (.putfield idx, 3)) (hq : pc + 3 = q) (kk : v (up σ 0 20 x) bc bs q ls st) : v σ bc bs pc ls (.int x :: .ref (ad 0) :: st) :=
  m_put F G 20 (by decide) hl rfl (ty := .int) (by decide +kernel) rfl rfl rfl d hq kk
theorem m_put21 (F : vv_F v l cc nL RX8 nm ret hh R Kf (mWd D ad cI cZ A) A post) (G : mG A Kf D cI cZ) {idx : Nat} (hl : Cond.fieldLink RX8 idx (TX8 21).1 (TX8 21).2.1 (TX8 21).2.2.1 ∈ lw_all) {x : Int32} (d : decode cc pc = .ok (.putfield idx, 3)) (hq : pc + 3 = q) (kk : v (up σ 0 21 x) bc bs q ls st) : v σ bc bs pc ls (.int x :: .ref (ad 0) :: st) :=
  m_put F G 21 (by decide) hl rfl (ty := .int) (by decide +kernel) rfl rfl rfl d hq kk
theorem m_put22 (F : vv_F v l cc nL RX8 nm ret hh R Kf (mWd D ad cI cZ A) A post) (G : mG A Kf D cI cZ) {idx : Nat} (hl : Cond.fieldLink RX8 idx (TX8 22).1 (TX8 22).2.1 (TX8 22).2.2.1 ∈ lw_all) {x : Int32} (d : decode cc pc = .ok (.putfield idx, 3)) (hq : pc + 3 = q) (kk : v (up σ 0 22 x) bc bs q ls st) : v σ bc bs pc ls (.int x :: .ref (ad 0) :: st) :=
  m_put F G 22 (by decide) hl rfl (ty := .int) (by decide +kernel) rfl rfl rfl d hq kk
theorem m_put23 (F : vv_F v l cc nL RX8 nm ret hh R Kf (mWd D ad cI cZ A) A post) (G : mG A Kf D cI cZ) {idx : Nat} (hl : Cond.fieldLink RX8 idx (TX8 23).1 (TX8 23).2.1 (TX8 23).2.2.1 ∈ lw_all) {x : Int32} (d : decode cc pc = .ok (.putfield idx, 3)) (hq : pc + 3 = q) (kk : v (up σ 0 23 x) bc bs q ls st) : v σ bc bs pc ls (.int x :: .ref (ad 0) :: st) :=
  m_put F G 23 (by decide) hl rfl (ty := .int) (by decide +kernel) rfl rfl rfl d hq kk
theorem m_put24 (F : vv_F v l cc nL RX8 nm ret hh R Kf (mWd D ad cI cZ A) A post) (G : mG A Kf D cI cZ) {idx : Nat} (hl : Cond.fieldLink RX8 idx (TX8 24).1 (TX8 24).2.1 (TX8 24).2.2.1 ∈ lw_all) {x : Int32} (d : decode cc pc = .ok (.putfield idx, 3)) (hq : pc + 3 = q) (kk : v (up σ 0 24 x) bc bs q ls st) : v σ bc bs pc ls (.int x :: .ref (ad 0) :: st) :=
  m_put F G 24 (by decide) hl rfl (ty := .int) (by decide +kernel) rfl rfl rfl d hq kk
theorem m_put25 (F : vv_F v l cc nL RX8 nm ret hh R Kf (mWd D ad cI cZ A) A post) (G : mG A Kf D cI cZ) {idx : Nat} (hl : Cond.fieldLink RX8 idx (TX8 25).1 (TX8 25).2.1 (TX8 25).2.2.1 ∈ lw_all) {y : Int64} (x : Int32) (hy : y = x.toInt64) (d : decode cc pc = .ok (.putfield idx, 3)) (hq : pc + 3 = q) (kk : v (up σ 0 25 x) bc bs q ls st) : v σ bc bs pc ls (.long y :: .ref (ad 0) :: st) := by
  subst hy; exact m_put F G 25 (by decide) hl rfl (ty := .long) (by decide +kernel) rfl rfl rfl d hq kk
theorem m_put26 (F : vv_F v l cc nL RX8 nm ret hh R Kf (mWd D ad cI cZ A) A post) (G : mG A Kf D cI cZ) {idx : Nat} (hl : Cond.fieldLink RX8 idx (TX8 26).1 (TX8 26).2.1 (TX8 26).2.2.1 ∈ lw_all) {x : Int32} (d : decode cc pc = .ok (.putfield idx, 3)) (hq : pc + 3 = q) (kk : v (up σ 0 26 x) bc bs q ls st) : v σ bc bs pc ls (.int x :: .ref (ad 0) :: st) :=
  m_put F G 26 (by decide) hl rfl (ty := .int) (by decide +kernel) rfl rfl rfl d hq kk
theorem m_put27 (F : vv_F v l cc nL RX8 nm ret hh R Kf (mWd D ad cI cZ A) A post) (G : mG A Kf D cI cZ) {idx : Nat} (hl : Cond.fieldLink RX8 idx (TX8 27).1 (TX8 27).2.1 (TX8 27).2.2.1 ∈ lw_all) {x : Int32} (h01 : x = 0 ∨ x = 1) (d : decode cc pc = .ok (.putfield idx, 3)) (hq : pc + 3 = q) (kk : v (up σ 0 27 x) bc bs q ls st) : v σ bc bs pc ls (.int x :: .ref (ad 0) :: st) := by
  rcases h01 with rfl | rfl <;> exact m_put F G 27 (by decide) hl rfl (ty := .boolean) (by decide +kernel) rfl rfl rfl d hq kk
theorem m_put28 (F : vv_F v l cc nL RX8 nm ret hh R Kf (mWd D ad cI cZ A) A post) (G : mG A Kf D cI cZ) {idx : Nat} (hl : Cond.fieldLink RX8 idx (TX8 28).1 (TX8 28).2.1 (TX8 28).2.2.1 ∈ lw_all) {x : Int32} (d : decode cc pc = .ok (.putfield idx, 3)) (hq : pc + 3 = q) (kk : v (up σ 0 28 x) bc bs q ls st) : v σ bc bs pc ls (.int x :: .ref (ad 0) :: st) :=
  m_put F G 28 (by decide) hl rfl (ty := .int) (by decide +kernel) rfl rfl rfl d hq kk
theorem m_put30 (F : vv_F v l cc nL RX8 nm ret hh R Kf (mWd D ad cI cZ A) A post) (G : mG A Kf D cI cZ) {idx : Nat} (hl : Cond.fieldLink RX8 idx (TX8 30).1 (TX8 30).2.1 (TX8 30).2.2.1 ∈ lw_all) {x : Int32} (d : decode cc pc = .ok (.putfield idx, 3)) (hq : pc + 3 = q) (kk : v (up σ 0 30 x) bc bs q ls st) : v σ bc bs pc ls (.int x :: .ref (ad 0) :: st) :=
  m_put F G 30 (by decide) hl rfl (ty := .int) (by decide +kernel) rfl rfl rfl d hq kk
theorem m_put33 (F : vv_F v l cc nL RX8 nm ret hh R Kf (mWd D ad cI cZ A) A post) (G : mG A Kf D cI cZ) {idx : Nat} (hl : Cond.fieldLink RX8 idx (TX8 33).1 (TX8 33).2.1 (TX8 33).2.2.1 ∈ lw_all) {x : Int32} (d : decode cc pc = .ok (.putfield idx, 3)) (hq : pc + 3 = q) (kk : v (up σ 0 33 x) bc bs q ls st) : v σ bc bs pc ls (.int x :: .ref (ad 0) :: st) :=
  m_put F G 33 (by decide) hl rfl (ty := .int) (by decide +kernel) rfl rfl rfl d hq kk
theorem m_put34 (F : vv_F v l cc nL RX8 nm ret hh R Kf (mWd D ad cI cZ A) A post) (G : mG A Kf D cI cZ) {idx : Nat} (hl : Cond.fieldLink RX8 idx (TX8 34).1 (TX8 34).2.1 (TX8 34).2.2.1 ∈ lw_all) {x : Int32} (d : decode cc pc = .ok (.putfield idx, 3)) (hq : pc + 3 = q) (kk : v (up σ 0 34 x) bc bs q ls st) : v σ bc bs pc ls (.int x :: .ref (ad 0) :: st) :=
  m_put F G 34 (by decide) hl rfl (ty := .int) (by decide +kernel) rfl rfl rfl d hq kk
theorem m_put35 (F : vv_F v l cc nL RX8 nm ret hh R Kf (mWd D ad cI cZ A) A post) (G : mG A Kf D cI cZ) {idx : Nat} (hl : Cond.fieldLink RX8 idx (TX8 35).1 (TX8 35).2.1 (TX8 35).2.2.1 ∈ lw_all) {x : Int32} (d : decode cc pc = .ok (.putfield idx, 3)) (hq : pc + 3 = q) (kk : v (up σ 0 35 x) bc bs q ls st) : v σ bc bs pc ls (.int x :: .ref (ad 0) :: st) :=
  m_put F G 35 (by decide) hl rfl (ty := .int) (by decide +kernel) rfl rfl rfl d hq kk
theorem m_put36 (F : vv_F v l cc nL RX8 nm ret hh R Kf (mWd D ad cI cZ A) A post) (G : mG A Kf D cI cZ) {idx : Nat} (hl : Cond.fieldLink RX8 idx (TX8 36).1 (TX8 36).2.1 (TX8 36).2.2.1 ∈ lw_all) {x : Int32} (d : decode cc pc = .ok (.putfield idx, 3)) (hq : pc + 3 = q) (kk : v (up σ 0 36 x) bc bs q ls st) : v σ bc bs pc ls (.int x :: .ref (ad 0) :: st) :=
  m_put F G 36 (by decide) hl rfl (ty := .int) (by decide +kernel) rfl rfl rfl d hq kk
theorem m_put37 (F : vv_F v l cc nL RX8 nm ret hh R Kf (mWd D ad cI cZ A) A post) (G : mG A Kf D cI cZ) {idx : Nat} (hl : Cond.fieldLink RX8 idx (TX8 37).1 (TX8 37).2.1 (TX8 37).2.2.1 ∈ lw_all) {x : Int32} (d : decode cc pc = .ok (.putfield idx, 3)) (hq : pc + 3 = q) (kk : v (up σ 0 37 x) bc bs q ls st) : v σ bc bs pc ls (.int x :: .ref (ad 0) :: st) :=
  m_put F G 37 (by decide) hl rfl (ty := .int) (by decide +kernel) rfl rfl rfl d hq kk
theorem m_ald1 (F : vv_F v l cc nL RX8 nm ret hh R Kf (mWd D ad cI cZ A) A post) (G : mG A Kf D cI cZ) {t : Nat} (ht : t < 960) (d : decode cc pc = .ok (.iaload, 1)) (hq : pc + 1 = q) (kk : v σ bc bs q ls (.int (σ 1 t) :: st)) : v σ bc bs pc ls (.int (nI t) :: .ref (ad 1) :: st) := by
  obtain ⟨p, e, s, m, args, below, meth, c, ⟨hx, hb, hml, hown, hts⟩, -, ⟨hKf, hA⟩, rfl⟩ := F
  subst hq
  intro H locs cells slots arr hW hS h1 h2 hl2
  have hc : (nI t).toNatClampNeg = t := nI_clamp (by omega)
  refine va_iald hx hb (G.2 s hKf) hW.1 1 0 rfl rfl (vp_in_nI ht (by decide)) d ?_
  rw [hc]; exact kk H locs cells slots arr hW hS h1 h2 hl2
theorem m_ast1 (F : vv_F v l cc nL RX8 nm ret hh R Kf (mWd D ad cI cZ A) A post) (G : mG A Kf D cI cZ) {t : Nat} {x : Int32} (ht : t < 960) (d : decode cc pc = .ok (.iastore, 1)) (hq : pc + 1 = q) (kk : v (up σ 1 t x) bc bs q ls st) : v σ bc bs pc ls (.int x :: .int (nI t) :: .ref (ad 1) :: st) := by
  obtain ⟨p, e, s, m, args, below, meth, c, ⟨hx, hb, hml, hown, hts⟩, -, ⟨hKf, hA⟩, rfl⟩ := F
  subst hq
  intro H locs cells slots arr hW hS h1 h2 hl2
  have hc : (nI t).toNatClampNeg = t := nI_clamp (by omega)
  refine va_iast hx hb (G.2 s hKf) hW.1 hW.2 hS 1 0 rfl rfl (vp_in_nI ht (by decide)) d (fun H1 locs1 hP1 hD1 hS1 => ?_)
  rw [hc] at hP1 hD1; exact kk H1 locs1 cells slots arr ⟨hP1, hD1⟩ hS1 h1 h2 hl2
theorem m_ald2 (F : vv_F v l cc nL RX8 nm ret hh R Kf (mWd D ad cI cZ A) A post) (G : mG A Kf D cI cZ) {t : Nat} (ht : t < 6) (d : decode cc pc = .ok (.iaload, 1)) (hq : pc + 1 = q) (kk : v σ bc bs q ls (.int (σ 2 t) :: st)) : v σ bc bs pc ls (.int (nI t) :: .ref (ad 2) :: st) := by
  obtain ⟨p, e, s, m, args, below, meth, c, ⟨hx, hb, hml, hown, hts⟩, -, ⟨hKf, hA⟩, rfl⟩ := F
  subst hq
  intro H locs cells slots arr hW hS h1 h2 hl2
  have hc : (nI t).toNatClampNeg = t := nI_clamp (by omega)
  refine va_iald hx hb (G.2 s hKf) hW.1 2 0 rfl rfl (vp_in_nI ht (by decide)) d ?_
  rw [hc]; exact kk H locs cells slots arr hW hS h1 h2 hl2
theorem m_ast2 (F : vv_F v l cc nL RX8 nm ret hh R Kf (mWd D ad cI cZ A) A post) (G : mG A Kf D cI cZ) {t : Nat} {x : Int32} (ht : t < 6) (d : decode cc pc = .ok (.iastore, 1)) (hq : pc + 1 = q) (kk : v (up σ 2 t x) bc bs q ls st) : v σ bc bs pc ls (.int x :: .int (nI t) :: .ref (ad 2) :: st) := by
  obtain ⟨p, e, s, m, args, below, meth, c, ⟨hx, hb, hml, hown, hts⟩, -, ⟨hKf, hA⟩, rfl⟩ := F
  subst hq
  intro H locs cells slots arr hW hS h1 h2 hl2
  have hc : (nI t).toNatClampNeg = t := nI_clamp (by omega)
  refine va_iast hx hb (G.2 s hKf) hW.1 hW.2 hS 2 0 rfl rfl (vp_in_nI ht (by decide)) d (fun H1 locs1 hP1 hD1 hS1 => ?_)
  rw [hc] at hP1 hD1; exact kk H1 locs1 cells slots arr ⟨hP1, hD1⟩ hS1 h1 h2 hl2
theorem m_ald5 (F : vv_F v l cc nL RX8 nm ret hh R Kf (mWd D ad cI cZ A) A post) (G : mG A Kf D cI cZ) {t : Nat} (ht : t < 160) (d : decode cc pc = .ok (.iaload, 1)) (hq : pc + 1 = q) (kk : v σ bc bs q ls (.int (σ 5 t) :: st)) : v σ bc bs pc ls (.int (nI t) :: .ref (ad 5) :: st) := by
  obtain ⟨p, e, s, m, args, below, meth, c, ⟨hx, hb, hml, hown, hts⟩, -, ⟨hKf, hA⟩, rfl⟩ := F
  subst hq
  intro H locs cells slots arr hW hS h1 h2 hl2
  have hc : (nI t).toNatClampNeg = t := nI_clamp (by omega)
  refine va_iald hx hb (G.2 s hKf) hW.1 3 0 rfl rfl (vp_in_nI ht (by decide)) d ?_
  rw [hc]; exact kk H locs cells slots arr hW hS h1 h2 hl2
theorem m_ast5 (F : vv_F v l cc nL RX8 nm ret hh R Kf (mWd D ad cI cZ A) A post) (G : mG A Kf D cI cZ) {t : Nat} {x : Int32} (ht : t < 160) (d : decode cc pc = .ok (.iastore, 1)) (hq : pc + 1 = q) (kk : v (up σ 5 t x) bc bs q ls st) : v σ bc bs pc ls (.int x :: .int (nI t) :: .ref (ad 5) :: st) := by
  obtain ⟨p, e, s, m, args, below, meth, c, ⟨hx, hb, hml, hown, hts⟩, -, ⟨hKf, hA⟩, rfl⟩ := F
  subst hq
  intro H locs cells slots arr hW hS h1 h2 hl2
  have hc : (nI t).toNatClampNeg = t := nI_clamp (by omega)
  refine va_iast hx hb (G.2 s hKf) hW.1 hW.2 hS 3 0 rfl rfl (vp_in_nI ht (by decide)) d (fun H1 locs1 hP1 hD1 hS1 => ?_)
  rw [hc] at hP1 hD1; exact kk H1 locs1 cells slots arr ⟨hP1, hD1⟩ hS1 h1 h2 hl2
theorem m_ald10 (F : vv_F v l cc nL RX8 nm ret hh R Kf (mWd D ad cI cZ A) A post) (G : mG A Kf D cI cZ) {t : Nat} (ht : t < 8) (d : decode cc pc = .ok (.iaload, 1)) (hq : pc + 1 = q) (kk : v σ bc bs q ls (.int (σ 10 t) :: st)) : v σ bc bs pc ls (.int (nI t) :: .ref (ad 10) :: st) := by
  obtain ⟨p, e, s, m, args, below, meth, c, ⟨hx, hb, hml, hown, hts⟩, -, ⟨hKf, hA⟩, rfl⟩ := F
  subst hq
  intro H locs cells slots arr hW hS h1 h2 hl2
  have hc : (nI t).toNatClampNeg = t := nI_clamp (by omega)
  refine va_iald hx hb (G.2 s hKf) hW.1 4 0 rfl rfl (vp_in_nI ht (by decide)) d ?_
  rw [hc]; exact kk H locs cells slots arr hW hS h1 h2 hl2
theorem m_ast10 (F : vv_F v l cc nL RX8 nm ret hh R Kf (mWd D ad cI cZ A) A post) (G : mG A Kf D cI cZ) {t : Nat} {x : Int32} (ht : t < 8) (d : decode cc pc = .ok (.iastore, 1)) (hq : pc + 1 = q) (kk : v (up σ 10 t x) bc bs q ls st) : v σ bc bs pc ls (.int x :: .int (nI t) :: .ref (ad 10) :: st) := by
  obtain ⟨p, e, s, m, args, below, meth, c, ⟨hx, hb, hml, hown, hts⟩, -, ⟨hKf, hA⟩, rfl⟩ := F
  subst hq
  intro H locs cells slots arr hW hS h1 h2 hl2
  have hc : (nI t).toNatClampNeg = t := nI_clamp (by omega)
  refine va_iast hx hb (G.2 s hKf) hW.1 hW.2 hS 4 0 rfl rfl (vp_in_nI ht (by decide)) d (fun H1 locs1 hP1 hD1 hS1 => ?_)
  rw [hc] at hP1 hD1; exact kk H1 locs1 cells slots arr ⟨hP1, hD1⟩ hS1 h1 h2 hl2
theorem m_ald11 (F : vv_F v l cc nL RX8 nm ret hh R Kf (mWd D ad cI cZ A) A post) (G : mG A Kf D cI cZ) {t : Nat} (ht : t < 8) (d : decode cc pc = .ok (.iaload, 1)) (hq : pc + 1 = q) (kk : v σ bc bs q ls (.int (σ 11 t) :: st)) : v σ bc bs pc ls (.int (nI t) :: .ref (ad 11) :: st) := by
  obtain ⟨p, e, s, m, args, below, meth, c, ⟨hx, hb, hml, hown, hts⟩, -, ⟨hKf, hA⟩, rfl⟩ := F
  subst hq
  intro H locs cells slots arr hW hS h1 h2 hl2
  have hc : (nI t).toNatClampNeg = t := nI_clamp (by omega)
  refine va_iald hx hb (G.2 s hKf) hW.1 5 0 rfl rfl (vp_in_nI ht (by decide)) d ?_
  rw [hc]; exact kk H locs cells slots arr hW hS h1 h2 hl2
theorem m_ast11 (F : vv_F v l cc nL RX8 nm ret hh R Kf (mWd D ad cI cZ A) A post) (G : mG A Kf D cI cZ) {t : Nat} {x : Int32} (ht : t < 8) (d : decode cc pc = .ok (.iastore, 1)) (hq : pc + 1 = q) (kk : v (up σ 11 t x) bc bs q ls st) : v σ bc bs pc ls (.int x :: .int (nI t) :: .ref (ad 11) :: st) := by
  obtain ⟨p, e, s, m, args, below, meth, c, ⟨hx, hb, hml, hown, hts⟩, -, ⟨hKf, hA⟩, rfl⟩ := F
  subst hq
  intro H locs cells slots arr hW hS h1 h2 hl2
  have hc : (nI t).toNatClampNeg = t := nI_clamp (by omega)
  refine va_iast hx hb (G.2 s hKf) hW.1 hW.2 hS 5 0 rfl rfl (vp_in_nI ht (by decide)) d (fun H1 locs1 hP1 hD1 hS1 => ?_)
  rw [hc] at hP1 hD1; exact kk H1 locs1 cells slots arr ⟨hP1, hD1⟩ hS1 h1 h2 hl2
theorem m_ald12 (F : vv_F v l cc nL RX8 nm ret hh R Kf (mWd D ad cI cZ A) A post) (G : mG A Kf D cI cZ) {t : Nat} (ht : t < 24) (d : decode cc pc = .ok (.iaload, 1)) (hq : pc + 1 = q) (kk : v σ bc bs q ls (.int (σ 12 t) :: st)) : v σ bc bs pc ls (.int (nI t) :: .ref (ad 12) :: st) := by
  obtain ⟨p, e, s, m, args, below, meth, c, ⟨hx, hb, hml, hown, hts⟩, -, ⟨hKf, hA⟩, rfl⟩ := F
  subst hq
  intro H locs cells slots arr hW hS h1 h2 hl2
  have hc : (nI t).toNatClampNeg = t := nI_clamp (by omega)
  refine va_iald hx hb (G.2 s hKf) hW.1 6 0 rfl rfl (vp_in_nI ht (by decide)) d ?_
  rw [hc]; exact kk H locs cells slots arr hW hS h1 h2 hl2
theorem m_ast12 (F : vv_F v l cc nL RX8 nm ret hh R Kf (mWd D ad cI cZ A) A post) (G : mG A Kf D cI cZ) {t : Nat} {x : Int32} (ht : t < 24) (d : decode cc pc = .ok (.iastore, 1)) (hq : pc + 1 = q) (kk : v (up σ 12 t x) bc bs q ls st) : v σ bc bs pc ls (.int x :: .int (nI t) :: .ref (ad 12) :: st) := by
  obtain ⟨p, e, s, m, args, below, meth, c, ⟨hx, hb, hml, hown, hts⟩, -, ⟨hKf, hA⟩, rfl⟩ := F
  subst hq
  intro H locs cells slots arr hW hS h1 h2 hl2
  have hc : (nI t).toNatClampNeg = t := nI_clamp (by omega)
  refine va_iast hx hb (G.2 s hKf) hW.1 hW.2 hS 6 0 rfl rfl (vp_in_nI ht (by decide)) d (fun H1 locs1 hP1 hD1 hS1 => ?_)
  rw [hc] at hP1 hD1; exact kk H1 locs1 cells slots arr ⟨hP1, hD1⟩ hS1 h1 h2 hl2
theorem m_ald29 (F : vv_F v l cc nL RX8 nm ret hh R Kf (mWd D ad cI cZ A) A post) (G : mG A Kf D cI cZ) {t : Nat} (ht : t < 24) (d : decode cc pc = .ok (.iaload, 1)) (hq : pc + 1 = q) (kk : v σ bc bs q ls (.int (σ 29 t) :: st)) : v σ bc bs pc ls (.int (nI t) :: .ref (ad 29) :: st) := by
  obtain ⟨p, e, s, m, args, below, meth, c, ⟨hx, hb, hml, hown, hts⟩, -, ⟨hKf, hA⟩, rfl⟩ := F
  subst hq
  intro H locs cells slots arr hW hS h1 h2 hl2
  have hc : (nI t).toNatClampNeg = t := nI_clamp (by omega)
  refine va_iald hx hb (G.2 s hKf) hW.1 7 0 rfl rfl (vp_in_nI ht (by decide)) d ?_
  rw [hc]; exact kk H locs cells slots arr hW hS h1 h2 hl2
theorem m_ast29 (F : vv_F v l cc nL RX8 nm ret hh R Kf (mWd D ad cI cZ A) A post) (G : mG A Kf D cI cZ) {t : Nat} {x : Int32} (ht : t < 24) (d : decode cc pc = .ok (.iastore, 1)) (hq : pc + 1 = q) (kk : v (up σ 29 t x) bc bs q ls st) : v σ bc bs pc ls (.int x :: .int (nI t) :: .ref (ad 29) :: st) := by
  obtain ⟨p, e, s, m, args, below, meth, c, ⟨hx, hb, hml, hown, hts⟩, -, ⟨hKf, hA⟩, rfl⟩ := F
  subst hq
  intro H locs cells slots arr hW hS h1 h2 hl2
  have hc : (nI t).toNatClampNeg = t := nI_clamp (by omega)
  refine va_iast hx hb (G.2 s hKf) hW.1 hW.2 hS 7 0 rfl rfl (vp_in_nI ht (by decide)) d (fun H1 locs1 hP1 hD1 hS1 => ?_)
  rw [hc] at hP1 hD1; exact kk H1 locs1 cells slots arr ⟨hP1, hD1⟩ hS1 h1 h2 hl2
theorem m_ald31 (F : vv_F v l cc nL RX8 nm ret hh R Kf (mWd D ad cI cZ A) A post) (G : mG A Kf D cI cZ) {t : Nat} (ht : t < 8) (d : decode cc pc = .ok (.iaload, 1)) (hq : pc + 1 = q) (kk : v σ bc bs q ls (.int (σ 31 t) :: st)) : v σ bc bs pc ls (.int (nI t) :: .ref (ad 31) :: st) := by
  obtain ⟨p, e, s, m, args, below, meth, c, ⟨hx, hb, hml, hown, hts⟩, -, ⟨hKf, hA⟩, rfl⟩ := F
  subst hq
  intro H locs cells slots arr hW hS h1 h2 hl2
  have hc : (nI t).toNatClampNeg = t := nI_clamp (by omega)
  refine va_iald hx hb (G.2 s hKf) hW.1 8 0 rfl rfl (vp_in_nI ht (by decide)) d ?_
  rw [hc]; exact kk H locs cells slots arr hW hS h1 h2 hl2
theorem m_ast31 (F : vv_F v l cc nL RX8 nm ret hh R Kf (mWd D ad cI cZ A) A post) (G : mG A Kf D cI cZ) {t : Nat} {x : Int32} (ht : t < 8) (d : decode cc pc = .ok (.iastore, 1)) (hq : pc + 1 = q) (kk : v (up σ 31 t x) bc bs q ls st) : v σ bc bs pc ls (.int x :: .int (nI t) :: .ref (ad 31) :: st) := by
  obtain ⟨p, e, s, m, args, below, meth, c, ⟨hx, hb, hml, hown, hts⟩, -, ⟨hKf, hA⟩, rfl⟩ := F
  subst hq
  intro H locs cells slots arr hW hS h1 h2 hl2
  have hc : (nI t).toNatClampNeg = t := nI_clamp (by omega)
  refine va_iast hx hb (G.2 s hKf) hW.1 hW.2 hS 8 0 rfl rfl (vp_in_nI ht (by decide)) d (fun H1 locs1 hP1 hD1 hS1 => ?_)
  rw [hc] at hP1 hD1; exact kk H1 locs1 cells slots arr ⟨hP1, hD1⟩ hS1 h1 h2 hl2
theorem m_ald32 (F : vv_F v l cc nL RX8 nm ret hh R Kf (mWd D ad cI cZ A) A post) (G : mG A Kf D cI cZ) {t : Nat} (ht : t < 24) (d : decode cc pc = .ok (.iaload, 1)) (hq : pc + 1 = q) (kk : v σ bc bs q ls (.int (σ 32 t) :: st)) : v σ bc bs pc ls (.int (nI t) :: .ref (ad 32) :: st) := by
  obtain ⟨p, e, s, m, args, below, meth, c, ⟨hx, hb, hml, hown, hts⟩, -, ⟨hKf, hA⟩, rfl⟩ := F
  subst hq
  intro H locs cells slots arr hW hS h1 h2 hl2
  have hc : (nI t).toNatClampNeg = t := nI_clamp (by omega)
  refine va_iald hx hb (G.2 s hKf) hW.1 9 0 rfl rfl (vp_in_nI ht (by decide)) d ?_
  rw [hc]; exact kk H locs cells slots arr hW hS h1 h2 hl2
theorem m_ast32 (F : vv_F v l cc nL RX8 nm ret hh R Kf (mWd D ad cI cZ A) A post) (G : mG A Kf D cI cZ) {t : Nat} {x : Int32} (ht : t < 24) (d : decode cc pc = .ok (.iastore, 1)) (hq : pc + 1 = q) (kk : v (up σ 32 t x) bc bs q ls st) : v σ bc bs pc ls (.int x :: .int (nI t) :: .ref (ad 32) :: st) := by
  obtain ⟨p, e, s, m, args, below, meth, c, ⟨hx, hb, hml, hown, hts⟩, -, ⟨hKf, hA⟩, rfl⟩ := F
  subst hq
  intro H locs cells slots arr hW hS h1 h2 hl2
  have hc : (nI t).toNatClampNeg = t := nI_clamp (by omega)
  refine va_iast hx hb (G.2 s hKf) hW.1 hW.2 hS 9 0 rfl rfl (vp_in_nI ht (by decide)) d (fun H1 locs1 hP1 hD1 hS1 => ?_)
  rw [hc] at hP1 hD1; exact kk H1 locs1 cells slots arr ⟨hP1, hD1⟩ hS1 h1 h2 hl2
theorem m_ald38 (F : vv_F v l cc nL RX8 nm ret hh R Kf (mWd D ad cI cZ A) A post) (G : mG A Kf D cI cZ) {t : Nat} (ht : t < 4) (d : decode cc pc = .ok (.baload, 1)) (hq : pc + 1 = q) (kk : v σ bc bs q ls (.int (σ 38 t) :: st)) : v σ bc bs pc ls (.int (nI t) :: .ref (ad 38) :: st) := by
  obtain ⟨p, e, s, m, args, below, meth, c, ⟨hx, hb, hml, hown, hts⟩, -, ⟨hKf, hA⟩, rfl⟩ := F
  subst hq
  intro H locs cells slots arr hW hS h1 h2 hl2
  have hc : (nI t).toNatClampNeg = t := nI_clamp (by omega)
  refine va_zald hx hb (G.2 s hKf) hW.1 10 1 rfl rfl (vp_in_nI ht (by decide)) d ?_
  rw [hc]; exact kk H locs cells slots arr hW hS h1 h2 hl2
theorem m_ast38 (F : vv_F v l cc nL RX8 nm ret hh R Kf (mWd D ad cI cZ A) A post) (G : mG A Kf D cI cZ) {t : Nat} {x : Int32} (ht : t < 4) (h01 : x = 0 ∨ x = 1) (d : decode cc pc = .ok (.bastore, 1)) (hq : pc + 1 = q) (kk : v (up σ 38 t x) bc bs q ls st) : v σ bc bs pc ls (.int x :: .int (nI t) :: .ref (ad 38) :: st) := by
  obtain ⟨p, e, s, m, args, below, meth, c, ⟨hx, hb, hml, hown, hts⟩, -, ⟨hKf, hA⟩, rfl⟩ := F
  subst hq
  intro H locs cells slots arr hW hS h1 h2 hl2
  have hc : (nI t).toNatClampNeg = t := nI_clamp (by omega)
  have hz : vp_nar .boolean x = x := by rcases h01 with rfl | rfl <;> rfl
  refine va_zast hx hb (G.2 s hKf) hW.1 hW.2 hS 10 1 rfl rfl (vp_in_nI ht (by decide)) d (fun H1 locs1 hP1 hD1 hS1 => ?_)
  rw [hc, hz] at hP1 hD1; exact kk H1 locs1 cells slots arr ⟨hP1, hD1⟩ hS1 h1 h2 hl2
theorem m_ald39 (F : vv_F v l cc nL RX8 nm ret hh R Kf (mWd D ad cI cZ A) A post) (G : mG A Kf D cI cZ) {t : Nat} (ht : t < 4) (d : decode cc pc = .ok (.iaload, 1)) (hq : pc + 1 = q) (kk : v σ bc bs q ls (.int (σ 39 t) :: st)) : v σ bc bs pc ls (.int (nI t) :: .ref (ad 39) :: st) := by
  obtain ⟨p, e, s, m, args, below, meth, c, ⟨hx, hb, hml, hown, hts⟩, -, ⟨hKf, hA⟩, rfl⟩ := F
  subst hq
  intro H locs cells slots arr hW hS h1 h2 hl2
  have hc : (nI t).toNatClampNeg = t := nI_clamp (by omega)
  refine va_iald hx hb (G.2 s hKf) hW.1 11 0 rfl rfl (vp_in_nI ht (by decide)) d ?_
  rw [hc]; exact kk H locs cells slots arr hW hS h1 h2 hl2
theorem m_ast39 (F : vv_F v l cc nL RX8 nm ret hh R Kf (mWd D ad cI cZ A) A post) (G : mG A Kf D cI cZ) {t : Nat} {x : Int32} (ht : t < 4) (d : decode cc pc = .ok (.iastore, 1)) (hq : pc + 1 = q) (kk : v (up σ 39 t x) bc bs q ls st) : v σ bc bs pc ls (.int x :: .int (nI t) :: .ref (ad 39) :: st) := by
  obtain ⟨p, e, s, m, args, below, meth, c, ⟨hx, hb, hml, hown, hts⟩, -, ⟨hKf, hA⟩, rfl⟩ := F
  subst hq
  intro H locs cells slots arr hW hS h1 h2 hl2
  have hc : (nI t).toNatClampNeg = t := nI_clamp (by omega)
  refine va_iast hx hb (G.2 s hKf) hW.1 hW.2 hS 11 0 rfl rfl (vp_in_nI ht (by decide)) d (fun H1 locs1 hP1 hD1 hS1 => ?_)
  rw [hc] at hP1 hD1; exact kk H1 locs1 cells slots arr ⟨hP1, hD1⟩ hS1 h1 h2 hl2
theorem m_ald40 (F : vv_F v l cc nL RX8 nm ret hh R Kf (mWd D ad cI cZ A) A post) (G : mG A Kf D cI cZ) {t : Nat} (ht : t < 4) (d : decode cc pc = .ok (.iaload, 1)) (hq : pc + 1 = q) (kk : v σ bc bs q ls (.int (σ 40 t) :: st)) : v σ bc bs pc ls (.int (nI t) :: .ref (ad 40) :: st) := by
  obtain ⟨p, e, s, m, args, below, meth, c, ⟨hx, hb, hml, hown, hts⟩, -, ⟨hKf, hA⟩, rfl⟩ := F
  subst hq
  intro H locs cells slots arr hW hS h1 h2 hl2
  have hc : (nI t).toNatClampNeg = t := nI_clamp (by omega)
  refine va_iald hx hb (G.2 s hKf) hW.1 12 0 rfl rfl (vp_in_nI ht (by decide)) d ?_
  rw [hc]; exact kk H locs cells slots arr hW hS h1 h2 hl2
theorem m_ast40 (F : vv_F v l cc nL RX8 nm ret hh R Kf (mWd D ad cI cZ A) A post) (G : mG A Kf D cI cZ) {t : Nat} {x : Int32} (ht : t < 4) (d : decode cc pc = .ok (.iastore, 1)) (hq : pc + 1 = q) (kk : v (up σ 40 t x) bc bs q ls st) : v σ bc bs pc ls (.int x :: .int (nI t) :: .ref (ad 40) :: st) := by
  obtain ⟨p, e, s, m, args, below, meth, c, ⟨hx, hb, hml, hown, hts⟩, -, ⟨hKf, hA⟩, rfl⟩ := F
  subst hq
  intro H locs cells slots arr hW hS h1 h2 hl2
  have hc : (nI t).toNatClampNeg = t := nI_clamp (by omega)
  refine va_iast hx hb (G.2 s hKf) hW.1 hW.2 hS 12 0 rfl rfl (vp_in_nI ht (by decide)) d (fun H1 locs1 hP1 hD1 hS1 => ?_)
  rw [hc] at hP1 hD1; exact kk H1 locs1 cells slots arr ⟨hP1, hD1⟩ hS1 h1 h2 hl2
theorem m_ald41 (F : vv_F v l cc nL RX8 nm ret hh R Kf (mWd D ad cI cZ A) A post) (G : mG A Kf D cI cZ) {t : Nat} (ht : t < 160) (d : decode cc pc = .ok (.iaload, 1)) (hq : pc + 1 = q) (kk : v σ bc bs q ls (.int (σ 41 t) :: st)) : v σ bc bs pc ls (.int (nI t) :: .ref (ad 41) :: st) := by
  obtain ⟨p, e, s, m, args, below, meth, c, ⟨hx, hb, hml, hown, hts⟩, -, ⟨hKf, hA⟩, rfl⟩ := F
  subst hq
  intro H locs cells slots arr hW hS h1 h2 hl2
  have hc : (nI t).toNatClampNeg = t := nI_clamp (by omega)
  refine va_iald hx hb (G.2 s hKf) hW.1 13 0 rfl rfl (vp_in_nI ht (by decide)) d ?_
  rw [hc]; exact kk H locs cells slots arr hW hS h1 h2 hl2
theorem m_ast41 (F : vv_F v l cc nL RX8 nm ret hh R Kf (mWd D ad cI cZ A) A post) (G : mG A Kf D cI cZ) {t : Nat} {x : Int32} (ht : t < 160) (d : decode cc pc = .ok (.iastore, 1)) (hq : pc + 1 = q) (kk : v (up σ 41 t x) bc bs q ls st) : v σ bc bs pc ls (.int x :: .int (nI t) :: .ref (ad 41) :: st) := by
  obtain ⟨p, e, s, m, args, below, meth, c, ⟨hx, hb, hml, hown, hts⟩, -, ⟨hKf, hA⟩, rfl⟩ := F
  subst hq
  intro H locs cells slots arr hW hS h1 h2 hl2
  have hc : (nI t).toNatClampNeg = t := nI_clamp (by omega)
  refine va_iast hx hb (G.2 s hKf) hW.1 hW.2 hS 13 0 rfl rfl (vp_in_nI ht (by decide)) d (fun H1 locs1 hP1 hD1 hS1 => ?_)
  rw [hc] at hP1 hD1; exact kk H1 locs1 cells slots arr ⟨hP1, hD1⟩ hS1 h1 h2 hl2
end MW
