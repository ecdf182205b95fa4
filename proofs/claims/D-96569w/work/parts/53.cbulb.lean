/-! THE COMPONENT's WORLD: bulbs -/
set_option maxRecDepth 100000
def cLv (n : mS) (s : Nat) : Prop := s < tn (n 0 13) + tn (n 0 60) ∧ s < 8
theorem cLv.lt {n : mS} {s : Nat} (h : cLv n s) : s < 8 := h.2
theorem cLv.k {n n' : mS} {s : Nat} (h : cLv n s) (ha : cAg n n') : n' 56 s = 1 := ha.2 s h.2 h.1
theorem cLv.a {n n' : mS} {s : Nat} (h : cLv n s) (ha : cAg n n') : n' 11 s = n 11 s :=
  ha.1 11 s ⟨fun _ => by unfold cLv at h; omega, fun e => (by cases e), fun e => (by cases e), fun e => (by cases e), fun e => (by cases e), fun e => (by cases e)⟩
theorem cLv.b {n n' : mS} {s k : Nat} (h : cLv n s) (ha : cAg n n') (hk : k < 3) : n' 12 (3 * s + k) = n 12 (3 * s + k) :=
  ha.1 12 _ ⟨fun e => (by cases e), fun _ => by unfold cLv at h; omega, fun e => (by cases e), fun e => (by cases e), fun e => (by cases e), fun e => (by cases e)⟩
/-- what always counts -/
theorem cAg.o {n n' : mS} (h : cAg n n') {k j : Nat} (hk : k ≠ 11 ∧ k ≠ 12 ∧ k ≠ 5 ∧ k ≠ 32 ∧ k ≠ 41 ∧ (k = 56 → 8 ≤ j)) : n' k j = n k j :=
  h.1 k j ⟨fun e => absurd e hk.1, fun e => absurd e hk.2.1, fun e => absurd e hk.2.2.1, fun e => absurd e hk.2.2.2.1, fun e => absurd e hk.2.2.2.2.1, hk.2.2.2.2.2⟩
def hF (n : mS) (s : Nat) : List Value := [.int (n 68 (3 * s)), .int (n 68 (3 * s + 1)), .int (n 68 (3 * s + 2))]
theorem hF_at {n : mS} {s k : Nat} (hk : k < 3) : (hF n s)[k]? = some (.int (n 68 (3 * s + k))) := by
  rcases (show k = 0 ∨ k = 1 ∨ k = 2 by omega) with rfl | rfl | rfl <;> rfl
theorem hF_set {n : mS} {s k : Nat} {x : Int32} (hk : k < 3) : (hF n s).set k (.int x) = hF (up n 68 (3 * s + k) x) s := by
  unfold hF
  rcases (show k = 0 ∨ k = 1 ∨ k = 2 by omega) with rfl | rfl | rfl
  · rw [show up n 68 (3 * s + 0) x = up n 68 (3 * s) x from rfl, up_eq, up_ne (by omega), up_ne (by omega)]; rfl
  · rw [up_eq, up_ne (by omega), up_ne (by omega)]; rfl
  · rw [up_eq, up_ne (by omega), up_ne (by omega)]; rfl
theorem cE_h {K : Nat → ClassId} {fv : List Value × (Nat → Nat)} {n : mS} {δ : Nat → Nat} {s : Nat} (hs : 8 ≤ s ∧ s < 10) (h : n 56 s = 1) : cE K fv n δ (200 + s) = some (.inr (7 + tn (n 67 s), hF n s)) := by
  unfold cE cE1 hF
  rw [if_neg (by omega), if_neg (by omega), if_neg (by omega), if_neg (by omega), if_neg (by omega), if_pos (by omega), Nat.add_sub_cancel_left, h, if_neg (by decide)]
def bF (n : mS) (s : Nat) : List Value := [.int (n 12 (3 * s)), .int (n 12 (3 * s + 1)), .int (n 12 (3 * s + 2))]
theorem cE_b {K : Nat → ClassId} {fv : List Value × (Nat → Nat)} {n : mS} {δ : Nat → Nat} {s : Nat} (hs : s < 8) (h : n 56 s = 1) : cE K fv n δ (200 + s) = some (.inr (7 + tn (n 11 s), bF n s)) := by
  unfold cE cE1 bF
  rw [if_neg (by omega), if_neg (by omega), if_neg (by omega), if_neg (by omega), if_pos (by omega), Nat.add_sub_cancel_left, h, if_neg (by decide)]
theorem bcls {k : Nat} (h : k ≤ 5) : ∃ (C : String) (T : u_T), vwCl[7 + k]? = some (C, T, 3) ∧ (∀ w ∈ u_ws C T 3, w ∈ lw_all) ∧ (∃ ty0 : Nat → FieldType, ∀ k, k < 3 → parseFieldDescriptor (T k).2.2.1 = some (ty0 k)) ∧ (∀ a, a < 3 → ∀ b, b < 3 → a ≠ b → (T a).2.1 ≠ (T b).2.1) ∧ ∀ k, k < 3 → T k = TX9 k := by
  rcases (show k = 0 ∨ k = 1 ∨ k = 2 ∨ k = 3 ∨ k = 4 ∨ k = 5 by omega) with rfl | rfl | rfl | rfl | rfl | rfl
  · exact ⟨RX9, TX9, rfl, in_X9, ⟨tyX9, tyX9_ok⟩, nmX9, fun _ _ => rfl⟩
  · exact ⟨RX10, TX10, rfl, in_X10, ⟨tyX10, tyX10_ok⟩, nmX10, by decide +kernel⟩
  · exact ⟨RX11, TX11, rfl, in_X11, ⟨tyX11, tyX11_ok⟩, nmX11, by decide +kernel⟩
  · exact ⟨RX12, TX12, rfl, in_X12, ⟨tyX12, tyX12_ok⟩, nmX12, by decide +kernel⟩
  · exact ⟨RX13, TX13, rfl, in_X13, ⟨tyX13, tyX13_ok⟩, nmX13, by decide +kernel⟩
  · exact ⟨RX14, TX14, rfl, in_X14, ⟨tyX14, tyX14_ok⟩, nmX14, by decide +kernel⟩
theorem bF_at {n : mS} {s k : Nat} (hk : k < 3) : (bF n s)[k]? = some (.int (n 12 (3 * s + k))) := by
  rcases (show k = 0 ∨ k = 1 ∨ k = 2 by omega) with rfl | rfl | rfl <;> rfl
theorem bF_set {n : mS} {s k : Nat} {x : Int32} (hk : k < 3) : (bF n s).set k (.int x) = bF (up n 12 (3 * s + k) x) s := by
  unfold bF
  rcases (show k = 0 ∨ k = 1 ∨ k = 2 by omega) with rfl | rfl | rfl
  · rw [show up n 12 (3 * s + 0) x = up n 12 (3 * s) x from rfl, up_eq, up_ne (by omega), up_ne (by omega)]; rfl
  · rw [up_eq, up_ne (by omega), up_ne (by omega)]; rfl
  · rw [up_eq, up_ne (by omega), up_ne (by omega)]; rfl
section CB
variable {v : vv_T cS} {l : Launch} {cc : ByteArray} {nL : Nat} {own nm : String} {ret : Option FieldType} {hh : List (Nat × Nat × Nat × Nat)} {R : Room} {Kf : State → Prop} {D : va_G} {K : Nat → ClassId} {fv : List Value × (Nat → Nat)} {A : Nat → Prop} {Pn : cS → Prop} {post : vv_O cS}
variable {n n' : mS} {δ : Nat → Nat} {ν : Nat → Option (Mg × Nat)} {bc bs pc q : Nat} {ls : List (Nat × Value)} {st : List Value} {L : List Nat} {f : Nat → va_E} {H H1 : Heap}
def refO (ref : String) (k : Nat) : Prop := ∀ (args : Array Value) (s : State), (∀ w ∈ lw_all, w.before args s = true) → ∀ x, s.fieldFound? (TX9 k).1 (TX9 k).2.1 (TX9 k).2.2.1 = some x → s.fieldFound? ref (TX9 k).2.1 (TX9 k).2.2.1 = some x
theorem refO_9 (k : Nat) : refO (TX9 k).1 k := fun _ _ _ _ h => h
theorem c_bget (F : vv_F v l cc nL own nm ret hh R Kf (cWdP Pn D K fv A) A post) (G : cG A fv Pn Kf D K) (s k : Nat) {ref : String} {idx : Nat} (hlv : cLv n s) (hkk : tn (n 11 s) ≤ 5) (hk : k < 3) (hl : Cond.fieldLink own idx ref (TX9 k).2.1 (TX9 k).2.2.1 ∈ lw_all) (hr : refO ref k) (d : decode cc pc = .ok (.getfield idx, 3)) (hq : pc + 3 = q) (kk : v (n, δ, ν) bc bs q ls (.int (n 12 (3 * s + k)) :: st)) : v (n, δ, ν) bc bs pc ls (.ref (δ (200 + s)) :: st) := by
  obtain ⟨p, e, s0, m, args, below, meth, c, ⟨hx, hb, hml, hown, hts⟩, -, ⟨hKf, hA⟩, rfl⟩ := F
  subst hq
  intro H locs cells slots arr hW hS h1 h2 hl2
  obtain ⟨n', L, f, hag, hrp, htx, hpn, hP, hD⟩ := id hW
  obtain ⟨g1, g2⟩ := hrp.1 (200 + s) _ (cE_b hlv.lt (hlv.k hag))
  obtain ⟨q0, hq0⟩ := va_pl_get (X := []) (f := f) g1
  rw [g2, hlv.a hag] at hq0
  obtain ⟨C, T, b1, b2, -, -, b5⟩ := bcls hkk
  refine va_get (D := D) (C := C) (T := T) (N := 3) (ref := ref) hx hb hts b2 hown (G.2.1 s0 hKf) hP q0 hq0 b1 k hk (by rw [b5 k hk]; exact hts _ hl) (by rw [b5 k hk]; exact hr args s0 hts) (bF_at hk) d ?_
  rw [hlv.b hag hk]
  exact kk H locs cells slots arr hW hS h1 h2 hl2
theorem c_bput (F : vv_F v l cc nL own nm ret hh R Kf (cWdP Pn D K fv A) A post) (G : cG A fv Pn Kf D K) (s k : Nat) {x : Int32} {ref : String} {idx : Nat} (hlv : cLv n s) (hkk : tn (n 11 s) ≤ 5) (hk : k < 3) (hl : Cond.fieldLink own idx ref (TX9 k).2.1 (TX9 k).2.2.1 ∈ lw_all) (hr : refO ref k) (hfin : (TX9 k).2.2.2 = false) (hd : parseFieldDescriptor (TX9 k).2.2.1 = some .int) (d : decode cc pc = .ok (.putfield idx, 3)) (hq : pc + 3 = q) (kk : v (up n 12 (3 * s + k) x, δ, ν) bc bs q ls st) : v (n, δ, ν) bc bs pc ls (.int x :: .ref (δ (200 + s)) :: st) := by
  obtain ⟨p, e, s0, m, args, below, meth, c, ⟨hx, hb, hml, hown, hts⟩, -, ⟨hKf, hA⟩, rfl⟩ := F
  subst hq
  intro H locs cells slots arr hW hS h1 h2 hl2
  obtain ⟨n', L, f, hag, hrp, htx, hpn, hP, hD⟩ := hW
  have he := cE_b (K := K) (fv := fv) (δ := δ) hlv.lt (hlv.k hag)
  obtain ⟨g1, g2⟩ := hrp.1 (200 + s) _ he
  obtain ⟨q0, hq0⟩ := va_pl_get (X := []) (f := f) g1
  have hq1 := hq0
  rw [g2] at hq0
  obtain ⟨C, T, b1, b2, ⟨ty0, b3⟩, b4, b5⟩ := bcls hkk
  rw [← hlv.a hag] at b1
  refine va_put (D := D) (C := C) (T := T) (N := 3) (ref := ref) hx hb hts b2 ty0 b3 b4 hown (G.2.1 s0 hKf) hP hD hS q0 hq0 b1 k hk (by rw [b5 k hk]; exact hts _ hl) (by rw [b5 k hk]; exact hr args s0 hts) (by rw [b5 k hk]; exact hfin) (by rw [b5 k hk]; exact hd) rfl rfl (by exact hk) d (fun H1 locs1 hP1 hD1 hS1 => ?_)
  have es := va_pl_set (X := []) (e := .inr (7 + tn (n' 11 s), (bF n' s).set k (.int x))) hD g1 hq1
  rw [List.nil_append, List.nil_append] at es
  rw [es, bF_set hk] at hP1 hD1
  refine kk H1 locs1 cells slots arr (cW_wr G.2.2.1 (k := 12) (j := 3 * s + k) (by unfold frc; omega) hag hrp htx hpn he ?_ (rdO_o (by show 200 + (3 * s + k) / 3 = 200 + s; omega) (by decide) (by decide) (by decide) (by decide)) ?_ ⟨hP1, hD1⟩) hS1 h1 h2 hl2
  · rw [cE_b hlv.lt (by rw [up_ne (by omega)]; exact hlv.k hag), up_ne (by omega)]
  · intro c fs h; cases h; exact Or.inr (by omega)
theorem c_hget (F : vv_F v l cc nL own nm ret hh R Kf (cWdP Pn D K fv A) A post) (G : cG A fv Pn Kf D K) (s k : Nat) {ref : String} {idx : Nat} (hs : 8 ≤ s ∧ s < 10) (h56 : n 56 s = 1) (hkk : tn (n 67 s) ≤ 5) (hk : k < 3) (hl : Cond.fieldLink own idx ref (TX9 k).2.1 (TX9 k).2.2.1 ∈ lw_all) (hr : refO ref k) (d : decode cc pc = .ok (.getfield idx, 3)) (hq : pc + 3 = q) (kk : v (n, δ, ν) bc bs q ls (.int (n 68 (3 * s + k)) :: st)) : v (n, δ, ν) bc bs pc ls (.ref (δ (200 + s)) :: st) := by
  obtain ⟨p, e, s0, m, args, below, meth, c, ⟨hx, hb, hml, hown, hts⟩, -, ⟨hKf, hA⟩, rfl⟩ := F
  subst hq
  intro H locs cells slots arr hW hS h1 h2 hl2
  obtain ⟨n', L, f, hag, hrp, htx, hpn, hP, hD⟩ := id hW
  obtain ⟨g1, g2⟩ := hrp.1 (200 + s) _ (cE_h hs ((cAg.o (n := n) hag (by omega)).trans h56))
  obtain ⟨q0, hq0⟩ := va_pl_get (X := []) (f := f) g1
  rw [g2, cAg.o (n := n) hag (k := 67) (j := s) (by omega)] at hq0
  obtain ⟨C, T, b1, b2, -, -, b5⟩ := bcls hkk
  refine va_get (D := D) (C := C) (T := T) (N := 3) (ref := ref) hx hb hts b2 hown (G.2.1 s0 hKf) hP q0 hq0 b1 k hk (by rw [b5 k hk]; exact hts _ hl) (by rw [b5 k hk]; exact hr args s0 hts) (hF_at hk) d ?_
  rw [cAg.o (n := n) hag (k := 68) (j := 3 * s + k) (by omega)]
  exact kk H locs cells slots arr hW hS h1 h2 hl2
theorem c_hput (F : vv_F v l cc nL own nm ret hh R Kf (cWdP Pn D K fv A) A post) (G : cG A fv Pn Kf D K) (s k : Nat) {x : Int32} {ref : String} {idx : Nat} (hs : 8 ≤ s ∧ s < 10) (h56 : n 56 s = 1) (hkk : tn (n 67 s) ≤ 5) (hk : k < 3) (hl : Cond.fieldLink own idx ref (TX9 k).2.1 (TX9 k).2.2.1 ∈ lw_all) (hr : refO ref k) (hfin : (TX9 k).2.2.2 = false) (hd : parseFieldDescriptor (TX9 k).2.2.1 = some .int) (d : decode cc pc = .ok (.putfield idx, 3)) (hq : pc + 3 = q) (kk : v (up n 68 (3 * s + k) x, δ, ν) bc bs q ls st) : v (n, δ, ν) bc bs pc ls (.int x :: .ref (δ (200 + s)) :: st) := by
  obtain ⟨p, e, s0, m, args, below, meth, c, ⟨hx, hb, hml, hown, hts⟩, -, ⟨hKf, hA⟩, rfl⟩ := F
  subst hq
  intro H locs cells slots arr hW hS h1 h2 hl2
  obtain ⟨n', L, f, hag, hrp, htx, hpn, hP, hD⟩ := hW
  have he := cE_h (K := K) (fv := fv) (δ := δ) hs ((cAg.o (n := n) hag (by omega)).trans h56)
  obtain ⟨g1, g2⟩ := hrp.1 (200 + s) _ he
  obtain ⟨q0, hq0⟩ := va_pl_get (X := []) (f := f) g1
  have hq1 := hq0
  rw [g2] at hq0
  obtain ⟨C, T, b1, b2, ⟨ty0, b3⟩, b4, b5⟩ := bcls hkk
  rw [← cAg.o (n := n) hag (k := 67) (j := s) (by omega)] at b1
  refine va_put (D := D) (C := C) (T := T) (N := 3) (ref := ref) hx hb hts b2 ty0 b3 b4 hown (G.2.1 s0 hKf) hP hD hS q0 hq0 b1 k hk (by rw [b5 k hk]; exact hts _ hl) (by rw [b5 k hk]; exact hr args s0 hts) (by rw [b5 k hk]; exact hfin) (by rw [b5 k hk]; exact hd) rfl rfl (by exact hk) d (fun H1 locs1 hP1 hD1 hS1 => ?_)
  have es := va_pl_set (X := []) (e := .inr (7 + tn (n' 67 s), (hF n' s).set k (.int x))) hD g1 hq1
  rw [List.nil_append, List.nil_append] at es
  rw [es, hF_set hk] at hP1 hD1
  refine kk H1 locs1 cells slots arr (cW_wr G.2.2.1 (k := 68) (j := 3 * s + k) (by unfold frc; omega) hag hrp htx hpn he ?_ (rdO_o (by show 200 + (3 * s + k) / 3 = 200 + s; omega) (by decide) (by decide) (by decide) (by decide)) ?_ ⟨hP1, hD1⟩) hS1 h1 h2 hl2
  · rw [cE_h hs (by rw [up_ne (by omega)]; exact (cAg.o (n := n) hag (by omega)).trans h56), up_ne (by omega)]
  · intro c fs h; cases h; exact Or.inr (by omega)
end CB
