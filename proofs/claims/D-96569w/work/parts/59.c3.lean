set_option maxRecDepth 100000
/-! what a node is worth: at a fixed heap, by how deep it is -/
abbrev fW (H0 : Heap) : Unit → Heap → Prop := fun _ H => H = H0
abbrev yNw : MethodName := ⟨RX3, "worth", "()I"⟩
/-- the node at b is worth x: the method that its class selects answers so -/
def vN (l : Launch) (Kf : State → Prop) (A : Nat → Prop) (H0 : Heap) (b d : Nat) (x : Int32) : Prop := ∃ (C : String) (y : MethodName) (ws : List Cond) (mL : Nat), (∀ s : State, Kf s → ∃ cell : Cell, H0[b]? = some cell ∧ cell.vm.isStatics = false ∧ s.vm.findClass C = some cell.cls) ∧ Cond.selects C yNw y ∈ lw_all ∧ Cond.instanceMethod y ∈ lw_all ∧ vv_oc y mL 0 ws ∧ mL ≤ 3 ∧ vv_Ct l y ws (rm d (22 * d)) Kf (fW H0) A [.ref b] () (vv_i x (fun _ => True))
section NW
variable {S : Type} {v : vv_T S} {l : Launch} {cc : ByteArray} {nL : Nat} {own nm : String} {ret : Option FieldType} {hh : List (Nat × Nat × Nat × Nat)} {R : Room} {Kf : State → Prop} {D : va_G} {K : Nat → ClassId} {Wd : S → Heap → Prop} {A : Nat → Prop} {post : vv_O S} {H0 : Heap}
variable {σ : S} {bc bs pc q : Nat} {ls : List (Nat × Value)} {st : List Value} {idx b d : Nat} {x : Int32}
/-- worth() of a node, in any world whose heaps know it -/
theorem n_call (F : vv_F v l cc nL own nm ret hh R Kf Wd A post) (hKm : kM A Kf) (hd : ∀ U, Kf U → va_Decl U yNw) (hN : ∀ H, Wd σ H → vN l Kf A H b d x) (hl : Cond.methodLink own idx yNw ∈ lw_all) (hroom : d + 1 ≤ R.frames ∧ 22 + 22 * d ≤ R.locals) (hst : Nat.ble (st.map fun v => v.category).sum 8 = true)
    (dc : decode cc pc = .ok (.invokevirtual idx, 3)) (hq : pc + 3 = q) (k : v σ bc bs q ls (.int x :: st)) : v σ bc bs pc ls (.ref b :: st) := by
  obtain ⟨p, e, s, m, args, below, meth, c, ⟨hx, hb, hml, hown, hts⟩, -, ⟨hKf, hA⟩, rfl⟩ := F
  subst hq
  intro H locs cells slots arr hW hS h1 h2 hl2
  obtain ⟨C, y, ws, mL, hcell, hsel, hins, hok, hmL, hM⟩ := hN H hW
  have hM2 : vv_Ct l y ws (rm d (22 * d)) Kf (fun (u : S) (H' : Heap) => Wd u H' ∧ H' = H) A [.ref b] σ (vv_i x (fun u => u = σ)) := vv_fix (fun H1 h => by rw [h.2]; exact hM)
  have e1 : (rm d (22 * d)).frames = d := rfl
  have e2 : (rm d (22 * d)).locals = 22 * d := rfl
  have e3 : (rm d (22 * d)).cells = 0 := rfl
  have e4 : (rm d (22 * d)).slots = 0 := rfl
  refine vv_go (Wd := fun u H' => Wd u H' ∧ H' = H) hb hml hts hKm hKf hA hM2 hok ⟨by omega, by omega⟩ (Nat.le_of_ble_eq_true hst) dc (by omega) (by omega) ⟨hW, rfl⟩ hS hl2
    (vv_IO (x := yNw) hx hown (hts _ hl) (hts _ q300) (hd s hKf) (by decide +kernel) (hts _ hsel) (hts _ hins) (hcell s hKf) rfl (argsL := []) (by decide +kernel) rfl (by rw [hb]; exact dc)) ?_
  intro o u k1 n1 H1 locs1 hk1 hn1 hp hWu hS1 T' hT' X'
  cases o with
  | threw x => exact absurd hp (fun h => h)
  | returned r =>
    obtain ⟨rfl, rfl⟩ := hp
    exact k H1 locs1 (cells + k1) (slots + n1) arr hWu.1 hS1 (by omega) (by omega) hl2 T' hT' X'
/-- a bulb's field is read, in any world -/
theorem g_bget (F : vv_F v l cc nL own nm ret hh R Kf Wd A post) (hK : ∀ U, Kf U → va_K D vwCl (kT K) U) (k kd : Nat) {fs : List Value} {w : Value} (hE : hasE D Wd σ b (.inr (7 + kd, fs))) (hkd : kd ≤ 5) (hk : k < 3) (hl : Cond.fieldLink own idx (TX9 k).1 (TX9 k).2.1 (TX9 k).2.2.1 ∈ lw_all) (hv : fs[k]? = some w) (dc : decode cc pc = .ok (.getfield idx, 3)) (hq : pc + 3 = q) (kk : v σ bc bs q ls (w :: st)) : v σ bc bs pc ls (.ref b :: st) := by
  obtain ⟨C, T, b1, b2, -, -, b5⟩ := bcls hkd
  exact g_get F hK (T := T) (k := k) (ref := (TX9 k).1) hE b1 b2 hk (by rw [b5 k hk]; exact hl) (by intro a s h; rw [b5 k hk]; exact fun _ h => h) hv dc hq kk
end NW
/-- what a node's worth needs: the component itself, its soils, the planting that is asked -/
def ndH (D : va_G) (K : Nat → ClassId) (A0 : Nat → Prop) (H0 : Heap) (L : List Nat) (f : Nat → va_E) (n : mS) (δ : Nat → Nat) (p : Nat) : Prop :=
  lWd D A0 (va_pl L f) H0 ∧ (δ 0 ∈ L ∧ f (δ 0) = .inr (0, cF n δ)) ∧ (δ 5 ∈ L ∧ f (δ 5) = .inl (K 0, 8, .inl (n 10))) ∧ (∃ g1 : Nat → Option Nat, δ 1 ∈ L ∧ f (δ 1) = .inl (K 4, 8, rfs g1) ∧ g1 p = some (δ (200 + p))) ∧ (∃ kd : Nat, kd ≤ 5 ∧ δ (200 + p) ∈ L ∧ f (δ (200 + p)) = .inr (7 + kd, bF n p)) ∧ (n 0 50 = nI p ∧ p < 8) ∧ okN (n 12 (3 * p + 1)) 7
theorem ok_X4_worth : vv_oc yX4_worth 2 0 (ws_ yX4_worth cX4_worth 2 (some .int)) := vv_ok.oc (rt := (some .int)) ⟨q309, q129, by decide +kernel, by decide +kernel⟩
theorem ok_X5_worth : vv_oc yX5_worth 1 0 (ws_ yX5_worth cX5_worth 1 (some .int)) := vv_ok.oc (rt := (some .int)) ⟨q306, q130, by decide +kernel, by decide +kernel⟩
theorem ok_X6_worth : vv_oc yX6_worth 1 0 (ws_ yX6_worth cX6_worth 1 (some .int)) := vv_ok.oc (rt := (some .int)) ⟨q303, q131, by decide +kernel, by decide +kernel⟩
theorem ok_X7_worth : vv_oc yX7_worth 3 0 (ws_ yX7_worth cX7_worth 3 (some .int)) := vv_ok.oc (rt := (some .int)) ⟨q312, q132, by decide +kernel, by decide +kernel⟩
theorem two_ne {x : Int32} {k : Int} {c : Int32} (hc : c.toInt = k) (h : ¬ x = c) : ¬ x.toInt = k := fun e => h (Int32.toInt_inj.mp (e.trans hc.symm))
theorem two_off {x : Int32} (k0 : ¬ x = 43) (k1 : ¬ x = 45) (k2 : ¬ x = 42) (k3 : ¬ x = 60) (k4 : ¬ x = 61) (k5 : ¬ x = 38) : Op.lookupswitch.offset [(38, 94), (42, 68), (43, 60), (45, 64), (60, 72), (61, 83)] 108 x.toInt = 108 := by
  have a0 := two_ne (k := 43) (by decide) k0
  have a1 := two_ne (k := 45) (by decide) k1
  have a2 := two_ne (k := 42) (by decide) k2
  have a3 := two_ne (k := 60) (by decide) k3
  have a4 := two_ne (k := 61) (by decide) k4
  have a5 := two_ne (k := 38) (by decide) k5
  simp [Op.lookupswitch.offset, Ne.symm a0, Ne.symm a1, Ne.symm a2, Ne.symm a3, Ne.symm a4, Ne.symm a5, a0, a1, a2, a3, a4, a5]
set_option maxHeartbeats 8000000 in
theorem nd_worth {l : Launch} {Kf : State → Prop} {D : va_G} {K : Nat → ClassId} {A A0 : Nat → Prop} {H0 : Heap} {L : List Nat} {f : Nat → va_E} {n : mS} {δ : Nat → Nat} {p : Nat} (hKm : kM A Kf) (hK : ∀ U, Kf U → va_K D vwCl (kT K) U) (hN : kN Kf) (hdc : ∀ U, Kf U → va_Decl U yNw) {N : Nat → Prop} (hH : ndH D K A0 H0 L f n δ p) (hNL : ∀ b, N b → b ∈ L) : ∀ (d b : Nat) (g : Mg), ndE f N (δ 0) d b g → vN l Kf A H0 b d (g (envV n p)) := by
  obtain ⟨hlw, ⟨h0a, h0b⟩, ⟨h5a, h5b⟩, ⟨g1, h1a, h1b, h1c⟩, ⟨kd, hkd, hba, hbb⟩, ⟨hfor, hp8⟩, ⟨hga, hg7⟩⟩ := hH
  have hE : ∀ (b : Nat) (e : va_E), b ∈ L → f b = e → hasE D (fW H0) () b e := fun b e h1 h2 H hH => ⟨A0, L, f, by rw [show H = H0 from hH]; exact hlw, h1, h2⟩
  have hC : ∀ (b ci : Nat) (fs : List Value) (r : vw_C), b ∈ L → f b = .inr (ci, fs) → vwCl[ci]? = some r → ∀ s : State, Kf s → ∃ cell : Cell, H0[b]? = some cell ∧ cell.vm.isStatics = false ∧ s.vm.findClass r.1 = some cell.cls := by
    intro b ci fs r h1 h2 h3 s hs
    obtain ⟨q0, hq0⟩ := va_pl_get (X := []) (f := f) h1
    rw [h2] at hq0
    exact va_recv (hK s hs) hlw.1 h3 hq0
  intro d
  induction d with
  | zero => intro b g h; exact absurd h (fun h => h)
  | succ d ih =>
    intro b g h
    obtain ⟨hb0, h⟩ := h
    have hb := hNL b hb0
    rcases h with ⟨z, e1, rfl⟩ | ⟨k, hk, e1, rfl⟩ | ⟨a, ga, z, e1, ha, hz⟩ | ⟨sg, a, c, ga, gc, e1, ha, hc, rfl⟩
    · refine ⟨RX5, yX5_worth, ws_ yX5_worth cX5_worth 1 (some .int), 1, hC b 3 _ (RX5, TX5, _) hb e1 rfl, q304, q305, ok_X5_worth, by decide, ?_⟩
      refine vv_of (by decide +kernel) (Nat.le_of_ble_eq_true rfl) ?_
      intro v (F : vv_F v l cX5_worth 1 RX5 "worth" (some .int) [] (rm (d + 1) (22 * (d + 1))) Kf (fW H0) A _)
      show v () 0 0 0 [(0, .ref b)] []
      refine v_aload_n F 0 dX5_worth_0 rfl rfl rfl ?_
      refine g_get F hK (T := TX5) (k := 0) (hE b _ hb e1) rfl in_X5 (by decide) q637 (refT_s TX5 0) rfl dX5_worth_1 rfl ?_
      exact v_reti F dX5_worth_4 rfl rfl trivial
    · refine ⟨RX6, yX6_worth, ws_ yX6_worth cX6_worth 1 (some .int), 1, hC b 4 _ (RX6, TX6, _) hb e1 rfl, q301, q302, ok_X6_worth, by decide, ?_⟩
      refine vv_of (by decide +kernel) (Nat.le_of_ble_eq_true rfl) ?_
      intro v (F : vv_F v l cX6_worth 1 RX6 "worth" (some .int) [] (rm (d + 1) (22 * (d + 1))) Kf (fW H0) A _)
      show v () 0 0 0 [(0, .ref b)] []
      refine v_aload_n F 0 dX6_worth_0 rfl rfl rfl ?_
      refine g_get F hK (T := TX6) (k := 0) (hE b _ hb e1) rfl in_X6 (by decide) q647 (refT_s TX6 0) rfl dX6_worth_1 rfl ?_
      rcases (show k = 0 ∨ k = 1 ∨ k = 2 ∨ k = 3 ∨ k = 4 ∨ k = 5 by omega) with rfl | rfl | rfl | rfl | rfl | rfl
      · refine v_tableIn (tgt := 40) F dX6_worth_4 (by decide) (by decide) (off := 36) rfl rfl ?_
        refine v_aload_n F 0 dX6_worth_40 rfl rfl rfl ?_
        refine g_get F hK (T := TX6) (k := 1) (hE b _ hb e1) rfl in_X6 (by decide) q648 (refT_s TX6 1) rfl dX6_worth_41 rfl ?_
        refine g_getN F hN hK (T := TX0) (k := 5) (w := .ref (δ 5)) (hE (δ 0) _ h0a h0b) rfl in_X0 (by decide) q804 (refT_s TX0 5) rfl dX6_worth_44 rfl ?_
        refine v_aload_n F 0 dX6_worth_47 rfl rfl rfl ?_
        refine g_get F hK (T := TX6) (k := 1) (hE b _ hb e1) rfl in_X6 (by decide) q648 (refT_s TX6 1) rfl dX6_worth_48 rfl ?_
        refine g_getN F hN hK (T := TX0) (k := 0) (w := .ref (δ 1)) (hE (δ 0) _ h0a h0b) rfl in_X0 (by decide) q796 (refT_s TX0 0) rfl dX6_worth_51 rfl ?_
        refine v_aload_n F 0 dX6_worth_54 rfl rfl rfl ?_
        refine g_get F hK (T := TX6) (k := 1) (hE b _ hb e1) rfl in_X6 (by decide) q648 (refT_s TX6 1) rfl dX6_worth_55 rfl ?_
        refine g_getN F hN hK (T := TX0) (k := 7) (w := .int (n 0 50)) (hE (δ 0) _ h0a h0b) rfl in_X0 (by decide) q807 (refT_s TX0 7) rfl dX6_worth_58 rfl ?_
        refine v_int F hfor ?_
        refine g_aald F hK 4 (hE (δ 1) _ h1a h1b) rfl rfl h1c hp8 (by decide) dX6_worth_61 rfl ?_
        refine g_bget F hK 1 kd (w := .int (n 12 (3 * p + 1))) (hE (δ (200 + p)) _ hba hbb) hkd (by decide) q181 rfl dX6_worth_62 rfl ?_
        refine v_int F hga ?_
        refine g_iald F hK 0 (hE (δ 5) _ h5a h5b) rfl (by omega) (by decide) dX6_worth_65 rfl ?_
        exact v_reti F dX6_worth_66 rfl rfl trivial
      · refine v_tableIn (tgt := 67) F dX6_worth_4 (by decide) (by decide) (off := 63) rfl rfl ?_
        refine v_aload_n F 0 dX6_worth_67 rfl rfl rfl ?_
        refine g_get F hK (T := TX6) (k := 1) (hE b _ hb e1) rfl in_X6 (by decide) q648 (refT_s TX6 1) rfl dX6_worth_68 rfl ?_
        refine g_getN F hN hK (T := TX0) (k := 2) (w := .int (n 0 7)) (hE (δ 0) _ h0a h0b) rfl in_X0 (by decide) q799 (refT_s TX0 2) rfl dX6_worth_71 rfl ?_
        exact v_reti F dX6_worth_74 rfl rfl trivial
      · refine v_tableIn (tgt := 75) F dX6_worth_4 (by decide) (by decide) (off := 71) rfl rfl ?_
        refine v_aload_n F 0 dX6_worth_75 rfl rfl rfl ?_
        refine g_get F hK (T := TX6) (k := 1) (hE b _ hb e1) rfl in_X6 (by decide) q648 (refT_s TX6 1) rfl dX6_worth_76 rfl ?_
        refine g_getN F hN hK (T := TX0) (k := 0) (w := .ref (δ 1)) (hE (δ 0) _ h0a h0b) rfl in_X0 (by decide) q796 (refT_s TX0 0) rfl dX6_worth_79 rfl ?_
        refine v_aload_n F 0 dX6_worth_82 rfl rfl rfl ?_
        refine g_get F hK (T := TX6) (k := 1) (hE b _ hb e1) rfl in_X6 (by decide) q648 (refT_s TX6 1) rfl dX6_worth_83 rfl ?_
        refine g_getN F hN hK (T := TX0) (k := 7) (w := .int (n 0 50)) (hE (δ 0) _ h0a h0b) rfl in_X0 (by decide) q807 (refT_s TX0 7) rfl dX6_worth_86 rfl ?_
        refine v_int F hfor ?_
        refine g_aald F hK 4 (hE (δ 1) _ h1a h1b) rfl rfl h1c hp8 (by decide) dX6_worth_89 rfl ?_
        refine g_bget F hK 0 kd (w := .int (n 12 (3 * p + 0))) (hE (δ (200 + p)) _ hba hbb) hkd (by decide) q174 rfl dX6_worth_90 rfl ?_
        exact v_reti F dX6_worth_93 rfl rfl trivial
      · refine v_tableIn (tgt := 94) F dX6_worth_4 (by decide) (by decide) (off := 90) rfl rfl ?_
        refine v_aload_n F 0 dX6_worth_94 rfl rfl rfl ?_
        refine g_get F hK (T := TX6) (k := 1) (hE b _ hb e1) rfl in_X6 (by decide) q648 (refT_s TX6 1) rfl dX6_worth_95 rfl ?_
        refine g_getN F hN hK (T := TX0) (k := 0) (w := .ref (δ 1)) (hE (δ 0) _ h0a h0b) rfl in_X0 (by decide) q796 (refT_s TX0 0) rfl dX6_worth_98 rfl ?_
        refine v_aload_n F 0 dX6_worth_101 rfl rfl rfl ?_
        refine g_get F hK (T := TX6) (k := 1) (hE b _ hb e1) rfl in_X6 (by decide) q648 (refT_s TX6 1) rfl dX6_worth_102 rfl ?_
        refine g_getN F hN hK (T := TX0) (k := 7) (w := .int (n 0 50)) (hE (δ 0) _ h0a h0b) rfl in_X0 (by decide) q807 (refT_s TX0 7) rfl dX6_worth_105 rfl ?_
        refine v_int F hfor ?_
        refine g_aald F hK 4 (hE (δ 1) _ h1a h1b) rfl rfl h1c hp8 (by decide) dX6_worth_108 rfl ?_
        refine g_bget F hK 2 kd (w := .int (n 12 (3 * p + 2))) (hE (δ (200 + p)) _ hba hbb) hkd (by decide) q184 rfl dX6_worth_109 rfl ?_
        exact v_reti F dX6_worth_112 rfl rfl trivial
      · refine v_tableIn (tgt := 113) F dX6_worth_4 (by decide) (by decide) (off := 109) rfl rfl ?_
        refine v_aload_n F 0 dX6_worth_113 rfl rfl rfl ?_
        refine g_get F hK (T := TX6) (k := 1) (hE b _ hb e1) rfl in_X6 (by decide) q648 (refT_s TX6 1) rfl dX6_worth_114 rfl ?_
        refine g_getN F hN hK (T := TX0) (k := 0) (w := .ref (δ 1)) (hE (δ 0) _ h0a h0b) rfl in_X0 (by decide) q796 (refT_s TX0 0) rfl dX6_worth_117 rfl ?_
        refine v_aload_n F 0 dX6_worth_120 rfl rfl rfl ?_
        refine g_get F hK (T := TX6) (k := 1) (hE b _ hb e1) rfl in_X6 (by decide) q648 (refT_s TX6 1) rfl dX6_worth_121 rfl ?_
        refine g_getN F hN hK (T := TX0) (k := 7) (w := .int (n 0 50)) (hE (δ 0) _ h0a h0b) rfl in_X0 (by decide) q807 (refT_s TX0 7) rfl dX6_worth_124 rfl ?_
        refine v_int F hfor ?_
        refine g_aald F hK 4 (hE (δ 1) _ h1a h1b) rfl rfl h1c hp8 (by decide) dX6_worth_127 rfl ?_
        refine g_bget F hK 1 kd (w := .int (n 12 (3 * p + 1))) (hE (δ (200 + p)) _ hba hbb) hkd (by decide) q181 rfl dX6_worth_128 rfl ?_
        exact v_reti F dX6_worth_131 rfl rfl trivial
      · refine v_tableOut (tgt := 132) F dX6_worth_4 (by decide) rfl ?_
        refine v_aload_n F 0 dX6_worth_132 rfl rfl rfl ?_
        refine g_get F hK (T := TX6) (k := 1) (hE b _ hb e1) rfl in_X6 (by decide) q648 (refT_s TX6 1) rfl dX6_worth_133 rfl ?_
        refine g_getN F hN hK (T := TX0) (k := 3) (w := .int (n 0 8)) (hE (δ 0) _ h0a h0b) rfl in_X0 (by decide) q801 (refT_s TX0 3) rfl dX6_worth_136 rfl ?_
        exact v_reti F dX6_worth_139 rfl rfl trivial
    · refine ⟨RX4, yX4_worth, ws_ yX4_worth cX4_worth 2 (some .int), 2, hC b 2 _ (RX4, TX4, _) hb e1 rfl, q307, q308, ok_X4_worth, by decide, ?_⟩
      refine vv_of (by decide +kernel) (Nat.le_of_ble_eq_true rfl) ?_
      intro v (F : vv_F v l cX4_worth 2 RX4 "worth" (some .int) [] (rm (d + 1) (22 * (d + 1))) Kf (fW H0) A _)
      show v () 0 0 0 [(0, .ref b)] []
      refine v_aload_n F 0 dX4_worth_0 rfl rfl rfl ?_
      refine g_get F hK (T := TX4) (k := 0) (hE b _ hb e1) rfl in_X4 (by decide) q611 (refT_s TX4 0) rfl dX4_worth_1 rfl ?_
      refine n_call F hKm hdc (x := ga (envV n p)) (d := d) (fun H hH => by rw [show H = H0 from hH]; exact ih a ga ha) q310 ⟨Nat.le_refl _, by show 22 + 22 * d ≤ 22 * (d + 1); omega⟩ rfl dX4_worth_4 rfl ?_
      refine v_istore_n (ls' := [(1, .int (ga (envV n p))), (0, .ref b)]) F dX4_worth_7 rfl rfl (by decide) rfl ?_
      refine v_aload_n F 1 dX4_worth_8 rfl rfl rfl ?_
      refine g_get F hK (T := TX4) (k := 1) (hE b _ hb e1) rfl in_X4 (by decide) q612 (refT_s TX4 1) rfl dX4_worth_9 rfl ?_
      rcases hz with ⟨rfl, rfl⟩ | ⟨rfl, rfl⟩
      · refine v_if_eq (tgt := 20) (q := 15) F dX4_worth_12 rfl rfl (fun c1 => absurd c1 (by decide)) (fun _ => ?_)
        refine v_iload_n F 0 dX4_worth_15 rfl rfl rfl ?_
        refine v_ineg F dX4_worth_16 rfl ?_
        refine v_goto (tgt := 29) F dX4_worth_17 rfl ?_
        exact v_reti F dX4_worth_29 rfl rfl trivial
      · refine v_if_eq (tgt := 20) (q := 15) F dX4_worth_12 rfl rfl (fun _ => ?_) (fun c1 => absurd rfl c1)
        refine v_iload_n F 0 dX4_worth_20 rfl rfl rfl ?_
        refine v_if_ne (tgt := 28) (q := 24) F dX4_worth_21 rfl rfl (fun c1 => ?_) (fun c1 => ?_)
        · refine v_iconst (x := 0) F dX4_worth_28 rfl (by decide) ?_
          exact v_reti F dX4_worth_29 rfl (if_neg c1).symm trivial
        · refine v_iconst (x := 1) F dX4_worth_24 rfl (by decide) ?_
          refine v_goto (tgt := 29) F dX4_worth_25 rfl ?_
          exact v_reti F dX4_worth_29 rfl (if_pos c1).symm trivial
    · refine ⟨RX7, yX7_worth, ws_ yX7_worth cX7_worth 3 (some .int), 3, hC b 5 _ (RX7, TX7, _) hb e1 rfl, q314, q311, ok_X7_worth, by decide, ?_⟩
      refine vv_of (by decide +kernel) (Nat.le_of_ble_eq_true rfl) ?_
      intro v (F : vv_F v l cX7_worth 3 RX7 "worth" (some .int) [] (rm (d + 1) (22 * (d + 1))) Kf (fW H0) A _)
      show v () 0 0 0 [(0, .ref b)] []
      refine v_aload_n F 0 dX7_worth_0 rfl rfl rfl ?_
      refine g_get F hK (T := TX7) (k := 1) (hE b _ hb e1) rfl in_X7 (by decide) q665 (refT_s TX7 1) rfl dX7_worth_1 rfl ?_
      refine n_call F hKm hdc (x := ga (envV n p)) (d := d) (fun H hH => by rw [show H = H0 from hH]; exact ih a ga ha) q313 ⟨Nat.le_refl _, by show 22 + 22 * d ≤ 22 * (d + 1); omega⟩ rfl dX7_worth_4 rfl ?_
      refine v_istore_n (ls' := [(1, .int (ga (envV n p))), (0, .ref b)]) F dX7_worth_7 rfl rfl (by decide) rfl ?_
      refine v_aload_n F 1 dX7_worth_8 rfl rfl rfl ?_
      refine g_get F hK (T := TX7) (k := 2) (hE b _ hb e1) rfl in_X7 (by decide) q666 (refT_s TX7 2) rfl dX7_worth_9 rfl ?_
      refine n_call F hKm hdc (x := gc (envV n p)) (d := d) (fun H hH => by rw [show H = H0 from hH]; exact ih c gc hc) q313 ⟨Nat.le_refl _, by show 22 + 22 * d ≤ 22 * (d + 1); omega⟩ rfl dX7_worth_12 rfl ?_
      refine v_istore_n (ls' := [(2, .int (gc (envV n p))), (1, .int (ga (envV n p))), (0, .ref b)]) F dX7_worth_15 rfl rfl (by decide) rfl ?_
      refine v_aload_n F 2 dX7_worth_16 rfl rfl rfl ?_
      refine g_get F hK (T := TX7) (k := 0) (hE b _ hb e1) rfl in_X7 (by decide) q664 (refT_s TX7 0) rfl dX7_worth_17 rfl ?_
      obtain ⟨x, hx⟩ : ∃ x, x = ga (envV n p) := ⟨_, rfl⟩
      obtain ⟨y, hy⟩ : ∃ y, y = gc (envV n p) := ⟨_, rfl⟩
      have e8 : (fun ρ => twoF sg (ga ρ) (gc ρ)) (envV n p) = twoF sg x y := by rw [hx, hy]
      rw [← hx, ← hy]
      by_cases k0 : sg = 43
      · subst k0
        refine v_lookup (tgt := 80) F dX7_worth_20 (by decide) (off := 60) (by decide) rfl ?_
        refine v_iload_n F 1 dX7_worth_80 rfl rfl rfl ?_
        refine v_iload_n F 0 dX7_worth_81 rfl rfl rfl ?_
        refine v_iadd F dX7_worth_82 rfl ?_
        exact v_reti F dX7_worth_83 rfl (by rw [e8]; unfold twoF; rw [if_pos rfl]) trivial
      by_cases k1 : sg = 45
      · subst k1
        refine v_lookup (tgt := 84) F dX7_worth_20 (by decide) (off := 64) (by decide) rfl ?_
        refine v_iload_n F 1 dX7_worth_84 rfl rfl rfl ?_
        refine v_iload_n F 0 dX7_worth_85 rfl rfl rfl ?_
        refine v_isub F dX7_worth_86 rfl ?_
        exact v_reti F dX7_worth_87 rfl (by rw [e8]; unfold twoF; rw [if_neg (by decide), if_pos rfl]) trivial
      by_cases k2 : sg = 42
      · subst k2
        refine v_lookup (tgt := 88) F dX7_worth_20 (by decide) (off := 68) (by decide) rfl ?_
        refine v_iload_n F 1 dX7_worth_88 rfl rfl rfl ?_
        refine v_iload_n F 0 dX7_worth_89 rfl rfl rfl ?_
        refine v_imul F dX7_worth_90 rfl ?_
        exact v_reti F dX7_worth_91 rfl (by rw [e8]; unfold twoF; rw [if_neg (by decide), if_neg (by decide), if_pos rfl]) trivial
      by_cases k3 : sg = 60
      · subst k3
        refine v_lookup (tgt := 92) F dX7_worth_20 (by decide) (off := 72) (by decide) rfl ?_
        refine v_iload_n F 1 dX7_worth_92 rfl rfl rfl ?_
        refine v_iload_n F 0 dX7_worth_93 rfl rfl rfl ?_
        refine v_icmp_ge (tgt := 101) (q := 97) F dX7_worth_94 rfl rfl (fun c1 => ?_) (fun c1 => ?_)
        · refine v_iconst (x := 0) F dX7_worth_101 rfl (by decide) ?_
          exact v_reti F dX7_worth_102 rfl (by rw [e8]; unfold twoF; rw [if_neg (by decide), if_neg (by decide), if_neg (by decide), if_pos rfl, if_neg (by grind)]) trivial
        · refine v_iconst (x := 1) F dX7_worth_97 rfl (by decide) ?_
          refine v_goto (tgt := 102) F dX7_worth_98 rfl ?_
          exact v_reti F dX7_worth_102 rfl (by rw [e8]; unfold twoF; rw [if_neg (by decide), if_neg (by decide), if_neg (by decide), if_pos rfl, if_pos (by grind)]) trivial
      by_cases k4 : sg = 61
      · subst k4
        refine v_lookup (tgt := 103) F dX7_worth_20 (by decide) (off := 83) (by decide) rfl ?_
        refine v_iload_n F 1 dX7_worth_103 rfl rfl rfl ?_
        refine v_iload_n F 0 dX7_worth_104 rfl rfl rfl ?_
        refine v_icmp_ne (tgt := 112) (q := 108) F dX7_worth_105 rfl rfl (fun c1 => ?_) (fun c1 => ?_)
        · refine v_iconst (x := 0) F dX7_worth_112 rfl (by decide) ?_
          exact v_reti F dX7_worth_113 rfl (by rw [e8]; unfold twoF; rw [if_neg (by decide), if_neg (by decide), if_neg (by decide), if_neg (by decide), if_pos rfl, if_neg c1]) trivial
        · refine v_iconst (x := 1) F dX7_worth_108 rfl (by decide) ?_
          refine v_goto (tgt := 113) F dX7_worth_109 rfl ?_
          exact v_reti F dX7_worth_113 rfl (by rw [e8]; unfold twoF; rw [if_neg (by decide), if_neg (by decide), if_neg (by decide), if_neg (by decide), if_pos rfl, if_pos c1]) trivial
      by_cases k5 : sg = 38
      · subst k5
        refine v_lookup (tgt := 114) F dX7_worth_20 (by decide) (off := 94) (by decide) rfl ?_
        refine v_iload_n F 1 dX7_worth_114 rfl rfl rfl ?_
        refine v_if_eq (tgt := 126) (q := 118) F dX7_worth_115 rfl rfl (fun c1 => ?_) (fun c1 => ?_)
        · refine v_iconst (x := 0) F dX7_worth_126 rfl (by decide) ?_
          exact v_reti F dX7_worth_127 rfl (by rw [e8]; unfold twoF; rw [if_neg (by decide), if_neg (by decide), if_neg (by decide), if_neg (by decide), if_neg (by decide), if_pos rfl, if_neg (by grind)]) trivial
        · refine v_iload_n F 0 dX7_worth_118 rfl rfl rfl ?_
          refine v_if_eq (tgt := 126) (q := 122) F dX7_worth_119 rfl rfl (fun c2 => ?_) (fun c2 => ?_)
          · refine v_iconst (x := 0) F dX7_worth_126 rfl (by decide) ?_
            exact v_reti F dX7_worth_127 rfl (by rw [e8]; unfold twoF; rw [if_neg (by decide), if_neg (by decide), if_neg (by decide), if_neg (by decide), if_neg (by decide), if_pos rfl, if_neg (by grind)]) trivial
          · refine v_iconst (x := 1) F dX7_worth_122 rfl (by decide) ?_
            refine v_goto (tgt := 127) F dX7_worth_123 rfl ?_
            exact v_reti F dX7_worth_127 rfl (by rw [e8]; unfold twoF; rw [if_neg (by decide), if_neg (by decide), if_neg (by decide), if_neg (by decide), if_neg (by decide), if_pos rfl, if_pos (by grind)]) trivial
      refine v_lookup (tgt := 128) F dX7_worth_20 (by decide) (off := 108) (two_off k0 k1 k2 k3 k4 k5) rfl ?_
      refine v_iload_n F 1 dX7_worth_128 rfl rfl rfl ?_
      have e9 : (fun ρ => twoF sg (ga ρ) (gc ρ)) (envV n p) = (if x ≠ 0 ∨ y ≠ 0 then 1 else 0) := by rw [e8]; unfold twoF; rw [if_neg k0, if_neg k1, if_neg k2, if_neg k3, if_neg k4, if_neg k5]
      refine v_if_ne (tgt := 136) (q := 132) F dX7_worth_129 rfl rfl (fun c1 => ?_) (fun c1 => ?_)
      · refine v_iconst (x := 1) F dX7_worth_136 rfl (by decide) ?_
        refine v_goto (tgt := 141) F dX7_worth_137 rfl ?_
        exact v_reti F dX7_worth_141 rfl (by rw [e9, if_pos (by grind)]) trivial
      · refine v_iload_n F 0 dX7_worth_132 rfl rfl rfl ?_
        refine v_if_eq (tgt := 140) (q := 136) F dX7_worth_133 rfl rfl (fun c2 => ?_) (fun c2 => ?_)
        · refine v_iconst (x := 0) F dX7_worth_140 rfl (by decide) ?_
          exact v_reti F dX7_worth_141 rfl (by rw [e9, if_neg (by grind)]) trivial
        · refine v_iconst (x := 1) F dX7_worth_136 rfl (by decide) ?_
          refine v_goto (tgt := 141) F dX7_worth_137 rfl ?_
          exact v_reti F dX7_worth_141 rfl (by rw [e9, if_pos (by grind)]) trivial
