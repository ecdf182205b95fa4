set_option maxRecDepth 100000
def tofV (α : mS) (p : Nat) (w : Int32) : Int32 := if w = 3 then α 12 (3 * p) else if w = 4 then α 12 (3 * p + 1) else if w = 5 then α 12 (3 * p + 2) else if w = 6 then α 11 p else if w = 7 then rotV α p else if w = 8 then groV α p (α 12 (3 * p + 2)) else if w = 9 then floV α p (α 12 (3 * p + 2)) else sayV α 2 p
theorem tol_of {α : mS} {p : Nat} {o w : Int32} (hw : 3 ≤ w ∧ w ≤ 10) (ho : tn o = p) (h : isOfP α w o) : tolV α o w = tofV α p w := by
  unfold tolV tofV
  rw [if_neg (fun g => g.elim (fun g => g ⟨by have := hw.1; grind, hw.2⟩) (fun g => g h)), if_neg (by have := hw.1; grind), if_neg (by have := hw.1; grind), if_neg (by have := hw.1; grind), ho]
theorem isOf_p {α : mS} {o w : Int32} (hw : 3 ≤ w ∧ w ≤ 10) (h : 0 ≤ o ∧ o ≤ α 0 13 - 1) : isOfP α w o := Or.inr (by rw [if_neg (by have := hw.1; grind)]; exact h)
theorem isOf_n {α : mS} {o w : Int32} (hw : 3 ≤ w ∧ w ≤ 10) (h : ¬ (0 ≤ o ∧ o ≤ α 0 13 - 1)) : ¬ isOfP α w o := fun g => h (tol_3 g hw.1)
section SO
variable {α : mS} {w o x : Int32}
theorem so_0 (h : w = 0) : setOK α w o x ↔ (0 ≤ x ∧ x ≤ 99) := by
  subst h
  exact ⟨fun g => g.2.2, fun g => ⟨by decide, Or.inl (by decide), g⟩⟩
theorem so_1 (h : w = 1) : setOK α w o x ↔ (0 ≤ x ∧ x ≤ 9) := by
  subst h
  exact ⟨fun g => g.2.2, fun g => ⟨by decide, Or.inl (by decide), g⟩⟩
theorem so_2 (h : w = 2) : setOK α w o x ↔ ((0 ≤ o ∧ o ≤ 7) ∧ (0 ≤ x ∧ x ≤ 9)) := by
  subst h
  exact ⟨fun g => ⟨g.2.1.elim (fun e => absurd e (by decide)) (fun e => by rw [if_pos rfl] at e; exact e), g.2.2⟩, fun g => ⟨by decide, Or.inr (by rw [if_pos rfl]; exact g.1), g.2⟩⟩
theorem so_3 (h : w = 3) : setOK α w o x ↔ ((0 ≤ o ∧ o ≤ α 0 13 - 1) ∧ (0 ≤ x ∧ x ≤ 9)) := by
  subst h
  exact ⟨fun g => ⟨g.2.1.elim (fun e => absurd e (by decide)) (fun e => by rw [if_neg (by decide)] at e; exact e), g.2.2⟩, fun g => ⟨by decide, Or.inr (by rw [if_neg (by decide)]; exact g.1), g.2⟩⟩
theorem so_4 (h : w = 4) : setOK α w o x ↔ ((0 ≤ o ∧ o ≤ α 0 13 - 1) ∧ (0 ≤ x ∧ x ≤ 7)) := by
  subst h
  exact ⟨fun g => ⟨g.2.1.elim (fun e => absurd e (by decide)) (fun e => by rw [if_neg (by decide)] at e; exact e), g.2.2⟩, fun g => ⟨by decide, Or.inr (by rw [if_neg (by decide)]; exact g.1), g.2⟩⟩
theorem so_5 (h : w = 5) : setOK α w o x ↔ ((0 ≤ o ∧ o ≤ α 0 13 - 1) ∧ (0 ≤ x ∧ x ≤ 9999)) := by
  subst h
  exact ⟨fun g => ⟨g.2.1.elim (fun e => absurd e (by decide)) (fun e => by rw [if_neg (by decide)] at e; exact e), g.2.2⟩, fun g => ⟨by decide, Or.inr (by rw [if_neg (by decide)]; exact g.1), g.2⟩⟩
theorem so_n (h0 : ¬ w = 0) (h1 : ¬ w = 1) (h2 : ¬ w = 2) (h3 : ¬ w = 3) (h4 : ¬ w = 4) (h5 : ¬ w = 5) : ¬ setOK α w o x := by
  rintro ⟨⟨a, b⟩, -, -⟩
  grind
end SO
theorem bI_iff {p q : Prop} [Decidable p] [Decidable q] (h : q ↔ p) : bI p = bI q := by unfold bI; by_cases hp : p <;> simp [hp, h]
theorem lay_cab {n : mS} {k p : Nat} {x : Int32} : cab (layS n k p x) = layS (cab n) k p x := by
  unfold layS
  repeat' split
  all_goals exact cab_u rfl
theorem lay_k {n : mS} {k p : Nat} {x : Int32} (j : Nat) (hk : k = 3 + j) (hj : j < 3) : up n 12 (3 * p + j) x = layS n k p x := by
  subst hk
  unfold layS
  rw [if_neg (by omega), if_neg (by omega), if_neg (by omega), if_pos (by omega), show 3 * p + (3 + j) - 3 = 3 * p + j by omega]
theorem ok_X0_toldOf : vv_oc yX0_toldOf 4 2 (ws_ yX0_toldOf cX0_toldOf 4 (some .int)) := vv_ok.oc (rt := (some .int)) ⟨q264, q116, by decide +kernel, by decide +kernel⟩
theorem is_X0_toldOf : Cond.instanceMethod yX0_toldOf ∈ lw_all ∧ Cond.selects RX0 yX0_toldOf yX0_toldOf ∈ lw_all := ⟨q263, qs2⟩
set_option maxHeartbeats 4000000 in
theorem cc_X0_toldOf {l : Launch} {Kf : State → Prop} {D : va_G} {K : Nat → ClassId} {fv : List Value × (Nat → Nat)} {A : Nat → Prop} (G : cG A fv cIm Kf D K)  (n : mS) (δ : Nat → Nat) (ν : Nat → Option (Mg × Nat)) (p : Nat) (w : Int32) (hok : cOk n) (hp : p < tn (n 0 13)) : vv_Ct l yX0_toldOf (ws_ yX0_toldOf cX0_toldOf 4 (some .int)) (rm 164 3607) Kf (cWd D K fv A) A [.ref (δ 0), .int (nI p), .int w] (n, δ, ν) (vv_i (tofV (cab n) p w) (fun u => ∃ t : mS, u = (t, δ, ν) ∧ cab t = cab n ∧ cOw n t)) := by
  refine vv_of (by decide +kernel) (Nat.le_of_ble_eq_true rfl) ?_
  intro v (F : vv_F v l cX0_toldOf 4 RX0 "toldOf" (some .int) [] (rm 164 3607) Kf (cWd D K fv A) A _)
  show v (n, δ, ν) 0 0 0 [(0, .ref (δ 0)), (1, .int (nI p)), (2, .int w)] []
  have hM := hok.m
  have h8 := hok.m8
  have hg : n 12 (3 * p + 1) = nI (tn (n 12 (3 * p + 1))) := (hok.1.2.1 p hp).1.1
  have hg7 : tn (n 12 (3 * p + 1)) ≤ 7 := (hok.1.2.1 p hp).1.2
  have hke : n 11 p = nI (tn (n 11 p)) := (hok.2 p hp).1
  have h0m : 0 ≤ n 12 (3 * p + 2) := (hok.1.2.1 p hp).2.1
  refine v_aload_n F 0 dX0_toldOf_0 rfl rfl rfl ?_
  refine c_get F G 0 (w := .ref (δ 1)) (by decide) q797 rfl dX0_toldOf_1 rfl ?_
  refine v_iload_n F 1 dX0_toldOf_4 rfl rfl rfl ?_
  refine c_plant (s := p) F G (hok.lv hp) (by omega) dX0_toldOf_5 rfl ?_
  refine v_astore_n (ls' := [(3, .ref (δ (200 + p))), (0, .ref (δ 0)), (1, .int (nI p)), (2, .int w)]) F dX0_toldOf_6 rfl rfl (by decide) rfl ?_
  refine v_iload_n F 3 dX0_toldOf_7 rfl rfl rfl ?_
  by_cases k1 : w = 3
  · skip
    refine v_int F k1 ?_
    refine v_tableIn (x := 3) (tgt := 52) F dX0_toldOf_8 (by decide) (by decide) (off := 44) rfl rfl ?_
    refine v_aload_n F 0 dX0_toldOf_52 rfl rfl rfl ?_
    refine c_bget F G p 0 (hok.lv hp) (hok.k hp) (by decide) q179 (refO_9 0) dX0_toldOf_53 rfl ?_
    exact v_reti F dX0_toldOf_56 rfl (by unfold tofV; rw [if_pos k1]; first | done | rfl) (⟨_, rfl, rfl, cOw.rf⟩)
  by_cases k2 : w = 4
  · skip
    refine v_int F k2 ?_
    refine v_tableIn (x := 4) (tgt := 57) F dX0_toldOf_8 (by decide) (by decide) (off := 49) rfl rfl ?_
    refine v_aload_n F 0 dX0_toldOf_57 rfl rfl rfl ?_
    refine c_bget F G p 1 (hok.lv hp) (hok.k hp) (by decide) q182 (refO_9 1) dX0_toldOf_58 rfl ?_
    refine v_int F (hg) ?_
    exact v_reti F dX0_toldOf_61 rfl (by unfold tofV; rw [if_neg k1, if_pos k2]; exact hg.symm) (⟨_, rfl, rfl, cOw.rf⟩)
  by_cases k3 : w = 5
  · skip
    refine v_int F k3 ?_
    refine v_tableIn (x := 5) (tgt := 62) F dX0_toldOf_8 (by decide) (by decide) (off := 54) rfl rfl ?_
    refine v_aload_n F 0 dX0_toldOf_62 rfl rfl rfl ?_
    refine c_bget F G p 2 (hok.lv hp) (hok.k hp) (by decide) q185 (refO_9 2) dX0_toldOf_63 rfl ?_
    exact v_reti F dX0_toldOf_66 rfl (by unfold tofV; rw [if_neg k1, if_neg k2, if_pos k3]; first | done | rfl) (⟨_, rfl, rfl, cOw.rf⟩)
  by_cases k4 : w = 6
  · skip
    refine v_int F k4 ?_
    refine v_tableIn (x := 6) (tgt := 67) F dX0_toldOf_8 (by decide) (by decide) (off := 59) rfl rfl ?_
    refine v_aload_n F 0 dX0_toldOf_67 rfl rfl rfl ?_
    refine c_vcalli F G (As := []) (hok.lv hp) (hok.k hp) q265 od_kind vo_kind (vc_kind G n δ ν p  (hok.lv hp) (hok.k hp)) rfl rfl dX0_toldOf_68 rfl rfl ?_
    intro u0 hu0; subst u0
    exact v_reti F dX0_toldOf_71 rfl (by unfold tofV; rw [if_neg k1, if_neg k2, if_neg k3, if_pos k4]; exact hke.symm) (⟨_, rfl, rfl, cOw.rf⟩)
  by_cases k5 : w = 7
  · skip
    refine v_int F k5 ?_
    refine v_tableIn (x := 7) (tgt := 72) F dX0_toldOf_8 (by decide) (by decide) (off := 64) rfl rfl ?_
    refine v_aload_n F 1 dX0_toldOf_72 rfl rfl rfl ?_
    refine v_iload_n F 2 dX0_toldOf_73 rfl rfl rfl ?_
    refine c_calli F G (cc_X0_rotsOf G n δ ν p hok hp) ok_X0_rotsOf q290 is_X0_rotsOf rfl rfl dX0_toldOf_74 rfl rfl ?_
    rintro _ ⟨t6, rfl, hb6, hct6⟩
    have okt6 : cOk t6 := cOk.of (show cOk n from hok) hb6
    have hpt6_0 : p < tn (t6 0 13) := by rw [cab_eq hb6 0 13 rfl]; exact hp
    exact v_reti F dX0_toldOf_77 rfl (by unfold tofV; rw [if_neg k1, if_neg k2, if_neg k3, if_neg k4, if_pos k5]; first | done | rfl) (⟨_, rfl, hb6, hct6⟩)
  by_cases k7 : w = 8
  · skip
    refine v_int F k7 ?_
    refine v_tableIn (x := 8) (tgt := 78) F dX0_toldOf_8 (by decide) (by decide) (off := 70) rfl rfl ?_
    refine v_aload_n F 0 dX0_toldOf_78 rfl rfl rfl ?_
    refine v_aload_n F 0 dX0_toldOf_79 rfl rfl rfl ?_
    refine c_bget F G p 2 (hok.lv hp) (hok.k hp) (by decide) q185 (refO_9 2) dX0_toldOf_80 rfl ?_
    refine v_aload_n F 1 dX0_toldOf_83 rfl rfl rfl ?_
    refine c_get F G 5 (w := .ref (δ 5)) (by decide) q805 rfl dX0_toldOf_84 rfl ?_
    refine v_aload_n F 0 dX0_toldOf_87 rfl rfl rfl ?_
    refine c_bget F G p 1 (hok.lv hp) (hok.k hp) (by decide) q182 (refO_9 1) dX0_toldOf_88 rfl ?_
    refine v_int F (hg) ?_
    refine c_ald (t := tn (n 12 (3 * p + 1))) F G 5 10 8 (fun _ => rfl) (by unfold rowO; omega) (by omega) (by decide) dX0_toldOf_91 rfl ?_
    refine v_aload_n F 1 dX0_toldOf_92 rfl rfl rfl ?_
    refine c_get F G 2 (w := .int (n 0 7)) (by decide) q800 rfl dX0_toldOf_93 rfl ?_
    refine c_vcalli F G (As := [.int (n 12 (3 * p + 2)), .int (n 10 (tn (n 12 (3 * p + 1)))), .int (n 0 7)]) (y := fun _ => yX9_heldGrows) (ws := fun _ => ws_ yX9_heldGrows cX9_heldGrows 4 (some .int)) (mL := fun _ => 4) (hok.lv hp) (hok.k hp) q358 od_heldGrows vo_heldGrows (fun _ _ _ => cc_X9_heldGrows G n δ ν p (n 12 (3 * p + 2)) (n 10 (tn (n 12 (3 * p + 1)))) (n 0 7) (hok.lv hp) (hok.k hp) hke) rfl rfl dX0_toldOf_96 rfl rfl ?_
    intro u0 hu0; subst u0
    exact v_reti F dX0_toldOf_99 rfl (by unfold tofV; rw [if_neg k1, if_neg k2, if_neg k3, if_neg k4, if_neg k5, if_pos k7]; show _ = groF (n 11 p) (n 12 (3 * p + 2)) (n 10 (tn (n 12 (3 * p + 1)))) (n 12 (3 * p)) (n 0 7); rfl) (⟨_, rfl, rfl, cOw.rf⟩)
  by_cases k8 : w = 9
  · skip
    refine v_int F k8 ?_
    refine v_tableIn (x := 9) (tgt := 100) F dX0_toldOf_8 (by decide) (by decide) (off := 92) rfl rfl ?_
    refine v_aload_n F 0 dX0_toldOf_100 rfl rfl rfl ?_
    refine c_vcalli F G (As := []) (y := fun _ => yX9_heldFlowers) (ws := fun _ => ws_ yX9_heldFlowers cX9_heldFlowers 1 (some .int)) (mL := fun _ => 1) (hok.lv hp) (hok.k hp) q391 od_heldFlowers vo_heldFlowers (fun _ _ _ => cc_X9_heldFlowers G n δ ν p  (hok.lv hp) (hok.k hp) hke h0m) rfl rfl dX0_toldOf_101 rfl rfl ?_
    intro u0 hu0; subst u0
    exact v_reti F dX0_toldOf_104 rfl (by unfold tofV; rw [if_neg k1, if_neg k2, if_neg k3, if_neg k4, if_neg k5, if_neg k7, if_pos k8]; show _ = floF (n 11 p) (n 12 (3 * p + 2)) (n 12 (3 * p)); rfl) (⟨_, rfl, rfl, cOw.rf⟩)
  have tout8 : w.toInt < 3 ∨ 9 < w.toInt := by have := two_ne (k := 3) (c := 3) (by decide) k1; have := two_ne (k := 4) (c := 4) (by decide) k2; have := two_ne (k := 5) (c := 5) (by decide) k3; have := two_ne (k := 6) (c := 6) (by decide) k4; have := two_ne (k := 7) (c := 7) (by decide) k5; have := two_ne (k := 8) (c := 8) (by decide) k7; have := two_ne (k := 9) (c := 9) (by decide) k8; omega
  refine v_tableOut (tgt := 105) F dX0_toldOf_8 tout8 rfl ?_
  refine v_aload_n F 1 dX0_toldOf_105 rfl rfl rfl ?_
  refine v_iconst (x := 2) F dX0_toldOf_106 rfl (by decide) ?_
  refine v_iload_n F 2 dX0_toldOf_107 rfl rfl rfl ?_
  refine c_calli F G (cc_X0_asks G n δ ν 2 p hok hp (by omega)) ok_X0_asks q294 is_X0_asks rfl rfl dX0_toldOf_108 rfl rfl ?_
  rintro _ ⟨t9, rfl, hb9, hct9⟩
  have okt9 : cOk t9 := cOk.of (show cOk n from hok) hb9
  have hpt9_0 : p < tn (t9 0 13) := by rw [cab_eq hb9 0 13 rfl]; exact hp
  exact v_reti F dX0_toldOf_111 rfl (by unfold tofV; rw [if_neg k1, if_neg k2, if_neg k3, if_neg k4, if_neg k5, if_neg k7, if_neg k8]; first | done | rfl) (⟨_, rfl, hb9, hct9⟩)
theorem ok_X0_told : vv_oc yX0_told 3 2 (ws_ yX0_told cX0_told 3 (some .int)) := vv_ok.oc (rt := (some .int)) ⟨q258, q116, by decide +kernel, by decide +kernel⟩
theorem is_X0_told : Cond.instanceMethod yX0_told ∈ lw_all ∧ Cond.selects RX0 yX0_told yX0_told ∈ lw_all := ⟨q256, q257⟩
set_option maxHeartbeats 4000000 in
theorem cc_X0_told {l : Launch} {Kf : State → Prop} {D : va_G} {K : Nat → ClassId} {fv : List Value × (Nat → Nat)} {A : Nat → Prop} (G : cG A fv cIm Kf D K)  (n : mS) (δ : Nat → Nat) (ν : Nat → Option (Mg × Nat)) (o : Int32) (w : Int32) (hok : cOk n) : vv_Ct l yX0_told (ws_ yX0_told cX0_told 3 (some .int)) (rm 165 3630) Kf (cWd D K fv A) A [.ref (δ 0), .int o, .int w] (n, δ, ν) (vv_i (tolV (cab n) o w) (fun u => ∃ t : mS, u = (t, δ, ν) ∧ cab t = cab n ∧ cOw n t)) := by
  refine vv_of (by decide +kernel) (Nat.le_of_ble_eq_true rfl) ?_
  intro v (F : vv_F v l cX0_told 3 RX0 "told" (some .int) [] (rm 165 3630) Kf (cWd D K fv A) A _)
  show v (n, δ, ν) 0 0 0 [(0, .ref (δ 0)), (1, .int o), (2, .int w)] []
  have hM := hok.m
  have h8 := hok.m8
  refine v_iload_n F 2 dX0_told_0 rfl rfl rfl ?_
  by_cases k1 : w = 0
  · skip
    refine v_int F k1 ?_
    refine v_tableIn (x := 0) (tgt := 28) F dX0_told_1 (by decide) (by decide) (off := 27) rfl rfl ?_
    refine v_aload_n F 0 dX0_told_28 rfl rfl rfl ?_
    refine c_get F G 2 (w := .int (n 0 7)) (by decide) q800 rfl dX0_told_29 rfl ?_
    exact v_reti F dX0_told_32 rfl ((tolV_0 (α := cab n) k1 (Or.inl (by rw [k1]; decide))).symm) (⟨_, rfl, rfl, cOw.rf⟩)
  by_cases k2 : w = 1
  · skip
    refine v_int F k2 ?_
    refine v_tableIn (x := 1) (tgt := 33) F dX0_told_1 (by decide) (by decide) (off := 32) rfl rfl ?_
    refine v_aload_n F 0 dX0_told_33 rfl rfl rfl ?_
    refine c_get F G 3 (w := .int (n 0 8)) (by decide) q802 rfl dX0_told_34 rfl ?_
    exact v_reti F dX0_told_37 rfl ((tolV_1 (α := cab n) k2 (Or.inl (by rw [k2]; decide))).symm) (⟨_, rfl, rfl, cOw.rf⟩)
  by_cases k3 : w = 2
  · skip
    refine v_int F k3 ?_
    refine v_tableIn (x := 2) (tgt := 38) F dX0_told_1 (by decide) (by decide) (off := 37) rfl rfl ?_
    refine v_iload_n F 1 dX0_told_38 rfl rfl rfl ?_
    refine s_calli F G.1 (cg_X0_isGarden G.1 (n, δ, ν) o ) ok_X0_isGarden q155 q156 rfl rfl dX0_told_39 rfl rfl ?_
    intro u0 hu0; subst u0
    refine v_if_eqB (p := (0 ≤ o ∧ o ≤ 7)) (tgt := 54) (q := 45) F dX0_told_42 rfl rfl (fun c4 => ?_) (fun c4 => ?_)
    · skip
      refine v_bipush (x := (-2)) F dX0_told_54 rfl (by decide) ?_
      exact v_reti F dX0_told_56 rfl ((tolV_b2 (α := cab n) (fun h => c4 (h.elim (fun e => absurd (k3 ▸ e) (by decide)) (fun e => by rw [if_pos k3] at e; exact e)))).symm) (⟨_, rfl, rfl, cOw.rf⟩)
    · skip
      obtain ⟨g, hg, hog⟩ := in_of (M := 7) (n := 7) (by decide) c4
      refine v_aload_n F 0 dX0_told_45 rfl rfl rfl ?_
      refine c_get F G 5 (w := .ref (δ 5)) (by decide) q805 rfl dX0_told_46 rfl ?_
      refine v_iload_n F 1 dX0_told_49 rfl rfl rfl ?_
      refine v_int F (hog) ?_
      refine c_ald (t := g) F G 5 10 8 (fun _ => rfl) (by unfold rowO; omega) (by omega) (by decide) dX0_told_50 rfl ?_
      refine v_goto (tgt := 56) F dX0_told_51 rfl ?_
      exact v_reti F dX0_told_56 rfl (by rw [tolV_2 (α := cab n) k3 (Or.inr (by rw [if_pos k3]; exact c4)), show tn o = g by rw [hog, tn_nI (by omega)]]; rfl) (⟨_, rfl, rfl, cOw.rf⟩)
  have tout1 : w.toInt < 0 ∨ 2 < w.toInt := by have := two_ne (k := 0) (c := 0) (by decide) k1; have := two_ne (k := 1) (c := 1) (by decide) k2; have := two_ne (k := 2) (c := 2) (by decide) k3; omega
  refine v_tableOut (tgt := 57) F dX0_told_1 tout1 rfl ?_
  refine v_iload_n F 2 dX0_told_57 rfl rfl rfl ?_
  refine v_i2l F dX0_told_58 rfl ?_
  refine v_ldc2 F q259 dX0_told_59 rfl ?_
  refine v_lng (y := (3 : Int32).toInt64) F (by decide) ?_
  refine v_ldc2 F q260 dX0_told_62 rfl ?_
  refine v_lng (y := (10 : Int32).toInt64) F (by decide) ?_
  refine s_calli F G.1 (cg_X0_in G.1 (n, δ, ν) w 3 10 ) ok_X0_in q151 q152 rfl rfl dX0_told_65 rfl rfl ?_
  intro u0 hu0; subst u0
  refine v_if_eqB (p := (3 ≤ w ∧ w ≤ 10)) (tgt := 88) (q := 71) F dX0_told_68 rfl rfl (fun c5 => ?_) (fun c5 => ?_)
  · skip
    refine v_bipush (x := (-2)) F dX0_told_88 rfl (by decide) ?_
    exact v_reti F dX0_told_90 rfl ((tolV_b1 (α := cab n) (fun h => c5 ⟨by have := h.1; grind, h.2⟩)).symm) (⟨_, rfl, rfl, cOw.rf⟩)
  · skip
    refine v_aload_n F 0 dX0_told_71 rfl rfl rfl ?_
    refine v_iload_n F 1 dX0_told_72 rfl rfl rfl ?_
    refine c_calli F G (cc_X0_isPlant G n δ ν o ) ok_X0_isPlant q250 is_X0_isPlant rfl rfl dX0_told_73 rfl rfl ?_
    intro u0 hu0; subst u0
    refine v_if_eqB (p := (0 ≤ o ∧ o ≤ n 0 13 - 1)) (tgt := 88) (q := 79) F dX0_told_76 rfl rfl (fun c6 => ?_) (fun c6 => ?_)
    · skip
      refine v_bipush (x := (-2)) F dX0_told_88 rfl (by decide) ?_
      exact v_reti F dX0_told_90 rfl ((tolV_b2 (α := cab n) (isOf_n c5 c6)).symm) (⟨_, rfl, rfl, cOw.rf⟩)
    · skip
      obtain ⟨p, hp, hop⟩ := pl_of hM h8 c6
      have htn : tn o = p := by rw [hop, tn_nI (by omega)]
      refine v_aload_n F 0 dX0_told_79 rfl rfl rfl ?_
      refine v_iload_n F 1 dX0_told_80 rfl rfl rfl ?_
      refine v_int F (hop) ?_
      refine v_iload_n F 2 dX0_told_81 rfl rfl rfl ?_
      refine c_calli F G (cc_X0_toldOf G n δ ν p w hok hp) ok_X0_toldOf q261 is_X0_toldOf rfl rfl dX0_told_82 rfl rfl ?_
      rintro _ ⟨t7, rfl, hb7, hct7⟩
      have okt7 : cOk t7 := cOk.of (show cOk n from hok) hb7
      refine v_goto (tgt := 90) F dX0_told_85 rfl ?_
      exact v_reti F dX0_told_90 rfl ((tol_of (α := cab n) c5 htn (isOf_p c5 c6)).symm) (⟨_, rfl, hb7, hct7⟩)
theorem ok_X0_isSo : vv_oc yX0_isSo 4 3 (ws_ yX0_isSo cX0_isSo 4 (some .boolean)) := vv_ok.oc (rt := (some .boolean)) ⟨q248, q116, by decide +kernel, by decide +kernel⟩
theorem is_X0_isSo : Cond.instanceMethod yX0_isSo ∈ lw_all ∧ Cond.selects RX0 yX0_isSo yX0_isSo ∈ lw_all := ⟨q246, qs0⟩
set_option maxHeartbeats 4000000 in
theorem cc_X0_isSo {l : Launch} {Kf : State → Prop} {D : va_G} {K : Nat → ClassId} {fv : List Value × (Nat → Nat)} {A : Nat → Prop} (G : cG A fv cIm Kf D K)  (n : mS) (δ : Nat → Nat) (ν : Nat → Option (Mg × Nat)) (w : Int32) (o : Int32) (x : Int32)  : vv_Ct l yX0_isSo (ws_ yX0_isSo cX0_isSo 4 (some .boolean)) (rm 2 46) Kf (cWd D K fv A) A [.ref (δ 0), .int w, .int o, .int x] (n, δ, ν) (vv_i (bI (setOK n w o x)) (fun u => u = (n, δ, ν))) := by
  refine vv_of (by decide +kernel) (Nat.le_of_ble_eq_true rfl) ?_
  intro v (F : vv_F v l cX0_isSo 4 RX0 "isSo" (some .boolean) [] (rm 2 46) Kf (cWd D K fv A) A _)
  show v (n, δ, ν) 0 0 0 [(0, .ref (δ 0)), (1, .int w), (2, .int o), (3, .int x)] []
  refine v_iload_n F 1 dX0_isSo_0 rfl rfl rfl ?_
  by_cases k1 : w = 0
  · skip
    refine v_int F k1 ?_
    refine v_tableIn (x := 0) (tgt := 36) F dX0_isSo_1 (by decide) (by decide) (off := 35) rfl rfl ?_
    refine v_iload_n F 3 dX0_isSo_36 rfl rfl rfl ?_
    refine v_i2l F dX0_isSo_37 rfl ?_
    refine v_lconst (x := (0 : Int32).toInt64) F dX0_isSo_38 rfl (by decide) ?_
    refine v_ldc2 F q249 dX0_isSo_39 rfl ?_
    refine v_lng (y := (99 : Int32).toInt64) F (by decide) ?_
    refine s_calli F G.1 (cg_X0_in G.1 (n, δ, ν) x 0 99 ) ok_X0_in q151 q152 rfl rfl dX0_isSo_42 rfl rfl ?_
    intro u0 hu0; subst u0
    exact v_retz F dX0_isSo_45 rfl (bI_iff (so_0 (α := n) (o := o) k1)) (rfl)
  by_cases k2 : w = 1
  · skip
    refine v_int F k2 ?_
    refine v_tableIn (x := 1) (tgt := 46) F dX0_isSo_1 (by decide) (by decide) (off := 45) rfl rfl ?_
    refine v_iload_n F 3 dX0_isSo_46 rfl rfl rfl ?_
    refine v_i2l F dX0_isSo_47 rfl ?_
    refine v_lconst (x := (0 : Int32).toInt64) F dX0_isSo_48 rfl (by decide) ?_
    refine v_ldc2 F q154 dX0_isSo_49 rfl ?_
    refine v_lng (y := (9 : Int32).toInt64) F (by decide) ?_
    refine s_calli F G.1 (cg_X0_in G.1 (n, δ, ν) x 0 9 ) ok_X0_in q151 q152 rfl rfl dX0_isSo_52 rfl rfl ?_
    intro u0 hu0; subst u0
    exact v_retz F dX0_isSo_55 rfl (bI_iff (so_1 (α := n) (o := o) k2)) (rfl)
  by_cases k3 : w = 2
  · skip
    refine v_int F k3 ?_
    refine v_tableIn (x := 2) (tgt := 56) F dX0_isSo_1 (by decide) (by decide) (off := 55) rfl rfl ?_
    refine v_iload_n F 2 dX0_isSo_56 rfl rfl rfl ?_
    refine s_calli F G.1 (cg_X0_isGarden G.1 (n, δ, ν) o ) ok_X0_isGarden q155 q156 rfl rfl dX0_isSo_57 rfl rfl ?_
    intro u0 hu0; subst u0
    refine v_if_eqB (p := (0 ≤ o ∧ o ≤ 7)) (tgt := 79) (q := 63) F dX0_isSo_60 rfl rfl (fun c4 => ?_) (fun c4 => ?_)
    · skip
      refine v_iconst (x := 0) F dX0_isSo_79 rfl (by decide) ?_
      exact v_retz F dX0_isSo_80 rfl ((bI_f (fun h => c4 ((so_2 (α := n) k3).mp h).1)).symm) (rfl)
    · skip
      refine v_iload_n F 3 dX0_isSo_63 rfl rfl rfl ?_
      refine v_i2l F dX0_isSo_64 rfl ?_
      refine v_lconst (x := (0 : Int32).toInt64) F dX0_isSo_65 rfl (by decide) ?_
      refine v_ldc2 F q154 dX0_isSo_66 rfl ?_
      refine v_lng (y := (9 : Int32).toInt64) F (by decide) ?_
      refine s_calli F G.1 (cg_X0_in G.1 (n, δ, ν) x 0 9 ) ok_X0_in q151 q152 rfl rfl dX0_isSo_69 rfl rfl ?_
      intro u0 hu0; subst u0
      refine v_if_eqB (p := (0 ≤ x ∧ x ≤ 9)) (tgt := 79) (q := 75) F dX0_isSo_72 rfl rfl (fun c5 => ?_) (fun c5 => ?_)
      · skip
        refine v_iconst (x := 0) F dX0_isSo_79 rfl (by decide) ?_
        exact v_retz F dX0_isSo_80 rfl ((bI_f (fun h => c5 ((so_2 (α := n) k3).mp h).2)).symm) (rfl)
      · skip
        refine v_iconst (x := 1) F dX0_isSo_75 rfl (by decide) ?_
        refine v_goto (tgt := 80) F dX0_isSo_76 rfl ?_
        exact v_retz F dX0_isSo_80 rfl ((bI_t ((so_2 (α := n) k3).mpr ⟨c4, c5⟩)).symm) (rfl)
  by_cases k6 : w = 3
  · skip
    refine v_int F k6 ?_
    refine v_tableIn (x := 3) (tgt := 81) F dX0_isSo_1 (by decide) (by decide) (off := 80) rfl rfl ?_
    refine v_aload_n F 0 dX0_isSo_81 rfl rfl rfl ?_
    refine v_iload_n F 2 dX0_isSo_82 rfl rfl rfl ?_
    refine c_calli F G (cc_X0_isPlant G n δ ν o ) ok_X0_isPlant q250 is_X0_isPlant rfl rfl dX0_isSo_83 rfl rfl ?_
    intro u0 hu0; subst u0
    refine v_if_eqB (p := (0 ≤ o ∧ o ≤ n 0 13 - 1)) (tgt := 105) (q := 89) F dX0_isSo_86 rfl rfl (fun c7 => ?_) (fun c7 => ?_)
    · skip
      refine v_iconst (x := 0) F dX0_isSo_105 rfl (by decide) ?_
      exact v_retz F dX0_isSo_106 rfl ((bI_f (fun h => c7 ((so_3 (α := n) k6).mp h).1)).symm) (rfl)
    · skip
      refine v_iload_n F 3 dX0_isSo_89 rfl rfl rfl ?_
      refine v_i2l F dX0_isSo_90 rfl ?_
      refine v_lconst (x := (0 : Int32).toInt64) F dX0_isSo_91 rfl (by decide) ?_
      refine v_ldc2 F q154 dX0_isSo_92 rfl ?_
      refine v_lng (y := (9 : Int32).toInt64) F (by decide) ?_
      refine s_calli F G.1 (cg_X0_in G.1 (n, δ, ν) x 0 9 ) ok_X0_in q151 q152 rfl rfl dX0_isSo_95 rfl rfl ?_
      intro u0 hu0; subst u0
      refine v_if_eqB (p := (0 ≤ x ∧ x ≤ 9)) (tgt := 105) (q := 101) F dX0_isSo_98 rfl rfl (fun c8 => ?_) (fun c8 => ?_)
      · skip
        refine v_iconst (x := 0) F dX0_isSo_105 rfl (by decide) ?_
        exact v_retz F dX0_isSo_106 rfl ((bI_f (fun h => c8 ((so_3 (α := n) k6).mp h).2)).symm) (rfl)
      · skip
        refine v_iconst (x := 1) F dX0_isSo_101 rfl (by decide) ?_
        refine v_goto (tgt := 106) F dX0_isSo_102 rfl ?_
        exact v_retz F dX0_isSo_106 rfl ((bI_t ((so_3 (α := n) k6).mpr ⟨c7, c8⟩)).symm) (rfl)
  by_cases k9 : w = 4
  · skip
    refine v_int F k9 ?_
    refine v_tableIn (x := 4) (tgt := 107) F dX0_isSo_1 (by decide) (by decide) (off := 106) rfl rfl ?_
    refine v_aload_n F 0 dX0_isSo_107 rfl rfl rfl ?_
    refine v_iload_n F 2 dX0_isSo_108 rfl rfl rfl ?_
    refine c_calli F G (cc_X0_isPlant G n δ ν o ) ok_X0_isPlant q250 is_X0_isPlant rfl rfl dX0_isSo_109 rfl rfl ?_
    intro u0 hu0; subst u0
    refine v_if_eqB (p := (0 ≤ o ∧ o ≤ n 0 13 - 1)) (tgt := 126) (q := 115) F dX0_isSo_112 rfl rfl (fun c10 => ?_) (fun c10 => ?_)
    · skip
      refine v_iconst (x := 0) F dX0_isSo_126 rfl (by decide) ?_
      exact v_retz F dX0_isSo_127 rfl ((bI_f (fun h => c10 ((so_4 (α := n) k9).mp h).1)).symm) (rfl)
    · skip
      refine v_iload_n F 3 dX0_isSo_115 rfl rfl rfl ?_
      refine s_calli F G.1 (cg_X0_isGarden G.1 (n, δ, ν) x ) ok_X0_isGarden q155 q156 rfl rfl dX0_isSo_116 rfl rfl ?_
      intro u0 hu0; subst u0
      refine v_if_eqB (p := (0 ≤ x ∧ x ≤ 7)) (tgt := 126) (q := 122) F dX0_isSo_119 rfl rfl (fun c11 => ?_) (fun c11 => ?_)
      · skip
        refine v_iconst (x := 0) F dX0_isSo_126 rfl (by decide) ?_
        exact v_retz F dX0_isSo_127 rfl ((bI_f (fun h => c11 ((so_4 (α := n) k9).mp h).2)).symm) (rfl)
      · skip
        refine v_iconst (x := 1) F dX0_isSo_122 rfl (by decide) ?_
        refine v_goto (tgt := 127) F dX0_isSo_123 rfl ?_
        exact v_retz F dX0_isSo_127 rfl ((bI_t ((so_4 (α := n) k9).mpr ⟨c10, c11⟩)).symm) (rfl)
  have tout1 : w.toInt < 0 ∨ 4 < w.toInt := by have := two_ne (k := 0) (c := 0) (by decide) k1; have := two_ne (k := 1) (c := 1) (by decide) k2; have := two_ne (k := 2) (c := 2) (by decide) k3; have := two_ne (k := 3) (c := 3) (by decide) k6; have := two_ne (k := 4) (c := 4) (by decide) k9; omega
  refine v_tableOut (tgt := 128) F dX0_isSo_1 tout1 rfl ?_
  refine v_iload_n F 1 dX0_isSo_128 rfl rfl rfl ?_
  refine v_iconst (x := 5) F dX0_isSo_129 rfl (by decide) ?_
  refine v_icmp_ne (tgt := 157) (q := 133) F dX0_isSo_130 rfl rfl (fun c12 => ?_) (fun c12 => ?_)
  · skip
    refine v_iconst (x := 0) F dX0_isSo_157 rfl (by decide) ?_
    exact v_retz F dX0_isSo_158 rfl ((bI_f (so_n (α := n) k1 k2 k3 k6 k9 c12)).symm) (rfl)
  · skip
    refine v_aload_n F 0 dX0_isSo_133 rfl rfl rfl ?_
    refine v_iload_n F 2 dX0_isSo_134 rfl rfl rfl ?_
    refine c_calli F G (cc_X0_isPlant G n δ ν o ) ok_X0_isPlant q250 is_X0_isPlant rfl rfl dX0_isSo_135 rfl rfl ?_
    intro u0 hu0; subst u0
    refine v_if_eqB (p := (0 ≤ o ∧ o ≤ n 0 13 - 1)) (tgt := 157) (q := 141) F dX0_isSo_138 rfl rfl (fun c13 => ?_) (fun c13 => ?_)
    · skip
      refine v_iconst (x := 0) F dX0_isSo_157 rfl (by decide) ?_
      exact v_retz F dX0_isSo_158 rfl ((bI_f (fun h => c13 ((so_5 (α := n) c12).mp h).1)).symm) (rfl)
    · skip
      refine v_iload_n F 3 dX0_isSo_141 rfl rfl rfl ?_
      refine v_i2l F dX0_isSo_142 rfl ?_
      refine v_lconst (x := (0 : Int32).toInt64) F dX0_isSo_143 rfl (by decide) ?_
      refine v_ldc2 F q254 dX0_isSo_144 rfl ?_
      refine v_lng (y := (9999 : Int32).toInt64) F (by decide) ?_
      refine s_calli F G.1 (cg_X0_in G.1 (n, δ, ν) x 0 9999 ) ok_X0_in q151 q152 rfl rfl dX0_isSo_147 rfl rfl ?_
      intro u0 hu0; subst u0
      refine v_if_eqB (p := (0 ≤ x ∧ x ≤ 9999)) (tgt := 157) (q := 153) F dX0_isSo_150 rfl rfl (fun c14 => ?_) (fun c14 => ?_)
      · skip
        refine v_iconst (x := 0) F dX0_isSo_157 rfl (by decide) ?_
        exact v_retz F dX0_isSo_158 rfl ((bI_f (fun h => c14 ((so_5 (α := n) c12).mp h).2)).symm) (rfl)
      · skip
        refine v_iconst (x := 1) F dX0_isSo_153 rfl (by decide) ?_
        refine v_goto (tgt := 158) F dX0_isSo_154 rfl ?_
        exact v_retz F dX0_isSo_158 rfl ((bI_t ((so_5 (α := n) c12).mpr ⟨c13, c14⟩)).symm) (rfl)
theorem ok_X0_becomes : vv_oc yX0_becomes 4 3 (ws_ yX0_becomes cX0_becomes 4 none) := vv_ok.oc (rt := none) ⟨q426, q116, by decide +kernel, by decide +kernel⟩
theorem is_X0_becomes : Cond.instanceMethod yX0_becomes ∈ lw_all ∧ Cond.selects RX0 yX0_becomes yX0_becomes ∈ lw_all := ⟨q425, qs5⟩
set_option maxHeartbeats 4000000 in
theorem cc_X0_becomes {l : Launch} {Kf : State → Prop} {D : va_G} {K : Nat → ClassId} {fv : List Value × (Nat → Nat)} {A : Nat → Prop} (G : cG A fv cIm Kf D K) {p : Nat} (n : mS) (δ : Nat → Nat) (ν : Nat → Option (Mg × Nat)) (k : Nat) (o : Int32) (x : Int32) (hk : k ≤ 5) (ho : 2 ≤ k → o = nI p ∧ p < 8) (hpm : 3 ≤ k → p < tn (n 0 13)) (hkd : ∀ q, q < tn (n 0 13) → tn (n 11 q) ≤ 5) : vv_Ct l yX0_becomes (ws_ yX0_becomes cX0_becomes 4 none) (rm 0 0) Kf (cWd D K fv A) A [.ref (δ 0), .int (nI k), .int o, .int x] (n, δ, ν) (vv_n (fun u => ∃ t : mS, u = (t, δ, ν) ∧ t = layS n k p x)) := by
  refine vv_of (by decide +kernel) (Nat.le_of_ble_eq_true rfl) ?_
  intro v (F : vv_F v l cX0_becomes 4 RX0 "becomes" none [] (rm 0 0) Kf (cWd D K fv A) A _)
  show v (n, δ, ν) 0 0 0 [(0, .ref (δ 0)), (1, .int (nI k)), (2, .int o), (3, .int x)] []
  refine v_iload_n F 1 dX0_becomes_0 rfl rfl rfl ?_
  by_cases k1 : k = 0
  · skip
    refine v_int F (y := 0) (by rw [k1]; rfl) ?_
    refine v_tableIn (x := 0) (tgt := 36) F dX0_becomes_1 (by decide) (by decide) (off := 35) rfl rfl ?_
    refine v_aload_n F 0 dX0_becomes_36 rfl rfl rfl ?_
    refine v_iload_n F 3 dX0_becomes_37 rfl rfl rfl ?_
    refine c_put F G 2 7 (by decide) (by unfold frc; omega) (fun _ => rfl) q800 rfl (by decide +kernel) dX0_becomes_38 rfl ?_
    refine v_goto (tgt := 98) F dX0_becomes_41 rfl ?_
    exact v_retn F dX0_becomes_98 rfl (⟨_, rfl, by rw [k1]; rfl⟩)
  by_cases k2 : k = 1
  · skip
    refine v_int F (y := 1) (by rw [k2]; rfl) ?_
    refine v_tableIn (x := 1) (tgt := 44) F dX0_becomes_1 (by decide) (by decide) (off := 43) rfl rfl ?_
    refine v_aload_n F 0 dX0_becomes_44 rfl rfl rfl ?_
    refine v_iload_n F 3 dX0_becomes_45 rfl rfl rfl ?_
    refine c_put F G 3 8 (by decide) (by unfold frc; omega) (fun _ => rfl) q802 rfl (by decide +kernel) dX0_becomes_46 rfl ?_
    refine v_goto (tgt := 98) F dX0_becomes_49 rfl ?_
    exact v_retn F dX0_becomes_98 rfl (⟨_, rfl, by rw [k2]; rfl⟩)
  by_cases k3 : k = 2
  · skip
    refine v_int F (y := 2) (by rw [k3]; rfl) ?_
    refine v_tableIn (x := 2) (tgt := 52) F dX0_becomes_1 (by decide) (by decide) (off := 51) rfl rfl ?_
    refine v_aload_n F 0 dX0_becomes_52 rfl rfl rfl ?_
    refine c_get F G 5 (w := .ref (δ 5)) (by decide) q805 rfl dX0_becomes_53 rfl ?_
    refine v_iload_n F 2 dX0_becomes_56 rfl rfl rfl ?_
    refine v_int F (ho (by omega)).1 ?_
    refine v_iload_n F 3 dX0_becomes_57 rfl rfl rfl ?_
    refine c_ast (t := p) F G 5 10 8 (fun _ => rfl) rfl (by unfold rowO; omega) (by unfold frc; omega) (by decide) (by decide) (by decide) ((ho (by omega)).2) (by decide) dX0_becomes_58 rfl ?_
    refine v_goto (tgt := 98) F dX0_becomes_59 rfl ?_
    exact v_retn F dX0_becomes_98 rfl (⟨_, rfl, by rw [k3]; rfl⟩)
  by_cases k4 : k = 3
  · skip
    refine v_int F (y := 3) (by rw [k4]; rfl) ?_
    refine v_tableIn (x := 3) (tgt := 62) F dX0_becomes_1 (by decide) (by decide) (off := 61) rfl rfl ?_
    refine v_aload_n F 0 dX0_becomes_62 rfl rfl rfl ?_
    refine c_get F G 0 (w := .ref (δ 1)) (by decide) q797 rfl dX0_becomes_63 rfl ?_
    refine v_iload_n F 2 dX0_becomes_66 rfl rfl rfl ?_
    have hlv : cLv n p := ⟨by have := hpm (by omega); omega, (ho (by omega)).2⟩
    have hkk : tn (n 11 p) ≤ 5 := hkd p (hpm (by omega))
    refine v_int F (ho (by omega)).1 ?_
    refine c_plant (s := p) F G (hlv) ((ho (by omega)).2) dX0_becomes_67 rfl ?_
    refine v_iload_n F 3 dX0_becomes_68 rfl rfl rfl ?_
    refine c_bput F G p 0 (hlv) (hkk) (by decide) q179 (refO_9 0) rfl (by decide +kernel) dX0_becomes_69 rfl ?_
    refine v_goto (tgt := 98) F dX0_becomes_72 rfl ?_
    exact v_retn F dX0_becomes_98 rfl (⟨_, rfl, lay_k 0 k4 (by decide)⟩)
  by_cases k5 : k = 4
  · skip
    refine v_int F (y := 4) (by rw [k5]; rfl) ?_
    refine v_tableIn (x := 4) (tgt := 75) F dX0_becomes_1 (by decide) (by decide) (off := 74) rfl rfl ?_
    refine v_aload_n F 0 dX0_becomes_75 rfl rfl rfl ?_
    refine c_get F G 0 (w := .ref (δ 1)) (by decide) q797 rfl dX0_becomes_76 rfl ?_
    refine v_iload_n F 2 dX0_becomes_79 rfl rfl rfl ?_
    have hlv : cLv n p := ⟨by have := hpm (by omega); omega, (ho (by omega)).2⟩
    have hkk : tn (n 11 p) ≤ 5 := hkd p (hpm (by omega))
    refine v_int F (ho (by omega)).1 ?_
    refine c_plant (s := p) F G (hlv) ((ho (by omega)).2) dX0_becomes_80 rfl ?_
    refine v_iload_n F 3 dX0_becomes_81 rfl rfl rfl ?_
    refine c_bput F G p 1 (hlv) (hkk) (by decide) q182 (refO_9 1) rfl (by decide +kernel) dX0_becomes_82 rfl ?_
    refine v_goto (tgt := 98) F dX0_becomes_85 rfl ?_
    exact v_retn F dX0_becomes_98 rfl (⟨_, rfl, lay_k 1 k5 (by decide)⟩)
  have tout1 : (nI k).toInt < 0 ∨ 4 < (nI k).toInt := by rw [nI_toInt (by omega)]; omega
  refine v_tableOut (tgt := 88) F dX0_becomes_1 tout1 rfl ?_
  refine v_aload_n F 0 dX0_becomes_88 rfl rfl rfl ?_
  refine c_get F G 0 (w := .ref (δ 1)) (by decide) q797 rfl dX0_becomes_89 rfl ?_
  refine v_iload_n F 2 dX0_becomes_92 rfl rfl rfl ?_
  have hlv : cLv n p := ⟨by have := hpm (by omega); omega, (ho (by omega)).2⟩
  have hkk : tn (n 11 p) ≤ 5 := hkd p (hpm (by omega))
  refine v_int F (ho (by omega)).1 ?_
  refine c_plant (s := p) F G (hlv) ((ho (by omega)).2) dX0_becomes_93 rfl ?_
  refine v_iload_n F 3 dX0_becomes_94 rfl rfl rfl ?_
  refine c_bput F G p 2 (hlv) (hkk) (by decide) q185 (refO_9 2) rfl (by decide +kernel) dX0_becomes_95 rfl ?_
  exact v_retn F dX0_becomes_98 rfl (⟨_, rfl, lay_k 2 (by omega) (by decide)⟩)
