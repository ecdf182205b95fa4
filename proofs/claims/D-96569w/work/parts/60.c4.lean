set_option maxRecDepth 100000
theorem c_nd {l : Launch} {Kf : State → Prop} {D : va_G} {K : Nat → ClassId} {fv : List Value × (Nat → Nat)} {A : Nat → Prop} {Pn : cS → Prop} (G : cG A fv Pn Kf D K) {m : mS} {δ : Nat → Nat} {ν : Nat → Option (Mg × Nat)} {p b d : Nat} {g : Mg} (hok : cOk m) (hp : p < tn (m 0 13)) (hf : m 0 50 = nI p) (hν : ν b = some (g, d)) (hd : d < 1000) (H : Heap) (hW : cWdP Pn D K fv A (m, δ, ν) H) : vN l Kf A H b d (g (envV m p)) := by
  obtain ⟨n', L, f, hag, hrp, htx, hpn, hlw⟩ := hW
  have hlv := hok.lv hp
  have h8 := hok.m8
  refine nd_worth G.1 G.2.1 G.N (fun U h => va_Decl.abs (G.N U h _ q299 rfl)) (n := m) (δ := δ) (p := p) (A0 := A) ⟨hlw, ?_, ?_, ?_, ?_, ⟨hf, by omega⟩, (hok.1.2.1 p hp).1⟩ (N := fun b => b ∈ L ∧ ¬ pnd ν b) (fun _ h => h.1) d b g ((hrp.2.2 b _ hν).1 hd)
  · exact hrp.1 0 (.inr (0, cF m δ)) (by show some (Sum.inr (0, cF n' δ)) = _; rw [cF_eq hag.z])
  · have := hrp.1 5 _ rfl
    rw [hag.row (a := 10) (by unfold rowO; omega)] at this
    exact this
  · obtain ⟨a1, a2⟩ := hrp.1 1 _ rfl
    exact ⟨_, a1, a2, by show (if p < 8 ∧ n' 56 p ≠ 0 then some (δ (200 + p)) else none) = _; rw [if_pos ⟨by omega, by rw [hlv.k hag]; decide⟩]⟩
  · have := hrp.1 (200 + p) _ (cE_b hlv.lt (hlv.k hag))
    have e : bF n' p = bF m p := by unfold bF; rw [show n' 12 (3 * p) = m 12 (3 * p) from hlv.b hag (k := 0) (by decide), hlv.b hag (k := 1) (by decide), hlv.b hag (k := 2) (by decide)]
    rw [e, hlv.a hag] at this
    exact ⟨tn (m 11 p), hok.k hp, this.1, this.2⟩
/-- the component's rows of its own are as they were -/
def cOw (n t : mS) : Prop := ∀ k j, (42 ≤ k ∨ (k = 0 ∧ 51 ≤ j)) → t k j = n k j
theorem cOw.rf {n : mS} : cOw n n := fun _ _ _ => rfl
theorem cOw.tr {n t u : mS} (h : cOw n t) (g : cOw t u) : cOw n u := fun k j hk => (g k j hk).trans (h k j hk)
theorem cOw.up {n t : mS} {a i : Nat} {x : Int32} (h : cOw n t) (ha : a < 42 ∧ (a = 0 → i < 51)) : cOw n (Jvm.Pilot.@@N@@.up t a i x) := fun k j hk => by rw [up_ne (by omega)]; exact h k j hk
theorem ok_X0_isPlant : vv_oc yX0_isPlant 2 1 (ws_ yX0_isPlant cX0_isPlant 2 (some .boolean)) := vv_ok.oc (rt := (some .boolean)) ⟨q253, q116, by decide +kernel, by decide +kernel⟩
theorem is_X0_isPlant : Cond.instanceMethod yX0_isPlant ∈ lw_all ∧ Cond.selects RX0 yX0_isPlant yX0_isPlant ∈ lw_all := ⟨q252, qs1⟩
set_option maxHeartbeats 4000000 in
theorem cc_X0_isPlant {l : Launch} {Kf : State → Prop} {D : va_G} {K : Nat → ClassId} {fv : List Value × (Nat → Nat)} {A : Nat → Prop} (G : cG A fv cIm Kf D K)  (n : mS) (δ : Nat → Nat) (ν : Nat → Option (Mg × Nat)) (p : Int32)  : vv_Ct l yX0_isPlant (ws_ yX0_isPlant cX0_isPlant 2 (some .boolean)) (rm 1 25) Kf (cWd D K fv A) A [.ref (δ 0), .int p] (n, δ, ν) (vv_i (bI (0 ≤ p ∧ p ≤ n 0 13 - 1)) (fun u => u = (n, δ, ν))) := by
  refine vv_of (by decide +kernel) (Nat.le_of_ble_eq_true rfl) ?_
  intro v (F : vv_F v l cX0_isPlant 2 RX0 "isPlant" (some .boolean) [] (rm 1 25) Kf (cWd D K fv A) A _)
  show v (n, δ, ν) 0 0 0 [(0, .ref (δ 0)), (1, .int p)] []
  refine v_iload_n F 1 dX0_isPlant_0 rfl rfl rfl ?_
  refine v_i2l F dX0_isPlant_1 rfl ?_
  refine v_lconst (x := (0 : Int32).toInt64) F dX0_isPlant_2 rfl (by decide) ?_
  refine v_aload_n F 0 dX0_isPlant_3 rfl rfl rfl ?_
  refine c_get F G 1 (w := .int (n 0 13)) (by decide) q798 rfl dX0_isPlant_4 rfl ?_
  refine v_iconst (x := 1) F dX0_isPlant_7 rfl (by decide) ?_
  refine v_isub F dX0_isPlant_8 rfl ?_
  refine v_i2l F dX0_isPlant_9 rfl ?_
  refine s_calli F G.1 (cg_X0_in G.1 (n, δ, ν) p 0 ((n 0 13) - 1) ) ok_X0_in q151 q152 rfl rfl dX0_isPlant_10 rfl rfl ?_
  intro u0 hu0; subst u0
  exact v_retz F dX0_isPlant_13 rfl (by first | rfl | grind [bI]) (rfl)
theorem ok_X0_isText : vv_oc yX0_isText 2 1 (ws_ yX0_isText cX0_isText 2 (some .boolean)) := vv_ok.oc (rt := (some .boolean)) ⟨q902, q116, by decide +kernel, by decide +kernel⟩
theorem is_X0_isText : Cond.instanceMethod yX0_isText ∈ lw_all ∧ Cond.selects RX0 yX0_isText yX0_isText ∈ lw_all := ⟨q901, qs25⟩
set_option maxHeartbeats 4000000 in
theorem cc_X0_isText {l : Launch} {Kf : State → Prop} {D : va_G} {K : Nat → ClassId} {fv : List Value × (Nat → Nat)} {A : Nat → Prop} (G : cG A fv cIm Kf D K)  (n : mS) (δ : Nat → Nat) (ν : Nat → Option (Mg × Nat)) (p : Int32)  : vv_Ct l yX0_isText (ws_ yX0_isText cX0_isText 2 (some .boolean)) (rm 1 25) Kf (cWd D K fv A) A [.ref (δ 0), .int p] (n, δ, ν) (vv_i (bI (0 ≤ p ∧ p ≤ n 0 3 - 1)) (fun u => u = (n, δ, ν))) := by
  refine vv_of (by decide +kernel) (Nat.le_of_ble_eq_true rfl) ?_
  intro v (F : vv_F v l cX0_isText 2 RX0 "isText" (some .boolean) [] (rm 1 25) Kf (cWd D K fv A) A _)
  show v (n, δ, ν) 0 0 0 [(0, .ref (δ 0)), (1, .int p)] []
  refine v_iload_n F 1 dX0_isText_0 rfl rfl rfl ?_
  refine v_i2l F dX0_isText_1 rfl ?_
  refine v_lconst (x := (0 : Int32).toInt64) F dX0_isText_2 rfl (by decide) ?_
  refine v_aload_n F 0 dX0_isText_3 rfl rfl rfl ?_
  refine c_get F G 9 (w := .int (n 0 3)) (by decide) q810 rfl dX0_isText_4 rfl ?_
  refine v_iconst (x := 1) F dX0_isText_7 rfl (by decide) ?_
  refine v_isub F dX0_isText_8 rfl ?_
  refine v_i2l F dX0_isText_9 rfl ?_
  refine s_calli F G.1 (cg_X0_in G.1 (n, δ, ν) p 0 ((n 0 3) - 1) ) ok_X0_in q151 q152 rfl rfl dX0_isText_10 rfl rfl ?_
  intro u0 hu0; subst u0
  exact v_retz F dX0_isText_13 rfl (by first | rfl | grind [bI]) (rfl)
theorem ok_X0_asks : vv_oc yX0_asks 3 2 (ws_ yX0_asks cX0_asks 3 (some .int)) := vv_ok.oc (rt := (some .int)) ⟨q297, q116, by decide +kernel, by decide +kernel⟩
theorem is_X0_asks : Cond.instanceMethod yX0_asks ∈ lw_all ∧ Cond.selects RX0 yX0_asks yX0_asks ∈ lw_all := ⟨q296, qs4⟩
set_option maxHeartbeats 4000000 in
theorem cc_X0_asks {l : Launch} {Kf : State → Prop} {D : va_G} {K : Nat → ClassId} {fv : List Value × (Nat → Nat)} {A : Nat → Prop} (G : cG A fv cIm Kf D K)  (n : mS) (δ : Nat → Nat) (ν : Nat → Option (Mg × Nat)) (w : Nat) (p : Nat) (hok : cOk n) (hp : p < tn (n 0 13)) (hw : w < 3) : vv_Ct l yX0_asks (ws_ yX0_asks cX0_asks 3 (some .int)) (rm 162 3564) Kf (cWd D K fv A) A [.ref (δ 0), .int (nI w), .int (nI p)] (n, δ, ν) (vv_i (sayV (cab n) (nI w) p) (fun u => ∃ t : mS, u = (t, δ, ν) ∧ cab t = cab n ∧ cOw n t)) := by
  refine vv_of (by decide +kernel) (Nat.le_of_ble_eq_true rfl) ?_
  intro v (F : vv_F v l cX0_asks 3 RX0 "asks" (some .int) [] (rm 162 3564) Kf (cWd D K fv A) A _)
  show v (n, δ, ν) 0 0 0 [(0, .ref (δ 0)), (1, .int (nI w)), (2, .int (nI p))] []
  have hR : n 0 4 = nI (tn (n 0 4)) := hok.1.1.2.2.1
  have hRC : tn (n 0 4) < tn (n 0 3) := hok.1.1.2.2.2
  have hC6 : tn (n 0 3) ≤ 6 := hok.1.1.2.1.2
  have h8 := hok.m8
  refine v_know F (P := cTx n δ ν) (fun H hW => by obtain ⟨_, _, _, _, _, h, _⟩ := hW; exact h) (fun htx => ?_)
  obtain ⟨x, hx, hxw⟩ := htx _ (Nat.lt_of_lt_of_le hRC (Nat.le_add_right _ _))
  obtain ⟨d, hd, hν⟩ := hxw w hw
  refine v_aload_n F 0 dX0_asks_0 rfl rfl rfl ?_
  refine v_iload_n F 2 dX0_asks_1 rfl rfl rfl ?_
  refine c_put F G 7 50 (by decide) (by unfold frc; omega) (fun _ => rfl) q808 rfl (by decide +kernel) dX0_asks_2 rfl ?_
  refine v_aload_n F 0 dX0_asks_5 rfl rfl rfl ?_
  refine c_get F G 8 (w := .ref (δ 8)) (by decide) q809 rfl dX0_asks_6 rfl ?_
  refine v_aload_n F 0 dX0_asks_9 rfl rfl rfl ?_
  refine c_get F G 20 (w := .int (n 0 4)) (by decide) q821 rfl dX0_asks_10 rfl ?_
  refine v_int F (hR) ?_
  refine c_text (t := tn (n 0 4)) F G (hRC) (by omega) dX0_asks_13 rfl ?_
  refine v_iload_n F 1 dX0_asks_14 rfl rfl rfl ?_
  refine c_node (t := (tn (n 0 4))) (w := w) F G (hRC) (by omega) (hw) dX0_asks_15 rfl ?_
  refine n_call F G.1 (fun U h => va_Decl.abs (G.N U h _ q299 rfl)) (x := rd3 (nI w) x (envV n p)) (d := d) (c_nd G (m := up n 0 50 (nI p)) (hok.of (cab_us rfl)) hp rfl hν (by omega)) q298 ⟨by show d + 1 ≤ _; exact Nat.le_trans (Nat.succ_le_succ hd) (Nat.le_of_ble_eq_true rfl), by show 22 + 22 * d ≤ _; exact Nat.le_trans (show 22 + 22 * d ≤ 3564 by omega) (Nat.le_of_ble_eq_true rfl)⟩ rfl dX0_asks_16 rfl ?_
  refine v_iconst (x := 0) F dX0_asks_19 rfl (by decide) ?_
  refine v_iload_n F 1 dX0_asks_20 rfl rfl rfl ?_
  refine v_iconst (x := 1) F dX0_asks_21 rfl (by decide) ?_
  refine v_icmp_neN (a := w) (b := 1) (tgt := 30) (q := 25) F dX0_asks_22 rfl rfl (by omega) (by omega) (fun c1 => ?_) (fun c1 => ?_)
  · skip
    refine v_bipush (x := 100) F dX0_asks_30 rfl (by decide) ?_
    refine s_calli F G.1 (cg_X0_held G.1 (up n 0 50 (nI p), δ, ν) (rd3 (nI w) x (envV n p)) 0 100 (by decide)) ok_X0_held q315 q316 rfl rfl dX0_asks_32 rfl rfl ?_
    intro u0 hu0; subst u0
    exact v_reti F dX0_asks_35 rfl (by rw [show sayV (cab n) (nI w) p = sayV n (nI w) p from rfl, say_eq hx]; rw [if_neg (show ¬ nI w = 1 from fun e => c1 ((nI_eq (a := w) (b := 1) (by omega) (by decide)).mp e))]) (⟨_, rfl, cab_us rfl, cOw.rf.up (by omega)⟩)
  · skip
    refine v_bipush (x := 99) F dX0_asks_25 rfl (by decide) ?_
    refine v_goto (tgt := 32) F dX0_asks_27 rfl ?_
    refine s_calli F G.1 (cg_X0_held G.1 (up n 0 50 (nI p), δ, ν) (rd3 (nI w) x (envV n p)) 0 99 (by decide)) ok_X0_held q315 q316 rfl rfl dX0_asks_32 rfl rfl ?_
    intro u0 hu0; subst u0
    exact v_reti F dX0_asks_35 rfl (by rw [show sayV (cab n) (nI w) p = sayV n (nI w) p from rfl, say_eq hx]; rw [if_pos (by rw [c1]; rfl)]) (⟨_, rfl, cab_us rfl, cOw.rf.up (by omega)⟩)
theorem ok_X0_rotsOf : vv_oc yX0_rotsOf 2 1 (ws_ yX0_rotsOf cX0_rotsOf 2 (some .int)) := vv_ok.oc (rt := (some .int)) ⟨q293, q116, by decide +kernel, by decide +kernel⟩
theorem is_X0_rotsOf : Cond.instanceMethod yX0_rotsOf ∈ lw_all ∧ Cond.selects RX0 yX0_rotsOf yX0_rotsOf ∈ lw_all := ⟨q292, qs3⟩
set_option maxHeartbeats 4000000 in
theorem cc_X0_rotsOf {l : Launch} {Kf : State → Prop} {D : va_G} {K : Nat → ClassId} {fv : List Value × (Nat → Nat)} {A : Nat → Prop} (G : cG A fv cIm Kf D K)  (n : mS) (δ : Nat → Nat) (ν : Nat → Option (Mg × Nat)) (p : Nat) (hok : cOk n) (hp : p < tn (n 0 13)) : vv_Ct l yX0_rotsOf (ws_ yX0_rotsOf cX0_rotsOf 2 (some .int)) (rm 163 3586) Kf (cWd D K fv A) A [.ref (δ 0), .int (nI p)] (n, δ, ν) (vv_i (rotV (cab n) p) (fun u => ∃ t : mS, u = (t, δ, ν) ∧ cab t = cab n ∧ cOw n t)) := by
  refine vv_of (by decide +kernel) (Nat.le_of_ble_eq_true rfl) ?_
  intro v (F : vv_F v l cX0_rotsOf 2 RX0 "rotsOf" (some .int) [] (rm 163 3586) Kf (cWd D K fv A) A _)
  show v (n, δ, ν) 0 0 0 [(0, .ref (δ 0)), (1, .int (nI p))] []
  have hM := hok.m
  have h8 := hok.m8
  have hg : n 12 (3 * p + 1) = nI (tn (n 12 (3 * p + 1))) := (hok.1.2.1 p hp).1.1
  have hg7 : tn (n 12 (3 * p + 1)) ≤ 7 := (hok.1.2.1 p hp).1.2
  have hke : n 11 p = nI (tn (n 11 p)) := (hok.2 p hp).1
  have h0m : 0 ≤ n 12 (3 * p + 2) := (hok.1.2.1 p hp).2.1
  refine v_aload_n F 0 dX0_rotsOf_0 rfl rfl rfl ?_
  refine c_get F G 0 (w := .ref (δ 1)) (by decide) q797 rfl dX0_rotsOf_1 rfl ?_
  refine v_iload_n F 1 dX0_rotsOf_4 rfl rfl rfl ?_
  refine c_plant (s := p) F G (hok.lv hp) (by omega) dX0_rotsOf_5 rfl ?_
  refine v_aload_n F 0 dX0_rotsOf_6 rfl rfl rfl ?_
  refine v_iconst (x := 0) F dX0_rotsOf_7 rfl (by decide) ?_
  refine v_iload_n F 1 dX0_rotsOf_8 rfl rfl rfl ?_
  refine c_calli F G (cc_X0_asks G n δ ν 0 p hok hp (by omega)) ok_X0_asks q294 is_X0_asks rfl rfl dX0_rotsOf_9 rfl rfl ?_
  rintro _ ⟨t1, rfl, hb1, hct1⟩
  have okt1 : cOk t1 := cOk.of (show cOk n from hok) hb1
  have hpt1_0 : p < tn (t1 0 13) := by rw [cab_eq hb1 0 13 rfl]; exact hp
  refine v_aload_n F 0 dX0_rotsOf_12 rfl rfl rfl ?_
  refine c_get F G 5 (w := .ref (δ 5)) (by decide) q805 rfl dX0_rotsOf_13 rfl ?_
  refine v_aload_n F 0 dX0_rotsOf_16 rfl rfl rfl ?_
  refine c_get F G 0 (w := .ref (δ 1)) (by decide) q797 rfl dX0_rotsOf_17 rfl ?_
  refine v_iload_n F 1 dX0_rotsOf_20 rfl rfl rfl ?_
  refine c_plant (s := p) F G (okt1.lv hpt1_0) (by omega) dX0_rotsOf_21 rfl ?_
  refine c_bget F G p 1 (okt1.lv hpt1_0) (okt1.k hpt1_0) (by decide) q182 (refO_9 1) dX0_rotsOf_22 rfl ?_
  refine v_int F (y := n 12 (3 * p + 1)) (cab_eq hb1 12 (3 * p + 1) rfl) ?_
  refine v_int F (hg) ?_
  refine c_ald (t := tn (n 12 (3 * p + 1))) F G 5 10 8 (fun _ => rfl) (by unfold rowO; omega) (by omega) (by decide) dX0_rotsOf_25 rfl ?_
  refine v_int F (y := n 10 (tn (n 12 (3 * p + 1)))) (cab_eq hb1 10 (tn (n 12 (3 * p + 1))) rfl) ?_
  refine c_vcalli F G (As := [.int (sayV (cab n) (nI 0) p), .int (n 10 (tn (n 12 (3 * p + 1))))]) (y := fun _ => yX9_heldRots) (ws := fun _ => ws_ yX9_heldRots cX9_heldRots 3 (some .int)) (mL := fun _ => 3) (okt1.lv hpt1_0) (okt1.k hpt1_0) q324 od_heldRots vo_heldRots (fun _ _ _ => cc_X9_heldRots G t1 δ ν p (sayV (cab n) (nI 0) p) (n 10 (tn (n 12 (3 * p + 1)))) (okt1.lv hpt1_0) (okt1.k hpt1_0) (by rw [cab_eq hb1 11 p rfl]; exact hke)) rfl rfl dX0_rotsOf_26 rfl rfl ?_
  intro u0 hu0; subst u0
  exact v_reti F dX0_rotsOf_29 rfl (by rw [cab_eq hb1 11 p rfl]; rfl) (⟨_, rfl, hb1, hct1⟩)
theorem ok_X0_worthOf : vv_oc yX0_worthOf 2 1 (ws_ yX0_worthOf cX0_worthOf 2 (some .int)) := vv_ok.oc (rt := (some .int)) ⟨q914, q116, by decide +kernel, by decide +kernel⟩
theorem is_X0_worthOf : Cond.instanceMethod yX0_worthOf ∈ lw_all ∧ Cond.selects RX0 yX0_worthOf yX0_worthOf ∈ lw_all := ⟨q913, qs26⟩
set_option maxHeartbeats 4000000 in
theorem cc_X0_worthOf {l : Launch} {Kf : State → Prop} {D : va_G} {K : Nat → ClassId} {fv : List Value × (Nat → Nat)} {A : Nat → Prop} (G : cG A fv cIm Kf D K)  (n : mS) (δ : Nat → Nat) (ν : Nat → Option (Mg × Nat)) (p : Nat) (hok : cOk n) (hp : p < tn (n 0 13)) : vv_Ct l yX0_worthOf (ws_ yX0_worthOf cX0_worthOf 2 (some .int)) (rm 163 3586) Kf (cWd D K fv A) A [.ref (δ 0), .int (nI p)] (n, δ, ν) (vv_i (worV (cab n) p) (fun u => ∃ t : mS, u = (t, δ, ν) ∧ cab t = cab n ∧ cOw n t)) := by
  refine vv_of (by decide +kernel) (Nat.le_of_ble_eq_true rfl) ?_
  intro v (F : vv_F v l cX0_worthOf 2 RX0 "worthOf" (some .int) [] (rm 163 3586) Kf (cWd D K fv A) A _)
  show v (n, δ, ν) 0 0 0 [(0, .ref (δ 0)), (1, .int (nI p))] []
  have hM := hok.m
  have h8 := hok.m8
  have hg : n 12 (3 * p + 1) = nI (tn (n 12 (3 * p + 1))) := (hok.1.2.1 p hp).1.1
  have hg7 : tn (n 12 (3 * p + 1)) ≤ 7 := (hok.1.2.1 p hp).1.2
  have hke : n 11 p = nI (tn (n 11 p)) := (hok.2 p hp).1
  have h0m : 0 ≤ n 12 (3 * p + 2) := (hok.1.2.1 p hp).2.1
  refine v_aload_n F 0 dX0_worthOf_0 rfl rfl rfl ?_
  refine v_iconst (x := 1) F dX0_worthOf_1 rfl (by decide) ?_
  refine v_iload_n F 1 dX0_worthOf_2 rfl rfl rfl ?_
  refine c_calli F G (cc_X0_asks G n δ ν 1 p hok hp (by omega)) ok_X0_asks q294 is_X0_asks rfl rfl dX0_worthOf_3 rfl rfl ?_
  rintro _ ⟨t1, rfl, hb1, hct1⟩
  have okt1 : cOk t1 := cOk.of (show cOk n from hok) hb1
  have hpt1_0 : p < tn (t1 0 13) := by rw [cab_eq hb1 0 13 rfl]; exact hp
  refine v_aload_n F 0 dX0_worthOf_6 rfl rfl rfl ?_
  refine c_get F G 0 (w := .ref (δ 1)) (by decide) q797 rfl dX0_worthOf_7 rfl ?_
  refine v_iload_n F 1 dX0_worthOf_10 rfl rfl rfl ?_
  refine c_plant (s := p) F G (okt1.lv hpt1_0) (by omega) dX0_worthOf_11 rfl ?_
  refine c_vcalli F G (As := []) (y := fun _ => yX9_heldFlowers) (ws := fun _ => ws_ yX9_heldFlowers cX9_heldFlowers 1 (some .int)) (mL := fun _ => 1) (okt1.lv hpt1_0) (okt1.k hpt1_0) q391 od_heldFlowers vo_heldFlowers (fun _ _ _ => cc_X9_heldFlowers G t1 δ ν p  (okt1.lv hpt1_0) (okt1.k hpt1_0) (by rw [cab_eq hb1 11 p rfl]; exact hke) (by rw [cab_eq hb1 12 (3 * p + 2) rfl]; exact h0m)) rfl rfl dX0_worthOf_12 rfl rfl ?_
  intro u0 hu0; subst u0
  refine v_imul F dX0_worthOf_15 rfl ?_
  exact v_reti F dX0_worthOf_16 rfl (by rw [cab_eq hb1 11 p rfl, cab_eq hb1 12 (3 * p) rfl, cab_eq hb1 12 (3 * p + 2) rfl]; rfl) (⟨_, rfl, hb1, hct1⟩)
