set_option maxRecDepth 100000
theorem ok_X8_lays : vv_oc yX8_lays 4 3 (ws_ yX8_lays cX8_lays 4 none) := vv_ok.oc (rt := none) ⟨q1622, q133, by decide +kernel, by decide +kernel⟩
theorem is_X8_lays : Cond.instanceMethod yX8_lays ∈ lw_all ∧ Cond.selects RX8 yX8_lays yX8_lays ∈ lw_all := ⟨q1621, qs100⟩
set_option maxHeartbeats 4000000 in
theorem cm_X8_lays {l : Launch} {Kf : State → Prop} {D : va_G} {ad : Nat → Nat} {cI cZ : ClassId} {A : Nat → Prop} (G : mG A Kf D cI cZ) {p : Nat} (σ : mS) (k : Nat) (o : Int32) (x : Int32) (ho : 2 ≤ k → k < 7 → o = nI p ∧ p < 8) (hk : k < 8) : vv_Ct l yX8_lays (ws_ yX8_lays cX8_lays 4 none) (rm 0 0) Kf (mWd D ad cI cZ A) A [.ref (ad 0), .int (nI k), .int o, .int x] σ (vv_n (fun u => u = layS σ k p x)) := by
  refine vv_of (by decide +kernel) (Nat.le_of_ble_eq_true rfl) ?_
  intro v (F : vv_F v l cX8_lays 4 RX8 "lays" none [] (rm 0 0) Kf (mWd D ad cI cZ A) A _)
  show v σ 0 0 0 [(0, .ref (ad 0)), (1, .int (nI k)), (2, .int o), (3, .int x)] []
  refine v_iload_n F 1 dX8_lays_0 rfl rfl rfl ?_
  refine v_if_neN (a := k) (tgt := 12) (q := 4) F dX8_lays_1 rfl rfl (by omega) (fun c1 => ?_) (fun c1 => ?_)
  · skip
    refine v_iload_n F 1 dX8_lays_12 rfl rfl rfl ?_
    refine v_iconst (x := 1) F dX8_lays_13 rfl (by decide) ?_
    refine v_icmp_neN (a := k) (b := 1) (tgt := 25) (q := 17) F dX8_lays_14 rfl rfl (by omega) (by omega) (fun c2 => ?_) (fun c2 => ?_)
    · skip
      refine v_iload_n F 1 dX8_lays_25 rfl rfl rfl ?_
      refine v_iconst (x := 2) F dX8_lays_26 rfl (by decide) ?_
      refine v_icmp_neN (a := k) (b := 2) (tgt := 40) (q := 30) F dX8_lays_27 rfl rfl (by omega) (by omega) (fun c3 => ?_) (fun c3 => ?_)
      · skip
        refine v_iload_n F 1 dX8_lays_40 rfl rfl rfl ?_
        refine v_bipush (x := 6) F dX8_lays_41 rfl (by decide) ?_
        refine v_icmp_geN (a := k) (b := 6) (tgt := 62) (q := 46) F dX8_lays_43 rfl rfl (by omega) (by omega) (fun c4 => ?_) (fun c4 => ?_)
        · skip
          refine v_iload_n F 1 dX8_lays_62 rfl rfl rfl ?_
          refine v_bipush (x := 6) F dX8_lays_63 rfl (by decide) ?_
          refine v_icmp_neN (a := k) (b := 6) (tgt := 78) (q := 68) F dX8_lays_65 rfl rfl (by omega) (by omega) (fun c5 => ?_) (fun c5 => ?_)
          · skip
            refine v_aload_n F 0 dX8_lays_78 rfl rfl rfl ?_
            refine v_iload_n F 3 dX8_lays_79 rfl rfl rfl ?_
            refine m_put4 F G q1257 dX8_lays_80 rfl ?_
            exact v_retn F dX8_lays_83 rfl (by unfold layS; first | (simp [c1, c2, c3, c4, c5]; done) | grind)
          · skip
            refine v_aload_n F 0 dX8_lays_68 rfl rfl rfl ?_
            refine m_get F G 11 (w := .ref (ad 11)) (by decide) q1264 rfl dX8_lays_69 rfl ?_
            refine v_iload_n F 2 dX8_lays_72 rfl rfl rfl ?_
            refine v_int F ((ho (by omega) (by omega)).1) ?_
            refine v_iload_n F 3 dX8_lays_73 rfl rfl rfl ?_
            refine m_ast11 (t := p) F G ((ho (by omega) (by omega)).2) dX8_lays_74 rfl ?_
            refine v_goto (tgt := 83) F dX8_lays_75 rfl ?_
            exact v_retn F dX8_lays_83 rfl (by unfold layS; first | (simp [c1, c2, c3, c4, c5]; done) | grind)
        · skip
          refine v_aload_n F 0 dX8_lays_46 rfl rfl rfl ?_
          refine m_get F G 12 (w := .ref (ad 12)) (by decide) q1265 rfl dX8_lays_47 rfl ?_
          refine v_iconst (x := 3) F dX8_lays_50 rfl (by decide) ?_
          refine v_iload_n F 2 dX8_lays_51 rfl rfl rfl ?_
          refine v_int F ((ho (by omega) (by omega)).1) ?_
          refine v_imulN (a := 3) (b := p) F dX8_lays_52 rfl ?_
          refine v_iload_n F 1 dX8_lays_53 rfl rfl rfl ?_
          refine v_iaddN (a := 3 * p) (b := k) F dX8_lays_54 rfl ?_
          refine v_iconst (x := 3) F dX8_lays_55 rfl (by decide) ?_
          refine v_isubN (a := (3 * p) + k) (b := 3) F dX8_lays_56 rfl (by omega) ?_
          refine v_iload_n F 3 dX8_lays_57 rfl rfl rfl ?_
          refine m_ast12 (t := ((3 * p) + k) - 3) F G (by have := (ho (by omega) (by omega)).2; omega) dX8_lays_58 rfl ?_
          refine v_goto (tgt := 83) F dX8_lays_59 rfl ?_
          exact v_retn F dX8_lays_83 rfl (by unfold layS; first | (simp [c1, c2, c3, c4]; done) | grind)
      · skip
        refine v_aload_n F 0 dX8_lays_30 rfl rfl rfl ?_
        refine m_get F G 10 (w := .ref (ad 10)) (by decide) q1263 rfl dX8_lays_31 rfl ?_
        refine v_iload_n F 2 dX8_lays_34 rfl rfl rfl ?_
        refine v_int F ((ho (by omega) (by omega)).1) ?_
        refine v_iload_n F 3 dX8_lays_35 rfl rfl rfl ?_
        refine m_ast10 (t := p) F G ((ho (by omega) (by omega)).2) dX8_lays_36 rfl ?_
        refine v_goto (tgt := 83) F dX8_lays_37 rfl ?_
        exact v_retn F dX8_lays_83 rfl (by unfold layS; first | (simp [c1, c2, c3]; done) | grind)
    · skip
      refine v_aload_n F 0 dX8_lays_17 rfl rfl rfl ?_
      refine v_iload_n F 3 dX8_lays_18 rfl rfl rfl ?_
      refine m_put8 F G q1261 dX8_lays_19 rfl ?_
      refine v_goto (tgt := 83) F dX8_lays_22 rfl ?_
      exact v_retn F dX8_lays_83 rfl (by unfold layS; first | (simp [c1, c2]; done) | grind)
  · skip
    refine v_aload_n F 0 dX8_lays_4 rfl rfl rfl ?_
    refine v_iload_n F 3 dX8_lays_5 rfl rfl rfl ?_
    refine m_put7 F G q1260 dX8_lays_6 rfl ?_
    refine v_goto (tgt := 83) F dX8_lays_9 rfl ?_
    exact v_retn F dX8_lays_83 rfl (by unfold layS; first | (simp [c1]; done) | grind)
theorem ok_X8_comes : vv_oc yX8_comes 5 4 (ws_ yX8_comes cX8_comes 5 none) := vv_ok.oc (rt := none) ⟨q1631, q133, by decide +kernel, by decide +kernel⟩
theorem is_X8_comes : Cond.instanceMethod yX8_comes ∈ lw_all ∧ Cond.selects RX8 yX8_comes yX8_comes ∈ lw_all := ⟨q1630, qs101⟩
set_option maxHeartbeats 4000000 in
theorem cm_X8_comes {l : Launch} {Kf : State → Prop} {D : va_G} {ad : Nat → Nat} {cI cZ : ClassId} {A : Nat → Prop} (G : mG A Kf D cI cZ)  (σ : mS) (k : Int32) (n : Int32) (g : Int32) (c : Int32) (hM : σ 0 13 = nI (tn (σ 0 13))) (hM8 : tn (σ 0 13) < 8) : vv_Ct l yX8_comes (ws_ yX8_comes cX8_comes 5 none) (rm 0 0) Kf (mWd D ad cI cZ A) A [.ref (ad 0), .int k, .int n, .int g, .int c] σ (vv_n (fun u => u = comS σ k n g c)) := by
  refine vv_of (by decide +kernel) (Nat.le_of_ble_eq_true rfl) ?_
  intro v (F : vv_F v l cX8_comes 5 RX8 "comes" none [] (rm 0 0) Kf (mWd D ad cI cZ A) A _)
  show v σ 0 0 0 [(0, .ref (ad 0)), (1, .int k), (2, .int n), (3, .int g), (4, .int c)] []
  refine v_aload_n F 0 dX8_comes_0 rfl rfl rfl ?_
  refine m_get F G 11 (w := .ref (ad 11)) (by decide) q1264 rfl dX8_comes_1 rfl ?_
  refine v_aload_n F 0 dX8_comes_4 rfl rfl rfl ?_
  refine m_get F G 13 (w := .int (σ 0 13)) (by decide) q1266 rfl dX8_comes_5 rfl ?_
  refine v_int F (hM) ?_
  refine v_iload_n F 1 dX8_comes_8 rfl rfl rfl ?_
  refine m_ast11 (t := tn (σ 0 13)) F G (by omega) dX8_comes_9 rfl ?_
  refine v_aload_n F 0 dX8_comes_10 rfl rfl rfl ?_
  refine m_get F G 12 (w := .ref (ad 12)) (by decide) q1265 rfl dX8_comes_11 rfl ?_
  refine v_iconst (x := 3) F dX8_comes_14 rfl (by decide) ?_
  refine v_aload_n F 0 dX8_comes_15 rfl rfl rfl ?_
  refine m_get F G 13 (w := .int (σ 0 13)) (by decide) q1266 rfl dX8_comes_16 rfl ?_
  refine v_int F (hM) ?_
  refine v_imulN (a := 3) (b := tn (σ 0 13)) F dX8_comes_19 rfl ?_
  refine v_iload_n F 2 dX8_comes_20 rfl rfl rfl ?_
  refine m_ast12 (t := 3 * (tn (σ 0 13))) F G (by omega) dX8_comes_21 rfl ?_
  refine v_aload_n F 0 dX8_comes_22 rfl rfl rfl ?_
  refine m_get F G 12 (w := .ref (ad 12)) (by decide) q1265 rfl dX8_comes_23 rfl ?_
  refine v_iconst (x := 3) F dX8_comes_26 rfl (by decide) ?_
  refine v_aload_n F 0 dX8_comes_27 rfl rfl rfl ?_
  refine m_get F G 13 (w := .int (σ 0 13)) (by decide) q1266 rfl dX8_comes_28 rfl ?_
  refine v_int F (hM) ?_
  refine v_imulN (a := 3) (b := tn (σ 0 13)) F dX8_comes_31 rfl ?_
  refine v_iconst (x := 1) F dX8_comes_32 rfl (by decide) ?_
  refine v_iaddN (a := 3 * (tn (σ 0 13))) (b := 1) F dX8_comes_33 rfl ?_
  refine v_iload_n F 3 dX8_comes_34 rfl rfl rfl ?_
  refine m_ast12 (t := (3 * (tn (σ 0 13))) + 1) F G (by omega) dX8_comes_35 rfl ?_
  refine v_aload_n F 0 dX8_comes_36 rfl rfl rfl ?_
  refine m_get F G 12 (w := .ref (ad 12)) (by decide) q1265 rfl dX8_comes_37 rfl ?_
  refine v_iconst (x := 3) F dX8_comes_40 rfl (by decide) ?_
  refine v_aload_n F 0 dX8_comes_41 rfl rfl rfl ?_
  refine m_get F G 13 (w := .int (σ 0 13)) (by decide) q1266 rfl dX8_comes_42 rfl ?_
  refine v_int F (hM) ?_
  refine v_imulN (a := 3) (b := tn (σ 0 13)) F dX8_comes_45 rfl ?_
  refine v_iconst (x := 2) F dX8_comes_46 rfl (by decide) ?_
  refine v_iaddN (a := 3 * (tn (σ 0 13))) (b := 2) F dX8_comes_47 rfl ?_
  refine v_iload F 4 dX8_comes_48 rfl rfl ?_
  refine m_ast12 (t := (3 * (tn (σ 0 13))) + 2) F G (by omega) dX8_comes_50 rfl ?_
  refine v_aload_n F 0 dX8_comes_51 rfl rfl rfl ?_
  refine v_dup F dX8_comes_52 rfl rfl ?_
  refine m_get F G 13 (w := .int (σ 0 13)) (by decide) q1266 rfl dX8_comes_53 rfl ?_
  refine v_int F (hM) ?_
  refine v_iconst (x := 1) F dX8_comes_56 rfl (by decide) ?_
  refine v_iaddN (a := tn (σ 0 13)) (b := 1) F dX8_comes_57 rfl ?_
  refine m_put13 F G q1266 dX8_comes_58 rfl ?_
  exact v_retn F dX8_comes_61 rfl (rfl)
theorem ok_X8_plant : vv_oc yX8_plant 4 3 (ws_ yX8_plant cX8_plant 4 (some .int)) := vv_ok.oc (rt := (some .int)) ⟨q1626, q133, by decide +kernel, by decide +kernel⟩
theorem is_X8_plant : Cond.instanceMethod yX8_plant ∈ lw_all ∧ Cond.selects RX8 yX8_plant yX8_plant ∈ lw_all := ⟨q1624, q1625⟩
set_option maxHeartbeats 4000000 in
theorem cm_X8_plant {l : Launch} {Kf : State → Prop} {D : va_G} {ad : Nat → Nat} {cI cZ : ClassId} {A : Nat → Prop} (G : mG A Kf D cI cZ)  (σ : mS) (k : Int32) (n : Int32) (g : Int32) (hw : Wf (ab σ)) : vv_Ct l yX8_plant (ws_ yX8_plant cX8_plant 4 (some .int)) (rm 2 45) Kf (mWd D ad cI cZ A) A [.ref (ad 0), .int k, .int n, .int g] σ (vv_i (plaR (ab σ) k n g) (fun u => ab u = plaS (ab σ) k n g)) := by
  refine vv_of (by decide +kernel) (Nat.le_of_ble_eq_true rfl) ?_
  intro v (F : vv_F v l cX8_plant 4 RX8 "plant" (some .int) [] (rm 2 45) Kf (mWd D ad cI cZ A) A _)
  show v σ 0 0 0 [(0, .ref (ad 0)), (1, .int k), (2, .int n), (3, .int g)] []
  have hM : σ 0 13 = nI (tn (σ 0 13)) := hw.1.1.1
  have hM8 : tn (σ 0 13) ≤ 8 := hw.1.1.2
  refine v_iload_n F 1 dX8_plant_0 rfl rfl rfl ?_
  refine v_i2l F dX8_plant_1 rfl ?_
  refine v_lconst (x := (0 : Int32).toInt64) F dX8_plant_2 rfl (by decide) ?_
  refine v_ldc2 F q1385 dX8_plant_3 rfl ?_
  refine v_lng (y := (5 : Int32).toInt64) F (by decide) ?_
  refine s_calli F G.1 (cm_X8_in G σ k 0 5 ) ok_X8_in q1386 q1387 rfl rfl dX8_plant_6 rfl rfl ?_
  intro u0 hu0; subst u0
  refine v_if_eqB (p := (0 ≤ k ∧ k ≤ 5)) (tgt := 31) (q := 12) F dX8_plant_9 rfl rfl (fun c1 => ?_) (fun c1 => ?_)
  · skip
    refine v_bipush (x := (-2)) F dX8_plant_31 rfl (by decide) ?_
    exact v_reti F dX8_plant_33 rfl (by unfold plaR; show _ = (if _ then _ else if σ 0 13 = 8 then _ else _); first | (simp [c1]; done) | grind) (by unfold plaS; show _ = (if _ then _ else if σ 0 13 = 8 then _ else _); first | (simp [c1]; done) | grind)
  · skip
    refine v_iload_n F 2 dX8_plant_12 rfl rfl rfl ?_
    refine v_i2l F dX8_plant_13 rfl ?_
    refine v_lconst (x := (0 : Int32).toInt64) F dX8_plant_14 rfl (by decide) ?_
    refine v_ldc2 F q1627 dX8_plant_15 rfl ?_
    refine v_lng (y := (9 : Int32).toInt64) F (by decide) ?_
    refine s_calli F G.1 (cm_X8_in G σ n 0 9 ) ok_X8_in q1386 q1387 rfl rfl dX8_plant_18 rfl rfl ?_
    intro u0 hu0; subst u0
    refine v_if_eqB (p := (0 ≤ n ∧ n ≤ 9)) (tgt := 31) (q := 24) F dX8_plant_21 rfl rfl (fun c2 => ?_) (fun c2 => ?_)
    · skip
      refine v_bipush (x := (-2)) F dX8_plant_31 rfl (by decide) ?_
      exact v_reti F dX8_plant_33 rfl (by unfold plaR; show _ = (if _ then _ else if σ 0 13 = 8 then _ else _); first | (simp [c1, c2]; done) | grind) (by unfold plaS; show _ = (if _ then _ else if σ 0 13 = 8 then _ else _); first | (simp [c1, c2]; done) | grind)
    · skip
      refine v_iload_n F 3 dX8_plant_24 rfl rfl rfl ?_
      refine s_calli F G.1 (cm_X8_isGarden G σ g ) ok_X8_isGarden q1393 q1394 rfl rfl dX8_plant_25 rfl rfl ?_
      intro u0 hu0; subst u0
      refine v_if_neB (p := (0 ≤ g ∧ g ≤ 7)) (tgt := 34) (q := 31) F dX8_plant_28 rfl rfl (fun c3 => ?_) (fun c3 => ?_)
      · skip
        refine v_aload_n F 0 dX8_plant_34 rfl rfl rfl ?_
        refine m_get F G 13 (w := .int (σ 0 13)) (by decide) q1266 rfl dX8_plant_35 rfl ?_
        refine v_bipush (x := 8) F dX8_plant_38 rfl (by decide) ?_
        refine v_icmp_ne (tgt := 46) (q := 43) F dX8_plant_40 rfl rfl (fun c4 => ?_) (fun c4 => ?_)
        · skip
          refine v_aload_n F 0 dX8_plant_46 rfl rfl rfl ?_
          refine v_iload_n F 1 dX8_plant_47 rfl rfl rfl ?_
          refine v_iload_n F 2 dX8_plant_48 rfl rfl rfl ?_
          refine v_iload_n F 3 dX8_plant_49 rfl rfl rfl ?_
          refine v_iconst (x := 1) F dX8_plant_50 rfl (by decide) ?_
          refine m_calln F G (cm_X8_comes G σ k n g 1 hM (plt8 hM hM8 c4)) ok_X8_comes q1628 is_X8_comes rfl rfl dX8_plant_51 rfl rfl ?_
          intro u0 hu0; subst u0
          refine v_aload_n F 0 dX8_plant_54 rfl rfl rfl ?_
          refine m_get F G 13 (w := .int ((comS σ k n g 1) 0 13)) (by decide) q1266 rfl dX8_plant_55 rfl ?_
          refine v_iconst (x := 1) F dX8_plant_58 rfl (by decide) ?_
          refine v_isub F dX8_plant_59 rfl ?_
          exact v_reti F dX8_plant_60 rfl (by unfold plaR; show _ = (if _ then _ else if σ 0 13 = 8 then _ else σ 0 13); rw [if_neg (fun h => h ⟨c1, c2, c3⟩), if_neg c4]; show nI (tn (σ 0 13) + 1) - 1 = _; rw [nI_pred]; exact hM.symm) (by unfold plaS; show _ = (if _ then _ else if σ 0 13 = 8 then _ else _); rw [if_neg (fun h => h ⟨c1, c2, c3⟩), if_neg c4]; exact com_ab)
        · skip
          refine v_bipush (x := (-4)) F dX8_plant_43 rfl (by decide) ?_
          exact v_reti F dX8_plant_45 rfl (by unfold plaR; show _ = (if _ then _ else if σ 0 13 = 8 then _ else _); first | (simp [c1, c2, c3, c4]; done) | grind) (by unfold plaS; show _ = (if _ then _ else if σ 0 13 = 8 then _ else _); first | (simp [c1, c2, c3, c4]; done) | grind)
      · skip
        refine v_bipush (x := (-2)) F dX8_plant_31 rfl (by decide) ?_
        exact v_reti F dX8_plant_33 rfl (by unfold plaR; show _ = (if _ then _ else if σ 0 13 = 8 then _ else _); first | (simp [c1, c2, c3]; done) | grind) (by unfold plaS; show _ = (if _ then _ else if σ 0 13 = 8 then _ else _); first | (simp [c1, c2, c3]; done) | grind)
theorem ok_X8_told : vv_oc yX8_told 4 2 (ws_ yX8_told cX8_told 4 (some .int)) := vv_ok.oc (rt := (some .int)) ⟨q1407, q133, by decide +kernel, by decide +kernel⟩
theorem is_X8_told : Cond.instanceMethod yX8_told ∈ lw_all ∧ Cond.selects RX8 yX8_told yX8_told ∈ lw_all := ⟨q1405, q1406⟩
set_option maxHeartbeats 4000000 in
theorem cm_X8_told {l : Launch} {Kf : State → Prop} {D : va_G} {ad : Nat → Nat} {cI cZ : ClassId} {A : Nat → Prop} (G : mG A Kf D cI cZ)  (σ : mS) (o : Int32) (w : Int32) (hw : Wf (ab σ)) : vv_Ct l yX8_told (ws_ yX8_told cX8_told 4 (some .int)) (rm 44 976) Kf (mWd D ad cI cZ A) A [.ref (ad 0), .int o, .int w] σ (vv_i (tolV (ab σ) o w) (fun u => ab u = ab σ)) := by
  refine vv_of (by decide +kernel) (Nat.le_of_ble_eq_true rfl) ?_
  intro v (F : vv_F v l cX8_told 4 RX8 "told" (some .int) [] (rm 44 976) Kf (mWd D ad cI cZ A) A _)
  show v σ 0 0 0 [(0, .ref (ad 0)), (1, .int o), (2, .int w)] []
  have hM : σ 0 13 = nI (tn (σ 0 13)) := hw.1.1.1
  have hM8 : tn (σ 0 13) ≤ 8 := hw.1.1.2
  refine v_iload_n F 2 dX8_told_0 rfl rfl rfl ?_
  refine v_i2l F dX8_told_1 rfl ?_
  refine v_lconst (x := (0 : Int32).toInt64) F dX8_told_2 rfl (by decide) ?_
  refine v_ldc2 F q1408 dX8_told_3 rfl ?_
  refine v_lng (y := (10 : Int32).toInt64) F (by decide) ?_
  refine s_calli F G.1 (cm_X8_in G σ w 0 10 ) ok_X8_in q1386 q1387 rfl rfl dX8_told_6 rfl rfl ?_
  intro u0 hu0; subst u0
  refine v_if_eqB (p := (0 ≤ w ∧ w ≤ 10)) (tgt := 21) (q := 12) F dX8_told_9 rfl rfl (fun c1 => ?_) (fun c1 => ?_)
  · skip
    refine v_bipush (x := (-2)) F dX8_told_21 rfl (by decide) ?_
    exact v_reti F dX8_told_23 rfl ((tolV_b1 c1).symm) (rfl)
  · skip
    refine v_aload_n F 0 dX8_told_12 rfl rfl rfl ?_
    refine v_iload_n F 2 dX8_told_13 rfl rfl rfl ?_
    refine v_iload_n F 1 dX8_told_14 rfl rfl rfl ?_
    refine m_calli F G (cm_X8_isOf G σ w o ) ok_X8_isOf q1389 is_X8_isOf rfl rfl dX8_told_15 rfl rfl ?_
    intro u0 hu0; subst u0
    refine v_if_neB (p := (w < 2 ∨ (if w = 2 then (0 ≤ o ∧ o ≤ 7) else (0 ≤ o ∧ o ≤ σ 0 13 - 1)))) (tgt := 24) (q := 21) F dX8_told_18 rfl rfl (fun c2 => ?_) (fun c2 => ?_)
    · skip
      refine v_iload_n F 2 dX8_told_24 rfl rfl rfl ?_
      refine v_iconst (x := 3) F dX8_told_25 rfl (by decide) ?_
      refine v_icmp_ge (tgt := 59) (q := 29) F dX8_told_26 rfl rfl (fun c3 => ?_) (fun c3 => ?_)
      · skip
        obtain ⟨p, hp, hop⟩ : ∃ p, p < tn (σ 0 13) ∧ o = nI p := pl_of hM hM8 (tol_3 c2 c3)
        have htn : tn o = p := by rw [hop, tn_nI (by omega)]
        have hg : σ 12 (3 * p + 1) = nI (tn (σ 12 (3 * p + 1))) := (hw.2.1 p hp).1.1
        have hg7 : tn (σ 12 (3 * p + 1)) ≤ 7 := (hw.2.1 p hp).1.2
        refine v_iload_n F 2 dX8_told_59 rfl rfl rfl ?_
        refine v_bipush (x := 7) F dX8_told_60 rfl (by decide) ?_
        refine v_icmp_ge (tgt := 93) (q := 65) F dX8_told_62 rfl rfl (fun c4 => ?_) (fun c4 => ?_)
        · skip
          refine v_aload_n F 0 dX8_told_93 rfl rfl rfl ?_
          refine m_get F G 12 (w := .ref (ad 12)) (by decide) q1265 rfl dX8_told_94 rfl ?_
          refine v_iconst (x := 3) F dX8_told_97 rfl (by decide) ?_
          refine v_iload_n F 1 dX8_told_98 rfl rfl rfl ?_
          refine v_int F (hop) ?_
          refine v_imulN (a := 3) (b := p) F dX8_told_99 rfl ?_
          refine v_iconst (x := 2) F dX8_told_100 rfl (by decide) ?_
          refine v_iaddN (a := 3 * p) (b := 2) F dX8_told_101 rfl ?_
          refine m_ald12 (t := (3 * p) + 2) F G (by omega) dX8_told_102 rfl ?_
          refine v_istore_n (ls' := [(3, .int (σ 12 ((3 * p) + 2))), (0, .ref (ad 0)), (1, .int o), (2, .int w)]) F dX8_told_103 rfl rfl (by decide) rfl ?_
          refine v_iload_n F 3 dX8_told_104 rfl rfl rfl ?_
          refine v_bipush (x := 7) F dX8_told_105 rfl (by decide) ?_
          refine v_icmp_ne (tgt := 118) (q := 110) F dX8_told_107 rfl rfl (fun c5 => ?_) (fun c5 => ?_)
          · skip
            refine v_iload_n F 3 dX8_told_118 rfl rfl rfl ?_
            refine v_bipush (x := 8) F dX8_told_119 rfl (by decide) ?_
            refine v_icmp_ne (tgt := 133) (q := 124) F dX8_told_121 rfl rfl (fun c6 => ?_) (fun c6 => ?_)
            · skip
              refine v_iload_n F 3 dX8_told_133 rfl rfl rfl ?_
              refine v_bipush (x := 9) F dX8_told_134 rfl (by decide) ?_
              refine v_icmp_ne (tgt := 148) (q := 139) F dX8_told_136 rfl rfl (fun c7 => ?_) (fun c7 => ?_)
              · skip
                refine v_aload_n F 1 dX8_told_148 rfl rfl rfl ?_
                refine v_iconst (x := 2) F dX8_told_149 rfl (by decide) ?_
                refine v_iload_n F 2 dX8_told_150 rfl rfl rfl ?_
                refine v_int F (hop) ?_
                refine m_calli F G (cm_X8_says G σ 2 p hw hp) ok_X8_says q1413 is_X8_says rfl rfl dX8_told_151 rfl rfl ?_
                intro t8 hb8
                exact v_reti F dX8_told_154 rfl (by rw [tolV_10 (α := ab σ) (w := w) (by grind) c2, htn]) (hb8)
              · skip
                refine v_aload_n F 1 dX8_told_139 rfl rfl rfl ?_
                refine v_iload_n F 2 dX8_told_140 rfl rfl rfl ?_
                refine v_int F (hop) ?_
                refine v_iload_n F 0 dX8_told_141 rfl rfl rfl ?_
                refine m_calli F G (cm_X8_flowersOf G σ p (σ 12 ((3 * p) + 2)) (by omega)) ok_X8_flowersOf q1614 is_X8_flowersOf rfl rfl dX8_told_142 rfl rfl ?_
                intro u0 hu0; subst u0
                refine v_goto (tgt := 154) F dX8_told_145 rfl ?_
                exact v_reti F dX8_told_154 rfl (by rw [tolV_9 (α := ab σ) (w := w) (by grind) c2, htn]; rfl) (rfl)
            · skip
              refine v_aload_n F 1 dX8_told_124 rfl rfl rfl ?_
              refine v_iload_n F 2 dX8_told_125 rfl rfl rfl ?_
              refine v_int F (hop) ?_
              refine v_iload_n F 0 dX8_told_126 rfl rfl rfl ?_
              refine m_calli F G (cm_X8_growsOf G σ p (σ 12 ((3 * p) + 2)) hw hp) ok_X8_growsOf q1610 is_X8_growsOf rfl rfl dX8_told_127 rfl rfl ?_
              intro u0 hu0; subst u0
              refine v_goto (tgt := 154) F dX8_told_130 rfl ?_
              exact v_reti F dX8_told_154 rfl (by rw [tolV_8 (α := ab σ) (w := w) (by grind) c2, htn]; rfl) (rfl)
          · skip
            refine v_aload_n F 1 dX8_told_110 rfl rfl rfl ?_
            refine v_iload_n F 2 dX8_told_111 rfl rfl rfl ?_
            refine v_int F (hop) ?_
            refine m_calli F G (cm_X8_rotsOf G σ p hw hp) ok_X8_rotsOf q1409 is_X8_rotsOf rfl rfl dX8_told_112 rfl rfl ?_
            intro t9 hb9
            refine v_goto (tgt := 154) F dX8_told_115 rfl ?_
            exact v_reti F dX8_told_154 rfl (by rw [tolV_7 (α := ab σ) (w := w) (by grind) c2, htn]) (hb9)
        · skip
          refine v_iload_n F 2 dX8_told_65 rfl rfl rfl ?_
          refine v_bipush (x := 6) F dX8_told_66 rfl (by decide) ?_
          refine v_icmp_ge (tgt := 86) (q := 71) F dX8_told_68 rfl rfl (fun c10 => ?_) (fun c10 => ?_)
          · skip
            refine v_aload_n F 0 dX8_told_86 rfl rfl rfl ?_
            refine m_get F G 11 (w := .ref (ad 11)) (by decide) q1264 rfl dX8_told_87 rfl ?_
            refine v_iload_n F 1 dX8_told_90 rfl rfl rfl ?_
            refine v_int F (hop) ?_
            refine m_ald11 (t := p) F G (by omega) dX8_told_91 rfl ?_
            exact v_reti F dX8_told_92 rfl (by rw [tolV_6 (α := ab σ) (w := w) (by grind) c2, htn]; rfl) (rfl)
          · skip
            obtain ⟨k, hk, hwk⟩ : ∃ k, (3 ≤ k ∧ k ≤ 5) ∧ w = nI k := tol_k c3 c10
            refine v_aload_n F 0 dX8_told_71 rfl rfl rfl ?_
            refine m_get F G 12 (w := .ref (ad 12)) (by decide) q1265 rfl dX8_told_72 rfl ?_
            refine v_iconst (x := 3) F dX8_told_75 rfl (by decide) ?_
            refine v_iload_n F 1 dX8_told_76 rfl rfl rfl ?_
            refine v_int F (hop) ?_
            refine v_imulN (a := 3) (b := p) F dX8_told_77 rfl ?_
            refine v_iload_n F 2 dX8_told_78 rfl rfl rfl ?_
            refine v_int F (hwk) ?_
            refine v_iaddN (a := 3 * p) (b := k) F dX8_told_79 rfl ?_
            refine v_iconst (x := 3) F dX8_told_80 rfl (by decide) ?_
            refine v_isubN (a := (3 * p) + k) (b := 3) F dX8_told_81 rfl (by omega) ?_
            refine m_ald12 (t := ((3 * p) + k) - 3) F G (by omega) dX8_told_82 rfl ?_
            refine v_goto (tgt := 92) F dX8_told_83 rfl ?_
            exact v_reti F dX8_told_92 rfl ((tolV_k (α := ab σ) hk hwk htn c2).symm) (rfl)
      · skip
        refine v_iload_n F 2 dX8_told_29 rfl rfl rfl ?_
        refine v_if_ne (tgt := 40) (q := 33) F dX8_told_30 rfl rfl (fun c11 => ?_) (fun c11 => ?_)
        · skip
          refine v_iload_n F 2 dX8_told_40 rfl rfl rfl ?_
          refine v_iconst (x := 1) F dX8_told_41 rfl (by decide) ?_
          refine v_icmp_ne (tgt := 52) (q := 45) F dX8_told_42 rfl rfl (fun c12 => ?_) (fun c12 => ?_)
          · skip
            obtain ⟨p, hp7, hop⟩ : ∃ p, p ≤ 7 ∧ o = nI p := in_of (M := 7) (by decide) (tol_2 c2 c11 c12 c3 c1)
            have htn : tn o = p := by rw [hop, tn_nI (by omega)]
            refine v_aload_n F 0 dX8_told_52 rfl rfl rfl ?_
            refine m_get F G 10 (w := .ref (ad 10)) (by decide) q1263 rfl dX8_told_53 rfl ?_
            refine v_iload_n F 1 dX8_told_56 rfl rfl rfl ?_
            refine v_int F (hop) ?_
            refine m_ald10 (t := p) F G (by omega) dX8_told_57 rfl ?_
            exact v_reti F dX8_told_58 rfl (by rw [tolV_2 (α := ab σ) (w := w) (by grind) c2, htn]; rfl) (rfl)
          · skip
            refine v_aload_n F 0 dX8_told_45 rfl rfl rfl ?_
            refine m_get F G 8 (w := .int (σ 0 8)) (by decide) q1261 rfl dX8_told_46 rfl ?_
            refine v_goto (tgt := 58) F dX8_told_49 rfl ?_
            exact v_reti F dX8_told_58 rfl (by rw [tolV_1 (α := ab σ) (w := w) (by grind) c2]; rfl) (rfl)
        · skip
          refine v_aload_n F 0 dX8_told_33 rfl rfl rfl ?_
          refine m_get F G 7 (w := .int (σ 0 7)) (by decide) q1260 rfl dX8_told_34 rfl ?_
          refine v_goto (tgt := 58) F dX8_told_37 rfl ?_
          exact v_reti F dX8_told_58 rfl (by rw [tolV_0 (α := ab σ) (w := w) (by grind) c2]; rfl) (rfl)
    · skip
      refine v_bipush (x := (-2)) F dX8_told_21 rfl (by decide) ?_
      exact v_reti F dX8_told_23 rfl ((tolV_b2 (α := ab σ) c2).symm) (rfl)
