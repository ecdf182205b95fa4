set_option maxRecDepth 100000
theorem ok_X8_set : vv_oc yX8_set 5 3 (ws_ yX8_set cX8_set 5 (some .int)) := vv_ok.oc (rt := (some .int)) ⟨q1384, q133, by decide +kernel, by decide +kernel⟩
theorem is_X8_set : Cond.instanceMethod yX8_set ∈ lw_all ∧ Cond.selects RX8 yX8_set yX8_set ∈ lw_all := ⟨q1382, q1383⟩
set_option maxHeartbeats 4000000 in
theorem cm_X8_set {l : Launch} {Kf : State → Prop} {D : va_G} {ad : Nat → Nat} {cI cZ : ClassId} {A : Nat → Prop} (G : mG A Kf D cI cZ)  (σ : mS) (w : Int32) (o : Int32) (x : Int32) (hw : Wf (ab σ)) : vv_Ct l yX8_set (ws_ yX8_set cX8_set 5 (some .int)) (rm 45 999) Kf (mWd D ad cI cZ A) A [.ref (ad 0), .int w, .int o, .int x] σ (vv_i (setR (ab σ) w o x) (fun u => ab u = setS (ab σ) w o x)) := by
  refine vv_of (by decide +kernel) (Nat.le_of_ble_eq_true rfl) ?_
  intro v (F : vv_F v l cX8_set 5 RX8 "set" (some .int) [] (rm 45 999) Kf (mWd D ad cI cZ A) A _)
  show v σ 0 0 0 [(0, .ref (ad 0)), (1, .int w), (2, .int o), (3, .int x)] []
  have hM : σ 0 13 = nI (tn (σ 0 13)) := hw.1.1.1
  have hM8 : tn (σ 0 13) ≤ 8 := hw.1.1.2
  refine v_iload_n F 1 dX8_set_0 rfl rfl rfl ?_
  refine v_i2l F dX8_set_1 rfl ?_
  refine v_lconst (x := (0 : Int32).toInt64) F dX8_set_2 rfl (by decide) ?_
  refine v_ldc2 F q1385 dX8_set_3 rfl ?_
  refine v_lng (y := (5 : Int32).toInt64) F (by decide) ?_
  refine s_calli F G.1 (cm_X8_in G σ w 0 5 ) ok_X8_in q1386 q1387 rfl rfl dX8_set_6 rfl rfl ?_
  intro u0 hu0; subst u0
  refine v_if_eqB (p := (0 ≤ w ∧ w ≤ 5)) (tgt := 35) (q := 12) F dX8_set_9 rfl rfl (fun c1 => ?_) (fun c1 => ?_)
  · skip
    refine v_bipush (x := (-2)) F dX8_set_35 rfl (by decide) ?_
    exact v_reti F dX8_set_37 rfl ((setR_no (α := ab σ) (fun h => c1 h.1)).symm) ((setS_no (α := ab σ) (fun h => c1 h.1)).symm)
  · skip
    refine v_aload_n F 0 dX8_set_12 rfl rfl rfl ?_
    refine v_iload_n F 1 dX8_set_13 rfl rfl rfl ?_
    refine v_iload_n F 2 dX8_set_14 rfl rfl rfl ?_
    refine m_calli F G (cm_X8_isOf G σ w o ) ok_X8_isOf q1389 is_X8_isOf rfl rfl dX8_set_15 rfl rfl ?_
    intro u0 hu0; subst u0
    refine v_if_eqB (p := (w < 2 ∨ (if w = 2 then (0 ≤ o ∧ o ≤ 7) else (0 ≤ o ∧ o ≤ σ 0 13 - 1)))) (tgt := 35) (q := 21) F dX8_set_18 rfl rfl (fun c2 => ?_) (fun c2 => ?_)
    · skip
      refine v_bipush (x := (-2)) F dX8_set_35 rfl (by decide) ?_
      exact v_reti F dX8_set_37 rfl ((setR_no (α := ab σ) (fun h => c2 h.2.1)).symm) ((setS_no (α := ab σ) (fun h => c2 h.2.1)).symm)
    · skip
      refine v_iload_n F 3 dX8_set_21 rfl rfl rfl ?_
      refine v_i2l F dX8_set_22 rfl ?_
      refine v_lconst (x := (0 : Int32).toInt64) F dX8_set_23 rfl (by decide) ?_
      refine v_iload_n F 1 dX8_set_24 rfl rfl rfl ?_
      refine s_calli F G.1 (cm_X8_mostOf G σ w ) ok_X8_mostOf q1401 q1402 rfl rfl dX8_set_25 rfl rfl ?_
      intro u0 hu0; subst u0
      refine v_i2l F dX8_set_28 rfl ?_
      refine s_calli F G.1 (cm_X8_in G σ x 0 (mostV w) ) ok_X8_in q1386 q1387 rfl rfl dX8_set_29 rfl rfl ?_
      intro u0 hu0; subst u0
      refine v_if_neB (p := (0 ≤ x ∧ x ≤ (mostV w))) (tgt := 38) (q := 35) F dX8_set_32 rfl rfl (fun c3 => ?_) (fun c3 => ?_)
      · skip
        obtain ⟨k, hk5, hwk⟩ := in_of (M := 5) (n := 5) (by decide) c1
        have htw : tn w = k := by rw [hwk, tn_nI (by omega)]
        have hof := of_p hM hM8 c2 hwk hk5
        refine v_aload_n F 0 dX8_set_38 rfl rfl rfl ?_
        refine v_iload_n F 2 dX8_set_39 rfl rfl rfl ?_
        refine v_iload_n F 1 dX8_set_40 rfl rfl rfl ?_
        refine m_calli F G (cm_X8_told G σ o w hw) ok_X8_told q1404 is_X8_told rfl rfl dX8_set_41 rfl rfl ?_
        intro t4 hb4
        refine v_istore (ls' := [(4, .int (tolV (ab σ) o w)), (0, .ref (ad 0)), (1, .int w), (2, .int o), (3, .int x)]) F dX8_set_44 rfl (by decide) rfl ?_
        refine v_aload_n F 1 dX8_set_46 rfl rfl rfl ?_
        refine v_iload_n F 2 dX8_set_47 rfl rfl rfl ?_
        refine v_int F (hwk) ?_
        refine v_iload_n F 3 dX8_set_48 rfl rfl rfl ?_
        refine v_iload_n F 4 dX8_set_49 rfl rfl rfl ?_
        refine m_calln F G (cm_X8_lays (p := tn o) G t4 k o x hof (by omega)) ok_X8_lays q1619 is_X8_lays rfl rfl dX8_set_50 rfl rfl ?_
        intro u0 hu0; subst u0
        refine v_iload F 0 dX8_set_53 rfl rfl ?_
        exact v_reti F dX8_set_55 rfl ((setR_ok (α := ab σ) ⟨c1, c2, c3⟩).symm) (by rw [lay_ab, hb4, setS_ok (α := ab σ) ⟨c1, c2, c3⟩, htw])
      · skip
        refine v_bipush (x := (-2)) F dX8_set_35 rfl (by decide) ?_
        exact v_reti F dX8_set_37 rfl ((setR_no (α := ab σ) (fun h => c3 h.2.2)).symm) ((setS_no (α := ab σ) (fun h => c3 h.2.2)).symm)
theorem ok_X8_feed : vv_oc yX8_feed 2 1 (ws_ yX8_feed cX8_feed 2 (some .int)) := vv_ok.oc (rt := (some .int)) ⟨q1636, q133, by decide +kernel, by decide +kernel⟩
theorem is_X8_feed : Cond.instanceMethod yX8_feed ∈ lw_all ∧ Cond.selects RX8 yX8_feed yX8_feed ∈ lw_all := ⟨q1634, q1635⟩
set_option maxHeartbeats 4000000 in
theorem cm_X8_feed {l : Launch} {Kf : State → Prop} {D : va_G} {ad : Nat → Nat} {cI cZ : ClassId} {A : Nat → Prop} (G : mG A Kf D cI cZ)  (σ : mS) (x : Int32) (h6 : okN (σ 0 6) 160) : vv_Ct l yX8_feed (ws_ yX8_feed cX8_feed 2 (some .int)) (rm 1 25) Kf (mWd D ad cI cZ A) A [.ref (ad 0), .int x] σ (vv_i (feeR (ab σ) x) (fun u => ab u = feeS (ab σ) x)) := by
  refine vv_of (by decide +kernel) (Nat.le_of_ble_eq_true rfl) ?_
  intro v (F : vv_F v l cX8_feed 2 RX8 "feed" (some .int) [] (rm 1 25) Kf (mWd D ad cI cZ A) A _)
  show v σ 0 0 0 [(0, .ref (ad 0)), (1, .int x)] []
  obtain ⟨h6a, h6b⟩ := h6
  refine v_iload_n F 1 dX8_feed_0 rfl rfl rfl ?_
  refine v_i2l F dX8_feed_1 rfl ?_
  refine v_lconst (x := (0 : Int32).toInt64) F dX8_feed_2 rfl (by decide) ?_
  refine v_ldc2 F q1637 dX8_feed_3 rfl ?_
  refine v_lng (y := (255 : Int32).toInt64) F (by decide) ?_
  refine s_calli F G.1 (cm_X8_in G σ x 0 255 ) ok_X8_in q1386 q1387 rfl rfl dX8_feed_6 rfl rfl ?_
  intro u0 hu0; subst u0
  refine v_if_neB (p := (0 ≤ x ∧ x ≤ 255)) (tgt := 15) (q := 12) F dX8_feed_9 rfl rfl (fun c1 => ?_) (fun c1 => ?_)
  · skip
    refine v_aload_n F 0 dX8_feed_15 rfl rfl rfl ?_
    refine m_get F G 6 (w := .int (σ 0 6)) (by decide) q1259 rfl dX8_feed_16 rfl ?_
    refine v_int F (h6a) ?_
    refine v_sipush (x := 160) F dX8_feed_19 rfl (by decide) ?_
    refine v_icmp_neN (a := tn (σ 0 6)) (b := 160) (tgt := 28) (q := 25) F dX8_feed_22 rfl rfl (by omega) (by omega) (fun c2 => ?_) (fun c2 => ?_)
    · skip
      refine v_aload_n F 0 dX8_feed_28 rfl rfl rfl ?_
      refine m_get F G 5 (w := .ref (ad 5)) (by decide) q1258 rfl dX8_feed_29 rfl ?_
      refine v_aload_n F 0 dX8_feed_32 rfl rfl rfl ?_
      refine m_get F G 6 (w := .int (σ 0 6)) (by decide) q1259 rfl dX8_feed_33 rfl ?_
      refine v_int F (h6a) ?_
      refine v_iload_n F 1 dX8_feed_36 rfl rfl rfl ?_
      refine m_ast5 (t := tn (σ 0 6)) F G (by omega) dX8_feed_37 rfl ?_
      refine v_aload_n F 0 dX8_feed_38 rfl rfl rfl ?_
      refine v_dup F dX8_feed_39 rfl rfl ?_
      refine m_get F G 6 (w := .int (σ 0 6)) (by decide) q1259 rfl dX8_feed_40 rfl ?_
      refine v_int F (h6a) ?_
      refine v_iconst (x := 1) F dX8_feed_43 rfl (by decide) ?_
      refine v_iaddN (a := tn (σ 0 6)) (b := 1) F dX8_feed_44 rfl ?_
      refine m_put6 F G q1259 dX8_feed_45 rfl ?_
      refine v_aload_n F 0 dX8_feed_48 rfl rfl rfl ?_
      refine m_get F G 6 (w := .int (nI ((tn (σ 0 6)) + 1))) (by decide) q1259 rfl dX8_feed_49 rfl ?_
      exact v_reti F dX8_feed_52 rfl (by unfold feeR; rw [if_neg (fun h => h c1), if_neg (show ¬ ab σ 0 6 = 160 from n160 c2)]; show _ = σ 0 6 + 1; rw [h6a, nI_1, tn_nI (by omega)]) (by unfold feeS; rw [if_neg (fun h => h c1), if_neg (show ¬ ab σ 0 6 = 160 from n160 c2), ab_u rfl, ab_u rfl]; rfl)
    · skip
      refine v_bipush (x := (-4)) F dX8_feed_25 rfl (by decide) ?_
      exact v_reti F dX8_feed_27 rfl (by unfold feeR; rw [if_neg (fun h => h c1), if_pos (show ab σ 0 6 = 160 from e160 h6a c2)]) (by unfold feeS; rw [if_neg (fun h => h c1), if_pos (show ab σ 0 6 = 160 from e160 h6a c2)])
  · skip
    refine v_bipush (x := (-2)) F dX8_feed_12 rfl (by decide) ?_
    exact v_reti F dX8_feed_14 rfl (by unfold feeR; rw [if_pos c1]) (by unfold feeS; rw [if_pos c1])
theorem ok_X8_force : vv_oc yX8_force 3 1 (ws_ yX8_force cX8_force 3 (some .int)) := vv_ok.oc (rt := (some .int)) ⟨q1645, q133, by decide +kernel, by decide +kernel⟩
theorem is_X8_force : Cond.instanceMethod yX8_force ∈ lw_all ∧ Cond.selects RX8 yX8_force yX8_force ∈ lw_all := ⟨q1643, q1644⟩
set_option maxHeartbeats 4000000 in
theorem cm_X8_force {l : Launch} {Kf : State → Prop} {D : va_G} {ad : Nat → Nat} {cI cZ : ClassId} {A : Nat → Prop} (G : mG A Kf D cI cZ)  (σ : mS) (x : Int32)  : vv_Ct l yX8_force (ws_ yX8_force cX8_force 3 (some .int)) (rm 1 25) Kf (mWd D ad cI cZ A) A [.ref (ad 0), .int x] σ (vv_i (forR (ab σ) x) (fun u => ab u = forS (ab σ) x)) := by
  refine vv_of (by decide +kernel) (Nat.le_of_ble_eq_true rfl) ?_
  intro v (F : vv_F v l cX8_force 3 RX8 "force" (some .int) [] (rm 1 25) Kf (mWd D ad cI cZ A) A _)
  show v σ 0 0 0 [(0, .ref (ad 0)), (1, .int x)] []
  refine v_iload_n F 1 dX8_force_0 rfl rfl rfl ?_
  refine v_i2l F dX8_force_1 rfl ?_
  refine v_lconst (x := (0 : Int32).toInt64) F dX8_force_2 rfl (by decide) ?_
  refine v_aload_n F 0 dX8_force_3 rfl rfl rfl ?_
  refine m_get F G 3 (w := .int (σ 0 3)) (by decide) q1256 rfl dX8_force_4 rfl ?_
  refine v_iconst (x := 1) F dX8_force_7 rfl (by decide) ?_
  refine v_isub F dX8_force_8 rfl ?_
  refine v_i2l F dX8_force_9 rfl ?_
  refine s_calli F G.1 (cm_X8_in G σ x 0 ((σ 0 3) - 1) ) ok_X8_in q1386 q1387 rfl rfl dX8_force_10 rfl rfl ?_
  intro u0 hu0; subst u0
  refine v_if_neB (p := (0 ≤ x ∧ x ≤ ((σ 0 3) - 1))) (tgt := 19) (q := 16) F dX8_force_13 rfl rfl (fun c1 => ?_) (fun c1 => ?_)
  · skip
    refine v_aload_n F 0 dX8_force_19 rfl rfl rfl ?_
    refine m_get F G 4 (w := .int (σ 0 4)) (by decide) q1257 rfl dX8_force_20 rfl ?_
    refine v_istore_n (ls' := [(2, .int (σ 0 4)), (0, .ref (ad 0)), (1, .int x)]) F dX8_force_23 rfl rfl (by decide) rfl ?_
    refine v_aload_n F 1 dX8_force_24 rfl rfl rfl ?_
    refine v_iload_n F 2 dX8_force_25 rfl rfl rfl ?_
    refine m_put4 F G q1257 dX8_force_26 rfl ?_
    refine v_iload_n F 0 dX8_force_29 rfl rfl rfl ?_
    exact v_reti F dX8_force_30 rfl (by unfold forR; exact (if_pos (show (0 ≤ x ∧ x ≤ σ 0 3 - 1) from c1)).symm) (by unfold forS; rw [if_pos (show (0 ≤ x ∧ x ≤ ab σ 0 3 - 1) from c1), ab_u rfl])
  · skip
    refine v_bipush (x := (-2)) F dX8_force_16 rfl (by decide) ?_
    exact v_reti F dX8_force_18 rfl (by unfold forR; exact (if_neg (show ¬ (0 ≤ x ∧ x ≤ σ 0 3 - 1) from c1)).symm) (by unfold forS; exact (if_neg (show ¬ (0 ≤ x ∧ x ≤ σ 0 3 - 1) from c1)).symm)
theorem ok_X8_dig : vv_oc yX8_dig 4 3 (ws_ yX8_dig cX8_dig 4 (some .int)) := vv_ok.oc (rt := (some .int)) ⟨q1649, q133, by decide +kernel, by decide +kernel⟩
theorem is_X8_dig : Cond.instanceMethod yX8_dig ∈ lw_all ∧ Cond.selects RX8 yX8_dig yX8_dig ∈ lw_all := ⟨q1647, q1648⟩
set_option maxHeartbeats 4000000 in
theorem cm_X8_dig {l : Launch} {Kf : State → Prop} {D : va_G} {ad : Nat → Nat} {cI cZ : ClassId} {A : Nat → Prop} (G : mG A Kf D cI cZ)  (σ : mS) (o : Int32) (g : Int32) (n : Int32) (hw : Wf (ab σ)) : vv_Ct l yX8_dig (ws_ yX8_dig cX8_dig 4 (some .int)) (rm 2 46) Kf (mWd D ad cI cZ A) A [.ref (ad 0), .int o, .int g, .int n] σ (vv_i (digR (ab σ) o g n) (fun u => ab u = digS (ab σ) o g n)) := by
  refine vv_of (by decide +kernel) (Nat.le_of_ble_eq_true rfl) ?_
  intro v (F : vv_F v l cX8_dig 4 RX8 "dig" (some .int) [] (rm 2 46) Kf (mWd D ad cI cZ A) A _)
  show v σ 0 0 0 [(0, .ref (ad 0)), (1, .int o), (2, .int g), (3, .int n)] []
  have hM : σ 0 13 = nI (tn (σ 0 13)) := hw.1.1.1
  have hM8 : tn (σ 0 13) ≤ 8 := hw.1.1.2
  refine v_aload_n F 0 dX8_dig_0 rfl rfl rfl ?_
  refine v_iload_n F 1 dX8_dig_1 rfl rfl rfl ?_
  refine m_calli F G (cm_X8_isPlanting G σ o ) ok_X8_isPlanting q1397 is_X8_isPlanting rfl rfl dX8_dig_2 rfl rfl ?_
  intro u0 hu0; subst u0
  refine v_if_eqB (p := (0 ≤ o ∧ o ≤ σ 0 13 - 1)) (tgt := 27) (q := 8) F dX8_dig_5 rfl rfl (fun c1 => ?_) (fun c1 => ?_)
  · skip
    refine v_bipush (x := (-2)) F dX8_dig_27 rfl (by decide) ?_
    exact v_reti F dX8_dig_29 rfl (by unfold digR; rw [if_pos (show ¬ digOK (ab σ) o g n from (fun h => c1 h.1))]) (by unfold digS; rw [if_pos (show ¬ digOK (ab σ) o g n from (fun h => c1 h.1))])
  · skip
    refine v_iload_n F 2 dX8_dig_8 rfl rfl rfl ?_
    refine s_calli F G.1 (cm_X8_isGarden G σ g ) ok_X8_isGarden q1393 q1394 rfl rfl dX8_dig_9 rfl rfl ?_
    intro u0 hu0; subst u0
    refine v_if_eqB (p := (0 ≤ g ∧ g ≤ 7)) (tgt := 27) (q := 15) F dX8_dig_12 rfl rfl (fun c2 => ?_) (fun c2 => ?_)
    · skip
      refine v_bipush (x := (-2)) F dX8_dig_27 rfl (by decide) ?_
      exact v_reti F dX8_dig_29 rfl (by unfold digR; rw [if_pos (show ¬ digOK (ab σ) o g n from (fun h => c2 h.2.1))]) (by unfold digS; rw [if_pos (show ¬ digOK (ab σ) o g n from (fun h => c2 h.2.1))])
    · skip
      refine v_iload_n F 3 dX8_dig_15 rfl rfl rfl ?_
      refine v_i2l F dX8_dig_16 rfl ?_
      refine v_lconst (x := (1 : Int32).toInt64) F dX8_dig_17 rfl (by decide) ?_
      refine v_ldc2 F q1650 dX8_dig_18 rfl ?_
      refine v_lng (y := (9999 : Int32).toInt64) F (by decide) ?_
      refine s_calli F G.1 (cm_X8_in G σ n 1 9999 ) ok_X8_in q1386 q1387 rfl rfl dX8_dig_21 rfl rfl ?_
      intro u0 hu0; subst u0
      refine v_if_neB (p := (1 ≤ n ∧ n ≤ 9999)) (tgt := 30) (q := 27) F dX8_dig_24 rfl rfl (fun c3 => ?_) (fun c3 => ?_)
      · skip
        obtain ⟨p, hp, hop⟩ := pl_of hM hM8 c1
        have htn : tn o = p := by rw [hop, tn_nI (by omega)]
        refine v_aload_n F 0 dX8_dig_30 rfl rfl rfl ?_
        refine m_get F G 12 (w := .ref (ad 12)) (by decide) q1265 rfl dX8_dig_31 rfl ?_
        refine v_iconst (x := 3) F dX8_dig_34 rfl (by decide) ?_
        refine v_iload_n F 1 dX8_dig_35 rfl rfl rfl ?_
        refine v_int F (hop) ?_
        refine v_imulN (a := 3) (b := p) F dX8_dig_36 rfl ?_
        refine v_iconst (x := 2) F dX8_dig_37 rfl (by decide) ?_
        refine v_iaddN (a := 3 * p) (b := 2) F dX8_dig_38 rfl ?_
        refine m_ald12 (t := (3 * p) + 2) F G (by omega) dX8_dig_39 rfl ?_
        refine v_iload_n F 3 dX8_dig_40 rfl rfl rfl ?_
        refine v_icmp_ge (tgt := 47) (q := 44) F dX8_dig_41 rfl rfl (fun c4 => ?_) (fun c4 => ?_)
        · skip
          refine v_aload_n F 0 dX8_dig_47 rfl rfl rfl ?_
          refine m_get F G 13 (w := .int (σ 0 13)) (by decide) q1266 rfl dX8_dig_48 rfl ?_
          refine v_bipush (x := 8) F dX8_dig_51 rfl (by decide) ?_
          refine v_icmp_ne (tgt := 59) (q := 56) F dX8_dig_53 rfl rfl (fun c5 => ?_) (fun c5 => ?_)
          · skip
            refine v_aload_n F 0 dX8_dig_59 rfl rfl rfl ?_
            refine m_get F G 12 (w := .ref (ad 12)) (by decide) q1265 rfl dX8_dig_60 rfl ?_
            refine v_iconst (x := 3) F dX8_dig_63 rfl (by decide) ?_
            refine v_iload_n F 1 dX8_dig_64 rfl rfl rfl ?_
            refine v_int F (hop) ?_
            refine v_imulN (a := 3) (b := p) F dX8_dig_65 rfl ?_
            refine v_iconst (x := 2) F dX8_dig_66 rfl (by decide) ?_
            refine v_iaddN (a := 3 * p) (b := 2) F dX8_dig_67 rfl ?_
            refine v_dup2 F dX8_dig_68 rfl rfl rfl ?_
            refine m_ald12 (t := (3 * p) + 2) F G (by omega) dX8_dig_69 rfl ?_
            refine v_iload_n F 3 dX8_dig_70 rfl rfl rfl ?_
            refine v_isub F dX8_dig_71 rfl ?_
            refine m_ast12 (t := (3 * p) + 2) F G (by omega) dX8_dig_72 rfl ?_
            refine v_aload_n F 0 dX8_dig_73 rfl rfl rfl ?_
            refine v_aload_n F 0 dX8_dig_74 rfl rfl rfl ?_
            refine m_get F G 11 (w := .ref (ad 11)) (by decide) q1264 rfl dX8_dig_75 rfl ?_
            refine v_iload_n F 1 dX8_dig_78 rfl rfl rfl ?_
            refine v_int F (hop) ?_
            refine m_ald11 (t := p) F G (by omega) dX8_dig_79 rfl ?_
            refine v_aload_n F 0 dX8_dig_80 rfl rfl rfl ?_
            refine m_get F G 12 (w := .ref (ad 12)) (by decide) q1265 rfl dX8_dig_81 rfl ?_
            refine v_iconst (x := 3) F dX8_dig_84 rfl (by decide) ?_
            refine v_iload_n F 1 dX8_dig_85 rfl rfl rfl ?_
            refine v_int F (hop) ?_
            refine v_imulN (a := 3) (b := p) F dX8_dig_86 rfl ?_
            refine m_ald12 (t := 3 * p) F G (by omega) dX8_dig_87 rfl ?_
            refine v_iload_n F 2 dX8_dig_88 rfl rfl rfl ?_
            refine v_iload_n F 3 dX8_dig_89 rfl rfl rfl ?_
            refine m_calln F G (cm_X8_comes G (up σ 12 ((3 * p) + 2) ((σ 12 ((3 * p) + 2)) - n)) (σ 11 p) ((up σ 12 ((3 * p) + 2) ((σ 12 ((3 * p) + 2)) - n)) 12 (3 * p)) g n hM (plt8 hM hM8 c5)) ok_X8_comes q1628 is_X8_comes rfl rfl dX8_dig_90 rfl rfl ?_
            intro u0 hu0; subst u0
            refine v_aload_n F 0 dX8_dig_93 rfl rfl rfl ?_
            refine m_get F G 13 (w := .int ((comS (up σ 12 ((3 * p) + 2) ((σ 12 ((3 * p) + 2)) - n)) (σ 11 p) ((up σ 12 ((3 * p) + 2) ((σ 12 ((3 * p) + 2)) - n)) 12 (3 * p)) g n) 0 13)) (by decide) q1266 rfl dX8_dig_94 rfl ?_
            refine v_iconst (x := 1) F dX8_dig_97 rfl (by decide) ?_
            refine v_isub F dX8_dig_98 rfl ?_
            exact v_reti F dX8_dig_99 rfl (by unfold digR; rw [if_neg (show ¬ ¬ digOK (ab σ) o g n from fun h => h ⟨c1, c2, c3⟩), htn]; rw [if_neg (show ¬ ab σ 12 (3 * p + 2) < n from Int32.not_lt.mpr c4)]; rw [if_neg (show ¬ ab σ 0 13 = 8 from c5)]; show nI (tn (σ 0 13) + 1) - 1 = σ 0 13; rw [nI_pred]; exact hM.symm) (by unfold digS; rw [if_neg (show ¬ ¬ digOK (ab σ) o g n from fun h => h ⟨c1, c2, c3⟩), htn]; rw [if_neg (show ¬ ab σ 12 (3 * p + 2) < n from Int32.not_lt.mpr c4)]; rw [if_neg (show ¬ ab σ 0 13 = 8 from c5)]; rw [com_ab, ab_u rfl, up_ne (by omega)]; rfl)
          · skip
            refine v_bipush (x := (-4)) F dX8_dig_56 rfl (by decide) ?_
            exact v_reti F dX8_dig_58 rfl (by unfold digR; rw [if_neg (show ¬ ¬ digOK (ab σ) o g n from fun h => h ⟨c1, c2, c3⟩), htn]; rw [if_neg (show ¬ ab σ 12 (3 * p + 2) < n from Int32.not_lt.mpr c4)]; rw [if_pos (show ab σ 0 13 = 8 from c5)]) (by unfold digS; rw [if_neg (show ¬ ¬ digOK (ab σ) o g n from fun h => h ⟨c1, c2, c3⟩), htn]; rw [if_neg (show ¬ ab σ 12 (3 * p + 2) < n from Int32.not_lt.mpr c4)]; rw [if_pos (show ab σ 0 13 = 8 from c5)])
        · skip
          refine v_bipush (x := (-3)) F dX8_dig_44 rfl (by decide) ?_
          exact v_reti F dX8_dig_46 rfl (by unfold digR; rw [if_neg (show ¬ ¬ digOK (ab σ) o g n from fun h => h ⟨c1, c2, c3⟩), htn]; rw [if_pos (show ab σ 12 (3 * p + 2) < n from Int32.not_le.mp c4)]) (by unfold digS; rw [if_neg (show ¬ ¬ digOK (ab σ) o g n from fun h => h ⟨c1, c2, c3⟩), htn]; rw [if_pos (show ab σ 12 (3 * p + 2) < n from Int32.not_le.mp c4)])
      · skip
        refine v_bipush (x := (-2)) F dX8_dig_27 rfl (by decide) ?_
        exact v_reti F dX8_dig_29 rfl (by unfold digR; rw [if_pos (show ¬ digOK (ab σ) o g n from (fun h => c3 h.2.2))]) (by unfold digS; rw [if_pos (show ¬ digOK (ab σ) o g n from (fun h => c3 h.2.2))])
theorem ok_X8_sell : vv_oc yX8_sell 3 1 (ws_ yX8_sell cX8_sell 3 (some .int)) := vv_ok.oc (rt := (some .int)) ⟨q1654, q133, by decide +kernel, by decide +kernel⟩
theorem is_X8_sell : Cond.instanceMethod yX8_sell ∈ lw_all ∧ Cond.selects RX8 yX8_sell yX8_sell ∈ lw_all := ⟨q1652, q1653⟩
set_option maxHeartbeats 4000000 in
theorem cm_X8_sell {l : Launch} {Kf : State → Prop} {D : va_G} {ad : Nat → Nat} {cI cZ : ClassId} {A : Nat → Prop} (G : mG A Kf D cI cZ)  (σ : mS) (o : Int32) (hw : Wf (ab σ)) : vv_Ct l yX8_sell (ws_ yX8_sell cX8_sell 3 (some .int)) (rm 44 973) Kf (mWd D ad cI cZ A) A [.ref (ad 0), .int o] σ (vv_i (selR (ab σ) o) (fun u => ab u = selS (ab σ) o)) := by
  refine vv_of (by decide +kernel) (Nat.le_of_ble_eq_true rfl) ?_
  intro v (F : vv_F v l cX8_sell 3 RX8 "sell" (some .int) [] (rm 44 973) Kf (mWd D ad cI cZ A) A _)
  show v σ 0 0 0 [(0, .ref (ad 0)), (1, .int o)] []
  have hM : σ 0 13 = nI (tn (σ 0 13)) := hw.1.1.1
  have hM8 : tn (σ 0 13) ≤ 8 := hw.1.1.2
  refine v_aload_n F 0 dX8_sell_0 rfl rfl rfl ?_
  refine v_iload_n F 1 dX8_sell_1 rfl rfl rfl ?_
  refine m_calli F G (cm_X8_isPlanting G σ o ) ok_X8_isPlanting q1397 is_X8_isPlanting rfl rfl dX8_sell_2 rfl rfl ?_
  intro u0 hu0; subst u0
  refine v_if_neB (p := (0 ≤ o ∧ o ≤ σ 0 13 - 1)) (tgt := 11) (q := 8) F dX8_sell_5 rfl rfl (fun c1 => ?_) (fun c1 => ?_)
  · skip
    obtain ⟨p, hp, hop⟩ := pl_of hM hM8 c1
    have htn : tn o = p := by rw [hop, tn_nI (by omega)]
    refine v_aload_n F 0 dX8_sell_11 rfl rfl rfl ?_
    refine v_iload_n F 1 dX8_sell_12 rfl rfl rfl ?_
    refine v_int F (hop) ?_
    refine m_calli F G (cm_X8_worthOf G σ p hw hp) ok_X8_worthOf q1655 is_X8_worthOf rfl rfl dX8_sell_13 rfl rfl ?_
    intro t2 hb2
    refine v_istore_n (ls' := [(2, .int (worV (ab σ) p)), (0, .ref (ad 0)), (1, .int o)]) F dX8_sell_16 rfl rfl (by decide) rfl ?_
    refine v_aload_n F 1 dX8_sell_17 rfl rfl rfl ?_
    refine v_aload_n F 1 dX8_sell_18 rfl rfl rfl ?_
    refine m_get F G 9 (w := .int (t2 0 9)) (by decide) q1262 rfl dX8_sell_19 rfl ?_
    refine v_int F (y := σ 0 9) (ab_eq hb2 0 9 rfl) ?_
    refine v_iload_n F 0 dX8_sell_22 rfl rfl rfl ?_
    refine v_iadd F dX8_sell_23 rfl ?_
    refine v_iconst (x := 0) F dX8_sell_24 rfl (by decide) ?_
    refine v_ldcw F q1659 dX8_sell_25 rfl ?_
    refine s_calli F G.1 (cm_X8_within G t2 ((σ 0 9) + (worV (ab σ) p)) 0 999999999 ) ok_X8_within q1607 q1608 rfl rfl dX8_sell_28 rfl rfl ?_
    intro u0 hu0; subst u0
    refine m_put9 F G q1262 dX8_sell_31 rfl ?_
    refine v_iload_n F 0 dX8_sell_34 rfl rfl rfl ?_
    exact v_reti F dX8_sell_35 rfl (by unfold selR; rw [if_pos (show (0 ≤ o ∧ o ≤ ab σ 0 13 - 1) from c1), htn]) (by unfold selS; rw [if_pos (show (0 ≤ o ∧ o ≤ ab σ 0 13 - 1) from c1), htn, ab_u rfl, hb2]; rfl)
  · skip
    refine v_bipush (x := (-2)) F dX8_sell_8 rfl (by decide) ?_
    exact v_reti F dX8_sell_10 rfl (by unfold selR; rw [if_neg (show ¬ (0 ≤ o ∧ o ≤ ab σ 0 13 - 1) from c1)]) (by unfold selS; rw [if_neg (show ¬ (0 ≤ o ∧ o ≤ ab σ 0 13 - 1) from c1)])
theorem ok_X8_year : vv_oc yX8_year 1 0 (ws_ yX8_year cX8_year 1 (some .int)) := vv_ok.oc (rt := (some .int)) ⟨q1663, q133, by decide +kernel, by decide +kernel⟩
theorem is_X8_year : Cond.instanceMethod yX8_year ∈ lw_all ∧ Cond.selects RX8 yX8_year yX8_year ∈ lw_all := ⟨q1661, q1662⟩
set_option maxHeartbeats 4000000 in
theorem cm_X8_year {l : Launch} {Kf : State → Prop} {D : va_G} {ad : Nat → Nat} {cI cZ : ClassId} {A : Nat → Prop} (G : mG A Kf D cI cZ)  (σ : mS)  (hw : Wf (ab σ)) : vv_Ct l yX8_year (ws_ yX8_year cX8_year 1 (some .int)) (rm 45 998) Kf (mWd D ad cI cZ A) A [.ref (ad 0)] σ (vv_i (yeaR (ab σ)) (fun u => ab u = yeaS (ab σ))) := by
  refine vv_of (by decide +kernel) (Nat.le_of_ble_eq_true rfl) ?_
  intro v (F : vv_F v l cX8_year 1 RX8 "year" (some .int) [] (rm 45 998) Kf (mWd D ad cI cZ A) A _)
  show v σ 0 0 0 [(0, .ref (ad 0))] []
  have hM : σ 0 13 = nI (tn (σ 0 13)) := hw.1.1.1
  have hM8 : tn (σ 0 13) ≤ 8 := hw.1.1.2
  refine v_aload_n F 0 dX8_year_0 rfl rfl rfl ?_
  refine m_get F G 7 (w := .int (σ 0 7)) (by decide) q1260 rfl dX8_year_1 rfl ?_
  refine v_bipush (x := 99) F dX8_year_4 rfl (by decide) ?_
  refine v_icmp_ne (tgt := 12) (q := 9) F dX8_year_6 rfl rfl (fun c1 => ?_) (fun c1 => ?_)
  · skip
    refine v_aload_n F 0 dX8_year_12 rfl rfl rfl ?_
    refine m_calln F G (cm_X8_lives G σ hw) ok_X8_lives q1664 is_X8_lives rfl rfl dX8_year_13 rfl rfl ?_
    intro t2 hv2
    have y13 : t2 0 13 = σ 0 13 := by rw [← ab_rd (σ := t2) 0 13 rfl, hv2]; exact (livS_r (ab σ)).M
    refine v_aload_n F 0 dX8_year_16 rfl rfl rfl ?_
    refine m_calli F G (cm_X8_all G t2 (by rw [y13]; exact hM) (by rw [y13]; exact hM8)) ok_X8_all q1668 is_X8_all rfl rfl dX8_year_17 rfl rfl ?_
    intro u0 hu0; subst u0
    exact v_reti F dX8_year_20 rfl (by unfold yeaR; rw [if_neg (show ¬ ab σ 0 7 = 99 from c1), hv2]) (by unfold yeaS; rw [if_neg (show ¬ ab σ 0 7 = 99 from c1), hv2])
  · skip
    refine v_bipush (x := (-3)) F dX8_year_9 rfl (by decide) ?_
    exact v_reti F dX8_year_11 rfl (by unfold yeaR; rw [if_pos (show ab σ 0 7 = 99 from c1)]) (by unfold yeaS; rw [if_pos (show ab σ 0 7 = 99 from c1)])
theorem ok_X8_tellsOf : vv_oc yX8_tellsOf 4 1 (ws_ yX8_tellsOf cX8_tellsOf 4 (some .int)) := vv_ok.oc (rt := (some .int)) ⟨q1686, q133, by decide +kernel, by decide +kernel⟩
theorem is_X8_tellsOf : Cond.instanceMethod yX8_tellsOf ∈ lw_all ∧ Cond.selects RX8 yX8_tellsOf yX8_tellsOf ∈ lw_all := ⟨q1685, qs106⟩
set_option maxHeartbeats 4000000 in
theorem cm_X8_tellsOf {l : Launch} {Kf : State → Prop} {D : va_G} {ad : Nat → Nat} {cI cZ : ClassId} {A : Nat → Prop} (G : mG A Kf D cI cZ)  (σ : mS) (k : Nat) (hM : σ 0 13 = nI (tn (σ 0 13))) (hM8 : tn (σ 0 13) ≤ 8) (hk : k < 4 ∨ ((10 ≤ k ∧ k ≤ 29) ∧ k % 10 < tn (σ 0 13))) : vv_Ct l yX8_tellsOf (ws_ yX8_tellsOf cX8_tellsOf 4 (some .int)) (rm 3 68) Kf (mWd D ad cI cZ A) A [.ref (ad 0), .int (nI k)] σ (vv_i (telV (ab σ) k) (fun u => u = σ)) := by
  refine vv_of (by decide +kernel) (Nat.le_of_ble_eq_true rfl) ?_
  intro v (F : vv_F v l cX8_tellsOf 4 RX8 "tellsOf" (some .int) [] (rm 3 68) Kf (mWd D ad cI cZ A) A _)
  show v σ 0 0 0 [(0, .ref (ad 0)), (1, .int (nI k))] []
  refine v_iload_n F 1 dX8_tellsOf_0 rfl rfl rfl ?_
  refine v_iconst (x := 4) F dX8_tellsOf_1 rfl (by decide) ?_
  refine v_icmp_geN (a := k) (b := 4) (tgt := 81) (q := 5) F dX8_tellsOf_2 rfl rfl (by omega) (by omega) (fun c1 => ?_) (fun c1 => ?_)
  · skip
    refine v_iload_n F 1 dX8_tellsOf_81 rfl rfl rfl ?_
    refine v_bipush (x := 10) F dX8_tellsOf_82 rfl (by decide) ?_
    refine v_iremN (a := k) (b := 10) F dX8_tellsOf_84 rfl (by omega) (by decide) (by decide) ?_
    refine v_istore_n (ls' := [(2, .int (nI (k % 10))), (0, .ref (ad 0)), (1, .int (nI k))]) F dX8_tellsOf_85 rfl rfl (by decide) rfl ?_
    refine v_iload_n F 2 dX8_tellsOf_86 rfl rfl rfl ?_
    refine v_bipush (x := 20) F dX8_tellsOf_87 rfl (by decide) ?_
    refine v_icmp_geN (a := k) (b := 20) (tgt := 105) (q := 92) F dX8_tellsOf_89 rfl rfl (by omega) (by omega) (fun c2 => ?_) (fun c2 => ?_)
    · skip
      refine v_aload_n F 1 dX8_tellsOf_105 rfl rfl rfl ?_
      refine v_iload_n F 0 dX8_tellsOf_106 rfl rfl rfl ?_
      refine v_aload_n F 1 dX8_tellsOf_107 rfl rfl rfl ?_
      refine m_get F G 12 (w := .ref (ad 12)) (by decide) q1265 rfl dX8_tellsOf_108 rfl ?_
      refine v_iconst (x := 3) F dX8_tellsOf_111 rfl (by decide) ?_
      refine v_iload_n F 0 dX8_tellsOf_112 rfl rfl rfl ?_
      refine v_imulN (a := 3) (b := k % 10) F dX8_tellsOf_113 rfl ?_
      refine v_iconst (x := 2) F dX8_tellsOf_114 rfl (by decide) ?_
      refine v_iaddN (a := 3 * (k % 10)) (b := 2) F dX8_tellsOf_115 rfl ?_
      refine m_ald12 (t := (3 * (k % 10)) + 2) F G (by omega) dX8_tellsOf_116 rfl ?_
      refine m_calli F G (cm_X8_flowersOf G σ (k % 10) (σ 12 ((3 * (k % 10)) + 2)) (by omega)) ok_X8_flowersOf q1614 is_X8_flowersOf rfl rfl dX8_tellsOf_117 rfl rfl ?_
      intro u0 hu0; subst u0
      exact v_reti F dX8_tellsOf_120 rfl (by unfold telV; rw [if_neg (show ¬ k < 4 by omega)]; rw [if_neg (show ¬ k < 20 by omega)]; rfl) (rfl)
    · skip
      refine v_aload_n F 1 dX8_tellsOf_92 rfl rfl rfl ?_
      refine m_get F G 12 (w := .ref (ad 12)) (by decide) q1265 rfl dX8_tellsOf_93 rfl ?_
      refine v_iconst (x := 3) F dX8_tellsOf_96 rfl (by decide) ?_
      refine v_iload_n F 0 dX8_tellsOf_97 rfl rfl rfl ?_
      refine v_imulN (a := 3) (b := k % 10) F dX8_tellsOf_98 rfl ?_
      refine v_iconst (x := 2) F dX8_tellsOf_99 rfl (by decide) ?_
      refine v_iaddN (a := 3 * (k % 10)) (b := 2) F dX8_tellsOf_100 rfl ?_
      refine m_ald12 (t := (3 * (k % 10)) + 2) F G (by omega) dX8_tellsOf_101 rfl ?_
      refine v_goto (tgt := 120) F dX8_tellsOf_102 rfl ?_
      exact v_reti F dX8_tellsOf_120 rfl (by unfold telV; rw [if_neg (show ¬ k < 4 by omega)]; rw [if_pos (show k < 20 by omega)]; rfl) (rfl)
  · skip
    refine v_iconst (x := 0) F dX8_tellsOf_5 rfl (by decide) ?_
    refine v_istore_n (ls' := [(2, .int 0), (0, .ref (ad 0)), (1, .int (nI k))]) F dX8_tellsOf_6 rfl rfl (by decide) rfl ?_
    refine v_iconst (x := 0) F dX8_tellsOf_7 rfl (by decide) ?_
    refine v_istore_n (ls' := [(3, .int 0), (2, .int 0), (0, .ref (ad 0)), (1, .int (nI k))]) F dX8_tellsOf_8 rfl rfl (by decide) rfl ?_
    have L9 : ∀ (nf : Nat) (p : Nat) (hpM : p ≤ tn (σ 0 13)) (hnf : tn (σ 0 13) - p < nf), v σ 0 0 9 [(0, .ref (ad 0)), (1, .int (nI k)), (2, .int (lefN (ab σ) p)), (3, .int (nI p))] [] := by
      intro nf
      induction nf with
      | zero => intro p hpM hnf; exact absurd hnf (Nat.not_lt_zero _)
      | succ nf ih9 =>
        intro p hpM hnf
        refine v_iload_n F 3 dX8_tellsOf_9 rfl rfl rfl ?_
        refine v_aload_n F 0 dX8_tellsOf_10 rfl rfl rfl ?_
        refine m_get F G 13 (w := .int (σ 0 13)) (by decide) q1266 rfl dX8_tellsOf_11 rfl ?_
        refine v_int F (hM) ?_
        refine v_icmp_geN (a := p) (b := tn (σ 0 13)) (tgt := 44) (q := 17) F dX8_tellsOf_14 rfl rfl (by omega) (by omega) (fun c3 => ?_) (fun c3 => ?_)
        · skip
          refine v_iload_n F 1 dX8_tellsOf_44 rfl rfl rfl ?_
          refine v_if_neN (a := k) (tgt := 55) (q := 48) F dX8_tellsOf_45 rfl rfl (by omega) (fun c4 => ?_) (fun c4 => ?_)
          · skip
            refine v_iload_n F 1 dX8_tellsOf_55 rfl rfl rfl ?_
            refine v_iconst (x := 1) F dX8_tellsOf_56 rfl (by decide) ?_
            refine v_icmp_neN (a := k) (b := 1) (tgt := 67) (q := 60) F dX8_tellsOf_57 rfl rfl (by omega) (by omega) (fun c5 => ?_) (fun c5 => ?_)
            · skip
              refine v_iload_n F 1 dX8_tellsOf_67 rfl rfl rfl ?_
              refine v_iconst (x := 2) F dX8_tellsOf_68 rfl (by decide) ?_
              refine v_icmp_neN (a := k) (b := 2) (tgt := 76) (q := 72) F dX8_tellsOf_69 rfl rfl (by omega) (by omega) (fun c6 => ?_) (fun c6 => ?_)
              · skip
                refine v_aload_n F 0 dX8_tellsOf_76 rfl rfl rfl ?_
                refine m_calli F G (cm_X8_heir G σ hM hM8) ok_X8_heir q1691 is_X8_heir rfl rfl dX8_tellsOf_77 rfl rfl ?_
                intro u0 hu0; subst u0
                exact v_reti F dX8_tellsOf_80 rfl (by unfold telV; rw [if_pos (show k < 4 by omega)]; rw [if_neg (by omega), if_neg (by omega), if_neg (by omega)]; rfl) (rfl)
              · skip
                refine v_iload_n F 2 dX8_tellsOf_72 rfl rfl rfl ?_
                refine v_goto (tgt := 80) F dX8_tellsOf_73 rfl ?_
                exact v_reti F dX8_tellsOf_80 rfl (by unfold telV; rw [if_pos (show k < 4 by omega)]; rw [if_neg (by omega), if_neg (by omega), if_pos (by omega)]; show _ = lefN (ab σ) (tn (σ 0 13)); rw [all_end c3 hpM]) (rfl)
            · skip
              refine v_aload_n F 0 dX8_tellsOf_60 rfl rfl rfl ?_
              refine m_calli F G (cm_X8_bloom G σ hM hM8) ok_X8_bloom q1687 is_X8_bloom rfl rfl dX8_tellsOf_61 rfl rfl ?_
              intro u0 hu0; subst u0
              refine v_goto (tgt := 80) F dX8_tellsOf_64 rfl ?_
              exact v_reti F dX8_tellsOf_80 rfl (by unfold telV; rw [if_pos (show k < 4 by omega)]; rw [if_neg (by omega), if_pos (by omega)]) (rfl)
          · skip
            refine v_aload_n F 0 dX8_tellsOf_48 rfl rfl rfl ?_
            refine m_calli F G (cm_X8_all G σ hM hM8) ok_X8_all q1668 is_X8_all rfl rfl dX8_tellsOf_49 rfl rfl ?_
            intro u0 hu0; subst u0
            refine v_goto (tgt := 80) F dX8_tellsOf_52 rfl ?_
            exact v_reti F dX8_tellsOf_80 rfl (by unfold telV; rw [if_pos (show k < 4 by omega)]; rw [if_pos (by omega)]) (rfl)
        · skip
          refine v_iload_n F 2 dX8_tellsOf_17 rfl rfl rfl ?_
          refine v_aload_n F 0 dX8_tellsOf_18 rfl rfl rfl ?_
          refine m_get F G 12 (w := .ref (ad 12)) (by decide) q1265 rfl dX8_tellsOf_19 rfl ?_
          refine v_iconst (x := 3) F dX8_tellsOf_22 rfl (by decide) ?_
          refine v_iload_n F 3 dX8_tellsOf_23 rfl rfl rfl ?_
          refine v_imulN (a := 3) (b := p) F dX8_tellsOf_24 rfl ?_
          refine v_iconst (x := 2) F dX8_tellsOf_25 rfl (by decide) ?_
          refine v_iaddN (a := 3 * p) (b := 2) F dX8_tellsOf_26 rfl ?_
          refine m_ald12 (t := (3 * p) + 2) F G (by omega) dX8_tellsOf_27 rfl ?_
          refine v_if_le (tgt := 35) (q := 31) F dX8_tellsOf_28 rfl rfl (fun c7 => ?_) (fun c7 => ?_)
          · skip
            refine v_iconst (x := 0) F dX8_tellsOf_35 rfl (by decide) ?_
            refine v_iadd F dX8_tellsOf_36 rfl ?_
            refine v_int F (y := lefN (ab σ) (p + 1)) (by show _ = lefN (ab σ) p + (if σ 12 (3 * p + 2) ≤ 0 then 0 else 1); rw [if_pos c7]) ?_
            refine v_istore_n (ls' := [(2, .int (lefN (ab σ) (p + 1))), (0, .ref (ad 0)), (1, .int (nI k)), (3, .int (nI p))]) F dX8_tellsOf_37 rfl rfl (by decide) rfl ?_
            refine v_iincN (ls' := [(3, .int (nI (p + 1))), (2, .int (lefN (ab σ) (p + 1))), (0, .ref (ad 0)), (1, .int (nI k))]) F 3 dX8_tellsOf_38 rfl rfl (by decide) rfl ?_
            refine v_goto (tgt := 9) F dX8_tellsOf_41 rfl ?_
            refine v_sub (ls' := [(0, .ref (ad 0)), (1, .int (nI k)), (2, .int (lefN (ab σ) (p + 1))), (3, .int (nI (p + 1)))]) F [2, 3, 1, 0] rfl ?_
            exact ih9 (p + 1) (by omega) (by omega)
          · skip
            refine v_iconst (x := 1) F dX8_tellsOf_31 rfl (by decide) ?_
            refine v_goto (tgt := 36) F dX8_tellsOf_32 rfl ?_
            refine v_iadd F dX8_tellsOf_36 rfl ?_
            refine v_int F (y := lefN (ab σ) (p + 1)) (by show _ = lefN (ab σ) p + (if σ 12 (3 * p + 2) ≤ 0 then 0 else 1); rw [if_neg c7]) ?_
            refine v_istore_n (ls' := [(2, .int (lefN (ab σ) (p + 1))), (0, .ref (ad 0)), (1, .int (nI k)), (3, .int (nI p))]) F dX8_tellsOf_37 rfl rfl (by decide) rfl ?_
            refine v_iincN (ls' := [(3, .int (nI (p + 1))), (2, .int (lefN (ab σ) (p + 1))), (0, .ref (ad 0)), (1, .int (nI k))]) F 3 dX8_tellsOf_38 rfl rfl (by decide) rfl ?_
            refine v_goto (tgt := 9) F dX8_tellsOf_41 rfl ?_
            refine v_sub (ls' := [(0, .ref (ad 0)), (1, .int (nI k)), (2, .int (lefN (ab σ) (p + 1))), (3, .int (nI (p + 1)))]) F [2, 3, 1, 0] rfl ?_
            exact ih9 (p + 1) (by omega) (by omega)
    refine v_sub (ls' := [(0, .ref (ad 0)), (1, .int (nI k)), (2, .int 0), (3, .int 0)]) F [2, 3, 1, 0] rfl ?_
    exact L9 _ 0 (Nat.zero_le _) (Nat.lt_succ_self _)
