set_option maxRecDepth 100000
theorem ok_X8_in : vv_oc yX8_in 6 3 (ws_ yX8_in cX8_in 6 (some .boolean)) := vv_ok.oc (rt := (some .boolean)) ⟨q1388, q133, by decide +kernel, by decide +kernel⟩
set_option maxHeartbeats 4000000 in
theorem cm_X8_in {l : Launch} {Kf : State → Prop} {D : va_G} {ad : Nat → Nat} {cI cZ : ClassId} {A : Nat → Prop} (G : mG A Kf D cI cZ)  (σ : mS) (x : Int32) (lo : Int32) (hi : Int32)  : vv_Ct l yX8_in (ws_ yX8_in cX8_in 6 (some .boolean)) (rm 0 0) Kf (mWd D ad cI cZ A) A [.long (Int32.toInt64 x), .long (Int32.toInt64 lo), .long (Int32.toInt64 hi)] σ (vv_i (bI (lo ≤ x ∧ x ≤ hi)) (fun u => u = σ)) := by
  refine vv_of (by decide +kernel) (Nat.le_of_ble_eq_true rfl) ?_
  intro v (F : vv_F v l cX8_in 6 RX8 "in" (some .boolean) [] (rm 0 0) Kf (mWd D ad cI cZ A) A _)
  show v σ 0 0 0 [(0, .long (Int32.toInt64 x)), (2, .long (Int32.toInt64 lo)), (4, .long (Int32.toInt64 hi))] []
  refine v_lload_n F 0 dX8_in_0 rfl rfl rfl ?_
  refine v_lload_n F 1 dX8_in_1 rfl rfl rfl ?_
  refine v_lcmp F dX8_in_2 rfl ?_
  refine v_if_ltLI (tgt := 17) (q := 6) F dX8_in_3 rfl rfl (fun c1 => ?_) (fun c1 => ?_)
  · skip
    refine v_iconst (x := 0) F dX8_in_17 rfl (by decide) ?_
    exact v_retz F dX8_in_18 rfl (by first | rfl | grind [bI]) (rfl)
  · skip
    refine v_lload_n F 0 dX8_in_6 rfl rfl rfl ?_
    refine v_lload F 2 dX8_in_7 rfl rfl ?_
    refine v_lcmp F dX8_in_9 rfl ?_
    refine v_if_gtLI (tgt := 17) (q := 13) F dX8_in_10 rfl rfl (fun c2 => ?_) (fun c2 => ?_)
    · skip
      refine v_iconst (x := 0) F dX8_in_17 rfl (by decide) ?_
      exact v_retz F dX8_in_18 rfl (by first | rfl | grind [bI]) (rfl)
    · skip
      refine v_iconst (x := 1) F dX8_in_13 rfl (by decide) ?_
      refine v_goto (tgt := 18) F dX8_in_14 rfl ?_
      exact v_retz F dX8_in_18 rfl (by first | rfl | grind [bI]) (rfl)
theorem ok_X8_within : vv_oc yX8_within 3 3 (ws_ yX8_within cX8_within 3 (some .int)) := vv_ok.oc (rt := (some .int)) ⟨q1609, q133, by decide +kernel, by decide +kernel⟩
set_option maxHeartbeats 4000000 in
theorem cm_X8_within {l : Launch} {Kf : State → Prop} {D : va_G} {ad : Nat → Nat} {cI cZ : ClassId} {A : Nat → Prop} (G : mG A Kf D cI cZ)  (σ : mS) (x : Int32) (lo : Int32) (hi : Int32)  : vv_Ct l yX8_within (ws_ yX8_within cX8_within 3 (some .int)) (rm 0 0) Kf (mWd D ad cI cZ A) A [.int x, .int lo, .int hi] σ (vv_i (cl x lo hi) (fun u => u = σ)) := by
  refine vv_of (by decide +kernel) (Nat.le_of_ble_eq_true rfl) ?_
  intro v (F : vv_F v l cX8_within 3 RX8 "within" (some .int) [] (rm 0 0) Kf (mWd D ad cI cZ A) A _)
  show v σ 0 0 0 [(0, .int x), (1, .int lo), (2, .int hi)] []
  refine v_iload_n F 0 dX8_within_0 rfl rfl rfl ?_
  refine v_iload_n F 1 dX8_within_1 rfl rfl rfl ?_
  refine v_icmp_ge (tgt := 9) (q := 5) F dX8_within_2 rfl rfl (fun c1 => ?_) (fun c1 => ?_)
  · skip
    refine v_iload_n F 0 dX8_within_9 rfl rfl rfl ?_
    refine v_iload_n F 2 dX8_within_10 rfl rfl rfl ?_
    refine v_icmp_le (tgt := 18) (q := 14) F dX8_within_11 rfl rfl (fun c2 => ?_) (fun c2 => ?_)
    · skip
      refine v_iload_n F 0 dX8_within_18 rfl rfl rfl ?_
      exact v_reti F dX8_within_19 rfl (by grind [cl]) (rfl)
    · skip
      refine v_iload_n F 2 dX8_within_14 rfl rfl rfl ?_
      refine v_goto (tgt := 19) F dX8_within_15 rfl ?_
      exact v_reti F dX8_within_19 rfl (by grind [cl]) (rfl)
  · skip
    refine v_iload_n F 1 dX8_within_5 rfl rfl rfl ?_
    refine v_goto (tgt := 19) F dX8_within_6 rfl ?_
    exact v_reti F dX8_within_19 rfl (by grind [cl]) (rfl)
theorem ok_X8_isGarden : vv_oc yX8_isGarden 1 1 (ws_ yX8_isGarden cX8_isGarden 1 (some .boolean)) := vv_ok.oc (rt := (some .boolean)) ⟨q1395, q133, by decide +kernel, by decide +kernel⟩
set_option maxHeartbeats 4000000 in
theorem cm_X8_isGarden {l : Launch} {Kf : State → Prop} {D : va_G} {ad : Nat → Nat} {cI cZ : ClassId} {A : Nat → Prop} (G : mG A Kf D cI cZ)  (σ : mS) (g : Int32)  : vv_Ct l yX8_isGarden (ws_ yX8_isGarden cX8_isGarden 1 (some .boolean)) (rm 1 25) Kf (mWd D ad cI cZ A) A [.int g] σ (vv_i (bI (0 ≤ g ∧ g ≤ 7)) (fun u => u = σ)) := by
  refine vv_of (by decide +kernel) (Nat.le_of_ble_eq_true rfl) ?_
  intro v (F : vv_F v l cX8_isGarden 1 RX8 "isGarden" (some .boolean) [] (rm 1 25) Kf (mWd D ad cI cZ A) A _)
  show v σ 0 0 0 [(0, .int g)] []
  refine v_iload_n F 0 dX8_isGarden_0 rfl rfl rfl ?_
  refine v_i2l F dX8_isGarden_1 rfl ?_
  refine v_lconst (x := (0 : Int32).toInt64) F dX8_isGarden_2 rfl (by decide) ?_
  refine v_ldc2 F q1396 dX8_isGarden_3 rfl ?_
  refine v_lng (y := (7 : Int32).toInt64) F (by decide) ?_
  refine s_calli F G.1 (cm_X8_in G σ g 0 7 ) ok_X8_in q1386 q1387 rfl rfl dX8_isGarden_6 rfl rfl ?_
  intro u0 hu0; subst u0
  exact v_retz F dX8_isGarden_9 rfl (by first | rfl | grind [bI]) (rfl)
theorem ok_X8_isSheet : vv_oc yX8_isSheet 1 1 (ws_ yX8_isSheet cX8_isSheet 1 (some .boolean)) := vv_ok.oc (rt := (some .boolean)) ⟨q1751, q133, by decide +kernel, by decide +kernel⟩
set_option maxHeartbeats 4000000 in
theorem cm_X8_isSheet {l : Launch} {Kf : State → Prop} {D : va_G} {ad : Nat → Nat} {cI cZ : ClassId} {A : Nat → Prop} (G : mG A Kf D cI cZ)  (σ : mS) (g : Int32)  : vv_Ct l yX8_isSheet (ws_ yX8_isSheet cX8_isSheet 1 (some .boolean)) (rm 1 25) Kf (mWd D ad cI cZ A) A [.int g] σ (vv_i (bI (0 ≤ g ∧ g ≤ 3)) (fun u => u = σ)) := by
  refine vv_of (by decide +kernel) (Nat.le_of_ble_eq_true rfl) ?_
  intro v (F : vv_F v l cX8_isSheet 1 RX8 "isSheet" (some .boolean) [] (rm 1 25) Kf (mWd D ad cI cZ A) A _)
  show v σ 0 0 0 [(0, .int g)] []
  refine v_iload_n F 0 dX8_isSheet_0 rfl rfl rfl ?_
  refine v_i2l F dX8_isSheet_1 rfl ?_
  refine v_lconst (x := (0 : Int32).toInt64) F dX8_isSheet_2 rfl (by decide) ?_
  refine v_ldc2 F q1677 dX8_isSheet_3 rfl ?_
  refine v_lng (y := (3 : Int32).toInt64) F (by decide) ?_
  refine s_calli F G.1 (cm_X8_in G σ g 0 3 ) ok_X8_in q1386 q1387 rfl rfl dX8_isSheet_6 rfl rfl ?_
  intro u0 hu0; subst u0
  exact v_retz F dX8_isSheet_9 rfl (by first | rfl | grind [bI]) (rfl)
theorem ok_X8_isPlanting : vv_oc yX8_isPlanting 2 1 (ws_ yX8_isPlanting cX8_isPlanting 2 (some .boolean)) := vv_ok.oc (rt := (some .boolean)) ⟨q1400, q133, by decide +kernel, by decide +kernel⟩
theorem is_X8_isPlanting : Cond.instanceMethod yX8_isPlanting ∈ lw_all ∧ Cond.selects RX8 yX8_isPlanting yX8_isPlanting ∈ lw_all := ⟨q1399, qs49⟩
set_option maxHeartbeats 4000000 in
theorem cm_X8_isPlanting {l : Launch} {Kf : State → Prop} {D : va_G} {ad : Nat → Nat} {cI cZ : ClassId} {A : Nat → Prop} (G : mG A Kf D cI cZ)  (σ : mS) (p : Int32)  : vv_Ct l yX8_isPlanting (ws_ yX8_isPlanting cX8_isPlanting 2 (some .boolean)) (rm 1 25) Kf (mWd D ad cI cZ A) A [.ref (ad 0), .int p] σ (vv_i (bI (0 ≤ p ∧ p ≤ σ 0 13 - 1)) (fun u => u = σ)) := by
  refine vv_of (by decide +kernel) (Nat.le_of_ble_eq_true rfl) ?_
  intro v (F : vv_F v l cX8_isPlanting 2 RX8 "isPlanting" (some .boolean) [] (rm 1 25) Kf (mWd D ad cI cZ A) A _)
  show v σ 0 0 0 [(0, .ref (ad 0)), (1, .int p)] []
  refine v_iload_n F 1 dX8_isPlanting_0 rfl rfl rfl ?_
  refine v_i2l F dX8_isPlanting_1 rfl ?_
  refine v_lconst (x := (0 : Int32).toInt64) F dX8_isPlanting_2 rfl (by decide) ?_
  refine v_aload_n F 0 dX8_isPlanting_3 rfl rfl rfl ?_
  refine m_get F G 13 (w := .int (σ 0 13)) (by decide) q1266 rfl dX8_isPlanting_4 rfl ?_
  refine v_iconst (x := 1) F dX8_isPlanting_7 rfl (by decide) ?_
  refine v_isub F dX8_isPlanting_8 rfl ?_
  refine v_i2l F dX8_isPlanting_9 rfl ?_
  refine s_calli F G.1 (cm_X8_in G σ p 0 ((σ 0 13) - 1) ) ok_X8_in q1386 q1387 rfl rfl dX8_isPlanting_10 rfl rfl ?_
  intro u0 hu0; subst u0
  exact v_retz F dX8_isPlanting_13 rfl (by first | rfl | grind [bI]) (rfl)
theorem ok_X8_isOf : vv_oc yX8_isOf 3 2 (ws_ yX8_isOf cX8_isOf 3 (some .boolean)) := vv_ok.oc (rt := (some .boolean)) ⟨q1392, q133, by decide +kernel, by decide +kernel⟩
theorem is_X8_isOf : Cond.instanceMethod yX8_isOf ∈ lw_all ∧ Cond.selects RX8 yX8_isOf yX8_isOf ∈ lw_all := ⟨q1391, qs48⟩
set_option maxHeartbeats 4000000 in
theorem cm_X8_isOf {l : Launch} {Kf : State → Prop} {D : va_G} {ad : Nat → Nat} {cI cZ : ClassId} {A : Nat → Prop} (G : mG A Kf D cI cZ)  (σ : mS) (w : Int32) (o : Int32)  : vv_Ct l yX8_isOf (ws_ yX8_isOf cX8_isOf 3 (some .boolean)) (rm 2 46) Kf (mWd D ad cI cZ A) A [.ref (ad 0), .int w, .int o] σ (vv_i (bI (w < 2 ∨ (if w = 2 then (0 ≤ o ∧ o ≤ 7) else (0 ≤ o ∧ o ≤ σ 0 13 - 1)))) (fun u => u = σ)) := by
  refine vv_of (by decide +kernel) (Nat.le_of_ble_eq_true rfl) ?_
  intro v (F : vv_F v l cX8_isOf 3 RX8 "isOf" (some .boolean) [] (rm 2 46) Kf (mWd D ad cI cZ A) A _)
  show v σ 0 0 0 [(0, .ref (ad 0)), (1, .int w), (2, .int o)] []
  refine v_iload_n F 1 dX8_isOf_0 rfl rfl rfl ?_
  refine v_iconst (x := 2) F dX8_isOf_1 rfl (by decide) ?_
  refine v_icmp_lt (tgt := 28) (q := 5) F dX8_isOf_2 rfl rfl (fun c1 => ?_) (fun c1 => ?_)
  · skip
    refine v_iconst (x := 1) F dX8_isOf_28 rfl (by decide) ?_
    refine v_goto (tgt := 33) F dX8_isOf_29 rfl ?_
    exact v_retz F dX8_isOf_33 rfl (by grind [bI]) (rfl)
  · skip
    refine v_iload_n F 1 dX8_isOf_5 rfl rfl rfl ?_
    refine v_iconst (x := 2) F dX8_isOf_6 rfl (by decide) ?_
    refine v_icmp_ne (tgt := 20) (q := 10) F dX8_isOf_7 rfl rfl (fun c2 => ?_) (fun c2 => ?_)
    · skip
      refine v_aload_n F 0 dX8_isOf_20 rfl rfl rfl ?_
      refine v_iload_n F 2 dX8_isOf_21 rfl rfl rfl ?_
      refine m_calli F G (cm_X8_isPlanting G σ o ) ok_X8_isPlanting q1397 is_X8_isPlanting rfl rfl dX8_isOf_22 rfl rfl ?_
      intro u0 hu0; subst u0
      refine v_if_eqB (p := (0 ≤ o ∧ o ≤ σ 0 13 - 1)) (tgt := 32) (q := 28) F dX8_isOf_25 rfl rfl (fun c3 => ?_) (fun c3 => ?_)
      · skip
        refine v_iconst (x := 0) F dX8_isOf_32 rfl (by decide) ?_
        exact v_retz F dX8_isOf_33 rfl (by grind [bI]) (rfl)
      · skip
        refine v_iconst (x := 1) F dX8_isOf_28 rfl (by decide) ?_
        refine v_goto (tgt := 33) F dX8_isOf_29 rfl ?_
        exact v_retz F dX8_isOf_33 rfl (by grind [bI]) (rfl)
    · skip
      refine v_iload_n F 2 dX8_isOf_10 rfl rfl rfl ?_
      refine s_calli F G.1 (cm_X8_isGarden G σ o ) ok_X8_isGarden q1393 q1394 rfl rfl dX8_isOf_11 rfl rfl ?_
      intro u0 hu0; subst u0
      refine v_if_eqB (p := (0 ≤ o ∧ o ≤ 7)) (tgt := 32) (q := 17) F dX8_isOf_14 rfl rfl (fun c4 => ?_) (fun c4 => ?_)
      · skip
        refine v_iconst (x := 0) F dX8_isOf_32 rfl (by decide) ?_
        exact v_retz F dX8_isOf_33 rfl (by grind [bI]) (rfl)
      · skip
        refine v_goto (tgt := 28) F dX8_isOf_17 rfl ?_
        refine v_iconst (x := 1) F dX8_isOf_28 rfl (by decide) ?_
        refine v_goto (tgt := 33) F dX8_isOf_29 rfl ?_
        exact v_retz F dX8_isOf_33 rfl (by grind [bI]) (rfl)
theorem ok_X8_mostOf : vv_oc yX8_mostOf 1 1 (ws_ yX8_mostOf cX8_mostOf 1 (some .int)) := vv_ok.oc (rt := (some .int)) ⟨q1403, q133, by decide +kernel, by decide +kernel⟩
set_option maxHeartbeats 4000000 in
theorem cm_X8_mostOf {l : Launch} {Kf : State → Prop} {D : va_G} {ad : Nat → Nat} {cI cZ : ClassId} {A : Nat → Prop} (G : mG A Kf D cI cZ)  (σ : mS) (w : Int32)  : vv_Ct l yX8_mostOf (ws_ yX8_mostOf cX8_mostOf 1 (some .int)) (rm 0 0) Kf (mWd D ad cI cZ A) A [.int w] σ (vv_i (mostV w) (fun u => u = σ)) := by
  refine vv_of (by decide +kernel) (Nat.le_of_ble_eq_true rfl) ?_
  intro v (F : vv_F v l cX8_mostOf 1 RX8 "mostOf" (some .int) [] (rm 0 0) Kf (mWd D ad cI cZ A) A _)
  show v σ 0 0 0 [(0, .int w)] []
  refine v_iload_n F 0 dX8_mostOf_0 rfl rfl rfl ?_
  refine v_if_ne (tgt := 9) (q := 4) F dX8_mostOf_1 rfl rfl (fun c1 => ?_) (fun c1 => ?_)
  · skip
    refine v_iload_n F 0 dX8_mostOf_9 rfl rfl rfl ?_
    refine v_iconst (x := 4) F dX8_mostOf_10 rfl (by decide) ?_
    refine v_icmp_ne (tgt := 19) (q := 14) F dX8_mostOf_11 rfl rfl (fun c2 => ?_) (fun c2 => ?_)
    · skip
      refine v_iload_n F 0 dX8_mostOf_19 rfl rfl rfl ?_
      refine v_iconst (x := 5) F dX8_mostOf_20 rfl (by decide) ?_
      refine v_icmp_ne (tgt := 30) (q := 24) F dX8_mostOf_21 rfl rfl (fun c3 => ?_) (fun c3 => ?_)
      · skip
        refine v_bipush (x := 9) F dX8_mostOf_30 rfl (by decide) ?_
        exact v_reti F dX8_mostOf_32 rfl (by grind [mostV]) (rfl)
      · skip
        refine v_sipush (x := 9999) F dX8_mostOf_24 rfl (by decide) ?_
        refine v_goto (tgt := 32) F dX8_mostOf_27 rfl ?_
        exact v_reti F dX8_mostOf_32 rfl (by grind [mostV]) (rfl)
    · skip
      refine v_bipush (x := 7) F dX8_mostOf_14 rfl (by decide) ?_
      refine v_goto (tgt := 32) F dX8_mostOf_16 rfl ?_
      exact v_reti F dX8_mostOf_32 rfl (by grind [mostV]) (rfl)
  · skip
    refine v_bipush (x := 99) F dX8_mostOf_4 rfl (by decide) ?_
    refine v_goto (tgt := 32) F dX8_mostOf_6 rfl ?_
    exact v_reti F dX8_mostOf_32 rfl (by grind [mostV]) (rfl)
