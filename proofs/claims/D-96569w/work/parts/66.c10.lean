set_option maxRecDepth 100000
theorem sel_cl {s w : Int32} (h : 0 ≤ s ∧ s ≤ 999999999) (hw : 0 ≤ w ∧ w ≤ 9999900) : (if (999999999 : Int32) ≤ s + w then 999999999 else s + w) = cl (s + w) 0 999999999 := by
  obtain ⟨a, ha, rfl⟩ := in_of (M := 999999999) (n := 999999999) (by decide) h
  obtain ⟨b, hb, rfl⟩ := in_of (M := 9999900) (n := 9999900) (by decide) hw
  rw [nI_add]
  unfold cl
  rw [if_neg (nI_pos (by omega))]
  by_cases c : a + b ≤ 999999999
  · by_cases e : a + b = 999999999
    · rw [e]; decide
    · rw [if_neg (show ¬ (999999999 : Int32) ≤ nI (a + b) from nI_ge (a := a + b) (b := 999999999) (by omega) (by decide)), if_neg (show ¬ (999999999 : Int32) < nI (a + b) from nI_nlt (a := 999999999) (b := a + b) (by omega) (by decide))]
  · rw [if_pos (show (999999999 : Int32) ≤ nI (a + b) from nI_le (a := 999999999) (b := a + b) (by omega) (by omega)), if_pos (show (999999999 : Int32) < nI (a + b) from nI_lt (a := 999999999) (b := a + b) (by omega) (by omega))]
theorem flo_in (k m : Int32) {x : Int32} : 0 ≤ floF k x m ∧ floF k x m ≤ 99999 := by unfold floF cl; grind
theorem wor_in {α : mS} {p : Nat} : 0 ≤ worV α p ∧ worV α p ≤ 9999900 := by
  obtain ⟨a, ha, e1⟩ := in_of (M := 100) (n := 100) (by decide) (say_in α 1 p)
  obtain ⟨b, hb, e2⟩ := in_of (M := 99999) (n := 99999) (by decide) (flo_in (α 11 p) (α 12 (3 * p)) (x := α 12 (3 * p + 2)))
  have e : worV α p = nI (a * b) := by
    show sayV α 1 p * floF (α 11 p) (α 12 (3 * p + 2)) (α 12 (3 * p)) = _
    rw [e1, e2, pk_mul]
  have hab : a * b ≤ 100 * 99999 := Nat.mul_le_mul ha hb
  rw [e]
  exact ⟨nI_pos' (by omega), nI_le (b := 9999900) (by omega) (by decide)⟩
theorem ok_X0_sell : vv_oc yX0_sell 3 1 (ws_ yX0_sell cX0_sell 3 (some .int)) := vv_ok.oc (rt := (some .int)) ⟨q910, q116, by decide +kernel, by decide +kernel⟩
theorem is_X0_sell : Cond.instanceMethod yX0_sell ∈ lw_all ∧ Cond.selects RX0 yX0_sell yX0_sell ∈ lw_all := ⟨q908, q909⟩
set_option maxHeartbeats 4000000 in
theorem cc_X0_sell {l : Launch} {Kf : State → Prop} {D : va_G} {K : Nat → ClassId} {fv : List Value × (Nat → Nat)} {A : Nat → Prop} (G : cG A fv cIm Kf D K)  (n : mS) (δ : Nat → Nat) (ν : Nat → Option (Mg × Nat)) (o : Int32) (hok : cOk n) (hsd : 0 ≤ n 0 9 ∧ n 0 9 ≤ 999999999) : vv_Ct l yX0_sell (ws_ yX0_sell cX0_sell 3 (some .int)) (rm 164 3607) Kf (cWd D K fv A) A [.ref (δ 0), .int o] (n, δ, ν) (vv_i (selR (cab n) o) (fun u => ∃ t : mS, u = (t, δ, ν) ∧ cab t = selS (cab n) o)) := by
  refine vv_of (by decide +kernel) (Nat.le_of_ble_eq_true rfl) ?_
  intro v (F : vv_F v l cX0_sell 3 RX0 "sell" (some .int) [] (rm 164 3607) Kf (cWd D K fv A) A _)
  show v (n, δ, ν) 0 0 0 [(0, .ref (δ 0)), (1, .int o)] []
  have hM := hok.m
  have h8 := hok.m8
  refine v_aload_n F 0 dX0_sell_0 rfl rfl rfl ?_
  refine v_iload_n F 1 dX0_sell_1 rfl rfl rfl ?_
  refine c_calli F G (cc_X0_isPlant G n δ ν o ) ok_X0_isPlant q250 is_X0_isPlant rfl rfl dX0_sell_2 rfl rfl ?_
  intro u0 hu0; subst u0
  refine v_if_neB (p := (0 ≤ o ∧ o ≤ n 0 13 - 1)) (tgt := 11) (q := 8) F dX0_sell_5 rfl rfl (fun c1 => ?_) (fun c1 => ?_)
  · skip
    obtain ⟨p, hp, hop⟩ := pl_of hM h8 c1
    have htp : tn o = p := by rw [hop, tn_nI (by omega)]
    refine v_aload_n F 0 dX0_sell_11 rfl rfl rfl ?_
    refine v_iload_n F 1 dX0_sell_12 rfl rfl rfl ?_
    refine v_int F (hop) ?_
    refine c_calli F G (cc_X0_worthOf G n δ ν p hok hp) ok_X0_worthOf q911 is_X0_worthOf rfl rfl dX0_sell_13 rfl rfl ?_
    rintro _ ⟨tw, rfl, hbw, hctw⟩
    have oktw : cOk tw := cOk.of (show cOk n from hok) hbw
    refine v_istore_n (ls' := [(2, .int (worV (cab n) p)), (0, .ref (δ 0)), (1, .int o)]) F dX0_sell_16 rfl rfl (by decide) rfl ?_
    refine v_aload_n F 1 dX0_sell_17 rfl rfl rfl ?_
    refine v_ldcw F q915 dX0_sell_18 rfl ?_
    refine v_aload_n F 1 dX0_sell_21 rfl rfl rfl ?_
    refine c_get F G 4 (w := .int (tw 0 9)) (by decide) q803 rfl dX0_sell_22 rfl ?_
    refine v_int F (y := n 0 9) (cab_eq hbw 0 9 rfl) ?_
    refine v_iload_n F 0 dX0_sell_25 rfl rfl rfl ?_
    refine v_iadd F dX0_sell_26 rfl ?_
    refine s_calli F G.1 (cg_J7_min G.1 (tw, δ, ν) 999999999 ((n 0 9) + (worV (cab n) p)) ) ok_J7_min q318 q319 rfl rfl dX0_sell_27 rfl rfl ?_
    intro u0 hu0; subst u0
    refine c_put F G 4 9 (by decide) (by unfold frc; omega) (fun _ => rfl) q803 rfl (by decide +kernel) dX0_sell_30 rfl ?_
    refine v_iload_n F 0 dX0_sell_33 rfl rfl rfl ?_
    exact v_reti F dX0_sell_34 rfl (by unfold selR; rw [if_pos (show (0 ≤ o ∧ o ≤ cab n 0 13 - 1) from c1), htp]) (⟨_, rfl, by unfold selS; rw [if_pos (show (0 ≤ o ∧ o ≤ cab n 0 13 - 1) from c1), htp, cab_u rfl, hbw, sel_cl hsd wor_in]; rfl⟩)
  · skip
    refine v_bipush (x := (-2)) F dX0_sell_8 rfl (by decide) ?_
    exact v_reti F dX0_sell_10 rfl (by unfold selR; rw [if_neg (show ¬ (0 ≤ o ∧ o ≤ cab n 0 13 - 1) from c1)]) (⟨_, rfl, by unfold selS; rw [if_neg (show ¬ (0 ≤ o ∧ o ≤ cab n 0 13 - 1) from c1)]⟩)
theorem ok_X0_force : vv_oc yX0_force 3 1 (ws_ yX0_force cX0_force 3 (some .int)) := vv_ok.oc (rt := (some .int)) ⟨q898, q116, by decide +kernel, by decide +kernel⟩
theorem is_X0_force : Cond.instanceMethod yX0_force ∈ lw_all ∧ Cond.selects RX0 yX0_force yX0_force ∈ lw_all := ⟨q896, q897⟩
set_option maxHeartbeats 4000000 in
theorem cc_X0_force {l : Launch} {Kf : State → Prop} {D : va_G} {K : Nat → ClassId} {fv : List Value × (Nat → Nat)} {A : Nat → Prop} (G : cG A fv cIm Kf D K)  (n : mS) (δ : Nat → Nat) (ν : Nat → Option (Mg × Nat)) (x : Int32)  : vv_Ct l yX0_force (ws_ yX0_force cX0_force 3 (some .int)) (rm 2 46) Kf (cWd D K fv A) A [.ref (δ 0), .int x] (n, δ, ν) (vv_i (forR (cab n) x) (fun u => ∃ t : mS, u = (t, δ, ν) ∧ cab t = forS (cab n) x)) := by
  refine vv_of (by decide +kernel) (Nat.le_of_ble_eq_true rfl) ?_
  intro v (F : vv_F v l cX0_force 3 RX0 "force" (some .int) [] (rm 2 46) Kf (cWd D K fv A) A _)
  show v (n, δ, ν) 0 0 0 [(0, .ref (δ 0)), (1, .int x)] []
  refine v_aload_n F 0 dX0_force_0 rfl rfl rfl ?_
  refine v_iload_n F 1 dX0_force_1 rfl rfl rfl ?_
  refine c_calli F G (cc_X0_isText G n δ ν x ) ok_X0_isText q899 is_X0_isText rfl rfl dX0_force_2 rfl rfl ?_
  intro u0 hu0; subst u0
  refine v_if_neB (p := (0 ≤ x ∧ x ≤ n 0 3 - 1)) (tgt := 11) (q := 8) F dX0_force_5 rfl rfl (fun c1 => ?_) (fun c1 => ?_)
  · skip
    refine v_aload_n F 0 dX0_force_11 rfl rfl rfl ?_
    refine c_get F G 20 (w := .int (n 0 4)) (by decide) q821 rfl dX0_force_12 rfl ?_
    refine v_istore_n (ls' := [(2, .int (n 0 4)), (0, .ref (δ 0)), (1, .int x)]) F dX0_force_15 rfl rfl (by decide) rfl ?_
    refine v_aload_n F 1 dX0_force_16 rfl rfl rfl ?_
    refine v_iload_n F 2 dX0_force_17 rfl rfl rfl ?_
    refine c_put F G 20 4 (by decide) (by unfold frc; omega) (fun _ => rfl) q821 rfl (by decide +kernel) dX0_force_18 rfl ?_
    refine v_iload_n F 0 dX0_force_21 rfl rfl rfl ?_
    exact v_reti F dX0_force_22 rfl (by unfold forR; exact (if_pos (show (0 ≤ x ∧ x ≤ n 0 3 - 1) from c1)).symm) (⟨_, rfl, by unfold forS; rw [if_pos (show (0 ≤ x ∧ x ≤ cab n 0 3 - 1) from c1), cab_u rfl]⟩)
  · skip
    refine v_bipush (x := (-2)) F dX0_force_8 rfl (by decide) ?_
    exact v_reti F dX0_force_10 rfl (by unfold forR; exact (if_neg (show ¬ (0 ≤ x ∧ x ≤ n 0 3 - 1) from c1)).symm) (⟨_, rfl, by unfold forS; exact (if_neg (show ¬ (0 ≤ x ∧ x ≤ n 0 3 - 1) from c1)).symm⟩)
theorem ok_X0_year : vv_oc yX0_year 1 0 (ws_ yX0_year cX0_year 1 (some .int)) := vv_ok.oc (rt := (some .int)) ⟨q919, q116, by decide +kernel, by decide +kernel⟩
theorem is_X0_year : Cond.instanceMethod yX0_year ∈ lw_all ∧ Cond.selects RX0 yX0_year yX0_year ∈ lw_all := ⟨q917, q918⟩
set_option maxHeartbeats 4000000 in
theorem cc_X0_year {l : Launch} {Kf : State → Prop} {D : va_G} {K : Nat → ClassId} {fv : List Value × (Nat → Nat)} {A : Nat → Prop} (G : cG A fv cIm Kf D K)  (n : mS) (δ : Nat → Nat) (ν : Nat → Option (Mg × Nat))  (hok : cOk n) : vv_Ct l yX0_year (ws_ yX0_year cX0_year 1 (some .int)) (rm 165 3630) Kf (cWd D K fv A) A [.ref (δ 0)] (n, δ, ν) (vv_i (yeaR (cab n)) (fun u => ∃ t : mS, u = (t, δ, ν) ∧ cab t = yeaS (cab n))) := by
  refine vv_of (by decide +kernel) (Nat.le_of_ble_eq_true rfl) ?_
  intro v (F : vv_F v l cX0_year 1 RX0 "year" (some .int) [] (rm 165 3630) Kf (cWd D K fv A) A _)
  show v (n, δ, ν) 0 0 0 [(0, .ref (δ 0))] []
  have hM := hok.m
  have h8 := hok.m8
  refine v_aload_n F 0 dX0_year_0 rfl rfl rfl ?_
  refine c_get F G 2 (w := .int (n 0 7)) (by decide) q800 rfl dX0_year_1 rfl ?_
  refine v_bipush (x := 99) F dX0_year_4 rfl (by decide) ?_
  refine v_icmp_ne (tgt := 12) (q := 9) F dX0_year_6 rfl rfl (fun c1 => ?_) (fun c1 => ?_)
  · skip
    refine v_aload_n F 0 dX0_year_12 rfl rfl rfl ?_
    refine c_calln F G (cc_X0_yearOf G n δ ν  hok) ok_X0_yearOf q920 is_X0_yearOf rfl rfl dX0_year_13 rfl rfl ?_
    rintro _ ⟨ty, rfl, hbty, hcty⟩
    have okty : cOk ty := hok.yrs (m := 1) hbty
    refine v_aload_n F 0 dX0_year_16 rfl rfl rfl ?_
    refine c_calli F G (cc_X0_all G ty δ ν  okty) ok_X0_all q924 is_X0_all rfl rfl dX0_year_17 rfl rfl ?_
    intro u0 hu0; subst u0
    exact v_reti F dX0_year_20 rfl (by unfold yeaR; rw [if_neg (show ¬ cab n 0 7 = 99 from c1), hbty]) (⟨_, rfl, by unfold yeaS; rw [if_neg (show ¬ cab n 0 7 = 99 from c1), hbty]⟩)
  · skip
    refine v_bipush (x := (-3)) F dX0_year_9 rfl (by decide) ?_
    exact v_reti F dX0_year_11 rfl (by unfold yeaR; rw [if_pos (show cab n 0 7 = 99 from c1)]) (⟨_, rfl, by unfold yeaS; rw [if_pos (show cab n 0 7 = 99 from c1)]⟩)
theorem ok_X0_count : vv_oc yX0_count 2 1 (ws_ yX0_count cX0_count 2 (some .int)) := vv_ok.oc (rt := (some .int)) ⟨q1207, q116, by decide +kernel, by decide +kernel⟩
theorem is_X0_count : Cond.instanceMethod yX0_count ∈ lw_all ∧ Cond.selects RX0 yX0_count yX0_count ∈ lw_all := ⟨q1205, q1206⟩
set_option maxHeartbeats 4000000 in
theorem cc_X0_count {l : Launch} {Kf : State → Prop} {D : va_G} {K : Nat → ClassId} {fv : List Value × (Nat → Nat)} {A : Nat → Prop} (G : cG A fv cIm Kf D K)  (n : mS) (δ : Nat → Nat) (ν : Nat → Option (Mg × Nat)) (w : Int32) (hok : cOk n) : vv_Ct l yX0_count (ws_ yX0_count cX0_count 2 (some .int)) (rm 6 165) Kf (cWd D K fv A) A [.ref (δ 0), .int w] (n, δ, ν) (vv_i (couR (cab n) w) (fun u => u = (n, δ, ν))) := by
  refine vv_of (by decide +kernel) (Nat.le_of_ble_eq_true rfl) ?_
  intro v (F : vv_F v l cX0_count 2 RX0 "count" (some .int) [] (rm 6 165) Kf (cWd D K fv A) A _)
  show v (n, δ, ν) 0 0 0 [(0, .ref (δ 0)), (1, .int w)] []
  refine v_iload_n F 1 dX0_count_0 rfl rfl rfl ?_
  by_cases k1 : w = 0
  · skip
    refine v_int F k1 ?_
    refine v_tableIn (x := 0) (tgt := 44) F dX0_count_1 (by decide) (by decide) (off := 43) rfl rfl ?_
    refine v_aload_n F 0 dX0_count_44 rfl rfl rfl ?_
    refine c_get F G 1 (w := .int (n 0 13)) (by decide) q798 rfl dX0_count_45 rfl ?_
    exact v_reti F dX0_count_48 rfl ((couR_0 (α := cab n) k1).symm) (rfl)
  by_cases k2 : w = 1
  · skip
    refine v_int F k2 ?_
    refine v_tableIn (x := 1) (tgt := 49) F dX0_count_1 (by decide) (by decide) (off := 48) rfl rfl ?_
    refine v_aload_n F 0 dX0_count_49 rfl rfl rfl ?_
    refine c_calli F G (cc_X0_all G n δ ν  hok) ok_X0_all q924 is_X0_all rfl rfl dX0_count_50 rfl rfl ?_
    intro u0 hu0; subst u0
    exact v_reti F dX0_count_53 rfl ((couR_1 (α := cab n) k2).symm) (rfl)
  by_cases k3 : w = 2
  · skip
    refine v_int F k3 ?_
    refine v_tableIn (x := 2) (tgt := 54) F dX0_count_1 (by decide) (by decide) (off := 53) rfl rfl ?_
    refine v_aload_n F 0 dX0_count_54 rfl rfl rfl ?_
    refine c_calli F G (cc_X0_bloom G n δ ν  hok) ok_X0_bloom q949 is_X0_bloom rfl rfl dX0_count_55 rfl rfl ?_
    intro u0 hu0; subst u0
    exact v_reti F dX0_count_58 rfl ((couR_2 (α := cab n) k3).symm) (rfl)
  by_cases k4 : w = 3
  · skip
    refine v_int F k4 ?_
    refine v_tableIn (x := 3) (tgt := 59) F dX0_count_1 (by decide) (by decide) (off := 58) rfl rfl ?_
    refine v_aload_n F 0 dX0_count_59 rfl rfl rfl ?_
    refine c_get F G 4 (w := .int (n 0 9)) (by decide) q803 rfl dX0_count_60 rfl ?_
    exact v_reti F dX0_count_63 rfl ((couR_3 (α := cab n) k4).symm) (rfl)
  by_cases k5 : w = 4
  · skip
    refine v_int F k5 ?_
    refine v_tableIn (x := 4) (tgt := 64) F dX0_count_1 (by decide) (by decide) (off := 63) rfl rfl ?_
    refine v_aload_n F 0 dX0_count_64 rfl rfl rfl ?_
    refine c_get F G 9 (w := .int (n 0 3)) (by decide) q810 rfl dX0_count_65 rfl ?_
    exact v_reti F dX0_count_68 rfl ((couR_4 (α := cab n) k5).symm) (rfl)
  by_cases k6 : w = 5
  · skip
    refine v_int F k6 ?_
    refine v_tableIn (x := 5) (tgt := 69) F dX0_count_1 (by decide) (by decide) (off := 68) rfl rfl ?_
    refine v_aload_n F 0 dX0_count_69 rfl rfl rfl ?_
    refine c_get F G 13 (w := .int (n 0 6)) (by decide) q814 rfl dX0_count_70 rfl ?_
    exact v_reti F dX0_count_73 rfl ((couR_5 (α := cab n) k6).symm) (rfl)
  by_cases k7 : w = 6
  · skip
    refine v_int F k7 ?_
    refine v_tableIn (x := 6) (tgt := 74) F dX0_count_1 (by decide) (by decide) (off := 73) rfl rfl ?_
    refine v_aload_n F 0 dX0_count_74 rfl rfl rfl ?_
    refine c_get F G 20 (w := .int (n 0 4)) (by decide) q821 rfl dX0_count_75 rfl ?_
    exact v_reti F dX0_count_78 rfl ((couR_6 (α := cab n) k7).symm) (rfl)
  have tout1 : w.toInt < 0 ∨ 6 < w.toInt := by have := two_ne (k := 0) (c := 0) (by decide) k1; have := two_ne (k := 1) (c := 1) (by decide) k2; have := two_ne (k := 2) (c := 2) (by decide) k3; have := two_ne (k := 3) (c := 3) (by decide) k4; have := two_ne (k := 4) (c := 4) (by decide) k5; have := two_ne (k := 5) (c := 5) (by decide) k6; have := two_ne (k := 6) (c := 6) (by decide) k7; omega
  refine v_tableOut (tgt := 79) F dX0_count_1 tout1 rfl ?_
  refine v_bipush (x := (-2)) F dX0_count_79 rfl (by decide) ?_
  exact v_reti F dX0_count_81 rfl ((couR_b (α := cab n) (fun h => by have h1 := h.1; have h2 := h.2; grind)).symm) (rfl)
theorem cut_in (z : Int32) : ∃ j : Nat, j < 4 ∧ cut4 z = nI j := by
  obtain ⟨j, hj, e⟩ : ∃ j : Nat, j < 2 ^ 23 ∧ (z.toUInt32 >>> (Int32.toUInt32 9 &&& Int32.toUInt32 31)).toInt32 = nI j := by
    refine ⟨z.toUInt32.toNat / 512, ?_, ?_⟩
    · have := z.toUInt32.toNat_lt; omega
    · have h9 : (Int32.toUInt32 9 &&& Int32.toUInt32 31) = 9 := by decide
      rw [h9]
      have hn : (z.toUInt32 >>> 9).toNat = z.toUInt32.toNat / 512 := by
        rw [UInt32.toNat_shiftRight]; show z.toUInt32.toNat >>> 9 = _; rw [Nat.shiftRight_eq_div_pow]
      apply Int32.toInt_inj.mp
      rw [nI_toInt (by have := z.toUInt32.toNat_lt; omega)]
      show (z.toUInt32 >>> 9).toBitVec.toInt = _
      rw [BitVec.toInt_eq_toNat_of_lt]
      · show ((z.toUInt32 >>> 9).toNat : Int) = _
        rw [hn]
      · show 2 * (z.toUInt32 >>> 9).toNat < 2 ^ 32
        rw [hn]; have := z.toUInt32.toNat_lt; omega
  refine ⟨j % 4, Nat.mod_lt _ (by decide), ?_⟩
  unfold cut4
  rw [e]
  exact pk_rem (d := 4) (by omega) (by decide) (by decide)
theorem dra_cl {x z : Int32} (h : 0 ≤ x ∧ x ≤ 9999) : (if x - cut4 z ≤ 0 then 0 else x - cut4 z) = cl (x - cut4 z) 0 9999 := by
  obtain ⟨a, ha, rfl⟩ := in_of (M := 9999) (n := 9999) (by decide) h
  obtain ⟨j, hj, e⟩ := cut_in z
  rw [e]
  unfold cl
  by_cases c : j ≤ a
  · rw [pk_sub c, if_neg (nI_pos (by omega)), if_neg (show ¬ (9999 : Int32) < nI (a - j) from nI_nlt (a := 9999) (b := a - j) (by omega) (by decide))]
    by_cases d : a - j = 0
    · rw [d]; decide
    · rw [if_neg (nI_nle (by omega) (by omega))]
  · have h1 : nI a - nI j < 0 := by
      rcases (show (a = 0 ∨ a = 1 ∨ a = 2) ∧ (j = 1 ∨ j = 2 ∨ j = 3) by omega) with ⟨rfl | rfl | rfl, rfl | rfl | rfl⟩ <;> first | decide | omega
    rw [if_pos h1, if_pos (Int32.le_of_lt h1)]
theorem cOk.drN {n s : mS} {z : Int32} {p : Nat} (h : cOk n) (hp : p ≤ tn (n 0 13)) (hs : cab s = (draN (cab n) z p).1) : cOk s := by
  refine cOk_cab.mp ?_
  rw [hs]
  refine ⟨draN_wf (α := cab n) h.1 p, ?_⟩
  have hr := draN_r (α := cab n) (z := z) p hp
  intro q hq
  rw [hr.M] at hq
  rw [hr 11 q (by omega) (by omega)]
  exact h.2 q hq
theorem cOk.drY {n s : mS} {z : Int32} {m : Nat} (h : cOk n) (hs : cab s = (draY (cab n) z m).1) : cOk s := by
  refine cOk_cab.mp ?_
  rw [hs]
  refine ⟨draY_wf (α := cab n) h.1 m, ?_⟩
  have hr := draY_r (α := cab n) (z := z) m
  intro q hq
  rw [hr.M] at hq
  rw [hr 11 q (by omega) (by omega)]
  exact h.2 q hq
theorem dra_bk {n s t : mS} {f : Nat → Int32} (hr : onlyR (cab n) (cab s)) (hf : ∀ q, q < tn (n 0 13) → f q = n 12 (3 * q + 2)) (ht : cab t = lbk (cab s) f (tn (s 0 13)) (n 0 7)) : cab t = cab n := by
  rw [ht, show s 0 13 = n 0 13 from hr.M]
  exact lbk_r (α := cab n) hr hf
theorem ok_X0_allDrawn : vv_oc yX0_allDrawn 8 2 (wsW_ yX0_allDrawn cX0_allDrawn 8 (some .int) [(12, 96, 105, 0), (105, 107, 105, 0)]) := vv_okW.oc (rt := (some .int)) ⟨q1186, q116, by decide +kernel, by decide +kernel⟩
theorem is_X0_allDrawn : Cond.instanceMethod yX0_allDrawn ∈ lw_all ∧ Cond.selects RX0 yX0_allDrawn yX0_allDrawn ∈ lw_all := ⟨q1185, qs45⟩
set_option maxHeartbeats 4000000 in
theorem cc_X0_allDrawn {l : Launch} {Kf : State → Prop} {D : va_G} {K : Nat → ClassId} {fv : List Value × (Nat → Nat)} {A : Nat → Prop} (G : cG A fv cIm Kf D K)  (n : mS) (δ : Nat → Nat) (ν : Nat → Option (Mg × Nat)) (z : Int32) (m : Nat) (hok : cOk n) (hm : m ≤ 30) : vv_Ct l yX0_allDrawn (wsW_ yX0_allDrawn cX0_allDrawn 8 (some .int) [(12, 96, 105, 0), (105, 107, 105, 0)]) (rm 165 3630) Kf (cWd D K fv A) A [.ref (δ 0), .int z, .int (nI m)] (n, δ, ν) (vv_i (draV (cab n) z m) (fun u => ∃ t : mS, u = (t, δ, ν) ∧ cab t = cab n)) := by
  refine vv_ofW (by decide +kernel) (Nat.le_of_ble_eq_true rfl) ?_
  intro v (F : vv_F v l cX0_allDrawn 8 RX0 "allDrawn" (some .int) [(12, 96, 105, 0), (105, 107, 105, 0)] (rm 165 3630) Kf (cWd D K fv A) A _)
  show v (n, δ, ν) 0 0 0 [(0, .ref (δ 0)), (1, .int z), (2, .int (nI m))] []
  have hM := hok.m
  have h8 := hok.m8
  refine v_iload_n F 1 dX0_allDrawn_0 rfl rfl rfl ?_
  refine v_istore_n (ls' := [(3, .int z), (0, .ref (δ 0)), (1, .int z), (2, .int (nI m))]) F dX0_allDrawn_1 rfl rfl (by decide) rfl ?_
  refine v_aload_n F 1 dX0_allDrawn_2 rfl rfl rfl ?_
  refine c_get F G 2 (w := .int (n 0 7)) (by decide) q800 rfl dX0_allDrawn_3 rfl ?_
  refine v_istore (ls' := [(4, .int (n 0 7)), (3, .int z), (0, .ref (δ 0)), (1, .int z), (2, .int (nI m))]) F dX0_allDrawn_6 rfl (by decide) rfl ?_
  refine v_aload_n F 2 dX0_allDrawn_8 rfl rfl rfl ?_
  refine c_calln F G (cc_X0_keeps G n δ ν  hok) ok_X0_keeps q941 is_X0_keeps rfl rfl dX0_allDrawn_9 rfl rfl ?_
  rintro _ ⟨tk, rfl, hbk, hdtk, hetk⟩
  have oktk : cOk tk := cOk.of (show cOk n from hok) hbk
  refine v_iconst (x := 0) F dX0_allDrawn_12 rfl (by decide) ?_
  refine v_istore (ls' := [(5, .int 0), (4, .int (n 0 7)), (3, .int z), (0, .ref (δ 0)), (1, .int z), (2, .int (nI m))]) F dX0_allDrawn_13 rfl (by decide) rfl ?_
  have L15 : ∀ (nf : Nat) (s : mS) (x : Int32) (j : Nat) (hj : j ≤ m) (hs : (cab s, x) = draY (cab n) z j) (hks : ∀ q, q < tn (n 0 13) → s 50 q = n 12 (3 * q + 2)) (hnf : m - j < nf), v (s, δ, ν) 0 0 15 [(0, .ref (δ 0)), (1, .int z), (2, .int (nI m)), (3, .int x), (4, .int (n 0 7)), (5, .int (nI j))] [] := by
    intro nf
    induction nf with
    | zero => intro s x j hj hs hks hnf; exact absurd hnf (Nat.not_lt_zero _)
    | succ nf ih15 =>
      intro s x j hj hs hks hnf
      have hs1 : cab s = (draY (cab n) z j).1 := by rw [← hs]
      have hs2 : x = (draY (cab n) z j).2 := by rw [← hs]
      have hr0 : onlyR (cab n) (cab s) := by rw [hs1]; exact draY_r j
      have oks : cOk s := hok.drY hs1
      have h13 : s 0 13 = n 0 13 := hr0.M
      have h13t : tn (s 0 13) = tn (n 0 13) := by rw [h13]
      refine v_iload F 5 dX0_allDrawn_15 rfl rfl ?_
      refine v_iload_n F 2 dX0_allDrawn_17 rfl rfl rfl ?_
      refine v_icmp_geN (a := j) (b := m) (tgt := 90) (q := 21) F dX0_allDrawn_18 rfl rfl (by omega) (by omega) (fun c2 => ?_) (fun c2 => ?_)
      · skip
        refine v_aload_n F 0 dX0_allDrawn_90 rfl rfl rfl ?_
        refine c_calli F G (cc_X0_all G s δ ν  oks) ok_X0_all q924 is_X0_all rfl rfl dX0_allDrawn_91 rfl rfl ?_
        intro u0 hu0; subst u0
        refine v_istore (ls' := [(5, .int (allV (cab s))), (0, .ref (δ 0)), (1, .int z), (2, .int (nI m)), (3, .int x), (4, .int (n 0 7))]) F dX0_allDrawn_94 rfl (by decide) rfl ?_
        refine v_aload_n F 1 dX0_allDrawn_96 rfl rfl rfl ?_
        refine v_iload F 5 dX0_allDrawn_97 rfl rfl ?_
        refine c_calln F G (cc_X0_laysBack G s δ ν (n 0 7) oks.m oks.m8 (fun q hq => oks.k hq)) ok_X0_laysBack q953 is_X0_laysBack rfl rfl dX0_allDrawn_99 rfl rfl ?_
        rintro _ ⟨tz, rfl, hb9, hctz⟩
        refine v_iload F 0 dX0_allDrawn_102 rfl rfl ?_
        exact v_reti F dX0_allDrawn_104 rfl (by rw [hs1, show j = m by omega]; rfl) (⟨_, rfl, dra_bk hr0 hks hb9⟩)
      · skip
        refine v_iconst (x := 0) F dX0_allDrawn_21 rfl (by decide) ?_
        refine v_istore (ls' := [(6, .int 0), (0, .ref (δ 0)), (1, .int z), (2, .int (nI m)), (3, .int x), (4, .int (n 0 7)), (5, .int (nI j))]) F dX0_allDrawn_22 rfl (by decide) rfl ?_
        have L24 : ∀ (nf : Nat) (c : mS) (y : Int32) (p : Nat) (hpM : p ≤ tn (n 0 13)) (hc : (cab c, y) = draN (cab s) x p) (hkc : ∀ q, q < tn (n 0 13) → c 50 q = n 12 (3 * q + 2)) (hnf : tn (n 0 13) - p < nf), v (c, δ, ν) 0 0 24 [(0, .ref (δ 0)), (1, .int z), (2, .int (nI m)), (3, .int y), (4, .int (n 0 7)), (5, .int (nI j)), (6, .int (nI p))] [] := by
          intro nf
          induction nf with
          | zero => intro c y p hpM hc hkc hnf; exact absurd hnf (Nat.not_lt_zero _)
          | succ nf ih24 =>
            intro c y p hpM hc hkc hnf
            have hc1 : cab c = (draN (cab s) x p).1 := by rw [← hc]
            have hc2 : y = (draN (cab s) x p).2 := by rw [← hc]
            have hrc : onlyR (cab s) (cab c) := by rw [hc1]; exact draN_r (α := cab s) p (by show p ≤ tn (s 0 13); rw [h13]; exact hpM)
            have h13c : c 0 13 = nI (tn (n 0 13)) := (hrc.M.trans h13).trans hM
            have okc : cOk c := oks.drN (by omega) hc1
            have h13ct : tn (c 0 13) = tn (n 0 13) := by rw [h13c, tn_nI (by omega)]
            refine v_iload F 6 dX0_allDrawn_24 rfl rfl ?_
            refine v_aload_n F 0 dX0_allDrawn_26 rfl rfl rfl ?_
            refine c_get F G 1 (w := .int (c 0 13)) (by decide) q798 rfl dX0_allDrawn_27 rfl ?_
            refine v_int F (h13c) ?_
            refine v_icmp_geN (a := p) (b := tn (n 0 13)) (tgt := 80) (q := 33) F dX0_allDrawn_30 rfl rfl (by omega) (by omega) (fun c4 => ?_) (fun c4 => ?_)
            · skip
              refine v_aload_n F 0 dX0_allDrawn_80 rfl rfl rfl ?_
              refine c_calln F G (cc_X0_yearOf G c δ ν  okc) ok_X0_yearOf q920 is_X0_yearOf rfl rfl dX0_allDrawn_81 rfl rfl ?_
              rintro _ ⟨ty, rfl, hbty, hcty⟩
              refine v_iincN (ls' := [(5, .int (nI (j + 1))), (0, .ref (δ 0)), (1, .int z), (2, .int (nI m)), (3, .int y), (4, .int (n 0 7)), (6, .int (nI p))]) F 5 dX0_allDrawn_84 rfl rfl (by decide) rfl ?_
              refine v_goto (tgt := 15) F dX0_allDrawn_87 rfl ?_
              refine v_sub (ls' := [(0, .ref (δ 0)), (1, .int z), (2, .int (nI m)), (3, .int y), (4, .int (n 0 7)), (5, .int (nI (j + 1)))]) F [1, 2, 3, 4, 5, 0] rfl ?_
              exact ih15 ty y (j + 1) (by omega) (by rw [hbty, hc1, hc2, show p = tn (n 0 13) by omega]; show _ = (livS (draN (draY (cab n) z j).1 (draY (cab n) z j).2 (tn (n 0 13))).1, (draN (draY (cab n) z j).1 (draY (cab n) z j).2 (tn (n 0 13))).2); rw [hs1, hs2]) (fun q hq => by rw [hcty 50 q (by omega)]; exact hkc q hq) (by omega)
            · skip
              refine v_iload_n F 3 dX0_allDrawn_33 rfl rfl rfl ?_
              refine v_ldcw F q1187 dX0_allDrawn_34 rfl ?_
              refine v_imul F dX0_allDrawn_37 rfl ?_
              refine v_sipush (x := 12345) F dX0_allDrawn_38 rfl (by decide) ?_
              refine v_iadd F dX0_allDrawn_41 rfl ?_
              refine v_istore_n (ls' := [(3, .int ((y * 1103515245) + 12345)), (0, .ref (δ 0)), (1, .int z), (2, .int (nI m)), (4, .int (n 0 7)), (5, .int (nI j)), (6, .int (nI p))]) F dX0_allDrawn_42 rfl rfl (by decide) rfl ?_
              refine v_aload_n F 1 dX0_allDrawn_43 rfl rfl rfl ?_
              refine c_get F G 0 (w := .ref (δ 1)) (by decide) q797 rfl dX0_allDrawn_44 rfl ?_
              refine v_iload F 6 dX0_allDrawn_47 rfl rfl ?_
              refine c_plant (s := p) F G (okc.lv (by omega)) (by omega) dX0_allDrawn_49 rfl ?_
              refine v_iconst (x := 0) F dX0_allDrawn_50 rfl (by decide) ?_
              refine v_aload_n F 1 dX0_allDrawn_51 rfl rfl rfl ?_
              refine c_get F G 0 (w := .ref (δ 1)) (by decide) q797 rfl dX0_allDrawn_52 rfl ?_
              refine v_iload F 6 dX0_allDrawn_55 rfl rfl ?_
              refine c_plant (s := p) F G (okc.lv (by omega)) (by omega) dX0_allDrawn_57 rfl ?_
              refine c_bget F G p 2 (okc.lv (by omega)) (okc.k (by omega)) (by decide) q185 (refO_9 2) dX0_allDrawn_58 rfl ?_
              refine v_iload_n F 0 dX0_allDrawn_61 rfl rfl rfl ?_
              refine v_bipush (x := 9) F dX0_allDrawn_62 rfl (by decide) ?_
              refine v_iushr F dX0_allDrawn_64 rfl ?_
              refine v_iconst (x := 4) F dX0_allDrawn_65 rfl (by decide) ?_
              refine v_irem F dX0_allDrawn_66 rfl (by decide) ?_
              refine v_isub F dX0_allDrawn_67 rfl ?_
              refine s_calli F G.1 (cg_J7_max G.1 (c, δ, ν) 0 ((c 12 (3 * p + 2)) - (((((y * 1103515245) + 12345).toUInt32 >>> (Int32.toUInt32 9 &&& Int32.toUInt32 31)).toInt32) - ((((y * 1103515245) + 12345).toUInt32 >>> (Int32.toUInt32 9 &&& Int32.toUInt32 31)).toInt32) / 4 * 4)) ) ok_J7_max q321 q322 rfl rfl dX0_allDrawn_68 rfl rfl ?_
              intro u0 hu0; subst u0
              refine c_bput F G p 2 (okc.lv (by omega)) (okc.k (by omega)) (by decide) q185 (refO_9 2) rfl (by decide +kernel) dX0_allDrawn_71 rfl ?_
              refine v_iincN (ls' := [(6, .int (nI (p + 1))), (3, .int ((y * 1103515245) + 12345)), (0, .ref (δ 0)), (1, .int z), (2, .int (nI m)), (4, .int (n 0 7)), (5, .int (nI j))]) F 6 dX0_allDrawn_74 rfl rfl (by decide) rfl ?_
              refine v_goto (tgt := 24) F dX0_allDrawn_77 rfl ?_
              refine v_sub (ls' := [(0, .ref (δ 0)), (1, .int z), (2, .int (nI m)), (3, .int ((y * 1103515245) + 12345)), (4, .int (n 0 7)), (5, .int (nI j)), (6, .int (nI (p + 1)))]) F [2, 3, 4, 1, 5, 6, 0] rfl ?_
              exact ih24 (up c 12 (3 * p + 2) (if ((c 12 (3 * p + 2)) - (((((y * 1103515245) + 12345).toUInt32 >>> (Int32.toUInt32 9 &&& Int32.toUInt32 31)).toInt32) - ((((y * 1103515245) + 12345).toUInt32 >>> (Int32.toUInt32 9 &&& Int32.toUInt32 31)).toInt32) / 4 * 4)) ≤ 0 then 0 else ((c 12 (3 * p + 2)) - (((((y * 1103515245) + 12345).toUInt32 >>> (Int32.toUInt32 9 &&& Int32.toUInt32 31)).toInt32) - ((((y * 1103515245) + 12345).toUInt32 >>> (Int32.toUInt32 9 &&& Int32.toUInt32 31)).toInt32) / 4 * 4)))) (y * 1103515245 + 12345) (p + 1) (by omega) (by rw [cab_u rfl]; show _ = (up (draN (cab s) x p).1 12 (3 * p + 2) (cl ((draN (cab s) x p).1 12 (3 * p + 2) - cut4 (rnd (draN (cab s) x p).2)) 0 9999), rnd (draN (cab s) x p).2); rw [← hc1, ← hc2, show cab c 12 (3 * p + 2) = c 12 (3 * p + 2) from rfl, ← dra_cl (okc.1.2.1 p (by omega)).2]; rfl) (fun q hq => by rw [up_ne (by omega)]; exact hkc q hq) (by omega)
        refine v_sub (ls' := [(0, .ref (δ 0)), (1, .int z), (2, .int (nI m)), (3, .int x), (4, .int (n 0 7)), (5, .int (nI j)), (6, .int 0)]) F [1, 2, 3, 4, 5, 6, 0] rfl ?_
        exact L24 _ s x 0 (Nat.zero_le _) rfl hks (Nat.lt_succ_self _)
  refine v_sub (ls' := [(0, .ref (δ 0)), (1, .int z), (2, .int (nI m)), (3, .int z), (4, .int (n 0 7)), (5, .int 0)]) F [3, 4, 5, 2, 1, 0] rfl ?_
  exact L15 _ tk z 0 (Nat.zero_le _) (by rw [hbk]; rfl) hetk (Nat.lt_succ_self _)
theorem ok_X0_drawn : vv_oc yX0_drawn 3 2 (ws_ yX0_drawn cX0_drawn 3 (some .int)) := vv_ok.oc (rt := (some .int)) ⟨q1182, q116, by decide +kernel, by decide +kernel⟩
theorem is_X0_drawn : Cond.instanceMethod yX0_drawn ∈ lw_all ∧ Cond.selects RX0 yX0_drawn yX0_drawn ∈ lw_all := ⟨q1180, q1181⟩
set_option maxHeartbeats 4000000 in
theorem cc_X0_drawn {l : Launch} {Kf : State → Prop} {D : va_G} {K : Nat → ClassId} {fv : List Value × (Nat → Nat)} {A : Nat → Prop} (G : cG A fv cIm Kf D K)  (n : mS) (δ : Nat → Nat) (ν : Nat → Option (Mg × Nat)) (z : Int32) (y : Int32) (hok : cOk n) : vv_Ct l yX0_drawn (ws_ yX0_drawn cX0_drawn 3 (some .int)) (rm 166 3657) Kf (cWd D K fv A) A [.ref (δ 0), .int z, .int y] (n, δ, ν) (vv_i (drnR (cab n) z y) (fun u => ∃ t : mS, u = (t, δ, ν) ∧ cab t = cab n)) := by
  refine vv_of (by decide +kernel) (Nat.le_of_ble_eq_true rfl) ?_
  intro v (F : vv_F v l cX0_drawn 3 RX0 "drawn" (some .int) [] (rm 166 3657) Kf (cWd D K fv A) A _)
  show v (n, δ, ν) 0 0 0 [(0, .ref (δ 0)), (1, .int z), (2, .int y)] []
  have hM := hok.m
  have h8 := hok.m8
  refine v_iload_n F 2 dX0_drawn_0 rfl rfl rfl ?_
  refine s_calli F G.1 (cg_X0_areYears G.1 (n, δ, ν) y ) ok_X0_areYears q932 q933 rfl rfl dX0_drawn_1 rfl rfl ?_
  intro u0 hu0; subst u0
  refine v_if_eqB (p := (0 ≤ y ∧ y ≤ 30)) (tgt := 16) (q := 7) F dX0_drawn_4 rfl rfl (fun c1 => ?_) (fun c1 => ?_)
  · skip
    refine v_bipush (x := (-2)) F dX0_drawn_16 rfl (by decide) ?_
    exact v_reti F dX0_drawn_18 rfl (by unfold drnR; exact (if_neg c1).symm) (⟨_, rfl, rfl⟩)
  · skip
    refine v_aload_n F 0 dX0_drawn_7 rfl rfl rfl ?_
    refine v_iload_n F 1 dX0_drawn_8 rfl rfl rfl ?_
    obtain ⟨m, hm, hym⟩ := in_of (M := 30) (n := 30) (by decide) c1
    have hty : tn y = m := by rw [hym, tn_nI (by omega)]
    refine v_iload_n F 2 dX0_drawn_9 rfl rfl rfl ?_
    refine v_int F (hym) ?_
    refine c_calli F G (cc_X0_allDrawn G n δ ν z m hok hm) ok_X0_allDrawn q1183 is_X0_allDrawn rfl rfl dX0_drawn_10 rfl rfl ?_
    rintro _ ⟨td, rfl, hbd⟩
    have oktd : cOk td := cOk.of (show cOk n from hok) hbd
    refine v_goto (tgt := 18) F dX0_drawn_13 rfl ?_
    exact v_reti F dX0_drawn_18 rfl (by unfold drnR; rw [if_pos c1, hty]) (⟨_, rfl, hbd⟩)
theorem ok_X0_chance : vv_oc yX0_chance 7 3 (ws_ yX0_chance cX0_chance 7 (some .long)) := vv_ok.oc (rt := (some .long)) ⟨q1191, q116, by decide +kernel, by decide +kernel⟩
theorem is_X0_chance : Cond.instanceMethod yX0_chance ∈ lw_all ∧ Cond.selects RX0 yX0_chance yX0_chance ∈ lw_all := ⟨q1189, q1190⟩
set_option maxHeartbeats 4000000 in
theorem cc_X0_chance {l : Launch} {Kf : State → Prop} {D : va_G} {K : Nat → ClassId} {fv : List Value × (Nat → Nat)} {A : Nat → Prop} (G : cG A fv cIm Kf D K)  (n : mS) (δ : Nat → Nat) (ν : Nat → Option (Mg × Nat)) (z : Int32) (y : Int32) (k : Int32) (hok : cOk n) : vv_Ct l yX0_chance (ws_ yX0_chance cX0_chance 7 (some .long)) (rm 166 3657) Kf (cWd D K fv A) A [.ref (δ 0), .int z, .int y, .int k] (n, δ, ν) (vv_j (chaR (cab n) z y k) (fun u => ∃ t : mS, u = (t, δ, ν) ∧ cab t = cab n)) := by
  refine vv_of (by decide +kernel) (Nat.le_of_ble_eq_true rfl) ?_
  intro v (F : vv_F v l cX0_chance 7 RX0 "chance" (some .long) [] (rm 166 3657) Kf (cWd D K fv A) A _)
  show v (n, δ, ν) 0 0 0 [(0, .ref (δ 0)), (1, .int z), (2, .int y), (3, .int k)] []
  have hM := hok.m
  have h8 := hok.m8
  refine v_iload_n F 2 dX0_chance_0 rfl rfl rfl ?_
  refine v_i2l F dX0_chance_1 rfl ?_
  refine v_lconst (x := (1 : Int32).toInt64) F dX0_chance_2 rfl (by decide) ?_
  refine v_ldc2 F q1192 dX0_chance_3 rfl ?_
  refine v_lng (y := (20 : Int32).toInt64) F (by decide) ?_
  refine s_calli F G.1 (cg_X0_in G.1 (n, δ, ν) y 1 20 ) ok_X0_in q151 q152 rfl rfl dX0_chance_6 rfl rfl ?_
  intro u0 hu0; subst u0
  refine v_if_eqB (p := (1 ≤ y ∧ y ≤ 20)) (tgt := 22) (q := 12) F dX0_chance_9 rfl rfl (fun c1 => ?_) (fun c1 => ?_)
  · skip
    refine v_ldc2 F q971 dX0_chance_22 rfl ?_
    exact v_retj F dX0_chance_25 rfl (by unfold chaR; rw [if_neg (show ¬ chaOK y k from (fun h => c1 h.1))]) (⟨_, rfl, rfl⟩)
  · skip
    refine v_iload_n F 3 dX0_chance_12 rfl rfl rfl ?_
    refine v_i2l F dX0_chance_13 rfl ?_
    refine v_lconst (x := (0 : Int32).toInt64) F dX0_chance_14 rfl (by decide) ?_
    refine v_lconst (x := (1 : Int32).toInt64) F dX0_chance_15 rfl (by decide) ?_
    refine s_calli F G.1 (cg_X0_in G.1 (n, δ, ν) k 0 1 ) ok_X0_in q151 q152 rfl rfl dX0_chance_16 rfl rfl ?_
    intro u0 hu0; subst u0
    refine v_if_neB (p := (0 ≤ k ∧ k ≤ 1)) (tgt := 26) (q := 22) F dX0_chance_19 rfl rfl (fun c2 => ?_) (fun c2 => ?_)
    · skip
      obtain ⟨c, hc, hyc⟩ := in_of1 c1
      have hty : tn y = c := by rw [hyc, tn_nI (by omega)]
      refine v_lconst (x := (0 : Int32).toInt64) F dX0_chance_26 rfl (by decide) ?_
      refine v_lstore (ls' := [(4, .long ((0 : Int32).toInt64)), (0, .ref (δ 0)), (1, .int z), (2, .int y), (3, .int k)]) F dX0_chance_27 rfl (by decide) rfl ?_
      refine v_iconst (x := 0) F dX0_chance_29 rfl (by decide) ?_
      refine v_istore (ls' := [(6, .int 0), (4, .long ((0 : Int32).toInt64)), (0, .ref (δ 0)), (1, .int z), (2, .int y), (3, .int k)]) F dX0_chance_30 rfl (by decide) rfl ?_
      have L32 : ∀ (nf : Nat) (s : mS) (j : Nat) (hj : j ≤ c) (hs : cab s = cab n) (hnf : c - j < nf), v (s, δ, ν) 0 0 32 [(0, .ref (δ 0)), (1, .int z), (2, .int y), (3, .int k), (4, .long (lN (chaN (cab n) z j))), (6, .int (nI j))] [] := by
        intro nf
        induction nf with
        | zero => intro s j hj hs hnf; exact absurd hnf (Nat.not_lt_zero _)
        | succ nf ih32 =>
          intro s j hj hs hnf
          have oks : cOk s := hok.of hs
          refine v_iload F 5 dX0_chance_32 rfl rfl ?_
          refine v_iload_n F 2 dX0_chance_34 rfl rfl rfl ?_
          refine v_int F (hyc) ?_
          refine v_icmp_geN (a := j) (b := c) (tgt := 67) (q := 38) F dX0_chance_35 rfl rfl (by omega) (by omega) (fun c3 => ?_) (fun c3 => ?_)
          · skip
            refine v_lload F 4 dX0_chance_67 rfl rfl ?_
            refine v_iload_n F 2 dX0_chance_69 rfl rfl rfl ?_
            refine v_int F (hyc) ?_
            refine v_i2l F dX0_chance_70 rfl ?_
            refine v_lng F (y := lN c) (nI_l (by omega)) ?_
            refine v_iload_n F 3 dX0_chance_71 rfl rfl rfl ?_
            refine s_callj F G.1 (cg_X0_lowest G.1 (s, δ, ν) (chaN (cab n) z j) c k (by have := cha_le (cab n) z j; omega) (by omega) (by omega)) ok_X0_lowest q977 q978 rfl rfl dX0_chance_72 rfl rfl ?_
            intro u0 hu0; subst u0
            exact v_retj F dX0_chance_75 rfl (by unfold chaR; rw [if_pos (show chaOK y k from ⟨c1, c2⟩), hty, show j = c by omega]) (⟨_, rfl, hs⟩)
          · skip
            refine v_lload F 4 dX0_chance_38 rfl rfl ?_
            refine v_aload_n F 0 dX0_chance_40 rfl rfl rfl ?_
            refine v_iload_n F 1 dX0_chance_41 rfl rfl rfl ?_
            refine v_iload F 5 dX0_chance_42 rfl rfl ?_
            refine v_iadd F dX0_chance_44 rfl ?_
            refine v_bipush (x := 10) F dX0_chance_45 rfl (by decide) ?_
            refine c_calli F G (cc_X0_allDrawn G s δ ν (z + (nI j)) 10 oks (by decide)) ok_X0_allDrawn q1183 is_X0_allDrawn rfl rfl dX0_chance_47 rfl rfl ?_
            rintro _ ⟨td, rfl, hbd⟩
            have oktd : cOk td := cOk.of (show cOk s from oks) hbd
            refine v_if_le (tgt := 57) (q := 53) F dX0_chance_50 rfl rfl (fun c5 => ?_) (fun c5 => ?_)
            · skip
              refine v_lconst (x := (0 : Int32).toInt64) F dX0_chance_57 rfl (by decide) ?_
              refine v_ladd F dX0_chance_58 rfl ?_
              refine v_lng F (y := lN (chaN (cab n) z (j + 1))) (by show _ = lN (chaN (cab n) z j + (if draV (cab n) (z + nI j) 10 ≤ 0 then 0 else 1)); rw [hs] at c5; rw [if_pos c5, show (0 : Int32).toInt64 = lN 0 by decide, lN_add]) ?_
              refine v_lstore (ls' := [(4, .long (lN (chaN (cab n) z (j + 1)))), (0, .ref (δ 0)), (1, .int z), (2, .int y), (3, .int k), (6, .int (nI j))]) F dX0_chance_59 rfl (by decide) rfl ?_
              refine v_iincN (ls' := [(6, .int (nI (j + 1))), (4, .long (lN (chaN (cab n) z (j + 1)))), (0, .ref (δ 0)), (1, .int z), (2, .int y), (3, .int k)]) F 5 dX0_chance_61 rfl rfl (by decide) rfl ?_
              refine v_goto (tgt := 32) F dX0_chance_64 rfl ?_
              refine v_sub (ls' := [(0, .ref (δ 0)), (1, .int z), (2, .int y), (3, .int k), (4, .long (lN (chaN (cab n) z (j + 1)))), (6, .int (nI (j + 1)))]) F [2, 3, 4, 5, 1, 0] rfl ?_
              exact ih32 td (j + 1) (by omega) (hbd.trans hs) (by omega)
            · skip
              refine v_lconst (x := (1 : Int32).toInt64) F dX0_chance_53 rfl (by decide) ?_
              refine v_goto (tgt := 58) F dX0_chance_54 rfl ?_
              refine v_ladd F dX0_chance_58 rfl ?_
              refine v_lng F (y := lN (chaN (cab n) z (j + 1))) (by show _ = lN (chaN (cab n) z j + (if draV (cab n) (z + nI j) 10 ≤ 0 then 0 else 1)); rw [hs] at c5; rw [if_neg c5, show (1 : Int32).toInt64 = lN 1 by decide, lN_add]) ?_
              refine v_lstore (ls' := [(4, .long (lN (chaN (cab n) z (j + 1)))), (0, .ref (δ 0)), (1, .int z), (2, .int y), (3, .int k), (6, .int (nI j))]) F dX0_chance_59 rfl (by decide) rfl ?_
              refine v_iincN (ls' := [(6, .int (nI (j + 1))), (4, .long (lN (chaN (cab n) z (j + 1)))), (0, .ref (δ 0)), (1, .int z), (2, .int y), (3, .int k)]) F 5 dX0_chance_61 rfl rfl (by decide) rfl ?_
              refine v_goto (tgt := 32) F dX0_chance_64 rfl ?_
              refine v_sub (ls' := [(0, .ref (δ 0)), (1, .int z), (2, .int y), (3, .int k), (4, .long (lN (chaN (cab n) z (j + 1)))), (6, .int (nI (j + 1)))]) F [2, 3, 4, 5, 1, 0] rfl ?_
              exact ih32 td (j + 1) (by omega) (hbd.trans hs) (by omega)
      refine v_sub (ls' := [(0, .ref (δ 0)), (1, .int z), (2, .int y), (3, .int k), (4, .long ((0 : Int32).toInt64)), (6, .int 0)]) F [2, 3, 4, 5, 1, 0] rfl ?_
      exact L32 _ n 0 (Nat.zero_le _) rfl (Nat.lt_succ_self _)
    · skip
      refine v_ldc2 F q971 dX0_chance_22 rfl ?_
      exact v_retj F dX0_chance_25 rfl (by unfold chaR; rw [if_neg (show ¬ chaOK y k from (fun h => c2 h.2))]) (⟨_, rfl, rfl⟩)
