set_option maxRecDepth 100000
theorem ok_X8_lives : vv_oc yX8_lives 3 0 (ws_ yX8_lives cX8_lives 3 none) := vv_ok.oc (rt := none) ⟨q1667, q133, by decide +kernel, by decide +kernel⟩
theorem is_X8_lives : Cond.instanceMethod yX8_lives ∈ lw_all ∧ Cond.selects RX8 yX8_lives yX8_lives ∈ lw_all := ⟨q1666, qs103⟩
set_option maxHeartbeats 4000000 in
theorem cm_X8_lives {l : Launch} {Kf : State → Prop} {D : va_G} {ad : Nat → Nat} {cI cZ : ClassId} {A : Nat → Prop} (G : mG A Kf D cI cZ)  (σ : mS)  (hw : Wf (ab σ)) : vv_Ct l yX8_lives (ws_ yX8_lives cX8_lives 3 none) (rm 44 976) Kf (mWd D ad cI cZ A) A [.ref (ad 0)] σ (vv_n (fun u => ab u = livS (ab σ))) := by
  refine vv_of (by decide +kernel) (Nat.le_of_ble_eq_true rfl) ?_
  intro v (F : vv_F v l cX8_lives 3 RX8 "lives" none [] (rm 44 976) Kf (mWd D ad cI cZ A) A _)
  show v σ 0 0 0 [(0, .ref (ad 0))] []
  have hM : σ 0 13 = nI (tn (σ 0 13)) := hw.1.1.1
  have hM8 : tn (σ 0 13) ≤ 8 := hw.1.1.2
  refine v_iconst (x := 0) F dX8_lives_0 rfl (by decide) ?_
  refine v_istore_n (ls' := [(1, .int 0), (0, .ref (ad 0))]) F dX8_lives_1 rfl rfl (by decide) rfl ?_
  have L2 : ∀ (nf : Nat) (s : mS) (p : Nat) (hpM : p ≤ tn (σ 0 13)) (hs : ab s = livN (ab σ) p) (hnf : tn (σ 0 13) - p < nf), v s 0 0 2 [(0, .ref (ad 0)), (1, .int (nI p))] [] := by
    intro nf
    induction nf with
    | zero => intro s p hpM hs hnf; exact absurd hnf (Nat.not_lt_zero _)
    | succ nf ih2 =>
      intro s p hpM hs hnf
      have hws : Wf (ab s) := by rw [hs]; exact wf_livN hw p
      have h13 : s 0 13 = nI (tn (σ 0 13)) := liv_13 hM hs hpM
      have h13t : tn (s 0 13) = tn (σ 0 13) := by rw [h13, tn_nI (by omega)]
      refine v_iload_n F 1 dX8_lives_2 rfl rfl rfl ?_
      refine v_aload_n F 0 dX8_lives_3 rfl rfl rfl ?_
      refine m_get F G 13 (w := .int (s 0 13)) (by decide) q1266 rfl dX8_lives_4 rfl ?_
      refine v_int F (h13) ?_
      refine v_icmp_geN (a := p) (b := tn (σ 0 13)) (tgt := 54) (q := 10) F dX8_lives_7 rfl rfl (by omega) (by omega) (fun c1 => ?_) (fun c1 => ?_)
      · skip
        refine v_aload_n F 0 dX8_lives_54 rfl rfl rfl ?_
        refine v_dup F dX8_lives_55 rfl rfl ?_
        refine m_get F G 7 (w := .int (s 0 7)) (by decide) q1260 rfl dX8_lives_56 rfl ?_
        refine v_iconst (x := 1) F dX8_lives_59 rfl (by decide) ?_
        refine v_iadd F dX8_lives_60 rfl ?_
        refine m_put7 F G q1260 dX8_lives_61 rfl ?_
        exact v_retn F dX8_lives_64 rfl (liv_end hs c1 hpM)
      · skip
        refine v_aload_n F 0 dX8_lives_10 rfl rfl rfl ?_
        refine m_get F G 12 (w := .ref (ad 12)) (by decide) q1265 rfl dX8_lives_11 rfl ?_
        refine v_iconst (x := 3) F dX8_lives_14 rfl (by decide) ?_
        refine v_iload_n F 1 dX8_lives_15 rfl rfl rfl ?_
        refine v_imulN (a := 3) (b := p) F dX8_lives_16 rfl ?_
        refine v_iconst (x := 2) F dX8_lives_17 rfl (by decide) ?_
        refine v_iaddN (a := 3 * p) (b := 2) F dX8_lives_18 rfl ?_
        refine m_ald12 (t := (3 * p) + 2) F G (by omega) dX8_lives_19 rfl ?_
        refine v_istore_n (ls' := [(2, .int (s 12 ((3 * p) + 2))), (0, .ref (ad 0)), (1, .int (nI p))]) F dX8_lives_20 rfl rfl (by decide) rfl ?_
        refine v_aload_n F 1 dX8_lives_21 rfl rfl rfl ?_
        refine m_get F G 12 (w := .ref (ad 12)) (by decide) q1265 rfl dX8_lives_22 rfl ?_
        refine v_iconst (x := 3) F dX8_lives_25 rfl (by decide) ?_
        refine v_iload_n F 2 dX8_lives_26 rfl rfl rfl ?_
        refine v_imulN (a := 3) (b := p) F dX8_lives_27 rfl ?_
        refine v_iconst (x := 2) F dX8_lives_28 rfl (by decide) ?_
        refine v_iaddN (a := 3 * p) (b := 2) F dX8_lives_29 rfl ?_
        refine v_aload_n F 1 dX8_lives_30 rfl rfl rfl ?_
        refine v_iload_n F 2 dX8_lives_31 rfl rfl rfl ?_
        refine v_iload_n F 0 dX8_lives_32 rfl rfl rfl ?_
        refine v_iload_n F 0 dX8_lives_33 rfl rfl rfl ?_
        refine v_aload_n F 1 dX8_lives_34 rfl rfl rfl ?_
        refine v_iload_n F 2 dX8_lives_35 rfl rfl rfl ?_
        refine m_calli F G (cm_X8_rotsOf G s p hws (by omega)) ok_X8_rotsOf q1409 is_X8_rotsOf rfl rfl dX8_lives_36 rfl rfl ?_
        intro t2 hb2
        have hwt : Wf (ab t2) := by rw [hb2]; exact hws
        have h13u : p < tn (t2 0 13) := by rw [ab_eq hb2 0 13 rfl]; omega
        refine v_imul F dX8_lives_39 rfl ?_
        refine v_bipush (x := 100) F dX8_lives_40 rfl (by decide) ?_
        refine v_idiv F dX8_lives_42 rfl (by decide) ?_
        refine v_isub F dX8_lives_43 rfl ?_
        refine m_calli F G (cm_X8_growsOf G t2 p ((s 12 ((3 * p) + 2)) - (((s 12 ((3 * p) + 2)) * (rotV (ab s) p)) / 100)) hwt h13u) ok_X8_growsOf q1610 is_X8_growsOf rfl rfl dX8_lives_44 rfl rfl ?_
        intro u0 hu0; subst u0
        refine m_ast12 (t := (3 * p) + 2) F G (by omega) dX8_lives_47 rfl ?_
        refine v_iincN (ls' := [(1, .int (nI (p + 1))), (2, .int (s 12 ((3 * p) + 2))), (0, .ref (ad 0))]) F 2 dX8_lives_48 rfl rfl (by decide) rfl ?_
        refine v_goto (tgt := 2) F dX8_lives_51 rfl ?_
        refine v_sub (ls' := [(0, .ref (ad 0)), (1, .int (nI (p + 1)))]) F [2, 0] rfl ?_
        exact ih2 (up t2 12 ((3 * p) + 2) (groV (ab t2) p ((s 12 ((3 * p) + 2)) - (((s 12 ((3 * p) + 2)) * (rotV (ab s) p)) / 100)))) (p + 1) (by omega) (liv_go hs hb2) (by omega)
  refine v_sub (ls' := [(0, .ref (ad 0)), (1, .int 0)]) F [1, 0] rfl ?_
  exact L2 _ σ 0 (Nat.zero_le _) rfl (Nat.lt_succ_self _)
theorem ok_X8_all : vv_oc yX8_all 3 0 (ws_ yX8_all cX8_all 3 (some .int)) := vv_ok.oc (rt := (some .int)) ⟨q1671, q133, by decide +kernel, by decide +kernel⟩
theorem is_X8_all : Cond.instanceMethod yX8_all ∈ lw_all ∧ Cond.selects RX8 yX8_all yX8_all ∈ lw_all := ⟨q1670, qs104⟩
set_option maxHeartbeats 4000000 in
theorem cm_X8_all {l : Launch} {Kf : State → Prop} {D : va_G} {ad : Nat → Nat} {cI cZ : ClassId} {A : Nat → Prop} (G : mG A Kf D cI cZ)  (σ : mS)  (hM : σ 0 13 = nI (tn (σ 0 13))) (hM8 : tn (σ 0 13) ≤ 8) : vv_Ct l yX8_all (ws_ yX8_all cX8_all 3 (some .int)) (rm 0 0) Kf (mWd D ad cI cZ A) A [.ref (ad 0)] σ (vv_i (allV (ab σ)) (fun u => u = σ)) := by
  refine vv_of (by decide +kernel) (Nat.le_of_ble_eq_true rfl) ?_
  intro v (F : vv_F v l cX8_all 3 RX8 "all" (some .int) [] (rm 0 0) Kf (mWd D ad cI cZ A) A _)
  show v σ 0 0 0 [(0, .ref (ad 0))] []
  refine v_iconst (x := 0) F dX8_all_0 rfl (by decide) ?_
  refine v_istore_n (ls' := [(1, .int 0), (0, .ref (ad 0))]) F dX8_all_1 rfl rfl (by decide) rfl ?_
  refine v_iconst (x := 0) F dX8_all_2 rfl (by decide) ?_
  refine v_istore_n (ls' := [(2, .int 0), (1, .int 0), (0, .ref (ad 0))]) F dX8_all_3 rfl rfl (by decide) rfl ?_
  have L4 : ∀ (nf : Nat) (p : Nat) (hpM : p ≤ tn (σ 0 13)) (hnf : tn (σ 0 13) - p < nf), v σ 0 0 4 [(0, .ref (ad 0)), (1, .int (sumN (fun p => σ 12 (3 * p + 2)) p)), (2, .int (nI p))] [] := by
    intro nf
    induction nf with
    | zero => intro p hpM hnf; exact absurd hnf (Nat.not_lt_zero _)
    | succ nf ih4 =>
      intro p hpM hnf
      refine v_iload_n F 2 dX8_all_4 rfl rfl rfl ?_
      refine v_aload_n F 0 dX8_all_5 rfl rfl rfl ?_
      refine m_get F G 13 (w := .int (σ 0 13)) (by decide) q1266 rfl dX8_all_6 rfl ?_
      refine v_int F (hM) ?_
      refine v_icmp_geN (a := p) (b := tn (σ 0 13)) (tgt := 31) (q := 12) F dX8_all_9 rfl rfl (by omega) (by omega) (fun c1 => ?_) (fun c1 => ?_)
      · skip
        refine v_iload_n F 1 dX8_all_31 rfl rfl rfl ?_
        exact v_reti F dX8_all_32 rfl (by rw [all_end c1 hpM]; rfl) (rfl)
      · skip
        refine v_iload_n F 1 dX8_all_12 rfl rfl rfl ?_
        refine v_aload_n F 0 dX8_all_13 rfl rfl rfl ?_
        refine m_get F G 12 (w := .ref (ad 12)) (by decide) q1265 rfl dX8_all_14 rfl ?_
        refine v_iconst (x := 3) F dX8_all_17 rfl (by decide) ?_
        refine v_iload_n F 2 dX8_all_18 rfl rfl rfl ?_
        refine v_imulN (a := 3) (b := p) F dX8_all_19 rfl ?_
        refine v_iconst (x := 2) F dX8_all_20 rfl (by decide) ?_
        refine v_iaddN (a := 3 * p) (b := 2) F dX8_all_21 rfl ?_
        refine m_ald12 (t := (3 * p) + 2) F G (by omega) dX8_all_22 rfl ?_
        refine v_iadd F dX8_all_23 rfl ?_
        refine v_istore_n (ls' := [(1, .int ((sumN (fun p => σ 12 (3 * p + 2)) p) + (σ 12 ((3 * p) + 2)))), (0, .ref (ad 0)), (2, .int (nI p))]) F dX8_all_24 rfl rfl (by decide) rfl ?_
        refine v_iincN (ls' := [(2, .int (nI (p + 1))), (1, .int ((sumN (fun p => σ 12 (3 * p + 2)) p) + (σ 12 ((3 * p) + 2)))), (0, .ref (ad 0))]) F 2 dX8_all_25 rfl rfl (by decide) rfl ?_
        refine v_goto (tgt := 4) F dX8_all_28 rfl ?_
        refine v_sub (ls' := [(0, .ref (ad 0)), (1, .int ((sumN (fun p => σ 12 (3 * p + 2)) p) + (σ 12 ((3 * p) + 2)))), (2, .int (nI (p + 1)))]) F [2, 1, 0] rfl ?_
        exact ih4 (p + 1) (by omega) (by omega)
  refine v_sub (ls' := [(0, .ref (ad 0)), (1, .int 0), (2, .int 0)]) F [2, 1, 0] rfl ?_
  exact L4 _ 0 (Nat.zero_le _) (Nat.lt_succ_self _)
theorem ok_X8_bloom : vv_oc yX8_bloom 3 0 (ws_ yX8_bloom cX8_bloom 3 (some .int)) := vv_ok.oc (rt := (some .int)) ⟨q1690, q133, by decide +kernel, by decide +kernel⟩
theorem is_X8_bloom : Cond.instanceMethod yX8_bloom ∈ lw_all ∧ Cond.selects RX8 yX8_bloom yX8_bloom ∈ lw_all := ⟨q1689, qs107⟩
set_option maxHeartbeats 4000000 in
theorem cm_X8_bloom {l : Launch} {Kf : State → Prop} {D : va_G} {ad : Nat → Nat} {cI cZ : ClassId} {A : Nat → Prop} (G : mG A Kf D cI cZ)  (σ : mS)  (hM : σ 0 13 = nI (tn (σ 0 13))) (hM8 : tn (σ 0 13) ≤ 8) : vv_Ct l yX8_bloom (ws_ yX8_bloom cX8_bloom 3 (some .int)) (rm 2 46) Kf (mWd D ad cI cZ A) A [.ref (ad 0)] σ (vv_i (bloV (ab σ)) (fun u => u = σ)) := by
  refine vv_of (by decide +kernel) (Nat.le_of_ble_eq_true rfl) ?_
  intro v (F : vv_F v l cX8_bloom 3 RX8 "bloom" (some .int) [] (rm 2 46) Kf (mWd D ad cI cZ A) A _)
  show v σ 0 0 0 [(0, .ref (ad 0))] []
  refine v_iconst (x := 0) F dX8_bloom_0 rfl (by decide) ?_
  refine v_istore_n (ls' := [(1, .int 0), (0, .ref (ad 0))]) F dX8_bloom_1 rfl rfl (by decide) rfl ?_
  refine v_iconst (x := 0) F dX8_bloom_2 rfl (by decide) ?_
  refine v_istore_n (ls' := [(2, .int 0), (1, .int 0), (0, .ref (ad 0))]) F dX8_bloom_3 rfl rfl (by decide) rfl ?_
  have L4 : ∀ (nf : Nat) (p : Nat) (hpM : p ≤ tn (σ 0 13)) (hnf : tn (σ 0 13) - p < nf), v σ 0 0 4 [(0, .ref (ad 0)), (1, .int (sumN (fun p => floV (ab σ) p (σ 12 (3 * p + 2))) p)), (2, .int (nI p))] [] := by
    intro nf
    induction nf with
    | zero => intro p hpM hnf; exact absurd hnf (Nat.not_lt_zero _)
    | succ nf ih4 =>
      intro p hpM hnf
      refine v_iload_n F 2 dX8_bloom_4 rfl rfl rfl ?_
      refine v_aload_n F 0 dX8_bloom_5 rfl rfl rfl ?_
      refine m_get F G 13 (w := .int (σ 0 13)) (by decide) q1266 rfl dX8_bloom_6 rfl ?_
      refine v_int F (hM) ?_
      refine v_icmp_geN (a := p) (b := tn (σ 0 13)) (tgt := 36) (q := 12) F dX8_bloom_9 rfl rfl (by omega) (by omega) (fun c1 => ?_) (fun c1 => ?_)
      · skip
        refine v_iload_n F 1 dX8_bloom_36 rfl rfl rfl ?_
        exact v_reti F dX8_bloom_37 rfl (by rw [all_end c1 hpM]; rfl) (rfl)
      · skip
        refine v_iload_n F 1 dX8_bloom_12 rfl rfl rfl ?_
        refine v_aload_n F 0 dX8_bloom_13 rfl rfl rfl ?_
        refine v_iload_n F 2 dX8_bloom_14 rfl rfl rfl ?_
        refine v_aload_n F 0 dX8_bloom_15 rfl rfl rfl ?_
        refine m_get F G 12 (w := .ref (ad 12)) (by decide) q1265 rfl dX8_bloom_16 rfl ?_
        refine v_iconst (x := 3) F dX8_bloom_19 rfl (by decide) ?_
        refine v_iload_n F 2 dX8_bloom_20 rfl rfl rfl ?_
        refine v_imulN (a := 3) (b := p) F dX8_bloom_21 rfl ?_
        refine v_iconst (x := 2) F dX8_bloom_22 rfl (by decide) ?_
        refine v_iaddN (a := 3 * p) (b := 2) F dX8_bloom_23 rfl ?_
        refine m_ald12 (t := (3 * p) + 2) F G (by omega) dX8_bloom_24 rfl ?_
        refine m_calli F G (cm_X8_flowersOf G σ p (σ 12 ((3 * p) + 2)) (by omega)) ok_X8_flowersOf q1614 is_X8_flowersOf rfl rfl dX8_bloom_25 rfl rfl ?_
        intro u0 hu0; subst u0
        refine v_iadd F dX8_bloom_28 rfl ?_
        refine v_istore_n (ls' := [(1, .int ((sumN (fun p => floV (ab σ) p (σ 12 (3 * p + 2))) p) + (floV (ab σ) p (σ 12 ((3 * p) + 2))))), (0, .ref (ad 0)), (2, .int (nI p))]) F dX8_bloom_29 rfl rfl (by decide) rfl ?_
        refine v_iincN (ls' := [(2, .int (nI (p + 1))), (1, .int ((sumN (fun p => floV (ab σ) p (σ 12 (3 * p + 2))) p) + (floV (ab σ) p (σ 12 ((3 * p) + 2))))), (0, .ref (ad 0))]) F 2 dX8_bloom_30 rfl rfl (by decide) rfl ?_
        refine v_goto (tgt := 4) F dX8_bloom_33 rfl ?_
        refine v_sub (ls' := [(0, .ref (ad 0)), (1, .int ((sumN (fun p => floV (ab σ) p (σ 12 (3 * p + 2))) p) + (floV (ab σ) p (σ 12 ((3 * p) + 2))))), (2, .int (nI (p + 1)))]) F [2, 1, 0] rfl ?_
        exact ih4 (p + 1) (by omega) (by omega)
  refine v_sub (ls' := [(0, .ref (ad 0)), (1, .int 0), (2, .int 0)]) F [2, 1, 0] rfl ?_
  exact L4 _ 0 (Nat.zero_le _) (Nat.lt_succ_self _)
theorem ok_X8_worthAll : vv_oc yX8_worthAll 3 0 (ws_ yX8_worthAll cX8_worthAll 3 (some .int)) := vv_ok.oc (rt := (some .int)) ⟨q1740, q133, by decide +kernel, by decide +kernel⟩
theorem is_X8_worthAll : Cond.instanceMethod yX8_worthAll ∈ lw_all ∧ Cond.selects RX8 yX8_worthAll yX8_worthAll ∈ lw_all := ⟨q1739, qs112⟩
set_option maxHeartbeats 4000000 in
theorem cm_X8_worthAll {l : Launch} {Kf : State → Prop} {D : va_G} {ad : Nat → Nat} {cI cZ : ClassId} {A : Nat → Prop} (G : mG A Kf D cI cZ)  (σ : mS)  (hw : Wf (ab σ)) : vv_Ct l yX8_worthAll (ws_ yX8_worthAll cX8_worthAll 3 (some .int)) (rm 44 973) Kf (mWd D ad cI cZ A) A [.ref (ad 0)] σ (vv_i (wrtV (ab σ)) (fun u => ab u = ab σ)) := by
  refine vv_of (by decide +kernel) (Nat.le_of_ble_eq_true rfl) ?_
  intro v (F : vv_F v l cX8_worthAll 3 RX8 "worthAll" (some .int) [] (rm 44 973) Kf (mWd D ad cI cZ A) A _)
  show v σ 0 0 0 [(0, .ref (ad 0))] []
  have hM : σ 0 13 = nI (tn (σ 0 13)) := hw.1.1.1
  have hM8 : tn (σ 0 13) ≤ 8 := hw.1.1.2
  refine v_iconst (x := 0) F dX8_worthAll_0 rfl (by decide) ?_
  refine v_istore_n (ls' := [(1, .int 0), (0, .ref (ad 0))]) F dX8_worthAll_1 rfl rfl (by decide) rfl ?_
  refine v_iconst (x := 0) F dX8_worthAll_2 rfl (by decide) ?_
  refine v_istore_n (ls' := [(2, .int 0), (1, .int 0), (0, .ref (ad 0))]) F dX8_worthAll_3 rfl rfl (by decide) rfl ?_
  have L4 : ∀ (nf : Nat) (s : mS) (p : Nat) (x : Int32) (hpM : p ≤ tn (σ 0 13)) (hs : ab s = ab σ) (hx : x = sumN (worV (ab σ)) p) (hnf : tn (σ 0 13) - p < nf), v s 0 0 4 [(0, .ref (ad 0)), (1, .int x), (2, .int (nI p))] [] := by
    intro nf
    induction nf with
    | zero => intro s p x hpM hs hx hnf; exact absurd hnf (Nat.not_lt_zero _)
    | succ nf ih4 =>
      intro s p x hpM hs hx hnf
      have hws : Wf (ab s) := by rw [hs]; exact hw
      have h13 : s 0 13 = nI (tn (σ 0 13)) := (ab_eq hs 0 13 rfl).trans hM
      have h13t : tn (s 0 13) = tn (σ 0 13) := by rw [ab_eq hs 0 13 rfl]
      refine v_iload_n F 2 dX8_worthAll_4 rfl rfl rfl ?_
      refine v_aload_n F 0 dX8_worthAll_5 rfl rfl rfl ?_
      refine m_get F G 13 (w := .int (s 0 13)) (by decide) q1266 rfl dX8_worthAll_6 rfl ?_
      refine v_int F (h13) ?_
      refine v_icmp_geN (a := p) (b := tn (σ 0 13)) (tgt := 26) (q := 12) F dX8_worthAll_9 rfl rfl (by omega) (by omega) (fun c1 => ?_) (fun c1 => ?_)
      · skip
        refine v_iload_n F 1 dX8_worthAll_26 rfl rfl rfl ?_
        exact v_reti F dX8_worthAll_27 rfl (by rw [hx, all_end c1 hpM]; rfl) (hs)
      · skip
        refine v_iload_n F 1 dX8_worthAll_12 rfl rfl rfl ?_
        refine v_aload_n F 0 dX8_worthAll_13 rfl rfl rfl ?_
        refine v_iload_n F 2 dX8_worthAll_14 rfl rfl rfl ?_
        refine m_calli F G (cm_X8_worthOf G s p hws (by omega)) ok_X8_worthOf q1655 is_X8_worthOf rfl rfl dX8_worthAll_15 rfl rfl ?_
        intro t2 hb2
        refine v_iadd F dX8_worthAll_18 rfl ?_
        refine v_istore_n (ls' := [(1, .int (x + (worV (ab s) p))), (0, .ref (ad 0)), (2, .int (nI p))]) F dX8_worthAll_19 rfl rfl (by decide) rfl ?_
        refine v_iincN (ls' := [(2, .int (nI (p + 1))), (1, .int (x + (worV (ab s) p))), (0, .ref (ad 0))]) F 2 dX8_worthAll_20 rfl rfl (by decide) rfl ?_
        refine v_goto (tgt := 4) F dX8_worthAll_23 rfl ?_
        refine v_sub (ls' := [(0, .ref (ad 0)), (1, .int (x + (worV (ab s) p))), (2, .int (nI (p + 1)))]) F [2, 1, 0] rfl ?_
        exact ih4 t2 (p + 1) (x + (worV (ab s) p)) (by omega) (hb2.trans hs) (by rw [hx, hs]; rfl) (by omega)
  refine v_sub (ls' := [(0, .ref (ad 0)), (1, .int 0), (2, .int 0)]) F [2, 1, 0] rfl ?_
  exact L4 _ σ 0 0 (Nat.zero_le _) rfl rfl (Nat.lt_succ_self _)
theorem ok_X8_laysAside : vv_oc yX8_laysAside 2 0 (ws_ yX8_laysAside cX8_laysAside 2 none) := vv_ok.oc (rt := none) ⟨q1682, q133, by decide +kernel, by decide +kernel⟩
theorem is_X8_laysAside : Cond.instanceMethod yX8_laysAside ∈ lw_all ∧ Cond.selects RX8 yX8_laysAside yX8_laysAside ∈ lw_all := ⟨q1681, qs105⟩
set_option maxHeartbeats 4000000 in
theorem cm_X8_laysAside {l : Launch} {Kf : State → Prop} {D : va_G} {ad : Nat → Nat} {cI cZ : ClassId} {A : Nat → Prop} (G : mG A Kf D cI cZ)  (σ : mS)   : vv_Ct l yX8_laysAside (ws_ yX8_laysAside cX8_laysAside 2 none) (rm 0 0) Kf (mWd D ad cI cZ A) A [.ref (ad 0)] σ (vv_n (fun u => ab u = asd (ab σ))) := by
  refine vv_of (by decide +kernel) (Nat.le_of_ble_eq_true rfl) ?_
  intro v (F : vv_F v l cX8_laysAside 2 RX8 "laysAside" none [] (rm 0 0) Kf (mWd D ad cI cZ A) A _)
  show v σ 0 0 0 [(0, .ref (ad 0))] []
  refine v_iconst (x := 0) F dX8_laysAside_0 rfl (by decide) ?_
  refine v_istore_n (ls' := [(1, .int 0), (0, .ref (ad 0))]) F dX8_laysAside_1 rfl rfl (by decide) rfl ?_
  have L2 : ∀ (nf : Nat) (s : mS) (j : Nat) (hj : j ≤ 24) (hs : asJ 29 12 σ s j) (hnf : 24 - j < nf), v s 0 0 2 [(0, .ref (ad 0)), (1, .int (nI j))] [] := by
    intro nf
    induction nf with
    | zero => intro s j hj hs hnf; exact absurd hnf (Nat.not_lt_zero _)
    | succ nf ih2 =>
      intro s j hj hs hnf
      refine v_iload_n F 1 dX8_laysAside_2 rfl rfl rfl ?_
      refine v_bipush (x := 24) F dX8_laysAside_3 rfl (by decide) ?_
      refine v_icmp_geN (a := j) (b := 24) (tgt := 26) (q := 8) F dX8_laysAside_5 rfl rfl (by omega) (by omega) (fun c1 => ?_) (fun c1 => ?_)
      · skip
        refine v_aload_n F 0 dX8_laysAside_26 rfl rfl rfl ?_
        refine v_aload_n F 0 dX8_laysAside_27 rfl rfl rfl ?_
        refine m_get F G 7 (w := .int (s 0 7)) (by decide) q1260 rfl dX8_laysAside_28 rfl ?_
        refine m_put30 F G q1283 dX8_laysAside_31 rfl ?_
        exact v_retn F dX8_laysAside_34 rfl (asd_end hs c1 hj)
      · skip
        refine v_aload_n F 0 dX8_laysAside_8 rfl rfl rfl ?_
        refine m_get F G 29 (w := .ref (ad 29)) (by decide) q1282 rfl dX8_laysAside_9 rfl ?_
        refine v_iload_n F 1 dX8_laysAside_12 rfl rfl rfl ?_
        refine v_aload_n F 0 dX8_laysAside_13 rfl rfl rfl ?_
        refine m_get F G 12 (w := .ref (ad 12)) (by decide) q1265 rfl dX8_laysAside_14 rfl ?_
        refine v_iload_n F 1 dX8_laysAside_17 rfl rfl rfl ?_
        refine m_ald12 (t := j) F G (by omega) dX8_laysAside_18 rfl ?_
        refine m_ast29 (t := j) F G (by omega) dX8_laysAside_19 rfl ?_
        refine v_iincN (ls' := [(1, .int (nI (j + 1))), (0, .ref (ad 0))]) F 1 dX8_laysAside_20 rfl rfl (by decide) rfl ?_
        refine v_goto (tgt := 2) F dX8_laysAside_23 rfl ?_
        refine v_sub (ls' := [(0, .ref (ad 0)), (1, .int (nI (j + 1)))]) F [1, 0] rfl ?_
        exact ih2 (up s 29 j (s 12 j)) (j + 1) (by omega) (asJ_s (by decide) hs) (by omega)
  refine v_sub (ls' := [(0, .ref (ad 0)), (1, .int 0)]) F [1, 0] rfl ?_
  exact L2 _ σ 0 (by decide) asJ_0 (Nat.lt_succ_self _)
theorem ok_X8_laysBack : vv_oc yX8_laysBack 2 0 (ws_ yX8_laysBack cX8_laysBack 2 none) := vv_ok.oc (rt := none) ⟨q1698, q133, by decide +kernel, by decide +kernel⟩
theorem is_X8_laysBack : Cond.instanceMethod yX8_laysBack ∈ lw_all ∧ Cond.selects RX8 yX8_laysBack yX8_laysBack ∈ lw_all := ⟨q1697, qs109⟩
set_option maxHeartbeats 4000000 in
theorem cm_X8_laysBack {l : Launch} {Kf : State → Prop} {D : va_G} {ad : Nat → Nat} {cI cZ : ClassId} {A : Nat → Prop} (G : mG A Kf D cI cZ)  (σ : mS)   : vv_Ct l yX8_laysBack (ws_ yX8_laysBack cX8_laysBack 2 none) (rm 0 0) Kf (mWd D ad cI cZ A) A [.ref (ad 0)] σ (vv_n (fun u => ab u = bck (ab σ))) := by
  refine vv_of (by decide +kernel) (Nat.le_of_ble_eq_true rfl) ?_
  intro v (F : vv_F v l cX8_laysBack 2 RX8 "laysBack" none [] (rm 0 0) Kf (mWd D ad cI cZ A) A _)
  show v σ 0 0 0 [(0, .ref (ad 0))] []
  refine v_iconst (x := 0) F dX8_laysBack_0 rfl (by decide) ?_
  refine v_istore_n (ls' := [(1, .int 0), (0, .ref (ad 0))]) F dX8_laysBack_1 rfl rfl (by decide) rfl ?_
  have L2 : ∀ (nf : Nat) (s : mS) (j : Nat) (hj : j ≤ 24) (hs : asJ 12 29 σ s j) (hnf : 24 - j < nf), v s 0 0 2 [(0, .ref (ad 0)), (1, .int (nI j))] [] := by
    intro nf
    induction nf with
    | zero => intro s j hj hs hnf; exact absurd hnf (Nat.not_lt_zero _)
    | succ nf ih2 =>
      intro s j hj hs hnf
      refine v_iload_n F 1 dX8_laysBack_2 rfl rfl rfl ?_
      refine v_bipush (x := 24) F dX8_laysBack_3 rfl (by decide) ?_
      refine v_icmp_geN (a := j) (b := 24) (tgt := 26) (q := 8) F dX8_laysBack_5 rfl rfl (by omega) (by omega) (fun c1 => ?_) (fun c1 => ?_)
      · skip
        refine v_aload_n F 0 dX8_laysBack_26 rfl rfl rfl ?_
        refine v_aload_n F 0 dX8_laysBack_27 rfl rfl rfl ?_
        refine m_get F G 30 (w := .int (s 0 30)) (by decide) q1283 rfl dX8_laysBack_28 rfl ?_
        refine m_put7 F G q1260 dX8_laysBack_31 rfl ?_
        exact v_retn F dX8_laysBack_34 rfl (bck_end hs c1 hj)
      · skip
        refine v_aload_n F 0 dX8_laysBack_8 rfl rfl rfl ?_
        refine m_get F G 12 (w := .ref (ad 12)) (by decide) q1265 rfl dX8_laysBack_9 rfl ?_
        refine v_iload_n F 1 dX8_laysBack_12 rfl rfl rfl ?_
        refine v_aload_n F 0 dX8_laysBack_13 rfl rfl rfl ?_
        refine m_get F G 29 (w := .ref (ad 29)) (by decide) q1282 rfl dX8_laysBack_14 rfl ?_
        refine v_iload_n F 1 dX8_laysBack_17 rfl rfl rfl ?_
        refine m_ald29 (t := j) F G (by omega) dX8_laysBack_18 rfl ?_
        refine m_ast12 (t := j) F G (by omega) dX8_laysBack_19 rfl ?_
        refine v_iincN (ls' := [(1, .int (nI (j + 1))), (0, .ref (ad 0))]) F 1 dX8_laysBack_20 rfl rfl (by decide) rfl ?_
        refine v_goto (tgt := 2) F dX8_laysBack_23 rfl ?_
        refine v_sub (ls' := [(0, .ref (ad 0)), (1, .int (nI (j + 1)))]) F [1, 0] rfl ?_
        exact ih2 (up s 12 j (s 29 j)) (j + 1) (by omega) (asJ_s (by decide) hs) (by omega)
  refine v_sub (ls' := [(0, .ref (ad 0)), (1, .int 0)]) F [1, 0] rfl ?_
  exact L2 _ σ 0 (by decide) asJ_0 (Nat.lt_succ_self _)
theorem ok_X8_heir : vv_oc yX8_heir 3 0 (ws_ yX8_heir cX8_heir 3 (some .int)) := vv_ok.oc (rt := (some .int)) ⟨q1694, q133, by decide +kernel, by decide +kernel⟩
theorem is_X8_heir : Cond.instanceMethod yX8_heir ∈ lw_all ∧ Cond.selects RX8 yX8_heir yX8_heir ∈ lw_all := ⟨q1693, qs108⟩
set_option maxHeartbeats 4000000 in
theorem cm_X8_heir {l : Launch} {Kf : State → Prop} {D : va_G} {ad : Nat → Nat} {cI cZ : ClassId} {A : Nat → Prop} (G : mG A Kf D cI cZ)  (σ : mS)  (hM : σ 0 13 = nI (tn (σ 0 13))) (hM8 : tn (σ 0 13) ≤ 8) : vv_Ct l yX8_heir (ws_ yX8_heir cX8_heir 3 (some .int)) (rm 0 0) Kf (mWd D ad cI cZ A) A [.ref (ad 0)] σ (vv_i (heiN (ab σ) (tn (σ 0 13))) (fun u => u = σ)) := by
  refine vv_of (by decide +kernel) (Nat.le_of_ble_eq_true rfl) ?_
  intro v (F : vv_F v l cX8_heir 3 RX8 "heir" (some .int) [] (rm 0 0) Kf (mWd D ad cI cZ A) A _)
  show v σ 0 0 0 [(0, .ref (ad 0))] []
  refine v_iconst (x := (-1)) F dX8_heir_0 rfl (by decide) ?_
  refine v_istore_n (ls' := [(1, .int (-1)), (0, .ref (ad 0))]) F dX8_heir_1 rfl rfl (by decide) rfl ?_
  refine v_iconst (x := 0) F dX8_heir_2 rfl (by decide) ?_
  refine v_istore_n (ls' := [(2, .int 0), (1, .int (-1)), (0, .ref (ad 0))]) F dX8_heir_3 rfl rfl (by decide) rfl ?_
  have L4 : ∀ (nf : Nat) (p : Nat) (x : Int32) (hpM : p ≤ tn (σ 0 13)) (hx : x = heiN (ab σ) p) (hxk : x = -1 ∨ ∃ m, m < p ∧ x = nI m) (hnf : tn (σ 0 13) - p < nf), v σ 0 0 4 [(0, .ref (ad 0)), (1, .int x), (2, .int (nI p))] [] := by
    intro nf
    induction nf with
    | zero => intro p x hpM hx hxk hnf; exact absurd hnf (Nat.not_lt_zero _)
    | succ nf ih4 =>
      intro p x hpM hx hxk hnf
      refine v_iload_n F 2 dX8_heir_4 rfl rfl rfl ?_
      refine v_aload_n F 0 dX8_heir_5 rfl rfl rfl ?_
      refine m_get F G 13 (w := .int (σ 0 13)) (by decide) q1266 rfl dX8_heir_6 rfl ?_
      refine v_int F (hM) ?_
      refine v_icmp_geN (a := p) (b := tn (σ 0 13)) (tgt := 52) (q := 12) F dX8_heir_9 rfl rfl (by omega) (by omega) (fun c1 => ?_) (fun c1 => ?_)
      · skip
        refine v_iload_n F 1 dX8_heir_52 rfl rfl rfl ?_
        exact v_reti F dX8_heir_53 rfl (by rw [hx, all_end c1 hpM]) (rfl)
      · skip
        refine v_iload_n F 1 dX8_heir_12 rfl rfl rfl ?_
        refine v_iconst (x := (-1)) F dX8_heir_13 rfl (by decide) ?_
        refine v_icmp_eq (tgt := 40) (q := 17) F dX8_heir_14 rfl rfl (fun c2 => ?_) (fun c2 => ?_)
        · skip
          refine v_iload_n F 2 dX8_heir_40 rfl rfl rfl ?_
          refine v_goto (tgt := 45) F dX8_heir_41 rfl ?_
          refine v_istore_n (ls' := [(1, .int (nI p)), (0, .ref (ad 0)), (2, .int (nI p))]) F dX8_heir_45 rfl rfl (by decide) rfl ?_
          refine v_iincN (ls' := [(2, .int (nI (p + 1))), (1, .int (nI p)), (0, .ref (ad 0))]) F 2 dX8_heir_46 rfl rfl (by decide) rfl ?_
          refine v_goto (tgt := 4) F dX8_heir_49 rfl ?_
          refine v_sub (ls' := [(0, .ref (ad 0)), (1, .int (nI p)), (2, .int (nI (p + 1)))]) F [2, 1, 0] rfl ?_
          exact ih4 (p + 1) (nI p) (by omega) (hei_1 hx c2) (Or.inr ⟨p, by omega, rfl⟩) (by omega)
        · skip
          obtain ⟨m, hmp, hm⟩ := hxk.resolve_left c2
          refine v_aload_n F 0 dX8_heir_17 rfl rfl rfl ?_
          refine m_get F G 12 (w := .ref (ad 12)) (by decide) q1265 rfl dX8_heir_18 rfl ?_
          refine v_iconst (x := 3) F dX8_heir_21 rfl (by decide) ?_
          refine v_iload_n F 2 dX8_heir_22 rfl rfl rfl ?_
          refine v_imulN (a := 3) (b := p) F dX8_heir_23 rfl ?_
          refine v_iconst (x := 2) F dX8_heir_24 rfl (by decide) ?_
          refine v_iaddN (a := 3 * p) (b := 2) F dX8_heir_25 rfl ?_
          refine m_ald12 (t := (3 * p) + 2) F G (by omega) dX8_heir_26 rfl ?_
          refine v_aload_n F 0 dX8_heir_27 rfl rfl rfl ?_
          refine m_get F G 12 (w := .ref (ad 12)) (by decide) q1265 rfl dX8_heir_28 rfl ?_
          refine v_iconst (x := 3) F dX8_heir_31 rfl (by decide) ?_
          refine v_iload_n F 1 dX8_heir_32 rfl rfl rfl ?_
          refine v_int F hm ?_
          refine v_imulN (a := 3) (b := m) F dX8_heir_33 rfl ?_
          refine v_iconst (x := 2) F dX8_heir_34 rfl (by decide) ?_
          refine v_iaddN (a := 3 * m) (b := 2) F dX8_heir_35 rfl ?_
          refine m_ald12 (t := (3 * m) + 2) F G (by omega) dX8_heir_36 rfl ?_
          refine v_icmp_le (tgt := 44) (q := 40) F dX8_heir_37 rfl rfl (fun c3 => ?_) (fun c3 => ?_)
          · skip
            refine v_iload_n F 1 dX8_heir_44 rfl rfl rfl ?_
            refine v_istore_n (ls' := [(1, .int x), (0, .ref (ad 0)), (2, .int (nI p))]) F dX8_heir_45 rfl rfl (by decide) rfl ?_
            refine v_iincN (ls' := [(2, .int (nI (p + 1))), (1, .int x), (0, .ref (ad 0))]) F 2 dX8_heir_46 rfl rfl (by decide) rfl ?_
            refine v_goto (tgt := 4) F dX8_heir_49 rfl ?_
            refine v_sub (ls' := [(0, .ref (ad 0)), (1, .int x), (2, .int (nI (p + 1)))]) F [2, 1, 0] rfl ?_
            exact ih4 (p + 1) x (by omega) (hei_3 hx hm (by omega) c3) (Or.inr ⟨m, by omega, hm⟩) (by omega)
          · skip
            refine v_iload_n F 2 dX8_heir_40 rfl rfl rfl ?_
            refine v_goto (tgt := 45) F dX8_heir_41 rfl ?_
            refine v_istore_n (ls' := [(1, .int (nI p)), (0, .ref (ad 0)), (2, .int (nI p))]) F dX8_heir_45 rfl rfl (by decide) rfl ?_
            refine v_iincN (ls' := [(2, .int (nI (p + 1))), (1, .int (nI p)), (0, .ref (ad 0))]) F 2 dX8_heir_46 rfl rfl (by decide) rfl ?_
            refine v_goto (tgt := 4) F dX8_heir_49 rfl ?_
            refine v_sub (ls' := [(0, .ref (ad 0)), (1, .int (nI p)), (2, .int (nI (p + 1)))]) F [2, 1, 0] rfl ?_
            exact ih4 (p + 1) (nI p) (by omega) (hei_2 hx hm (by omega) c3) (Or.inr ⟨p, by omega, rfl⟩) (by omega)
  refine v_sub (ls' := [(0, .ref (ad 0)), (1, .int (-1)), (2, .int 0)]) F [2, 1, 0] rfl ?_
  exact L4 _ 0 (-1) (Nat.zero_le _) rfl (Or.inl rfl) (Nat.lt_succ_self _)
