set_option maxRecDepth 100000
theorem ok_X8_found : vv_oc yX8_found 14 3 (ws_ yX8_found cX8_found 14 (some .long)) := vv_ok.oc (rt := (some .long)) ⟨q1707, q133, by decide +kernel, by decide +kernel⟩
theorem is_X8_found : Cond.instanceMethod yX8_found ∈ lw_all ∧ Cond.selects RX8 yX8_found yX8_found ∈ lw_all := ⟨q1705, q1706⟩
set_option maxHeartbeats 4000000 in
theorem cm_X8_found {l : Launch} {Kf : State → Prop} {D : va_G} {ad : Nat → Nat} {cI cZ : ClassId} {A : Nat → Prop} (G : mG A Kf D cI cZ)  (σ : mS) (o : Int32) (n : Int32) (k : Int32) (hw : Wf (ab σ)) : vv_Ct l yX8_found (ws_ yX8_found cX8_found 14 (some .long)) (rm 46 1023) Kf (mWd D ad cI cZ A) A [.ref (ad 0), .int o, .int n, .int k] σ (vv_j (fouR (ab σ) o n k) (fun u => nb u = nb σ)) := by
  refine vv_of (by decide +kernel) (Nat.le_of_ble_eq_true rfl) ?_
  intro v (F : vv_F v l cX8_found 14 RX8 "found" (some .long) [] (rm 46 1023) Kf (mWd D ad cI cZ A) A _)
  show v σ 0 0 0 [(0, .ref (ad 0)), (1, .int o), (2, .int n), (3, .int k)] []
  have hM : σ 0 13 = nI (tn (σ 0 13)) := hw.1.1.1
  have hM8 : tn (σ 0 13) ≤ 8 := hw.1.1.2
  refine v_aload_n F 0 dX8_found_0 rfl rfl rfl ?_
  refine v_iload_n F 1 dX8_found_1 rfl rfl rfl ?_
  refine m_calli F G (cm_X8_isPlanting G σ o ) ok_X8_isPlanting q1397 is_X8_isPlanting rfl rfl dX8_found_2 rfl rfl ?_
  intro u0 hu0; subst u0
  refine v_if_eqB (p := (0 ≤ o ∧ o ≤ σ 0 13 - 1)) (tgt := 30) (q := 8) F dX8_found_5 rfl rfl (fun c1 => ?_) (fun c1 => ?_)
  · skip
    refine v_ldc2 F q1709 dX8_found_30 rfl ?_
    exact v_retj F dX8_found_33 rfl (by unfold fouR; rw [if_neg (show ¬ fouOK (ab σ) o n k from (fun h => c1 h.1))]) (rfl)
  · skip
    refine v_iload_n F 2 dX8_found_8 rfl rfl rfl ?_
    refine v_i2l F dX8_found_9 rfl ?_
    refine v_lconst (x := (0 : Int32).toInt64) F dX8_found_10 rfl (by decide) ?_
    refine v_ldc2 F q1708 dX8_found_11 rfl ?_
    refine v_lng (y := (8 : Int32).toInt64) F (by decide) ?_
    refine s_calli F G.1 (cm_X8_in G σ n 0 8 ) ok_X8_in q1386 q1387 rfl rfl dX8_found_14 rfl rfl ?_
    intro u0 hu0; subst u0
    refine v_if_eqB (p := (0 ≤ n ∧ n ≤ 8)) (tgt := 30) (q := 20) F dX8_found_17 rfl rfl (fun c2 => ?_) (fun c2 => ?_)
    · skip
      refine v_ldc2 F q1709 dX8_found_30 rfl ?_
      exact v_retj F dX8_found_33 rfl (by unfold fouR; rw [if_neg (show ¬ fouOK (ab σ) o n k from (fun h => c2 h.2.1))]) (rfl)
    · skip
      refine v_iload_n F 3 dX8_found_20 rfl rfl rfl ?_
      refine v_i2l F dX8_found_21 rfl ?_
      refine v_lconst (x := (0 : Int32).toInt64) F dX8_found_22 rfl (by decide) ?_
      refine v_lconst (x := (1 : Int32).toInt64) F dX8_found_23 rfl (by decide) ?_
      refine s_calli F G.1 (cm_X8_in G σ k 0 1 ) ok_X8_in q1386 q1387 rfl rfl dX8_found_24 rfl rfl ?_
      intro u0 hu0; subst u0
      refine v_if_neB (p := (0 ≤ k ∧ k ≤ 1)) (tgt := 34) (q := 30) F dX8_found_27 rfl rfl (fun c3 => ?_) (fun c3 => ?_)
      · skip
        obtain ⟨p, hp, hop⟩ := pl_of hM hM8 c1
        have htp : tn o = p := by rw [hop, tn_nI (by omega)]
        obtain ⟨m, hm, hnm⟩ := in_of (M := 8) (n := 8) (by decide) c2
        have htn : tn n = m := by rw [hnm, tn_nI (by omega)]
        have hA := hid_le (ab σ) p m hm
        have hC := pow8 hm
        refine v_aload_n F 0 dX8_found_34 rfl rfl rfl ?_
        refine v_iload_n F 1 dX8_found_35 rfl rfl rfl ?_
        refine v_int F (hop) ?_
        refine v_iload_n F 2 dX8_found_36 rfl rfl rfl ?_
        refine v_int F (hnm) ?_
        refine m_callj F G (cm_X8_hidden G σ p m hw hp (by omega)) ok_X8_hidden q1710 is_X8_hidden rfl rfl dX8_found_37 rfl rfl ?_
        intro t4 hq4
        refine v_lng F hA.1 ?_
        refine v_lstore (ls' := [(4, .long (lN (hidN (ab σ) p m))), (0, .ref (ad 0)), (1, .int o), (2, .int n), (3, .int k)]) F dX8_found_40 rfl (by decide) rfl ?_
        refine v_lconst (x := (1 : Int32).toInt64) F dX8_found_42 rfl (by decide) ?_
        refine v_lstore (ls' := [(6, .long ((1 : Int32).toInt64)), (4, .long (lN (hidN (ab σ) p m))), (0, .ref (ad 0)), (1, .int o), (2, .int n), (3, .int k)]) F dX8_found_43 rfl (by decide) rfl ?_
        refine v_iconst (x := 0) F dX8_found_45 rfl (by decide) ?_
        refine v_istore (ls' := [(8, .int 0), (6, .long ((1 : Int32).toInt64)), (4, .long (lN (hidN (ab σ) p m))), (0, .ref (ad 0)), (1, .int o), (2, .int n), (3, .int k)]) F dX8_found_46 rfl (by decide) rfl ?_
        have L48 : ∀ (nf : Nat) (j : Nat) (hj : j ≤ m) (hnf : m - j < nf), v t4 0 0 48 [(0, .ref (ad 0)), (1, .int o), (2, .int n), (3, .int k), (4, .long (lN (hidN (ab σ) p m))), (6, .long (lN (100 ^ j))), (8, .int (nI j))] [] := by
          intro nf
          induction nf with
          | zero => intro j hj hnf; exact absurd hnf (Nat.not_lt_zero _)
          | succ nf ih48 =>
            intro j hj hnf
            refine v_iload F 6 dX8_found_48 rfl rfl ?_
            refine v_iload_n F 2 dX8_found_50 rfl rfl rfl ?_
            refine v_int F (hnm) ?_
            refine v_icmp_geN (a := j) (b := m) (tgt := 68) (q := 54) F dX8_found_51 rfl rfl (by omega) (by omega) (fun c5 => ?_) (fun c5 => ?_)
            · skip
              have hjm : j = m := by omega
              refine v_lload F 4 dX8_found_68 rfl rfl ?_
              refine v_lstore (ls' := [(8, .long (lN (hidN (ab σ) p m))), (0, .ref (ad 0)), (1, .int o), (2, .int n), (3, .int k), (4, .long (lN (hidN (ab σ) p m))), (6, .long (lN (100 ^ j)))]) F dX8_found_70 rfl (by decide) rfl ?_
              refine v_lload F 6 dX8_found_72 rfl rfl ?_
              refine v_lng F (by rw [hjm]) ?_
              refine v_lstore (ls' := [(10, .long (lN (100 ^ m))), (8, .long (lN (hidN (ab σ) p m))), (0, .ref (ad 0)), (1, .int o), (2, .int n), (3, .int k), (4, .long (lN (hidN (ab σ) p m))), (6, .long (lN (100 ^ j)))]) F dX8_found_74 rfl (by decide) rfl ?_
              have L76 : ∀ (nf : Nat) (a : Nat) (b : Nat) (ha : a < 2 ^ 63) (hb : b < 2 ^ 63) (hg : Nat.gcd (hidN (ab σ) p m) (100 ^ m) = Nat.gcd a b) (hnf : b < nf), v t4 0 0 76 [(0, .ref (ad 0)), (1, .int o), (2, .int n), (3, .int k), (4, .long (lN (hidN (ab σ) p m))), (6, .long (lN (100 ^ j))), (8, .long (lN a)), (10, .long (lN b))] [] := by
                intro nf
                induction nf with
                | zero => intro a b ha hb hg hnf; exact absurd hnf (Nat.not_lt_zero _)
                | succ nf ih76 =>
                  intro a b ha hb hg hnf
                  refine v_lload F 7 dX8_found_76 rfl rfl ?_
                  refine v_lconst (x := (0 : Int32).toInt64) F dX8_found_78 rfl (by decide) ?_
                  refine v_lcmp F dX8_found_79 rfl ?_
                  refine v_if_eqL (tgt := 101) (q := 83) F dX8_found_80 rfl rfl (fun c6 => ?_) (fun c6 => ?_)
                  · skip
                    have hb0 : b = 0 := (pk_lEQ hb (by decide)).mp (c6.trans (by decide : (0 : Int32).toInt64 = lN 0))
                    have hgg : a = Nat.gcd (hidN (ab σ) p m) (100 ^ m) := gcd_0 (by rw [hg, hb0])
                    have hga : 0 < a := by rw [hgg]; exact Nat.gcd_pos_of_pos_right _ (Nat.pow_pos (by decide))
                    refine v_iload_n F 3 dX8_found_101 rfl rfl rfl ?_
                    refine v_if_ne (tgt := 113) (q := 105) F dX8_found_102 rfl rfl (fun c7 => ?_) (fun c7 => ?_)
                    · skip
                      refine v_lload F 5 dX8_found_113 rfl rfl ?_
                      refine v_lload F 6 dX8_found_115 rfl rfl ?_
                      refine v_ldiv F dX8_found_117 rfl (fun h => absurd ((pk_lEQ ha (by decide)).mp (h.trans (by decide : (0 : Int64) = lN 0))) (by omega)) ?_
                      exact v_retj F dX8_found_118 rfl (by unfold fouR low; rw [if_pos (show fouOK (ab σ) o n k from ⟨c1, c2, c3⟩), htp, htn, ← hgg]; rw [if_neg c7, hjm]; exact pk_lDiv (by omega) hga ha) (hq4)
                    · skip
                      refine v_lload F 4 dX8_found_105 rfl rfl ?_
                      refine v_lload F 6 dX8_found_107 rfl rfl ?_
                      refine v_ldiv F dX8_found_109 rfl (fun h => absurd ((pk_lEQ ha (by decide)).mp (h.trans (by decide : (0 : Int64) = lN 0))) (by omega)) ?_
                      refine v_goto (tgt := 118) F dX8_found_110 rfl ?_
                      exact v_retj F dX8_found_118 rfl (by unfold fouR low; rw [if_pos (show fouOK (ab σ) o n k from ⟨c1, c2, c3⟩), htp, htn, ← hgg]; rw [if_pos c7]; exact pk_lDiv (by omega) hga ha) (hq4)
                  · skip
                    have hb0 : 0 < b := Nat.pos_of_ne_zero (fun e => c6 (by rw [e]; decide))
                    refine v_lload F 6 dX8_found_83 rfl rfl ?_
                    refine v_lload F 7 dX8_found_85 rfl rfl ?_
                    refine v_lrem F dX8_found_87 rfl (fun h => absurd ((pk_lEQ hb (by decide)).mp (h.trans (by decide : (0 : Int64) = lN 0))) (by omega)) ?_
                    refine v_lng F (pk_lRem ha hb0 hb) ?_
                    refine v_lstore (ls' := [(12, .long (lN (a % b))), (0, .ref (ad 0)), (1, .int o), (2, .int n), (3, .int k), (4, .long (lN (hidN (ab σ) p m))), (6, .long (lN (100 ^ j))), (8, .long (lN a)), (10, .long (lN b))]) F dX8_found_88 rfl (by decide) rfl ?_
                    refine v_lload F 8 dX8_found_90 rfl rfl ?_
                    refine v_lstore (ls' := [(8, .long (lN b)), (12, .long (lN (a % b))), (0, .ref (ad 0)), (1, .int o), (2, .int n), (3, .int k), (4, .long (lN (hidN (ab σ) p m))), (6, .long (lN (100 ^ j))), (10, .long (lN b))]) F dX8_found_92 rfl (by decide) rfl ?_
                    refine v_lload F 1 dX8_found_94 rfl rfl ?_
                    refine v_lstore (ls' := [(10, .long (lN (a % b))), (8, .long (lN b)), (12, .long (lN (a % b))), (0, .ref (ad 0)), (1, .int o), (2, .int n), (3, .int k), (4, .long (lN (hidN (ab σ) p m))), (6, .long (lN (100 ^ j)))]) F dX8_found_96 rfl (by decide) rfl ?_
                    refine v_goto (tgt := 76) F dX8_found_98 rfl ?_
                    refine v_sub (ls' := [(0, .ref (ad 0)), (1, .int o), (2, .int n), (3, .int k), (4, .long (lN (hidN (ab σ) p m))), (6, .long (lN (100 ^ j))), (8, .long (lN b)), (10, .long (lN (a % b)))]) F [3, 4, 5, 6, 7, 8, 1, 0] rfl ?_
                    exact ih76 b (a % b) hb (Nat.lt_of_lt_of_le (Nat.mod_lt _ hb0) (by omega)) (hg.trans (gcd_go hb0)) (Nat.lt_of_lt_of_le (Nat.mod_lt a hb0) (by omega))
              refine v_sub (ls' := [(0, .ref (ad 0)), (1, .int o), (2, .int n), (3, .int k), (4, .long (lN (hidN (ab σ) p m))), (6, .long (lN (100 ^ j))), (8, .long (lN (hidN (ab σ) p m))), (10, .long (lN (100 ^ m)))]) F [2, 3, 4, 5, 6, 7, 1, 0] rfl ?_
              exact L76 _ (hidN (ab σ) p m) (100 ^ m) (by omega) (by omega) rfl (Nat.lt_succ_self _)
            · skip
              refine v_lload F 5 dX8_found_54 rfl rfl ?_
              refine v_ldc2 F q1714 dX8_found_56 rfl ?_
              refine v_lng (y := (100 : Int32).toInt64) F (by decide) ?_
              refine v_lmul F dX8_found_59 rfl ?_
              refine v_lng F (y := lN (100 ^ (j + 1))) (by rw [show (100 : Int32).toInt64 = lN 100 by decide, lN_mul, Nat.pow_succ]) ?_
              refine v_lstore (ls' := [(6, .long (lN (100 ^ (j + 1)))), (0, .ref (ad 0)), (1, .int o), (2, .int n), (3, .int k), (4, .long (lN (hidN (ab σ) p m))), (8, .int (nI j))]) F dX8_found_60 rfl (by decide) rfl ?_
              refine v_iincN (ls' := [(8, .int (nI (j + 1))), (6, .long (lN (100 ^ (j + 1)))), (0, .ref (ad 0)), (1, .int o), (2, .int n), (3, .int k), (4, .long (lN (hidN (ab σ) p m)))]) F 6 dX8_found_62 rfl rfl (by decide) rfl ?_
              refine v_goto (tgt := 48) F dX8_found_65 rfl ?_
              refine v_sub (ls' := [(0, .ref (ad 0)), (1, .int o), (2, .int n), (3, .int k), (4, .long (lN (hidN (ab σ) p m))), (6, .long (lN (100 ^ (j + 1)))), (8, .int (nI (j + 1)))]) F [2, 3, 4, 5, 6, 1, 0] rfl ?_
              exact ih48 (j + 1) (by omega) (by omega)
        refine v_sub (ls' := [(0, .ref (ad 0)), (1, .int o), (2, .int n), (3, .int k), (4, .long (lN (hidN (ab σ) p m))), (6, .long ((1 : Int32).toInt64)), (8, .int 0)]) F [3, 4, 5, 6, 2, 1, 0] rfl ?_
        exact L48 _ 0 (Nat.zero_le _) (Nat.lt_succ_self _)
      · skip
        refine v_ldc2 F q1709 dX8_found_30 rfl ?_
        exact v_retj F dX8_found_33 rfl (by unfold fouR; rw [if_neg (show ¬ fouOK (ab σ) o n k from (fun h => c3 h.2.2))]) (rfl)
theorem ok_X8_soil : vv_oc yX8_soil 9 3 (ws_ yX8_soil cX8_soil 9 (some .int)) := vv_ok.oc (rt := (some .int)) ⟨q1718, q133, by decide +kernel, by decide +kernel⟩
theorem is_X8_soil : Cond.instanceMethod yX8_soil ∈ lw_all ∧ Cond.selects RX8 yX8_soil yX8_soil ∈ lw_all := ⟨q1716, q1717⟩
set_option maxHeartbeats 4000000 in
theorem cm_X8_soil {l : Launch} {Kf : State → Prop} {D : va_G} {ad : Nat → Nat} {cI cZ : ClassId} {A : Nat → Prop} (G : mG A Kf D cI cZ)  (σ : mS) (o : Int32) (n : Int32) (k : Int32) (hw : Wf (ab σ)) : vv_Ct l yX8_soil (ws_ yX8_soil cX8_soil 9 (some .int)) (rm 46 1021) Kf (mWd D ad cI cZ A) A [.ref (ad 0), .int o, .int n, .int k] σ (vv_i (soiR (ab σ) o n k) (fun u => nb u = nb σ)) := by
  refine vv_of (by decide +kernel) (Nat.le_of_ble_eq_true rfl) ?_
  intro v (F : vv_F v l cX8_soil 9 RX8 "soil" (some .int) [] (rm 46 1021) Kf (mWd D ad cI cZ A) A _)
  show v σ 0 0 0 [(0, .ref (ad 0)), (1, .int o), (2, .int n), (3, .int k)] []
  have hM : σ 0 13 = nI (tn (σ 0 13)) := hw.1.1.1
  have hM8 : tn (σ 0 13) ≤ 8 := hw.1.1.2
  refine v_aload_n F 0 dX8_soil_0 rfl rfl rfl ?_
  refine v_iload_n F 1 dX8_soil_1 rfl rfl rfl ?_
  refine m_calli F G (cm_X8_isPlanting G σ o ) ok_X8_isPlanting q1397 is_X8_isPlanting rfl rfl dX8_soil_2 rfl rfl ?_
  intro u0 hu0; subst u0
  refine v_if_eqB (p := (0 ≤ o ∧ o ≤ σ 0 13 - 1)) (tgt := 30) (q := 8) F dX8_soil_5 rfl rfl (fun c1 => ?_) (fun c1 => ?_)
  · skip
    refine v_bipush (x := (-2)) F dX8_soil_30 rfl (by decide) ?_
    exact v_reti F dX8_soil_32 rfl (by unfold soiR; rw [if_neg (show ¬ soiOK (ab σ) o n k from (fun h => c1 h.1))]) (rfl)
  · skip
    refine v_iload_n F 2 dX8_soil_8 rfl rfl rfl ?_
    refine v_i2l F dX8_soil_9 rfl ?_
    refine v_lconst (x := (0 : Int32).toInt64) F dX8_soil_10 rfl (by decide) ?_
    refine v_ldc2 F q1676 dX8_soil_11 rfl ?_
    refine v_lng (y := (30 : Int32).toInt64) F (by decide) ?_
    refine s_calli F G.1 (cm_X8_in G σ n 0 30 ) ok_X8_in q1386 q1387 rfl rfl dX8_soil_14 rfl rfl ?_
    intro u0 hu0; subst u0
    refine v_if_eqB (p := (0 ≤ n ∧ n ≤ 30)) (tgt := 30) (q := 20) F dX8_soil_17 rfl rfl (fun c2 => ?_) (fun c2 => ?_)
    · skip
      refine v_bipush (x := (-2)) F dX8_soil_30 rfl (by decide) ?_
      exact v_reti F dX8_soil_32 rfl (by unfold soiR; rw [if_neg (show ¬ soiOK (ab σ) o n k from (fun h => c2 h.2.1))]) (rfl)
    · skip
      refine v_iload_n F 3 dX8_soil_20 rfl rfl rfl ?_
      refine v_i2l F dX8_soil_21 rfl ?_
      refine v_lconst (x := (0 : Int32).toInt64) F dX8_soil_22 rfl (by decide) ?_
      refine v_lconst (x := (1 : Int32).toInt64) F dX8_soil_23 rfl (by decide) ?_
      refine s_calli F G.1 (cm_X8_in G σ k 0 1 ) ok_X8_in q1386 q1387 rfl rfl dX8_soil_24 rfl rfl ?_
      intro u0 hu0; subst u0
      refine v_if_neB (p := (0 ≤ k ∧ k ≤ 1)) (tgt := 33) (q := 30) F dX8_soil_27 rfl rfl (fun c3 => ?_) (fun c3 => ?_)
      · skip
        obtain ⟨p, hp, hop⟩ := pl_of hM hM8 c1
        have htp : tn o = p := by rw [hop, tn_nI (by omega)]
        obtain ⟨m, hm, hnm⟩ := in_of (M := 30) (n := 30) (by decide) c2
        have htn : tn n = m := by rw [hnm, tn_nI (by omega)]
        have hg : σ 12 (3 * p + 1) = nI (tn (σ 12 (3 * p + 1))) := (hw.2.1 p hp).1.1
        have hg7 : tn (σ 12 (3 * p + 1)) ≤ 7 := (hw.2.1 p hp).1.2
        refine v_aload_n F 0 dX8_soil_33 rfl rfl rfl ?_
        refine m_get F G 12 (w := .ref (ad 12)) (by decide) q1265 rfl dX8_soil_34 rfl ?_
        refine v_iconst (x := 3) F dX8_soil_37 rfl (by decide) ?_
        refine v_iload_n F 1 dX8_soil_38 rfl rfl rfl ?_
        refine v_int F (hop) ?_
        refine v_imulN (a := 3) (b := p) F dX8_soil_39 rfl ?_
        refine v_iconst (x := 1) F dX8_soil_40 rfl (by decide) ?_
        refine v_iaddN (a := 3 * p) (b := 1) F dX8_soil_41 rfl ?_
        refine m_ald12 (t := (3 * p) + 1) F G (by omega) dX8_soil_42 rfl ?_
        refine v_istore (ls' := [(4, .int (σ 12 ((3 * p) + 1))), (0, .ref (ad 0)), (1, .int o), (2, .int n), (3, .int k)]) F dX8_soil_43 rfl (by decide) rfl ?_
        refine v_iconst (x := (-1)) F dX8_soil_45 rfl (by decide) ?_
        refine v_istore (ls' := [(5, .int (-1)), (4, .int (σ 12 ((3 * p) + 1))), (0, .ref (ad 0)), (1, .int o), (2, .int n), (3, .int k)]) F dX8_soil_46 rfl (by decide) rfl ?_
        refine v_iconst (x := (-1)) F dX8_soil_48 rfl (by decide) ?_
        refine v_istore (ls' := [(6, .int (-1)), (5, .int (-1)), (4, .int (σ 12 ((3 * p) + 1))), (0, .ref (ad 0)), (1, .int o), (2, .int n), (3, .int k)]) F dX8_soil_49 rfl (by decide) rfl ?_
        refine v_iconst (x := 0) F dX8_soil_51 rfl (by decide) ?_
        refine v_istore (ls' := [(7, .int 0), (6, .int (-1)), (5, .int (-1)), (4, .int (σ 12 ((3 * p) + 1))), (0, .ref (ad 0)), (1, .int o), (2, .int n), (3, .int k)]) F dX8_soil_52 rfl (by decide) rfl ?_
        have L54 : ∀ (nf : Nat) (s : mS) (x : Int32) (y : Int32) (g : Nat) (hgl : g ≤ 8) (hs : ∀ y, nb (up s 12 (3 * p + 1) y) = nb (up σ 12 (3 * p + 1) y)) (hx : (x, y) = soiN (ab σ) p m g) (hnf : 8 - g < nf), v s 0 0 54 [(0, .ref (ad 0)), (1, .int o), (2, .int n), (3, .int k), (4, .int (σ 12 (3 * p + 1))), (5, .int x), (6, .int y), (7, .int (nI g))] [] := by
          intro nf
          induction nf with
          | zero => intro s x y g hgl hs hx hnf; exact absurd hnf (Nat.not_lt_zero _)
          | succ nf ih54 =>
            intro s x y g hgl hs hx hnf
            have h13 : s 0 13 = σ 0 13 := nb_13 (by omega) hs
            refine v_iload F 7 dX8_soil_54 rfl rfl ?_
            refine v_bipush (x := 8) F dX8_soil_56 rfl (by decide) ?_
            refine v_icmp_geN (a := g) (b := 8) (tgt := 102) (q := 61) F dX8_soil_58 rfl rfl (by omega) (by omega) (fun c4 => ?_) (fun c4 => ?_)
            · skip
              refine v_aload_n F 0 dX8_soil_102 rfl rfl rfl ?_
              refine m_get F G 12 (w := .ref (ad 12)) (by decide) q1265 rfl dX8_soil_103 rfl ?_
              refine v_iconst (x := 3) F dX8_soil_106 rfl (by decide) ?_
              refine v_iload_n F 1 dX8_soil_107 rfl rfl rfl ?_
              refine v_int F (hop) ?_
              refine v_imulN (a := 3) (b := p) F dX8_soil_108 rfl ?_
              refine v_iconst (x := 1) F dX8_soil_109 rfl (by decide) ?_
              refine v_iaddN (a := 3 * p) (b := 1) F dX8_soil_110 rfl ?_
              refine v_iload F 4 dX8_soil_111 rfl rfl ?_
              refine m_ast12 (t := (3 * p) + 1) F G (by omega) dX8_soil_113 rfl ?_
              refine v_iload_n F 3 dX8_soil_114 rfl rfl rfl ?_
              refine v_if_ne (tgt := 123) (q := 118) F dX8_soil_115 rfl rfl (fun c5 => ?_) (fun c5 => ?_)
              · skip
                refine v_iload F 6 dX8_soil_123 rfl rfl ?_
                exact v_reti F dX8_soil_125 rfl (by unfold soiR; rw [if_pos (show soiOK (ab σ) o n k from ⟨c1, c2, c3⟩), htp, htn, show 8 = g by omega, ← hx]; exact (if_neg c5).symm) ((hs _).trans (by rw [up_self rfl]))
              · skip
                refine v_iload F 5 dX8_soil_118 rfl rfl ?_
                refine v_goto (tgt := 125) F dX8_soil_120 rfl ?_
                exact v_reti F dX8_soil_125 rfl (by unfold soiR; rw [if_pos (show soiOK (ab σ) o n k from ⟨c1, c2, c3⟩), htp, htn, show 8 = g by omega, ← hx]; exact (if_pos c5).symm) ((hs _).trans (by rw [up_self rfl]))
            · skip
              refine v_aload_n F 0 dX8_soil_61 rfl rfl rfl ?_
              refine m_get F G 12 (w := .ref (ad 12)) (by decide) q1265 rfl dX8_soil_62 rfl ?_
              refine v_iconst (x := 3) F dX8_soil_65 rfl (by decide) ?_
              refine v_iload_n F 1 dX8_soil_66 rfl rfl rfl ?_
              refine v_int F (hop) ?_
              refine v_imulN (a := 3) (b := p) F dX8_soil_67 rfl ?_
              refine v_iconst (x := 1) F dX8_soil_68 rfl (by decide) ?_
              refine v_iaddN (a := 3 * p) (b := 1) F dX8_soil_69 rfl ?_
              refine v_iload F 7 dX8_soil_70 rfl rfl ?_
              refine m_ast12 (t := (3 * p) + 1) F G (by omega) dX8_soil_72 rfl ?_
              refine v_aload_n F 0 dX8_soil_73 rfl rfl rfl ?_
              refine v_iload_n F 1 dX8_soil_74 rfl rfl rfl ?_
              refine v_int F (hop) ?_
              refine v_iload_n F 2 dX8_soil_75 rfl rfl rfl ?_
              refine v_int F (hnm) ?_
              refine m_calli F G (cm_X8_manyBehind G (up s 12 ((3 * p) + 1) (nI g)) p m (soi_wf (hs (nI g)) hw hp rfl (by omega)) (by show p < tn (s 0 13); rw [h13]; exact hp) hm) ok_X8_manyBehind q1719 is_X8_manyBehind rfl rfl dX8_soil_76 rfl rfl ?_
              intro t6 hq6
              refine v_istore (ls' := [(8, .int (mbV (ab (up s 12 ((3 * p) + 1) (nI g))) p m)), (0, .ref (ad 0)), (1, .int o), (2, .int n), (3, .int k), (4, .int (σ 12 (3 * p + 1))), (5, .int x), (6, .int y), (7, .int (nI g))]) F dX8_soil_79 rfl (by decide) rfl ?_
              refine v_iload F 0 dX8_soil_81 rfl rfl ?_
              refine v_iload F 7 dX8_soil_83 rfl rfl ?_
              refine v_icmp_le (tgt := 96) (q := 88) F dX8_soil_85 rfl rfl (fun c7 => ?_) (fun c7 => ?_)
              · skip
                refine v_iincN (ls' := [(7, .int (nI (g + 1))), (8, .int (mbV (ab (up s 12 ((3 * p) + 1) (nI g))) p m)), (0, .ref (ad 0)), (1, .int o), (2, .int n), (3, .int k), (4, .int (σ 12 (3 * p + 1))), (5, .int x), (6, .int y)]) F 8 dX8_soil_96 rfl rfl (by decide) rfl ?_
                refine v_goto (tgt := 54) F dX8_soil_99 rfl ?_
                refine v_sub (ls' := [(0, .ref (ad 0)), (1, .int o), (2, .int n), (3, .int k), (4, .int (σ 12 (3 * p + 1))), (5, .int x), (6, .int y), (7, .int (nI (g + 1)))]) F [2, 3, 4, 5, 6, 7, 8, 0] rfl ?_
                exact ih54 t6 x y (g + 1) (by omega) (nb_keep rfl rfl hs hq6) (by have e := soi_go (hs (nI g)) rfl hx; rw [if_neg (Int32.not_lt.mpr c7)] at e; exact e) (by omega)
              · skip
                refine v_iload F 8 dX8_soil_88 rfl rfl ?_
                refine v_istore (ls' := [(5, .int (nI g)), (8, .int (mbV (ab (up s 12 ((3 * p) + 1) (nI g))) p m)), (0, .ref (ad 0)), (1, .int o), (2, .int n), (3, .int k), (4, .int (σ 12 (3 * p + 1))), (6, .int y), (7, .int (nI g))]) F dX8_soil_90 rfl (by decide) rfl ?_
                refine v_iload F 1 dX8_soil_92 rfl rfl ?_
                refine v_istore (ls' := [(6, .int (mbV (ab (up s 12 ((3 * p) + 1) (nI g))) p m)), (5, .int (nI g)), (8, .int (mbV (ab (up s 12 ((3 * p) + 1) (nI g))) p m)), (0, .ref (ad 0)), (1, .int o), (2, .int n), (3, .int k), (4, .int (σ 12 (3 * p + 1))), (7, .int (nI g))]) F dX8_soil_94 rfl (by decide) rfl ?_
                refine v_iincN (ls' := [(7, .int (nI (g + 1))), (6, .int (mbV (ab (up s 12 ((3 * p) + 1) (nI g))) p m)), (5, .int (nI g)), (8, .int (mbV (ab (up s 12 ((3 * p) + 1) (nI g))) p m)), (0, .ref (ad 0)), (1, .int o), (2, .int n), (3, .int k), (4, .int (σ 12 (3 * p + 1)))]) F 8 dX8_soil_96 rfl rfl (by decide) rfl ?_
                refine v_goto (tgt := 54) F dX8_soil_99 rfl ?_
                refine v_sub (ls' := [(0, .ref (ad 0)), (1, .int o), (2, .int n), (3, .int k), (4, .int (σ 12 (3 * p + 1))), (5, .int (nI g)), (6, .int (mbV (ab (up s 12 ((3 * p) + 1) (nI g))) p m)), (7, .int (nI (g + 1)))]) F [4, 5, 6, 7, 8, 2, 1, 0] rfl ?_
                exact ih54 t6 (nI g) (mbV (ab (up s 12 ((3 * p) + 1) (nI g))) p m) (g + 1) (by omega) (nb_keep rfl rfl hs hq6) (by have e := soi_go (hs (nI g)) rfl hx; rw [if_pos (Int32.not_le.mp c7)] at e; exact e) (by omega)
        refine v_sub (ls' := [(0, .ref (ad 0)), (1, .int o), (2, .int n), (3, .int k), (4, .int (σ 12 ((3 * p) + 1))), (5, .int (-1)), (6, .int (-1)), (7, .int 0)]) F [4, 5, 6, 7, 3, 2, 1, 0] rfl ?_
        exact L54 _ σ (-1) (-1) 0 (by decide) (fun _ => rfl) rfl (Nat.lt_succ_self _)
      · skip
        refine v_bipush (x := (-2)) F dX8_soil_30 rfl (by decide) ?_
        exact v_reti F dX8_soil_32 rfl (by unfold soiR; rw [if_neg (show ¬ soiOK (ab σ) o n k from (fun h => c3 h.2.2))]) (rfl)
theorem ok_X8_safest : vv_oc yX8_safest 8 1 (ws_ yX8_safest cX8_safest 8 (some .int)) := vv_ok.oc (rt := (some .int)) ⟨q1731, q133, by decide +kernel, by decide +kernel⟩
theorem is_X8_safest : Cond.instanceMethod yX8_safest ∈ lw_all ∧ Cond.selects RX8 yX8_safest yX8_safest ∈ lw_all := ⟨q1729, q1730⟩
set_option maxHeartbeats 4000000 in
theorem cm_X8_safest {l : Launch} {Kf : State → Prop} {D : va_G} {ad : Nat → Nat} {cI cZ : ClassId} {A : Nat → Prop} (G : mG A Kf D cI cZ)  (σ : mS) (n : Int32) (hw : Wf (ab σ)) : vv_Ct l yX8_safest (ws_ yX8_safest cX8_safest 8 (some .int)) (rm 46 1023) Kf (mWd D ad cI cZ A) A [.ref (ad 0), .int n] σ (vv_i (safR (ab σ) n) (fun u => nb u = nb σ)) := by
  refine vv_of (by decide +kernel) (Nat.le_of_ble_eq_true rfl) ?_
  intro v (F : vv_F v l cX8_safest 8 RX8 "safest" (some .int) [] (rm 46 1023) Kf (mWd D ad cI cZ A) A _)
  show v σ 0 0 0 [(0, .ref (ad 0)), (1, .int n)] []
  have hM : σ 0 13 = nI (tn (σ 0 13)) := hw.1.1.1
  have hM8 : tn (σ 0 13) ≤ 8 := hw.1.1.2
  refine v_iload_n F 1 dX8_safest_0 rfl rfl rfl ?_
  refine v_i2l F dX8_safest_1 rfl ?_
  refine v_lconst (x := (0 : Int32).toInt64) F dX8_safest_2 rfl (by decide) ?_
  refine v_ldc2 F q1708 dX8_safest_3 rfl ?_
  refine v_lng (y := (8 : Int32).toInt64) F (by decide) ?_
  refine s_calli F G.1 (cm_X8_in G σ n 0 8 ) ok_X8_in q1386 q1387 rfl rfl dX8_safest_6 rfl rfl ?_
  intro u0 hu0; subst u0
  refine v_if_neB (p := (0 ≤ n ∧ n ≤ 8)) (tgt := 15) (q := 12) F dX8_safest_9 rfl rfl (fun c1 => ?_) (fun c1 => ?_)
  · skip
    obtain ⟨m, hm, hnm⟩ := in_of (M := 8) (n := 8) (by decide) c1
    have htn : tn n = m := by rw [hnm, tn_nI (by omega)]
    refine v_iconst (x := (-1)) F dX8_safest_15 rfl (by decide) ?_
    refine v_istore_n (ls' := [(2, .int (-1)), (0, .ref (ad 0)), (1, .int n)]) F dX8_safest_16 rfl rfl (by decide) rfl ?_
    refine v_ldc2 F q1732 dX8_safest_17 rfl ?_
    refine v_lng (y := (-1 : Int32).toInt64) F (by decide) ?_
    refine v_lstore_n (ls' := [(3, .long ((-1 : Int32).toInt64)), (2, .int (-1)), (0, .ref (ad 0)), (1, .int n)]) F dX8_safest_20 rfl rfl (by decide) rfl ?_
    refine v_iconst (x := 0) F dX8_safest_21 rfl (by decide) ?_
    refine v_istore (ls' := [(5, .int 0), (3, .long ((-1 : Int32).toInt64)), (2, .int (-1)), (0, .ref (ad 0)), (1, .int n)]) F dX8_safest_22 rfl (by decide) rfl ?_
    have L24 : ∀ (nf : Nat) (s : mS) (x : Int32) (y : Int64) (p : Nat) (hpM : p ≤ tn (σ 0 13)) (hs : na (ab s) = na (ab σ)) (hx : (x, y) = safN (ab σ) m p) (hnf : tn (σ 0 13) - p < nf), v s 0 0 24 [(0, .ref (ad 0)), (1, .int n), (2, .int x), (3, .long y), (5, .int (nI p))] [] := by
      intro nf
      induction nf with
      | zero => intro s x y p hpM hs hx hnf; exact absurd hnf (Nat.not_lt_zero _)
      | succ nf ih24 =>
        intro s x y p hpM hs hx hnf
        have h13 : s 0 13 = σ 0 13 := na_eq hs 0 13 rfl
        have h13n : s 0 13 = nI (tn (σ 0 13)) := h13.trans hM
        have hws : Wf (ab s) := wf_na.mp (by rw [hs]; exact wf_na.mpr hw)
        refine v_iload F 4 dX8_safest_24 rfl rfl ?_
        refine v_aload_n F 0 dX8_safest_26 rfl rfl rfl ?_
        refine m_get F G 13 (w := .int (s 0 13)) (by decide) q1266 rfl dX8_safest_27 rfl ?_
        refine v_int F (h13n) ?_
        refine v_icmp_geN (a := p) (b := tn (σ 0 13)) (tgt := 61) (q := 33) F dX8_safest_30 rfl rfl (by omega) (by omega) (fun c2 => ?_) (fun c2 => ?_)
        · skip
          refine v_iload_n F 2 dX8_safest_61 rfl rfl rfl ?_
          exact v_reti F dX8_safest_62 rfl (by unfold safR; rw [if_pos c1, htn, show tn (ab σ 0 13) = p from (all_end c2 hpM).symm, ← hx]) (hs)
        · skip
          refine v_aload_n F 0 dX8_safest_33 rfl rfl rfl ?_
          refine v_iload F 4 dX8_safest_34 rfl rfl ?_
          refine v_iload_n F 1 dX8_safest_36 rfl rfl rfl ?_
          refine v_int F (hnm) ?_
          refine m_callj F G (cm_X8_hidden G s p m hws (by rw [h13]; omega) (by omega)) ok_X8_hidden q1710 is_X8_hidden rfl rfl dX8_safest_37 rfl rfl ?_
          intro t3 hq3
          refine v_lstore (ls' := [(6, .long (hidV (ab s) p m)), (0, .ref (ad 0)), (1, .int n), (2, .int x), (3, .long y), (5, .int (nI p))]) F dX8_safest_40 rfl (by decide) rfl ?_
          refine v_lload F 0 dX8_safest_42 rfl rfl ?_
          refine v_lload_n F 4 dX8_safest_44 rfl rfl rfl ?_
          refine v_lcmp F dX8_safest_45 rfl ?_
          refine v_if_leL (tgt := 55) (q := 49) F dX8_safest_46 rfl rfl (fun c4 => ?_) (fun c4 => ?_)
          · skip
            refine v_iincN (ls' := [(5, .int (nI (p + 1))), (6, .long (hidV (ab s) p m)), (0, .ref (ad 0)), (1, .int n), (2, .int x), (3, .long y)]) F 5 dX8_safest_55 rfl rfl (by decide) rfl ?_
            refine v_goto (tgt := 24) F dX8_safest_58 rfl ?_
            refine v_sub (ls' := [(0, .ref (ad 0)), (1, .int n), (2, .int x), (3, .long y), (5, .int (nI (p + 1)))]) F [2, 3, 4, 5, 0] rfl ?_
            exact ih24 t3 x y (p + 1) (by omega) ((show na (ab t3) = na (ab s) from hq3).trans hs) (by show _ = (if (safN (ab σ) m p).2 < hidV (ab σ) p m then _ else _); rw [← hx, ← hid_eq2 hs]; exact (if_neg (Int64.not_lt.mpr c4)).symm) (by omega)
          · skip
            refine v_iload F 5 dX8_safest_49 rfl rfl ?_
            refine v_istore_n (ls' := [(2, .int (nI p)), (6, .long (hidV (ab s) p m)), (0, .ref (ad 0)), (1, .int n), (3, .long y), (5, .int (nI p))]) F dX8_safest_51 rfl rfl (by decide) rfl ?_
            refine v_lload F 1 dX8_safest_52 rfl rfl ?_
            refine v_lstore_n (ls' := [(3, .long (hidV (ab s) p m)), (2, .int (nI p)), (6, .long (hidV (ab s) p m)), (0, .ref (ad 0)), (1, .int n), (5, .int (nI p))]) F dX8_safest_54 rfl rfl (by decide) rfl ?_
            refine v_iincN (ls' := [(5, .int (nI (p + 1))), (3, .long (hidV (ab s) p m)), (2, .int (nI p)), (6, .long (hidV (ab s) p m)), (0, .ref (ad 0)), (1, .int n)]) F 5 dX8_safest_55 rfl rfl (by decide) rfl ?_
            refine v_goto (tgt := 24) F dX8_safest_58 rfl ?_
            refine v_sub (ls' := [(0, .ref (ad 0)), (1, .int n), (2, .int (nI p)), (3, .long (hidV (ab s) p m)), (5, .int (nI (p + 1)))]) F [4, 5, 2, 1, 0] rfl ?_
            exact ih24 t3 (nI p) (hidV (ab s) p m) (p + 1) (by omega) ((show na (ab t3) = na (ab s) from hq3).trans hs) (by show _ = (if (safN (ab σ) m p).2 < hidV (ab σ) p m then _ else _); rw [← hx, ← hid_eq2 hs]; exact (if_pos (Int64.not_le.mp c4)).symm) (by omega)
    refine v_sub (ls' := [(0, .ref (ad 0)), (1, .int n), (2, .int (-1)), (3, .long ((-1 : Int32).toInt64)), (5, .int 0)]) F [3, 4, 2, 1, 0] rfl ?_
    exact L24 _ σ (-1) ((-1 : Int32).toInt64) 0 (Nat.zero_le _) rfl (by show _ = ((-1 : Int32), (-1 : Int64)); rw [show (-1 : Int32).toInt64 = -1 by decide]) (Nat.lt_succ_self _)
  · skip
    refine v_bipush (x := (-2)) F dX8_safest_12 rfl (by decide) ?_
    exact v_reti F dX8_safest_14 rfl (by unfold safR; rw [if_neg (show ¬ (0 ≤ n ∧ n ≤ 8) from c1)]) (rfl)
theorem ok_X8_when : vv_oc yX8_when 7 2 (ws_ yX8_when cX8_when 7 (some .int)) := vv_ok.oc (rt := (some .int)) ⟨q1736, q133, by decide +kernel, by decide +kernel⟩
theorem is_X8_when : Cond.instanceMethod yX8_when ∈ lw_all ∧ Cond.selects RX8 yX8_when yX8_when ∈ lw_all := ⟨q1734, q1735⟩
set_option maxHeartbeats 4000000 in
theorem cm_X8_when {l : Launch} {Kf : State → Prop} {D : va_G} {ad : Nat → Nat} {cI cZ : ClassId} {A : Nat → Prop} (G : mG A Kf D cI cZ)  (σ : mS) (n : Int32) (k : Int32) (hw : Wf (ab σ)) : vv_Ct l yX8_when (ws_ yX8_when cX8_when 7 (some .int)) (rm 45 998) Kf (mWd D ad cI cZ A) A [.ref (ad 0), .int n, .int k] σ (vv_i (wheR (ab σ) n k) (fun u => nb u = nb σ)) := by
  refine vv_of (by decide +kernel) (Nat.le_of_ble_eq_true rfl) ?_
  intro v (F : vv_F v l cX8_when 7 RX8 "when" (some .int) [] (rm 45 998) Kf (mWd D ad cI cZ A) A _)
  show v σ 0 0 0 [(0, .ref (ad 0)), (1, .int n), (2, .int k)] []
  have hM : σ 0 13 = nI (tn (σ 0 13)) := hw.1.1.1
  have hM8 : tn (σ 0 13) ≤ 8 := hw.1.1.2
  refine v_iload_n F 1 dX8_when_0 rfl rfl rfl ?_
  refine v_i2l F dX8_when_1 rfl ?_
  refine v_lconst (x := (0 : Int32).toInt64) F dX8_when_2 rfl (by decide) ?_
  refine v_ldc2 F q1676 dX8_when_3 rfl ?_
  refine v_lng (y := (30 : Int32).toInt64) F (by decide) ?_
  refine s_calli F G.1 (cm_X8_in G σ n 0 30 ) ok_X8_in q1386 q1387 rfl rfl dX8_when_6 rfl rfl ?_
  intro u0 hu0; subst u0
  refine v_if_eqB (p := (0 ≤ n ∧ n ≤ 30)) (tgt := 22) (q := 12) F dX8_when_9 rfl rfl (fun c1 => ?_) (fun c1 => ?_)
  · skip
    refine v_bipush (x := (-2)) F dX8_when_22 rfl (by decide) ?_
    exact v_reti F dX8_when_24 rfl (by unfold wheR; rw [if_neg (show ¬ ((0 ≤ n ∧ n ≤ 30) ∧ (0 ≤ k ∧ k ≤ 1)) from (fun h => c1 h.1))]) (rfl)
  · skip
    refine v_iload_n F 2 dX8_when_12 rfl rfl rfl ?_
    refine v_i2l F dX8_when_13 rfl ?_
    refine v_lconst (x := (0 : Int32).toInt64) F dX8_when_14 rfl (by decide) ?_
    refine v_lconst (x := (1 : Int32).toInt64) F dX8_when_15 rfl (by decide) ?_
    refine s_calli F G.1 (cm_X8_in G σ k 0 1 ) ok_X8_in q1386 q1387 rfl rfl dX8_when_16 rfl rfl ?_
    intro u0 hu0; subst u0
    refine v_if_neB (p := (0 ≤ k ∧ k ≤ 1)) (tgt := 25) (q := 22) F dX8_when_19 rfl rfl (fun c2 => ?_) (fun c2 => ?_)
    · skip
      obtain ⟨m, hm, hnm⟩ := in_of (M := 30) (n := 30) (by decide) c1
      have htn : tn n = m := by rw [hnm, tn_nI (by omega)]
      refine v_aload_n F 0 dX8_when_25 rfl rfl rfl ?_
      refine m_calln F G (cm_X8_laysAside G σ) ok_X8_laysAside q1679 is_X8_laysAside rfl rfl dX8_when_26 rfl rfl ?_
      intro t3 ha3
      refine v_iconst (x := 0) F dX8_when_29 rfl (by decide) ?_
      refine v_istore_n (ls' := [(3, .int 0), (0, .ref (ad 0)), (1, .int n), (2, .int k)]) F dX8_when_30 rfl rfl (by decide) rfl ?_
      have hwa : Wf (ab t3) := by rw [ha3]; exact wf_asd hw
      refine v_aload_n F 1 dX8_when_31 rfl rfl rfl ?_
      refine m_calli F G (cm_X8_worthAll G t3 hwa) ok_X8_worthAll q1737 is_X8_worthAll rfl rfl dX8_when_32 rfl rfl ?_
      intro t4 hb4
      refine v_istore (ls' := [(4, .int (wrtV (ab t3))), (3, .int 0), (0, .ref (ad 0)), (1, .int n), (2, .int k)]) F dX8_when_35 rfl (by decide) rfl ?_
      refine v_iconst (x := 1) F dX8_when_37 rfl (by decide) ?_
      refine v_istore (ls' := [(5, .int 1), (4, .int (wrtV (ab t3))), (3, .int 0), (0, .ref (ad 0)), (1, .int n), (2, .int k)]) F dX8_when_38 rfl (by decide) rfl ?_
      have L40 : ∀ (nf : Nat) (s : mS) (j : Nat) (x : Int32) (y : Int32) (hj : j ≤ m) (hs : ab s = yrs (asd (ab σ)) j) (hx : (x, y) = wheN (ab σ) j) (hnf : m - j < nf), v s 0 0 40 [(0, .ref (ad 0)), (1, .int n), (2, .int k), (3, .int x), (4, .int y), (5, .int (nI (j + 1)))] [] := by
        intro nf
        induction nf with
        | zero => intro s j x y hj hs hx hnf; exact absurd hnf (Nat.not_lt_zero _)
        | succ nf ih40 =>
          intro s j x y hj hs hx hnf
          have hws : Wf (ab s) := by rw [hs]; exact wf_yrs (wf_asd hw) j
          have h13 : s 0 13 = σ 0 13 := s13 hs
          have h13t : tn (s 0 13) = tn (σ 0 13) := by rw [h13]
          refine v_iload F 5 dX8_when_40 rfl rfl ?_
          refine v_iload_n F 1 dX8_when_42 rfl rfl rfl ?_
          refine v_int F (hnm) ?_
          refine v_icmp_gtN (a := j + 1) (b := m) (tgt := 76) (q := 46) F dX8_when_43 rfl rfl (by omega) (by omega) (fun c5 => ?_) (fun c5 => ?_)
          · skip
            refine v_aload_n F 0 dX8_when_76 rfl rfl rfl ?_
            refine m_calln F G (cm_X8_laysBack G s) ok_X8_laysBack q1695 is_X8_laysBack rfl rfl dX8_when_77 rfl rfl ?_
            intro t6 hk6
            refine v_iload_n F 2 dX8_when_80 rfl rfl rfl ?_
            refine v_if_ne (tgt := 88) (q := 84) F dX8_when_81 rfl rfl (fun c7 => ?_) (fun c7 => ?_)
            · skip
              refine v_iload F 4 dX8_when_88 rfl rfl ?_
              exact v_reti F dX8_when_90 rfl (by unfold wheR; rw [if_pos ⟨c1, c2⟩, htn, show m = j by omega, ← hx]; exact (if_neg c7).symm) (nb_back hw hs hk6)
            · skip
              refine v_iload_n F 3 dX8_when_84 rfl rfl rfl ?_
              refine v_goto (tgt := 90) F dX8_when_85 rfl ?_
              exact v_reti F dX8_when_90 rfl (by unfold wheR; rw [if_pos ⟨c1, c2⟩, htn, show m = j by omega, ← hx]; exact (if_pos c7).symm) (nb_back hw hs hk6)
          · skip
            refine v_aload_n F 0 dX8_when_46 rfl rfl rfl ?_
            refine m_calln F G (cm_X8_lives G s hws) ok_X8_lives q1664 is_X8_lives rfl rfl dX8_when_47 rfl rfl ?_
            intro t8 hv8
            have hwb : Wf (ab t8) := by rw [hv8]; exact wf_livS hws
            refine v_aload_n F 0 dX8_when_50 rfl rfl rfl ?_
            refine m_calli F G (cm_X8_worthAll G t8 hwb) ok_X8_worthAll q1737 is_X8_worthAll rfl rfl dX8_when_51 rfl rfl ?_
            intro t9 hb9
            refine v_istore (ls' := [(6, .int (wrtV (ab t8))), (0, .ref (ad 0)), (1, .int n), (2, .int k), (3, .int x), (4, .int y), (5, .int (nI (j + 1)))]) F dX8_when_54 rfl (by decide) rfl ?_
            refine v_iload F 0 dX8_when_56 rfl rfl ?_
            refine v_iload F 5 dX8_when_58 rfl rfl ?_
            refine v_icmp_le (tgt := 70) (q := 63) F dX8_when_60 rfl rfl (fun c10 => ?_) (fun c10 => ?_)
            · skip
              refine v_iincN (ls' := [(5, .int (nI ((j + 1) + 1))), (6, .int (wrtV (ab t8))), (0, .ref (ad 0)), (1, .int n), (2, .int k), (3, .int x), (4, .int y)]) F 6 dX8_when_70 rfl rfl (by decide) rfl ?_
              refine v_goto (tgt := 40) F dX8_when_73 rfl ?_
              refine v_sub (ls' := [(0, .ref (ad 0)), (1, .int n), (2, .int k), (3, .int x), (4, .int y), (5, .int (nI ((j + 1) + 1)))]) F [2, 3, 4, 5, 6, 0] rfl ?_
              exact ih40 t9 (j + 1) x y (by omega) (by rw [hb9, hv8, hs]; rfl) (by show _ = (if (wheN (ab σ) j).2 < wrtV (yrs (ab σ) (j + 1)) then _ else _); rw [← hx]; rw [if_neg (by rw [← wrt_eq2 (show na (ab t8) = na (yrs (ab σ) (j + 1)) from by rw [hv8, hs]; exact yrs_eq nas (j + 1))]; exact Int32.not_lt.mpr c10)]) (by omega)
            · skip
              refine v_iload F 6 dX8_when_63 rfl rfl ?_
              refine v_istore_n (ls' := [(3, .int (nI (j + 1))), (6, .int (wrtV (ab t8))), (0, .ref (ad 0)), (1, .int n), (2, .int k), (4, .int y), (5, .int (nI (j + 1)))]) F dX8_when_65 rfl rfl (by decide) rfl ?_
              refine v_iload F 1 dX8_when_66 rfl rfl ?_
              refine v_istore (ls' := [(4, .int (wrtV (ab t8))), (3, .int (nI (j + 1))), (6, .int (wrtV (ab t8))), (0, .ref (ad 0)), (1, .int n), (2, .int k), (5, .int (nI (j + 1)))]) F dX8_when_68 rfl (by decide) rfl ?_
              refine v_iincN (ls' := [(5, .int (nI ((j + 1) + 1))), (4, .int (wrtV (ab t8))), (3, .int (nI (j + 1))), (6, .int (wrtV (ab t8))), (0, .ref (ad 0)), (1, .int n), (2, .int k)]) F 6 dX8_when_70 rfl rfl (by decide) rfl ?_
              refine v_goto (tgt := 40) F dX8_when_73 rfl ?_
              refine v_sub (ls' := [(0, .ref (ad 0)), (1, .int n), (2, .int k), (3, .int (nI (j + 1))), (4, .int (wrtV (ab t8))), (5, .int (nI ((j + 1) + 1)))]) F [4, 5, 6, 2, 1, 0] rfl ?_
              exact ih40 t9 (j + 1) (nI (j + 1)) (wrtV (ab t8)) (by omega) (by rw [hb9, hv8, hs]; rfl) (by show _ = (if (wheN (ab σ) j).2 < wrtV (yrs (ab σ) (j + 1)) then _ else _); rw [← hx]; rw [if_pos (by rw [← wrt_eq2 (show na (ab t8) = na (yrs (ab σ) (j + 1)) from by rw [hv8, hs]; exact yrs_eq nas (j + 1))]; exact Int32.not_le.mp c10), wrt_eq2 (show na (ab t8) = na (yrs (ab σ) (j + 1)) from by rw [hv8, hs]; exact yrs_eq nas (j + 1))]) (by omega)
      refine v_sub (ls' := [(0, .ref (ad 0)), (1, .int n), (2, .int k), (3, .int 0), (4, .int (wrtV (ab t3))), (5, .int 1)]) F [3, 4, 5, 2, 1, 0] rfl ?_
      exact L40 _ t4 0 0 (wrtV (ab t3)) (Nat.zero_le _) (hb4.trans ha3) (by show _ = ((0 : Int32), wrtV (ab σ)); rw [wrt_eq2 (show na (ab t3) = na (ab σ) from by rw [ha3]; exact nas)]) (Nat.lt_succ_self _)
    · skip
      refine v_bipush (x := (-2)) F dX8_when_22 rfl (by decide) ?_
      exact v_reti F dX8_when_24 rfl (by unfold wheR; rw [if_neg (show ¬ ((0 ≤ n ∧ n ≤ 30) ∧ (0 ≤ k ∧ k ≤ 1)) from (fun h => c2 h.2))]) (rfl)
theorem ok_X8_enough : vv_oc yX8_enough 7 3 (ws_ yX8_enough cX8_enough 7 (some .int)) := vv_ok.oc (rt := (some .int)) ⟨q1744, q133, by decide +kernel, by decide +kernel⟩
theorem is_X8_enough : Cond.instanceMethod yX8_enough ∈ lw_all ∧ Cond.selects RX8 yX8_enough yX8_enough ∈ lw_all := ⟨q1742, q1743⟩
set_option maxHeartbeats 4000000 in
theorem cm_X8_enough {l : Launch} {Kf : State → Prop} {D : va_G} {ad : Nat → Nat} {cI cZ : ClassId} {A : Nat → Prop} (G : mG A Kf D cI cZ)  (σ : mS) (o : Int32) (n : Int32) (k : Int32) (hw : Wf (ab σ)) : vv_Ct l yX8_enough (ws_ yX8_enough cX8_enough 7 (some .int)) (rm 46 1021) Kf (mWd D ad cI cZ A) A [.ref (ad 0), .int o, .int n, .int k] σ (vv_i (enoR (ab σ) o n k) (fun u => nb u = nb σ)) := by
  refine vv_of (by decide +kernel) (Nat.le_of_ble_eq_true rfl) ?_
  intro v (F : vv_F v l cX8_enough 7 RX8 "enough" (some .int) [] (rm 46 1021) Kf (mWd D ad cI cZ A) A _)
  show v σ 0 0 0 [(0, .ref (ad 0)), (1, .int o), (2, .int n), (3, .int k)] []
  have hM : σ 0 13 = nI (tn (σ 0 13)) := hw.1.1.1
  have hM8 : tn (σ 0 13) ≤ 8 := hw.1.1.2
  refine v_aload_n F 0 dX8_enough_0 rfl rfl rfl ?_
  refine v_iload_n F 1 dX8_enough_1 rfl rfl rfl ?_
  refine m_calli F G (cm_X8_isPlanting G σ o ) ok_X8_isPlanting q1397 is_X8_isPlanting rfl rfl dX8_enough_2 rfl rfl ?_
  intro u0 hu0; subst u0
  refine v_if_eqB (p := (0 ≤ o ∧ o ≤ σ 0 13 - 1)) (tgt := 32) (q := 8) F dX8_enough_5 rfl rfl (fun c1 => ?_) (fun c1 => ?_)
  · skip
    refine v_bipush (x := (-2)) F dX8_enough_32 rfl (by decide) ?_
    exact v_reti F dX8_enough_34 rfl (by unfold enoR; rw [if_neg (show ¬ enoOK (ab σ) o n k from (fun h => c1 h.1))]) (rfl)
  · skip
    refine v_iload_n F 2 dX8_enough_8 rfl rfl rfl ?_
    refine v_i2l F dX8_enough_9 rfl ?_
    refine v_lconst (x := (0 : Int32).toInt64) F dX8_enough_10 rfl (by decide) ?_
    refine v_ldc2 F q1676 dX8_enough_11 rfl ?_
    refine v_lng (y := (30 : Int32).toInt64) F (by decide) ?_
    refine s_calli F G.1 (cm_X8_in G σ n 0 30 ) ok_X8_in q1386 q1387 rfl rfl dX8_enough_14 rfl rfl ?_
    intro u0 hu0; subst u0
    refine v_if_eqB (p := (0 ≤ n ∧ n ≤ 30)) (tgt := 32) (q := 20) F dX8_enough_17 rfl rfl (fun c2 => ?_) (fun c2 => ?_)
    · skip
      refine v_bipush (x := (-2)) F dX8_enough_32 rfl (by decide) ?_
      exact v_reti F dX8_enough_34 rfl (by unfold enoR; rw [if_neg (show ¬ enoOK (ab σ) o n k from (fun h => c2 h.2.1))]) (rfl)
    · skip
      refine v_iload_n F 3 dX8_enough_20 rfl rfl rfl ?_
      refine v_i2l F dX8_enough_21 rfl ?_
      refine v_lconst (x := (1 : Int32).toInt64) F dX8_enough_22 rfl (by decide) ?_
      refine v_ldc2 F q1650 dX8_enough_23 rfl ?_
      refine v_lng (y := (9999 : Int32).toInt64) F (by decide) ?_
      refine s_calli F G.1 (cm_X8_in G σ k 1 9999 ) ok_X8_in q1386 q1387 rfl rfl dX8_enough_26 rfl rfl ?_
      intro u0 hu0; subst u0
      refine v_if_neB (p := (1 ≤ k ∧ k ≤ 9999)) (tgt := 35) (q := 32) F dX8_enough_29 rfl rfl (fun c3 => ?_) (fun c3 => ?_)
      · skip
        obtain ⟨p, hp, hop⟩ := pl_of hM hM8 c1
        have htp : tn o = p := by rw [hop, tn_nI (by omega)]
        obtain ⟨m, hm, hnm⟩ := in_of (M := 30) (n := 30) (by decide) c2
        have htn : tn n = m := by rw [hnm, tn_nI (by omega)]
        refine v_aload_n F 0 dX8_enough_35 rfl rfl rfl ?_
        refine m_get F G 12 (w := .ref (ad 12)) (by decide) q1265 rfl dX8_enough_36 rfl ?_
        refine v_iconst (x := 3) F dX8_enough_39 rfl (by decide) ?_
        refine v_iload_n F 1 dX8_enough_40 rfl rfl rfl ?_
        refine v_int F (hop) ?_
        refine v_imulN (a := 3) (b := p) F dX8_enough_41 rfl ?_
        refine v_iconst (x := 2) F dX8_enough_42 rfl (by decide) ?_
        refine v_iaddN (a := 3 * p) (b := 2) F dX8_enough_43 rfl ?_
        refine m_ald12 (t := (3 * p) + 2) F G (by omega) dX8_enough_44 rfl ?_
        refine v_istore (ls' := [(4, .int (σ 12 ((3 * p) + 2))), (0, .ref (ad 0)), (1, .int o), (2, .int n), (3, .int k)]) F dX8_enough_45 rfl (by decide) rfl ?_
        refine v_iconst (x := (-1)) F dX8_enough_47 rfl (by decide) ?_
        refine v_istore (ls' := [(5, .int (-1)), (4, .int (σ 12 ((3 * p) + 2))), (0, .ref (ad 0)), (1, .int o), (2, .int n), (3, .int k)]) F dX8_enough_48 rfl (by decide) rfl ?_
        refine v_iconst (x := 1) F dX8_enough_50 rfl (by decide) ?_
        refine v_istore (ls' := [(6, .int 1), (5, .int (-1)), (4, .int (σ 12 ((3 * p) + 2))), (0, .ref (ad 0)), (1, .int o), (2, .int n), (3, .int k)]) F dX8_enough_51 rfl (by decide) rfl ?_
        have L53 : ∀ (nf : Nat) (s : mS) (x : Int32) (j : Nat) (hj : j ≤ 99) (hs : ∀ y, nb (up s 12 (3 * p + 2) y) = nb (up σ 12 (3 * p + 2) y)) (hx : x = enoN (ab σ) p m k j) (hnf : 99 - j < nf), v s 0 0 53 [(0, .ref (ad 0)), (1, .int o), (2, .int n), (3, .int k), (4, .int (σ 12 (3 * p + 2))), (5, .int x), (6, .int (nI (j + 1)))] [] := by
          intro nf
          induction nf with
          | zero => intro s x j hj hs hx hnf; exact absurd hnf (Nat.not_lt_zero _)
          | succ nf ih53 =>
            intro s x j hj hs hx hnf
            have h13 : s 0 13 = σ 0 13 := nb_13 (by omega) hs
            refine v_iload F 6 dX8_enough_53 rfl rfl ?_
            refine v_bipush (x := 100) F dX8_enough_55 rfl (by decide) ?_
            refine v_icmp_geN (a := j + 1) (b := 100) (tgt := 102) (q := 60) F dX8_enough_57 rfl rfl (by omega) (by omega) (fun c4 => ?_) (fun c4 => ?_)
            · skip
              refine v_aload_n F 0 dX8_enough_102 rfl rfl rfl ?_
              refine m_get F G 12 (w := .ref (ad 12)) (by decide) q1265 rfl dX8_enough_103 rfl ?_
              refine v_iconst (x := 3) F dX8_enough_106 rfl (by decide) ?_
              refine v_iload_n F 1 dX8_enough_107 rfl rfl rfl ?_
              refine v_int F (hop) ?_
              refine v_imulN (a := 3) (b := p) F dX8_enough_108 rfl ?_
              refine v_iconst (x := 2) F dX8_enough_109 rfl (by decide) ?_
              refine v_iaddN (a := 3 * p) (b := 2) F dX8_enough_110 rfl ?_
              refine v_iload F 4 dX8_enough_111 rfl rfl ?_
              refine m_ast12 (t := (3 * p) + 2) F G (by omega) dX8_enough_113 rfl ?_
              refine v_iload F 5 dX8_enough_114 rfl rfl ?_
              exact v_reti F dX8_enough_116 rfl (by unfold enoR; rw [if_pos (show enoOK (ab σ) o n k from ⟨c1, c2, c3⟩), htp, htn]; exact eno_e hx hj (Or.inl (by omega))) ((hs _).trans (by rw [up_self rfl]))
            · skip
              refine v_iload F 5 dX8_enough_60 rfl rfl ?_
              refine v_iconst (x := (-1)) F dX8_enough_62 rfl (by decide) ?_
              refine v_icmp_ne (tgt := 102) (q := 66) F dX8_enough_63 rfl rfl (fun c5 => ?_) (fun c5 => ?_)
              · skip
                refine v_aload_n F 0 dX8_enough_102 rfl rfl rfl ?_
                refine m_get F G 12 (w := .ref (ad 12)) (by decide) q1265 rfl dX8_enough_103 rfl ?_
                refine v_iconst (x := 3) F dX8_enough_106 rfl (by decide) ?_
                refine v_iload_n F 1 dX8_enough_107 rfl rfl rfl ?_
                refine v_int F (hop) ?_
                refine v_imulN (a := 3) (b := p) F dX8_enough_108 rfl ?_
                refine v_iconst (x := 2) F dX8_enough_109 rfl (by decide) ?_
                refine v_iaddN (a := 3 * p) (b := 2) F dX8_enough_110 rfl ?_
                refine v_iload F 4 dX8_enough_111 rfl rfl ?_
                refine m_ast12 (t := (3 * p) + 2) F G (by omega) dX8_enough_113 rfl ?_
                refine v_iload F 5 dX8_enough_114 rfl rfl ?_
                exact v_reti F dX8_enough_116 rfl (by unfold enoR; rw [if_pos (show enoOK (ab σ) o n k from ⟨c1, c2, c3⟩), htp, htn]; exact eno_e hx hj (Or.inr c5)) ((hs _).trans (by rw [up_self rfl]))
              · skip
                refine v_aload_n F 0 dX8_enough_66 rfl rfl rfl ?_
                refine m_get F G 12 (w := .ref (ad 12)) (by decide) q1265 rfl dX8_enough_67 rfl ?_
                refine v_iconst (x := 3) F dX8_enough_70 rfl (by decide) ?_
                refine v_iload_n F 1 dX8_enough_71 rfl rfl rfl ?_
                refine v_int F (hop) ?_
                refine v_imulN (a := 3) (b := p) F dX8_enough_72 rfl ?_
                refine v_iconst (x := 2) F dX8_enough_73 rfl (by decide) ?_
                refine v_iaddN (a := 3 * p) (b := 2) F dX8_enough_74 rfl ?_
                refine v_iload F 6 dX8_enough_75 rfl rfl ?_
                refine m_ast12 (t := (3 * p) + 2) F G (by omega) dX8_enough_77 rfl ?_
                refine v_aload_n F 0 dX8_enough_78 rfl rfl rfl ?_
                refine v_iload_n F 1 dX8_enough_79 rfl rfl rfl ?_
                refine v_int F (hop) ?_
                refine v_iload_n F 2 dX8_enough_80 rfl rfl rfl ?_
                refine v_int F (hnm) ?_
                refine m_calli F G (cm_X8_manyBehind G (up s 12 ((3 * p) + 2) (nI (j + 1))) p m (eno_wf (hs (nI (j + 1))) hw ⟨nI_pos' (by omega), nI_le (b := 9999) (by omega) (by decide)⟩) (by show p < tn (s 0 13); rw [h13]; exact hp) hm) ok_X8_manyBehind q1719 is_X8_manyBehind rfl rfl dX8_enough_81 rfl rfl ?_
                intro t6 hq6
                refine v_iload_n F 3 dX8_enough_84 rfl rfl rfl ?_
                refine v_icmp_lt (tgt := 93) (q := 88) F dX8_enough_85 rfl rfl (fun c7 => ?_) (fun c7 => ?_)
                · skip
                  refine v_iconst (x := (-1)) F dX8_enough_93 rfl (by decide) ?_
                  refine v_istore (ls' := [(5, .int (-1)), (0, .ref (ad 0)), (1, .int o), (2, .int n), (3, .int k), (4, .int (σ 12 (3 * p + 2))), (6, .int (nI (j + 1)))]) F dX8_enough_94 rfl (by decide) rfl ?_
                  refine v_iincN (ls' := [(6, .int (nI ((j + 1) + 1))), (5, .int (-1)), (0, .ref (ad 0)), (1, .int o), (2, .int n), (3, .int k), (4, .int (σ 12 (3 * p + 2)))]) F 6 dX8_enough_96 rfl rfl (by decide) rfl ?_
                  refine v_goto (tgt := 53) F dX8_enough_99 rfl ?_
                  refine v_sub (ls' := [(0, .ref (ad 0)), (1, .int o), (2, .int n), (3, .int k), (4, .int (σ 12 (3 * p + 2))), (5, .int (-1)), (6, .int (nI ((j + 1) + 1)))]) F [2, 3, 4, 5, 6, 1, 0] rfl ?_
                  exact ih53 t6 (-1) (j + 1) (by omega) (nb_keep rfl rfl hs hq6) (eno_s hx c5 (by rw [← eno_val (hs (nI (j + 1)))]; exact c7)) (by omega)
                · skip
                  refine v_iload F 6 dX8_enough_88 rfl rfl ?_
                  refine v_goto (tgt := 94) F dX8_enough_90 rfl ?_
                  refine v_istore (ls' := [(5, .int (nI (j + 1))), (0, .ref (ad 0)), (1, .int o), (2, .int n), (3, .int k), (4, .int (σ 12 (3 * p + 2))), (6, .int (nI (j + 1)))]) F dX8_enough_94 rfl (by decide) rfl ?_
                  refine v_iincN (ls' := [(6, .int (nI ((j + 1) + 1))), (5, .int (nI (j + 1))), (0, .ref (ad 0)), (1, .int o), (2, .int n), (3, .int k), (4, .int (σ 12 (3 * p + 2)))]) F 6 dX8_enough_96 rfl rfl (by decide) rfl ?_
                  refine v_goto (tgt := 53) F dX8_enough_99 rfl ?_
                  refine v_sub (ls' := [(0, .ref (ad 0)), (1, .int o), (2, .int n), (3, .int k), (4, .int (σ 12 (3 * p + 2))), (5, .int (nI (j + 1))), (6, .int (nI ((j + 1) + 1)))]) F [2, 3, 4, 5, 6, 1, 0] rfl ?_
                  exact ih53 t6 (nI (j + 1)) (j + 1) (by omega) (nb_keep rfl rfl hs hq6) (eno_f hx c5 (by rw [← eno_val (hs (nI (j + 1)))]; exact c7)) (by omega)
        refine v_sub (ls' := [(0, .ref (ad 0)), (1, .int o), (2, .int n), (3, .int k), (4, .int (σ 12 ((3 * p) + 2))), (5, .int (-1)), (6, .int 1)]) F [3, 4, 5, 6, 2, 1, 0] rfl ?_
        exact L53 _ σ (-1) 0 (by decide) (fun _ => rfl) rfl (Nat.lt_succ_self _)
      · skip
        refine v_bipush (x := (-2)) F dX8_enough_32 rfl (by decide) ?_
        exact v_reti F dX8_enough_34 rfl (by unfold enoR; rw [if_neg (show ¬ enoOK (ab σ) o n k from (fun h => c3 h.2.2))]) (rfl)
