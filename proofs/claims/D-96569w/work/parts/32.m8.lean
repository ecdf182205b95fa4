set_option maxRecDepth 100000
theorem ok_X8_manyBehind : vv_oc yX8_manyBehind 4 2 (ws_ yX8_manyBehind cX8_manyBehind 4 (some .int)) := vv_ok.oc (rt := (some .int)) ⟨q1722, q133, by decide +kernel, by decide +kernel⟩
theorem is_X8_manyBehind : Cond.instanceMethod yX8_manyBehind ∈ lw_all ∧ Cond.selects RX8 yX8_manyBehind yX8_manyBehind ∈ lw_all := ⟨q1721, qs111⟩
set_option maxHeartbeats 4000000 in
theorem cm_X8_manyBehind {l : Launch} {Kf : State → Prop} {D : va_G} {ad : Nat → Nat} {cI cZ : ClassId} {A : Nat → Prop} (G : mG A Kf D cI cZ)  (σ : mS) (p : Nat) (n : Nat) (hw : Wf (ab σ)) (hp : p < tn (σ 0 13)) (hn : n ≤ 30) : vv_Ct l yX8_manyBehind (ws_ yX8_manyBehind cX8_manyBehind 4 (some .int)) (rm 45 998) Kf (mWd D ad cI cZ A) A [.ref (ad 0), .int (nI p), .int (nI n)] σ (vv_i (mbV (ab σ) p n) (fun u => nb u = nb σ)) := by
  refine vv_of (by decide +kernel) (Nat.le_of_ble_eq_true rfl) ?_
  intro v (F : vv_F v l cX8_manyBehind 4 RX8 "manyBehind" (some .int) [] (rm 45 998) Kf (mWd D ad cI cZ A) A _)
  show v σ 0 0 0 [(0, .ref (ad 0)), (1, .int (nI p)), (2, .int (nI n))] []
  have hM : σ 0 13 = nI (tn (σ 0 13)) := hw.1.1.1
  have hM8 : tn (σ 0 13) ≤ 8 := hw.1.1.2
  refine v_aload_n F 0 dX8_manyBehind_0 rfl rfl rfl ?_
  refine m_calln F G (cm_X8_laysAside G σ) ok_X8_laysAside q1679 is_X8_laysAside rfl rfl dX8_manyBehind_1 rfl rfl ?_
  intro t1 ha1
  refine v_iconst (x := 0) F dX8_manyBehind_4 rfl (by decide) ?_
  refine v_istore_n (ls' := [(3, .int 0), (0, .ref (ad 0)), (1, .int (nI p)), (2, .int (nI n))]) F dX8_manyBehind_5 rfl rfl (by decide) rfl ?_
  have L6 : ∀ (nf : Nat) (s : mS) (j : Nat) (hj : j ≤ n) (hs : ab s = yrs (asd (ab σ)) j) (hnf : n - j < nf), v s 0 0 6 [(0, .ref (ad 0)), (1, .int (nI p)), (2, .int (nI n)), (3, .int (nI j))] [] := by
    intro nf
    induction nf with
    | zero => intro s j hj hs hnf; exact absurd hnf (Nat.not_lt_zero _)
    | succ nf ih6 =>
      intro s j hj hs hnf
      have hws : Wf (ab s) := by rw [hs]; exact wf_yrs (wf_asd hw) j
      have h13 : s 0 13 = σ 0 13 := s13 hs
      have h13t : tn (s 0 13) = tn (σ 0 13) := by rw [h13]
      refine v_iload_n F 3 dX8_manyBehind_6 rfl rfl rfl ?_
      refine v_iload_n F 2 dX8_manyBehind_7 rfl rfl rfl ?_
      refine v_icmp_geN (a := j) (b := n) (tgt := 21) (q := 11) F dX8_manyBehind_8 rfl rfl (by omega) (by omega) (fun c2 => ?_) (fun c2 => ?_)
      · skip
        refine v_aload_n F 0 dX8_manyBehind_21 rfl rfl rfl ?_
        refine m_get F G 12 (w := .ref (ad 12)) (by decide) q1265 rfl dX8_manyBehind_22 rfl ?_
        refine v_iconst (x := 3) F dX8_manyBehind_25 rfl (by decide) ?_
        refine v_iload_n F 1 dX8_manyBehind_26 rfl rfl rfl ?_
        refine v_imulN (a := 3) (b := p) F dX8_manyBehind_27 rfl ?_
        refine v_iconst (x := 2) F dX8_manyBehind_28 rfl (by decide) ?_
        refine v_iaddN (a := 3 * p) (b := 2) F dX8_manyBehind_29 rfl ?_
        refine m_ald12 (t := (3 * p) + 2) F G (by omega) dX8_manyBehind_30 rfl ?_
        refine v_istore_n (ls' := [(3, .int (s 12 ((3 * p) + 2))), (0, .ref (ad 0)), (1, .int (nI p)), (2, .int (nI n))]) F dX8_manyBehind_31 rfl rfl (by decide) rfl ?_
        refine v_aload_n F 1 dX8_manyBehind_32 rfl rfl rfl ?_
        refine m_calln F G (cm_X8_laysBack G s) ok_X8_laysBack q1695 is_X8_laysBack rfl rfl dX8_manyBehind_33 rfl rfl ?_
        intro t3 hk3
        refine v_iload_n F 0 dX8_manyBehind_36 rfl rfl rfl ?_
        exact v_reti F dX8_manyBehind_37 rfl (mb_end hs c2 hj) (nb_back hw hs hk3)
      · skip
        refine v_aload_n F 0 dX8_manyBehind_11 rfl rfl rfl ?_
        refine m_calln F G (cm_X8_lives G s hws) ok_X8_lives q1664 is_X8_lives rfl rfl dX8_manyBehind_12 rfl rfl ?_
        intro t4 hv4
        refine v_iincN (ls' := [(3, .int (nI (j + 1))), (0, .ref (ad 0)), (1, .int (nI p)), (2, .int (nI n))]) F 3 dX8_manyBehind_15 rfl rfl (by decide) rfl ?_
        refine v_goto (tgt := 6) F dX8_manyBehind_18 rfl ?_
        refine v_sub (ls' := [(0, .ref (ad 0)), (1, .int (nI p)), (2, .int (nI n)), (3, .int (nI (j + 1)))]) F [1, 2, 3, 0] rfl ?_
        exact ih6 t4 (j + 1) (by omega) (by rw [hv4, hs]; rfl) (by omega)
  refine v_sub (ls' := [(0, .ref (ad 0)), (1, .int (nI p)), (2, .int (nI n)), (3, .int 0)]) F [1, 2, 3, 0] rfl ?_
  exact L6 _ t1 0 (Nat.zero_le _) ha1 (Nat.lt_succ_self _)
theorem ok_X8_run : vv_oc yX8_run 4 2 (ws_ yX8_run cX8_run 4 (some .int)) := vv_ok.oc (rt := (some .int)) ⟨q1675, q133, by decide +kernel, by decide +kernel⟩
theorem is_X8_run : Cond.instanceMethod yX8_run ∈ lw_all ∧ Cond.selects RX8 yX8_run yX8_run ∈ lw_all := ⟨q1673, q1674⟩
set_option maxHeartbeats 4000000 in
theorem cm_X8_run {l : Launch} {Kf : State → Prop} {D : va_G} {ad : Nat → Nat} {cI cZ : ClassId} {A : Nat → Prop} (G : mG A Kf D cI cZ)  (σ : mS) (n : Int32) (w : Int32) (hw : Wf (ab σ)) : vv_Ct l yX8_run (ws_ yX8_run cX8_run 4 (some .int)) (rm 45 998) Kf (mWd D ad cI cZ A) A [.ref (ad 0), .int n, .int w] σ (vv_i (runR (ab σ) n w) (fun u => nb u = nb σ)) := by
  refine vv_of (by decide +kernel) (Nat.le_of_ble_eq_true rfl) ?_
  intro v (F : vv_F v l cX8_run 4 RX8 "run" (some .int) [] (rm 45 998) Kf (mWd D ad cI cZ A) A _)
  show v σ 0 0 0 [(0, .ref (ad 0)), (1, .int n), (2, .int w)] []
  have hM : σ 0 13 = nI (tn (σ 0 13)) := hw.1.1.1
  have hM8 : tn (σ 0 13) ≤ 8 := hw.1.1.2
  refine v_iload_n F 1 dX8_run_0 rfl rfl rfl ?_
  refine v_i2l F dX8_run_1 rfl ?_
  refine v_lconst (x := (0 : Int32).toInt64) F dX8_run_2 rfl (by decide) ?_
  refine v_ldc2 F q1676 dX8_run_3 rfl ?_
  refine v_lng (y := (30 : Int32).toInt64) F (by decide) ?_
  refine s_calli F G.1 (cm_X8_in G σ n 0 30 ) ok_X8_in q1386 q1387 rfl rfl dX8_run_6 rfl rfl ?_
  intro u0 hu0; subst u0
  refine v_if_eqB (p := (0 ≤ n ∧ n ≤ 30)) (tgt := 49) (q := 12) F dX8_run_9 rfl rfl (fun c1 => ?_) (fun c1 => ?_)
  · skip
    refine v_bipush (x := (-2)) F dX8_run_49 rfl (by decide) ?_
    exact v_reti F dX8_run_51 rfl (by unfold runR; rw [if_neg (show ¬ runOK (ab σ) n w from (fun h => c1 h.1))]) (rfl)
  · skip
    refine v_iload_n F 2 dX8_run_12 rfl rfl rfl ?_
    refine v_i2l F dX8_run_13 rfl ?_
    refine v_lconst (x := (0 : Int32).toInt64) F dX8_run_14 rfl (by decide) ?_
    refine v_ldc2 F q1677 dX8_run_15 rfl ?_
    refine v_lng (y := (3 : Int32).toInt64) F (by decide) ?_
    refine s_calli F G.1 (cm_X8_in G σ w 0 3 ) ok_X8_in q1386 q1387 rfl rfl dX8_run_18 rfl rfl ?_
    intro u0 hu0; subst u0
    refine v_if_neB (p := (0 ≤ w ∧ w ≤ 3)) (tgt := 52) (q := 24) F dX8_run_21 rfl rfl (fun c2 => ?_) (fun c2 => ?_)
    · skip
      obtain ⟨m, hm30, hnm⟩ := in_of (M := 30) (n := 30) (by decide) c1
      have htn : tn n = m := by rw [hnm, tn_nI (by omega)]
      obtain ⟨k, hk, hwk⟩ := in_of (M := 3) (n := 3) (by decide) c2
      have hkk : k < 4 ∨ ((10 ≤ k ∧ k ≤ 29) ∧ k % 10 < tn (σ 0 13)) := Or.inl (by omega)
      have ok : runOK (ab σ) n w := ⟨c1, Or.inl c2⟩
      have hk29 : k ≤ 29 := by omega
      have htw : tn w = k := by rw [hwk, tn_nI (by omega)]
      refine v_aload_n F 0 dX8_run_52 rfl rfl rfl ?_
      refine m_calln F G (cm_X8_laysAside G σ) ok_X8_laysAside q1679 is_X8_laysAside rfl rfl dX8_run_53 rfl rfl ?_
      intro t3 ha3
      refine v_iconst (x := 0) F dX8_run_56 rfl (by decide) ?_
      refine v_istore_n (ls' := [(3, .int 0), (0, .ref (ad 0)), (1, .int n), (2, .int w)]) F dX8_run_57 rfl rfl (by decide) rfl ?_
      have L58 : ∀ (nf : Nat) (s : mS) (j : Nat) (hj : j ≤ m) (hs : ab s = yrs (asd (ab σ)) j) (hnf : m - j < nf), v s 0 0 58 [(0, .ref (ad 0)), (1, .int n), (2, .int w), (3, .int (nI j))] [] := by
        intro nf
        induction nf with
        | zero => intro s j hj hs hnf; exact absurd hnf (Nat.not_lt_zero _)
        | succ nf ih58 =>
          intro s j hj hs hnf
          have hws : Wf (ab s) := by rw [hs]; exact wf_yrs (wf_asd hw) j
          have h13 : s 0 13 = σ 0 13 := s13 hs
          have h13t : tn (s 0 13) = tn (σ 0 13) := by rw [h13]
          refine v_iload_n F 3 dX8_run_58 rfl rfl rfl ?_
          refine v_iload_n F 1 dX8_run_59 rfl rfl rfl ?_
          refine v_int F (hnm) ?_
          refine v_icmp_geN (a := j) (b := m) (tgt := 73) (q := 63) F dX8_run_60 rfl rfl (by omega) (by omega) (fun c4 => ?_) (fun c4 => ?_)
          · skip
            refine v_aload_n F 0 dX8_run_73 rfl rfl rfl ?_
            refine v_iload_n F 2 dX8_run_74 rfl rfl rfl ?_
            refine v_int F (hwk) ?_
            refine m_calli F G (cm_X8_tellsOf G s k (by rw [h13]; exact hM) (by rw [h13]; exact hM8) (by rw [h13]; exact hkk)) ok_X8_tellsOf q1683 is_X8_tellsOf rfl rfl dX8_run_75 rfl rfl ?_
            intro u0 hu0; subst u0
            refine v_istore_n (ls' := [(3, .int (telV (ab s) k)), (0, .ref (ad 0)), (1, .int n), (2, .int w)]) F dX8_run_78 rfl rfl (by decide) rfl ?_
            refine v_aload_n F 1 dX8_run_79 rfl rfl rfl ?_
            refine m_calln F G (cm_X8_laysBack G s) ok_X8_laysBack q1695 is_X8_laysBack rfl rfl dX8_run_80 rfl rfl ?_
            intro t5 hk5
            refine v_iload_n F 0 dX8_run_83 rfl rfl rfl ?_
            exact v_reti F dX8_run_84 rfl (run_end hs c4 hj htn htw ok) (nb_back hw hs hk5)
          · skip
            refine v_aload_n F 0 dX8_run_63 rfl rfl rfl ?_
            refine m_calln F G (cm_X8_lives G s hws) ok_X8_lives q1664 is_X8_lives rfl rfl dX8_run_64 rfl rfl ?_
            intro t6 hv6
            refine v_iincN (ls' := [(3, .int (nI (j + 1))), (0, .ref (ad 0)), (1, .int n), (2, .int w)]) F 3 dX8_run_67 rfl rfl (by decide) rfl ?_
            refine v_goto (tgt := 58) F dX8_run_70 rfl ?_
            refine v_sub (ls' := [(0, .ref (ad 0)), (1, .int n), (2, .int w), (3, .int (nI (j + 1)))]) F [1, 2, 3, 0] rfl ?_
            exact ih58 t6 (j + 1) (by omega) (by rw [hv6, hs]; rfl) (by omega)
      refine v_sub (ls' := [(0, .ref (ad 0)), (1, .int n), (2, .int w), (3, .int 0)]) F [1, 2, 3, 0] rfl ?_
      exact L58 _ t3 0 (Nat.zero_le _) ha3 (Nat.lt_succ_self _)
    · skip
      refine v_iload_n F 2 dX8_run_24 rfl rfl rfl ?_
      refine v_i2l F dX8_run_25 rfl ?_
      refine v_ldc2 F q1408 dX8_run_26 rfl ?_
      refine v_lng (y := (10 : Int32).toInt64) F (by decide) ?_
      refine v_ldc2 F q1678 dX8_run_29 rfl ?_
      refine v_lng (y := (29 : Int32).toInt64) F (by decide) ?_
      refine s_calli F G.1 (cm_X8_in G σ w 10 29 ) ok_X8_in q1386 q1387 rfl rfl dX8_run_32 rfl rfl ?_
      intro u0 hu0; subst u0
      refine v_if_eqB (p := (10 ≤ w ∧ w ≤ 29)) (tgt := 49) (q := 38) F dX8_run_35 rfl rfl (fun c7 => ?_) (fun c7 => ?_)
      · skip
        refine v_bipush (x := (-2)) F dX8_run_49 rfl (by decide) ?_
        exact v_reti F dX8_run_51 rfl (by unfold runR; rw [if_neg (show ¬ runOK (ab σ) n w from (fun h => h.2.elim c2 (fun g => c7 g.1)))]) (rfl)
      · skip
        refine v_aload_n F 0 dX8_run_38 rfl rfl rfl ?_
        refine v_iload_n F 2 dX8_run_39 rfl rfl rfl ?_
        refine v_bipush (x := 10) F dX8_run_40 rfl (by decide) ?_
        refine v_irem F dX8_run_42 rfl (by decide) ?_
        refine m_calli F G (cm_X8_isPlanting G σ (w - w / 10 * 10) ) ok_X8_isPlanting q1397 is_X8_isPlanting rfl rfl dX8_run_43 rfl rfl ?_
        intro u0 hu0; subst u0
        refine v_if_neB (p := (0 ≤ (w - w / 10 * 10) ∧ (w - w / 10 * 10) ≤ σ 0 13 - 1)) (tgt := 52) (q := 49) F dX8_run_46 rfl rfl (fun c8 => ?_) (fun c8 => ?_)
        · skip
          obtain ⟨m, hm30, hnm⟩ := in_of (M := 30) (n := 30) (by decide) c1
          have htn : tn n = m := by rw [hnm, tn_nI (by omega)]
          obtain ⟨k, hk, hwk⟩ := in_of2 c7
          have hkk : k < 4 ∨ ((10 ≤ k ∧ k ≤ 29) ∧ k % 10 < tn (σ 0 13)) := Or.inr ⟨hk, run_k hM hM8 hwk hk c8⟩
          have ok : runOK (ab σ) n w := ⟨c1, Or.inr ⟨c7, c8⟩⟩
          have hk29 : k ≤ 29 := hk.2
          have htw : tn w = k := by rw [hwk, tn_nI (by omega)]
          refine v_aload_n F 0 dX8_run_52 rfl rfl rfl ?_
          refine m_calln F G (cm_X8_laysAside G σ) ok_X8_laysAside q1679 is_X8_laysAside rfl rfl dX8_run_53 rfl rfl ?_
          intro t9 ha9
          refine v_iconst (x := 0) F dX8_run_56 rfl (by decide) ?_
          refine v_istore_n (ls' := [(3, .int 0), (0, .ref (ad 0)), (1, .int n), (2, .int w)]) F dX8_run_57 rfl rfl (by decide) rfl ?_
          have L58 : ∀ (nf : Nat) (s : mS) (j : Nat) (hj : j ≤ m) (hs : ab s = yrs (asd (ab σ)) j) (hnf : m - j < nf), v s 0 0 58 [(0, .ref (ad 0)), (1, .int n), (2, .int w), (3, .int (nI j))] [] := by
            intro nf
            induction nf with
            | zero => intro s j hj hs hnf; exact absurd hnf (Nat.not_lt_zero _)
            | succ nf ih58 =>
              intro s j hj hs hnf
              have hws : Wf (ab s) := by rw [hs]; exact wf_yrs (wf_asd hw) j
              have h13 : s 0 13 = σ 0 13 := s13 hs
              have h13t : tn (s 0 13) = tn (σ 0 13) := by rw [h13]
              refine v_iload_n F 3 dX8_run_58 rfl rfl rfl ?_
              refine v_iload_n F 1 dX8_run_59 rfl rfl rfl ?_
              refine v_int F (hnm) ?_
              refine v_icmp_geN (a := j) (b := m) (tgt := 73) (q := 63) F dX8_run_60 rfl rfl (by omega) (by omega) (fun c10 => ?_) (fun c10 => ?_)
              · skip
                refine v_aload_n F 0 dX8_run_73 rfl rfl rfl ?_
                refine v_iload_n F 2 dX8_run_74 rfl rfl rfl ?_
                refine v_int F (hwk) ?_
                refine m_calli F G (cm_X8_tellsOf G s k (by rw [h13]; exact hM) (by rw [h13]; exact hM8) (by rw [h13]; exact hkk)) ok_X8_tellsOf q1683 is_X8_tellsOf rfl rfl dX8_run_75 rfl rfl ?_
                intro u0 hu0; subst u0
                refine v_istore_n (ls' := [(3, .int (telV (ab s) k)), (0, .ref (ad 0)), (1, .int n), (2, .int w)]) F dX8_run_78 rfl rfl (by decide) rfl ?_
                refine v_aload_n F 1 dX8_run_79 rfl rfl rfl ?_
                refine m_calln F G (cm_X8_laysBack G s) ok_X8_laysBack q1695 is_X8_laysBack rfl rfl dX8_run_80 rfl rfl ?_
                intro t11 hk11
                refine v_iload_n F 0 dX8_run_83 rfl rfl rfl ?_
                exact v_reti F dX8_run_84 rfl (run_end hs c10 hj htn htw ok) (nb_back hw hs hk11)
              · skip
                refine v_aload_n F 0 dX8_run_63 rfl rfl rfl ?_
                refine m_calln F G (cm_X8_lives G s hws) ok_X8_lives q1664 is_X8_lives rfl rfl dX8_run_64 rfl rfl ?_
                intro t12 hv12
                refine v_iincN (ls' := [(3, .int (nI (j + 1))), (0, .ref (ad 0)), (1, .int n), (2, .int w)]) F 3 dX8_run_67 rfl rfl (by decide) rfl ?_
                refine v_goto (tgt := 58) F dX8_run_70 rfl ?_
                refine v_sub (ls' := [(0, .ref (ad 0)), (1, .int n), (2, .int w), (3, .int (nI (j + 1)))]) F [1, 2, 3, 0] rfl ?_
                exact ih58 t12 (j + 1) (by omega) (by rw [hv12, hs]; rfl) (by omega)
          refine v_sub (ls' := [(0, .ref (ad 0)), (1, .int n), (2, .int w), (3, .int 0)]) F [1, 2, 3, 0] rfl ?_
          exact L58 _ t9 0 (Nat.zero_le _) ha9 (Nat.lt_succ_self _)
        · skip
          refine v_bipush (x := (-2)) F dX8_run_49 rfl (by decide) ?_
          exact v_reti F dX8_run_51 rfl (by unfold runR; rw [if_neg (show ¬ runOK (ab σ) n w from (fun h => h.2.elim c2 (fun g => c8 g.2)))]) (rfl)
theorem ok_X8_first : vv_oc yX8_first 5 2 (ws_ yX8_first cX8_first 5 (some .int)) := vv_ok.oc (rt := (some .int)) ⟨q1702, q133, by decide +kernel, by decide +kernel⟩
theorem is_X8_first : Cond.instanceMethod yX8_first ∈ lw_all ∧ Cond.selects RX8 yX8_first yX8_first ∈ lw_all := ⟨q1700, q1701⟩
set_option maxHeartbeats 4000000 in
theorem cm_X8_first {l : Launch} {Kf : State → Prop} {D : va_G} {ad : Nat → Nat} {cI cZ : ClassId} {A : Nat → Prop} (G : mG A Kf D cI cZ)  (σ : mS) (n : Int32) (k : Int32) (hw : Wf (ab σ)) : vv_Ct l yX8_first (ws_ yX8_first cX8_first 5 (some .int)) (rm 45 998) Kf (mWd D ad cI cZ A) A [.ref (ad 0), .int n, .int k] σ (vv_i (firR (ab σ) n k) (fun u => nb u = nb σ)) := by
  refine vv_of (by decide +kernel) (Nat.le_of_ble_eq_true rfl) ?_
  intro v (F : vv_F v l cX8_first 5 RX8 "first" (some .int) [] (rm 45 998) Kf (mWd D ad cI cZ A) A _)
  show v σ 0 0 0 [(0, .ref (ad 0)), (1, .int n), (2, .int k)] []
  have hM : σ 0 13 = nI (tn (σ 0 13)) := hw.1.1.1
  have hM8 : tn (σ 0 13) ≤ 8 := hw.1.1.2
  refine v_iload_n F 1 dX8_first_0 rfl rfl rfl ?_
  refine v_i2l F dX8_first_1 rfl ?_
  refine v_lconst (x := (0 : Int32).toInt64) F dX8_first_2 rfl (by decide) ?_
  refine v_ldc2 F q1676 dX8_first_3 rfl ?_
  refine v_lng (y := (30 : Int32).toInt64) F (by decide) ?_
  refine s_calli F G.1 (cm_X8_in G σ n 0 30 ) ok_X8_in q1386 q1387 rfl rfl dX8_first_6 rfl rfl ?_
  intro u0 hu0; subst u0
  refine v_if_eqB (p := (0 ≤ n ∧ n ≤ 30)) (tgt := 24) (q := 12) F dX8_first_9 rfl rfl (fun c1 => ?_) (fun c1 => ?_)
  · skip
    refine v_bipush (x := (-2)) F dX8_first_24 rfl (by decide) ?_
    exact v_reti F dX8_first_26 rfl (by unfold firR; rw [if_neg (show ¬ ((0 ≤ n ∧ n ≤ 30) ∧ (0 ≤ k ∧ k ≤ 99999)) from (fun h => c1 h.1))]) (rfl)
  · skip
    refine v_iload_n F 2 dX8_first_12 rfl rfl rfl ?_
    refine v_i2l F dX8_first_13 rfl ?_
    refine v_lconst (x := (0 : Int32).toInt64) F dX8_first_14 rfl (by decide) ?_
    refine v_ldc2 F q1703 dX8_first_15 rfl ?_
    refine v_lng (y := (99999 : Int32).toInt64) F (by decide) ?_
    refine s_calli F G.1 (cm_X8_in G σ k 0 99999 ) ok_X8_in q1386 q1387 rfl rfl dX8_first_18 rfl rfl ?_
    intro u0 hu0; subst u0
    refine v_if_neB (p := (0 ≤ k ∧ k ≤ 99999)) (tgt := 27) (q := 24) F dX8_first_21 rfl rfl (fun c2 => ?_) (fun c2 => ?_)
    · skip
      obtain ⟨m, hm30, hnm⟩ := in_of (M := 30) (n := 30) (by decide) c1
      have htn : tn n = m := by rw [hnm, tn_nI (by omega)]
      refine v_aload_n F 0 dX8_first_27 rfl rfl rfl ?_
      refine m_calln F G (cm_X8_laysAside G σ) ok_X8_laysAside q1679 is_X8_laysAside rfl rfl dX8_first_28 rfl rfl ?_
      intro t3 ha3
      refine v_iconst (x := (-1)) F dX8_first_31 rfl (by decide) ?_
      refine v_istore_n (ls' := [(3, .int (-1)), (0, .ref (ad 0)), (1, .int n), (2, .int k)]) F dX8_first_32 rfl rfl (by decide) rfl ?_
      refine v_iconst (x := 0) F dX8_first_33 rfl (by decide) ?_
      refine v_istore (ls' := [(4, .int 0), (3, .int (-1)), (0, .ref (ad 0)), (1, .int n), (2, .int k)]) F dX8_first_34 rfl (by decide) rfl ?_
      have L36 : ∀ (nf : Nat) (s : mS) (j : Nat) (x : Int32) (hj : j ≤ m) (hs : ab s = yrs (asd (ab σ)) j) (hx : x = firN (asd (ab σ)) k j) (hnf : m - j < nf), v s 0 0 36 [(0, .ref (ad 0)), (1, .int n), (2, .int k), (3, .int x), (4, .int (nI j))] [] := by
        intro nf
        induction nf with
        | zero => intro s j x hj hs hx hnf; exact absurd hnf (Nat.not_lt_zero _)
        | succ nf ih36 =>
          intro s j x hj hs hx hnf
          have hws : Wf (ab s) := by rw [hs]; exact wf_yrs (wf_asd hw) j
          have h13 : s 0 13 = σ 0 13 := s13 hs
          have h13t : tn (s 0 13) = tn (σ 0 13) := by rw [h13]
          refine v_iload F 4 dX8_first_36 rfl rfl ?_
          refine v_iload_n F 1 dX8_first_38 rfl rfl rfl ?_
          refine v_int F (hnm) ?_
          refine v_icmp_geN (a := j) (b := m) (tgt := 72) (q := 42) F dX8_first_39 rfl rfl (by omega) (by omega) (fun c4 => ?_) (fun c4 => ?_)
          · skip
            refine v_aload_n F 0 dX8_first_72 rfl rfl rfl ?_
            refine m_calln F G (cm_X8_laysBack G s) ok_X8_laysBack q1695 is_X8_laysBack rfl rfl dX8_first_73 rfl rfl ?_
            intro t5 hk5
            refine v_iload_n F 3 dX8_first_76 rfl rfl rfl ?_
            exact v_reti F dX8_first_77 rfl (by unfold firR; rw [if_pos ⟨c1, c2⟩, htn, firN_e hx hj (Or.inl c4), fir_eq2 nas]) (nb_back hw hs hk5)
          · skip
            refine v_iload_n F 3 dX8_first_42 rfl rfl rfl ?_
            refine v_iconst (x := (-1)) F dX8_first_43 rfl (by decide) ?_
            refine v_icmp_ne (tgt := 72) (q := 47) F dX8_first_44 rfl rfl (fun c6 => ?_) (fun c6 => ?_)
            · skip
              refine v_aload_n F 0 dX8_first_72 rfl rfl rfl ?_
              refine m_calln F G (cm_X8_laysBack G s) ok_X8_laysBack q1695 is_X8_laysBack rfl rfl dX8_first_73 rfl rfl ?_
              intro t7 hk7
              refine v_iload_n F 3 dX8_first_76 rfl rfl rfl ?_
              exact v_reti F dX8_first_77 rfl (by unfold firR; rw [if_pos ⟨c1, c2⟩, htn, firN_e hx hj (Or.inr c6), fir_eq2 nas]) (nb_back hw hs hk7)
            · skip
              refine v_aload_n F 0 dX8_first_47 rfl rfl rfl ?_
              refine m_calln F G (cm_X8_lives G s hws) ok_X8_lives q1664 is_X8_lives rfl rfl dX8_first_48 rfl rfl ?_
              intro t8 hv8
              have y13 : t8 0 13 = σ 0 13 := by rw [← ab_rd (σ := t8) 0 13 rfl, hv8]; exact (livS_r (ab s)).M.trans h13
              refine v_aload_n F 0 dX8_first_51 rfl rfl rfl ?_
              refine m_calli F G (cm_X8_bloom G t8 (by rw [y13]; exact hM) (by rw [y13]; exact hM8)) ok_X8_bloom q1687 is_X8_bloom rfl rfl dX8_first_52 rfl rfl ?_
              intro u0 hu0; subst u0
              have hblo : bloV (ab t8) = bloV (yrs (asd (ab σ)) (j + 1)) := by rw [hv8, hs]; rfl
              refine v_iload_n F 2 dX8_first_55 rfl rfl rfl ?_
              refine v_icmp_lt (tgt := 64) (q := 59) F dX8_first_56 rfl rfl (fun c9 => ?_) (fun c9 => ?_)
              · skip
                refine v_iconst (x := (-1)) F dX8_first_64 rfl (by decide) ?_
                refine v_istore_n (ls' := [(3, .int (-1)), (0, .ref (ad 0)), (1, .int n), (2, .int k), (4, .int (nI j))]) F dX8_first_65 rfl rfl (by decide) rfl ?_
                refine v_iincN (ls' := [(4, .int (nI (j + 1))), (3, .int (-1)), (0, .ref (ad 0)), (1, .int n), (2, .int k)]) F 4 dX8_first_66 rfl rfl (by decide) rfl ?_
                refine v_goto (tgt := 36) F dX8_first_69 rfl ?_
                refine v_sub (ls' := [(0, .ref (ad 0)), (1, .int n), (2, .int k), (3, .int (-1)), (4, .int (nI (j + 1)))]) F [2, 3, 4, 1, 0] rfl ?_
                exact ih36 t8 (j + 1) (-1) (by omega) (by rw [hv8, hs]; rfl) (firN_s hx c6 (by rw [hblo] at c9; exact c9)) (by omega)
              · skip
                refine v_iload F 4 dX8_first_59 rfl rfl ?_
                refine v_goto (tgt := 65) F dX8_first_61 rfl ?_
                refine v_istore_n (ls' := [(3, .int (nI j)), (0, .ref (ad 0)), (1, .int n), (2, .int k), (4, .int (nI j))]) F dX8_first_65 rfl rfl (by decide) rfl ?_
                refine v_iincN (ls' := [(4, .int (nI (j + 1))), (3, .int (nI j)), (0, .ref (ad 0)), (1, .int n), (2, .int k)]) F 4 dX8_first_66 rfl rfl (by decide) rfl ?_
                refine v_goto (tgt := 36) F dX8_first_69 rfl ?_
                refine v_sub (ls' := [(0, .ref (ad 0)), (1, .int n), (2, .int k), (3, .int (nI j)), (4, .int (nI (j + 1)))]) F [2, 3, 4, 1, 0] rfl ?_
                exact ih36 t8 (j + 1) (nI j) (by omega) (by rw [hv8, hs]; rfl) (firN_f hx c6 (by rw [hblo] at c9; exact c9)) (by omega)
      refine v_sub (ls' := [(0, .ref (ad 0)), (1, .int n), (2, .int k), (3, .int (-1)), (4, .int 0)]) F [2, 3, 4, 1, 0] rfl ?_
      exact L36 _ t3 0 (-1) (Nat.zero_le _) ha3 rfl (Nat.lt_succ_self _)
    · skip
      refine v_bipush (x := (-2)) F dX8_first_24 rfl (by decide) ?_
      exact v_reti F dX8_first_26 rfl (by unfold firR; rw [if_neg (show ¬ ((0 ≤ n ∧ n ≤ 30) ∧ (0 ≤ k ∧ k ≤ 99999)) from (fun h => c2 h.2))]) (rfl)
theorem ok_X8_hidden : vv_oc yX8_hidden 6 2 (ws_ yX8_hidden cX8_hidden 6 (some .long)) := vv_ok.oc (rt := (some .long)) ⟨q1713, q133, by decide +kernel, by decide +kernel⟩
theorem is_X8_hidden : Cond.instanceMethod yX8_hidden ∈ lw_all ∧ Cond.selects RX8 yX8_hidden yX8_hidden ∈ lw_all := ⟨q1712, qs110⟩
set_option maxHeartbeats 4000000 in
theorem cm_X8_hidden {l : Launch} {Kf : State → Prop} {D : va_G} {ad : Nat → Nat} {cI cZ : ClassId} {A : Nat → Prop} (G : mG A Kf D cI cZ)  (σ : mS) (p : Nat) (n : Nat) (hw : Wf (ab σ)) (hp : p < tn (σ 0 13)) (hn : n ≤ 30) : vv_Ct l yX8_hidden (ws_ yX8_hidden cX8_hidden 6 (some .long)) (rm 45 998) Kf (mWd D ad cI cZ A) A [.ref (ad 0), .int (nI p), .int (nI n)] σ (vv_j (hidV (ab σ) p n) (fun u => nb u = nb σ)) := by
  refine vv_of (by decide +kernel) (Nat.le_of_ble_eq_true rfl) ?_
  intro v (F : vv_F v l cX8_hidden 6 RX8 "hidden" (some .long) [] (rm 45 998) Kf (mWd D ad cI cZ A) A _)
  show v σ 0 0 0 [(0, .ref (ad 0)), (1, .int (nI p)), (2, .int (nI n))] []
  have hM : σ 0 13 = nI (tn (σ 0 13)) := hw.1.1.1
  have hM8 : tn (σ 0 13) ≤ 8 := hw.1.1.2
  refine v_aload_n F 0 dX8_hidden_0 rfl rfl rfl ?_
  refine m_calln F G (cm_X8_laysAside G σ) ok_X8_laysAside q1679 is_X8_laysAside rfl rfl dX8_hidden_1 rfl rfl ?_
  intro t1 ha1
  refine v_lconst (x := (1 : Int32).toInt64) F dX8_hidden_4 rfl (by decide) ?_
  refine v_lstore_n (ls' := [(3, .long ((1 : Int32).toInt64)), (0, .ref (ad 0)), (1, .int (nI p)), (2, .int (nI n))]) F dX8_hidden_5 rfl rfl (by decide) rfl ?_
  refine v_iconst (x := 0) F dX8_hidden_6 rfl (by decide) ?_
  refine v_istore (ls' := [(5, .int 0), (3, .long ((1 : Int32).toInt64)), (0, .ref (ad 0)), (1, .int (nI p)), (2, .int (nI n))]) F dX8_hidden_7 rfl (by decide) rfl ?_
  have L9 : ∀ (nf : Nat) (s : mS) (j : Nat) (y : Int64) (hj : j ≤ n) (hs : ab s = yrs (asd (ab σ)) j) (hy : y = hidV (asd (ab σ)) p j) (hnf : n - j < nf), v s 0 0 9 [(0, .ref (ad 0)), (1, .int (nI p)), (2, .int (nI n)), (3, .long y), (5, .int (nI j))] [] := by
    intro nf
    induction nf with
    | zero => intro s j y hj hs hy hnf; exact absurd hnf (Nat.not_lt_zero _)
    | succ nf ih9 =>
      intro s j y hj hs hy hnf
      have hws : Wf (ab s) := by rw [hs]; exact wf_yrs (wf_asd hw) j
      have h13 : s 0 13 = σ 0 13 := s13 hs
      have h13t : tn (s 0 13) = tn (σ 0 13) := by rw [h13]
      refine v_iload F 4 dX8_hidden_9 rfl rfl ?_
      refine v_iload_n F 2 dX8_hidden_11 rfl rfl rfl ?_
      refine v_icmp_geN (a := j) (b := n) (tgt := 38) (q := 15) F dX8_hidden_12 rfl rfl (by omega) (by omega) (fun c2 => ?_) (fun c2 => ?_)
      · skip
        refine v_aload_n F 0 dX8_hidden_38 rfl rfl rfl ?_
        refine m_calln F G (cm_X8_laysBack G s) ok_X8_laysBack q1695 is_X8_laysBack rfl rfl dX8_hidden_39 rfl rfl ?_
        intro t3 hk3
        refine v_lload_n F 3 dX8_hidden_42 rfl rfl rfl ?_
        exact v_retj F dX8_hidden_43 rfl (by rw [hy, show j = n by omega, hid_eq2 nas]) (nb_back hw hs hk3)
      · skip
        refine v_lload_n F 3 dX8_hidden_15 rfl rfl rfl ?_
        refine v_bipush (x := 100) F dX8_hidden_16 rfl (by decide) ?_
        refine v_aload_n F 0 dX8_hidden_18 rfl rfl rfl ?_
        refine v_iconst (x := 2) F dX8_hidden_19 rfl (by decide) ?_
        refine v_iload_n F 1 dX8_hidden_20 rfl rfl rfl ?_
        refine m_calli F G (cm_X8_says G s 2 p hws (by omega)) ok_X8_says q1413 is_X8_says rfl rfl dX8_hidden_21 rfl rfl ?_
        intro t4 hb4
        refine v_isub F dX8_hidden_24 rfl ?_
        refine v_i2l F dX8_hidden_25 rfl ?_
        refine v_lmul F dX8_hidden_26 rfl ?_
        refine v_lstore_n (ls' := [(3, .long (y * (Int32.toInt64 (100 - (sayV (ab s) 2 p))))), (0, .ref (ad 0)), (1, .int (nI p)), (2, .int (nI n)), (5, .int (nI j))]) F dX8_hidden_27 rfl rfl (by decide) rfl ?_
        have hwt : Wf (ab t4) := by rw [hb4]; exact hws
        refine v_aload_n F 1 dX8_hidden_28 rfl rfl rfl ?_
        refine m_calln F G (cm_X8_lives G t4 hwt) ok_X8_lives q1664 is_X8_lives rfl rfl dX8_hidden_29 rfl rfl ?_
        intro t5 hv5
        refine v_iincN (ls' := [(5, .int (nI (j + 1))), (3, .long (y * (Int32.toInt64 (100 - (sayV (ab s) 2 p))))), (0, .ref (ad 0)), (1, .int (nI p)), (2, .int (nI n))]) F 4 dX8_hidden_32 rfl rfl (by decide) rfl ?_
        refine v_goto (tgt := 9) F dX8_hidden_35 rfl ?_
        refine v_sub (ls' := [(0, .ref (ad 0)), (1, .int (nI p)), (2, .int (nI n)), (3, .long (y * (Int32.toInt64 (100 - (sayV (ab s) 2 p))))), (5, .int (nI (j + 1)))]) F [2, 3, 4, 1, 0] rfl ?_
        exact ih9 t5 (j + 1) (y * (Int32.toInt64 (100 - (sayV (ab s) 2 p)))) (by omega) (by rw [hv5, hb4, hs]; rfl) (by rw [hy, hs]; rfl) (by omega)
  refine v_sub (ls' := [(0, .ref (ad 0)), (1, .int (nI p)), (2, .int (nI n)), (3, .long ((1 : Int32).toInt64)), (5, .int 0)]) F [2, 3, 4, 1, 0] rfl ?_
  exact L9 _ t1 0 ((1 : Int32).toInt64) (Nat.zero_le _) ha1 (by show _ = (1 : Int64); decide) (Nat.lt_succ_self _)
