set_option maxRecDepth 100000
theorem ok_X8_cell : vv_oc yX8_cell 4 3 (ws_ yX8_cell cX8_cell 4 (some .int)) := vv_ok.oc (rt := (some .int)) ⟨q1796, q133, by decide +kernel, by decide +kernel⟩
theorem is_X8_cell : Cond.instanceMethod yX8_cell ∈ lw_all ∧ Cond.selects RX8 yX8_cell yX8_cell ∈ lw_all := ⟨q1794, q1795⟩
set_option maxHeartbeats 4000000 in
theorem cm_X8_cell {l : Launch} {Kf : State → Prop} {D : va_G} {ad : Nat → Nat} {cI cZ : ClassId} {A : Nat → Prop} (G : mG A Kf D cI cZ)  (σ : mS) (q : Int32) (i : Int32) (x : Int32) (hS : wfS (ab σ)) : vv_Ct l yX8_cell (ws_ yX8_cell cX8_cell 4 (some .int)) (rm 2 45) Kf (mWd D ad cI cZ A) A [.ref (ad 0), .int q, .int i, .int x] σ (vv_i (celR (ab σ) q i) (fun u => ab u = celS (ab σ) q i x)) := by
  refine vv_of (by decide +kernel) (Nat.le_of_ble_eq_true rfl) ?_
  intro v (F : vv_F v l cX8_cell 4 RX8 "cell" (some .int) [] (rm 2 45) Kf (mWd D ad cI cZ A) A _)
  show v σ 0 0 0 [(0, .ref (ad 0)), (1, .int q), (2, .int i), (3, .int x)] []
  refine v_iload_n F 1 dX8_cell_0 rfl rfl rfl ?_
  refine s_calli F G.1 (cm_X8_isSheet G σ q ) ok_X8_isSheet q1749 q1750 rfl rfl dX8_cell_1 rfl rfl ?_
  intro u0 hu0; subst u0
  refine v_if_neB (p := (0 ≤ q ∧ q ≤ 3)) (tgt := 10) (q := 7) F dX8_cell_4 rfl rfl (fun c1 => ?_) (fun c1 => ?_)
  · skip
    obtain ⟨a, ha3, hqa⟩ := in_of (M := 3) (n := 3) (by decide) c1
    have htq : tn q = a := by rw [hqa, tn_nI (by omega)]
    refine v_aload_n F 0 dX8_cell_10 rfl rfl rfl ?_
    refine m_get F G 38 (w := .ref (ad 38)) (by decide) q1291 rfl dX8_cell_11 rfl ?_
    refine v_iload_n F 1 dX8_cell_14 rfl rfl rfl ?_
    refine v_int F (hqa) ?_
    refine m_ald38 (t := a) F G (by omega) dX8_cell_15 rfl ?_
    refine v_if_ne (tgt := 22) (q := 19) F dX8_cell_16 rfl rfl (fun c2 => ?_) (fun c2 => ?_)
    · skip
      have h38 : σ 38 a = 1 := ((hS a (by omega)).1).resolve_left c2
      have h40 : okN (σ 40 a) 40 := ((hS a (by omega)).2 h38).1
      refine v_iload_n F 2 dX8_cell_22 rfl rfl rfl ?_
      refine v_i2l F dX8_cell_23 rfl ?_
      refine v_lconst (x := (0 : Int32).toInt64) F dX8_cell_24 rfl (by decide) ?_
      refine v_aload_n F 0 dX8_cell_25 rfl rfl rfl ?_
      refine m_get F G 40 (w := .ref (ad 40)) (by decide) q1293 rfl dX8_cell_26 rfl ?_
      refine v_iload_n F 1 dX8_cell_29 rfl rfl rfl ?_
      refine v_int F (hqa) ?_
      refine m_ald40 (t := a) F G (by omega) dX8_cell_30 rfl ?_
      refine v_iconst (x := 1) F dX8_cell_31 rfl (by decide) ?_
      refine v_isub F dX8_cell_32 rfl ?_
      refine v_i2l F dX8_cell_33 rfl ?_
      refine s_calli F G.1 (cm_X8_in G σ i 0 ((σ 40 a) - 1) ) ok_X8_in q1386 q1387 rfl rfl dX8_cell_34 rfl rfl ?_
      intro u0 hu0; subst u0
      refine v_if_neB (p := (0 ≤ i ∧ i ≤ ((σ 40 a) - 1))) (tgt := 43) (q := 40) F dX8_cell_37 rfl rfl (fun c3 => ?_) (fun c3 => ?_)
      · skip
        obtain ⟨m, hm, him⟩ := sz_of h40 c3
        have h402 := h40.2
        have hti : tn i = m := by rw [him, tn_nI (by omega)]
        have hcr : celR (ab σ) q i = 1 := by unfold celR; rw [if_neg (fun h => h c1), htq, if_neg (show ¬ ab σ 38 a = 0 from c2), if_neg (fun h => h (show 0 ≤ i ∧ i ≤ ab σ 40 a - 1 from c3))]
        refine v_aload_n F 0 dX8_cell_43 rfl rfl rfl ?_
        refine m_get F G 41 (w := .ref (ad 41)) (by decide) q1294 rfl dX8_cell_44 rfl ?_
        refine v_bipush (x := 40) F dX8_cell_47 rfl (by decide) ?_
        refine v_iload_n F 1 dX8_cell_49 rfl rfl rfl ?_
        refine v_int F (hqa) ?_
        refine v_imulN (a := 40) (b := a) F dX8_cell_50 rfl ?_
        refine v_iload_n F 2 dX8_cell_51 rfl rfl rfl ?_
        refine v_int F (him) ?_
        refine v_iaddN (a := 40 * a) (b := m) F dX8_cell_52 rfl ?_
        refine v_aload_n F 0 dX8_cell_53 rfl rfl rfl ?_
        refine m_get F G 39 (w := .ref (ad 39)) (by decide) q1292 rfl dX8_cell_54 rfl ?_
        refine v_iload_n F 1 dX8_cell_57 rfl rfl rfl ?_
        refine v_int F (hqa) ?_
        refine m_ald39 (t := a) F G (by omega) dX8_cell_58 rfl ?_
        refine v_if_ne (tgt := 67) (q := 62) F dX8_cell_59 rfl rfl (fun c4 => ?_) (fun c4 => ?_)
        · skip
          refine v_aload_n F 0 dX8_cell_67 rfl rfl rfl ?_
          refine m_get F G 39 (w := .ref (ad 39)) (by decide) q1292 rfl dX8_cell_68 rfl ?_
          refine v_iload_n F 1 dX8_cell_71 rfl rfl rfl ?_
          refine v_int F (hqa) ?_
          refine m_ald39 (t := a) F G (by omega) dX8_cell_72 rfl ?_
          refine v_iconst (x := 1) F dX8_cell_73 rfl (by decide) ?_
          refine v_icmp_ne (tgt := 82) (q := 77) F dX8_cell_74 rfl rfl (fun c5 => ?_) (fun c5 => ?_)
          · skip
            refine v_iload_n F 3 dX8_cell_82 rfl rfl rfl ?_
            refine m_ast41 (t := (40 * a) + m) F G (by omega) dX8_cell_83 rfl ?_
            refine v_iconst (x := 1) F dX8_cell_84 rfl (by decide) ?_
            exact v_reti F dX8_cell_85 rfl (hcr.symm) (by unfold celS; rw [if_pos hcr, htq, hti, ab_u rfl]; unfold narV; rw [if_neg (show ¬ ab σ 39 a = 0 from c4), if_neg (show ¬ ab σ 39 a = 1 from c5)])
          · skip
            refine v_iload_n F 3 dX8_cell_77 rfl rfl rfl ?_
            refine v_i2s F dX8_cell_78 rfl ?_
            refine v_goto (tgt := 83) F dX8_cell_79 rfl ?_
            refine m_ast41 (t := (40 * a) + m) F G (by omega) dX8_cell_83 rfl ?_
            refine v_iconst (x := 1) F dX8_cell_84 rfl (by decide) ?_
            exact v_reti F dX8_cell_85 rfl (hcr.symm) (by unfold celS; rw [if_pos hcr, htq, hti, ab_u rfl]; unfold narV; rw [if_neg (show ¬ ab σ 39 a = 0 from c4), if_pos (show ab σ 39 a = 1 from c5)])
        · skip
          refine v_iload_n F 3 dX8_cell_62 rfl rfl rfl ?_
          refine v_i2b F dX8_cell_63 rfl ?_
          refine v_goto (tgt := 83) F dX8_cell_64 rfl ?_
          refine m_ast41 (t := (40 * a) + m) F G (by omega) dX8_cell_83 rfl ?_
          refine v_iconst (x := 1) F dX8_cell_84 rfl (by decide) ?_
          exact v_reti F dX8_cell_85 rfl (hcr.symm) (by unfold celS; rw [if_pos hcr, htq, hti, ab_u rfl]; unfold narV; rw [if_pos (show ab σ 39 a = 0 from c4)])
      · skip
        refine v_bipush (x := (-12)) F dX8_cell_40 rfl (by decide) ?_
        exact v_reti F dX8_cell_42 rfl (by unfold celR; rw [if_neg (fun h => h c1), htq, if_neg (show ¬ ab σ 38 a = 0 from c2), if_pos (show ¬ (0 ≤ i ∧ i ≤ ab σ 40 a - 1) from c3)]) (by unfold celS; rw [if_neg]; intro h; have e : (-12) = celR (ab σ) q i := (by unfold celR; rw [if_neg (fun h => h c1), htq, if_neg (show ¬ ab σ 38 a = 0 from c2), if_pos (show ¬ (0 ≤ i ∧ i ≤ ab σ 40 a - 1) from c3)]); rw [← e] at h; exact absurd h (by decide))
    · skip
      refine v_bipush (x := (-11)) F dX8_cell_19 rfl (by decide) ?_
      exact v_reti F dX8_cell_21 rfl (by unfold celR; rw [if_neg (fun h => h c1), htq, if_pos (show ab σ 38 a = 0 from c2)]) (by unfold celS; rw [if_neg]; intro h; have e : (-11) = celR (ab σ) q i := (by unfold celR; rw [if_neg (fun h => h c1), htq, if_pos (show ab σ 38 a = 0 from c2)]); rw [← e] at h; exact absurd h (by decide))
  · skip
    refine v_bipush (x := (-2)) F dX8_cell_7 rfl (by decide) ?_
    exact v_reti F dX8_cell_9 rfl (by unfold celR; rw [if_pos (show ¬ (0 ≤ q ∧ q ≤ 3) from c1)]) (by unfold celS; rw [if_neg]; intro h; have e : (-2) = celR (ab σ) q i := (by unfold celR; rw [if_pos (show ¬ (0 ≤ q ∧ q ≤ 3) from c1)]); rw [← e] at h; exact absurd h (by decide))
theorem ok_X8_film : vv_oc yX8_film 5 3 (ws_ yX8_film cX8_film 5 (some .int)) := vv_ok.oc (rt := (some .int)) ⟨q1760, q133, by decide +kernel, by decide +kernel⟩
theorem is_X8_film : Cond.instanceMethod yX8_film ∈ lw_all ∧ Cond.selects RX8 yX8_film yX8_film ∈ lw_all := ⟨q1758, q1759⟩
set_option maxHeartbeats 4000000 in
theorem cm_X8_film {l : Launch} {Kf : State → Prop} {D : va_G} {ad : Nat → Nat} {cI cZ : ClassId} {A : Nat → Prop} (G : mG A Kf D cI cZ)  (σ : mS) (q : Int32) (o : Int32) (n : Int32) (hw : Wf (ab σ)) : vv_Ct l yX8_film (ws_ yX8_film cX8_film 5 (some .int)) (rm 45 998) Kf (mWd D ad cI cZ A) A [.ref (ad 0), .int q, .int o, .int n] σ (vv_i (filR (ab σ) q o n) (fun u => nb u = na (filT (ab σ) q o n))) := by
  refine vv_of (by decide +kernel) (Nat.le_of_ble_eq_true rfl) ?_
  intro v (F : vv_F v l cX8_film 5 RX8 "film" (some .int) [] (rm 45 998) Kf (mWd D ad cI cZ A) A _)
  show v σ 0 0 0 [(0, .ref (ad 0)), (1, .int q), (2, .int o), (3, .int n)] []
  have hM : σ 0 13 = nI (tn (σ 0 13)) := hw.1.1.1
  have hM8 : tn (σ 0 13) ≤ 8 := hw.1.1.2
  refine v_iload_n F 1 dX8_film_0 rfl rfl rfl ?_
  refine s_calli F G.1 (cm_X8_isSheet G σ q ) ok_X8_isSheet q1749 q1750 rfl rfl dX8_film_1 rfl rfl ?_
  intro u0 hu0; subst u0
  refine v_if_eqB (p := (0 ≤ q ∧ q ≤ 3)) (tgt := 27) (q := 7) F dX8_film_4 rfl rfl (fun c1 => ?_) (fun c1 => ?_)
  · skip
    refine v_bipush (x := (-2)) F dX8_film_27 rfl (by decide) ?_
    exact v_reti F dX8_film_29 rfl (by unfold filR; rw [if_neg (show ¬ filOK (ab σ) q o n from (fun h => c1 h.1))]) (by show na (ab σ) = na (filT (ab σ) q o n); unfold filT; rw [if_neg (show ¬ filOK (ab σ) q o n from (fun h => c1 h.1))])
  · skip
    refine v_aload_n F 0 dX8_film_7 rfl rfl rfl ?_
    refine v_iload_n F 2 dX8_film_8 rfl rfl rfl ?_
    refine m_calli F G (cm_X8_isPlanting G σ o ) ok_X8_isPlanting q1397 is_X8_isPlanting rfl rfl dX8_film_9 rfl rfl ?_
    intro u0 hu0; subst u0
    refine v_if_eqB (p := (0 ≤ o ∧ o ≤ σ 0 13 - 1)) (tgt := 27) (q := 15) F dX8_film_12 rfl rfl (fun c2 => ?_) (fun c2 => ?_)
    · skip
      refine v_bipush (x := (-2)) F dX8_film_27 rfl (by decide) ?_
      exact v_reti F dX8_film_29 rfl (by unfold filR; rw [if_neg (show ¬ filOK (ab σ) q o n from (fun h => c2 h.2.1))]) (by show na (ab σ) = na (filT (ab σ) q o n); unfold filT; rw [if_neg (show ¬ filOK (ab σ) q o n from (fun h => c2 h.2.1))])
    · skip
      refine v_iload_n F 3 dX8_film_15 rfl rfl rfl ?_
      refine v_i2l F dX8_film_16 rfl ?_
      refine v_lconst (x := (0 : Int32).toInt64) F dX8_film_17 rfl (by decide) ?_
      refine v_ldc2 F q1676 dX8_film_18 rfl ?_
      refine v_lng (y := (30 : Int32).toInt64) F (by decide) ?_
      refine s_calli F G.1 (cm_X8_in G σ n 0 30 ) ok_X8_in q1386 q1387 rfl rfl dX8_film_21 rfl rfl ?_
      intro u0 hu0; subst u0
      refine v_if_neB (p := (0 ≤ n ∧ n ≤ 30)) (tgt := 30) (q := 27) F dX8_film_24 rfl rfl (fun c3 => ?_) (fun c3 => ?_)
      · skip
        obtain ⟨a, ha3, hqa⟩ := in_of (M := 3) (n := 3) (by decide) c1
        have htq : tn q = a := by rw [hqa, tn_nI (by omega)]
        obtain ⟨p, hp, hop⟩ := pl_of hM hM8 c2
        have htp : tn o = p := by rw [hop, tn_nI (by omega)]
        obtain ⟨m, hm, hnm⟩ := in_of (M := 30) (n := 30) (by decide) c3
        have htn : tn n = m := by rw [hnm, tn_nI (by omega)]
        refine v_aload_n F 0 dX8_film_30 rfl rfl rfl ?_
        refine v_iload_n F 1 dX8_film_31 rfl rfl rfl ?_
        refine v_iconst (x := 2) F dX8_film_32 rfl (by decide) ?_
        refine v_iload_n F 3 dX8_film_33 rfl rfl rfl ?_
        refine m_calli F G (cm_X8_sheet G σ q 2 n) ok_X8_sheet q1761 is_X8_sheet rfl rfl dX8_film_34 rfl rfl ?_
        intro t4 hq4
        have hwt : Wf (ab t4) := by rw [hq4]; exact she_wf hw
        have h13a : t4 0 13 = σ 0 13 := by rw [← ab_rd (σ := t4) 0 13 rfl, hq4]; exact she_13
        generalize hα : sheS (ab σ) q 2 n = α at hq4
        have hwα : Wf α := by rw [← hq4]; exact hwt
        refine v_pop F dX8_film_37 rfl rfl ?_
        refine v_aload_n F 0 dX8_film_38 rfl rfl rfl ?_
        refine m_calln F G (cm_X8_laysAside G t4) ok_X8_laysAside q1679 is_X8_laysAside rfl rfl dX8_film_39 rfl rfl ?_
        intro t5 ha5
        refine v_iconst (x := 0) F dX8_film_42 rfl (by decide) ?_
        refine v_istore (ls' := [(4, .int 0), (0, .ref (ad 0)), (1, .int q), (2, .int o), (3, .int n)]) F dX8_film_43 rfl (by decide) rfl ?_
        have L45 : ∀ (nf : Nat) (s : mS) (j : Nat) (hj : j ≤ m) (hs : ab s = ov41 (filF (asd α) a p j) (yrs (asd α) j)) (hnf : m - j < nf), v s 0 0 45 [(0, .ref (ad 0)), (1, .int q), (2, .int o), (3, .int n), (4, .int (nI j))] [] := by
          intro nf
          induction nf with
          | zero => intro s j hj hs hnf; exact absurd hnf (Nat.not_lt_zero _)
          | succ nf ih45 =>
            intro s j hj hs hnf
            have hws : Wf (ab s) := by rw [hs]; exact ov_wf.mpr (wf_yrs (wf_asd hwα) j)
            refine v_iload F 4 dX8_film_45 rfl rfl ?_
            refine v_iload_n F 3 dX8_film_47 rfl rfl rfl ?_
            refine v_int F (hnm) ?_
            refine v_icmp_geN (a := j) (b := m) (tgt := 83) (q := 51) F dX8_film_48 rfl rfl (by omega) (by omega) (fun c6 => ?_) (fun c6 => ?_)
            · skip
              refine v_aload_n F 0 dX8_film_83 rfl rfl rfl ?_
              refine m_calln F G (cm_X8_laysBack G s) ok_X8_laysBack q1695 is_X8_laysBack rfl rfl dX8_film_84 rfl rfl ?_
              intro t7 hk7
              refine v_iload_n F 3 dX8_film_87 rfl rfl rfl ?_
              refine v_int F (hnm) ?_
              exact v_reti F dX8_film_88 rfl (by rw [← hnm]; exact (if_pos (show filOK (ab σ) q o n from ⟨c1, c2, c3⟩)).symm) (by unfold filT; rw [if_pos (show filOK (ab σ) q o n from ⟨c1, c2, c3⟩), hα, htq, htp, htn]; exact fil_end (σ' := σ) hwα hs c6 hj hk7)
            · skip
              refine v_aload_n F 0 dX8_film_51 rfl rfl rfl ?_
              refine m_calln F G (cm_X8_lives G s hws) ok_X8_lives q1664 is_X8_lives rfl rfl dX8_film_52 rfl rfl ?_
              intro t8 hv8
              have hy : ab t8 = ov41 (filF (asd α) a p j) (yrs (asd α) (j + 1)) := by rw [hv8, hs, ← ov_livS]; rfl
              have hr1 : t8 12 (3 * p + 2) = yrs (asd α) (j + 1) 12 (3 * p + 2) := by rw [← ab_rd (σ := t8) 12 _ rfl, hy]; rfl
              refine v_aload_n F 0 dX8_film_55 rfl rfl rfl ?_
              refine m_get F G 41 (w := .ref (ad 41)) (by decide) q1294 rfl dX8_film_56 rfl ?_
              refine v_bipush (x := 40) F dX8_film_59 rfl (by decide) ?_
              refine v_iload_n F 1 dX8_film_61 rfl rfl rfl ?_
              refine v_int F (hqa) ?_
              refine v_imulN (a := 40) (b := a) F dX8_film_62 rfl ?_
              refine v_iload F 4 dX8_film_63 rfl rfl ?_
              refine v_iaddN (a := 40 * a) (b := j) F dX8_film_65 rfl ?_
              refine v_aload_n F 0 dX8_film_66 rfl rfl rfl ?_
              refine m_get F G 12 (w := .ref (ad 12)) (by decide) q1265 rfl dX8_film_67 rfl ?_
              refine v_iconst (x := 3) F dX8_film_70 rfl (by decide) ?_
              refine v_iload_n F 2 dX8_film_71 rfl rfl rfl ?_
              refine v_int F (hop) ?_
              refine v_imulN (a := 3) (b := p) F dX8_film_72 rfl ?_
              refine v_iconst (x := 2) F dX8_film_73 rfl (by decide) ?_
              refine v_iaddN (a := 3 * p) (b := 2) F dX8_film_74 rfl ?_
              refine m_ald12 (t := (3 * p) + 2) F G (by omega) dX8_film_75 rfl ?_
              refine m_ast41 (t := (40 * a) + j) F G (by omega) dX8_film_76 rfl ?_
              refine v_iincN (ls' := [(4, .int (nI (j + 1))), (0, .ref (ad 0)), (1, .int q), (2, .int o), (3, .int n)]) F 4 dX8_film_77 rfl rfl (by decide) rfl ?_
              refine v_goto (tgt := 45) F dX8_film_80 rfl ?_
              refine v_sub (ls' := [(0, .ref (ad 0)), (1, .int q), (2, .int o), (3, .int n), (4, .int (nI (j + 1)))]) F [1, 2, 3, 4, 0] rfl ?_
              exact ih45 (up t8 41 ((40 * a) + j) (t8 12 ((3 * p) + 2))) (j + 1) (by omega) (by rw [ab_u rfl, hr1, hy]; exact fil_s) (by omega)
        refine v_sub (ls' := [(0, .ref (ad 0)), (1, .int q), (2, .int o), (3, .int n), (4, .int 0)]) F [1, 2, 3, 4, 0] rfl ?_
        exact L45 _ t5 0 (Nat.zero_le _) (by rw [ha5, hq4]; exact fil_0.symm) (Nat.lt_succ_self _)
      · skip
        refine v_bipush (x := (-2)) F dX8_film_27 rfl (by decide) ?_
        exact v_reti F dX8_film_29 rfl (by unfold filR; rw [if_neg (show ¬ filOK (ab σ) q o n from (fun h => c3 h.2.2))]) (by show na (ab σ) = na (filT (ab σ) q o n); unfold filT; rw [if_neg (show ¬ filOK (ab σ) q o n from (fun h => c3 h.2.2))])
theorem ok_X8_text : vv_oc yX8_text 2 0 (ws_ yX8_text cX8_text 2 (some .int)) := vv_ok.oc (rt := (some .int)) ⟨q1641, q133, by decide +kernel, by decide +kernel⟩
theorem is_X8_text : Cond.instanceMethod yX8_text ∈ lw_all ∧ Cond.selects RX8 yX8_text yX8_text ∈ lw_all := ⟨q1639, q1640⟩
set_option maxHeartbeats 4000000 in
theorem cm_X8_text {l : Launch} {Kf : State → Prop} {D : va_G} {ad : Nat → Nat} {cI cZ : ClassId} {A : Nat → Prop} (G : mG A Kf D cI cZ)  (σ : mS)  (hC : σ 0 3 = nI (tn (σ 0 3))) (hC6 : tn (σ 0 3) ≤ 6) (h6a : σ 0 6 = nI (tn (σ 0 6))) (h6b : tn (σ 0 6) ≤ 160) (h5 : ∀ i, i < tn (σ 0 6) → 0 ≤ σ 5 i) : vv_Ct l yX8_text (ws_ yX8_text cX8_text 2 (some .int)) (rm 42 930) Kf (mWd D ad cI cZ A) A [.ref (ad 0)] σ (vv_i (texR (ab σ)) (fun u => ab u = texS (ab σ))) := by
  refine vv_of (by decide +kernel) (Nat.le_of_ble_eq_true rfl) ?_
  intro v (F : vv_F v l cX8_text 2 RX8 "text" (some .int) [] (rm 42 930) Kf (mWd D ad cI cZ A) A _)
  show v σ 0 0 0 [(0, .ref (ad 0))] []
  refine v_aload_n F 0 dX8_text_0 rfl rfl rfl ?_
  refine m_get F G 3 (w := .int (σ 0 3)) (by decide) q1256 rfl dX8_text_1 rfl ?_
  refine v_bipush (x := 6) F dX8_text_4 rfl (by decide) ?_
  refine v_icmp_ne (tgt := 12) (q := 9) F dX8_text_6 rfl rfl (fun c1 => ?_) (fun c1 => ?_)
  · skip
    have hC5 : tn (σ 0 3) < 6 := plt6 hC hC6 c1
    refine v_iconst (x := 0) F dX8_text_12 rfl (by decide) ?_
    refine v_istore_n (ls' := [(1, .int 0), (0, .ref (ad 0))]) F dX8_text_13 rfl rfl (by decide) rfl ?_
    have L14 : ∀ (nf : Nat) (s : mS) (j : Nat) (hj : j ≤ tn (σ 0 6)) (hs : txJ σ s (tn (σ 0 3)) j) (hnf : tn (σ 0 6) - j < nf), v s 0 0 14 [(0, .ref (ad 0)), (1, .int (nI j))] [] := by
      intro nf
      induction nf with
      | zero => intro s j hj hs hnf; exact absurd hnf (Nat.not_lt_zero _)
      | succ nf ih14 =>
        intro s j hj hs hnf
        have s6 : s 0 6 = nI (tn (σ 0 6)) := by rw [hs, if_neg (by omega)]; exact h6a
        have s3 : s 0 3 = nI (tn (σ 0 3)) := by rw [hs, if_neg (by omega)]; exact hC
        refine v_iload_n F 1 dX8_text_14 rfl rfl rfl ?_
        refine v_aload_n F 0 dX8_text_15 rfl rfl rfl ?_
        refine m_get F G 6 (w := .int (s 0 6)) (by decide) q1259 rfl dX8_text_16 rfl ?_
        refine v_int F (s6) ?_
        refine v_icmp_geN (a := j) (b := tn (σ 0 6)) (tgt := 49) (q := 22) F dX8_text_19 rfl rfl (by omega) (by omega) (fun c2 => ?_) (fun c2 => ?_)
        · skip
          refine v_aload_n F 0 dX8_text_49 rfl rfl rfl ?_
          refine m_get F G 2 (w := .ref (ad 2)) (by decide) q1255 rfl dX8_text_50 rfl ?_
          refine v_aload_n F 0 dX8_text_53 rfl rfl rfl ?_
          refine m_get F G 3 (w := .int (s 0 3)) (by decide) q1256 rfl dX8_text_54 rfl ?_
          refine v_int F (s3) ?_
          refine v_aload_n F 0 dX8_text_57 rfl rfl rfl ?_
          refine m_get F G 6 (w := .int (s 0 6)) (by decide) q1259 rfl dX8_text_58 rfl ?_
          refine v_int F (s6) ?_
          refine m_ast2 (t := tn (σ 0 3)) F G (by omega) dX8_text_61 rfl ?_
          refine v_aload_n F 0 dX8_text_62 rfl rfl rfl ?_
          refine v_iconst (x := 0) F dX8_text_63 rfl (by decide) ?_
          refine m_put6 F G q1259 dX8_text_64 rfl ?_
          have hO := txJ_ab (x := nI (tn (σ 0 6))) hs c2 hj h6a.symm
          refine v_aload_n F 0 dX8_text_67 rfl rfl rfl ?_
          refine v_aload_n F 0 dX8_text_68 rfl rfl rfl ?_
          refine m_get F G 3 (w := .int (s 0 3)) (by decide) q1256 rfl dX8_text_69 rfl ?_
          refine v_int F (s3) ?_
          refine v_iconst (x := 0) F dX8_text_72 rfl (by decide) ?_
          refine m_callx F G (cm_X8_read (b := fun i => σ 5 i) (z := tn (σ 0 6)) G (up (up s 2 (tn (σ 0 3)) (nI (tn (σ 0 6)))) 0 6 0) (tn (σ 0 3)) 0 (by omega) (by show up s 2 (tn (σ 0 3)) _ 2 (tn (σ 0 3)) = _; rw [up_eq]) h6b (fun i hi => ⟨by show s 1 (160 * tn (σ 0 3) + i) = _; rw [hs, if_pos (by omega), show 160 * tn (σ 0 3) + i - 160 * tn (σ 0 3) = i by omega], h5 i hi⟩)) ok_X8_read q1417 is_X8_read rfl rfl dX8_text_73 rfl rfl ?_
          rintro r3 t3 ⟨hb3, hr3⟩
          have hbO := hb3.trans hO
          rcases hp : rdG (fun i => σ 5 i) (tn (σ 0 6)) with e | y
          · skip
            rw [hp] at hr3
            obtain ⟨hb1, hb2⟩ : t3 0 27 = 1 ∧ t3 0 28 = nI e := hr3
            refine v_istore_n (ls' := [(1, .int r3), (0, .ref (ad 0))]) F dX8_text_76 rfl rfl (by decide) rfl ?_
            refine v_aload_n F 1 dX8_text_77 rfl rfl rfl ?_
            refine m_get F G 27 (w := .int (t3 0 27)) (by decide) q1280 rfl dX8_text_78 rfl ?_
            refine v_int F (y := 1) (hb1) ?_
            refine v_if_eq (tgt := 92) (q := 84) F dX8_text_81 rfl rfl (fun c4 => ?_) (fun c4 => ?_)
            · skip
              exact absurd c4 (by decide)
            · skip
              refine v_bipush (x := (-100)) F dX8_text_84 rfl (by decide) ?_
              refine v_aload_n F 1 dX8_text_86 rfl rfl rfl ?_
              refine m_get F G 28 (w := .int (t3 0 28)) (by decide) q1281 rfl dX8_text_87 rfl ?_
              refine v_int F (hb2) ?_
              refine v_isub F dX8_text_90 rfl ?_
              exact v_reti F dX8_text_91 rfl (by unfold texR; rw [if_neg (show ¬ ab σ 0 3 = 6 from c1), show rdG (fun i => ab σ 5 i) (tn (ab σ 0 6)) = _ from hp]) (by unfold texS; rw [if_neg (show ¬ ab σ 0 3 = 6 from c1), show rdG (fun i => ab σ 5 i) (tn (ab σ 0 6)) = _ from hp]; exact hbO)
          · skip
            rw [hp] at hr3
            have hb1 : t3 0 27 = 0 := hr3.1
            have h3t : t3 0 3 = nI (tn (σ 0 3)) := by rw [← ab_rd (σ := t3) 0 3 rfl, hbO]; exact hC
            refine v_istore_n (ls' := [(1, .int r3), (0, .ref (ad 0))]) F dX8_text_76 rfl rfl (by decide) rfl ?_
            refine v_aload_n F 1 dX8_text_77 rfl rfl rfl ?_
            refine m_get F G 27 (w := .int (t3 0 27)) (by decide) q1280 rfl dX8_text_78 rfl ?_
            refine v_int F (y := 0) (hb1) ?_
            refine v_if_eq (tgt := 92) (q := 84) F dX8_text_81 rfl rfl (fun c5 => ?_) (fun c5 => ?_)
            · skip
              refine v_aload_n F 1 dX8_text_92 rfl rfl rfl ?_
              refine v_dup F dX8_text_93 rfl rfl ?_
              refine m_get F G 3 (w := .int (t3 0 3)) (by decide) q1256 rfl dX8_text_94 rfl ?_
              refine v_int F (h3t) ?_
              refine v_iconst (x := 1) F dX8_text_97 rfl (by decide) ?_
              refine v_iaddN (a := tn (σ 0 3)) (b := 1) F dX8_text_98 rfl ?_
              refine m_put3 F G q1256 dX8_text_99 rfl ?_
              refine v_aload_n F 1 dX8_text_102 rfl rfl rfl ?_
              refine m_get F G 3 (w := .int (nI ((tn (σ 0 3)) + 1))) (by decide) q1256 rfl dX8_text_103 rfl ?_
              refine v_iconst (x := 1) F dX8_text_106 rfl (by decide) ?_
              refine v_isubN (a := (tn (σ 0 3)) + 1) (b := 1) F dX8_text_107 rfl (by omega) ?_
              exact v_reti F dX8_text_108 rfl (by unfold texR; rw [if_neg (show ¬ ab σ 0 3 = 6 from c1), show rdG (fun i => ab σ 5 i) (tn (ab σ 0 6)) = _ from hp]; show _ = σ 0 3; rw [Nat.add_sub_cancel]; exact hC.symm) (by unfold texS; rw [if_neg (show ¬ ab σ 0 3 = 6 from c1), show rdG (fun i => ab σ 5 i) (tn (ab σ 0 6)) = _ from hp]; rw [ab_u rfl, hbO]; rfl)
            · skip
              exact absurd c5 (by decide)
        · skip
          refine v_aload_n F 0 dX8_text_22 rfl rfl rfl ?_
          refine m_get F G 1 (w := .ref (ad 1)) (by decide) q1254 rfl dX8_text_23 rfl ?_
          refine v_sipush (x := 160) F dX8_text_26 rfl (by decide) ?_
          refine v_aload_n F 0 dX8_text_29 rfl rfl rfl ?_
          refine m_get F G 3 (w := .int (s 0 3)) (by decide) q1256 rfl dX8_text_30 rfl ?_
          refine v_int F (s3) ?_
          refine v_imulN (a := 160) (b := tn (σ 0 3)) F dX8_text_33 rfl ?_
          refine v_iload_n F 1 dX8_text_34 rfl rfl rfl ?_
          refine v_iaddN (a := 160 * (tn (σ 0 3))) (b := j) F dX8_text_35 rfl ?_
          refine v_aload_n F 0 dX8_text_36 rfl rfl rfl ?_
          refine m_get F G 5 (w := .ref (ad 5)) (by decide) q1258 rfl dX8_text_37 rfl ?_
          refine v_iload_n F 1 dX8_text_40 rfl rfl rfl ?_
          refine m_ald5 (t := j) F G (by omega) dX8_text_41 rfl ?_
          refine m_ast1 (t := (160 * (tn (σ 0 3))) + j) F G (by omega) dX8_text_42 rfl ?_
          refine v_iincN (ls' := [(1, .int (nI (j + 1))), (0, .ref (ad 0))]) F 1 dX8_text_43 rfl rfl (by decide) rfl ?_
          refine v_goto (tgt := 14) F dX8_text_46 rfl ?_
          refine v_sub (ls' := [(0, .ref (ad 0)), (1, .int (nI (j + 1)))]) F [1, 0] rfl ?_
          exact ih14 (up s 1 ((160 * (tn (σ 0 3))) + j) (s 5 j)) (j + 1) (by omega) (txJ_s hs) (by omega)
    refine v_sub (ls' := [(0, .ref (ad 0)), (1, .int 0)]) F [1, 0] rfl ?_
    exact L14 _ σ 0 (Nat.zero_le _) txJ_0 (Nat.lt_succ_self _)
  · skip
    refine v_bipush (x := (-4)) F dX8_text_9 rfl (by decide) ?_
    exact v_reti F dX8_text_11 rfl (by unfold texR; rw [if_pos (show ab σ 0 3 = 6 from c1)]) (by unfold texS; rw [if_pos (show ab σ 0 3 = 6 from c1)])
