set_option maxRecDepth 100000
theorem ok_X8_plants : vv_oc yX8_plants 8 4 (ws_ yX8_plants cX8_plants 8 (some .int)) := vv_ok.oc (rt := (some .int)) ⟨q1804, q133, by decide +kernel, by decide +kernel⟩
theorem is_X8_plants : Cond.instanceMethod yX8_plants ∈ lw_all ∧ Cond.selects RX8 yX8_plants yX8_plants ∈ lw_all := ⟨q1802, q1803⟩
set_option maxHeartbeats 4000000 in
theorem cm_X8_plants {l : Launch} {Kf : State → Prop} {D : va_G} {ad : Nat → Nat} {cI cZ : ClassId} {A : Nat → Prop} (G : mG A Kf D cI cZ)  (σ : mS) (q : Int32) (so : Int32) (a : Int32) (n : Int32) (hw : Wf (ab σ)) (hS : wfS (ab σ)) : vv_Ct l yX8_plants (ws_ yX8_plants cX8_plants 8 (some .int)) (rm 3 68) Kf (mWd D ad cI cZ A) A [.ref (ad 0), .int q, .int so, .int a, .int n] σ (vv_i (plsR (ab σ) q so a n) (fun u => ab u = plsS (ab σ) q so a n)) := by
  refine vv_of (by decide +kernel) (Nat.le_of_ble_eq_true rfl) ?_
  intro v (F : vv_F v l cX8_plants 8 RX8 "plants" (some .int) [] (rm 3 68) Kf (mWd D ad cI cZ A) A _)
  show v σ 0 0 0 [(0, .ref (ad 0)), (1, .int q), (2, .int so), (3, .int a), (4, .int n)] []
  refine v_iload_n F 1 dX8_plants_0 rfl rfl rfl ?_
  refine s_calli F G.1 (cm_X8_isSheet G σ q ) ok_X8_isSheet q1749 q1750 rfl rfl dX8_plants_1 rfl rfl ?_
  intro u0 hu0; subst u0
  refine v_if_eqB (p := (0 ≤ q ∧ q ≤ 3)) (tgt := 32) (q := 7) F dX8_plants_4 rfl rfl (fun c1 => ?_) (fun c1 => ?_)
  · skip
    refine v_bipush (x := (-2)) F dX8_plants_32 rfl (by decide) ?_
    exact v_reti F dX8_plants_34 rfl (by unfold plsR; rw [if_pos (show ¬ plsOK q so n from (fun h => c1 h.1))]) (by unfold plsS; rw [if_pos (show ¬ plsOK q so n from (fun h => c1 h.1))])
  · skip
    refine v_iload_n F 2 dX8_plants_7 rfl rfl rfl ?_
    refine v_i2l F dX8_plants_8 rfl ?_
    refine v_lconst (x := (0 : Int32).toInt64) F dX8_plants_9 rfl (by decide) ?_
    refine v_ldc2 F q1765 dX8_plants_10 rfl ?_
    refine v_lng (y := (2 : Int32).toInt64) F (by decide) ?_
    refine s_calli F G.1 (cm_X8_in G σ so 0 2 ) ok_X8_in q1386 q1387 rfl rfl dX8_plants_13 rfl rfl ?_
    intro u0 hu0; subst u0
    refine v_if_eqB (p := (0 ≤ so ∧ so ≤ 2)) (tgt := 32) (q := 19) F dX8_plants_16 rfl rfl (fun c2 => ?_) (fun c2 => ?_)
    · skip
      refine v_bipush (x := (-2)) F dX8_plants_32 rfl (by decide) ?_
      exact v_reti F dX8_plants_34 rfl (by unfold plsR; rw [if_pos (show ¬ plsOK q so n from (fun h => c2 h.2.1))]) (by unfold plsS; rw [if_pos (show ¬ plsOK q so n from (fun h => c2 h.2.1))])
    · skip
      refine v_iload F 4 dX8_plants_19 rfl rfl ?_
      refine v_i2l F dX8_plants_21 rfl ?_
      refine v_lconst (x := (0 : Int32).toInt64) F dX8_plants_22 rfl (by decide) ?_
      refine v_ldc2 F q1708 dX8_plants_23 rfl ?_
      refine v_lng (y := (8 : Int32).toInt64) F (by decide) ?_
      refine s_calli F G.1 (cm_X8_in G σ n 0 8 ) ok_X8_in q1386 q1387 rfl rfl dX8_plants_26 rfl rfl ?_
      intro u0 hu0; subst u0
      refine v_if_neB (p := (0 ≤ n ∧ n ≤ 8)) (tgt := 35) (q := 32) F dX8_plants_29 rfl rfl (fun c3 => ?_) (fun c3 => ?_)
      · skip
        obtain ⟨e, he3, hqe⟩ := in_of (M := 3) (n := 3) (by decide) c1
        have htq : tn q = e := by rw [hqe, tn_nI (by omega)]
        obtain ⟨m, hm, hnm⟩ := in_of (M := 8) (n := 8) (by decide) c3
        have htn : tn n = m := by rw [hnm, tn_nI (by omega)]
        refine v_aload_n F 0 dX8_plants_35 rfl rfl rfl ?_
        refine m_get F G 38 (w := .ref (ad 38)) (by decide) q1291 rfl dX8_plants_36 rfl ?_
        refine v_iload_n F 1 dX8_plants_39 rfl rfl rfl ?_
        refine v_int F (hqe) ?_
        refine m_ald38 (t := e) F G (by omega) dX8_plants_40 rfl ?_
        refine v_if_eq (tgt := 57) (q := 44) F dX8_plants_41 rfl rfl (fun c4 => ?_) (fun c4 => ?_)
        · skip
          refine v_aload_n F 0 dX8_plants_57 rfl rfl rfl ?_
          refine m_get F G 38 (w := .ref (ad 38)) (by decide) q1291 rfl dX8_plants_58 rfl ?_
          refine v_iload_n F 1 dX8_plants_61 rfl rfl rfl ?_
          refine v_int F (hqe) ?_
          refine m_ald38 (t := e) F G (by omega) dX8_plants_62 rfl ?_
          refine v_if_ne (tgt := 69) (q := 66) F dX8_plants_63 rfl rfl (fun c5 => ?_) (fun c5 => ?_)
          · skip
            exact absurd c4 c5
          · skip
            refine v_bipush (x := (-11)) F dX8_plants_66 rfl (by decide) ?_
            exact v_reti F dX8_plants_68 rfl (by unfold plsR; rw [if_neg (show ¬ ¬ plsOK q so n from fun h => h ⟨c1, c2, c3⟩), if_pos (show ab σ 38 (tn q) = 0 from by rw [htq]; exact c5)]) (by unfold plsS; rw [if_neg (show ¬ ¬ plsOK q so n from fun h => h ⟨c1, c2, c3⟩), if_pos (show ab σ 38 (tn q) = 0 from by rw [htq]; exact c5)])
        · skip
          refine v_aload_n F 0 dX8_plants_44 rfl rfl rfl ?_
          refine m_get F G 39 (w := .ref (ad 39)) (by decide) q1292 rfl dX8_plants_45 rfl ?_
          refine v_iload_n F 1 dX8_plants_48 rfl rfl rfl ?_
          refine v_int F (hqe) ?_
          refine m_ald39 (t := e) F G (by omega) dX8_plants_49 rfl ?_
          refine v_iload_n F 2 dX8_plants_50 rfl rfl rfl ?_
          refine v_icmp_eq (tgt := 57) (q := 54) F dX8_plants_51 rfl rfl (fun c6 => ?_) (fun c6 => ?_)
          · skip
            refine v_aload_n F 0 dX8_plants_57 rfl rfl rfl ?_
            refine m_get F G 38 (w := .ref (ad 38)) (by decide) q1291 rfl dX8_plants_58 rfl ?_
            refine v_iload_n F 1 dX8_plants_61 rfl rfl rfl ?_
            refine v_int F (hqe) ?_
            refine m_ald38 (t := e) F G (by omega) dX8_plants_62 rfl ?_
            refine v_if_ne (tgt := 69) (q := 66) F dX8_plants_63 rfl rfl (fun c7 => ?_) (fun c7 => ?_)
            · skip
              have h40 : okN (σ 40 e) 40 := ((hS e (by omega)).2 (((hS e (by omega)).1).resolve_left c7)).1
              refine v_iconst (x := 0) F dX8_plants_69 rfl (by decide) ?_
              refine v_istore (ls' := [(5, .int 0), (0, .ref (ad 0)), (1, .int q), (2, .int so), (3, .int a), (4, .int n)]) F dX8_plants_70 rfl (by decide) rfl ?_
              refine v_iconst (x := 0) F dX8_plants_72 rfl (by decide) ?_
              refine v_istore (ls' := [(6, .int 0), (5, .int 0), (0, .ref (ad 0)), (1, .int q), (2, .int so), (3, .int a), (4, .int n)]) F dX8_plants_73 rfl (by decide) rfl ?_
              have L75 : ∀ (nf : Nat) (t : mS) (c : Int32) (k : Nat) (hk : k ≤ m) (hwt : Wf (ab t)) (ht40 : t 40 e = σ 40 e) (hG : plsG e a m 0 (ab σ) 0 = plsG e a (m - k) k (ab t) c) (hnf : m - k < nf), v t 0 0 75 [(0, .ref (ad 0)), (1, .int q), (2, .int so), (3, .int a), (4, .int n), (5, .int c), (6, .int (nI k))] [] := by
                intro nf
                induction nf with
                | zero => intro t c k hk hwt ht40 hG hnf; exact absurd hnf (Nat.not_lt_zero _)
                | succ nf ih75 =>
                  intro t c k hk hwt ht40 hG hnf
                  refine v_iload F 6 dX8_plants_75 rfl rfl ?_
                  refine v_iload F 4 dX8_plants_77 rfl rfl ?_
                  refine v_int F (hnm) ?_
                  refine v_icmp_geN (a := k) (b := m) (tgt := 167) (q := 82) F dX8_plants_79 rfl rfl (by omega) (by omega) (fun c8 => ?_) (fun c8 => ?_)
                  · skip
                    refine v_iload F 5 dX8_plants_167 rfl rfl ?_
                    exact v_reti F dX8_plants_169 rfl (by unfold plsR; rw [if_neg (show ¬ ¬ plsOK q so n from fun h => h ⟨c1, c2, c3⟩), if_neg (show ¬ ab σ 38 (tn q) = 0 from by rw [htq]; exact c7), if_neg (show ¬ ¬ ab σ 39 (tn q) = so from by rw [htq]; exact fun h => h c6), htq, htn, hG, show m - k = 0 by omega]; rfl) (by unfold plsS; rw [if_neg (show ¬ ¬ plsOK q so n from fun h => h ⟨c1, c2, c3⟩), if_neg (show ¬ ab σ 38 (tn q) = 0 from by rw [htq]; exact c7), if_neg (show ¬ ¬ ab σ 39 (tn q) = so from by rw [htq]; exact fun h => h c6), htq, htn, hG, show m - k = 0 by omega]; rfl)
                  · skip
                    refine v_iload_n F 3 dX8_plants_82 rfl rfl rfl ?_
                    refine v_if_lt (tgt := 103) (q := 86) F dX8_plants_83 rfl rfl (fun c9 => ?_) (fun c9 => ?_)
                    · skip
                      refine v_bipush (x := (-12)) F dX8_plants_103 rfl (by decide) ?_
                      exact v_reti F dX8_plants_105 rfl (by unfold plsR; rw [if_neg (show ¬ ¬ plsOK q so n from fun h => h ⟨c1, c2, c3⟩), if_neg (show ¬ ab σ 38 (tn q) = 0 from by rw [htq]; exact c7), if_neg (show ¬ ¬ ab σ 39 (tn q) = so from by rw [htq]; exact fun h => h c6), htq, htn, hG, show m - k = (m - (k + 1)) + 1 by omega, plsG_b (show a < 0 ∨ ab t 40 e - nI (3 * k) - 3 < a from Or.inl c9)]) (by unfold plsS; rw [if_neg (show ¬ ¬ plsOK q so n from fun h => h ⟨c1, c2, c3⟩), if_neg (show ¬ ab σ 38 (tn q) = 0 from by rw [htq]; exact c7), if_neg (show ¬ ¬ ab σ 39 (tn q) = so from by rw [htq]; exact fun h => h c6), htq, htn, hG, show m - k = (m - (k + 1)) + 1 by omega, plsG_b (show a < 0 ∨ ab t 40 e - nI (3 * k) - 3 < a from Or.inl c9)])
                    · skip
                      refine v_iload_n F 3 dX8_plants_86 rfl rfl rfl ?_
                      refine v_aload_n F 0 dX8_plants_87 rfl rfl rfl ?_
                      refine m_get F G 40 (w := .ref (ad 40)) (by decide) q1293 rfl dX8_plants_88 rfl ?_
                      refine v_iload_n F 1 dX8_plants_91 rfl rfl rfl ?_
                      refine v_int F (hqe) ?_
                      refine m_ald40 (t := e) F G (by omega) dX8_plants_92 rfl ?_
                      refine v_iconst (x := 3) F dX8_plants_93 rfl (by decide) ?_
                      refine v_iload F 6 dX8_plants_94 rfl rfl ?_
                      refine v_imulN (a := 3) (b := k) F dX8_plants_96 rfl ?_
                      refine v_isub F dX8_plants_97 rfl ?_
                      refine v_iconst (x := 3) F dX8_plants_98 rfl (by decide) ?_
                      refine v_isub F dX8_plants_99 rfl ?_
                      refine v_icmp_le (tgt := 106) (q := 103) F dX8_plants_100 rfl rfl (fun c10 => ?_) (fun c10 => ?_)
                      · skip
                        have ncb : ¬ (a < 0 ∨ ab t 40 e - nI (3 * k) - 3 < a) := fun h => h.elim c9 (fun g => absurd c10 (Int32.not_le.mpr g))
                        obtain ⟨b, hb, hbe⟩ := pls_nat (x := t 40 e) (by rw [ht40]; exact h40) (by omega) c9 (Int32.not_lt.mpr c10)
                        have hab : tn a = b := by rw [hb, tn_nI (by have := h40.2; rw [ht40] at hbe; omega)]
                        have hbe2 : b + 3 * k + 3 ≤ 40 := by have := h40.2; rw [ht40] at hbe; omega
                        refine v_bipush (x := 40) F dX8_plants_106 rfl (by decide) ?_
                        refine v_iload_n F 1 dX8_plants_108 rfl rfl rfl ?_
                        refine v_int F (hqe) ?_
                        refine v_imulN (a := 40) (b := e) F dX8_plants_109 rfl ?_
                        refine v_iload_n F 3 dX8_plants_110 rfl rfl rfl ?_
                        refine v_int F (hb) ?_
                        refine v_iaddN (a := 40 * e) (b := b) F dX8_plants_111 rfl ?_
                        refine v_iconst (x := 3) F dX8_plants_112 rfl (by decide) ?_
                        refine v_iload F 6 dX8_plants_113 rfl rfl ?_
                        refine v_imulN (a := 3) (b := k) F dX8_plants_115 rfl ?_
                        refine v_iaddN (a := (40 * e) + b) (b := 3 * k) F dX8_plants_116 rfl ?_
                        refine v_istore (ls' := [(7, .int (nI (((40 * e) + b) + (3 * k)))), (0, .ref (ad 0)), (1, .int q), (2, .int so), (3, .int a), (4, .int n), (5, .int c), (6, .int (nI k))]) F dX8_plants_117 rfl (by decide) rfl ?_
                        refine v_iload F 6 dX8_plants_119 rfl rfl ?_
                        refine v_aload_n F 1 dX8_plants_121 rfl rfl rfl ?_
                        refine v_aload_n F 1 dX8_plants_122 rfl rfl rfl ?_
                        refine m_get F G 41 (w := .ref (ad 41)) (by decide) q1294 rfl dX8_plants_123 rfl ?_
                        refine v_iload F 0 dX8_plants_126 rfl rfl ?_
                        refine m_ald41 (t := ((40 * e) + b) + (3 * k)) F G (by omega) dX8_plants_128 rfl ?_
                        refine v_aload_n F 1 dX8_plants_129 rfl rfl rfl ?_
                        refine m_get F G 41 (w := .ref (ad 41)) (by decide) q1294 rfl dX8_plants_130 rfl ?_
                        refine v_iload F 0 dX8_plants_133 rfl rfl ?_
                        refine v_iconst (x := 1) F dX8_plants_135 rfl (by decide) ?_
                        refine v_iaddN (a := ((40 * e) + b) + (3 * k)) (b := 1) F dX8_plants_136 rfl ?_
                        refine m_ald41 (t := (((40 * e) + b) + (3 * k)) + 1) F G (by omega) dX8_plants_137 rfl ?_
                        refine v_aload_n F 1 dX8_plants_138 rfl rfl rfl ?_
                        refine m_get F G 41 (w := .ref (ad 41)) (by decide) q1294 rfl dX8_plants_139 rfl ?_
                        refine v_iload F 0 dX8_plants_142 rfl rfl ?_
                        refine v_iconst (x := 2) F dX8_plants_144 rfl (by decide) ?_
                        refine v_iaddN (a := ((40 * e) + b) + (3 * k)) (b := 2) F dX8_plants_145 rfl ?_
                        refine m_ald41 (t := (((40 * e) + b) + (3 * k)) + 2) F G (by omega) dX8_plants_146 rfl ?_
                        refine m_calli F G (cm_X8_plant G t (t 41 (((40 * e) + b) + (3 * k))) (t 41 ((((40 * e) + b) + (3 * k)) + 1)) (t 41 ((((40 * e) + b) + (3 * k)) + 2)) hwt) ok_X8_plant q1805 is_X8_plant rfl rfl dX8_plants_147 rfl rfl ?_
                        intro t11 hq11
                        refine v_if_lt (tgt := 157) (q := 153) F dX8_plants_150 rfl rfl (fun c12 => ?_) (fun c12 => ?_)
                        · skip
                          refine v_iconst (x := 0) F dX8_plants_157 rfl (by decide) ?_
                          refine v_iadd F dX8_plants_158 rfl ?_
                          refine v_istore (ls' := [(5, .int (c + 0)), (7, .int (nI (((40 * e) + b) + (3 * k)))), (0, .ref (ad 0)), (1, .int q), (2, .int so), (3, .int a), (4, .int n), (6, .int (nI k))]) F dX8_plants_159 rfl (by decide) rfl ?_
                          refine v_iincN (ls' := [(6, .int (nI (k + 1))), (5, .int (c + 0)), (7, .int (nI (((40 * e) + b) + (3 * k)))), (0, .ref (ad 0)), (1, .int q), (2, .int so), (3, .int a), (4, .int n)]) F 7 dX8_plants_161 rfl rfl (by decide) rfl ?_
                          refine v_goto (tgt := 75) F dX8_plants_164 rfl ?_
                          refine v_sub (ls' := [(0, .ref (ad 0)), (1, .int q), (2, .int so), (3, .int a), (4, .int n), (5, .int (c + 0)), (6, .int (nI (k + 1)))]) F [3, 4, 5, 6, 7, 1, 0] rfl ?_
                          exact ih75 t11 (c + 0) (k + 1) (by omega) (by rw [hq11]; exact wf_pla hwt) (by rw [← ab_rd (σ := t11) 40 e rfl, hq11, pla_rd (by decide) (by decide) (by decide)]; exact ht40) (by rw [hG, show m - k = (m - (k + 1)) + 1 by omega, plsG_p ncb hab c12, hq11]; rfl) (by omega)
                        · skip
                          refine v_iconst (x := 1) F dX8_plants_153 rfl (by decide) ?_
                          refine v_goto (tgt := 158) F dX8_plants_154 rfl ?_
                          refine v_iadd F dX8_plants_158 rfl ?_
                          refine v_istore (ls' := [(5, .int (c + 1)), (7, .int (nI (((40 * e) + b) + (3 * k)))), (0, .ref (ad 0)), (1, .int q), (2, .int so), (3, .int a), (4, .int n), (6, .int (nI k))]) F dX8_plants_159 rfl (by decide) rfl ?_
                          refine v_iincN (ls' := [(6, .int (nI (k + 1))), (5, .int (c + 1)), (7, .int (nI (((40 * e) + b) + (3 * k)))), (0, .ref (ad 0)), (1, .int q), (2, .int so), (3, .int a), (4, .int n)]) F 7 dX8_plants_161 rfl rfl (by decide) rfl ?_
                          refine v_goto (tgt := 75) F dX8_plants_164 rfl ?_
                          refine v_sub (ls' := [(0, .ref (ad 0)), (1, .int q), (2, .int so), (3, .int a), (4, .int n), (5, .int (c + 1)), (6, .int (nI (k + 1)))]) F [3, 4, 5, 6, 7, 1, 0] rfl ?_
                          exact ih75 t11 (c + 1) (k + 1) (by omega) (by rw [hq11]; exact wf_pla hwt) (by rw [← ab_rd (σ := t11) 40 e rfl, hq11, pla_rd (by decide) (by decide) (by decide)]; exact ht40) (by rw [hG, show m - k = (m - (k + 1)) + 1 by omega, plsG_n ncb hab c12, hq11]; rfl) (by omega)
                      · skip
                        refine v_bipush (x := (-12)) F dX8_plants_103 rfl (by decide) ?_
                        exact v_reti F dX8_plants_105 rfl (by unfold plsR; rw [if_neg (show ¬ ¬ plsOK q so n from fun h => h ⟨c1, c2, c3⟩), if_neg (show ¬ ab σ 38 (tn q) = 0 from by rw [htq]; exact c7), if_neg (show ¬ ¬ ab σ 39 (tn q) = so from by rw [htq]; exact fun h => h c6), htq, htn, hG, show m - k = (m - (k + 1)) + 1 by omega, plsG_b (show a < 0 ∨ ab t 40 e - nI (3 * k) - 3 < a from Or.inr (Int32.not_le.mp c10))]) (by unfold plsS; rw [if_neg (show ¬ ¬ plsOK q so n from fun h => h ⟨c1, c2, c3⟩), if_neg (show ¬ ab σ 38 (tn q) = 0 from by rw [htq]; exact c7), if_neg (show ¬ ¬ ab σ 39 (tn q) = so from by rw [htq]; exact fun h => h c6), htq, htn, hG, show m - k = (m - (k + 1)) + 1 by omega, plsG_b (show a < 0 ∨ ab t 40 e - nI (3 * k) - 3 < a from Or.inr (Int32.not_le.mp c10))])
              refine v_sub (ls' := [(0, .ref (ad 0)), (1, .int q), (2, .int so), (3, .int a), (4, .int n), (5, .int 0), (6, .int 0)]) F [2, 3, 4, 5, 6, 1, 0] rfl ?_
              exact L75 _ σ 0 0 (Nat.zero_le _) hw rfl rfl (Nat.lt_succ_self _)
            · skip
              exact absurd c7 c4
          · skip
            refine v_bipush (x := (-13)) F dX8_plants_54 rfl (by decide) ?_
            exact v_reti F dX8_plants_56 rfl (by unfold plsR; rw [if_neg (show ¬ ¬ plsOK q so n from fun h => h ⟨c1, c2, c3⟩), if_neg (show ¬ ab σ 38 (tn q) = 0 from by rw [htq]; exact c4), if_pos (show ¬ ab σ 39 (tn q) = so from by rw [htq]; exact c6)]) (by unfold plsS; rw [if_neg (show ¬ ¬ plsOK q so n from fun h => h ⟨c1, c2, c3⟩), if_neg (show ¬ ab σ 38 (tn q) = 0 from by rw [htq]; exact c4), if_pos (show ¬ ab σ 39 (tn q) = so from by rw [htq]; exact c6)])
      · skip
        refine v_bipush (x := (-2)) F dX8_plants_32 rfl (by decide) ?_
        exact v_reti F dX8_plants_34 rfl (by unfold plsR; rw [if_pos (show ¬ plsOK q so n from (fun h => c3 h.2.2))]) (by unfold plsS; rw [if_pos (show ¬ plsOK q so n from (fun h => c3 h.2.2))])
theorem ok_X8_tells : vv_oc yX8_tells 11 3 (ws_ yX8_tells cX8_tells 11 (some .int)) := vv_ok.oc (rt := (some .int)) ⟨q1748, q133, by decide +kernel, by decide +kernel⟩
theorem is_X8_tells : Cond.instanceMethod yX8_tells ∈ lw_all ∧ Cond.selects RX8 yX8_tells yX8_tells ∈ lw_all := ⟨q1746, q1747⟩
set_option maxHeartbeats 4000000 in
theorem cm_X8_tells {l : Launch} {Kf : State → Prop} {D : va_G} {ad : Nat → Nat} {cI cZ : ClassId} {A : Nat → Prop} (G : mG A Kf D cI cZ)  (σ : mS) (q : Int32) (o : Int32) (w : Int32) (hw : Wf (ab σ)) (hS : wfS (ab σ)) : vv_Ct l yX8_tells (ws_ yX8_tells cX8_tells 11 (some .int)) (rm 46 1022) Kf (mWd D ad cI cZ A) A [.ref (ad 0), .int q, .int o, .int w] σ (vv_i (tesR (ab σ) q o w) (fun u => nb u = nb σ)) := by
  refine vv_of (by decide +kernel) (Nat.le_of_ble_eq_true rfl) ?_
  intro v (F : vv_F v l cX8_tells 11 RX8 "tells" (some .int) [] (rm 46 1022) Kf (mWd D ad cI cZ A) A _)
  show v σ 0 0 0 [(0, .ref (ad 0)), (1, .int q), (2, .int o), (3, .int w)] []
  have hM : σ 0 13 = nI (tn (σ 0 13)) := hw.1.1.1
  have hM8 : tn (σ 0 13) ≤ 8 := hw.1.1.2
  refine v_iload_n F 1 dX8_tells_0 rfl rfl rfl ?_
  refine s_calli F G.1 (cm_X8_isSheet G σ q ) ok_X8_isSheet q1749 q1750 rfl rfl dX8_tells_1 rfl rfl ?_
  intro u0 hu0; subst u0
  refine v_if_eqB (p := (0 ≤ q ∧ q ≤ 3)) (tgt := 27) (q := 7) F dX8_tells_4 rfl rfl (fun c1 => ?_) (fun c1 => ?_)
  · skip
    refine v_bipush (x := (-2)) F dX8_tells_27 rfl (by decide) ?_
    exact v_reti F dX8_tells_29 rfl (by unfold tesR; rw [if_pos (show ¬ tesOK (ab σ) q o w from (fun h => c1 h.1))]) (rfl)
  · skip
    refine v_aload_n F 0 dX8_tells_7 rfl rfl rfl ?_
    refine v_iload_n F 2 dX8_tells_8 rfl rfl rfl ?_
    refine m_calli F G (cm_X8_isPlanting G σ o ) ok_X8_isPlanting q1397 is_X8_isPlanting rfl rfl dX8_tells_9 rfl rfl ?_
    intro u0 hu0; subst u0
    refine v_if_eqB (p := (0 ≤ o ∧ o ≤ σ 0 13 - 1)) (tgt := 27) (q := 15) F dX8_tells_12 rfl rfl (fun c2 => ?_) (fun c2 => ?_)
    · skip
      refine v_bipush (x := (-2)) F dX8_tells_27 rfl (by decide) ?_
      exact v_reti F dX8_tells_29 rfl (by unfold tesR; rw [if_pos (show ¬ tesOK (ab σ) q o w from (fun h => c2 h.2.1))]) (rfl)
    · skip
      refine v_iload_n F 3 dX8_tells_15 rfl rfl rfl ?_
      refine v_i2l F dX8_tells_16 rfl ?_
      refine v_lconst (x := (0 : Int32).toInt64) F dX8_tells_17 rfl (by decide) ?_
      refine v_ldc2 F q1752 dX8_tells_18 rfl ?_
      refine v_lng (y := (6 : Int32).toInt64) F (by decide) ?_
      refine s_calli F G.1 (cm_X8_in G σ w 0 6 ) ok_X8_in q1386 q1387 rfl rfl dX8_tells_21 rfl rfl ?_
      intro u0 hu0; subst u0
      refine v_if_neB (p := (0 ≤ w ∧ w ≤ 6)) (tgt := 30) (q := 27) F dX8_tells_24 rfl rfl (fun c3 => ?_) (fun c3 => ?_)
      · skip
        obtain ⟨a, ha3, hqa⟩ := in_of (M := 3) (n := 3) (by decide) c1
        have htq : tn q = a := by rw [hqa, tn_nI (by omega)]
        obtain ⟨p, hp, hop⟩ := pl_of hM hM8 c2
        have htp : tn o = p := by rw [hop, tn_nI (by omega)]
        refine v_aload_n F 0 dX8_tells_30 rfl rfl rfl ?_
        refine m_get F G 38 (w := .ref (ad 38)) (by decide) q1291 rfl dX8_tells_31 rfl ?_
        refine v_iload_n F 1 dX8_tells_34 rfl rfl rfl ?_
        refine v_int F (hqa) ?_
        refine m_ald38 (t := a) F G (by omega) dX8_tells_35 rfl ?_
        refine v_if_ne (tgt := 42) (q := 39) F dX8_tells_36 rfl rfl (fun c4 => ?_) (fun c4 => ?_)
        · skip
          have h38 : σ 38 a = 1 := ((hS a (by omega)).1).resolve_left c4
          have h40 : okN (σ 40 a) 40 := ((hS a (by omega)).2 h38).1
          have hz := h40.1
          have hz40 := h40.2
          refine v_aload_n F 0 dX8_tells_42 rfl rfl rfl ?_
          refine m_get F G 40 (w := .ref (ad 40)) (by decide) q1293 rfl dX8_tells_43 rfl ?_
          refine v_iload_n F 1 dX8_tells_46 rfl rfl rfl ?_
          refine v_int F (hqa) ?_
          refine m_ald40 (t := a) F G (by omega) dX8_tells_47 rfl ?_
          refine v_bipush (x := 30) F dX8_tells_48 rfl (by decide) ?_
          refine v_icmp_le (tgt := 56) (q := 53) F dX8_tells_50 rfl rfl (fun c5 => ?_) (fun c5 => ?_)
          · skip
            have hz30 : tn (σ 40 a) ≤ 30 := by have h := c5; rw [hz] at h; exact (nI_leI (b := 30) (by omega) (by decide)).mp h
            refine v_iload_n F 3 dX8_tells_56 rfl rfl rfl ?_
            refine v_if_ne (tgt := 67) (q := 60) F dX8_tells_57 rfl rfl (fun c6 => ?_) (fun c6 => ?_)
            · skip
              refine v_iload_n F 3 dX8_tells_67 rfl rfl rfl ?_
              refine v_iconst (x := 1) F dX8_tells_68 rfl (by decide) ?_
              refine v_icmp_ne (tgt := 77) (q := 72) F dX8_tells_69 rfl rfl (fun c7 => ?_) (fun c7 => ?_)
              · skip
                refine v_iload_n F 3 dX8_tells_77 rfl rfl rfl ?_
                refine v_iconst (x := 2) F dX8_tells_78 rfl (by decide) ?_
                refine v_icmp_ne (tgt := 86) (q := 82) F dX8_tells_79 rfl rfl (fun c8 => ?_) (fun c8 => ?_)
                · skip
                  refine v_iload_n F 3 dX8_tells_86 rfl rfl rfl ?_
                  refine v_iconst (x := 3) F dX8_tells_87 rfl (by decide) ?_
                  refine v_icmp_ne (tgt := 95) (q := 91) F dX8_tells_88 rfl rfl (fun c9 => ?_) (fun c9 => ?_)
                  · skip
                    refine v_iload_n F 3 dX8_tells_95 rfl rfl rfl ?_
                    refine v_bipush (x := 6) F dX8_tells_96 rfl (by decide) ?_
                    refine v_icmp_ge (tgt := 105) (q := 101) F dX8_tells_98 rfl rfl (fun c10 => ?_) (fun c10 => ?_)
                    · skip
                      refine v_bipush (x := 7) F dX8_tells_105 rfl (by decide) ?_
                      refine v_istore (ls' := [(4, .int 7), (0, .ref (ad 0)), (1, .int q), (2, .int o), (3, .int w)]) F dX8_tells_107 rfl (by decide) rfl ?_
                      refine v_iload F 0 dX8_tells_109 rfl rfl ?_
                      refine v_bipush (x := 7) F dX8_tells_111 rfl (by decide) ?_
                      refine v_icmp_neN (a := 7) (b := 7) (tgt := 123) (q := 116) F dX8_tells_113 rfl rfl (by omega) (by omega) (fun c11 => ?_) (fun c11 => ?_)
                      · skip
                        exact absurd c11 (by decide)
                      · skip
                        refine v_aload_n F 1 dX8_tells_116 rfl rfl rfl ?_
                        refine m_get F G 4 (w := .int (σ 0 4)) (by decide) q1257 rfl dX8_tells_117 rfl ?_
                        refine v_goto (tgt := 130) F dX8_tells_120 rfl ?_
                        refine v_istore (ls' := [(5, .int (σ 0 4)), (4, .int 7), (0, .ref (ad 0)), (1, .int q), (2, .int o), (3, .int w)]) F dX8_tells_130 rfl (by decide) rfl ?_
                        refine v_iload F 1 dX8_tells_132 rfl rfl ?_
                        refine v_bipush (x := 7) F dX8_tells_134 rfl (by decide) ?_
                        refine v_icmp_neN (a := 7) (b := 7) (tgt := 148) (q := 139) F dX8_tells_136 rfl rfl (by omega) (by omega) (fun c12 => ?_) (fun c12 => ?_)
                        · skip
                          exact absurd c12 (by decide)
                        · skip
                          refine v_aload_n F 2 dX8_tells_139 rfl rfl rfl ?_
                          refine m_get F G 3 (w := .int (σ 0 3)) (by decide) q1256 rfl dX8_tells_140 rfl ?_
                          refine v_int F (hw.1.2.1.1) ?_
                          refine v_iconst (x := 1) F dX8_tells_143 rfl (by decide) ?_
                          refine v_isubN (a := tn (σ 0 3)) (b := 1) F dX8_tells_144 rfl (by have : tn (σ 0 4) < tn (σ 0 3) := hw.1.2.2.2; omega) ?_
                          refine v_goto (tgt := 175) F dX8_tells_145 rfl ?_
                          refine v_istore (ls' := [(6, .int (nI ((tn (σ 0 3)) - 1))), (5, .int (σ 0 4)), (4, .int 7), (0, .ref (ad 0)), (1, .int q), (2, .int o), (3, .int w)]) F dX8_tells_175 rfl (by decide) rfl ?_
                          have hC := hw.1.2.1
                          have hC0 : tn (σ 0 4) < tn (σ 0 3) := hw.1.2.2.2
                          have hC6 : tn (σ 0 3) ≤ 6 := hC.2
                          refine v_iconst (x := 0) F dX8_tells_177 rfl (by decide) ?_
                          refine v_istore (ls' := [(7, .int 0), (6, .int (nI ((tn (σ 0 3)) - 1))), (5, .int (σ 0 4)), (4, .int 7), (0, .ref (ad 0)), (1, .int q), (2, .int o), (3, .int w)]) F dX8_tells_178 rfl (by decide) rfl ?_
                          refine v_iconst (x := 0) F dX8_tells_180 rfl (by decide) ?_
                          refine v_istore (ls' := [(8, .int 0), (7, .int 0), (6, .int (nI ((tn (σ 0 3)) - 1))), (5, .int (σ 0 4)), (4, .int 7), (0, .ref (ad 0)), (1, .int q), (2, .int o), (3, .int w)]) F dX8_tells_181 rfl (by decide) rfl ?_
                          refine v_iconst (x := (-1)) F dX8_tells_183 rfl (by decide) ?_
                          refine v_istore (ls' := [(9, .int (-1)), (8, .int 0), (7, .int 0), (6, .int (nI ((tn (σ 0 3)) - 1))), (5, .int (σ 0 4)), (4, .int 7), (0, .ref (ad 0)), (1, .int q), (2, .int o), (3, .int w)]) F dX8_tells_184 rfl (by decide) rfl ?_
                          refine v_iconst (x := 0) F dX8_tells_186 rfl (by decide) ?_
                          refine v_istore (ls' := [(10, .int 0), (9, .int (-1)), (8, .int 0), (7, .int 0), (6, .int (nI ((tn (σ 0 3)) - 1))), (5, .int (σ 0 4)), (4, .int 7), (0, .ref (ad 0)), (1, .int q), (2, .int o), (3, .int w)]) F dX8_tells_187 rfl (by decide) rfl ?_
                          have L189 : ∀ (nf : Nat) (s : mS) (x : Int32) (y : Int32) (d : Int32) (j : Nat) (hj : j ≤ tn (σ 0 3)) (hs : laid σ s 7 p) (hx : (x, y, d) = tesN (ab σ) a p 7 j) (hnf : tn (σ 0 3) - j < nf), v s 0 0 189 [(0, .ref (ad 0)), (1, .int q), (2, .int o), (3, .int w), (4, .int 7), (5, .int (σ 0 4)), (6, .int (nI ((tn (σ 0 3)) - 1))), (7, .int x), (8, .int y), (9, .int d), (10, .int (nI j))] [] := by
                            intro nf
                            induction nf with
                            | zero => intro s x y d j hj hs hx hnf; exact absurd hnf (Nat.not_lt_zero _)
                            | succ nf ih189 =>
                              intro s x y d j hj hs hx hnf
                              refine v_iload F 10 dX8_tells_189 rfl rfl ?_
                              refine v_iload F 6 dX8_tells_191 rfl rfl ?_
                              refine v_icmp_gtN (a := j) (b := (tn (σ 0 3)) - 1) (tgt := 258) (q := 196) F dX8_tells_193 rfl rfl (by omega) (by omega) (fun c13 => ?_) (fun c13 => ?_)
                              · skip
                                refine v_aload_n F 0 dX8_tells_258 rfl rfl rfl ?_
                                refine v_iload F 4 dX8_tells_259 rfl rfl ?_
                                refine v_iload_n F 2 dX8_tells_261 rfl rfl rfl ?_
                                refine v_int F (hop) ?_
                                refine v_iload F 5 dX8_tells_262 rfl rfl ?_
                                refine m_calln F G (cm_X8_lays (p := p) G s 7 (nI p) (σ 0 4) (fun _ _ => ⟨rfl, by omega⟩) (by decide)) ok_X8_lays q1619 is_X8_lays rfl rfl dX8_tells_264 rfl rfl ?_
                                intro u0 hu0; subst u0
                                refine v_iload_n F 3 dX8_tells_267 rfl rfl rfl ?_
                                refine v_iconst (x := 4) F dX8_tells_268 rfl (by decide) ?_
                                refine v_icmp_ne (tgt := 277) (q := 272) F dX8_tells_269 rfl rfl (fun c14 => ?_) (fun c14 => ?_)
                                · skip
                                  refine v_iload_n F 3 dX8_tells_277 rfl rfl rfl ?_
                                  refine v_iconst (x := 5) F dX8_tells_278 rfl (by decide) ?_
                                  refine v_icmp_ne (tgt := 287) (q := 282) F dX8_tells_279 rfl rfl (fun c15 => ?_) (fun c15 => ?_)
                                  · skip
                                    refine v_iload F 7 dX8_tells_287 rfl rfl ?_
                                    exact v_reti F dX8_tells_289 rfl (by unfold tesR; rw [if_neg (show ¬ ¬ tesOK (ab σ) q o w from fun h => h ⟨c1, c2, c3⟩), if_neg (show ¬ ab σ 38 (tn q) = 0 from by rw [htq]; exact c4), if_neg (show ¬ 30 < ab σ 40 (tn q) from by rw [htq]; exact Int32.not_lt.mpr c5), htq, htp, if_neg (show ¬ w = 0 by grind), if_neg (show ¬ w = 1 by grind), if_neg (show ¬ w = 2 by grind), if_neg (show ¬ w = 3 by grind), if_neg (show ¬ w = 4 by grind), if_neg (show ¬ w = 5 by grind), show tesN (ab σ) a p 7 (tn (ab σ 0 3)) = (x, y, d) from (congrArg (tesN (ab σ) a p 7) (show tn (σ 0 3) = j by omega)).trans hx.symm]) ((hs _).trans (by rw [lay_self (by decide) (by decide) (by simp)]))
                                  · skip
                                    refine v_iload F 9 dX8_tells_282 rfl rfl ?_
                                    refine v_goto (tgt := 289) F dX8_tells_284 rfl ?_
                                    exact v_reti F dX8_tells_289 rfl (by exfalso; grind) ((hs _).trans (by rw [lay_self (by decide) (by decide) (by simp)]))
                                · skip
                                  refine v_iload F 8 dX8_tells_272 rfl rfl ?_
                                  refine v_goto (tgt := 289) F dX8_tells_274 rfl ?_
                                  exact v_reti F dX8_tells_289 rfl (by exfalso; grind) ((hs _).trans (by rw [lay_self (by decide) (by decide) (by simp)]))
                              · skip
                                refine v_aload_n F 0 dX8_tells_196 rfl rfl rfl ?_
                                refine v_iload F 4 dX8_tells_197 rfl rfl ?_
                                refine v_iload_n F 2 dX8_tells_199 rfl rfl rfl ?_
                                refine v_int F (hop) ?_
                                refine v_iload F 10 dX8_tells_200 rfl rfl ?_
                                refine m_calln F G (cm_X8_lays (p := p) G s 7 (nI p) (nI j) (fun _ _ => ⟨rfl, by omega⟩) (by decide)) ok_X8_lays q1619 is_X8_lays rfl rfl dX8_tells_202 rfl rfl ?_
                                intro u0 hu0; subst u0
                                refine v_aload_n F 0 dX8_tells_205 rfl rfl rfl ?_
                                refine v_iload_n F 1 dX8_tells_206 rfl rfl rfl ?_
                                refine v_int F (hqa) ?_
                                refine v_iload_n F 2 dX8_tells_207 rfl rfl rfl ?_
                                refine v_int F (hop) ?_
                                refine m_calli F G (cm_X8_firstOther G (layS s 7 p (nI j)) a p (tes_wf hs hw (by decide) (by decide) (by omega) (fun _ => by omega) (fun _ => by omega)) (by rw [lay_13 hs]; exact hp) (by omega) (by rw [lay_40 hs]; exact hz) hz30) ok_X8_firstOther q1753 is_X8_firstOther rfl rfl dX8_tells_208 rfl rfl ?_
                                intro t16 hq16
                                refine v_iconst (x := (-1)) F dX8_tells_211 rfl (by decide) ?_
                                refine v_icmp_ne (tgt := 252) (q := 215) F dX8_tells_212 rfl rfl (fun c17 => ?_) (fun c17 => ?_)
                                · skip
                                  refine v_iincN (ls' := [(10, .int (nI (j + 1))), (0, .ref (ad 0)), (1, .int q), (2, .int o), (3, .int w), (4, .int 7), (5, .int (σ 0 4)), (6, .int (nI ((tn (σ 0 3)) - 1))), (7, .int x), (8, .int y), (9, .int d)]) F 10 dX8_tells_252 rfl rfl (by decide) rfl ?_
                                  refine v_goto (tgt := 189) F dX8_tells_255 rfl ?_
                                  refine v_sub (ls' := [(0, .ref (ad 0)), (1, .int q), (2, .int o), (3, .int w), (4, .int 7), (5, .int (σ 0 4)), (6, .int (nI ((tn (σ 0 3)) - 1))), (7, .int x), (8, .int y), (9, .int d), (10, .int (nI (j + 1)))]) F [1, 2, 3, 4, 5, 6, 7, 8, 9, 10, 0] rfl ?_
                                  exact ih189 t16 x y d (j + 1) (by omega) (hs.next hq16) (tes_f hx (by rw [← tes_val hs]; exact c17)) (by omega)
                                · skip
                                  refine v_iload F 7 dX8_tells_215 rfl rfl ?_
                                  refine v_iload F 4 dX8_tells_217 rfl rfl ?_
                                  refine v_iconst (x := 5) F dX8_tells_219 rfl (by decide) ?_
                                  refine v_icmp_neN (a := 7) (b := 5) (tgt := 227) (q := 223) F dX8_tells_220 rfl rfl (by omega) (by omega) (fun c18 => ?_) (fun c18 => ?_)
                                  · skip
                                    refine v_iconst (x := 1) F dX8_tells_227 rfl (by decide) ?_
                                    refine v_iload F 10 dX8_tells_228 rfl rfl ?_
                                    refine v_ishl F dX8_tells_230 rfl ?_
                                    refine v_ior F dX8_tells_231 rfl ?_
                                    refine v_istore (ls' := [(7, .int (x ||| (1 <<< ((nI j) &&& 31)))), (0, .ref (ad 0)), (1, .int q), (2, .int o), (3, .int w), (4, .int 7), (5, .int (σ 0 4)), (6, .int (nI ((tn (σ 0 3)) - 1))), (8, .int y), (9, .int d), (10, .int (nI j))]) F dX8_tells_232 rfl (by decide) rfl ?_
                                    refine v_iinc (ls' := [(8, .int (y + 1)), (7, .int (x ||| (1 <<< ((nI j) &&& 31)))), (0, .ref (ad 0)), (1, .int q), (2, .int o), (3, .int w), (4, .int 7), (5, .int (σ 0 4)), (6, .int (nI ((tn (σ 0 3)) - 1))), (9, .int d), (10, .int (nI j))]) F 8 dX8_tells_234 rfl rfl rfl (by decide) rfl ?_
                                    refine v_iload F 9 dX8_tells_237 rfl rfl ?_
                                    refine v_iconst (x := (-1)) F dX8_tells_239 rfl (by decide) ?_
                                    refine v_icmp_ne (tgt := 248) (q := 243) F dX8_tells_240 rfl rfl (fun c19 => ?_) (fun c19 => ?_)
                                    · skip
                                      refine v_iload F 9 dX8_tells_248 rfl rfl ?_
                                      refine v_istore (ls' := [(9, .int d), (8, .int (y + 1)), (7, .int (x ||| (1 <<< ((nI j) &&& 31)))), (0, .ref (ad 0)), (1, .int q), (2, .int o), (3, .int w), (4, .int 7), (5, .int (σ 0 4)), (6, .int (nI ((tn (σ 0 3)) - 1))), (10, .int (nI j))]) F dX8_tells_250 rfl (by decide) rfl ?_
                                      refine v_iincN (ls' := [(10, .int (nI (j + 1))), (9, .int d), (8, .int (y + 1)), (7, .int (x ||| (1 <<< ((nI j) &&& 31)))), (0, .ref (ad 0)), (1, .int q), (2, .int o), (3, .int w), (4, .int 7), (5, .int (σ 0 4)), (6, .int (nI ((tn (σ 0 3)) - 1)))]) F 10 dX8_tells_252 rfl rfl (by decide) rfl ?_
                                      refine v_goto (tgt := 189) F dX8_tells_255 rfl ?_
                                      refine v_sub (ls' := [(0, .ref (ad 0)), (1, .int q), (2, .int o), (3, .int w), (4, .int 7), (5, .int (σ 0 4)), (6, .int (nI ((tn (σ 0 3)) - 1))), (7, .int (x ||| (1 <<< ((nI j) &&& 31)))), (8, .int (y + 1)), (9, .int d), (10, .int (nI (j + 1)))]) F [4, 5, 6, 7, 8, 9, 10, 3, 2, 1, 0] rfl ?_
                                      exact ih189 t16 (x ||| (1 <<< ((nI j) &&& 31))) (y + 1) d (j + 1) (by omega) (hs.next hq16) (by have e := tes_t hx (by rw [← tes_val hs]; exact c17); rw [if_neg (by decide), if_neg c19] at e; exact e) (by omega)
                                    · skip
                                      refine v_iload F 10 dX8_tells_243 rfl rfl ?_
                                      refine v_goto (tgt := 250) F dX8_tells_245 rfl ?_
                                      refine v_istore (ls' := [(9, .int (nI j)), (8, .int (y + 1)), (7, .int (x ||| (1 <<< ((nI j) &&& 31)))), (0, .ref (ad 0)), (1, .int q), (2, .int o), (3, .int w), (4, .int 7), (5, .int (σ 0 4)), (6, .int (nI ((tn (σ 0 3)) - 1))), (10, .int (nI j))]) F dX8_tells_250 rfl (by decide) rfl ?_
                                      refine v_iincN (ls' := [(10, .int (nI (j + 1))), (9, .int (nI j)), (8, .int (y + 1)), (7, .int (x ||| (1 <<< ((nI j) &&& 31)))), (0, .ref (ad 0)), (1, .int q), (2, .int o), (3, .int w), (4, .int 7), (5, .int (σ 0 4)), (6, .int (nI ((tn (σ 0 3)) - 1)))]) F 10 dX8_tells_252 rfl rfl (by decide) rfl ?_
                                      refine v_goto (tgt := 189) F dX8_tells_255 rfl ?_
                                      refine v_sub (ls' := [(0, .ref (ad 0)), (1, .int q), (2, .int o), (3, .int w), (4, .int 7), (5, .int (σ 0 4)), (6, .int (nI ((tn (σ 0 3)) - 1))), (7, .int (x ||| (1 <<< ((nI j) &&& 31)))), (8, .int (y + 1)), (9, .int (nI j)), (10, .int (nI (j + 1)))]) F [4, 5, 6, 7, 8, 9, 10, 3, 2, 1, 0] rfl ?_
                                      exact ih189 t16 (x ||| (1 <<< ((nI j) &&& 31))) (y + 1) (nI j) (j + 1) (by omega) (hs.next hq16) (by have e := tes_t hx (by rw [← tes_val hs]; exact c17); rw [if_neg (by decide), if_pos c19] at e; exact e) (by omega)
                                  · skip
                                    exact absurd c18 (by decide)
                          refine v_sub (ls' := [(0, .ref (ad 0)), (1, .int q), (2, .int o), (3, .int w), (4, .int 7), (5, .int (σ 0 4)), (6, .int (nI ((tn (σ 0 3)) - 1))), (7, .int 0), (8, .int 0), (9, .int (-1)), (10, .int 0)]) F [7, 8, 9, 10, 6, 5, 4, 3, 2, 1, 0] rfl ?_
                          exact L189 _ σ 0 0 (-1) 0 (Nat.zero_le _) laid.rf rfl (Nat.lt_succ_self _)
                    · skip
                      refine v_iconst (x := 5) F dX8_tells_101 rfl (by decide) ?_
                      refine v_goto (tgt := 107) F dX8_tells_102 rfl ?_
                      refine v_istore (ls' := [(4, .int 5), (0, .ref (ad 0)), (1, .int q), (2, .int o), (3, .int w)]) F dX8_tells_107 rfl (by decide) rfl ?_
                      refine v_iload F 0 dX8_tells_109 rfl rfl ?_
                      refine v_bipush (x := 7) F dX8_tells_111 rfl (by decide) ?_
                      refine v_icmp_neN (a := 5) (b := 7) (tgt := 123) (q := 116) F dX8_tells_113 rfl rfl (by omega) (by omega) (fun c20 => ?_) (fun c20 => ?_)
                      · skip
                        have hof : isOfP (ab σ) 5 (nI p) := Or.inr (by rw [if_neg (by decide)]; exact pl_iff hM hM8 rfl hp)
                        have htnp : tn (nI p) = p := tn_nI (by omega)
                        refine v_aload_n F 1 dX8_tells_123 rfl rfl rfl ?_
                        refine v_iload_n F 3 dX8_tells_124 rfl rfl rfl ?_
                        refine v_int F (hop) ?_
                        refine v_iload F 0 dX8_tells_125 rfl rfl ?_
                        refine m_calli F G (cm_X8_told G σ (nI p) 5 hw) ok_X8_told q1404 is_X8_told rfl rfl dX8_tells_127 rfl rfl ?_
                        intro t21 hb21
                        refine v_istore (ls' := [(5, .int (tolV (ab σ) (nI p) 5)), (4, .int 5), (0, .ref (ad 0)), (1, .int q), (2, .int o), (3, .int w)]) F dX8_tells_130 rfl (by decide) rfl ?_
                        refine v_iload F 1 dX8_tells_132 rfl rfl ?_
                        refine v_bipush (x := 7) F dX8_tells_134 rfl (by decide) ?_
                        refine v_icmp_neN (a := 5) (b := 7) (tgt := 148) (q := 139) F dX8_tells_136 rfl rfl (by omega) (by omega) (fun c22 => ?_) (fun c22 => ?_)
                        · skip
                          refine v_iload F 1 dX8_tells_148 rfl rfl ?_
                          refine v_bipush (x := 6) F dX8_tells_150 rfl (by decide) ?_
                          refine v_icmp_neN (a := 5) (b := 6) (tgt := 159) (q := 155) F dX8_tells_152 rfl rfl (by omega) (by omega) (fun c23 => ?_) (fun c23 => ?_)
                          · skip
                            refine v_iload F 1 dX8_tells_159 rfl rfl ?_
                            refine v_iconst (x := 5) F dX8_tells_161 rfl (by decide) ?_
                            refine v_icmp_neN (a := 5) (b := 5) (tgt := 170) (q := 165) F dX8_tells_162 rfl rfl (by omega) (by omega) (fun c24 => ?_) (fun c24 => ?_)
                            · skip
                              exact absurd c24 (by decide)
                            · skip
                              refine v_bipush (x := 99) F dX8_tells_165 rfl (by decide) ?_
                              refine v_goto (tgt := 175) F dX8_tells_167 rfl ?_
                              refine v_istore (ls' := [(6, .int 99), (5, .int (tolV (ab σ) (nI p) 5)), (4, .int 5), (0, .ref (ad 0)), (1, .int q), (2, .int o), (3, .int w)]) F dX8_tells_175 rfl (by decide) rfl ?_
                              have hC := hw.1.2.1
                              have hC0 : tn (σ 0 4) < tn (σ 0 3) := hw.1.2.2.2
                              have hC6 : tn (σ 0 3) ≤ 6 := hC.2
                              refine v_iconst (x := 0) F dX8_tells_177 rfl (by decide) ?_
                              refine v_istore (ls' := [(7, .int 0), (6, .int 99), (5, .int (tolV (ab σ) (nI p) 5)), (4, .int 5), (0, .ref (ad 0)), (1, .int q), (2, .int o), (3, .int w)]) F dX8_tells_178 rfl (by decide) rfl ?_
                              refine v_iconst (x := 0) F dX8_tells_180 rfl (by decide) ?_
                              refine v_istore (ls' := [(8, .int 0), (7, .int 0), (6, .int 99), (5, .int (tolV (ab σ) (nI p) 5)), (4, .int 5), (0, .ref (ad 0)), (1, .int q), (2, .int o), (3, .int w)]) F dX8_tells_181 rfl (by decide) rfl ?_
                              refine v_iconst (x := (-1)) F dX8_tells_183 rfl (by decide) ?_
                              refine v_istore (ls' := [(9, .int (-1)), (8, .int 0), (7, .int 0), (6, .int 99), (5, .int (tolV (ab σ) (nI p) 5)), (4, .int 5), (0, .ref (ad 0)), (1, .int q), (2, .int o), (3, .int w)]) F dX8_tells_184 rfl (by decide) rfl ?_
                              refine v_iconst (x := 0) F dX8_tells_186 rfl (by decide) ?_
                              refine v_istore (ls' := [(10, .int 0), (9, .int (-1)), (8, .int 0), (7, .int 0), (6, .int 99), (5, .int (tolV (ab σ) (nI p) 5)), (4, .int 5), (0, .ref (ad 0)), (1, .int q), (2, .int o), (3, .int w)]) F dX8_tells_187 rfl (by decide) rfl ?_
                              have L189 : ∀ (nf : Nat) (s : mS) (x : Int32) (y : Int32) (d : Int32) (j : Nat) (hj : j ≤ 100) (hs : laid σ s 5 p) (hx : (x, y, d) = tesN (ab σ) a p 5 j) (hnf : 100 - j < nf), v s 0 0 189 [(0, .ref (ad 0)), (1, .int q), (2, .int o), (3, .int w), (4, .int 5), (5, .int (tolV (ab σ) (nI p) 5)), (6, .int 99), (7, .int x), (8, .int y), (9, .int d), (10, .int (nI j))] [] := by
                                intro nf
                                induction nf with
                                | zero => intro s x y d j hj hs hx hnf; exact absurd hnf (Nat.not_lt_zero _)
                                | succ nf ih189 =>
                                  intro s x y d j hj hs hx hnf
                                  refine v_iload F 10 dX8_tells_189 rfl rfl ?_
                                  refine v_iload F 6 dX8_tells_191 rfl rfl ?_
                                  refine v_icmp_gtN (a := j) (b := 99) (tgt := 258) (q := 196) F dX8_tells_193 rfl rfl (by omega) (by omega) (fun c25 => ?_) (fun c25 => ?_)
                                  · skip
                                    refine v_aload_n F 0 dX8_tells_258 rfl rfl rfl ?_
                                    refine v_iload F 4 dX8_tells_259 rfl rfl ?_
                                    refine v_iload_n F 2 dX8_tells_261 rfl rfl rfl ?_
                                    refine v_int F (hop) ?_
                                    refine v_iload F 5 dX8_tells_262 rfl rfl ?_
                                    refine m_calln F G (cm_X8_lays (p := p) G s 5 (nI p) (tolV (ab σ) (nI p) 5) (fun _ _ => ⟨rfl, by omega⟩) (by decide)) ok_X8_lays q1619 is_X8_lays rfl rfl dX8_tells_264 rfl rfl ?_
                                    intro u0 hu0; subst u0
                                    refine v_iload_n F 3 dX8_tells_267 rfl rfl rfl ?_
                                    refine v_iconst (x := 4) F dX8_tells_268 rfl (by decide) ?_
                                    refine v_icmp_ne (tgt := 277) (q := 272) F dX8_tells_269 rfl rfl (fun c26 => ?_) (fun c26 => ?_)
                                    · skip
                                      refine v_iload_n F 3 dX8_tells_277 rfl rfl rfl ?_
                                      refine v_iconst (x := 5) F dX8_tells_278 rfl (by decide) ?_
                                      refine v_icmp_ne (tgt := 287) (q := 282) F dX8_tells_279 rfl rfl (fun c27 => ?_) (fun c27 => ?_)
                                      · skip
                                        refine v_iload F 7 dX8_tells_287 rfl rfl ?_
                                        exact v_reti F dX8_tells_289 rfl (by exfalso; grind) ((hs _).trans (by rw [lay_self (by decide) (by decide) (by rw [tolV_5 (α := ab σ) rfl hof, htnp]; simp; rfl)]))
                                      · skip
                                        refine v_iload F 9 dX8_tells_282 rfl rfl ?_
                                        refine v_goto (tgt := 289) F dX8_tells_284 rfl ?_
                                        exact v_reti F dX8_tells_289 rfl (by unfold tesR; rw [if_neg (show ¬ ¬ tesOK (ab σ) q o w from fun h => h ⟨c1, c2, c3⟩), if_neg (show ¬ ab σ 38 (tn q) = 0 from by rw [htq]; exact c4), if_neg (show ¬ 30 < ab σ 40 (tn q) from by rw [htq]; exact Int32.not_lt.mpr c5), htq, htp, if_neg (show ¬ w = 0 by grind), if_neg (show ¬ w = 1 by grind), if_neg (show ¬ w = 2 by grind), if_neg (show ¬ w = 3 by grind), if_neg (show ¬ w = 4 by grind), if_pos (show w = 5 by grind), show tesN (ab σ) a p 5 (100) = (x, y, d) from (congrArg (tesN (ab σ) a p 5) (show 100 = j by omega)).trans hx.symm]) ((hs _).trans (by rw [lay_self (by decide) (by decide) (by rw [tolV_5 (α := ab σ) rfl hof, htnp]; simp; rfl)]))
                                    · skip
                                      refine v_iload F 8 dX8_tells_272 rfl rfl ?_
                                      refine v_goto (tgt := 289) F dX8_tells_274 rfl ?_
                                      exact v_reti F dX8_tells_289 rfl (by unfold tesR; rw [if_neg (show ¬ ¬ tesOK (ab σ) q o w from fun h => h ⟨c1, c2, c3⟩), if_neg (show ¬ ab σ 38 (tn q) = 0 from by rw [htq]; exact c4), if_neg (show ¬ 30 < ab σ 40 (tn q) from by rw [htq]; exact Int32.not_lt.mpr c5), htq, htp, if_neg (show ¬ w = 0 by grind), if_neg (show ¬ w = 1 by grind), if_neg (show ¬ w = 2 by grind), if_neg (show ¬ w = 3 by grind), if_pos (show w = 4 by grind), show tesN (ab σ) a p 5 (100) = (x, y, d) from (congrArg (tesN (ab σ) a p 5) (show 100 = j by omega)).trans hx.symm]) ((hs _).trans (by rw [lay_self (by decide) (by decide) (by rw [tolV_5 (α := ab σ) rfl hof, htnp]; simp; rfl)]))
                                  · skip
                                    refine v_aload_n F 0 dX8_tells_196 rfl rfl rfl ?_
                                    refine v_iload F 4 dX8_tells_197 rfl rfl ?_
                                    refine v_iload_n F 2 dX8_tells_199 rfl rfl rfl ?_
                                    refine v_int F (hop) ?_
                                    refine v_iload F 10 dX8_tells_200 rfl rfl ?_
                                    refine m_calln F G (cm_X8_lays (p := p) G s 5 (nI p) (nI j) (fun _ _ => ⟨rfl, by omega⟩) (by decide)) ok_X8_lays q1619 is_X8_lays rfl rfl dX8_tells_202 rfl rfl ?_
                                    intro u0 hu0; subst u0
                                    refine v_aload_n F 0 dX8_tells_205 rfl rfl rfl ?_
                                    refine v_iload_n F 1 dX8_tells_206 rfl rfl rfl ?_
                                    refine v_int F (hqa) ?_
                                    refine v_iload_n F 2 dX8_tells_207 rfl rfl rfl ?_
                                    refine v_int F (hop) ?_
                                    refine m_calli F G (cm_X8_firstOther G (layS s 5 p (nI j)) a p (tes_wf hs hw (by decide) (by decide) (by omega) (fun _ => by omega) (fun _ => by omega)) (by rw [lay_13 hs]; exact hp) (by omega) (by rw [lay_40 hs]; exact hz) hz30) ok_X8_firstOther q1753 is_X8_firstOther rfl rfl dX8_tells_208 rfl rfl ?_
                                    intro t28 hq28
                                    refine v_iconst (x := (-1)) F dX8_tells_211 rfl (by decide) ?_
                                    refine v_icmp_ne (tgt := 252) (q := 215) F dX8_tells_212 rfl rfl (fun c29 => ?_) (fun c29 => ?_)
                                    · skip
                                      refine v_iincN (ls' := [(10, .int (nI (j + 1))), (0, .ref (ad 0)), (1, .int q), (2, .int o), (3, .int w), (4, .int 5), (5, .int (tolV (ab σ) (nI p) 5)), (6, .int 99), (7, .int x), (8, .int y), (9, .int d)]) F 10 dX8_tells_252 rfl rfl (by decide) rfl ?_
                                      refine v_goto (tgt := 189) F dX8_tells_255 rfl ?_
                                      refine v_sub (ls' := [(0, .ref (ad 0)), (1, .int q), (2, .int o), (3, .int w), (4, .int 5), (5, .int (tolV (ab σ) (nI p) 5)), (6, .int 99), (7, .int x), (8, .int y), (9, .int d), (10, .int (nI (j + 1)))]) F [1, 2, 3, 4, 5, 6, 7, 8, 9, 10, 0] rfl ?_
                                      exact ih189 t28 x y d (j + 1) (by omega) (hs.next hq28) (tes_f hx (by rw [← tes_val hs]; exact c29)) (by omega)
                                    · skip
                                      refine v_iload F 7 dX8_tells_215 rfl rfl ?_
                                      refine v_iload F 4 dX8_tells_217 rfl rfl ?_
                                      refine v_iconst (x := 5) F dX8_tells_219 rfl (by decide) ?_
                                      refine v_icmp_neN (a := 5) (b := 5) (tgt := 227) (q := 223) F dX8_tells_220 rfl rfl (by omega) (by omega) (fun c30 => ?_) (fun c30 => ?_)
                                      · skip
                                        exact absurd c30 (by decide)
                                      · skip
                                        refine v_iconst (x := 0) F dX8_tells_223 rfl (by decide) ?_
                                        refine v_goto (tgt := 231) F dX8_tells_224 rfl ?_
                                        refine v_ior F dX8_tells_231 rfl ?_
                                        refine v_istore (ls' := [(7, .int (x ||| 0)), (0, .ref (ad 0)), (1, .int q), (2, .int o), (3, .int w), (4, .int 5), (5, .int (tolV (ab σ) (nI p) 5)), (6, .int 99), (8, .int y), (9, .int d), (10, .int (nI j))]) F dX8_tells_232 rfl (by decide) rfl ?_
                                        refine v_iinc (ls' := [(8, .int (y + 1)), (7, .int (x ||| 0)), (0, .ref (ad 0)), (1, .int q), (2, .int o), (3, .int w), (4, .int 5), (5, .int (tolV (ab σ) (nI p) 5)), (6, .int 99), (9, .int d), (10, .int (nI j))]) F 8 dX8_tells_234 rfl rfl rfl (by decide) rfl ?_
                                        refine v_iload F 9 dX8_tells_237 rfl rfl ?_
                                        refine v_iconst (x := (-1)) F dX8_tells_239 rfl (by decide) ?_
                                        refine v_icmp_ne (tgt := 248) (q := 243) F dX8_tells_240 rfl rfl (fun c31 => ?_) (fun c31 => ?_)
                                        · skip
                                          refine v_iload F 9 dX8_tells_248 rfl rfl ?_
                                          refine v_istore (ls' := [(9, .int d), (8, .int (y + 1)), (7, .int (x ||| 0)), (0, .ref (ad 0)), (1, .int q), (2, .int o), (3, .int w), (4, .int 5), (5, .int (tolV (ab σ) (nI p) 5)), (6, .int 99), (10, .int (nI j))]) F dX8_tells_250 rfl (by decide) rfl ?_
                                          refine v_iincN (ls' := [(10, .int (nI (j + 1))), (9, .int d), (8, .int (y + 1)), (7, .int (x ||| 0)), (0, .ref (ad 0)), (1, .int q), (2, .int o), (3, .int w), (4, .int 5), (5, .int (tolV (ab σ) (nI p) 5)), (6, .int 99)]) F 10 dX8_tells_252 rfl rfl (by decide) rfl ?_
                                          refine v_goto (tgt := 189) F dX8_tells_255 rfl ?_
                                          refine v_sub (ls' := [(0, .ref (ad 0)), (1, .int q), (2, .int o), (3, .int w), (4, .int 5), (5, .int (tolV (ab σ) (nI p) 5)), (6, .int 99), (7, .int (x ||| 0)), (8, .int (y + 1)), (9, .int d), (10, .int (nI (j + 1)))]) F [4, 5, 6, 7, 8, 9, 10, 3, 2, 1, 0] rfl ?_
                                          exact ih189 t28 (x ||| 0) (y + 1) d (j + 1) (by omega) (hs.next hq28) (by have e := tes_t hx (by rw [← tes_val hs]; exact c29); rw [if_pos (by decide), if_neg c31] at e; exact e) (by omega)
                                        · skip
                                          refine v_iload F 10 dX8_tells_243 rfl rfl ?_
                                          refine v_goto (tgt := 250) F dX8_tells_245 rfl ?_
                                          refine v_istore (ls' := [(9, .int (nI j)), (8, .int (y + 1)), (7, .int (x ||| 0)), (0, .ref (ad 0)), (1, .int q), (2, .int o), (3, .int w), (4, .int 5), (5, .int (tolV (ab σ) (nI p) 5)), (6, .int 99), (10, .int (nI j))]) F dX8_tells_250 rfl (by decide) rfl ?_
                                          refine v_iincN (ls' := [(10, .int (nI (j + 1))), (9, .int (nI j)), (8, .int (y + 1)), (7, .int (x ||| 0)), (0, .ref (ad 0)), (1, .int q), (2, .int o), (3, .int w), (4, .int 5), (5, .int (tolV (ab σ) (nI p) 5)), (6, .int 99)]) F 10 dX8_tells_252 rfl rfl (by decide) rfl ?_
                                          refine v_goto (tgt := 189) F dX8_tells_255 rfl ?_
                                          refine v_sub (ls' := [(0, .ref (ad 0)), (1, .int q), (2, .int o), (3, .int w), (4, .int 5), (5, .int (tolV (ab σ) (nI p) 5)), (6, .int 99), (7, .int (x ||| 0)), (8, .int (y + 1)), (9, .int (nI j)), (10, .int (nI (j + 1)))]) F [4, 5, 6, 7, 8, 9, 10, 3, 2, 1, 0] rfl ?_
                                          exact ih189 t28 (x ||| 0) (y + 1) (nI j) (j + 1) (by omega) (hs.next hq28) (by have e := tes_t hx (by rw [← tes_val hs]; exact c29); rw [if_pos (by decide), if_pos c31] at e; exact e) (by omega)
                              refine v_sub (ls' := [(0, .ref (ad 0)), (1, .int q), (2, .int o), (3, .int w), (4, .int 5), (5, .int (tolV (ab σ) (nI p) 5)), (6, .int 99), (7, .int 0), (8, .int 0), (9, .int (-1)), (10, .int 0)]) F [7, 8, 9, 10, 6, 5, 4, 3, 2, 1, 0] rfl ?_
                              exact L189 _ t21 0 0 (-1) 0 (Nat.zero_le _) (fun x => lay_nb (nb_of hb21)) rfl (Nat.lt_succ_self _)
                          · skip
                            exact absurd c23 (by decide)
                        · skip
                          exact absurd c22 (by decide)
                      · skip
                        exact absurd c20 (by decide)
                  · skip
                    refine v_iconst (x := 4) F dX8_tells_91 rfl (by decide) ?_
                    refine v_goto (tgt := 107) F dX8_tells_92 rfl ?_
                    refine v_istore (ls' := [(4, .int 4), (0, .ref (ad 0)), (1, .int q), (2, .int o), (3, .int w)]) F dX8_tells_107 rfl (by decide) rfl ?_
                    refine v_iload F 0 dX8_tells_109 rfl rfl ?_
                    refine v_bipush (x := 7) F dX8_tells_111 rfl (by decide) ?_
                    refine v_icmp_neN (a := 4) (b := 7) (tgt := 123) (q := 116) F dX8_tells_113 rfl rfl (by omega) (by omega) (fun c32 => ?_) (fun c32 => ?_)
                    · skip
                      have hof : isOfP (ab σ) 4 (nI p) := Or.inr (by rw [if_neg (by decide)]; exact pl_iff hM hM8 rfl hp)
                      have htnp : tn (nI p) = p := tn_nI (by omega)
                      refine v_aload_n F 1 dX8_tells_123 rfl rfl rfl ?_
                      refine v_iload_n F 3 dX8_tells_124 rfl rfl rfl ?_
                      refine v_int F (hop) ?_
                      refine v_iload F 0 dX8_tells_125 rfl rfl ?_
                      refine m_calli F G (cm_X8_told G σ (nI p) 4 hw) ok_X8_told q1404 is_X8_told rfl rfl dX8_tells_127 rfl rfl ?_
                      intro t33 hb33
                      refine v_istore (ls' := [(5, .int (tolV (ab σ) (nI p) 4)), (4, .int 4), (0, .ref (ad 0)), (1, .int q), (2, .int o), (3, .int w)]) F dX8_tells_130 rfl (by decide) rfl ?_
                      refine v_iload F 1 dX8_tells_132 rfl rfl ?_
                      refine v_bipush (x := 7) F dX8_tells_134 rfl (by decide) ?_
                      refine v_icmp_neN (a := 4) (b := 7) (tgt := 148) (q := 139) F dX8_tells_136 rfl rfl (by omega) (by omega) (fun c34 => ?_) (fun c34 => ?_)
                      · skip
                        refine v_iload F 1 dX8_tells_148 rfl rfl ?_
                        refine v_bipush (x := 6) F dX8_tells_150 rfl (by decide) ?_
                        refine v_icmp_neN (a := 4) (b := 6) (tgt := 159) (q := 155) F dX8_tells_152 rfl rfl (by omega) (by omega) (fun c35 => ?_) (fun c35 => ?_)
                        · skip
                          refine v_iload F 1 dX8_tells_159 rfl rfl ?_
                          refine v_iconst (x := 5) F dX8_tells_161 rfl (by decide) ?_
                          refine v_icmp_neN (a := 4) (b := 5) (tgt := 170) (q := 165) F dX8_tells_162 rfl rfl (by omega) (by omega) (fun c36 => ?_) (fun c36 => ?_)
                          · skip
                            refine v_iload F 1 dX8_tells_170 rfl rfl ?_
                            refine s_calli F G.1 (cm_X8_mostOf G t33 4 ) ok_X8_mostOf q1401 q1402 rfl rfl dX8_tells_172 rfl rfl ?_
                            intro u0 hu0; subst u0
                            refine v_int F mostV_4 ?_
                            refine v_istore (ls' := [(6, .int 7), (5, .int (tolV (ab σ) (nI p) 4)), (4, .int 4), (0, .ref (ad 0)), (1, .int q), (2, .int o), (3, .int w)]) F dX8_tells_175 rfl (by decide) rfl ?_
                            have hC := hw.1.2.1
                            have hC0 : tn (σ 0 4) < tn (σ 0 3) := hw.1.2.2.2
                            have hC6 : tn (σ 0 3) ≤ 6 := hC.2
                            refine v_iconst (x := 0) F dX8_tells_177 rfl (by decide) ?_
                            refine v_istore (ls' := [(7, .int 0), (6, .int 7), (5, .int (tolV (ab σ) (nI p) 4)), (4, .int 4), (0, .ref (ad 0)), (1, .int q), (2, .int o), (3, .int w)]) F dX8_tells_178 rfl (by decide) rfl ?_
                            refine v_iconst (x := 0) F dX8_tells_180 rfl (by decide) ?_
                            refine v_istore (ls' := [(8, .int 0), (7, .int 0), (6, .int 7), (5, .int (tolV (ab σ) (nI p) 4)), (4, .int 4), (0, .ref (ad 0)), (1, .int q), (2, .int o), (3, .int w)]) F dX8_tells_181 rfl (by decide) rfl ?_
                            refine v_iconst (x := (-1)) F dX8_tells_183 rfl (by decide) ?_
                            refine v_istore (ls' := [(9, .int (-1)), (8, .int 0), (7, .int 0), (6, .int 7), (5, .int (tolV (ab σ) (nI p) 4)), (4, .int 4), (0, .ref (ad 0)), (1, .int q), (2, .int o), (3, .int w)]) F dX8_tells_184 rfl (by decide) rfl ?_
                            refine v_iconst (x := 0) F dX8_tells_186 rfl (by decide) ?_
                            refine v_istore (ls' := [(10, .int 0), (9, .int (-1)), (8, .int 0), (7, .int 0), (6, .int 7), (5, .int (tolV (ab σ) (nI p) 4)), (4, .int 4), (0, .ref (ad 0)), (1, .int q), (2, .int o), (3, .int w)]) F dX8_tells_187 rfl (by decide) rfl ?_
                            have L189 : ∀ (nf : Nat) (s : mS) (x : Int32) (y : Int32) (d : Int32) (j : Nat) (hj : j ≤ 8) (hs : laid σ s 4 p) (hx : (x, y, d) = tesN (ab σ) a p 4 j) (hnf : 8 - j < nf), v s 0 0 189 [(0, .ref (ad 0)), (1, .int q), (2, .int o), (3, .int w), (4, .int 4), (5, .int (tolV (ab σ) (nI p) 4)), (6, .int 7), (7, .int x), (8, .int y), (9, .int d), (10, .int (nI j))] [] := by
                              intro nf
                              induction nf with
                              | zero => intro s x y d j hj hs hx hnf; exact absurd hnf (Nat.not_lt_zero _)
                              | succ nf ih189 =>
                                intro s x y d j hj hs hx hnf
                                refine v_iload F 10 dX8_tells_189 rfl rfl ?_
                                refine v_iload F 6 dX8_tells_191 rfl rfl ?_
                                refine v_icmp_gtN (a := j) (b := 7) (tgt := 258) (q := 196) F dX8_tells_193 rfl rfl (by omega) (by omega) (fun c37 => ?_) (fun c37 => ?_)
                                · skip
                                  refine v_aload_n F 0 dX8_tells_258 rfl rfl rfl ?_
                                  refine v_iload F 4 dX8_tells_259 rfl rfl ?_
                                  refine v_iload_n F 2 dX8_tells_261 rfl rfl rfl ?_
                                  refine v_int F (hop) ?_
                                  refine v_iload F 5 dX8_tells_262 rfl rfl ?_
                                  refine m_calln F G (cm_X8_lays (p := p) G s 4 (nI p) (tolV (ab σ) (nI p) 4) (fun _ _ => ⟨rfl, by omega⟩) (by decide)) ok_X8_lays q1619 is_X8_lays rfl rfl dX8_tells_264 rfl rfl ?_
                                  intro u0 hu0; subst u0
                                  refine v_iload_n F 3 dX8_tells_267 rfl rfl rfl ?_
                                  refine v_iconst (x := 4) F dX8_tells_268 rfl (by decide) ?_
                                  refine v_icmp_ne (tgt := 277) (q := 272) F dX8_tells_269 rfl rfl (fun c38 => ?_) (fun c38 => ?_)
                                  · skip
                                    refine v_iload_n F 3 dX8_tells_277 rfl rfl rfl ?_
                                    refine v_iconst (x := 5) F dX8_tells_278 rfl (by decide) ?_
                                    refine v_icmp_ne (tgt := 287) (q := 282) F dX8_tells_279 rfl rfl (fun c39 => ?_) (fun c39 => ?_)
                                    · skip
                                      refine v_iload F 7 dX8_tells_287 rfl rfl ?_
                                      exact v_reti F dX8_tells_289 rfl (by unfold tesR; rw [if_neg (show ¬ ¬ tesOK (ab σ) q o w from fun h => h ⟨c1, c2, c3⟩), if_neg (show ¬ ab σ 38 (tn q) = 0 from by rw [htq]; exact c4), if_neg (show ¬ 30 < ab σ 40 (tn q) from by rw [htq]; exact Int32.not_lt.mpr c5), htq, htp, if_neg (show ¬ w = 0 by grind), if_neg (show ¬ w = 1 by grind), if_neg (show ¬ w = 2 by grind), if_pos (show w = 3 by grind), show tesN (ab σ) a p 4 (8) = (x, y, d) from (congrArg (tesN (ab σ) a p 4) (show 8 = j by omega)).trans hx.symm]) ((hs _).trans (by rw [lay_self (by decide) (by decide) (by rw [tolV_4 (α := ab σ) rfl hof, htnp]; simp; rfl)]))
                                    · skip
                                      refine v_iload F 9 dX8_tells_282 rfl rfl ?_
                                      refine v_goto (tgt := 289) F dX8_tells_284 rfl ?_
                                      exact v_reti F dX8_tells_289 rfl (by exfalso; grind) ((hs _).trans (by rw [lay_self (by decide) (by decide) (by rw [tolV_4 (α := ab σ) rfl hof, htnp]; simp; rfl)]))
                                  · skip
                                    refine v_iload F 8 dX8_tells_272 rfl rfl ?_
                                    refine v_goto (tgt := 289) F dX8_tells_274 rfl ?_
                                    exact v_reti F dX8_tells_289 rfl (by exfalso; grind) ((hs _).trans (by rw [lay_self (by decide) (by decide) (by rw [tolV_4 (α := ab σ) rfl hof, htnp]; simp; rfl)]))
                                · skip
                                  refine v_aload_n F 0 dX8_tells_196 rfl rfl rfl ?_
                                  refine v_iload F 4 dX8_tells_197 rfl rfl ?_
                                  refine v_iload_n F 2 dX8_tells_199 rfl rfl rfl ?_
                                  refine v_int F (hop) ?_
                                  refine v_iload F 10 dX8_tells_200 rfl rfl ?_
                                  refine m_calln F G (cm_X8_lays (p := p) G s 4 (nI p) (nI j) (fun _ _ => ⟨rfl, by omega⟩) (by decide)) ok_X8_lays q1619 is_X8_lays rfl rfl dX8_tells_202 rfl rfl ?_
                                  intro u0 hu0; subst u0
                                  refine v_aload_n F 0 dX8_tells_205 rfl rfl rfl ?_
                                  refine v_iload_n F 1 dX8_tells_206 rfl rfl rfl ?_
                                  refine v_int F (hqa) ?_
                                  refine v_iload_n F 2 dX8_tells_207 rfl rfl rfl ?_
                                  refine v_int F (hop) ?_
                                  refine m_calli F G (cm_X8_firstOther G (layS s 4 p (nI j)) a p (tes_wf hs hw (by decide) (by decide) (by omega) (fun _ => by omega) (fun _ => by omega)) (by rw [lay_13 hs]; exact hp) (by omega) (by rw [lay_40 hs]; exact hz) hz30) ok_X8_firstOther q1753 is_X8_firstOther rfl rfl dX8_tells_208 rfl rfl ?_
                                  intro t40 hq40
                                  refine v_iconst (x := (-1)) F dX8_tells_211 rfl (by decide) ?_
                                  refine v_icmp_ne (tgt := 252) (q := 215) F dX8_tells_212 rfl rfl (fun c41 => ?_) (fun c41 => ?_)
                                  · skip
                                    refine v_iincN (ls' := [(10, .int (nI (j + 1))), (0, .ref (ad 0)), (1, .int q), (2, .int o), (3, .int w), (4, .int 4), (5, .int (tolV (ab σ) (nI p) 4)), (6, .int 7), (7, .int x), (8, .int y), (9, .int d)]) F 10 dX8_tells_252 rfl rfl (by decide) rfl ?_
                                    refine v_goto (tgt := 189) F dX8_tells_255 rfl ?_
                                    refine v_sub (ls' := [(0, .ref (ad 0)), (1, .int q), (2, .int o), (3, .int w), (4, .int 4), (5, .int (tolV (ab σ) (nI p) 4)), (6, .int 7), (7, .int x), (8, .int y), (9, .int d), (10, .int (nI (j + 1)))]) F [1, 2, 3, 4, 5, 6, 7, 8, 9, 10, 0] rfl ?_
                                    exact ih189 t40 x y d (j + 1) (by omega) (hs.next hq40) (tes_f hx (by rw [← tes_val hs]; exact c41)) (by omega)
                                  · skip
                                    refine v_iload F 7 dX8_tells_215 rfl rfl ?_
                                    refine v_iload F 4 dX8_tells_217 rfl rfl ?_
                                    refine v_iconst (x := 5) F dX8_tells_219 rfl (by decide) ?_
                                    refine v_icmp_neN (a := 4) (b := 5) (tgt := 227) (q := 223) F dX8_tells_220 rfl rfl (by omega) (by omega) (fun c42 => ?_) (fun c42 => ?_)
                                    · skip
                                      refine v_iconst (x := 1) F dX8_tells_227 rfl (by decide) ?_
                                      refine v_iload F 10 dX8_tells_228 rfl rfl ?_
                                      refine v_ishl F dX8_tells_230 rfl ?_
                                      refine v_ior F dX8_tells_231 rfl ?_
                                      refine v_istore (ls' := [(7, .int (x ||| (1 <<< ((nI j) &&& 31)))), (0, .ref (ad 0)), (1, .int q), (2, .int o), (3, .int w), (4, .int 4), (5, .int (tolV (ab σ) (nI p) 4)), (6, .int 7), (8, .int y), (9, .int d), (10, .int (nI j))]) F dX8_tells_232 rfl (by decide) rfl ?_
                                      refine v_iinc (ls' := [(8, .int (y + 1)), (7, .int (x ||| (1 <<< ((nI j) &&& 31)))), (0, .ref (ad 0)), (1, .int q), (2, .int o), (3, .int w), (4, .int 4), (5, .int (tolV (ab σ) (nI p) 4)), (6, .int 7), (9, .int d), (10, .int (nI j))]) F 8 dX8_tells_234 rfl rfl rfl (by decide) rfl ?_
                                      refine v_iload F 9 dX8_tells_237 rfl rfl ?_
                                      refine v_iconst (x := (-1)) F dX8_tells_239 rfl (by decide) ?_
                                      refine v_icmp_ne (tgt := 248) (q := 243) F dX8_tells_240 rfl rfl (fun c43 => ?_) (fun c43 => ?_)
                                      · skip
                                        refine v_iload F 9 dX8_tells_248 rfl rfl ?_
                                        refine v_istore (ls' := [(9, .int d), (8, .int (y + 1)), (7, .int (x ||| (1 <<< ((nI j) &&& 31)))), (0, .ref (ad 0)), (1, .int q), (2, .int o), (3, .int w), (4, .int 4), (5, .int (tolV (ab σ) (nI p) 4)), (6, .int 7), (10, .int (nI j))]) F dX8_tells_250 rfl (by decide) rfl ?_
                                        refine v_iincN (ls' := [(10, .int (nI (j + 1))), (9, .int d), (8, .int (y + 1)), (7, .int (x ||| (1 <<< ((nI j) &&& 31)))), (0, .ref (ad 0)), (1, .int q), (2, .int o), (3, .int w), (4, .int 4), (5, .int (tolV (ab σ) (nI p) 4)), (6, .int 7)]) F 10 dX8_tells_252 rfl rfl (by decide) rfl ?_
                                        refine v_goto (tgt := 189) F dX8_tells_255 rfl ?_
                                        refine v_sub (ls' := [(0, .ref (ad 0)), (1, .int q), (2, .int o), (3, .int w), (4, .int 4), (5, .int (tolV (ab σ) (nI p) 4)), (6, .int 7), (7, .int (x ||| (1 <<< ((nI j) &&& 31)))), (8, .int (y + 1)), (9, .int d), (10, .int (nI (j + 1)))]) F [4, 5, 6, 7, 8, 9, 10, 3, 2, 1, 0] rfl ?_
                                        exact ih189 t40 (x ||| (1 <<< ((nI j) &&& 31))) (y + 1) d (j + 1) (by omega) (hs.next hq40) (by have e := tes_t hx (by rw [← tes_val hs]; exact c41); rw [if_neg (by decide), if_neg c43] at e; exact e) (by omega)
                                      · skip
                                        refine v_iload F 10 dX8_tells_243 rfl rfl ?_
                                        refine v_goto (tgt := 250) F dX8_tells_245 rfl ?_
                                        refine v_istore (ls' := [(9, .int (nI j)), (8, .int (y + 1)), (7, .int (x ||| (1 <<< ((nI j) &&& 31)))), (0, .ref (ad 0)), (1, .int q), (2, .int o), (3, .int w), (4, .int 4), (5, .int (tolV (ab σ) (nI p) 4)), (6, .int 7), (10, .int (nI j))]) F dX8_tells_250 rfl (by decide) rfl ?_
                                        refine v_iincN (ls' := [(10, .int (nI (j + 1))), (9, .int (nI j)), (8, .int (y + 1)), (7, .int (x ||| (1 <<< ((nI j) &&& 31)))), (0, .ref (ad 0)), (1, .int q), (2, .int o), (3, .int w), (4, .int 4), (5, .int (tolV (ab σ) (nI p) 4)), (6, .int 7)]) F 10 dX8_tells_252 rfl rfl (by decide) rfl ?_
                                        refine v_goto (tgt := 189) F dX8_tells_255 rfl ?_
                                        refine v_sub (ls' := [(0, .ref (ad 0)), (1, .int q), (2, .int o), (3, .int w), (4, .int 4), (5, .int (tolV (ab σ) (nI p) 4)), (6, .int 7), (7, .int (x ||| (1 <<< ((nI j) &&& 31)))), (8, .int (y + 1)), (9, .int (nI j)), (10, .int (nI (j + 1)))]) F [4, 5, 6, 7, 8, 9, 10, 3, 2, 1, 0] rfl ?_
                                        exact ih189 t40 (x ||| (1 <<< ((nI j) &&& 31))) (y + 1) (nI j) (j + 1) (by omega) (hs.next hq40) (by have e := tes_t hx (by rw [← tes_val hs]; exact c41); rw [if_neg (by decide), if_pos c43] at e; exact e) (by omega)
                                    · skip
                                      exact absurd c42 (by decide)
                            refine v_sub (ls' := [(0, .ref (ad 0)), (1, .int q), (2, .int o), (3, .int w), (4, .int 4), (5, .int (tolV (ab σ) (nI p) 4)), (6, .int 7), (7, .int 0), (8, .int 0), (9, .int (-1)), (10, .int 0)]) F [7, 8, 9, 10, 6, 5, 4, 3, 2, 1, 0] rfl ?_
                            exact L189 _ t33 0 0 (-1) 0 (Nat.zero_le _) (fun x => lay_nb (nb_of hb33)) rfl (Nat.lt_succ_self _)
                          · skip
                            exact absurd c36 (by decide)
                        · skip
                          exact absurd c35 (by decide)
                      · skip
                        exact absurd c34 (by decide)
                    · skip
                      exact absurd c32 (by decide)
                · skip
                  refine v_iconst (x := 3) F dX8_tells_82 rfl (by decide) ?_
                  refine v_goto (tgt := 107) F dX8_tells_83 rfl ?_
                  refine v_istore (ls' := [(4, .int 3), (0, .ref (ad 0)), (1, .int q), (2, .int o), (3, .int w)]) F dX8_tells_107 rfl (by decide) rfl ?_
                  refine v_iload F 0 dX8_tells_109 rfl rfl ?_
                  refine v_bipush (x := 7) F dX8_tells_111 rfl (by decide) ?_
                  refine v_icmp_neN (a := 3) (b := 7) (tgt := 123) (q := 116) F dX8_tells_113 rfl rfl (by omega) (by omega) (fun c44 => ?_) (fun c44 => ?_)
                  · skip
                    have hof : isOfP (ab σ) 3 (nI p) := Or.inr (by rw [if_neg (by decide)]; exact pl_iff hM hM8 rfl hp)
                    have htnp : tn (nI p) = p := tn_nI (by omega)
                    refine v_aload_n F 1 dX8_tells_123 rfl rfl rfl ?_
                    refine v_iload_n F 3 dX8_tells_124 rfl rfl rfl ?_
                    refine v_int F (hop) ?_
                    refine v_iload F 0 dX8_tells_125 rfl rfl ?_
                    refine m_calli F G (cm_X8_told G σ (nI p) 3 hw) ok_X8_told q1404 is_X8_told rfl rfl dX8_tells_127 rfl rfl ?_
                    intro t45 hb45
                    refine v_istore (ls' := [(5, .int (tolV (ab σ) (nI p) 3)), (4, .int 3), (0, .ref (ad 0)), (1, .int q), (2, .int o), (3, .int w)]) F dX8_tells_130 rfl (by decide) rfl ?_
                    refine v_iload F 1 dX8_tells_132 rfl rfl ?_
                    refine v_bipush (x := 7) F dX8_tells_134 rfl (by decide) ?_
                    refine v_icmp_neN (a := 3) (b := 7) (tgt := 148) (q := 139) F dX8_tells_136 rfl rfl (by omega) (by omega) (fun c46 => ?_) (fun c46 => ?_)
                    · skip
                      refine v_iload F 1 dX8_tells_148 rfl rfl ?_
                      refine v_bipush (x := 6) F dX8_tells_150 rfl (by decide) ?_
                      refine v_icmp_neN (a := 3) (b := 6) (tgt := 159) (q := 155) F dX8_tells_152 rfl rfl (by omega) (by omega) (fun c47 => ?_) (fun c47 => ?_)
                      · skip
                        refine v_iload F 1 dX8_tells_159 rfl rfl ?_
                        refine v_iconst (x := 5) F dX8_tells_161 rfl (by decide) ?_
                        refine v_icmp_neN (a := 3) (b := 5) (tgt := 170) (q := 165) F dX8_tells_162 rfl rfl (by omega) (by omega) (fun c48 => ?_) (fun c48 => ?_)
                        · skip
                          refine v_iload F 1 dX8_tells_170 rfl rfl ?_
                          refine s_calli F G.1 (cm_X8_mostOf G t45 3 ) ok_X8_mostOf q1401 q1402 rfl rfl dX8_tells_172 rfl rfl ?_
                          intro u0 hu0; subst u0
                          refine v_int F mostV_3 ?_
                          refine v_istore (ls' := [(6, .int 9), (5, .int (tolV (ab σ) (nI p) 3)), (4, .int 3), (0, .ref (ad 0)), (1, .int q), (2, .int o), (3, .int w)]) F dX8_tells_175 rfl (by decide) rfl ?_
                          have hC := hw.1.2.1
                          have hC0 : tn (σ 0 4) < tn (σ 0 3) := hw.1.2.2.2
                          have hC6 : tn (σ 0 3) ≤ 6 := hC.2
                          refine v_iconst (x := 0) F dX8_tells_177 rfl (by decide) ?_
                          refine v_istore (ls' := [(7, .int 0), (6, .int 9), (5, .int (tolV (ab σ) (nI p) 3)), (4, .int 3), (0, .ref (ad 0)), (1, .int q), (2, .int o), (3, .int w)]) F dX8_tells_178 rfl (by decide) rfl ?_
                          refine v_iconst (x := 0) F dX8_tells_180 rfl (by decide) ?_
                          refine v_istore (ls' := [(8, .int 0), (7, .int 0), (6, .int 9), (5, .int (tolV (ab σ) (nI p) 3)), (4, .int 3), (0, .ref (ad 0)), (1, .int q), (2, .int o), (3, .int w)]) F dX8_tells_181 rfl (by decide) rfl ?_
                          refine v_iconst (x := (-1)) F dX8_tells_183 rfl (by decide) ?_
                          refine v_istore (ls' := [(9, .int (-1)), (8, .int 0), (7, .int 0), (6, .int 9), (5, .int (tolV (ab σ) (nI p) 3)), (4, .int 3), (0, .ref (ad 0)), (1, .int q), (2, .int o), (3, .int w)]) F dX8_tells_184 rfl (by decide) rfl ?_
                          refine v_iconst (x := 0) F dX8_tells_186 rfl (by decide) ?_
                          refine v_istore (ls' := [(10, .int 0), (9, .int (-1)), (8, .int 0), (7, .int 0), (6, .int 9), (5, .int (tolV (ab σ) (nI p) 3)), (4, .int 3), (0, .ref (ad 0)), (1, .int q), (2, .int o), (3, .int w)]) F dX8_tells_187 rfl (by decide) rfl ?_
                          have L189 : ∀ (nf : Nat) (s : mS) (x : Int32) (y : Int32) (d : Int32) (j : Nat) (hj : j ≤ 10) (hs : laid σ s 3 p) (hx : (x, y, d) = tesN (ab σ) a p 3 j) (hnf : 10 - j < nf), v s 0 0 189 [(0, .ref (ad 0)), (1, .int q), (2, .int o), (3, .int w), (4, .int 3), (5, .int (tolV (ab σ) (nI p) 3)), (6, .int 9), (7, .int x), (8, .int y), (9, .int d), (10, .int (nI j))] [] := by
                            intro nf
                            induction nf with
                            | zero => intro s x y d j hj hs hx hnf; exact absurd hnf (Nat.not_lt_zero _)
                            | succ nf ih189 =>
                              intro s x y d j hj hs hx hnf
                              refine v_iload F 10 dX8_tells_189 rfl rfl ?_
                              refine v_iload F 6 dX8_tells_191 rfl rfl ?_
                              refine v_icmp_gtN (a := j) (b := 9) (tgt := 258) (q := 196) F dX8_tells_193 rfl rfl (by omega) (by omega) (fun c49 => ?_) (fun c49 => ?_)
                              · skip
                                refine v_aload_n F 0 dX8_tells_258 rfl rfl rfl ?_
                                refine v_iload F 4 dX8_tells_259 rfl rfl ?_
                                refine v_iload_n F 2 dX8_tells_261 rfl rfl rfl ?_
                                refine v_int F (hop) ?_
                                refine v_iload F 5 dX8_tells_262 rfl rfl ?_
                                refine m_calln F G (cm_X8_lays (p := p) G s 3 (nI p) (tolV (ab σ) (nI p) 3) (fun _ _ => ⟨rfl, by omega⟩) (by decide)) ok_X8_lays q1619 is_X8_lays rfl rfl dX8_tells_264 rfl rfl ?_
                                intro u0 hu0; subst u0
                                refine v_iload_n F 3 dX8_tells_267 rfl rfl rfl ?_
                                refine v_iconst (x := 4) F dX8_tells_268 rfl (by decide) ?_
                                refine v_icmp_ne (tgt := 277) (q := 272) F dX8_tells_269 rfl rfl (fun c50 => ?_) (fun c50 => ?_)
                                · skip
                                  refine v_iload_n F 3 dX8_tells_277 rfl rfl rfl ?_
                                  refine v_iconst (x := 5) F dX8_tells_278 rfl (by decide) ?_
                                  refine v_icmp_ne (tgt := 287) (q := 282) F dX8_tells_279 rfl rfl (fun c51 => ?_) (fun c51 => ?_)
                                  · skip
                                    refine v_iload F 7 dX8_tells_287 rfl rfl ?_
                                    exact v_reti F dX8_tells_289 rfl (by unfold tesR; rw [if_neg (show ¬ ¬ tesOK (ab σ) q o w from fun h => h ⟨c1, c2, c3⟩), if_neg (show ¬ ab σ 38 (tn q) = 0 from by rw [htq]; exact c4), if_neg (show ¬ 30 < ab σ 40 (tn q) from by rw [htq]; exact Int32.not_lt.mpr c5), htq, htp, if_neg (show ¬ w = 0 by grind), if_neg (show ¬ w = 1 by grind), if_pos (show w = 2 by grind), show tesN (ab σ) a p 3 (10) = (x, y, d) from (congrArg (tesN (ab σ) a p 3) (show 10 = j by omega)).trans hx.symm]) ((hs _).trans (by rw [lay_self (by decide) (by decide) (by rw [tolV_3 (α := ab σ) rfl hof, htnp]; simp; rfl)]))
                                  · skip
                                    refine v_iload F 9 dX8_tells_282 rfl rfl ?_
                                    refine v_goto (tgt := 289) F dX8_tells_284 rfl ?_
                                    exact v_reti F dX8_tells_289 rfl (by exfalso; grind) ((hs _).trans (by rw [lay_self (by decide) (by decide) (by rw [tolV_3 (α := ab σ) rfl hof, htnp]; simp; rfl)]))
                                · skip
                                  refine v_iload F 8 dX8_tells_272 rfl rfl ?_
                                  refine v_goto (tgt := 289) F dX8_tells_274 rfl ?_
                                  exact v_reti F dX8_tells_289 rfl (by exfalso; grind) ((hs _).trans (by rw [lay_self (by decide) (by decide) (by rw [tolV_3 (α := ab σ) rfl hof, htnp]; simp; rfl)]))
                              · skip
                                refine v_aload_n F 0 dX8_tells_196 rfl rfl rfl ?_
                                refine v_iload F 4 dX8_tells_197 rfl rfl ?_
                                refine v_iload_n F 2 dX8_tells_199 rfl rfl rfl ?_
                                refine v_int F (hop) ?_
                                refine v_iload F 10 dX8_tells_200 rfl rfl ?_
                                refine m_calln F G (cm_X8_lays (p := p) G s 3 (nI p) (nI j) (fun _ _ => ⟨rfl, by omega⟩) (by decide)) ok_X8_lays q1619 is_X8_lays rfl rfl dX8_tells_202 rfl rfl ?_
                                intro u0 hu0; subst u0
                                refine v_aload_n F 0 dX8_tells_205 rfl rfl rfl ?_
                                refine v_iload_n F 1 dX8_tells_206 rfl rfl rfl ?_
                                refine v_int F (hqa) ?_
                                refine v_iload_n F 2 dX8_tells_207 rfl rfl rfl ?_
                                refine v_int F (hop) ?_
                                refine m_calli F G (cm_X8_firstOther G (layS s 3 p (nI j)) a p (tes_wf hs hw (by decide) (by decide) (by omega) (fun _ => by omega) (fun _ => by omega)) (by rw [lay_13 hs]; exact hp) (by omega) (by rw [lay_40 hs]; exact hz) hz30) ok_X8_firstOther q1753 is_X8_firstOther rfl rfl dX8_tells_208 rfl rfl ?_
                                intro t52 hq52
                                refine v_iconst (x := (-1)) F dX8_tells_211 rfl (by decide) ?_
                                refine v_icmp_ne (tgt := 252) (q := 215) F dX8_tells_212 rfl rfl (fun c53 => ?_) (fun c53 => ?_)
                                · skip
                                  refine v_iincN (ls' := [(10, .int (nI (j + 1))), (0, .ref (ad 0)), (1, .int q), (2, .int o), (3, .int w), (4, .int 3), (5, .int (tolV (ab σ) (nI p) 3)), (6, .int 9), (7, .int x), (8, .int y), (9, .int d)]) F 10 dX8_tells_252 rfl rfl (by decide) rfl ?_
                                  refine v_goto (tgt := 189) F dX8_tells_255 rfl ?_
                                  refine v_sub (ls' := [(0, .ref (ad 0)), (1, .int q), (2, .int o), (3, .int w), (4, .int 3), (5, .int (tolV (ab σ) (nI p) 3)), (6, .int 9), (7, .int x), (8, .int y), (9, .int d), (10, .int (nI (j + 1)))]) F [1, 2, 3, 4, 5, 6, 7, 8, 9, 10, 0] rfl ?_
                                  exact ih189 t52 x y d (j + 1) (by omega) (hs.next hq52) (tes_f hx (by rw [← tes_val hs]; exact c53)) (by omega)
                                · skip
                                  refine v_iload F 7 dX8_tells_215 rfl rfl ?_
                                  refine v_iload F 4 dX8_tells_217 rfl rfl ?_
                                  refine v_iconst (x := 5) F dX8_tells_219 rfl (by decide) ?_
                                  refine v_icmp_neN (a := 3) (b := 5) (tgt := 227) (q := 223) F dX8_tells_220 rfl rfl (by omega) (by omega) (fun c54 => ?_) (fun c54 => ?_)
                                  · skip
                                    refine v_iconst (x := 1) F dX8_tells_227 rfl (by decide) ?_
                                    refine v_iload F 10 dX8_tells_228 rfl rfl ?_
                                    refine v_ishl F dX8_tells_230 rfl ?_
                                    refine v_ior F dX8_tells_231 rfl ?_
                                    refine v_istore (ls' := [(7, .int (x ||| (1 <<< ((nI j) &&& 31)))), (0, .ref (ad 0)), (1, .int q), (2, .int o), (3, .int w), (4, .int 3), (5, .int (tolV (ab σ) (nI p) 3)), (6, .int 9), (8, .int y), (9, .int d), (10, .int (nI j))]) F dX8_tells_232 rfl (by decide) rfl ?_
                                    refine v_iinc (ls' := [(8, .int (y + 1)), (7, .int (x ||| (1 <<< ((nI j) &&& 31)))), (0, .ref (ad 0)), (1, .int q), (2, .int o), (3, .int w), (4, .int 3), (5, .int (tolV (ab σ) (nI p) 3)), (6, .int 9), (9, .int d), (10, .int (nI j))]) F 8 dX8_tells_234 rfl rfl rfl (by decide) rfl ?_
                                    refine v_iload F 9 dX8_tells_237 rfl rfl ?_
                                    refine v_iconst (x := (-1)) F dX8_tells_239 rfl (by decide) ?_
                                    refine v_icmp_ne (tgt := 248) (q := 243) F dX8_tells_240 rfl rfl (fun c55 => ?_) (fun c55 => ?_)
                                    · skip
                                      refine v_iload F 9 dX8_tells_248 rfl rfl ?_
                                      refine v_istore (ls' := [(9, .int d), (8, .int (y + 1)), (7, .int (x ||| (1 <<< ((nI j) &&& 31)))), (0, .ref (ad 0)), (1, .int q), (2, .int o), (3, .int w), (4, .int 3), (5, .int (tolV (ab σ) (nI p) 3)), (6, .int 9), (10, .int (nI j))]) F dX8_tells_250 rfl (by decide) rfl ?_
                                      refine v_iincN (ls' := [(10, .int (nI (j + 1))), (9, .int d), (8, .int (y + 1)), (7, .int (x ||| (1 <<< ((nI j) &&& 31)))), (0, .ref (ad 0)), (1, .int q), (2, .int o), (3, .int w), (4, .int 3), (5, .int (tolV (ab σ) (nI p) 3)), (6, .int 9)]) F 10 dX8_tells_252 rfl rfl (by decide) rfl ?_
                                      refine v_goto (tgt := 189) F dX8_tells_255 rfl ?_
                                      refine v_sub (ls' := [(0, .ref (ad 0)), (1, .int q), (2, .int o), (3, .int w), (4, .int 3), (5, .int (tolV (ab σ) (nI p) 3)), (6, .int 9), (7, .int (x ||| (1 <<< ((nI j) &&& 31)))), (8, .int (y + 1)), (9, .int d), (10, .int (nI (j + 1)))]) F [4, 5, 6, 7, 8, 9, 10, 3, 2, 1, 0] rfl ?_
                                      exact ih189 t52 (x ||| (1 <<< ((nI j) &&& 31))) (y + 1) d (j + 1) (by omega) (hs.next hq52) (by have e := tes_t hx (by rw [← tes_val hs]; exact c53); rw [if_neg (by decide), if_neg c55] at e; exact e) (by omega)
                                    · skip
                                      refine v_iload F 10 dX8_tells_243 rfl rfl ?_
                                      refine v_goto (tgt := 250) F dX8_tells_245 rfl ?_
                                      refine v_istore (ls' := [(9, .int (nI j)), (8, .int (y + 1)), (7, .int (x ||| (1 <<< ((nI j) &&& 31)))), (0, .ref (ad 0)), (1, .int q), (2, .int o), (3, .int w), (4, .int 3), (5, .int (tolV (ab σ) (nI p) 3)), (6, .int 9), (10, .int (nI j))]) F dX8_tells_250 rfl (by decide) rfl ?_
                                      refine v_iincN (ls' := [(10, .int (nI (j + 1))), (9, .int (nI j)), (8, .int (y + 1)), (7, .int (x ||| (1 <<< ((nI j) &&& 31)))), (0, .ref (ad 0)), (1, .int q), (2, .int o), (3, .int w), (4, .int 3), (5, .int (tolV (ab σ) (nI p) 3)), (6, .int 9)]) F 10 dX8_tells_252 rfl rfl (by decide) rfl ?_
                                      refine v_goto (tgt := 189) F dX8_tells_255 rfl ?_
                                      refine v_sub (ls' := [(0, .ref (ad 0)), (1, .int q), (2, .int o), (3, .int w), (4, .int 3), (5, .int (tolV (ab σ) (nI p) 3)), (6, .int 9), (7, .int (x ||| (1 <<< ((nI j) &&& 31)))), (8, .int (y + 1)), (9, .int (nI j)), (10, .int (nI (j + 1)))]) F [4, 5, 6, 7, 8, 9, 10, 3, 2, 1, 0] rfl ?_
                                      exact ih189 t52 (x ||| (1 <<< ((nI j) &&& 31))) (y + 1) (nI j) (j + 1) (by omega) (hs.next hq52) (by have e := tes_t hx (by rw [← tes_val hs]; exact c53); rw [if_neg (by decide), if_pos c55] at e; exact e) (by omega)
                                  · skip
                                    exact absurd c54 (by decide)
                          refine v_sub (ls' := [(0, .ref (ad 0)), (1, .int q), (2, .int o), (3, .int w), (4, .int 3), (5, .int (tolV (ab σ) (nI p) 3)), (6, .int 9), (7, .int 0), (8, .int 0), (9, .int (-1)), (10, .int 0)]) F [7, 8, 9, 10, 6, 5, 4, 3, 2, 1, 0] rfl ?_
                          exact L189 _ t45 0 0 (-1) 0 (Nat.zero_le _) (fun x => lay_nb (nb_of hb45)) rfl (Nat.lt_succ_self _)
                        · skip
                          exact absurd c48 (by decide)
                      · skip
                        exact absurd c47 (by decide)
                    · skip
                      exact absurd c46 (by decide)
                  · skip
                    exact absurd c44 (by decide)
              · skip
                refine v_bipush (x := 6) F dX8_tells_72 rfl (by decide) ?_
                refine v_goto (tgt := 107) F dX8_tells_74 rfl ?_
                refine v_istore (ls' := [(4, .int 6), (0, .ref (ad 0)), (1, .int q), (2, .int o), (3, .int w)]) F dX8_tells_107 rfl (by decide) rfl ?_
                refine v_iload F 0 dX8_tells_109 rfl rfl ?_
                refine v_bipush (x := 7) F dX8_tells_111 rfl (by decide) ?_
                refine v_icmp_neN (a := 6) (b := 7) (tgt := 123) (q := 116) F dX8_tells_113 rfl rfl (by omega) (by omega) (fun c56 => ?_) (fun c56 => ?_)
                · skip
                  have hof : isOfP (ab σ) 6 (nI p) := Or.inr (by rw [if_neg (by decide)]; exact pl_iff hM hM8 rfl hp)
                  have htnp : tn (nI p) = p := tn_nI (by omega)
                  refine v_aload_n F 1 dX8_tells_123 rfl rfl rfl ?_
                  refine v_iload_n F 3 dX8_tells_124 rfl rfl rfl ?_
                  refine v_int F (hop) ?_
                  refine v_iload F 0 dX8_tells_125 rfl rfl ?_
                  refine m_calli F G (cm_X8_told G σ (nI p) 6 hw) ok_X8_told q1404 is_X8_told rfl rfl dX8_tells_127 rfl rfl ?_
                  intro t57 hb57
                  refine v_istore (ls' := [(5, .int (tolV (ab σ) (nI p) 6)), (4, .int 6), (0, .ref (ad 0)), (1, .int q), (2, .int o), (3, .int w)]) F dX8_tells_130 rfl (by decide) rfl ?_
                  refine v_iload F 1 dX8_tells_132 rfl rfl ?_
                  refine v_bipush (x := 7) F dX8_tells_134 rfl (by decide) ?_
                  refine v_icmp_neN (a := 6) (b := 7) (tgt := 148) (q := 139) F dX8_tells_136 rfl rfl (by omega) (by omega) (fun c58 => ?_) (fun c58 => ?_)
                  · skip
                    refine v_iload F 1 dX8_tells_148 rfl rfl ?_
                    refine v_bipush (x := 6) F dX8_tells_150 rfl (by decide) ?_
                    refine v_icmp_neN (a := 6) (b := 6) (tgt := 159) (q := 155) F dX8_tells_152 rfl rfl (by omega) (by omega) (fun c59 => ?_) (fun c59 => ?_)
                    · skip
                      exact absurd c59 (by decide)
                    · skip
                      refine v_iconst (x := 5) F dX8_tells_155 rfl (by decide) ?_
                      refine v_goto (tgt := 175) F dX8_tells_156 rfl ?_
                      refine v_istore (ls' := [(6, .int 5), (5, .int (tolV (ab σ) (nI p) 6)), (4, .int 6), (0, .ref (ad 0)), (1, .int q), (2, .int o), (3, .int w)]) F dX8_tells_175 rfl (by decide) rfl ?_
                      have hC := hw.1.2.1
                      have hC0 : tn (σ 0 4) < tn (σ 0 3) := hw.1.2.2.2
                      have hC6 : tn (σ 0 3) ≤ 6 := hC.2
                      refine v_iconst (x := 0) F dX8_tells_177 rfl (by decide) ?_
                      refine v_istore (ls' := [(7, .int 0), (6, .int 5), (5, .int (tolV (ab σ) (nI p) 6)), (4, .int 6), (0, .ref (ad 0)), (1, .int q), (2, .int o), (3, .int w)]) F dX8_tells_178 rfl (by decide) rfl ?_
                      refine v_iconst (x := 0) F dX8_tells_180 rfl (by decide) ?_
                      refine v_istore (ls' := [(8, .int 0), (7, .int 0), (6, .int 5), (5, .int (tolV (ab σ) (nI p) 6)), (4, .int 6), (0, .ref (ad 0)), (1, .int q), (2, .int o), (3, .int w)]) F dX8_tells_181 rfl (by decide) rfl ?_
                      refine v_iconst (x := (-1)) F dX8_tells_183 rfl (by decide) ?_
                      refine v_istore (ls' := [(9, .int (-1)), (8, .int 0), (7, .int 0), (6, .int 5), (5, .int (tolV (ab σ) (nI p) 6)), (4, .int 6), (0, .ref (ad 0)), (1, .int q), (2, .int o), (3, .int w)]) F dX8_tells_184 rfl (by decide) rfl ?_
                      refine v_iconst (x := 0) F dX8_tells_186 rfl (by decide) ?_
                      refine v_istore (ls' := [(10, .int 0), (9, .int (-1)), (8, .int 0), (7, .int 0), (6, .int 5), (5, .int (tolV (ab σ) (nI p) 6)), (4, .int 6), (0, .ref (ad 0)), (1, .int q), (2, .int o), (3, .int w)]) F dX8_tells_187 rfl (by decide) rfl ?_
                      have L189 : ∀ (nf : Nat) (s : mS) (x : Int32) (y : Int32) (d : Int32) (j : Nat) (hj : j ≤ 6) (hs : laid σ s 6 p) (hx : (x, y, d) = tesN (ab σ) a p 6 j) (hnf : 6 - j < nf), v s 0 0 189 [(0, .ref (ad 0)), (1, .int q), (2, .int o), (3, .int w), (4, .int 6), (5, .int (tolV (ab σ) (nI p) 6)), (6, .int 5), (7, .int x), (8, .int y), (9, .int d), (10, .int (nI j))] [] := by
                        intro nf
                        induction nf with
                        | zero => intro s x y d j hj hs hx hnf; exact absurd hnf (Nat.not_lt_zero _)
                        | succ nf ih189 =>
                          intro s x y d j hj hs hx hnf
                          refine v_iload F 10 dX8_tells_189 rfl rfl ?_
                          refine v_iload F 6 dX8_tells_191 rfl rfl ?_
                          refine v_icmp_gtN (a := j) (b := 5) (tgt := 258) (q := 196) F dX8_tells_193 rfl rfl (by omega) (by omega) (fun c60 => ?_) (fun c60 => ?_)
                          · skip
                            refine v_aload_n F 0 dX8_tells_258 rfl rfl rfl ?_
                            refine v_iload F 4 dX8_tells_259 rfl rfl ?_
                            refine v_iload_n F 2 dX8_tells_261 rfl rfl rfl ?_
                            refine v_int F (hop) ?_
                            refine v_iload F 5 dX8_tells_262 rfl rfl ?_
                            refine m_calln F G (cm_X8_lays (p := p) G s 6 (nI p) (tolV (ab σ) (nI p) 6) (fun _ _ => ⟨rfl, by omega⟩) (by decide)) ok_X8_lays q1619 is_X8_lays rfl rfl dX8_tells_264 rfl rfl ?_
                            intro u0 hu0; subst u0
                            refine v_iload_n F 3 dX8_tells_267 rfl rfl rfl ?_
                            refine v_iconst (x := 4) F dX8_tells_268 rfl (by decide) ?_
                            refine v_icmp_ne (tgt := 277) (q := 272) F dX8_tells_269 rfl rfl (fun c61 => ?_) (fun c61 => ?_)
                            · skip
                              refine v_iload_n F 3 dX8_tells_277 rfl rfl rfl ?_
                              refine v_iconst (x := 5) F dX8_tells_278 rfl (by decide) ?_
                              refine v_icmp_ne (tgt := 287) (q := 282) F dX8_tells_279 rfl rfl (fun c62 => ?_) (fun c62 => ?_)
                              · skip
                                refine v_iload F 7 dX8_tells_287 rfl rfl ?_
                                exact v_reti F dX8_tells_289 rfl (by unfold tesR; rw [if_neg (show ¬ ¬ tesOK (ab σ) q o w from fun h => h ⟨c1, c2, c3⟩), if_neg (show ¬ ab σ 38 (tn q) = 0 from by rw [htq]; exact c4), if_neg (show ¬ 30 < ab σ 40 (tn q) from by rw [htq]; exact Int32.not_lt.mpr c5), htq, htp, if_neg (show ¬ w = 0 by grind), if_pos (show w = 1 by grind), show tesN (ab σ) a p 6 (6) = (x, y, d) from (congrArg (tesN (ab σ) a p 6) (show 6 = j by omega)).trans hx.symm]) ((hs _).trans (by rw [lay_self (by decide) (by decide) (by rw [tolV_6 (α := ab σ) rfl hof, htnp]; simp; rfl)]))
                              · skip
                                refine v_iload F 9 dX8_tells_282 rfl rfl ?_
                                refine v_goto (tgt := 289) F dX8_tells_284 rfl ?_
                                exact v_reti F dX8_tells_289 rfl (by exfalso; grind) ((hs _).trans (by rw [lay_self (by decide) (by decide) (by rw [tolV_6 (α := ab σ) rfl hof, htnp]; simp; rfl)]))
                            · skip
                              refine v_iload F 8 dX8_tells_272 rfl rfl ?_
                              refine v_goto (tgt := 289) F dX8_tells_274 rfl ?_
                              exact v_reti F dX8_tells_289 rfl (by exfalso; grind) ((hs _).trans (by rw [lay_self (by decide) (by decide) (by rw [tolV_6 (α := ab σ) rfl hof, htnp]; simp; rfl)]))
                          · skip
                            refine v_aload_n F 0 dX8_tells_196 rfl rfl rfl ?_
                            refine v_iload F 4 dX8_tells_197 rfl rfl ?_
                            refine v_iload_n F 2 dX8_tells_199 rfl rfl rfl ?_
                            refine v_int F (hop) ?_
                            refine v_iload F 10 dX8_tells_200 rfl rfl ?_
                            refine m_calln F G (cm_X8_lays (p := p) G s 6 (nI p) (nI j) (fun _ _ => ⟨rfl, by omega⟩) (by decide)) ok_X8_lays q1619 is_X8_lays rfl rfl dX8_tells_202 rfl rfl ?_
                            intro u0 hu0; subst u0
                            refine v_aload_n F 0 dX8_tells_205 rfl rfl rfl ?_
                            refine v_iload_n F 1 dX8_tells_206 rfl rfl rfl ?_
                            refine v_int F (hqa) ?_
                            refine v_iload_n F 2 dX8_tells_207 rfl rfl rfl ?_
                            refine v_int F (hop) ?_
                            refine m_calli F G (cm_X8_firstOther G (layS s 6 p (nI j)) a p (tes_wf hs hw (by decide) (by decide) (by omega) (fun _ => by omega) (fun _ => by omega)) (by rw [lay_13 hs]; exact hp) (by omega) (by rw [lay_40 hs]; exact hz) hz30) ok_X8_firstOther q1753 is_X8_firstOther rfl rfl dX8_tells_208 rfl rfl ?_
                            intro t63 hq63
                            refine v_iconst (x := (-1)) F dX8_tells_211 rfl (by decide) ?_
                            refine v_icmp_ne (tgt := 252) (q := 215) F dX8_tells_212 rfl rfl (fun c64 => ?_) (fun c64 => ?_)
                            · skip
                              refine v_iincN (ls' := [(10, .int (nI (j + 1))), (0, .ref (ad 0)), (1, .int q), (2, .int o), (3, .int w), (4, .int 6), (5, .int (tolV (ab σ) (nI p) 6)), (6, .int 5), (7, .int x), (8, .int y), (9, .int d)]) F 10 dX8_tells_252 rfl rfl (by decide) rfl ?_
                              refine v_goto (tgt := 189) F dX8_tells_255 rfl ?_
                              refine v_sub (ls' := [(0, .ref (ad 0)), (1, .int q), (2, .int o), (3, .int w), (4, .int 6), (5, .int (tolV (ab σ) (nI p) 6)), (6, .int 5), (7, .int x), (8, .int y), (9, .int d), (10, .int (nI (j + 1)))]) F [1, 2, 3, 4, 5, 6, 7, 8, 9, 10, 0] rfl ?_
                              exact ih189 t63 x y d (j + 1) (by omega) (hs.next hq63) (tes_f hx (by rw [← tes_val hs]; exact c64)) (by omega)
                            · skip
                              refine v_iload F 7 dX8_tells_215 rfl rfl ?_
                              refine v_iload F 4 dX8_tells_217 rfl rfl ?_
                              refine v_iconst (x := 5) F dX8_tells_219 rfl (by decide) ?_
                              refine v_icmp_neN (a := 6) (b := 5) (tgt := 227) (q := 223) F dX8_tells_220 rfl rfl (by omega) (by omega) (fun c65 => ?_) (fun c65 => ?_)
                              · skip
                                refine v_iconst (x := 1) F dX8_tells_227 rfl (by decide) ?_
                                refine v_iload F 10 dX8_tells_228 rfl rfl ?_
                                refine v_ishl F dX8_tells_230 rfl ?_
                                refine v_ior F dX8_tells_231 rfl ?_
                                refine v_istore (ls' := [(7, .int (x ||| (1 <<< ((nI j) &&& 31)))), (0, .ref (ad 0)), (1, .int q), (2, .int o), (3, .int w), (4, .int 6), (5, .int (tolV (ab σ) (nI p) 6)), (6, .int 5), (8, .int y), (9, .int d), (10, .int (nI j))]) F dX8_tells_232 rfl (by decide) rfl ?_
                                refine v_iinc (ls' := [(8, .int (y + 1)), (7, .int (x ||| (1 <<< ((nI j) &&& 31)))), (0, .ref (ad 0)), (1, .int q), (2, .int o), (3, .int w), (4, .int 6), (5, .int (tolV (ab σ) (nI p) 6)), (6, .int 5), (9, .int d), (10, .int (nI j))]) F 8 dX8_tells_234 rfl rfl rfl (by decide) rfl ?_
                                refine v_iload F 9 dX8_tells_237 rfl rfl ?_
                                refine v_iconst (x := (-1)) F dX8_tells_239 rfl (by decide) ?_
                                refine v_icmp_ne (tgt := 248) (q := 243) F dX8_tells_240 rfl rfl (fun c66 => ?_) (fun c66 => ?_)
                                · skip
                                  refine v_iload F 9 dX8_tells_248 rfl rfl ?_
                                  refine v_istore (ls' := [(9, .int d), (8, .int (y + 1)), (7, .int (x ||| (1 <<< ((nI j) &&& 31)))), (0, .ref (ad 0)), (1, .int q), (2, .int o), (3, .int w), (4, .int 6), (5, .int (tolV (ab σ) (nI p) 6)), (6, .int 5), (10, .int (nI j))]) F dX8_tells_250 rfl (by decide) rfl ?_
                                  refine v_iincN (ls' := [(10, .int (nI (j + 1))), (9, .int d), (8, .int (y + 1)), (7, .int (x ||| (1 <<< ((nI j) &&& 31)))), (0, .ref (ad 0)), (1, .int q), (2, .int o), (3, .int w), (4, .int 6), (5, .int (tolV (ab σ) (nI p) 6)), (6, .int 5)]) F 10 dX8_tells_252 rfl rfl (by decide) rfl ?_
                                  refine v_goto (tgt := 189) F dX8_tells_255 rfl ?_
                                  refine v_sub (ls' := [(0, .ref (ad 0)), (1, .int q), (2, .int o), (3, .int w), (4, .int 6), (5, .int (tolV (ab σ) (nI p) 6)), (6, .int 5), (7, .int (x ||| (1 <<< ((nI j) &&& 31)))), (8, .int (y + 1)), (9, .int d), (10, .int (nI (j + 1)))]) F [4, 5, 6, 7, 8, 9, 10, 3, 2, 1, 0] rfl ?_
                                  exact ih189 t63 (x ||| (1 <<< ((nI j) &&& 31))) (y + 1) d (j + 1) (by omega) (hs.next hq63) (by have e := tes_t hx (by rw [← tes_val hs]; exact c64); rw [if_neg (by decide), if_neg c66] at e; exact e) (by omega)
                                · skip
                                  refine v_iload F 10 dX8_tells_243 rfl rfl ?_
                                  refine v_goto (tgt := 250) F dX8_tells_245 rfl ?_
                                  refine v_istore (ls' := [(9, .int (nI j)), (8, .int (y + 1)), (7, .int (x ||| (1 <<< ((nI j) &&& 31)))), (0, .ref (ad 0)), (1, .int q), (2, .int o), (3, .int w), (4, .int 6), (5, .int (tolV (ab σ) (nI p) 6)), (6, .int 5), (10, .int (nI j))]) F dX8_tells_250 rfl (by decide) rfl ?_
                                  refine v_iincN (ls' := [(10, .int (nI (j + 1))), (9, .int (nI j)), (8, .int (y + 1)), (7, .int (x ||| (1 <<< ((nI j) &&& 31)))), (0, .ref (ad 0)), (1, .int q), (2, .int o), (3, .int w), (4, .int 6), (5, .int (tolV (ab σ) (nI p) 6)), (6, .int 5)]) F 10 dX8_tells_252 rfl rfl (by decide) rfl ?_
                                  refine v_goto (tgt := 189) F dX8_tells_255 rfl ?_
                                  refine v_sub (ls' := [(0, .ref (ad 0)), (1, .int q), (2, .int o), (3, .int w), (4, .int 6), (5, .int (tolV (ab σ) (nI p) 6)), (6, .int 5), (7, .int (x ||| (1 <<< ((nI j) &&& 31)))), (8, .int (y + 1)), (9, .int (nI j)), (10, .int (nI (j + 1)))]) F [4, 5, 6, 7, 8, 9, 10, 3, 2, 1, 0] rfl ?_
                                  exact ih189 t63 (x ||| (1 <<< ((nI j) &&& 31))) (y + 1) (nI j) (j + 1) (by omega) (hs.next hq63) (by have e := tes_t hx (by rw [← tes_val hs]; exact c64); rw [if_neg (by decide), if_pos c66] at e; exact e) (by omega)
                              · skip
                                exact absurd c65 (by decide)
                      refine v_sub (ls' := [(0, .ref (ad 0)), (1, .int q), (2, .int o), (3, .int w), (4, .int 6), (5, .int (tolV (ab σ) (nI p) 6)), (6, .int 5), (7, .int 0), (8, .int 0), (9, .int (-1)), (10, .int 0)]) F [7, 8, 9, 10, 6, 5, 4, 3, 2, 1, 0] rfl ?_
                      exact L189 _ t57 0 0 (-1) 0 (Nat.zero_le _) (fun x => lay_nb (nb_of hb57)) rfl (Nat.lt_succ_self _)
                  · skip
                    exact absurd c58 (by decide)
                · skip
                  exact absurd c56 (by decide)
            · skip
              refine v_aload_n F 0 dX8_tells_60 rfl rfl rfl ?_
              refine v_iload_n F 1 dX8_tells_61 rfl rfl rfl ?_
              refine v_int F (hqa) ?_
              refine v_iload_n F 2 dX8_tells_62 rfl rfl rfl ?_
              refine v_int F (hop) ?_
              refine m_calli F G (cm_X8_firstOther G σ a p hw hp (by omega) hz hz30) ok_X8_firstOther q1753 is_X8_firstOther rfl rfl dX8_tells_63 rfl rfl ?_
              intro t67 hq67
              exact v_reti F dX8_tells_66 rfl (by unfold tesR; rw [if_neg (show ¬ ¬ tesOK (ab σ) q o w from fun h => h ⟨c1, c2, c3⟩), if_neg (show ¬ ab σ 38 (tn q) = 0 from by rw [htq]; exact c4), if_neg (show ¬ 30 < ab σ 40 (tn q) from by rw [htq]; exact Int32.not_lt.mpr c5), htq, htp, if_pos c6]) (hq67)
          · skip
            refine v_bipush (x := (-2)) F dX8_tells_53 rfl (by decide) ?_
            exact v_reti F dX8_tells_55 rfl (by unfold tesR; rw [if_neg (show ¬ ¬ tesOK (ab σ) q o w from fun h => h ⟨c1, c2, c3⟩), if_neg (show ¬ ab σ 38 (tn q) = 0 from by rw [htq]; exact c4), if_pos (show 30 < ab σ 40 (tn q) from by rw [htq]; exact Int32.not_le.mp c5)]) (rfl)
        · skip
          refine v_bipush (x := (-11)) F dX8_tells_39 rfl (by decide) ?_
          exact v_reti F dX8_tells_41 rfl (by unfold tesR; rw [if_neg (show ¬ ¬ tesOK (ab σ) q o w from fun h => h ⟨c1, c2, c3⟩), if_pos (show ab σ 38 (tn q) = 0 from by rw [htq]; exact c4)]) (rfl)
      · skip
        refine v_bipush (x := (-2)) F dX8_tells_27 rfl (by decide) ?_
        exact v_reti F dX8_tells_29 rfl (by unfold tesR; rw [if_pos (show ¬ tesOK (ab σ) q o w from (fun h => c3 h.2.2))]) (rfl)
