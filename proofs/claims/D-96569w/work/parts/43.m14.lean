set_option maxRecDepth 100000
theorem ok_X8_copy : vv_oc yX8_copy 9 5 (ws_ yX8_copy cX8_copy 9 (some .int)) := vv_ok.oc (rt := (some .int)) ⟨q1800, q133, by decide +kernel, by decide +kernel⟩
theorem is_X8_copy : Cond.instanceMethod yX8_copy ∈ lw_all ∧ Cond.selects RX8 yX8_copy yX8_copy ∈ lw_all := ⟨q1798, q1799⟩
set_option maxHeartbeats 4000000 in
theorem cm_X8_copy {l : Launch} {Kf : State → Prop} {D : va_G} {ad : Nat → Nat} {cI cZ : ClassId} {A : Nat → Prop} (G : mG A Kf D cI cZ)  (σ : mS) (s : Int32) (i : Int32) (o : Int32) (j : Int32) (n : Int32) (hS : wfS (ab σ)) : vv_Ct l yX8_copy (ws_ yX8_copy cX8_copy 9 (some .int)) (rm 2 45) Kf (mWd D ad cI cZ A) A [.ref (ad 0), .int s, .int i, .int o, .int j, .int n] σ (vv_i (copR (ab σ) s i o j n) (fun u => ab u = copS (ab σ) s i o j n)) := by
  refine vv_of (by decide +kernel) (Nat.le_of_ble_eq_true rfl) ?_
  intro v (F : vv_F v l cX8_copy 9 RX8 "copy" (some .int) [] (rm 2 45) Kf (mWd D ad cI cZ A) A _)
  show v σ 0 0 0 [(0, .ref (ad 0)), (1, .int s), (2, .int i), (3, .int o), (4, .int j), (5, .int n)] []
  refine v_iload_n F 1 dX8_copy_0 rfl rfl rfl ?_
  refine s_calli F G.1 (cm_X8_isSheet G σ s ) ok_X8_isSheet q1749 q1750 rfl rfl dX8_copy_1 rfl rfl ?_
  intro u0 hu0; subst u0
  refine v_if_eqB (p := (0 ≤ s ∧ s ≤ 3)) (tgt := 14) (q := 7) F dX8_copy_4 rfl rfl (fun c1 => ?_) (fun c1 => ?_)
  · skip
    refine v_bipush (x := (-2)) F dX8_copy_14 rfl (by decide) ?_
    exact v_reti F dX8_copy_16 rfl (by unfold copR; rw [if_pos (show ¬ ((0 ≤ s ∧ s ≤ 3) ∧ (0 ≤ o ∧ o ≤ 3)) from fun h => c1 h.1)]) (by unfold copS; rw [if_pos (show ¬ ((0 ≤ s ∧ s ≤ 3) ∧ (0 ≤ o ∧ o ≤ 3)) from fun h => c1 h.1)])
  · skip
    refine v_iload_n F 3 dX8_copy_7 rfl rfl rfl ?_
    refine s_calli F G.1 (cm_X8_isSheet G σ o ) ok_X8_isSheet q1749 q1750 rfl rfl dX8_copy_8 rfl rfl ?_
    intro u0 hu0; subst u0
    refine v_if_neB (p := (0 ≤ o ∧ o ≤ 3)) (tgt := 17) (q := 14) F dX8_copy_11 rfl rfl (fun c2 => ?_) (fun c2 => ?_)
    · skip
      obtain ⟨e, he3, hse⟩ := in_of (M := 3) (n := 3) (by decide) c1
      have hts : tn s = e := by rw [hse, tn_nI (by omega)]
      obtain ⟨f, hf3, hof⟩ := in_of (M := 3) (n := 3) (by decide) c2
      have hto : tn o = f := by rw [hof, tn_nI (by omega)]
      refine v_aload_n F 0 dX8_copy_17 rfl rfl rfl ?_
      refine m_get F G 38 (w := .ref (ad 38)) (by decide) q1291 rfl dX8_copy_18 rfl ?_
      refine v_iload_n F 1 dX8_copy_21 rfl rfl rfl ?_
      refine v_int F (hse) ?_
      refine m_ald38 (t := e) F G (by omega) dX8_copy_22 rfl ?_
      refine v_if_eq (tgt := 35) (q := 26) F dX8_copy_23 rfl rfl (fun c3 => ?_) (fun c3 => ?_)
      · skip
        refine v_bipush (x := (-11)) F dX8_copy_35 rfl (by decide) ?_
        exact v_reti F dX8_copy_37 rfl (by unfold copR; rw [if_neg (show ¬ ¬ ((0 ≤ s ∧ s ≤ 3) ∧ (0 ≤ o ∧ o ≤ 3)) from fun h => h ⟨c1, c2⟩), if_pos (show ab σ 38 (tn s) = 0 ∨ ab σ 38 (tn o) = 0 from by rw [hts, hto]; exact Or.inl c3)]) (by unfold copS; rw [if_neg (show ¬ ¬ ((0 ≤ s ∧ s ≤ 3) ∧ (0 ≤ o ∧ o ≤ 3)) from fun h => h ⟨c1, c2⟩), if_pos (show ab σ 38 (tn s) = 0 ∨ ab σ 38 (tn o) = 0 from by rw [hts, hto]; exact Or.inl c3)])
      · skip
        refine v_aload_n F 0 dX8_copy_26 rfl rfl rfl ?_
        refine m_get F G 38 (w := .ref (ad 38)) (by decide) q1291 rfl dX8_copy_27 rfl ?_
        refine v_iload_n F 3 dX8_copy_30 rfl rfl rfl ?_
        refine v_int F (hof) ?_
        refine m_ald38 (t := f) F G (by omega) dX8_copy_31 rfl ?_
        refine v_if_ne (tgt := 38) (q := 35) F dX8_copy_32 rfl rfl (fun c4 => ?_) (fun c4 => ?_)
        · skip
          have hSe := ((hS e (by omega)).2 (((hS e (by omega)).1).resolve_left c3)).1
          have hSf := ((hS f (by omega)).2 (((hS f (by omega)).1).resolve_left c4)).1
          refine v_aload_n F 0 dX8_copy_38 rfl rfl rfl ?_
          refine m_get F G 39 (w := .ref (ad 39)) (by decide) q1292 rfl dX8_copy_39 rfl ?_
          refine v_iload_n F 1 dX8_copy_42 rfl rfl rfl ?_
          refine v_int F (hse) ?_
          refine m_ald39 (t := e) F G (by omega) dX8_copy_43 rfl ?_
          refine v_aload_n F 0 dX8_copy_44 rfl rfl rfl ?_
          refine m_get F G 39 (w := .ref (ad 39)) (by decide) q1292 rfl dX8_copy_45 rfl ?_
          refine v_iload_n F 3 dX8_copy_48 rfl rfl rfl ?_
          refine v_int F (hof) ?_
          refine m_ald39 (t := f) F G (by omega) dX8_copy_49 rfl ?_
          refine v_icmp_eq (tgt := 56) (q := 53) F dX8_copy_50 rfl rfl (fun c5 => ?_) (fun c5 => ?_)
          · skip
            refine v_iload F 5 dX8_copy_56 rfl rfl ?_
            refine v_if_lt (tgt := 97) (q := 61) F dX8_copy_58 rfl rfl (fun c6 => ?_) (fun c6 => ?_)
            · skip
              refine v_bipush (x := (-12)) F dX8_copy_97 rfl (by decide) ?_
              exact v_reti F dX8_copy_99 rfl (by unfold copR; rw [if_neg (show ¬ ¬ ((0 ≤ s ∧ s ≤ 3) ∧ (0 ≤ o ∧ o ≤ 3)) from fun h => h ⟨c1, c2⟩), if_neg (show ¬ (ab σ 38 (tn s) = 0 ∨ ab σ 38 (tn o) = 0) from by rw [hts, hto]; exact fun h => h.elim c3 c4), if_neg (show ¬ ¬ ab σ 39 (tn s) = ab σ 39 (tn o) from by rw [hts, hto]; exact fun h => h c5), if_pos (show copB (ab σ) s i o j n from Or.inl c6)]) (by unfold copS; rw [if_neg (show ¬ ¬ ((0 ≤ s ∧ s ≤ 3) ∧ (0 ≤ o ∧ o ≤ 3)) from fun h => h ⟨c1, c2⟩), if_neg (show ¬ (ab σ 38 (tn s) = 0 ∨ ab σ 38 (tn o) = 0) from by rw [hts, hto]; exact fun h => h.elim c3 c4), if_neg (show ¬ ¬ ab σ 39 (tn s) = ab σ 39 (tn o) from by rw [hts, hto]; exact fun h => h c5), if_pos (show copB (ab σ) s i o j n from Or.inl c6)])
            · skip
              refine v_iload_n F 2 dX8_copy_61 rfl rfl rfl ?_
              refine v_if_lt (tgt := 97) (q := 65) F dX8_copy_62 rfl rfl (fun c7 => ?_) (fun c7 => ?_)
              · skip
                refine v_bipush (x := (-12)) F dX8_copy_97 rfl (by decide) ?_
                exact v_reti F dX8_copy_99 rfl (by unfold copR; rw [if_neg (show ¬ ¬ ((0 ≤ s ∧ s ≤ 3) ∧ (0 ≤ o ∧ o ≤ 3)) from fun h => h ⟨c1, c2⟩), if_neg (show ¬ (ab σ 38 (tn s) = 0 ∨ ab σ 38 (tn o) = 0) from by rw [hts, hto]; exact fun h => h.elim c3 c4), if_neg (show ¬ ¬ ab σ 39 (tn s) = ab σ 39 (tn o) from by rw [hts, hto]; exact fun h => h c5), if_pos (show copB (ab σ) s i o j n from Or.inr (Or.inl c7))]) (by unfold copS; rw [if_neg (show ¬ ¬ ((0 ≤ s ∧ s ≤ 3) ∧ (0 ≤ o ∧ o ≤ 3)) from fun h => h ⟨c1, c2⟩), if_neg (show ¬ (ab σ 38 (tn s) = 0 ∨ ab σ 38 (tn o) = 0) from by rw [hts, hto]; exact fun h => h.elim c3 c4), if_neg (show ¬ ¬ ab σ 39 (tn s) = ab σ 39 (tn o) from by rw [hts, hto]; exact fun h => h c5), if_pos (show copB (ab σ) s i o j n from Or.inr (Or.inl c7))])
              · skip
                refine v_iload F 4 dX8_copy_65 rfl rfl ?_
                refine v_if_lt (tgt := 97) (q := 70) F dX8_copy_67 rfl rfl (fun c8 => ?_) (fun c8 => ?_)
                · skip
                  refine v_bipush (x := (-12)) F dX8_copy_97 rfl (by decide) ?_
                  exact v_reti F dX8_copy_99 rfl (by unfold copR; rw [if_neg (show ¬ ¬ ((0 ≤ s ∧ s ≤ 3) ∧ (0 ≤ o ∧ o ≤ 3)) from fun h => h ⟨c1, c2⟩), if_neg (show ¬ (ab σ 38 (tn s) = 0 ∨ ab σ 38 (tn o) = 0) from by rw [hts, hto]; exact fun h => h.elim c3 c4), if_neg (show ¬ ¬ ab σ 39 (tn s) = ab σ 39 (tn o) from by rw [hts, hto]; exact fun h => h c5), if_pos (show copB (ab σ) s i o j n from Or.inr (Or.inr (Or.inl c8)))]) (by unfold copS; rw [if_neg (show ¬ ¬ ((0 ≤ s ∧ s ≤ 3) ∧ (0 ≤ o ∧ o ≤ 3)) from fun h => h ⟨c1, c2⟩), if_neg (show ¬ (ab σ 38 (tn s) = 0 ∨ ab σ 38 (tn o) = 0) from by rw [hts, hto]; exact fun h => h.elim c3 c4), if_neg (show ¬ ¬ ab σ 39 (tn s) = ab σ 39 (tn o) from by rw [hts, hto]; exact fun h => h c5), if_pos (show copB (ab σ) s i o j n from Or.inr (Or.inr (Or.inl c8)))])
                · skip
                  refine v_iload_n F 2 dX8_copy_70 rfl rfl rfl ?_
                  refine v_aload_n F 0 dX8_copy_71 rfl rfl rfl ?_
                  refine m_get F G 40 (w := .ref (ad 40)) (by decide) q1293 rfl dX8_copy_72 rfl ?_
                  refine v_iload_n F 1 dX8_copy_75 rfl rfl rfl ?_
                  refine v_int F (hse) ?_
                  refine m_ald40 (t := e) F G (by omega) dX8_copy_76 rfl ?_
                  refine v_iload F 5 dX8_copy_77 rfl rfl ?_
                  refine v_isub F dX8_copy_79 rfl ?_
                  refine v_icmp_gt (tgt := 97) (q := 83) F dX8_copy_80 rfl rfl (fun c9 => ?_) (fun c9 => ?_)
                  · skip
                    refine v_bipush (x := (-12)) F dX8_copy_97 rfl (by decide) ?_
                    exact v_reti F dX8_copy_99 rfl (by unfold copR; rw [if_neg (show ¬ ¬ ((0 ≤ s ∧ s ≤ 3) ∧ (0 ≤ o ∧ o ≤ 3)) from fun h => h ⟨c1, c2⟩), if_neg (show ¬ (ab σ 38 (tn s) = 0 ∨ ab σ 38 (tn o) = 0) from by rw [hts, hto]; exact fun h => h.elim c3 c4), if_neg (show ¬ ¬ ab σ 39 (tn s) = ab σ 39 (tn o) from by rw [hts, hto]; exact fun h => h c5), if_pos (show copB (ab σ) s i o j n from Or.inr (Or.inr (Or.inr (Or.inl (show ab σ 40 (tn s) - n < i from by rw [hts]; exact c9)))))]) (by unfold copS; rw [if_neg (show ¬ ¬ ((0 ≤ s ∧ s ≤ 3) ∧ (0 ≤ o ∧ o ≤ 3)) from fun h => h ⟨c1, c2⟩), if_neg (show ¬ (ab σ 38 (tn s) = 0 ∨ ab σ 38 (tn o) = 0) from by rw [hts, hto]; exact fun h => h.elim c3 c4), if_neg (show ¬ ¬ ab σ 39 (tn s) = ab σ 39 (tn o) from by rw [hts, hto]; exact fun h => h c5), if_pos (show copB (ab σ) s i o j n from Or.inr (Or.inr (Or.inr (Or.inl (show ab σ 40 (tn s) - n < i from by rw [hts]; exact c9)))))])
                  · skip
                    refine v_iload F 4 dX8_copy_83 rfl rfl ?_
                    refine v_aload_n F 0 dX8_copy_85 rfl rfl rfl ?_
                    refine m_get F G 40 (w := .ref (ad 40)) (by decide) q1293 rfl dX8_copy_86 rfl ?_
                    refine v_iload_n F 3 dX8_copy_89 rfl rfl rfl ?_
                    refine v_int F (hof) ?_
                    refine m_ald40 (t := f) F G (by omega) dX8_copy_90 rfl ?_
                    refine v_iload F 5 dX8_copy_91 rfl rfl ?_
                    refine v_isub F dX8_copy_93 rfl ?_
                    refine v_icmp_le (tgt := 100) (q := 97) F dX8_copy_94 rfl rfl (fun c10 => ?_) (fun c10 => ?_)
                    · skip
                      obtain ⟨x, m, hix, hnm, hxm⟩ := cop_nat hSe c6 c7 (Int32.not_lt.mpr (Int32.not_lt.mp c9))
                      obtain ⟨y, m2, hjy, hnm2, hym⟩ := cop_nat hSf c6 c8 (Int32.not_lt.mpr c10)
                      have hx40 := hSe.2
                      have hy40 := hSf.2
                      have ex40 : tn (ab σ 40 e) ≤ 40 := hSe.2
                      have ey40 : tn (ab σ 40 f) ≤ 40 := hSf.2
                      have hti : tn i = x := by rw [hix, tn_nI (by omega)]
                      have htj : tn j = y := by rw [hjy, tn_nI (by omega)]
                      have htn : tn n = m := by rw [hnm, tn_nI (by omega)]
                      have hmm : m2 = m := by rw [← htn, hnm2, tn_nI (by omega)]
                      subst hmm
                      have ncb : ¬ copB (ab σ) s i o j n := by unfold copB; rw [hts, hto]; exact fun h => h.elim c6 (fun h => h.elim c7 (fun h => h.elim c8 (fun h => h.elim c9 (fun h => absurd c10 (Int32.not_le.mpr h)))))
                      refine v_iload_n F 1 dX8_copy_100 rfl rfl rfl ?_
                      refine v_int F (hse) ?_
                      refine v_iload_n F 3 dX8_copy_101 rfl rfl rfl ?_
                      refine v_int F (hof) ?_
                      refine v_icmp_neN (a := e) (b := f) (tgt := 115) (q := 105) F dX8_copy_102 rfl rfl (by omega) (by omega) (fun c11 => ?_) (fun c11 => ?_)
                      · skip
                        refine v_iconst (x := 0) F dX8_copy_115 rfl (by decide) ?_
                        refine v_istore (ls' := [(6, .int 0), (0, .ref (ad 0)), (1, .int s), (2, .int i), (3, .int o), (4, .int j), (5, .int n)]) F dX8_copy_116 rfl (by decide) rfl ?_
                        refine v_iconst (x := 0) F dX8_copy_118 rfl (by decide) ?_
                        refine v_istore (ls' := [(7, .int 0), (6, .int 0), (0, .ref (ad 0)), (1, .int s), (2, .int i), (3, .int o), (4, .int j), (5, .int n)]) F dX8_copy_119 rfl (by decide) rfl ?_
                        have L121 : ∀ (nf : Nat) (t : mS) (k : Nat) (hk : k ≤ m2) (ht : cpU σ t e x f y k) (hnf : m2 - k < nf), v t 0 0 121 [(0, .ref (ad 0)), (1, .int s), (2, .int i), (3, .int o), (4, .int j), (5, .int n), (6, .int 0), (7, .int (nI k))] [] := by
                          intro nf
                          induction nf with
                          | zero => intro t k hk ht hnf; exact absurd hnf (Nat.not_lt_zero _)
                          | succ nf ih121 =>
                            intro t k hk ht hnf
                            refine v_iload F 7 dX8_copy_121 rfl rfl ?_
                            refine v_iload F 5 dX8_copy_123 rfl rfl ?_
                            refine v_int F (hnm) ?_
                            refine v_icmp_geN (a := k) (b := m2) (tgt := 182) (q := 128) F dX8_copy_125 rfl rfl (by omega) (by omega) (fun c12 => ?_) (fun c12 => ?_)
                            · skip
                              refine v_iload F 5 dX8_copy_182 rfl rfl ?_
                              refine v_int F (hnm) ?_
                              exact v_reti F dX8_copy_184 rfl (by unfold copR; rw [if_neg (show ¬ ¬ ((0 ≤ s ∧ s ≤ 3) ∧ (0 ≤ o ∧ o ≤ 3)) from fun h => h ⟨c1, c2⟩), if_neg (show ¬ (ab σ 38 (tn s) = 0 ∨ ab σ 38 (tn o) = 0) from by rw [hts, hto]; exact fun h => h.elim c3 c4), if_neg (show ¬ ¬ ab σ 39 (tn s) = ab σ 39 (tn o) from by rw [hts, hto]; exact fun h => h c5), if_neg ncb]; exact hnm.symm) (by unfold copS; rw [if_neg (show ¬ ¬ ((0 ≤ s ∧ s ≤ 3) ∧ (0 ≤ o ∧ o ≤ 3)) from fun h => h ⟨c1, c2⟩), if_neg (show ¬ (ab σ 38 (tn s) = 0 ∨ ab σ 38 (tn o) = 0) from by rw [hts, hto]; exact fun h => h.elim c3 c4), if_neg (show ¬ ¬ ab σ 39 (tn s) = ab σ 39 (tn o) from by rw [hts, hto]; exact fun h => h c5), if_neg ncb]; rw [hts, hto, hti, htj, htn, ← cpy_ab, cpU_e ht c12 hk])
                            · skip
                              refine v_iload F 6 dX8_copy_128 rfl rfl ?_
                              refine v_if_eq (tgt := 143) (q := 133) F dX8_copy_130 rfl rfl (fun c13 => ?_) (fun c13 => ?_)
                              · skip
                                refine v_iload F 7 dX8_copy_143 rfl rfl ?_
                                refine v_istore (ls' := [(8, .int (nI k)), (0, .ref (ad 0)), (1, .int s), (2, .int i), (3, .int o), (4, .int j), (5, .int n), (6, .int 0), (7, .int (nI k))]) F dX8_copy_145 rfl (by decide) rfl ?_
                                refine v_aload_n F 1 dX8_copy_147 rfl rfl rfl ?_
                                refine m_get F G 41 (w := .ref (ad 41)) (by decide) q1294 rfl dX8_copy_148 rfl ?_
                                refine v_bipush (x := 40) F dX8_copy_151 rfl (by decide) ?_
                                refine v_iload_n F 4 dX8_copy_153 rfl rfl rfl ?_
                                refine v_int F (hof) ?_
                                refine v_imulN (a := 40) (b := f) F dX8_copy_154 rfl ?_
                                refine v_iload F 5 dX8_copy_155 rfl rfl ?_
                                refine v_int F (hjy) ?_
                                refine v_iaddN (a := 40 * f) (b := y) F dX8_copy_157 rfl ?_
                                refine v_iload F 0 dX8_copy_158 rfl rfl ?_
                                refine v_iaddN (a := (40 * f) + y) (b := k) F dX8_copy_160 rfl ?_
                                refine v_aload_n F 1 dX8_copy_161 rfl rfl rfl ?_
                                refine m_get F G 41 (w := .ref (ad 41)) (by decide) q1294 rfl dX8_copy_162 rfl ?_
                                refine v_bipush (x := 40) F dX8_copy_165 rfl (by decide) ?_
                                refine v_iload_n F 2 dX8_copy_167 rfl rfl rfl ?_
                                refine v_int F (hse) ?_
                                refine v_imulN (a := 40) (b := e) F dX8_copy_168 rfl ?_
                                refine v_iload_n F 3 dX8_copy_169 rfl rfl rfl ?_
                                refine v_int F (hix) ?_
                                refine v_iaddN (a := 40 * e) (b := x) F dX8_copy_170 rfl ?_
                                refine v_iload F 0 dX8_copy_171 rfl rfl ?_
                                refine v_iaddN (a := (40 * e) + x) (b := k) F dX8_copy_173 rfl ?_
                                refine m_ald41 (t := ((40 * e) + x) + k) F G (by omega) dX8_copy_174 rfl ?_
                                refine m_ast41 (t := ((40 * f) + y) + k) F G (by omega) dX8_copy_175 rfl ?_
                                refine v_iincN (ls' := [(7, .int (nI (k + 1))), (8, .int (nI k)), (0, .ref (ad 0)), (1, .int s), (2, .int i), (3, .int o), (4, .int j), (5, .int n), (6, .int 0)]) F 8 dX8_copy_176 rfl rfl (by decide) rfl ?_
                                refine v_goto (tgt := 121) F dX8_copy_179 rfl ?_
                                refine v_sub (ls' := [(0, .ref (ad 0)), (1, .int s), (2, .int i), (3, .int o), (4, .int j), (5, .int n), (6, .int 0), (7, .int (nI (k + 1)))]) F [2, 3, 4, 5, 6, 7, 8, 0] rfl ?_
                                exact ih121 (up t 41 (((40 * f) + y) + k) (t 41 (((40 * e) + x) + k))) (k + 1) (by omega) (cpU_s ht (Or.inr ⟨c11, by omega, by omega⟩)) (by omega)
                              · skip
                                exact absurd c13 (by decide)
                        refine v_sub (ls' := [(0, .ref (ad 0)), (1, .int s), (2, .int i), (3, .int o), (4, .int j), (5, .int n), (6, .int 0), (7, .int 0)]) F [2, 3, 4, 5, 6, 7, 1, 0] rfl ?_
                        exact L121 _ σ 0 (Nat.zero_le _) cpU_0 (Nat.lt_succ_self _)
                      · skip
                        refine v_iload_n F 2 dX8_copy_105 rfl rfl rfl ?_
                        refine v_int F (hix) ?_
                        refine v_iload F 4 dX8_copy_106 rfl rfl ?_
                        refine v_int F (hjy) ?_
                        refine v_icmp_geN (a := x) (b := y) (tgt := 115) (q := 111) F dX8_copy_108 rfl rfl (by omega) (by omega) (fun c14 => ?_) (fun c14 => ?_)
                        · skip
                          refine v_iconst (x := 0) F dX8_copy_115 rfl (by decide) ?_
                          refine v_istore (ls' := [(6, .int 0), (0, .ref (ad 0)), (1, .int s), (2, .int i), (3, .int o), (4, .int j), (5, .int n)]) F dX8_copy_116 rfl (by decide) rfl ?_
                          refine v_iconst (x := 0) F dX8_copy_118 rfl (by decide) ?_
                          refine v_istore (ls' := [(7, .int 0), (6, .int 0), (0, .ref (ad 0)), (1, .int s), (2, .int i), (3, .int o), (4, .int j), (5, .int n)]) F dX8_copy_119 rfl (by decide) rfl ?_
                          have L121 : ∀ (nf : Nat) (t : mS) (k : Nat) (hk : k ≤ m2) (ht : cpU σ t e x f y k) (hnf : m2 - k < nf), v t 0 0 121 [(0, .ref (ad 0)), (1, .int s), (2, .int i), (3, .int o), (4, .int j), (5, .int n), (6, .int 0), (7, .int (nI k))] [] := by
                            intro nf
                            induction nf with
                            | zero => intro t k hk ht hnf; exact absurd hnf (Nat.not_lt_zero _)
                            | succ nf ih121 =>
                              intro t k hk ht hnf
                              refine v_iload F 7 dX8_copy_121 rfl rfl ?_
                              refine v_iload F 5 dX8_copy_123 rfl rfl ?_
                              refine v_int F (hnm) ?_
                              refine v_icmp_geN (a := k) (b := m2) (tgt := 182) (q := 128) F dX8_copy_125 rfl rfl (by omega) (by omega) (fun c15 => ?_) (fun c15 => ?_)
                              · skip
                                refine v_iload F 5 dX8_copy_182 rfl rfl ?_
                                refine v_int F (hnm) ?_
                                exact v_reti F dX8_copy_184 rfl (by unfold copR; rw [if_neg (show ¬ ¬ ((0 ≤ s ∧ s ≤ 3) ∧ (0 ≤ o ∧ o ≤ 3)) from fun h => h ⟨c1, c2⟩), if_neg (show ¬ (ab σ 38 (tn s) = 0 ∨ ab σ 38 (tn o) = 0) from by rw [hts, hto]; exact fun h => h.elim c3 c4), if_neg (show ¬ ¬ ab σ 39 (tn s) = ab σ 39 (tn o) from by rw [hts, hto]; exact fun h => h c5), if_neg ncb]; exact hnm.symm) (by unfold copS; rw [if_neg (show ¬ ¬ ((0 ≤ s ∧ s ≤ 3) ∧ (0 ≤ o ∧ o ≤ 3)) from fun h => h ⟨c1, c2⟩), if_neg (show ¬ (ab σ 38 (tn s) = 0 ∨ ab σ 38 (tn o) = 0) from by rw [hts, hto]; exact fun h => h.elim c3 c4), if_neg (show ¬ ¬ ab σ 39 (tn s) = ab σ 39 (tn o) from by rw [hts, hto]; exact fun h => h c5), if_neg ncb]; rw [hts, hto, hti, htj, htn, ← cpy_ab, cpU_e ht c15 hk])
                              · skip
                                refine v_iload F 6 dX8_copy_128 rfl rfl ?_
                                refine v_if_eq (tgt := 143) (q := 133) F dX8_copy_130 rfl rfl (fun c16 => ?_) (fun c16 => ?_)
                                · skip
                                  refine v_iload F 7 dX8_copy_143 rfl rfl ?_
                                  refine v_istore (ls' := [(8, .int (nI k)), (0, .ref (ad 0)), (1, .int s), (2, .int i), (3, .int o), (4, .int j), (5, .int n), (6, .int 0), (7, .int (nI k))]) F dX8_copy_145 rfl (by decide) rfl ?_
                                  refine v_aload_n F 1 dX8_copy_147 rfl rfl rfl ?_
                                  refine m_get F G 41 (w := .ref (ad 41)) (by decide) q1294 rfl dX8_copy_148 rfl ?_
                                  refine v_bipush (x := 40) F dX8_copy_151 rfl (by decide) ?_
                                  refine v_iload_n F 4 dX8_copy_153 rfl rfl rfl ?_
                                  refine v_int F (hof) ?_
                                  refine v_imulN (a := 40) (b := f) F dX8_copy_154 rfl ?_
                                  refine v_iload F 5 dX8_copy_155 rfl rfl ?_
                                  refine v_int F (hjy) ?_
                                  refine v_iaddN (a := 40 * f) (b := y) F dX8_copy_157 rfl ?_
                                  refine v_iload F 0 dX8_copy_158 rfl rfl ?_
                                  refine v_iaddN (a := (40 * f) + y) (b := k) F dX8_copy_160 rfl ?_
                                  refine v_aload_n F 1 dX8_copy_161 rfl rfl rfl ?_
                                  refine m_get F G 41 (w := .ref (ad 41)) (by decide) q1294 rfl dX8_copy_162 rfl ?_
                                  refine v_bipush (x := 40) F dX8_copy_165 rfl (by decide) ?_
                                  refine v_iload_n F 2 dX8_copy_167 rfl rfl rfl ?_
                                  refine v_int F (hse) ?_
                                  refine v_imulN (a := 40) (b := e) F dX8_copy_168 rfl ?_
                                  refine v_iload_n F 3 dX8_copy_169 rfl rfl rfl ?_
                                  refine v_int F (hix) ?_
                                  refine v_iaddN (a := 40 * e) (b := x) F dX8_copy_170 rfl ?_
                                  refine v_iload F 0 dX8_copy_171 rfl rfl ?_
                                  refine v_iaddN (a := (40 * e) + x) (b := k) F dX8_copy_173 rfl ?_
                                  refine m_ald41 (t := ((40 * e) + x) + k) F G (by omega) dX8_copy_174 rfl ?_
                                  refine m_ast41 (t := ((40 * f) + y) + k) F G (by omega) dX8_copy_175 rfl ?_
                                  refine v_iincN (ls' := [(7, .int (nI (k + 1))), (8, .int (nI k)), (0, .ref (ad 0)), (1, .int s), (2, .int i), (3, .int o), (4, .int j), (5, .int n), (6, .int 0)]) F 8 dX8_copy_176 rfl rfl (by decide) rfl ?_
                                  refine v_goto (tgt := 121) F dX8_copy_179 rfl ?_
                                  refine v_sub (ls' := [(0, .ref (ad 0)), (1, .int s), (2, .int i), (3, .int o), (4, .int j), (5, .int n), (6, .int 0), (7, .int (nI (k + 1)))]) F [2, 3, 4, 5, 6, 7, 8, 0] rfl ?_
                                  exact ih121 (up t 41 (((40 * f) + y) + k) (t 41 (((40 * e) + x) + k))) (k + 1) (by omega) (cpU_s ht (Or.inl ⟨c11, c14⟩)) (by omega)
                                · skip
                                  exact absurd c16 (by decide)
                          refine v_sub (ls' := [(0, .ref (ad 0)), (1, .int s), (2, .int i), (3, .int o), (4, .int j), (5, .int n), (6, .int 0), (7, .int 0)]) F [2, 3, 4, 5, 6, 7, 1, 0] rfl ?_
                          exact L121 _ σ 0 (Nat.zero_le _) cpU_0 (Nat.lt_succ_self _)
                        · skip
                          refine v_iconst (x := 1) F dX8_copy_111 rfl (by decide) ?_
                          refine v_goto (tgt := 116) F dX8_copy_112 rfl ?_
                          refine v_istore (ls' := [(6, .int 1), (0, .ref (ad 0)), (1, .int s), (2, .int i), (3, .int o), (4, .int j), (5, .int n)]) F dX8_copy_116 rfl (by decide) rfl ?_
                          refine v_iconst (x := 0) F dX8_copy_118 rfl (by decide) ?_
                          refine v_istore (ls' := [(7, .int 0), (6, .int 1), (0, .ref (ad 0)), (1, .int s), (2, .int i), (3, .int o), (4, .int j), (5, .int n)]) F dX8_copy_119 rfl (by decide) rfl ?_
                          have L121 : ∀ (nf : Nat) (t : mS) (k : Nat) (hk : k ≤ m2) (ht : cpD σ t e x f y m2 k) (hnf : m2 - k < nf), v t 0 0 121 [(0, .ref (ad 0)), (1, .int s), (2, .int i), (3, .int o), (4, .int j), (5, .int n), (6, .int 1), (7, .int (nI k))] [] := by
                            intro nf
                            induction nf with
                            | zero => intro t k hk ht hnf; exact absurd hnf (Nat.not_lt_zero _)
                            | succ nf ih121 =>
                              intro t k hk ht hnf
                              refine v_iload F 7 dX8_copy_121 rfl rfl ?_
                              refine v_iload F 5 dX8_copy_123 rfl rfl ?_
                              refine v_int F (hnm) ?_
                              refine v_icmp_geN (a := k) (b := m2) (tgt := 182) (q := 128) F dX8_copy_125 rfl rfl (by omega) (by omega) (fun c17 => ?_) (fun c17 => ?_)
                              · skip
                                refine v_iload F 5 dX8_copy_182 rfl rfl ?_
                                refine v_int F (hnm) ?_
                                exact v_reti F dX8_copy_184 rfl (by unfold copR; rw [if_neg (show ¬ ¬ ((0 ≤ s ∧ s ≤ 3) ∧ (0 ≤ o ∧ o ≤ 3)) from fun h => h ⟨c1, c2⟩), if_neg (show ¬ (ab σ 38 (tn s) = 0 ∨ ab σ 38 (tn o) = 0) from by rw [hts, hto]; exact fun h => h.elim c3 c4), if_neg (show ¬ ¬ ab σ 39 (tn s) = ab σ 39 (tn o) from by rw [hts, hto]; exact fun h => h c5), if_neg ncb]; exact hnm.symm) (by unfold copS; rw [if_neg (show ¬ ¬ ((0 ≤ s ∧ s ≤ 3) ∧ (0 ≤ o ∧ o ≤ 3)) from fun h => h ⟨c1, c2⟩), if_neg (show ¬ (ab σ 38 (tn s) = 0 ∨ ab σ 38 (tn o) = 0) from by rw [hts, hto]; exact fun h => h.elim c3 c4), if_neg (show ¬ ¬ ab σ 39 (tn s) = ab σ 39 (tn o) from by rw [hts, hto]; exact fun h => h c5), if_neg ncb]; rw [hts, hto, hti, htj, htn, ← cpy_ab, cpD_e ht c17 hk])
                              · skip
                                refine v_iload F 6 dX8_copy_128 rfl rfl ?_
                                refine v_if_eq (tgt := 143) (q := 133) F dX8_copy_130 rfl rfl (fun c18 => ?_) (fun c18 => ?_)
                                · skip
                                  exact absurd c18 (by decide)
                                · skip
                                  refine v_iload F 5 dX8_copy_133 rfl rfl ?_
                                  refine v_int F (hnm) ?_
                                  refine v_iconst (x := 1) F dX8_copy_135 rfl (by decide) ?_
                                  refine v_isubN (a := m2) (b := 1) F dX8_copy_136 rfl (by omega) ?_
                                  refine v_iload F 7 dX8_copy_137 rfl rfl ?_
                                  refine v_isubN (a := m2 - 1) (b := k) F dX8_copy_139 rfl (by omega) ?_
                                  refine v_goto (tgt := 145) F dX8_copy_140 rfl ?_
                                  refine v_istore (ls' := [(8, .int (nI ((m2 - 1) - k))), (0, .ref (ad 0)), (1, .int s), (2, .int i), (3, .int o), (4, .int j), (5, .int n), (6, .int 1), (7, .int (nI k))]) F dX8_copy_145 rfl (by decide) rfl ?_
                                  refine v_aload_n F 1 dX8_copy_147 rfl rfl rfl ?_
                                  refine m_get F G 41 (w := .ref (ad 41)) (by decide) q1294 rfl dX8_copy_148 rfl ?_
                                  refine v_bipush (x := 40) F dX8_copy_151 rfl (by decide) ?_
                                  refine v_iload_n F 4 dX8_copy_153 rfl rfl rfl ?_
                                  refine v_int F (hof) ?_
                                  refine v_imulN (a := 40) (b := f) F dX8_copy_154 rfl ?_
                                  refine v_iload F 5 dX8_copy_155 rfl rfl ?_
                                  refine v_int F (hjy) ?_
                                  refine v_iaddN (a := 40 * f) (b := y) F dX8_copy_157 rfl ?_
                                  refine v_iload F 0 dX8_copy_158 rfl rfl ?_
                                  refine v_iaddN (a := (40 * f) + y) (b := (m2 - 1) - k) F dX8_copy_160 rfl ?_
                                  refine v_aload_n F 1 dX8_copy_161 rfl rfl rfl ?_
                                  refine m_get F G 41 (w := .ref (ad 41)) (by decide) q1294 rfl dX8_copy_162 rfl ?_
                                  refine v_bipush (x := 40) F dX8_copy_165 rfl (by decide) ?_
                                  refine v_iload_n F 2 dX8_copy_167 rfl rfl rfl ?_
                                  refine v_int F (hse) ?_
                                  refine v_imulN (a := 40) (b := e) F dX8_copy_168 rfl ?_
                                  refine v_iload_n F 3 dX8_copy_169 rfl rfl rfl ?_
                                  refine v_int F (hix) ?_
                                  refine v_iaddN (a := 40 * e) (b := x) F dX8_copy_170 rfl ?_
                                  refine v_iload F 0 dX8_copy_171 rfl rfl ?_
                                  refine v_iaddN (a := (40 * e) + x) (b := (m2 - 1) - k) F dX8_copy_173 rfl ?_
                                  refine m_ald41 (t := ((40 * e) + x) + ((m2 - 1) - k)) F G (by omega) dX8_copy_174 rfl ?_
                                  refine m_ast41 (t := ((40 * f) + y) + ((m2 - 1) - k)) F G (by omega) dX8_copy_175 rfl ?_
                                  refine v_iincN (ls' := [(7, .int (nI (k + 1))), (8, .int (nI ((m2 - 1) - k))), (0, .ref (ad 0)), (1, .int s), (2, .int i), (3, .int o), (4, .int j), (5, .int n), (6, .int 1)]) F 8 dX8_copy_176 rfl rfl (by decide) rfl ?_
                                  refine v_goto (tgt := 121) F dX8_copy_179 rfl ?_
                                  refine v_sub (ls' := [(0, .ref (ad 0)), (1, .int s), (2, .int i), (3, .int o), (4, .int j), (5, .int n), (6, .int 1), (7, .int (nI (k + 1)))]) F [2, 3, 4, 5, 6, 7, 8, 0] rfl ?_
                                  exact ih121 (up t 41 (((40 * f) + y) + ((m2 - 1) - k)) (t 41 (((40 * e) + x) + ((m2 - 1) - k)))) (k + 1) (by omega) (cpD_s ht (by omega) ⟨c11, c14⟩) (by omega)
                          refine v_sub (ls' := [(0, .ref (ad 0)), (1, .int s), (2, .int i), (3, .int o), (4, .int j), (5, .int n), (6, .int 1), (7, .int 0)]) F [2, 3, 4, 5, 6, 7, 1, 0] rfl ?_
                          exact L121 _ σ 0 (Nat.zero_le _) cpD_0 (Nat.lt_succ_self _)
                    · skip
                      refine v_bipush (x := (-12)) F dX8_copy_97 rfl (by decide) ?_
                      exact v_reti F dX8_copy_99 rfl (by unfold copR; rw [if_neg (show ¬ ¬ ((0 ≤ s ∧ s ≤ 3) ∧ (0 ≤ o ∧ o ≤ 3)) from fun h => h ⟨c1, c2⟩), if_neg (show ¬ (ab σ 38 (tn s) = 0 ∨ ab σ 38 (tn o) = 0) from by rw [hts, hto]; exact fun h => h.elim c3 c4), if_neg (show ¬ ¬ ab σ 39 (tn s) = ab σ 39 (tn o) from by rw [hts, hto]; exact fun h => h c5), if_pos (show copB (ab σ) s i o j n from Or.inr (Or.inr (Or.inr (Or.inr (show ab σ 40 (tn o) - n < j from by rw [hto]; exact Int32.not_le.mp c10)))))]) (by unfold copS; rw [if_neg (show ¬ ¬ ((0 ≤ s ∧ s ≤ 3) ∧ (0 ≤ o ∧ o ≤ 3)) from fun h => h ⟨c1, c2⟩), if_neg (show ¬ (ab σ 38 (tn s) = 0 ∨ ab σ 38 (tn o) = 0) from by rw [hts, hto]; exact fun h => h.elim c3 c4), if_neg (show ¬ ¬ ab σ 39 (tn s) = ab σ 39 (tn o) from by rw [hts, hto]; exact fun h => h c5), if_pos (show copB (ab σ) s i o j n from Or.inr (Or.inr (Or.inr (Or.inr (show ab σ 40 (tn o) - n < j from by rw [hto]; exact Int32.not_le.mp c10)))))])
          · skip
            refine v_bipush (x := (-13)) F dX8_copy_53 rfl (by decide) ?_
            exact v_reti F dX8_copy_55 rfl (by unfold copR; rw [if_neg (show ¬ ¬ ((0 ≤ s ∧ s ≤ 3) ∧ (0 ≤ o ∧ o ≤ 3)) from fun h => h ⟨c1, c2⟩), if_neg (show ¬ (ab σ 38 (tn s) = 0 ∨ ab σ 38 (tn o) = 0) from by rw [hts, hto]; exact fun h => h.elim c3 c4), if_pos (show ¬ ab σ 39 (tn s) = ab σ 39 (tn o) from by rw [hts, hto]; exact c5)]) (by unfold copS; rw [if_neg (show ¬ ¬ ((0 ≤ s ∧ s ≤ 3) ∧ (0 ≤ o ∧ o ≤ 3)) from fun h => h ⟨c1, c2⟩), if_neg (show ¬ (ab σ 38 (tn s) = 0 ∨ ab σ 38 (tn o) = 0) from by rw [hts, hto]; exact fun h => h.elim c3 c4), if_pos (show ¬ ab σ 39 (tn s) = ab σ 39 (tn o) from by rw [hts, hto]; exact c5)])
        · skip
          refine v_bipush (x := (-11)) F dX8_copy_35 rfl (by decide) ?_
          exact v_reti F dX8_copy_37 rfl (by unfold copR; rw [if_neg (show ¬ ¬ ((0 ≤ s ∧ s ≤ 3) ∧ (0 ≤ o ∧ o ≤ 3)) from fun h => h ⟨c1, c2⟩), if_pos (show ab σ 38 (tn s) = 0 ∨ ab σ 38 (tn o) = 0 from by rw [hts, hto]; exact Or.inr c4)]) (by unfold copS; rw [if_neg (show ¬ ¬ ((0 ≤ s ∧ s ≤ 3) ∧ (0 ≤ o ∧ o ≤ 3)) from fun h => h ⟨c1, c2⟩), if_pos (show ab σ 38 (tn s) = 0 ∨ ab σ 38 (tn o) = 0 from by rw [hts, hto]; exact Or.inr c4)])
    · skip
      refine v_bipush (x := (-2)) F dX8_copy_14 rfl (by decide) ?_
      exact v_reti F dX8_copy_16 rfl (by unfold copR; rw [if_pos (show ¬ ((0 ≤ s ∧ s ≤ 3) ∧ (0 ≤ o ∧ o ≤ 3)) from fun h => c2 h.2)]) (by unfold copS; rw [if_pos (show ¬ ((0 ≤ s ∧ s ≤ 3) ∧ (0 ≤ o ∧ o ≤ 3)) from fun h => c2 h.2)])
