set_option maxRecDepth 100000
theorem ok_X8_sheet : vv_oc yX8_sheet 5 3 (ws_ yX8_sheet cX8_sheet 5 (some .int)) := vv_ok.oc (rt := (some .int)) ⟨q1764, q133, by decide +kernel, by decide +kernel⟩
theorem is_X8_sheet : Cond.instanceMethod yX8_sheet ∈ lw_all ∧ Cond.selects RX8 yX8_sheet yX8_sheet ∈ lw_all := ⟨q1762, q1763⟩
set_option maxHeartbeats 4000000 in
theorem cm_X8_sheet {l : Launch} {Kf : State → Prop} {D : va_G} {ad : Nat → Nat} {cI cZ : ClassId} {A : Nat → Prop} (G : mG A Kf D cI cZ)  (σ : mS) (q : Int32) (so : Int32) (n : Int32)  : vv_Ct l yX8_sheet (ws_ yX8_sheet cX8_sheet 5 (some .int)) (rm 2 45) Kf (mWd D ad cI cZ A) A [.ref (ad 0), .int q, .int so, .int n] σ (vv_i (sheR q so n) (fun u => ab u = sheS (ab σ) q so n)) := by
  refine vv_of (by decide +kernel) (Nat.le_of_ble_eq_true rfl) ?_
  intro v (F : vv_F v l cX8_sheet 5 RX8 "sheet" (some .int) [] (rm 2 45) Kf (mWd D ad cI cZ A) A _)
  show v σ 0 0 0 [(0, .ref (ad 0)), (1, .int q), (2, .int so), (3, .int n)] []
  refine v_iload_n F 1 dX8_sheet_0 rfl rfl rfl ?_
  refine s_calli F G.1 (cm_X8_isSheet G σ q ) ok_X8_isSheet q1749 q1750 rfl rfl dX8_sheet_1 rfl rfl ?_
  intro u0 hu0; subst u0
  refine v_if_eqB (p := (0 ≤ q ∧ q ≤ 3)) (tgt := 31) (q := 7) F dX8_sheet_4 rfl rfl (fun c1 => ?_) (fun c1 => ?_)
  · skip
    refine v_bipush (x := (-2)) F dX8_sheet_31 rfl (by decide) ?_
    exact v_reti F dX8_sheet_33 rfl (by unfold sheR; rw [if_pos (show sheB q so n from Or.inl c1)]) (by unfold sheS; rw [if_pos (show sheB q so n from Or.inl c1)])
  · skip
    refine v_iload_n F 2 dX8_sheet_7 rfl rfl rfl ?_
    refine v_i2l F dX8_sheet_8 rfl ?_
    refine v_ldc2 F q1732 dX8_sheet_9 rfl ?_
    refine v_lng (y := (-1 : Int32).toInt64) F (by decide) ?_
    refine v_ldc2 F q1765 dX8_sheet_12 rfl ?_
    refine v_lng (y := (2 : Int32).toInt64) F (by decide) ?_
    refine s_calli F G.1 (cm_X8_in G σ so (-1) 2 ) ok_X8_in q1386 q1387 rfl rfl dX8_sheet_15 rfl rfl ?_
    intro u0 hu0; subst u0
    refine v_if_eqB (p := ((-1) ≤ so ∧ so ≤ 2)) (tgt := 31) (q := 21) F dX8_sheet_18 rfl rfl (fun c2 => ?_) (fun c2 => ?_)
    · skip
      refine v_bipush (x := (-2)) F dX8_sheet_31 rfl (by decide) ?_
      exact v_reti F dX8_sheet_33 rfl (by unfold sheR; rw [if_pos (show sheB q so n from Or.inr (Or.inl c2))]) (by unfold sheS; rw [if_pos (show sheB q so n from Or.inr (Or.inl c2))])
    · skip
      refine v_iload_n F 2 dX8_sheet_21 rfl rfl rfl ?_
      refine v_if_lt (tgt := 34) (q := 25) F dX8_sheet_22 rfl rfl (fun c3 => ?_) (fun c3 => ?_)
      · skip
        refine v_iload_n F 2 dX8_sheet_34 rfl rfl rfl ?_
        refine v_if_lt (tgt := 45) (q := 38) F dX8_sheet_35 rfl rfl (fun c4 => ?_) (fun c4 => ?_)
        · skip
          obtain ⟨a, ha3, hqa⟩ := in_of (M := 3) (n := 3) (by decide) c1
          have htq : tn q = a := by rw [hqa, tn_nI (by omega)]
          refine v_aload_n F 0 dX8_sheet_45 rfl rfl rfl ?_
          refine m_get F G 38 (w := .ref (ad 38)) (by decide) q1291 rfl dX8_sheet_46 rfl ?_
          refine v_iload_n F 1 dX8_sheet_49 rfl rfl rfl ?_
          refine v_int F (hqa) ?_
          refine v_iload_n F 2 dX8_sheet_50 rfl rfl rfl ?_
          refine v_if_lt (tgt := 58) (q := 54) F dX8_sheet_51 rfl rfl (fun c5 => ?_) (fun c5 => ?_)
          · skip
            refine v_iconst (x := 0) F dX8_sheet_58 rfl (by decide) ?_
            refine m_ast38 (t := a) F G (by omega) (by decide) dX8_sheet_59 rfl ?_
            refine v_aload_n F 0 dX8_sheet_60 rfl rfl rfl ?_
            refine m_get F G 39 (w := .ref (ad 39)) (by decide) q1292 rfl dX8_sheet_61 rfl ?_
            refine v_iload_n F 1 dX8_sheet_64 rfl rfl rfl ?_
            refine v_int F (hqa) ?_
            refine v_iload_n F 2 dX8_sheet_65 rfl rfl rfl ?_
            refine m_ast39 (t := a) F G (by omega) dX8_sheet_66 rfl ?_
            refine v_aload_n F 0 dX8_sheet_67 rfl rfl rfl ?_
            refine m_get F G 40 (w := .ref (ad 40)) (by decide) q1293 rfl dX8_sheet_68 rfl ?_
            refine v_iload_n F 1 dX8_sheet_71 rfl rfl rfl ?_
            refine v_int F (hqa) ?_
            refine v_iload_n F 3 dX8_sheet_72 rfl rfl rfl ?_
            refine m_ast40 (t := a) F G (by omega) dX8_sheet_73 rfl ?_
            refine v_iconst (x := 0) F dX8_sheet_74 rfl (by decide) ?_
            refine v_istore (ls' := [(4, .int 0), (0, .ref (ad 0)), (1, .int q), (2, .int so), (3, .int n)]) F dX8_sheet_75 rfl (by decide) rfl ?_
            refine v_iload F 0 dX8_sheet_77 rfl rfl ?_
            refine v_iload_n F 4 dX8_sheet_79 rfl rfl rfl ?_
            refine v_icmp_ge (tgt := 106) (q := 83) F dX8_sheet_80 rfl rfl (fun c6 => ?_) (fun c6 => ?_)
            · skip
              refine v_iconst (x := 1) F dX8_sheet_106 rfl (by decide) ?_
              exact v_reti F dX8_sheet_107 rfl (by unfold sheR; rw [if_neg (show ¬ sheB q so n from (fun h => h.elim (fun g => g c1) (fun h => h.elim (fun g => g c2) (fun g => g.1 c3)))), if_neg (fun h => h.1 c3)]) (by unfold sheS; rw [if_neg (show ¬ sheB q so n from (fun h => h.elim (fun g => g c1) (fun h => h.elim (fun g => g c2) (fun g => g.1 c3)))), if_neg (fun h => h.1 c3), htq]; unfold shtS; rw [if_pos c3, ← shtB_ab]; unfold shtB; rw [if_pos c3])
            · skip
              refine v_iload_n F 3 dX8_sheet_83 rfl rfl rfl ?_
              refine v_if_lt (tgt := 106) (q := 87) F dX8_sheet_84 rfl rfl (fun c7 => ?_) (fun c7 => ?_)
              · skip
                refine v_iconst (x := 1) F dX8_sheet_106 rfl (by decide) ?_
                exact v_reti F dX8_sheet_107 rfl (by unfold sheR; rw [if_neg (show ¬ sheB q so n from (fun h => h.elim (fun g => g c1) (fun h => h.elim (fun g => g c2) (fun g => g.1 c3)))), if_neg (fun h => h.1 c3)]) (by unfold sheS; rw [if_neg (show ¬ sheB q so n from (fun h => h.elim (fun g => g c1) (fun h => h.elim (fun g => g c2) (fun g => g.1 c3)))), if_neg (fun h => h.1 c3), htq]; unfold shtS; rw [if_pos c3, ← shtB_ab]; unfold shtB; rw [if_pos c3])
              · skip
                exact absurd c5 c7
          · skip
            exact absurd c4 c5
        · skip
          exact absurd c3 c4
      · skip
        refine v_iload_n F 3 dX8_sheet_25 rfl rfl rfl ?_
        refine v_bipush (x := 40) F dX8_sheet_26 rfl (by decide) ?_
        refine v_icmp_le (tgt := 34) (q := 31) F dX8_sheet_28 rfl rfl (fun c8 => ?_) (fun c8 => ?_)
        · skip
          refine v_iload_n F 2 dX8_sheet_34 rfl rfl rfl ?_
          refine v_if_lt (tgt := 45) (q := 38) F dX8_sheet_35 rfl rfl (fun c9 => ?_) (fun c9 => ?_)
          · skip
            exact absurd c9 c3
          · skip
            refine v_iload_n F 3 dX8_sheet_38 rfl rfl rfl ?_
            refine v_if_ge (tgt := 45) (q := 42) F dX8_sheet_39 rfl rfl (fun c10 => ?_) (fun c10 => ?_)
            · skip
              obtain ⟨a, ha3, hqa⟩ := in_of (M := 3) (n := 3) (by decide) c1
              have htq : tn q = a := by rw [hqa, tn_nI (by omega)]
              obtain ⟨m, hm, hnm⟩ := in_of (M := 40) (n := 40) (by decide) ⟨c10, c8⟩
              have htn : tn n = m := by rw [hnm, tn_nI (by omega)]
              refine v_aload_n F 0 dX8_sheet_45 rfl rfl rfl ?_
              refine m_get F G 38 (w := .ref (ad 38)) (by decide) q1291 rfl dX8_sheet_46 rfl ?_
              refine v_iload_n F 1 dX8_sheet_49 rfl rfl rfl ?_
              refine v_int F (hqa) ?_
              refine v_iload_n F 2 dX8_sheet_50 rfl rfl rfl ?_
              refine v_if_lt (tgt := 58) (q := 54) F dX8_sheet_51 rfl rfl (fun c11 => ?_) (fun c11 => ?_)
              · skip
                exact absurd c11 c9
              · skip
                refine v_iconst (x := 1) F dX8_sheet_54 rfl (by decide) ?_
                refine v_goto (tgt := 59) F dX8_sheet_55 rfl ?_
                refine m_ast38 (t := a) F G (by omega) (by decide) dX8_sheet_59 rfl ?_
                refine v_aload_n F 0 dX8_sheet_60 rfl rfl rfl ?_
                refine m_get F G 39 (w := .ref (ad 39)) (by decide) q1292 rfl dX8_sheet_61 rfl ?_
                refine v_iload_n F 1 dX8_sheet_64 rfl rfl rfl ?_
                refine v_int F (hqa) ?_
                refine v_iload_n F 2 dX8_sheet_65 rfl rfl rfl ?_
                refine m_ast39 (t := a) F G (by omega) dX8_sheet_66 rfl ?_
                refine v_aload_n F 0 dX8_sheet_67 rfl rfl rfl ?_
                refine m_get F G 40 (w := .ref (ad 40)) (by decide) q1293 rfl dX8_sheet_68 rfl ?_
                refine v_iload_n F 1 dX8_sheet_71 rfl rfl rfl ?_
                refine v_int F (hqa) ?_
                refine v_iload_n F 3 dX8_sheet_72 rfl rfl rfl ?_
                refine m_ast40 (t := a) F G (by omega) dX8_sheet_73 rfl ?_
                refine v_iconst (x := 0) F dX8_sheet_74 rfl (by decide) ?_
                refine v_istore (ls' := [(4, .int 0), (0, .ref (ad 0)), (1, .int q), (2, .int so), (3, .int n)]) F dX8_sheet_75 rfl (by decide) rfl ?_
                have L77 : ∀ (nf : Nat) (s : mS) (j : Nat) (hj : j ≤ m) (hs : zJ a (up (up (up σ 38 a 1) 39 a so) 40 a n) s j) (hnf : m - j < nf), v s 0 0 77 [(0, .ref (ad 0)), (1, .int q), (2, .int so), (3, .int n), (4, .int (nI j))] [] := by
                  intro nf
                  induction nf with
                  | zero => intro s j hj hs hnf; exact absurd hnf (Nat.not_lt_zero _)
                  | succ nf ih77 =>
                    intro s j hj hs hnf
                    refine v_iload F 4 dX8_sheet_77 rfl rfl ?_
                    refine v_iload_n F 3 dX8_sheet_79 rfl rfl rfl ?_
                    refine v_int F (hnm) ?_
                    refine v_icmp_geN (a := j) (b := m) (tgt := 106) (q := 83) F dX8_sheet_80 rfl rfl (by omega) (by omega) (fun c12 => ?_) (fun c12 => ?_)
                    · skip
                      refine v_iconst (x := 1) F dX8_sheet_106 rfl (by decide) ?_
                      exact v_reti F dX8_sheet_107 rfl (by unfold sheR; rw [if_neg (show ¬ sheB q so n from (fun h => h.elim (fun g => g c1) (fun h => h.elim (fun g => g c2) (fun g => g.2 c8)))), if_neg (fun h => h.2 c10)]) (by unfold sheS; rw [if_neg (show ¬ sheB q so n from (fun h => h.elim (fun g => g c1) (fun h => h.elim (fun g => g c2) (fun g => g.2 c8)))), if_neg (fun h => h.2 c10), htq]; unfold shtS; rw [if_neg c3, htn, ← shtB_ab, ← zer_ab, zJ_e hs c12 hj]; unfold shtB; rw [if_neg c3, hnm])
                    · skip
                      refine v_iload_n F 2 dX8_sheet_83 rfl rfl rfl ?_
                      refine v_if_lt (tgt := 106) (q := 87) F dX8_sheet_84 rfl rfl (fun c13 => ?_) (fun c13 => ?_)
                      · skip
                        exact absurd c13 c11
                      · skip
                        refine v_aload_n F 0 dX8_sheet_87 rfl rfl rfl ?_
                        refine m_get F G 41 (w := .ref (ad 41)) (by decide) q1294 rfl dX8_sheet_88 rfl ?_
                        refine v_bipush (x := 40) F dX8_sheet_91 rfl (by decide) ?_
                        refine v_iload_n F 1 dX8_sheet_93 rfl rfl rfl ?_
                        refine v_int F (hqa) ?_
                        refine v_imulN (a := 40) (b := a) F dX8_sheet_94 rfl ?_
                        refine v_iload F 4 dX8_sheet_95 rfl rfl ?_
                        refine v_iaddN (a := 40 * a) (b := j) F dX8_sheet_97 rfl ?_
                        refine v_iconst (x := 0) F dX8_sheet_98 rfl (by decide) ?_
                        refine m_ast41 (t := (40 * a) + j) F G (by omega) dX8_sheet_99 rfl ?_
                        refine v_iincN (ls' := [(4, .int (nI (j + 1))), (0, .ref (ad 0)), (1, .int q), (2, .int so), (3, .int n)]) F 4 dX8_sheet_100 rfl rfl (by decide) rfl ?_
                        refine v_goto (tgt := 77) F dX8_sheet_103 rfl ?_
                        refine v_sub (ls' := [(0, .ref (ad 0)), (1, .int q), (2, .int so), (3, .int n), (4, .int (nI (j + 1)))]) F [1, 2, 3, 4, 0] rfl ?_
                        exact ih77 (up s 41 ((40 * a) + j) 0) (j + 1) (by omega) (zJ_s hs) (by omega)
                refine v_sub (ls' := [(0, .ref (ad 0)), (1, .int q), (2, .int so), (3, .int n), (4, .int 0)]) F [1, 2, 3, 4, 0] rfl ?_
                exact L77 _ (up (up (up σ 38 a 1) 39 a so) 40 a n) 0 (Nat.zero_le _) zJ_0 (Nat.lt_succ_self _)
            · skip
              refine v_bipush (x := (-14)) F dX8_sheet_42 rfl (by decide) ?_
              exact v_reti F dX8_sheet_44 rfl (by unfold sheR; rw [if_neg (show ¬ sheB q so n from (fun h => h.elim (fun g => g c1) (fun h => h.elim (fun g => g c2) (fun g => g.2 c8)))), if_pos ⟨c3, c10⟩]) (by unfold sheS; rw [if_neg (show ¬ sheB q so n from (fun h => h.elim (fun g => g c1) (fun h => h.elim (fun g => g c2) (fun g => g.2 c8)))), if_pos ⟨c3, c10⟩])
        · skip
          refine v_bipush (x := (-2)) F dX8_sheet_31 rfl (by decide) ?_
          exact v_reti F dX8_sheet_33 rfl (by unfold sheR; rw [if_pos (show sheB q so n from Or.inr (Or.inr ⟨c3, c8⟩))]) (by unfold sheS; rw [if_pos (show sheB q so n from Or.inr (Or.inr ⟨c3, c8⟩))])
