set_option maxRecDepth 100000
theorem ok_X8_sown : vv_oc yX8_sown 5 2 (ws_ yX8_sown cX8_sown 5 (some .int)) := vv_ok.oc (rt := (some .int)) ⟨q1726, q133, by decide +kernel, by decide +kernel⟩
theorem is_X8_sown : Cond.instanceMethod yX8_sown ∈ lw_all ∧ Cond.selects RX8 yX8_sown yX8_sown ∈ lw_all := ⟨q1724, q1725⟩
set_option maxHeartbeats 4000000 in
theorem cm_X8_sown {l : Launch} {Kf : State → Prop} {D : va_G} {ad : Nat → Nat} {cI cZ : ClassId} {A : Nat → Prop} (G : mG A Kf D cI cZ)  (σ : mS) (k : Int32) (n : Int32) (hw : Wf (ab σ)) : vv_Ct l yX8_sown (ws_ yX8_sown cX8_sown 5 (some .int)) (rm 46 1021) Kf (mWd D ad cI cZ A) A [.ref (ad 0), .int k, .int n] σ (vv_i (sowR (ab σ) k n) (fun u => nb u = na (sowS (ab σ) k n))) := by
  refine vv_of (by decide +kernel) (Nat.le_of_ble_eq_true rfl) ?_
  intro v (F : vv_F v l cX8_sown 5 RX8 "sown" (some .int) [] (rm 46 1021) Kf (mWd D ad cI cZ A) A _)
  show v σ 0 0 0 [(0, .ref (ad 0)), (1, .int k), (2, .int n)] []
  have hM : σ 0 13 = nI (tn (σ 0 13)) := hw.1.1.1
  have hM8 : tn (σ 0 13) ≤ 8 := hw.1.1.2
  refine v_iload_n F 1 dX8_sown_0 rfl rfl rfl ?_
  refine v_i2l F dX8_sown_1 rfl ?_
  refine v_lconst (x := (0 : Int32).toInt64) F dX8_sown_2 rfl (by decide) ?_
  refine v_ldc2 F q1727 dX8_sown_3 rfl ?_
  refine v_lng (y := (59 : Int32).toInt64) F (by decide) ?_
  refine s_calli F G.1 (cm_X8_in G σ k 0 59 ) ok_X8_in q1386 q1387 rfl rfl dX8_sown_6 rfl rfl ?_
  intro u0 hu0; subst u0
  refine v_if_eqB (p := (0 ≤ k ∧ k ≤ 59)) (tgt := 24) (q := 12) F dX8_sown_9 rfl rfl (fun c1 => ?_) (fun c1 => ?_)
  · skip
    refine v_bipush (x := (-2)) F dX8_sown_24 rfl (by decide) ?_
    exact v_reti F dX8_sown_26 rfl (by unfold sowR; rw [if_pos (show ¬ ((0 ≤ k ∧ k ≤ 59) ∧ (0 ≤ n ∧ n ≤ 30)) from (fun h => c1 h.1))]) (by show na (ab σ) = na (sowS (ab σ) k n); unfold sowS; rw [if_pos (show ¬ ((0 ≤ k ∧ k ≤ 59) ∧ (0 ≤ n ∧ n ≤ 30)) from (fun h => c1 h.1))])
  · skip
    refine v_iload_n F 2 dX8_sown_12 rfl rfl rfl ?_
    refine v_i2l F dX8_sown_13 rfl ?_
    refine v_lconst (x := (0 : Int32).toInt64) F dX8_sown_14 rfl (by decide) ?_
    refine v_ldc2 F q1676 dX8_sown_15 rfl ?_
    refine v_lng (y := (30 : Int32).toInt64) F (by decide) ?_
    refine s_calli F G.1 (cm_X8_in G σ n 0 30 ) ok_X8_in q1386 q1387 rfl rfl dX8_sown_18 rfl rfl ?_
    intro u0 hu0; subst u0
    refine v_if_neB (p := (0 ≤ n ∧ n ≤ 30)) (tgt := 27) (q := 24) F dX8_sown_21 rfl rfl (fun c2 => ?_) (fun c2 => ?_)
    · skip
      refine v_aload_n F 0 dX8_sown_27 rfl rfl rfl ?_
      refine m_get F G 13 (w := .int (σ 0 13)) (by decide) q1266 rfl dX8_sown_28 rfl ?_
      refine v_bipush (x := 8) F dX8_sown_31 rfl (by decide) ?_
      refine v_icmp_ne (tgt := 39) (q := 36) F dX8_sown_33 rfl rfl (fun c3 => ?_) (fun c3 => ?_)
      · skip
        obtain ⟨kk, hkk, hkkk⟩ := in_of (M := 59) (n := 59) (by decide) c1
        have htk : tn k = kk := by rw [hkkk, tn_nI (by omega)]
        obtain ⟨m, hm, hnm⟩ := in_of (M := 30) (n := 30) (by decide) c2
        have htn : tn n = m := by rw [hnm, tn_nI (by omega)]
        have hM7 : tn (σ 0 13) < 8 := plt8 hM hM8 c3
        refine v_iconst (x := 0) F dX8_sown_39 rfl (by decide) ?_
        refine v_istore_n (ls' := [(3, .int 0), (0, .ref (ad 0)), (1, .int k), (2, .int n)]) F dX8_sown_40 rfl rfl (by decide) rfl ?_
        refine v_iconst (x := 0) F dX8_sown_41 rfl (by decide) ?_
        refine v_istore (ls' := [(4, .int 0), (3, .int 0), (0, .ref (ad 0)), (1, .int k), (2, .int n)]) F dX8_sown_42 rfl (by decide) rfl ?_
        have L44 : ∀ (nf : Nat) (s : mS) (g : Nat) (hgl : g ≤ 8) (hs : beyo σ s) (hs2 : g = 0 ∨ nb s = nb (up (sowA σ kk (g - 1)) 0 13 (nI (tn (σ 0 13))))) (hnf : 8 - g < nf), v s 0 0 44 [(0, .ref (ad 0)), (1, .int k), (2, .int n), (3, .int (sowN (ab σ) kk m g)), (4, .int (nI g))] [] := by
          intro nf
          induction nf with
          | zero => intro s g hgl hs hs2 hnf; exact absurd hnf (Nat.not_lt_zero _)
          | succ nf ih44 =>
            intro s g hgl hs hs2 hnf
            have h13 : s 0 13 = σ 0 13 := hs.M
            refine v_iload F 4 dX8_sown_44 rfl rfl ?_
            refine v_bipush (x := 8) F dX8_sown_46 rfl (by decide) ?_
            refine v_icmp_geN (a := g) (b := 8) (tgt := 107) (q := 51) F dX8_sown_48 rfl rfl (by omega) (by omega) (fun c4 => ?_) (fun c4 => ?_)
            · skip
              refine v_iload_n F 3 dX8_sown_107 rfl rfl rfl ?_
              exact v_reti F dX8_sown_108 rfl (by unfold sowR; rw [if_neg (show ¬ ¬ ((0 ≤ k ∧ k ≤ 59) ∧ (0 ≤ n ∧ n ≤ 30)) from fun h => h ⟨c1, c2⟩)]; rw [if_neg (show ¬ ab σ 0 13 = 8 from c3), htk, htn, show 8 = g by omega]) (by show na (ab s) = na (sowS (ab σ) k n); unfold sowS; rw [if_neg (show ¬ ¬ ((0 ≤ k ∧ k ≤ 59) ∧ (0 ≤ n ∧ n ≤ 30)) from fun h => h ⟨c1, c2⟩), if_neg (show ¬ ab σ 0 13 = 8 from c3), htk]; have h9 := hs2.resolve_left (by omega); rw [show g - 1 = 7 by omega] at h9; refine (show na (ab s) = na (ab (up (sowA σ kk 7) 0 13 (nI (tn (σ 0 13))))) from h9).trans ?_; rw [ab_u rfl, show ab (sowA σ kk 7) = sowA (ab σ) kk 7 from com_ab]; rw [← hM]; rfl)
            · skip
              refine v_aload_n F 0 dX8_sown_51 rfl rfl rfl ?_
              refine v_iload_n F 1 dX8_sown_52 rfl rfl rfl ?_
              refine v_int F (hkkk) ?_
              refine v_bipush (x := 10) F dX8_sown_53 rfl (by decide) ?_
              refine v_idivN (a := kk) (b := 10) F dX8_sown_55 rfl (by omega) (by decide) (by decide) ?_
              refine v_iload_n F 1 dX8_sown_56 rfl rfl rfl ?_
              refine v_int F (hkkk) ?_
              refine v_bipush (x := 10) F dX8_sown_57 rfl (by decide) ?_
              refine v_iremN (a := kk) (b := 10) F dX8_sown_59 rfl (by omega) (by decide) (by decide) ?_
              refine v_iload F 4 dX8_sown_60 rfl rfl ?_
              refine v_iconst (x := 1) F dX8_sown_62 rfl (by decide) ?_
              refine m_calln F G (cm_X8_comes G s (nI (kk / 10)) (nI (kk % 10)) (nI g) 1 (by rw [h13]; exact hM) (by rw [h13]; exact hM7)) ok_X8_comes q1628 is_X8_comes rfl rfl dX8_sown_63 rfl rfl ?_
              intro u0 hu0; subst u0
              refine v_iload_n F 3 dX8_sown_66 rfl rfl rfl ?_
              refine v_aload_n F 0 dX8_sown_67 rfl rfl rfl ?_
              refine v_aload_n F 0 dX8_sown_68 rfl rfl rfl ?_
              refine m_get F G 13 (w := .int ((comS s (nI (kk / 10)) (nI (kk % 10)) (nI g) 1) 0 13)) (by decide) q1266 rfl dX8_sown_69 rfl ?_
              refine v_int F (y := nI (tn (σ 0 13) + 1)) (by show nI (tn (s 0 13) + 1) = _; rw [h13]) ?_
              refine v_iconst (x := 1) F dX8_sown_72 rfl (by decide) ?_
              refine v_isubN (a := tn (σ 0 13) + 1) (b := 1) F dX8_sown_73 rfl (by omega) ?_
              refine v_int F (y := nI (tn (σ 0 13))) (by rw [Nat.add_sub_cancel]) ?_
              refine v_iload_n F 2 dX8_sown_74 rfl rfl rfl ?_
              refine v_int F (hnm) ?_
              refine m_calli F G (cm_X8_manyBehind G (comS s (nI (kk / 10)) (nI (kk % 10)) (nI g) 1) (tn (σ 0 13)) m (sow_wf hs hw hM7 (by omega)) (by show tn (σ 0 13) < tn (nI (tn (s 0 13) + 1)); rw [h13, tn_nI (by omega)]; omega) hm) ok_X8_manyBehind q1719 is_X8_manyBehind rfl rfl dX8_sown_75 rfl rfl ?_
              intro t5 hq5
              refine v_if_le (tgt := 85) (q := 81) F dX8_sown_78 rfl rfl (fun c6 => ?_) (fun c6 => ?_)
              · skip
                refine v_iconst (x := 0) F dX8_sown_85 rfl (by decide) ?_
                refine v_iload F 4 dX8_sown_86 rfl rfl ?_
                refine v_ishl F dX8_sown_88 rfl ?_
                refine v_ior F dX8_sown_89 rfl ?_
                refine v_int F (y := sowN (ab σ) kk m (g + 1)) (by show _ = sowN (ab σ) kk m g ||| ((if mbV (sowA (ab σ) kk g) (tn (σ 0 13)) m ≤ 0 then 0 else 1) <<< (nI g &&& 31)); rw [← sow_val hs, if_pos c6]) ?_
                refine v_istore_n (ls' := [(3, .int (sowN (ab σ) kk m (g + 1))), (0, .ref (ad 0)), (1, .int k), (2, .int n), (4, .int (nI g))]) F dX8_sown_90 rfl rfl (by decide) rfl ?_
                refine v_aload_n F 1 dX8_sown_91 rfl rfl rfl ?_
                refine v_dup F dX8_sown_92 rfl rfl ?_
                refine m_get F G 13 (w := .int (t5 0 13)) (by decide) q1266 rfl dX8_sown_93 rfl ?_
                refine v_int F (y := nI (tn (σ 0 13) + 1)) (by rw [nb_rd hq5 0 13 rfl rfl]; show nI (tn (s 0 13) + 1) = _; rw [h13]) ?_
                refine v_iconst (x := 1) F dX8_sown_96 rfl (by decide) ?_
                refine v_isubN (a := tn (σ 0 13) + 1) (b := 1) F dX8_sown_97 rfl (by omega) ?_
                refine v_int F (y := nI (tn (σ 0 13))) (by rw [Nat.add_sub_cancel]) ?_
                refine m_put13 F G q1266 dX8_sown_98 rfl ?_
                refine v_iincN (ls' := [(4, .int (nI (g + 1))), (3, .int (sowN (ab σ) kk m (g + 1))), (0, .ref (ad 0)), (1, .int k), (2, .int n)]) F 4 dX8_sown_101 rfl rfl (by decide) rfl ?_
                refine v_goto (tgt := 44) F dX8_sown_104 rfl ?_
                refine v_sub (ls' := [(0, .ref (ad 0)), (1, .int k), (2, .int n), (3, .int (sowN (ab σ) kk m (g + 1))), (4, .int (nI (g + 1)))]) F [2, 3, 4, 1, 0] rfl ?_
                exact ih44 (up t5 0 13 (nI (tn (σ 0 13)))) (g + 1) (by omega) (beyo.back hs hq5 hM.symm) (Or.inr (sow_end hs hq5)) (by omega)
              · skip
                refine v_iconst (x := 1) F dX8_sown_81 rfl (by decide) ?_
                refine v_goto (tgt := 86) F dX8_sown_82 rfl ?_
                refine v_iload F 4 dX8_sown_86 rfl rfl ?_
                refine v_ishl F dX8_sown_88 rfl ?_
                refine v_ior F dX8_sown_89 rfl ?_
                refine v_int F (y := sowN (ab σ) kk m (g + 1)) (by show _ = sowN (ab σ) kk m g ||| ((if mbV (sowA (ab σ) kk g) (tn (σ 0 13)) m ≤ 0 then 0 else 1) <<< (nI g &&& 31)); rw [← sow_val hs, if_neg c6]) ?_
                refine v_istore_n (ls' := [(3, .int (sowN (ab σ) kk m (g + 1))), (0, .ref (ad 0)), (1, .int k), (2, .int n), (4, .int (nI g))]) F dX8_sown_90 rfl rfl (by decide) rfl ?_
                refine v_aload_n F 1 dX8_sown_91 rfl rfl rfl ?_
                refine v_dup F dX8_sown_92 rfl rfl ?_
                refine m_get F G 13 (w := .int (t5 0 13)) (by decide) q1266 rfl dX8_sown_93 rfl ?_
                refine v_int F (y := nI (tn (σ 0 13) + 1)) (by rw [nb_rd hq5 0 13 rfl rfl]; show nI (tn (s 0 13) + 1) = _; rw [h13]) ?_
                refine v_iconst (x := 1) F dX8_sown_96 rfl (by decide) ?_
                refine v_isubN (a := tn (σ 0 13) + 1) (b := 1) F dX8_sown_97 rfl (by omega) ?_
                refine v_int F (y := nI (tn (σ 0 13))) (by rw [Nat.add_sub_cancel]) ?_
                refine m_put13 F G q1266 dX8_sown_98 rfl ?_
                refine v_iincN (ls' := [(4, .int (nI (g + 1))), (3, .int (sowN (ab σ) kk m (g + 1))), (0, .ref (ad 0)), (1, .int k), (2, .int n)]) F 4 dX8_sown_101 rfl rfl (by decide) rfl ?_
                refine v_goto (tgt := 44) F dX8_sown_104 rfl ?_
                refine v_sub (ls' := [(0, .ref (ad 0)), (1, .int k), (2, .int n), (3, .int (sowN (ab σ) kk m (g + 1))), (4, .int (nI (g + 1)))]) F [2, 3, 4, 1, 0] rfl ?_
                exact ih44 (up t5 0 13 (nI (tn (σ 0 13)))) (g + 1) (by omega) (beyo.back hs hq5 hM.symm) (Or.inr (sow_end hs hq5)) (by omega)
        refine v_sub (ls' := [(0, .ref (ad 0)), (1, .int k), (2, .int n), (3, .int 0), (4, .int 0)]) F [2, 3, 4, 1, 0] rfl ?_
        exact L44 _ σ 0 (by decide) beyo.rf (Or.inl rfl) (Nat.lt_succ_self _)
      · skip
        refine v_bipush (x := (-4)) F dX8_sown_36 rfl (by decide) ?_
        exact v_reti F dX8_sown_38 rfl (by unfold sowR; rw [if_neg (show ¬ ¬ ((0 ≤ k ∧ k ≤ 59) ∧ (0 ≤ n ∧ n ≤ 30)) from fun h => h ⟨c1, c2⟩)]; rw [if_pos (show ab σ 0 13 = 8 from c3)]) (by show na (ab σ) = na (sowS (ab σ) k n); unfold sowS; rw [if_neg (show ¬ ¬ ((0 ≤ k ∧ k ≤ 59) ∧ (0 ≤ n ∧ n ≤ 30)) from fun h => h ⟨c1, c2⟩)]; rw [if_pos (show ab σ 0 13 = 8 from c3)])
    · skip
      refine v_bipush (x := (-2)) F dX8_sown_24 rfl (by decide) ?_
      exact v_reti F dX8_sown_26 rfl (by unfold sowR; rw [if_pos (show ¬ ((0 ≤ k ∧ k ≤ 59) ∧ (0 ≤ n ∧ n ≤ 30)) from (fun h => c2 h.2))]) (by show na (ab σ) = na (sowS (ab σ) k n); unfold sowS; rw [if_pos (show ¬ ((0 ≤ k ∧ k ≤ 59) ∧ (0 ≤ n ∧ n ≤ 30)) from (fun h => c2 h.2))])
theorem ok_X8_firstOther : vv_oc yX8_firstOther 5 2 (ws_ yX8_firstOther cX8_firstOther 5 (some .int)) := vv_ok.oc (rt := (some .int)) ⟨q1756, q133, by decide +kernel, by decide +kernel⟩
theorem is_X8_firstOther : Cond.instanceMethod yX8_firstOther ∈ lw_all ∧ Cond.selects RX8 yX8_firstOther yX8_firstOther ∈ lw_all := ⟨q1755, qs113⟩
set_option maxHeartbeats 4000000 in
theorem cm_X8_firstOther {l : Launch} {Kf : State → Prop} {D : va_G} {ad : Nat → Nat} {cI cZ : ClassId} {A : Nat → Prop} (G : mG A Kf D cI cZ) {z : Nat} (σ : mS) (q : Nat) (p : Nat) (hw : Wf (ab σ)) (hp : p < tn (σ 0 13)) (hq : q < 4) (hz : σ 40 q = nI z) (hz30 : z ≤ 30) : vv_Ct l yX8_firstOther (ws_ yX8_firstOther cX8_firstOther 5 (some .int)) (rm 45 998) Kf (mWd D ad cI cZ A) A [.ref (ad 0), .int (nI q), .int (nI p)] σ (vv_i (othV (ab σ) q p) (fun u => nb u = nb σ)) := by
  refine vv_of (by decide +kernel) (Nat.le_of_ble_eq_true rfl) ?_
  intro v (F : vv_F v l cX8_firstOther 5 RX8 "firstOther" (some .int) [] (rm 45 998) Kf (mWd D ad cI cZ A) A _)
  show v σ 0 0 0 [(0, .ref (ad 0)), (1, .int (nI q)), (2, .int (nI p))] []
  have hM : σ 0 13 = nI (tn (σ 0 13)) := hw.1.1.1
  have hM8 : tn (σ 0 13) ≤ 8 := hw.1.1.2
  refine v_aload_n F 0 dX8_firstOther_0 rfl rfl rfl ?_
  refine m_calln F G (cm_X8_laysAside G σ) ok_X8_laysAside q1679 is_X8_laysAside rfl rfl dX8_firstOther_1 rfl rfl ?_
  intro t1 ha1
  refine v_iconst (x := (-1)) F dX8_firstOther_4 rfl (by decide) ?_
  refine v_istore_n (ls' := [(3, .int (-1)), (0, .ref (ad 0)), (1, .int (nI q)), (2, .int (nI p))]) F dX8_firstOther_5 rfl rfl (by decide) rfl ?_
  refine v_iconst (x := 0) F dX8_firstOther_6 rfl (by decide) ?_
  refine v_istore (ls' := [(4, .int 0), (3, .int (-1)), (0, .ref (ad 0)), (1, .int (nI q)), (2, .int (nI p))]) F dX8_firstOther_7 rfl (by decide) rfl ?_
  have L9 : ∀ (nf : Nat) (s : mS) (j : Nat) (x : Int32) (hj : j ≤ z) (hs : ab s = yrs (asd (ab σ)) j) (hx : x = othN (asd (ab σ)) q p j) (hnf : z - j < nf), v s 0 0 9 [(0, .ref (ad 0)), (1, .int (nI q)), (2, .int (nI p)), (3, .int x), (4, .int (nI j))] [] := by
    intro nf
    induction nf with
    | zero => intro s j x hj hs hx hnf; exact absurd hnf (Nat.not_lt_zero _)
    | succ nf ih9 =>
      intro s j x hj hs hx hnf
      have hws : Wf (ab s) := by rw [hs]; exact wf_yrs (wf_asd hw) j
      have h13 : s 0 13 = σ 0 13 := s13 hs
      have h13t : tn (s 0 13) = tn (σ 0 13) := by rw [h13]
      have h40 : s 40 q = nI z := by rw [← ab_rd (σ := s) 40 q rfl, hs, yrs_r _ j 40 q (by omega) (by omega)]; exact hz
      refine v_iload F 4 dX8_firstOther_9 rfl rfl ?_
      refine v_aload_n F 0 dX8_firstOther_11 rfl rfl rfl ?_
      refine m_get F G 40 (w := .ref (ad 40)) (by decide) q1293 rfl dX8_firstOther_12 rfl ?_
      refine v_iload_n F 1 dX8_firstOther_15 rfl rfl rfl ?_
      refine m_ald40 (t := q) F G (by omega) dX8_firstOther_16 rfl ?_
      refine v_int F (h40) ?_
      refine v_icmp_geN (a := j) (b := z) (tgt := 67) (q := 20) F dX8_firstOther_17 rfl rfl (by omega) (by omega) (fun c2 => ?_) (fun c2 => ?_)
      · skip
        refine v_aload_n F 0 dX8_firstOther_67 rfl rfl rfl ?_
        refine m_calln F G (cm_X8_laysBack G s) ok_X8_laysBack q1695 is_X8_laysBack rfl rfl dX8_firstOther_68 rfl rfl ?_
        intro t3 hk3
        refine v_iload_n F 3 dX8_firstOther_71 rfl rfl rfl ?_
        exact v_reti F dX8_firstOther_72 rfl (oth_end hx hj (Or.inl (by omega)) (by rw [hz, tn_nI (by omega)])) (nb_back hw hs hk3)
      · skip
        refine v_iload_n F 3 dX8_firstOther_20 rfl rfl rfl ?_
        refine v_iconst (x := (-1)) F dX8_firstOther_21 rfl (by decide) ?_
        refine v_icmp_ne (tgt := 67) (q := 25) F dX8_firstOther_22 rfl rfl (fun c4 => ?_) (fun c4 => ?_)
        · skip
          refine v_aload_n F 0 dX8_firstOther_67 rfl rfl rfl ?_
          refine m_calln F G (cm_X8_laysBack G s) ok_X8_laysBack q1695 is_X8_laysBack rfl rfl dX8_firstOther_68 rfl rfl ?_
          intro t5 hk5
          refine v_iload_n F 3 dX8_firstOther_71 rfl rfl rfl ?_
          exact v_reti F dX8_firstOther_72 rfl (oth_end hx hj (Or.inr c4) (by rw [hz, tn_nI (by omega)])) (nb_back hw hs hk5)
        · skip
          refine v_aload_n F 0 dX8_firstOther_25 rfl rfl rfl ?_
          refine m_calln F G (cm_X8_lives G s hws) ok_X8_lives q1664 is_X8_lives rfl rfl dX8_firstOther_26 rfl rfl ?_
          intro t6 hv6
          have hy : ab t6 = yrs (asd (ab σ)) (j + 1) := by rw [hv6, hs]; rfl
          have hr1 : t6 12 (3 * p + 2) = yrs (asd (ab σ)) (j + 1) 12 (3 * p + 2) := by rw [← ab_rd (σ := t6) 12 _ rfl, hy]
          have hr2 : t6 41 (40 * q + j) = (asd (ab σ)) 41 (40 * q + j) := by rw [← ab_rd (σ := t6) 41 _ rfl, hy, yrs_r _ (j + 1) 41 _ (by omega) (by omega)]
          refine v_aload_n F 0 dX8_firstOther_29 rfl rfl rfl ?_
          refine m_get F G 12 (w := .ref (ad 12)) (by decide) q1265 rfl dX8_firstOther_30 rfl ?_
          refine v_iconst (x := 3) F dX8_firstOther_33 rfl (by decide) ?_
          refine v_iload_n F 2 dX8_firstOther_34 rfl rfl rfl ?_
          refine v_imulN (a := 3) (b := p) F dX8_firstOther_35 rfl ?_
          refine v_iconst (x := 2) F dX8_firstOther_36 rfl (by decide) ?_
          refine v_iaddN (a := 3 * p) (b := 2) F dX8_firstOther_37 rfl ?_
          refine m_ald12 (t := (3 * p) + 2) F G (by omega) dX8_firstOther_38 rfl ?_
          refine v_aload_n F 0 dX8_firstOther_39 rfl rfl rfl ?_
          refine m_get F G 41 (w := .ref (ad 41)) (by decide) q1294 rfl dX8_firstOther_40 rfl ?_
          refine v_bipush (x := 40) F dX8_firstOther_43 rfl (by decide) ?_
          refine v_iload_n F 1 dX8_firstOther_45 rfl rfl rfl ?_
          refine v_imulN (a := 40) (b := q) F dX8_firstOther_46 rfl ?_
          refine v_iload F 4 dX8_firstOther_47 rfl rfl ?_
          refine v_iaddN (a := 40 * q) (b := j) F dX8_firstOther_49 rfl ?_
          refine m_ald41 (t := (40 * q) + j) F G (by omega) dX8_firstOther_50 rfl ?_
          refine v_icmp_ne (tgt := 58) (q := 54) F dX8_firstOther_51 rfl rfl (fun c7 => ?_) (fun c7 => ?_)
          · skip
            refine v_iload F 4 dX8_firstOther_58 rfl rfl ?_
            refine v_istore_n (ls' := [(3, .int (nI j)), (0, .ref (ad 0)), (1, .int (nI q)), (2, .int (nI p)), (4, .int (nI j))]) F dX8_firstOther_60 rfl rfl (by decide) rfl ?_
            refine v_iincN (ls' := [(4, .int (nI (j + 1))), (3, .int (nI j)), (0, .ref (ad 0)), (1, .int (nI q)), (2, .int (nI p))]) F 4 dX8_firstOther_61 rfl rfl (by decide) rfl ?_
            refine v_goto (tgt := 9) F dX8_firstOther_64 rfl ?_
            refine v_sub (ls' := [(0, .ref (ad 0)), (1, .int (nI q)), (2, .int (nI p)), (3, .int (nI j)), (4, .int (nI (j + 1)))]) F [2, 3, 4, 1, 0] rfl ?_
            exact ih9 t6 (j + 1) (nI j) (by omega) (by rw [hv6, hs]; rfl) (oth_f hx c4 (by rw [← hr1, ← hr2]; exact c7)) (by omega)
          · skip
            refine v_iconst (x := (-1)) F dX8_firstOther_54 rfl (by decide) ?_
            refine v_goto (tgt := 60) F dX8_firstOther_55 rfl ?_
            refine v_istore_n (ls' := [(3, .int (-1)), (0, .ref (ad 0)), (1, .int (nI q)), (2, .int (nI p)), (4, .int (nI j))]) F dX8_firstOther_60 rfl rfl (by decide) rfl ?_
            refine v_iincN (ls' := [(4, .int (nI (j + 1))), (3, .int (-1)), (0, .ref (ad 0)), (1, .int (nI q)), (2, .int (nI p))]) F 4 dX8_firstOther_61 rfl rfl (by decide) rfl ?_
            refine v_goto (tgt := 9) F dX8_firstOther_64 rfl ?_
            refine v_sub (ls' := [(0, .ref (ad 0)), (1, .int (nI q)), (2, .int (nI p)), (3, .int (-1)), (4, .int (nI (j + 1)))]) F [2, 3, 4, 1, 0] rfl ?_
            exact ih9 t6 (j + 1) (-1) (by omega) (by rw [hv6, hs]; rfl) (oth_s hx c4 (by rw [← hr1, ← hr2]; exact c7)) (by omega)
  refine v_sub (ls' := [(0, .ref (ad 0)), (1, .int (nI q)), (2, .int (nI p)), (3, .int (-1)), (4, .int 0)]) F [2, 3, 4, 1, 0] rfl ?_
  exact L9 _ t1 0 (-1) (Nat.zero_le _) ha1 rfl (Nat.lt_succ_self _)
theorem ok_X8_allBy : vv_oc yX8_allBy 6 2 (ws_ yX8_allBy cX8_allBy 6 (some .int)) := vv_ok.oc (rt := (some .int)) ⟨q1773, q133, by decide +kernel, by decide +kernel⟩
theorem is_X8_allBy : Cond.instanceMethod yX8_allBy ∈ lw_all ∧ Cond.selects RX8 yX8_allBy yX8_allBy ∈ lw_all := ⟨q1772, qs114⟩
set_option maxHeartbeats 4000000 in
theorem cm_X8_allBy {l : Launch} {Kf : State → Prop} {D : va_G} {ad : Nat → Nat} {cI cZ : ClassId} {A : Nat → Prop} (G : mG A Kf D cI cZ)  (σ : mS) (z : Int32) (n : Nat) (hw : Wf (ab σ)) (hn : n ≤ 30) : vv_Ct l yX8_allBy (ws_ yX8_allBy cX8_allBy 6 (some .int)) (rm 45 998) Kf (mWd D ad cI cZ A) A [.ref (ad 0), .int z, .int (nI n)] σ (vv_i (draV (ab σ) z n) (fun u => nb u = nb σ)) := by
  refine vv_of (by decide +kernel) (Nat.le_of_ble_eq_true rfl) ?_
  intro v (F : vv_F v l cX8_allBy 6 RX8 "allBy" (some .int) [] (rm 45 998) Kf (mWd D ad cI cZ A) A _)
  show v σ 0 0 0 [(0, .ref (ad 0)), (1, .int z), (2, .int (nI n))] []
  have hM : σ 0 13 = nI (tn (σ 0 13)) := hw.1.1.1
  have hM8 : tn (σ 0 13) ≤ 8 := hw.1.1.2
  refine v_aload_n F 0 dX8_allBy_0 rfl rfl rfl ?_
  refine m_calln F G (cm_X8_laysAside G σ) ok_X8_laysAside q1679 is_X8_laysAside rfl rfl dX8_allBy_1 rfl rfl ?_
  intro t1 ha1
  refine v_iload_n F 1 dX8_allBy_4 rfl rfl rfl ?_
  refine v_istore_n (ls' := [(3, .int z), (0, .ref (ad 0)), (1, .int z), (2, .int (nI n))]) F dX8_allBy_5 rfl rfl (by decide) rfl ?_
  refine v_iconst (x := 0) F dX8_allBy_6 rfl (by decide) ?_
  refine v_istore (ls' := [(4, .int 0), (3, .int z), (0, .ref (ad 0)), (1, .int z), (2, .int (nI n))]) F dX8_allBy_7 rfl (by decide) rfl ?_
  have L9 : ∀ (nf : Nat) (s : mS) (x : Int32) (j : Nat) (hj : j ≤ n) (hs : (ab s, x) = draY (asd (ab σ)) z j) (hnf : n - j < nf), v s 0 0 9 [(0, .ref (ad 0)), (1, .int z), (2, .int (nI n)), (3, .int x), (4, .int (nI j))] [] := by
    intro nf
    induction nf with
    | zero => intro s x j hj hs hnf; exact absurd hnf (Nat.not_lt_zero _)
    | succ nf ih9 =>
      intro s x j hj hs hnf
      have hs1 : ab s = (draY (asd (ab σ)) z j).1 := by rw [← hs]
      have hs2 : x = (draY (asd (ab σ)) z j).2 := by rw [← hs]
      have hr0 : onlyR (asd (ab σ)) (ab s) := by rw [hs1]; exact draY_r j
      have hws : Wf (ab s) := by rw [hs1]; exact draY_wf (wf_asd hw) j
      have h13 : s 0 13 = σ 0 13 := hr0.M
      refine v_iload F 4 dX8_allBy_9 rfl rfl ?_
      refine v_iload_n F 2 dX8_allBy_11 rfl rfl rfl ?_
      refine v_icmp_geN (a := j) (b := n) (tgt := 89) (q := 15) F dX8_allBy_12 rfl rfl (by omega) (by omega) (fun c2 => ?_) (fun c2 => ?_)
      · skip
        refine v_aload_n F 0 dX8_allBy_89 rfl rfl rfl ?_
        refine m_calli F G (cm_X8_all G s (by rw [h13]; exact hM) (by rw [h13]; exact hM8)) ok_X8_all q1668 is_X8_all rfl rfl dX8_allBy_90 rfl rfl ?_
        intro u0 hu0; subst u0
        refine v_istore (ls' := [(4, .int (allV (ab s))), (0, .ref (ad 0)), (1, .int z), (2, .int (nI n)), (3, .int x)]) F dX8_allBy_93 rfl (by decide) rfl ?_
        refine v_aload_n F 1 dX8_allBy_95 rfl rfl rfl ?_
        refine m_calln F G (cm_X8_laysBack G s) ok_X8_laysBack q1695 is_X8_laysBack rfl rfl dX8_allBy_96 rfl rfl ?_
        intro t3 hk3
        refine v_iload F 0 dX8_allBy_99 rfl rfl ?_
        exact v_reti F dX8_allBy_101 rfl (by rw [hs1, show j = n by omega]; exact dra_eq2 nas z n) (nb_back2 hw hr0 hk3)
      · skip
        refine v_iconst (x := 0) F dX8_allBy_15 rfl (by decide) ?_
        refine v_istore (ls' := [(5, .int 0), (0, .ref (ad 0)), (1, .int z), (2, .int (nI n)), (3, .int x), (4, .int (nI j))]) F dX8_allBy_16 rfl (by decide) rfl ?_
        have L18 : ∀ (nf : Nat) (c : mS) (y : Int32) (p : Nat) (hpM : p ≤ tn (σ 0 13)) (hc : (ab c, y) = draN (ab s) x p) (hnf : tn (σ 0 13) - p < nf), v c 0 0 18 [(0, .ref (ad 0)), (1, .int z), (2, .int (nI n)), (3, .int y), (4, .int (nI j)), (5, .int (nI p))] [] := by
          intro nf
          induction nf with
          | zero => intro c y p hpM hc hnf; exact absurd hnf (Nat.not_lt_zero _)
          | succ nf ih18 =>
            intro c y p hpM hc hnf
            have hc1 : ab c = (draN (ab s) x p).1 := by rw [← hc]
            have hc2 : y = (draN (ab s) x p).2 := by rw [← hc]
            have hrc : onlyR (ab s) (ab c) := by rw [hc1]; exact draN_r p (by show p ≤ tn (s 0 13); rw [h13]; exact hpM)
            have h13c : c 0 13 = nI (tn (σ 0 13)) := (hrc.M.trans h13).trans hM
            have hwc : Wf (ab c) := by rw [hc1]; exact draN_wf hws p
            refine v_iload F 5 dX8_allBy_18 rfl rfl ?_
            refine v_aload_n F 0 dX8_allBy_20 rfl rfl rfl ?_
            refine m_get F G 13 (w := .int (c 0 13)) (by decide) q1266 rfl dX8_allBy_21 rfl ?_
            refine v_int F (h13c) ?_
            refine v_icmp_geN (a := p) (b := tn (σ 0 13)) (tgt := 79) (q := 27) F dX8_allBy_24 rfl rfl (by omega) (by omega) (fun c4 => ?_) (fun c4 => ?_)
            · skip
              refine v_aload_n F 0 dX8_allBy_79 rfl rfl rfl ?_
              refine m_calln F G (cm_X8_lives G c hwc) ok_X8_lives q1664 is_X8_lives rfl rfl dX8_allBy_80 rfl rfl ?_
              intro t5 hv5
              refine v_iincN (ls' := [(4, .int (nI (j + 1))), (0, .ref (ad 0)), (1, .int z), (2, .int (nI n)), (3, .int y), (5, .int (nI p))]) F 4 dX8_allBy_83 rfl rfl (by decide) rfl ?_
              refine v_goto (tgt := 9) F dX8_allBy_86 rfl ?_
              refine v_sub (ls' := [(0, .ref (ad 0)), (1, .int z), (2, .int (nI n)), (3, .int y), (4, .int (nI (j + 1)))]) F [1, 2, 3, 4, 0] rfl ?_
              exact ih9 t5 y (j + 1) (by omega) (by rw [hv5, hc1, hc2, all_end c4 hpM]; show _ = (livS (draN (draY (asd (ab σ)) z j).1 (draY (asd (ab σ)) z j).2 (tn (σ 0 13))).1, (draN (draY (asd (ab σ)) z j).1 (draY (asd (ab σ)) z j).2 (tn (σ 0 13))).2); rw [hs1, hs2]) (by omega)
            · skip
              refine v_iload_n F 3 dX8_allBy_27 rfl rfl rfl ?_
              refine v_ldcw F q1774 dX8_allBy_28 rfl ?_
              refine v_imul F dX8_allBy_31 rfl ?_
              refine v_sipush (x := 12345) F dX8_allBy_32 rfl (by decide) ?_
              refine v_iadd F dX8_allBy_35 rfl ?_
              refine v_istore_n (ls' := [(3, .int ((y * 1103515245) + 12345)), (0, .ref (ad 0)), (1, .int z), (2, .int (nI n)), (4, .int (nI j)), (5, .int (nI p))]) F dX8_allBy_36 rfl rfl (by decide) rfl ?_
              refine v_aload_n F 1 dX8_allBy_37 rfl rfl rfl ?_
              refine m_get F G 12 (w := .ref (ad 12)) (by decide) q1265 rfl dX8_allBy_38 rfl ?_
              refine v_iconst (x := 3) F dX8_allBy_41 rfl (by decide) ?_
              refine v_iload F 5 dX8_allBy_42 rfl rfl ?_
              refine v_imulN (a := 3) (b := p) F dX8_allBy_44 rfl ?_
              refine v_iconst (x := 2) F dX8_allBy_45 rfl (by decide) ?_
              refine v_iaddN (a := 3 * p) (b := 2) F dX8_allBy_46 rfl ?_
              refine v_aload_n F 1 dX8_allBy_47 rfl rfl rfl ?_
              refine m_get F G 12 (w := .ref (ad 12)) (by decide) q1265 rfl dX8_allBy_48 rfl ?_
              refine v_iconst (x := 3) F dX8_allBy_51 rfl (by decide) ?_
              refine v_iload F 5 dX8_allBy_52 rfl rfl ?_
              refine v_imulN (a := 3) (b := p) F dX8_allBy_54 rfl ?_
              refine v_iconst (x := 2) F dX8_allBy_55 rfl (by decide) ?_
              refine v_iaddN (a := 3 * p) (b := 2) F dX8_allBy_56 rfl ?_
              refine m_ald12 (t := (3 * p) + 2) F G (by omega) dX8_allBy_57 rfl ?_
              refine v_iload_n F 0 dX8_allBy_58 rfl rfl rfl ?_
              refine v_bipush (x := 9) F dX8_allBy_59 rfl (by decide) ?_
              refine v_iushr F dX8_allBy_61 rfl ?_
              refine v_iconst (x := 4) F dX8_allBy_62 rfl (by decide) ?_
              refine v_irem F dX8_allBy_63 rfl (by decide) ?_
              refine v_isub F dX8_allBy_64 rfl ?_
              refine v_iconst (x := 0) F dX8_allBy_65 rfl (by decide) ?_
              refine v_sipush (x := 9999) F dX8_allBy_66 rfl (by decide) ?_
              refine s_calli F G.1 (cm_X8_within G c ((c 12 ((3 * p) + 2)) - (((((y * 1103515245) + 12345).toUInt32 >>> (Int32.toUInt32 9 &&& Int32.toUInt32 31)).toInt32) - ((((y * 1103515245) + 12345).toUInt32 >>> (Int32.toUInt32 9 &&& Int32.toUInt32 31)).toInt32) / 4 * 4)) 0 9999 ) ok_X8_within q1607 q1608 rfl rfl dX8_allBy_69 rfl rfl ?_
              intro u0 hu0; subst u0
              refine m_ast12 (t := (3 * p) + 2) F G (by omega) dX8_allBy_72 rfl ?_
              refine v_iincN (ls' := [(5, .int (nI (p + 1))), (3, .int ((y * 1103515245) + 12345)), (0, .ref (ad 0)), (1, .int z), (2, .int (nI n)), (4, .int (nI j))]) F 5 dX8_allBy_73 rfl rfl (by decide) rfl ?_
              refine v_goto (tgt := 18) F dX8_allBy_76 rfl ?_
              refine v_sub (ls' := [(0, .ref (ad 0)), (1, .int z), (2, .int (nI n)), (3, .int ((y * 1103515245) + 12345)), (4, .int (nI j)), (5, .int (nI (p + 1)))]) F [2, 3, 4, 1, 5, 0] rfl ?_
              exact ih18 (up c 12 ((3 * p) + 2) (cl ((c 12 ((3 * p) + 2)) - (((((y * 1103515245) + 12345).toUInt32 >>> (Int32.toUInt32 9 &&& Int32.toUInt32 31)).toInt32) - ((((y * 1103515245) + 12345).toUInt32 >>> (Int32.toUInt32 9 &&& Int32.toUInt32 31)).toInt32) / 4 * 4)) 0 9999)) (y * 1103515245 + 12345) (p + 1) (by omega) (by rw [ab_u rfl]; show _ = (up (draN (ab s) x p).1 12 (3 * p + 2) (cl ((draN (ab s) x p).1 12 (3 * p + 2) - cut4 (rnd (draN (ab s) x p).2)) 0 9999), rnd (draN (ab s) x p).2); rw [← hc1, ← hc2]; rfl) (by omega)
        refine v_sub (ls' := [(0, .ref (ad 0)), (1, .int z), (2, .int (nI n)), (3, .int x), (4, .int (nI j)), (5, .int 0)]) F [1, 2, 3, 4, 5, 0] rfl ?_
        exact L18 _ s x 0 (Nat.zero_le _) rfl (Nat.lt_succ_self _)
  refine v_sub (ls' := [(0, .ref (ad 0)), (1, .int z), (2, .int (nI n)), (3, .int z), (4, .int 0)]) F [2, 3, 4, 1, 0] rfl ?_
  exact L9 _ t1 z 0 (Nat.zero_le _) (by rw [ha1]; rfl) (Nat.lt_succ_self _)
def drnR (α : mS) (z n : Int32) : Int32 := if 0 ≤ n ∧ n ≤ 30 then draV α z (tn n) else -2
theorem ok_X8_drawn : vv_oc yX8_drawn 3 2 (ws_ yX8_drawn cX8_drawn 3 (some .int)) := vv_ok.oc (rt := (some .int)) ⟨q1769, q133, by decide +kernel, by decide +kernel⟩
theorem is_X8_drawn : Cond.instanceMethod yX8_drawn ∈ lw_all ∧ Cond.selects RX8 yX8_drawn yX8_drawn ∈ lw_all := ⟨q1767, q1768⟩
set_option maxHeartbeats 4000000 in
theorem cm_X8_drawn {l : Launch} {Kf : State → Prop} {D : va_G} {ad : Nat → Nat} {cI cZ : ClassId} {A : Nat → Prop} (G : mG A Kf D cI cZ)  (σ : mS) (z : Int32) (n : Int32) (hw : Wf (ab σ)) : vv_Ct l yX8_drawn (ws_ yX8_drawn cX8_drawn 3 (some .int)) (rm 46 1023) Kf (mWd D ad cI cZ A) A [.ref (ad 0), .int z, .int n] σ (vv_i (drnR (ab σ) z n) (fun u => nb u = nb σ)) := by
  refine vv_of (by decide +kernel) (Nat.le_of_ble_eq_true rfl) ?_
  intro v (F : vv_F v l cX8_drawn 3 RX8 "drawn" (some .int) [] (rm 46 1023) Kf (mWd D ad cI cZ A) A _)
  show v σ 0 0 0 [(0, .ref (ad 0)), (1, .int z), (2, .int n)] []
  have hM : σ 0 13 = nI (tn (σ 0 13)) := hw.1.1.1
  have hM8 : tn (σ 0 13) ≤ 8 := hw.1.1.2
  refine v_iload_n F 2 dX8_drawn_0 rfl rfl rfl ?_
  refine v_i2l F dX8_drawn_1 rfl ?_
  refine v_lconst (x := (0 : Int32).toInt64) F dX8_drawn_2 rfl (by decide) ?_
  refine v_ldc2 F q1676 dX8_drawn_3 rfl ?_
  refine v_lng (y := (30 : Int32).toInt64) F (by decide) ?_
  refine s_calli F G.1 (cm_X8_in G σ n 0 30 ) ok_X8_in q1386 q1387 rfl rfl dX8_drawn_6 rfl rfl ?_
  intro u0 hu0; subst u0
  refine v_if_eqB (p := (0 ≤ n ∧ n ≤ 30)) (tgt := 21) (q := 12) F dX8_drawn_9 rfl rfl (fun c1 => ?_) (fun c1 => ?_)
  · skip
    refine v_bipush (x := (-2)) F dX8_drawn_21 rfl (by decide) ?_
    exact v_reti F dX8_drawn_23 rfl (by unfold drnR; rw [if_neg (show ¬ (0 ≤ n ∧ n ≤ 30) from c1)]) (rfl)
  · skip
    obtain ⟨m, hm, hnm⟩ := in_of (M := 30) (n := 30) (by decide) c1
    have htn : tn n = m := by rw [hnm, tn_nI (by omega)]
    refine v_aload_n F 0 dX8_drawn_12 rfl rfl rfl ?_
    refine v_iload_n F 1 dX8_drawn_13 rfl rfl rfl ?_
    refine v_iload_n F 2 dX8_drawn_14 rfl rfl rfl ?_
    refine v_int F (hnm) ?_
    refine m_calli F G (cm_X8_allBy G σ z m hw hm) ok_X8_allBy q1770 is_X8_allBy rfl rfl dX8_drawn_15 rfl rfl ?_
    intro t2 hq2
    refine v_goto (tgt := 23) F dX8_drawn_18 rfl ?_
    exact v_reti F dX8_drawn_23 rfl (by unfold drnR; rw [if_pos c1, htn]) (hq2)
