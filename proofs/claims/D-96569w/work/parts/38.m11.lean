set_option maxRecDepth 100000
theorem ok_X8_over : vv_oc yX8_over 1 1 (ws_ yX8_over cX8_over 1 (some .int)) := vv_ok.oc (rt := (some .int)) ⟨q1812, q133, by decide +kernel, by decide +kernel⟩
set_option maxHeartbeats 4000000 in
theorem cm_X8_over {l : Launch} {Kf : State → Prop} {D : va_G} {ad : Nat → Nat} {cI cZ : ClassId} {A : Nat → Prop} (G : mG A Kf D cI cZ)  (σ : mS) (x : Int32)  : vv_Ct l yX8_over (ws_ yX8_over cX8_over 1 (some .int)) (rm 0 0) Kf (mWd D ad cI cZ A) A [.int x] σ (vv_i (ovr x) (fun u => u = σ)) := by
  refine vv_of (by decide +kernel) (Nat.le_of_ble_eq_true rfl) ?_
  intro v (F : vv_F v l cX8_over 1 RX8 "over" (some .int) [] (rm 0 0) Kf (mWd D ad cI cZ A) A _)
  show v σ 0 0 0 [(0, .int x)] []
  refine v_iload_n F 0 dX8_over_0 rfl rfl rfl ?_
  refine v_if_ne (tgt := 8) (q := 4) F dX8_over_1 rfl rfl (fun c1 => ?_) (fun c1 => ?_)
  · skip
    refine v_iload_n F 0 dX8_over_8 rfl rfl rfl ?_
    refine v_iconst (x := 3) F dX8_over_9 rfl (by decide) ?_
    refine v_icmp_ne (tgt := 17) (q := 13) F dX8_over_10 rfl rfl (fun c2 => ?_) (fun c2 => ?_)
    · skip
      refine v_iload_n F 0 dX8_over_17 rfl rfl rfl ?_
      refine v_iconst (x := 4) F dX8_over_18 rfl (by decide) ?_
      refine v_icmp_ne (tgt := 26) (q := 22) F dX8_over_19 rfl rfl (fun c3 => ?_) (fun c3 => ?_)
      · skip
        refine v_iconst (x := 0) F dX8_over_26 rfl (by decide) ?_
        exact v_reti F dX8_over_27 rfl (by unfold ovr; first | (simp [c1, c2, c3]; done) | grind) (rfl)
      · skip
        refine v_iconst (x := 2) F dX8_over_22 rfl (by decide) ?_
        refine v_goto (tgt := 27) F dX8_over_23 rfl ?_
        exact v_reti F dX8_over_27 rfl (by unfold ovr; first | (simp [c1, c2, c3]; done) | grind) (rfl)
    · skip
      refine v_iconst (x := 1) F dX8_over_13 rfl (by decide) ?_
      refine v_goto (tgt := 27) F dX8_over_14 rfl ?_
      exact v_reti F dX8_over_27 rfl (by unfold ovr; first | (simp [c1, c2]; done) | grind) (rfl)
  · skip
    refine v_iconst (x := (-1)) F dX8_over_4 rfl (by decide) ?_
    refine v_goto (tgt := 27) F dX8_over_5 rfl ?_
    exact v_reti F dX8_over_27 rfl (by unfold ovr; first | (simp [c1]; done) | grind) (rfl)
theorem ok_X8_taken : vv_oc yX8_taken 4 2 (ws_ yX8_taken cX8_taken 4 (some .int)) := vv_ok.oc (rt := (some .int)) ⟨q1809, q133, by decide +kernel, by decide +kernel⟩
theorem is_X8_taken : Cond.instanceMethod yX8_taken ∈ lw_all ∧ Cond.selects RX8 yX8_taken yX8_taken ∈ lw_all := ⟨q1807, q1808⟩
set_option maxHeartbeats 4000000 in
theorem cm_X8_taken {l : Launch} {Kf : State → Prop} {D : va_G} {ad : Nat → Nat} {cI cZ : ClassId} {A : Nat → Prop} (G : mG A Kf D cI cZ)  (σ : mS) (o : Int32) (k : Int32) (hM : σ 0 13 = nI (tn (σ 0 13))) (hM8 : tn (σ 0 13) ≤ 8) (hK : ∀ p, p < tn (σ 0 13) → okN (σ 11 p) 5) : vv_Ct l yX8_taken (ws_ yX8_taken cX8_taken 4 (some .int)) (rm 2 46) Kf (mWd D ad cI cZ A) A [.ref (ad 0), .int o, .int k] σ (vv_i (takR (ab σ) o k) (fun u => u = σ)) := by
  refine vv_of (by decide +kernel) (Nat.le_of_ble_eq_true rfl) ?_
  intro v (F : vv_F v l cX8_taken 4 RX8 "taken" (some .int) [] (rm 2 46) Kf (mWd D ad cI cZ A) A _)
  show v σ 0 0 0 [(0, .ref (ad 0)), (1, .int o), (2, .int k)] []
  refine v_iload_n F 2 dX8_taken_0 rfl rfl rfl ?_
  refine v_i2l F dX8_taken_1 rfl ?_
  refine v_lconst (x := (0 : Int32).toInt64) F dX8_taken_2 rfl (by decide) ?_
  refine v_ldc2 F q1385 dX8_taken_3 rfl ?_
  refine v_lng (y := (5 : Int32).toInt64) F (by decide) ?_
  refine s_calli F G.1 (cm_X8_in G σ k 0 5 ) ok_X8_in q1386 q1387 rfl rfl dX8_taken_6 rfl rfl ?_
  intro u0 hu0; subst u0
  refine v_if_neB (p := (0 ≤ k ∧ k ≤ 5)) (tgt := 15) (q := 12) F dX8_taken_9 rfl rfl (fun c1 => ?_) (fun c1 => ?_)
  · skip
    refine v_aload_n F 0 dX8_taken_15 rfl rfl rfl ?_
    refine v_iload_n F 1 dX8_taken_16 rfl rfl rfl ?_
    refine m_calli F G (cm_X8_isPlanting G σ o ) ok_X8_isPlanting q1397 is_X8_isPlanting rfl rfl dX8_taken_17 rfl rfl ?_
    intro u0 hu0; subst u0
    refine v_if_neB (p := (0 ≤ o ∧ o ≤ σ 0 13 - 1)) (tgt := 26) (q := 23) F dX8_taken_20 rfl rfl (fun c2 => ?_) (fun c2 => ?_)
    · skip
      obtain ⟨b, hb, hkb⟩ := in_of (M := 5) (n := 5) (by decide) c1
      have htk : tn k = b := by rw [hkb, tn_nI (by omega)]
      obtain ⟨p, hp, hop⟩ := pl_of hM hM8 c2
      have htp : tn o = p := by rw [hop, tn_nI (by omega)]
      have hkn : ¬ k = -1 := by rw [hkb]; exact nI_m1 (by omega)
      refine v_aload_n F 0 dX8_taken_26 rfl rfl rfl ?_
      refine m_get F G 11 (w := .ref (ad 11)) (by decide) q1264 rfl dX8_taken_27 rfl ?_
      refine v_iload_n F 1 dX8_taken_30 rfl rfl rfl ?_
      refine v_int F (hop) ?_
      refine m_ald11 (t := p) F G (by omega) dX8_taken_31 rfl ?_
      refine v_istore_n (ls' := [(3, .int (σ 11 p)), (0, .ref (ad 0)), (1, .int o), (2, .int k)]) F dX8_taken_32 rfl rfl (by decide) rfl ?_
      have L33 : ∀ (nf : Nat) (x : Int32) (hx : tkI (σ 11 p) k x) (hnf : rnk x < nf), v σ 0 0 33 [(0, .ref (ad 0)), (1, .int o), (2, .int k), (3, .int x)] [] := by
        intro nf
        induction nf with
        | zero => intro x hx hnf; exact absurd hnf (Nat.not_lt_zero _)
        | succ nf ih33 =>
          intro x hx hnf
          refine v_iload_n F 3 dX8_taken_33 rfl rfl rfl ?_
          refine v_iconst (x := (-1)) F dX8_taken_34 rfl (by decide) ?_
          refine v_icmp_eq (tgt := 51) (q := 38) F dX8_taken_35 rfl rfl (fun c3 => ?_) (fun c3 => ?_)
          · skip
            refine v_iload_n F 3 dX8_taken_51 rfl rfl rfl ?_
            refine v_iload_n F 2 dX8_taken_52 rfl rfl rfl ?_
            refine v_icmp_ne (tgt := 67) (q := 56) F dX8_taken_53 rfl rfl (fun c4 => ?_) (fun c4 => ?_)
            · skip
              refine v_bipush (x := (-13)) F dX8_taken_67 rfl (by decide) ?_
              exact v_reti F dX8_taken_69 rfl (by unfold takR; rw [if_neg (fun h => h c1), if_neg (fun h => h (show 0 ≤ o ∧ o ≤ ab σ 0 13 - 1 from c2)), htp, if_neg (show ¬ isK (ab σ 11 p) k from tkI_no hx c4 (by first | exact c3 | exact absurd c4 c4))]) (rfl)
            · skip
              refine v_aload_n F 0 dX8_taken_56 rfl rfl rfl ?_
              refine m_get F G 12 (w := .ref (ad 12)) (by decide) q1265 rfl dX8_taken_57 rfl ?_
              refine v_iconst (x := 3) F dX8_taken_60 rfl (by decide) ?_
              refine v_iload_n F 1 dX8_taken_61 rfl rfl rfl ?_
              refine v_int F (hop) ?_
              refine v_imulN (a := 3) (b := p) F dX8_taken_62 rfl ?_
              refine m_ald12 (t := 3 * p) F G (by omega) dX8_taken_63 rfl ?_
              refine v_goto (tgt := 69) F dX8_taken_64 rfl ?_
              exact v_reti F dX8_taken_69 rfl (by unfold takR; rw [if_neg (fun h => h c1), if_neg (fun h => h (show 0 ≤ o ∧ o ≤ ab σ 0 13 - 1 from c2)), htp, if_pos (show isK (ab σ 11 p) k from tkI_end hx c4 hkn)]; rfl) (rfl)
          · skip
            refine v_iload_n F 3 dX8_taken_38 rfl rfl rfl ?_
            refine v_iload_n F 2 dX8_taken_39 rfl rfl rfl ?_
            refine v_icmp_eq (tgt := 51) (q := 43) F dX8_taken_40 rfl rfl (fun c5 => ?_) (fun c5 => ?_)
            · skip
              refine v_iload_n F 3 dX8_taken_51 rfl rfl rfl ?_
              refine v_iload_n F 2 dX8_taken_52 rfl rfl rfl ?_
              refine v_icmp_ne (tgt := 67) (q := 56) F dX8_taken_53 rfl rfl (fun c6 => ?_) (fun c6 => ?_)
              · skip
                refine v_bipush (x := (-13)) F dX8_taken_67 rfl (by decide) ?_
                exact v_reti F dX8_taken_69 rfl (by unfold takR; rw [if_neg (fun h => h c1), if_neg (fun h => h (show 0 ≤ o ∧ o ≤ ab σ 0 13 - 1 from c2)), htp, if_neg (show ¬ isK (ab σ 11 p) k from tkI_no hx c6 (by first | exact c3 | exact absurd c5 c6))]) (rfl)
              · skip
                refine v_aload_n F 0 dX8_taken_56 rfl rfl rfl ?_
                refine m_get F G 12 (w := .ref (ad 12)) (by decide) q1265 rfl dX8_taken_57 rfl ?_
                refine v_iconst (x := 3) F dX8_taken_60 rfl (by decide) ?_
                refine v_iload_n F 1 dX8_taken_61 rfl rfl rfl ?_
                refine v_int F (hop) ?_
                refine v_imulN (a := 3) (b := p) F dX8_taken_62 rfl ?_
                refine m_ald12 (t := 3 * p) F G (by omega) dX8_taken_63 rfl ?_
                refine v_goto (tgt := 69) F dX8_taken_64 rfl ?_
                exact v_reti F dX8_taken_69 rfl (by unfold takR; rw [if_neg (fun h => h c1), if_neg (fun h => h (show 0 ≤ o ∧ o ≤ ab σ 0 13 - 1 from c2)), htp, if_pos (show isK (ab σ 11 p) k from tkI_end hx c6 hkn)]; rfl) (rfl)
            · skip
              refine v_iload_n F 3 dX8_taken_43 rfl rfl rfl ?_
              refine s_calli F G.1 (cm_X8_over G σ x ) ok_X8_over q1810 q1811 rfl rfl dX8_taken_44 rfl rfl ?_
              intro u0 hu0; subst u0
              refine v_istore_n (ls' := [(3, .int (ovr x)), (0, .ref (ad 0)), (1, .int o), (2, .int k)]) F dX8_taken_47 rfl rfl (by decide) rfl ?_
              refine v_goto (tgt := 33) F dX8_taken_48 rfl ?_
              refine v_sub (ls' := [(0, .ref (ad 0)), (1, .int o), (2, .int k), (3, .int (ovr x))]) F [1, 2, 3, 0] rfl ?_
              exact ih33 (ovr x) ((tkI_step (b := b) (by omega) hkb hx c3 c5).1) (Nat.lt_of_lt_of_le (tkI_step (b := b) (by omega) hkb hx (by assumption) (by assumption)).2 (by omega))
      refine v_sub (ls' := [(0, .ref (ad 0)), (1, .int o), (2, .int k), (3, .int (σ 11 p))]) F [1, 2, 3, 0] rfl ?_
      exact L33 _ (σ 11 p) (Or.inr ⟨⟨tn (σ 11 p), by have := (hK p hp).2; omega, (hK p hp).1⟩, Iff.rfl⟩) (Nat.lt_succ_self _)
    · skip
      refine v_bipush (x := (-11)) F dX8_taken_23 rfl (by decide) ?_
      exact v_reti F dX8_taken_25 rfl (by unfold takR; rw [if_neg (fun h => h c1), if_pos (show ¬ (0 ≤ o ∧ o ≤ ab σ 0 13 - 1) from c2)]) (rfl)
  · skip
    refine v_bipush (x := (-2)) F dX8_taken_12 rfl (by decide) ?_
    exact v_reti F dX8_taken_14 rfl (by unfold takR; rw [if_pos (show ¬ (0 ≤ k ∧ k ≤ 5) from c1)]) (rfl)
theorem ok_X8_count : vv_oc yX8_count 2 1 (ws_ yX8_count cX8_count 2 (some .int)) := vv_ok.oc (rt := (some .int)) ⟨q1791, q133, by decide +kernel, by decide +kernel⟩
theorem is_X8_count : Cond.instanceMethod yX8_count ∈ lw_all ∧ Cond.selects RX8 yX8_count yX8_count ∈ lw_all := ⟨q1789, q1790⟩
set_option maxHeartbeats 4000000 in
theorem cm_X8_count {l : Launch} {Kf : State → Prop} {D : va_G} {ad : Nat → Nat} {cI cZ : ClassId} {A : Nat → Prop} (G : mG A Kf D cI cZ)  (σ : mS) (w : Int32) (hM : σ 0 13 = nI (tn (σ 0 13))) (hM8 : tn (σ 0 13) ≤ 8) : vv_Ct l yX8_count (ws_ yX8_count cX8_count 2 (some .int)) (rm 3 68) Kf (mWd D ad cI cZ A) A [.ref (ad 0), .int w] σ (vv_i (couR (ab σ) w) (fun u => u = σ)) := by
  refine vv_of (by decide +kernel) (Nat.le_of_ble_eq_true rfl) ?_
  intro v (F : vv_F v l cX8_count 2 RX8 "count" (some .int) [] (rm 3 68) Kf (mWd D ad cI cZ A) A _)
  show v σ 0 0 0 [(0, .ref (ad 0)), (1, .int w)] []
  refine v_iload_n F 1 dX8_count_0 rfl rfl rfl ?_
  refine v_i2l F dX8_count_1 rfl ?_
  refine v_lconst (x := (0 : Int32).toInt64) F dX8_count_2 rfl (by decide) ?_
  refine v_ldc2 F q1752 dX8_count_3 rfl ?_
  refine v_lng (y := (6 : Int32).toInt64) F (by decide) ?_
  refine s_calli F G.1 (cm_X8_in G σ w 0 6 ) ok_X8_in q1386 q1387 rfl rfl dX8_count_6 rfl rfl ?_
  intro u0 hu0; subst u0
  refine v_if_neB (p := (0 ≤ w ∧ w ≤ 6)) (tgt := 15) (q := 12) F dX8_count_9 rfl rfl (fun c1 => ?_) (fun c1 => ?_)
  · skip
    refine v_iload_n F 1 dX8_count_15 rfl rfl rfl ?_
    refine v_iconst (x := 3) F dX8_count_16 rfl (by decide) ?_
    refine v_icmp_ge (tgt := 48) (q := 20) F dX8_count_17 rfl rfl (fun c2 => ?_) (fun c2 => ?_)
    · skip
      refine v_iload_n F 1 dX8_count_48 rfl rfl rfl ?_
      refine v_iconst (x := 3) F dX8_count_49 rfl (by decide) ?_
      refine v_icmp_ne (tgt := 60) (q := 53) F dX8_count_50 rfl rfl (fun c3 => ?_) (fun c3 => ?_)
      · skip
        refine v_iload_n F 1 dX8_count_60 rfl rfl rfl ?_
        refine v_iconst (x := 4) F dX8_count_61 rfl (by decide) ?_
        refine v_icmp_ne (tgt := 72) (q := 65) F dX8_count_62 rfl rfl (fun c4 => ?_) (fun c4 => ?_)
        · skip
          refine v_iload_n F 1 dX8_count_72 rfl rfl rfl ?_
          refine v_iconst (x := 5) F dX8_count_73 rfl (by decide) ?_
          refine v_icmp_ne (tgt := 84) (q := 77) F dX8_count_74 rfl rfl (fun c5 => ?_) (fun c5 => ?_)
          · skip
            refine v_aload_n F 0 dX8_count_84 rfl rfl rfl ?_
            refine m_get F G 4 (w := .int (σ 0 4)) (by decide) q1257 rfl dX8_count_85 rfl ?_
            exact v_reti F dX8_count_88 rfl ((couR_6 (α := ab σ) (w := w) (by grind)).symm) (rfl)
          · skip
            refine v_aload_n F 0 dX8_count_77 rfl rfl rfl ?_
            refine m_get F G 6 (w := .int (σ 0 6)) (by decide) q1259 rfl dX8_count_78 rfl ?_
            refine v_goto (tgt := 88) F dX8_count_81 rfl ?_
            exact v_reti F dX8_count_88 rfl ((couR_5 (α := ab σ) (w := w) (by grind)).symm) (rfl)
        · skip
          refine v_aload_n F 0 dX8_count_65 rfl rfl rfl ?_
          refine m_get F G 3 (w := .int (σ 0 3)) (by decide) q1256 rfl dX8_count_66 rfl ?_
          refine v_goto (tgt := 88) F dX8_count_69 rfl ?_
          exact v_reti F dX8_count_88 rfl ((couR_4 (α := ab σ) (w := w) (by grind)).symm) (rfl)
      · skip
        refine v_aload_n F 0 dX8_count_53 rfl rfl rfl ?_
        refine m_get F G 9 (w := .int (σ 0 9)) (by decide) q1262 rfl dX8_count_54 rfl ?_
        refine v_goto (tgt := 88) F dX8_count_57 rfl ?_
        exact v_reti F dX8_count_88 rfl ((couR_3 (α := ab σ) (w := w) (by grind)).symm) (rfl)
    · skip
      refine v_iload_n F 1 dX8_count_20 rfl rfl rfl ?_
      refine v_if_ne (tgt := 31) (q := 24) F dX8_count_21 rfl rfl (fun c6 => ?_) (fun c6 => ?_)
      · skip
        refine v_iload_n F 1 dX8_count_31 rfl rfl rfl ?_
        refine v_iconst (x := 1) F dX8_count_32 rfl (by decide) ?_
        refine v_icmp_ne (tgt := 43) (q := 36) F dX8_count_33 rfl rfl (fun c7 => ?_) (fun c7 => ?_)
        · skip
          refine v_aload_n F 0 dX8_count_43 rfl rfl rfl ?_
          refine m_calli F G (cm_X8_bloom G σ hM hM8) ok_X8_bloom q1687 is_X8_bloom rfl rfl dX8_count_44 rfl rfl ?_
          intro u0 hu0; subst u0
          exact v_reti F dX8_count_47 rfl ((couR_2 (α := ab σ) (w := w) (by grind)).symm) (rfl)
        · skip
          refine v_aload_n F 0 dX8_count_36 rfl rfl rfl ?_
          refine m_calli F G (cm_X8_all G σ hM hM8) ok_X8_all q1668 is_X8_all rfl rfl dX8_count_37 rfl rfl ?_
          intro u0 hu0; subst u0
          refine v_goto (tgt := 47) F dX8_count_40 rfl ?_
          exact v_reti F dX8_count_47 rfl ((couR_1 (α := ab σ) (w := w) (by grind)).symm) (rfl)
      · skip
        refine v_aload_n F 0 dX8_count_24 rfl rfl rfl ?_
        refine m_get F G 13 (w := .int (σ 0 13)) (by decide) q1266 rfl dX8_count_25 rfl ?_
        refine v_goto (tgt := 47) F dX8_count_28 rfl ?_
        exact v_reti F dX8_count_47 rfl ((couR_0 (α := ab σ) (w := w) (by grind)).symm) (rfl)
  · skip
    refine v_bipush (x := (-2)) F dX8_count_12 rfl (by decide) ?_
    exact v_reti F dX8_count_14 rfl ((couR_b c1).symm) (rfl)
theorem ok_X8_image : vv_oc yX8_image 2 0 (ws_ yX8_image cX8_image 2 (some .int)) := vv_ok.oc (rt := (some .int)) ⟨q1783, q133, by decide +kernel, by decide +kernel⟩
theorem is_X8_image : Cond.instanceMethod yX8_image ∈ lw_all ∧ Cond.selects RX8 yX8_image yX8_image ∈ lw_all := ⟨q1781, q1782⟩
set_option maxHeartbeats 4000000 in
theorem cm_X8_image {l : Launch} {Kf : State → Prop} {D : va_G} {ad : Nat → Nat} {cI cZ : ClassId} {A : Nat → Prop} (G : mG A Kf D cI cZ)  (σ : mS)   : vv_Ct l yX8_image (ws_ yX8_image cX8_image 2 (some .int)) (rm 0 0) Kf (mWd D ad cI cZ A) A [.ref (ad 0)] σ (vv_i (σ 0 13) (fun u => ab u = imaS (ab σ))) := by
  refine vv_of (by decide +kernel) (Nat.le_of_ble_eq_true rfl) ?_
  intro v (F : vv_F v l cX8_image 2 RX8 "image" (some .int) [] (rm 0 0) Kf (mWd D ad cI cZ A) A _)
  show v σ 0 0 0 [(0, .ref (ad 0))] []
  refine v_iconst (x := 0) F dX8_image_0 rfl (by decide) ?_
  refine v_istore_n (ls' := [(1, .int 0), (0, .ref (ad 0))]) F dX8_image_1 rfl rfl (by decide) rfl ?_
  have L2 : ∀ (nf : Nat) (s : mS) (j : Nat) (hj : j ≤ 8) (hs : asJ 31 10 σ s j) (hnf : 8 - j < nf), v s 0 0 2 [(0, .ref (ad 0)), (1, .int (nI j))] [] := by
    intro nf
    induction nf with
    | zero => intro s j hj hs hnf; exact absurd hnf (Nat.not_lt_zero _)
    | succ nf ih2 =>
      intro s j hj hs hnf
      refine v_iload_n F 1 dX8_image_2 rfl rfl rfl ?_
      refine v_bipush (x := 8) F dX8_image_3 rfl (by decide) ?_
      refine v_icmp_geN (a := j) (b := 8) (tgt := 26) (q := 8) F dX8_image_5 rfl rfl (by omega) (by omega) (fun c1 => ?_) (fun c1 => ?_)
      · skip
        have e1 := asJ_cp (n := 8) hs c1 hj
        refine v_st F e1 ?_
        refine v_iconst (x := 0) F dX8_image_26 rfl (by decide) ?_
        refine v_istore_n (ls' := [(1, .int 0), (0, .ref (ad 0))]) F dX8_image_27 rfl rfl (by decide) rfl ?_
        have L28 : ∀ (nf : Nat) (s : mS) (j : Nat) (hj : j ≤ 24) (hs : asJ 32 12 (cpN 31 10 8 σ) s j) (hnf : 24 - j < nf), v s 0 0 28 [(0, .ref (ad 0)), (1, .int (nI j))] [] := by
          intro nf
          induction nf with
          | zero => intro s j hj hs hnf; exact absurd hnf (Nat.not_lt_zero _)
          | succ nf ih28 =>
            intro s j hj hs hnf
            refine v_iload_n F 1 dX8_image_28 rfl rfl rfl ?_
            refine v_bipush (x := 24) F dX8_image_29 rfl (by decide) ?_
            refine v_icmp_geN (a := j) (b := 24) (tgt := 52) (q := 34) F dX8_image_31 rfl rfl (by omega) (by omega) (fun c2 => ?_) (fun c2 => ?_)
            · skip
              have e2 := asJ_cp (n := 24) hs c2 hj
              refine v_st F e2 ?_
              refine v_aload_n F 0 dX8_image_52 rfl rfl rfl ?_
              refine v_aload_n F 0 dX8_image_53 rfl rfl rfl ?_
              refine m_get F G 13 (w := .int ((cpN 32 12 24 (cpN 31 10 8 σ)) 0 13)) (by decide) q1266 rfl dX8_image_54 rfl ?_
              refine m_put33 F G q1286 dX8_image_57 rfl ?_
              refine v_aload_n F 0 dX8_image_60 rfl rfl rfl ?_
              refine v_aload_n F 0 dX8_image_61 rfl rfl rfl ?_
              refine m_get F G 7 (w := .int ((cpN 32 12 24 (cpN 31 10 8 σ)) 0 7)) (by decide) q1260 rfl dX8_image_62 rfl ?_
              refine m_put34 F G q1287 dX8_image_65 rfl ?_
              refine v_aload_n F 0 dX8_image_68 rfl rfl rfl ?_
              refine v_aload_n F 0 dX8_image_69 rfl rfl rfl ?_
              refine m_get F G 8 (w := .int ((cpN 32 12 24 (cpN 31 10 8 σ)) 0 8)) (by decide) q1261 rfl dX8_image_70 rfl ?_
              refine m_put35 F G q1288 dX8_image_73 rfl ?_
              refine v_aload_n F 0 dX8_image_76 rfl rfl rfl ?_
              refine v_aload_n F 0 dX8_image_77 rfl rfl rfl ?_
              refine m_get F G 9 (w := .int ((cpN 32 12 24 (cpN 31 10 8 σ)) 0 9)) (by decide) q1262 rfl dX8_image_78 rfl ?_
              refine m_put36 F G q1289 dX8_image_81 rfl ?_
              refine v_aload_n F 0 dX8_image_84 rfl rfl rfl ?_
              refine v_aload_n F 0 dX8_image_85 rfl rfl rfl ?_
              refine m_get F G 4 (w := .int ((cpN 32 12 24 (cpN 31 10 8 σ)) 0 4)) (by decide) q1257 rfl dX8_image_86 rfl ?_
              refine m_put37 F G q1290 dX8_image_89 rfl ?_
              refine v_aload_n F 0 dX8_image_92 rfl rfl rfl ?_
              refine m_get F G 13 (w := .int ((cpN 32 12 24 (cpN 31 10 8 σ)) 0 13)) (by decide) q1266 rfl dX8_image_93 rfl ?_
              exact v_reti F dX8_image_96 rfl (rfl) (by unfold imaS; rw [ab_u rfl, ab_u rfl, ab_u rfl, ab_u rfl, ab_u rfl, cp_ab (by decide) (by decide), cp_ab (by decide) (by decide)]; rfl)
            · skip
              refine v_aload_n F 0 dX8_image_34 rfl rfl rfl ?_
              refine m_get F G 32 (w := .ref (ad 32)) (by decide) q1285 rfl dX8_image_35 rfl ?_
              refine v_iload_n F 1 dX8_image_38 rfl rfl rfl ?_
              refine v_aload_n F 0 dX8_image_39 rfl rfl rfl ?_
              refine m_get F G 12 (w := .ref (ad 12)) (by decide) q1265 rfl dX8_image_40 rfl ?_
              refine v_iload_n F 1 dX8_image_43 rfl rfl rfl ?_
              refine m_ald12 (t := j) F G (by omega) dX8_image_44 rfl ?_
              refine m_ast32 (t := j) F G (by omega) dX8_image_45 rfl ?_
              refine v_iincN (ls' := [(1, .int (nI (j + 1))), (0, .ref (ad 0))]) F 1 dX8_image_46 rfl rfl (by decide) rfl ?_
              refine v_goto (tgt := 28) F dX8_image_49 rfl ?_
              refine v_sub (ls' := [(0, .ref (ad 0)), (1, .int (nI (j + 1)))]) F [1, 0] rfl ?_
              exact ih28 (up s 32 j (s 12 j)) (j + 1) (by omega) (asJ_s (by decide) hs) (by omega)
        refine v_sub (ls' := [(0, .ref (ad 0)), (1, .int 0)]) F [1, 0] rfl ?_
        exact L28 _ (cpN 31 10 8 σ) 0 (by decide) asJ_0 (Nat.lt_succ_self _)
      · skip
        refine v_aload_n F 0 dX8_image_8 rfl rfl rfl ?_
        refine m_get F G 31 (w := .ref (ad 31)) (by decide) q1284 rfl dX8_image_9 rfl ?_
        refine v_iload_n F 1 dX8_image_12 rfl rfl rfl ?_
        refine v_aload_n F 0 dX8_image_13 rfl rfl rfl ?_
        refine m_get F G 10 (w := .ref (ad 10)) (by decide) q1263 rfl dX8_image_14 rfl ?_
        refine v_iload_n F 1 dX8_image_17 rfl rfl rfl ?_
        refine m_ald10 (t := j) F G (by omega) dX8_image_18 rfl ?_
        refine m_ast31 (t := j) F G (by omega) dX8_image_19 rfl ?_
        refine v_iincN (ls' := [(1, .int (nI (j + 1))), (0, .ref (ad 0))]) F 1 dX8_image_20 rfl rfl (by decide) rfl ?_
        refine v_goto (tgt := 2) F dX8_image_23 rfl ?_
        refine v_sub (ls' := [(0, .ref (ad 0)), (1, .int (nI (j + 1)))]) F [1, 0] rfl ?_
        exact ih2 (up s 31 j (s 10 j)) (j + 1) (by omega) (asJ_s (by decide) hs) (by omega)
  refine v_sub (ls' := [(0, .ref (ad 0)), (1, .int 0)]) F [1, 0] rfl ?_
  exact L2 _ σ 0 (by decide) asJ_0 (Nat.lt_succ_self _)
theorem ok_X8_back : vv_oc yX8_back 2 0 (ws_ yX8_back cX8_back 2 (some .int)) := vv_ok.oc (rt := (some .int)) ⟨q1787, q133, by decide +kernel, by decide +kernel⟩
theorem is_X8_back : Cond.instanceMethod yX8_back ∈ lw_all ∧ Cond.selects RX8 yX8_back yX8_back ∈ lw_all := ⟨q1785, q1786⟩
set_option maxHeartbeats 4000000 in
theorem cm_X8_back {l : Launch} {Kf : State → Prop} {D : va_G} {ad : Nat → Nat} {cI cZ : ClassId} {A : Nat → Prop} (G : mG A Kf D cI cZ)  (σ : mS)   : vv_Ct l yX8_back (ws_ yX8_back cX8_back 2 (some .int)) (rm 0 0) Kf (mWd D ad cI cZ A) A [.ref (ad 0)] σ (vv_i (bacR (ab σ)) (fun u => ab u = bacS (ab σ))) := by
  refine vv_of (by decide +kernel) (Nat.le_of_ble_eq_true rfl) ?_
  intro v (F : vv_F v l cX8_back 2 RX8 "back" (some .int) [] (rm 0 0) Kf (mWd D ad cI cZ A) A _)
  show v σ 0 0 0 [(0, .ref (ad 0))] []
  refine v_aload_n F 0 dX8_back_0 rfl rfl rfl ?_
  refine m_get F G 33 (w := .int (σ 0 33)) (by decide) q1286 rfl dX8_back_1 rfl ?_
  refine v_iconst (x := (-1)) F dX8_back_4 rfl (by decide) ?_
  refine v_icmp_ne (tgt := 11) (q := 8) F dX8_back_5 rfl rfl (fun c1 => ?_) (fun c1 => ?_)
  · skip
    refine v_iconst (x := 0) F dX8_back_11 rfl (by decide) ?_
    refine v_istore_n (ls' := [(1, .int 0), (0, .ref (ad 0))]) F dX8_back_12 rfl rfl (by decide) rfl ?_
    have L13 : ∀ (nf : Nat) (s : mS) (j : Nat) (hj : j ≤ 8) (hs : asJ 10 31 σ s j) (hnf : 8 - j < nf), v s 0 0 13 [(0, .ref (ad 0)), (1, .int (nI j))] [] := by
      intro nf
      induction nf with
      | zero => intro s j hj hs hnf; exact absurd hnf (Nat.not_lt_zero _)
      | succ nf ih13 =>
        intro s j hj hs hnf
        refine v_iload_n F 1 dX8_back_13 rfl rfl rfl ?_
        refine v_bipush (x := 8) F dX8_back_14 rfl (by decide) ?_
        refine v_icmp_geN (a := j) (b := 8) (tgt := 37) (q := 19) F dX8_back_16 rfl rfl (by omega) (by omega) (fun c2 => ?_) (fun c2 => ?_)
        · skip
          have e1 := asJ_cp (n := 8) hs c2 hj
          refine v_st F e1 ?_
          refine v_iconst (x := 0) F dX8_back_37 rfl (by decide) ?_
          refine v_istore_n (ls' := [(1, .int 0), (0, .ref (ad 0))]) F dX8_back_38 rfl rfl (by decide) rfl ?_
          have L39 : ∀ (nf : Nat) (s : mS) (j : Nat) (hj : j ≤ 24) (hs : asJ 12 32 (cpN 10 31 8 σ) s j) (hnf : 24 - j < nf), v s 0 0 39 [(0, .ref (ad 0)), (1, .int (nI j))] [] := by
            intro nf
            induction nf with
            | zero => intro s j hj hs hnf; exact absurd hnf (Nat.not_lt_zero _)
            | succ nf ih39 =>
              intro s j hj hs hnf
              refine v_iload_n F 1 dX8_back_39 rfl rfl rfl ?_
              refine v_bipush (x := 24) F dX8_back_40 rfl (by decide) ?_
              refine v_icmp_geN (a := j) (b := 24) (tgt := 63) (q := 45) F dX8_back_42 rfl rfl (by omega) (by omega) (fun c3 => ?_) (fun c3 => ?_)
              · skip
                have e2 := asJ_cp (n := 24) hs c3 hj
                refine v_st F e2 ?_
                refine v_aload_n F 0 dX8_back_63 rfl rfl rfl ?_
                refine v_aload_n F 0 dX8_back_64 rfl rfl rfl ?_
                refine m_get F G 33 (w := .int ((cpN 12 32 24 (cpN 10 31 8 σ)) 0 33)) (by decide) q1286 rfl dX8_back_65 rfl ?_
                refine m_put13 F G q1266 dX8_back_68 rfl ?_
                refine v_aload_n F 0 dX8_back_71 rfl rfl rfl ?_
                refine v_aload_n F 0 dX8_back_72 rfl rfl rfl ?_
                refine m_get F G 34 (w := .int ((cpN 12 32 24 (cpN 10 31 8 σ)) 0 34)) (by decide) q1287 rfl dX8_back_73 rfl ?_
                refine m_put7 F G q1260 dX8_back_76 rfl ?_
                refine v_aload_n F 0 dX8_back_79 rfl rfl rfl ?_
                refine v_aload_n F 0 dX8_back_80 rfl rfl rfl ?_
                refine m_get F G 35 (w := .int ((cpN 12 32 24 (cpN 10 31 8 σ)) 0 35)) (by decide) q1288 rfl dX8_back_81 rfl ?_
                refine m_put8 F G q1261 dX8_back_84 rfl ?_
                refine v_aload_n F 0 dX8_back_87 rfl rfl rfl ?_
                refine v_aload_n F 0 dX8_back_88 rfl rfl rfl ?_
                refine m_get F G 36 (w := .int ((cpN 12 32 24 (cpN 10 31 8 σ)) 0 36)) (by decide) q1289 rfl dX8_back_89 rfl ?_
                refine m_put9 F G q1262 dX8_back_92 rfl ?_
                refine v_aload_n F 0 dX8_back_95 rfl rfl rfl ?_
                refine v_aload_n F 0 dX8_back_96 rfl rfl rfl ?_
                refine m_get F G 37 (w := .int ((cpN 12 32 24 (cpN 10 31 8 σ)) 0 37)) (by decide) q1290 rfl dX8_back_97 rfl ?_
                refine m_put4 F G q1257 dX8_back_100 rfl ?_
                refine v_aload_n F 0 dX8_back_103 rfl rfl rfl ?_
                refine m_get F G 13 (w := .int ((cpN 12 32 24 (cpN 10 31 8 σ)) 0 33)) (by decide) q1266 rfl dX8_back_104 rfl ?_
                exact v_reti F dX8_back_107 rfl ((if_neg (show ¬ ab σ 0 33 = -1 from c1)).symm) (by unfold bacS; rw [if_neg (show ¬ ab σ 0 33 = -1 from c1), ab_u rfl, ab_u rfl, ab_u rfl, ab_u rfl, ab_u rfl, cp_ab (by decide) (by decide), cp_ab (by decide) (by decide)]; rfl)
              · skip
                refine v_aload_n F 0 dX8_back_45 rfl rfl rfl ?_
                refine m_get F G 12 (w := .ref (ad 12)) (by decide) q1265 rfl dX8_back_46 rfl ?_
                refine v_iload_n F 1 dX8_back_49 rfl rfl rfl ?_
                refine v_aload_n F 0 dX8_back_50 rfl rfl rfl ?_
                refine m_get F G 32 (w := .ref (ad 32)) (by decide) q1285 rfl dX8_back_51 rfl ?_
                refine v_iload_n F 1 dX8_back_54 rfl rfl rfl ?_
                refine m_ald32 (t := j) F G (by omega) dX8_back_55 rfl ?_
                refine m_ast12 (t := j) F G (by omega) dX8_back_56 rfl ?_
                refine v_iincN (ls' := [(1, .int (nI (j + 1))), (0, .ref (ad 0))]) F 1 dX8_back_57 rfl rfl (by decide) rfl ?_
                refine v_goto (tgt := 39) F dX8_back_60 rfl ?_
                refine v_sub (ls' := [(0, .ref (ad 0)), (1, .int (nI (j + 1)))]) F [1, 0] rfl ?_
                exact ih39 (up s 12 j (s 32 j)) (j + 1) (by omega) (asJ_s (by decide) hs) (by omega)
          refine v_sub (ls' := [(0, .ref (ad 0)), (1, .int 0)]) F [1, 0] rfl ?_
          exact L39 _ (cpN 10 31 8 σ) 0 (by decide) asJ_0 (Nat.lt_succ_self _)
        · skip
          refine v_aload_n F 0 dX8_back_19 rfl rfl rfl ?_
          refine m_get F G 10 (w := .ref (ad 10)) (by decide) q1263 rfl dX8_back_20 rfl ?_
          refine v_iload_n F 1 dX8_back_23 rfl rfl rfl ?_
          refine v_aload_n F 0 dX8_back_24 rfl rfl rfl ?_
          refine m_get F G 31 (w := .ref (ad 31)) (by decide) q1284 rfl dX8_back_25 rfl ?_
          refine v_iload_n F 1 dX8_back_28 rfl rfl rfl ?_
          refine m_ald31 (t := j) F G (by omega) dX8_back_29 rfl ?_
          refine m_ast10 (t := j) F G (by omega) dX8_back_30 rfl ?_
          refine v_iincN (ls' := [(1, .int (nI (j + 1))), (0, .ref (ad 0))]) F 1 dX8_back_31 rfl rfl (by decide) rfl ?_
          refine v_goto (tgt := 13) F dX8_back_34 rfl ?_
          refine v_sub (ls' := [(0, .ref (ad 0)), (1, .int (nI (j + 1)))]) F [1, 0] rfl ?_
          exact ih13 (up s 10 j (s 31 j)) (j + 1) (by omega) (asJ_s (by decide) hs) (by omega)
    refine v_sub (ls' := [(0, .ref (ad 0)), (1, .int 0)]) F [1, 0] rfl ?_
    exact L13 _ σ 0 (by decide) asJ_0 (Nat.lt_succ_self _)
  · skip
    refine v_bipush (x := (-3)) F dX8_back_8 rfl (by decide) ?_
    exact v_reti F dX8_back_10 rfl ((if_pos (show ab σ 0 33 = -1 from c1)).symm) (by unfold bacS; rw [if_pos (show ab σ 0 33 = -1 from c1)])
theorem ok_X8_chance : vv_oc yX8_chance 12 3 (ws_ yX8_chance cX8_chance 12 (some .long)) := vv_ok.oc (rt := (some .long)) ⟨q1778, q133, by decide +kernel, by decide +kernel⟩
theorem is_X8_chance : Cond.instanceMethod yX8_chance ∈ lw_all ∧ Cond.selects RX8 yX8_chance yX8_chance ∈ lw_all := ⟨q1776, q1777⟩
set_option maxHeartbeats 4000000 in
theorem cm_X8_chance {l : Launch} {Kf : State → Prop} {D : va_G} {ad : Nat → Nat} {cI cZ : ClassId} {A : Nat → Prop} (G : mG A Kf D cI cZ)  (σ : mS) (z : Int32) (m : Int32) (k : Int32) (hw : Wf (ab σ)) : vv_Ct l yX8_chance (ws_ yX8_chance cX8_chance 12 (some .long)) (rm 46 1023) Kf (mWd D ad cI cZ A) A [.ref (ad 0), .int z, .int m, .int k] σ (vv_j (chaR (ab σ) z m k) (fun u => nb u = nb σ)) := by
  refine vv_of (by decide +kernel) (Nat.le_of_ble_eq_true rfl) ?_
  intro v (F : vv_F v l cX8_chance 12 RX8 "chance" (some .long) [] (rm 46 1023) Kf (mWd D ad cI cZ A) A _)
  show v σ 0 0 0 [(0, .ref (ad 0)), (1, .int z), (2, .int m), (3, .int k)] []
  have hM : σ 0 13 = nI (tn (σ 0 13)) := hw.1.1.1
  have hM8 : tn (σ 0 13) ≤ 8 := hw.1.1.2
  refine v_iload_n F 2 dX8_chance_0 rfl rfl rfl ?_
  refine v_i2l F dX8_chance_1 rfl ?_
  refine v_lconst (x := (1 : Int32).toInt64) F dX8_chance_2 rfl (by decide) ?_
  refine v_ldc2 F q1779 dX8_chance_3 rfl ?_
  refine v_lng (y := (20 : Int32).toInt64) F (by decide) ?_
  refine s_calli F G.1 (cm_X8_in G σ m 1 20 ) ok_X8_in q1386 q1387 rfl rfl dX8_chance_6 rfl rfl ?_
  intro u0 hu0; subst u0
  refine v_if_eqB (p := (1 ≤ m ∧ m ≤ 20)) (tgt := 22) (q := 12) F dX8_chance_9 rfl rfl (fun c1 => ?_) (fun c1 => ?_)
  · skip
    refine v_ldc2 F q1709 dX8_chance_22 rfl ?_
    exact v_retj F dX8_chance_25 rfl (by unfold chaR; rw [if_neg (show ¬ chaOK m k from (fun h => c1 h.1))]) (rfl)
  · skip
    refine v_iload_n F 3 dX8_chance_12 rfl rfl rfl ?_
    refine v_i2l F dX8_chance_13 rfl ?_
    refine v_lconst (x := (0 : Int32).toInt64) F dX8_chance_14 rfl (by decide) ?_
    refine v_lconst (x := (1 : Int32).toInt64) F dX8_chance_15 rfl (by decide) ?_
    refine s_calli F G.1 (cm_X8_in G σ k 0 1 ) ok_X8_in q1386 q1387 rfl rfl dX8_chance_16 rfl rfl ?_
    intro u0 hu0; subst u0
    refine v_if_neB (p := (0 ≤ k ∧ k ≤ 1)) (tgt := 26) (q := 22) F dX8_chance_19 rfl rfl (fun c2 => ?_) (fun c2 => ?_)
    · skip
      obtain ⟨c, hc, hmc⟩ := in_of1 c1
      have htm : tn m = c := by rw [hmc, tn_nI (by omega)]
      refine v_lconst (x := (0 : Int32).toInt64) F dX8_chance_26 rfl (by decide) ?_
      refine v_lstore (ls' := [(4, .long ((0 : Int32).toInt64)), (0, .ref (ad 0)), (1, .int z), (2, .int m), (3, .int k)]) F dX8_chance_27 rfl (by decide) rfl ?_
      refine v_iconst (x := 0) F dX8_chance_29 rfl (by decide) ?_
      refine v_istore (ls' := [(6, .int 0), (4, .long ((0 : Int32).toInt64)), (0, .ref (ad 0)), (1, .int z), (2, .int m), (3, .int k)]) F dX8_chance_30 rfl (by decide) rfl ?_
      have L32 : ∀ (nf : Nat) (s : mS) (j : Nat) (hj : j ≤ c) (hs : na (ab s) = na (ab σ)) (hnf : c - j < nf), v s 0 0 32 [(0, .ref (ad 0)), (1, .int z), (2, .int m), (3, .int k), (4, .long (lN (chaN (ab σ) z j))), (6, .int (nI j))] [] := by
        intro nf
        induction nf with
        | zero => intro s j hj hs hnf; exact absurd hnf (Nat.not_lt_zero _)
        | succ nf ih32 =>
          intro s j hj hs hnf
          have hws : Wf (ab s) := wf_na.mp (by rw [hs]; exact wf_na.mpr hw)
          refine v_iload F 5 dX8_chance_32 rfl rfl ?_
          refine v_iload_n F 2 dX8_chance_34 rfl rfl rfl ?_
          refine v_int F (hmc) ?_
          refine v_icmp_geN (a := j) (b := c) (tgt := 67) (q := 38) F dX8_chance_35 rfl rfl (by omega) (by omega) (fun c3 => ?_) (fun c3 => ?_)
          · skip
            have hjc : j = c := by omega
            refine v_lload F 4 dX8_chance_67 rfl rfl ?_
            refine v_lstore (ls' := [(6, .long (lN (chaN (ab σ) z j))), (0, .ref (ad 0)), (1, .int z), (2, .int m), (3, .int k), (4, .long (lN (chaN (ab σ) z j)))]) F dX8_chance_69 rfl (by decide) rfl ?_
            refine v_iload_n F 3 dX8_chance_71 rfl rfl rfl ?_
            refine v_int F (hmc) ?_
            refine v_i2l F dX8_chance_72 rfl ?_
            refine v_lng F (y := lN c) (nI_l (by omega)) ?_
            refine v_lstore (ls' := [(8, .long (lN c)), (6, .long (lN (chaN (ab σ) z j))), (0, .ref (ad 0)), (1, .int z), (2, .int m), (3, .int k), (4, .long (lN (chaN (ab σ) z j)))]) F dX8_chance_73 rfl (by decide) rfl ?_
            have L75 : ∀ (nf : Nat) (a : Nat) (b : Nat) (ha : a < 2 ^ 63) (hb : b < 2 ^ 63) (hg : Nat.gcd (chaN (ab σ) z c) c = Nat.gcd a b) (hnf : b < nf), v s 0 0 75 [(0, .ref (ad 0)), (1, .int z), (2, .int m), (3, .int k), (4, .long (lN (chaN (ab σ) z j))), (6, .long (lN a)), (8, .long (lN b))] [] := by
              intro nf
              induction nf with
              | zero => intro a b ha hb hg hnf; exact absurd hnf (Nat.not_lt_zero _)
              | succ nf ih75 =>
                intro a b ha hb hg hnf
                refine v_lload F 6 dX8_chance_75 rfl rfl ?_
                refine v_lconst (x := (0 : Int32).toInt64) F dX8_chance_77 rfl (by decide) ?_
                refine v_lcmp F dX8_chance_78 rfl ?_
                refine v_if_eqL (tgt := 100) (q := 82) F dX8_chance_79 rfl rfl (fun c4 => ?_) (fun c4 => ?_)
                · skip
                  have hb0 : b = 0 := (pk_lEQ hb (by decide)).mp (c4.trans (by decide : (0 : Int32).toInt64 = lN 0))
                  have hgg : a = Nat.gcd (chaN (ab σ) z c) c := gcd_0 (by rw [hg, hb0])
                  have hga : 0 < a := by rw [hgg]; exact Nat.gcd_pos_of_pos_right _ (by omega)
                  refine v_iload_n F 3 dX8_chance_100 rfl rfl rfl ?_
                  refine v_if_ne (tgt := 112) (q := 104) F dX8_chance_101 rfl rfl (fun c5 => ?_) (fun c5 => ?_)
                  · skip
                    refine v_iload_n F 2 dX8_chance_112 rfl rfl rfl ?_
                    refine v_int F (hmc) ?_
                    refine v_i2l F dX8_chance_113 rfl ?_
                    refine v_lng F (y := lN c) (nI_l (by omega)) ?_
                    refine v_lload F 5 dX8_chance_114 rfl rfl ?_
                    refine v_ldiv F dX8_chance_116 rfl (fun h => absurd ((pk_lEQ ha (by decide)).mp (h.trans (by decide : (0 : Int64) = lN 0))) (by omega)) ?_
                    exact v_retj F dX8_chance_117 rfl (by unfold chaR low; rw [if_pos (show chaOK m k from ⟨c1, c2⟩), htm, ← hgg]; rw [if_neg c5]; exact pk_lDiv (by omega) hga ha) (hs)
                  · skip
                    refine v_lload F 4 dX8_chance_104 rfl rfl ?_
                    refine v_lload F 5 dX8_chance_106 rfl rfl ?_
                    refine v_ldiv F dX8_chance_108 rfl (fun h => absurd ((pk_lEQ ha (by decide)).mp (h.trans (by decide : (0 : Int64) = lN 0))) (by omega)) ?_
                    refine v_goto (tgt := 117) F dX8_chance_109 rfl ?_
                    exact v_retj F dX8_chance_117 rfl (by unfold chaR low; rw [if_pos (show chaOK m k from ⟨c1, c2⟩), htm, ← hgg]; rw [if_pos c5, hjc]; exact pk_lDiv (by have := cha_le (ab σ) z c; omega) hga ha) (hs)
                · skip
                  have hb0 : 0 < b := Nat.pos_of_ne_zero (fun e => c4 (by rw [e]; decide))
                  refine v_lload F 5 dX8_chance_82 rfl rfl ?_
                  refine v_lload F 6 dX8_chance_84 rfl rfl ?_
                  refine v_lrem F dX8_chance_86 rfl (fun h => absurd ((pk_lEQ hb (by decide)).mp (h.trans (by decide : (0 : Int64) = lN 0))) (by omega)) ?_
                  refine v_lng F (pk_lRem ha hb0 hb) ?_
                  refine v_lstore (ls' := [(10, .long (lN (a % b))), (0, .ref (ad 0)), (1, .int z), (2, .int m), (3, .int k), (4, .long (lN (chaN (ab σ) z j))), (6, .long (lN a)), (8, .long (lN b))]) F dX8_chance_87 rfl (by decide) rfl ?_
                  refine v_lload F 7 dX8_chance_89 rfl rfl ?_
                  refine v_lstore (ls' := [(6, .long (lN b)), (10, .long (lN (a % b))), (0, .ref (ad 0)), (1, .int z), (2, .int m), (3, .int k), (4, .long (lN (chaN (ab σ) z j))), (8, .long (lN b))]) F dX8_chance_91 rfl (by decide) rfl ?_
                  refine v_lload F 1 dX8_chance_93 rfl rfl ?_
                  refine v_lstore (ls' := [(8, .long (lN (a % b))), (6, .long (lN b)), (10, .long (lN (a % b))), (0, .ref (ad 0)), (1, .int z), (2, .int m), (3, .int k), (4, .long (lN (chaN (ab σ) z j)))]) F dX8_chance_95 rfl (by decide) rfl ?_
                  refine v_goto (tgt := 75) F dX8_chance_97 rfl ?_
                  refine v_sub (ls' := [(0, .ref (ad 0)), (1, .int z), (2, .int m), (3, .int k), (4, .long (lN (chaN (ab σ) z j))), (6, .long (lN b)), (8, .long (lN (a % b)))]) F [3, 4, 5, 6, 7, 1, 0] rfl ?_
                  exact ih75 b (a % b) hb (Nat.lt_of_lt_of_le (Nat.mod_lt _ hb0) (by omega)) (hg.trans (gcd_go hb0)) (Nat.lt_of_lt_of_le (Nat.mod_lt a hb0) (by omega))
            refine v_sub (ls' := [(0, .ref (ad 0)), (1, .int z), (2, .int m), (3, .int k), (4, .long (lN (chaN (ab σ) z j))), (6, .long (lN (chaN (ab σ) z j))), (8, .long (lN c))]) F [2, 3, 4, 5, 6, 1, 0] rfl ?_
            exact L75 _ (chaN (ab σ) z j) c (by have := cha_le (ab σ) z j; omega) (by omega) (by rw [hjc]) (Nat.lt_succ_self _)
          · skip
            refine v_lload F 4 dX8_chance_38 rfl rfl ?_
            refine v_aload_n F 0 dX8_chance_40 rfl rfl rfl ?_
            refine v_iload_n F 1 dX8_chance_41 rfl rfl rfl ?_
            refine v_iload F 5 dX8_chance_42 rfl rfl ?_
            refine v_iadd F dX8_chance_44 rfl ?_
            refine v_bipush (x := 10) F dX8_chance_45 rfl (by decide) ?_
            refine m_calli F G (cm_X8_allBy G s (z + (nI j)) 10 hws (by decide)) ok_X8_allBy q1770 is_X8_allBy rfl rfl dX8_chance_47 rfl rfl ?_
            intro t6 hq6
            refine v_if_le (tgt := 57) (q := 53) F dX8_chance_50 rfl rfl (fun c7 => ?_) (fun c7 => ?_)
            · skip
              refine v_lconst (x := (0 : Int32).toInt64) F dX8_chance_57 rfl (by decide) ?_
              refine v_ladd F dX8_chance_58 rfl ?_
              refine v_lng F (y := lN (chaN (ab σ) z (j + 1))) (by show _ = lN (chaN (ab σ) z j + (if draV (ab σ) (z + nI j) 10 ≤ 0 then 0 else 1)); rw [← dra_eq2 hs, if_pos c7, show (0 : Int32).toInt64 = lN 0 by decide, lN_add]) ?_
              refine v_lstore (ls' := [(4, .long (lN (chaN (ab σ) z (j + 1)))), (0, .ref (ad 0)), (1, .int z), (2, .int m), (3, .int k), (6, .int (nI j))]) F dX8_chance_59 rfl (by decide) rfl ?_
              refine v_iincN (ls' := [(6, .int (nI (j + 1))), (4, .long (lN (chaN (ab σ) z (j + 1)))), (0, .ref (ad 0)), (1, .int z), (2, .int m), (3, .int k)]) F 5 dX8_chance_61 rfl rfl (by decide) rfl ?_
              refine v_goto (tgt := 32) F dX8_chance_64 rfl ?_
              refine v_sub (ls' := [(0, .ref (ad 0)), (1, .int z), (2, .int m), (3, .int k), (4, .long (lN (chaN (ab σ) z (j + 1)))), (6, .int (nI (j + 1)))]) F [2, 3, 4, 5, 1, 0] rfl ?_
              exact ih32 t6 (j + 1) (by omega) ((show na (ab t6) = na (ab s) from hq6).trans hs) (by omega)
            · skip
              refine v_lconst (x := (1 : Int32).toInt64) F dX8_chance_53 rfl (by decide) ?_
              refine v_goto (tgt := 58) F dX8_chance_54 rfl ?_
              refine v_ladd F dX8_chance_58 rfl ?_
              refine v_lng F (y := lN (chaN (ab σ) z (j + 1))) (by show _ = lN (chaN (ab σ) z j + (if draV (ab σ) (z + nI j) 10 ≤ 0 then 0 else 1)); rw [← dra_eq2 hs, if_neg c7, show (1 : Int32).toInt64 = lN 1 by decide, lN_add]) ?_
              refine v_lstore (ls' := [(4, .long (lN (chaN (ab σ) z (j + 1)))), (0, .ref (ad 0)), (1, .int z), (2, .int m), (3, .int k), (6, .int (nI j))]) F dX8_chance_59 rfl (by decide) rfl ?_
              refine v_iincN (ls' := [(6, .int (nI (j + 1))), (4, .long (lN (chaN (ab σ) z (j + 1)))), (0, .ref (ad 0)), (1, .int z), (2, .int m), (3, .int k)]) F 5 dX8_chance_61 rfl rfl (by decide) rfl ?_
              refine v_goto (tgt := 32) F dX8_chance_64 rfl ?_
              refine v_sub (ls' := [(0, .ref (ad 0)), (1, .int z), (2, .int m), (3, .int k), (4, .long (lN (chaN (ab σ) z (j + 1)))), (6, .int (nI (j + 1)))]) F [2, 3, 4, 5, 1, 0] rfl ?_
              exact ih32 t6 (j + 1) (by omega) ((show na (ab t6) = na (ab s) from hq6).trans hs) (by omega)
      refine v_sub (ls' := [(0, .ref (ad 0)), (1, .int z), (2, .int m), (3, .int k), (4, .long ((0 : Int32).toInt64)), (6, .int 0)]) F [2, 3, 4, 5, 1, 0] rfl ?_
      exact L32 _ σ 0 (Nat.zero_le _) rfl (Nat.lt_succ_self _)
    · skip
      refine v_ldc2 F q1709 dX8_chance_22 rfl ?_
      exact v_retj F dX8_chance_25 rfl (by unfold chaR; rw [if_neg (show ¬ chaOK m k from (fun h => c2 h.2))]) (rfl)
