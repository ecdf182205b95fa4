set_option maxRecDepth 100000
theorem ok_X8_part : vv_oc yX8_part 3 1 (ws_ yX8_part cX8_part 3 (some .int)) := vv_ok.oc (rt := (some .int)) ⟨q1444, q133, by decide +kernel, by decide +kernel⟩
theorem is_X8_part : Cond.instanceMethod yX8_part ∈ lw_all ∧ Cond.selects RX8 yX8_part yX8_part ∈ lw_all := ⟨q1443, qs57⟩
set_option maxHeartbeats 4000000 in
theorem cm_X8_part {l : Launch} {Kf : State → Prop} {D : va_G} {ad : Nat → Nat} {cI cZ : ClassId} {A : Nat → Prop} (G : mG A Kf D cI cZ) {b : Nat → Int32} {z t i : Nat} (σ : mS) (p : Prop) [Decidable p] (hT : pTx b z t σ) (hA : pAt b z σ i) (hi : i ≤ z) (hb : σ 0 27 = 0) (ho : σ 0 26 = nI 0) : vv_Ct l yX8_part (ws_ yX8_part cX8_part 3 (some .int)) (rm 40 883) Kf (mWd D ad cI cZ A) A [.ref (ad 0), .int (bI p)] σ (vv_x (fun r u => pEq σ u ∧ pRes b z 0 σ u r (ptP b z p i))) := by
  refine vv_of (by decide +kernel) (Nat.le_of_ble_eq_true rfl) ?_
  intro v (F : vv_F v l cX8_part 3 RX8 "part" (some .int) [] (rm 40 883) Kf (mWd D ad cI cZ A) A _)
  show v σ 0 0 0 [(0, .ref (ad 0)), (1, .int (bI p))] []
  refine v_iload_n F 1 dX8_part_0 rfl rfl rfl ?_
  refine v_if_neB (p := p) (tgt := 8) (q := 4) F dX8_part_1 rfl rfl (fun c1 => ?_) (fun c1 => ?_)
  · skip
    refine v_aload_n F 0 dX8_part_8 rfl rfl rfl ?_
    refine m_get F G 27 (w := .int (σ 0 27)) (by decide) q1280 rfl dX8_part_9 rfl ?_
    refine v_int F (y := 0) (hb) ?_
    refine v_if_ne (tgt := 19) (q := 15) F dX8_part_12 rfl rfl (fun c2 => ?_) (fun c2 => ?_)
    · skip
      exact absurd c2 (by decide)
    · skip
      refine v_aload_n F 0 dX8_part_15 rfl rfl rfl ?_
      refine m_calln F G (cm_X8_next (i := tN b z i) G σ hT hA.2.2.1 (tN_le hi).2) ok_X8_next q1421 is_X8_next rfl rfl dX8_part_16 rfl rfl ?_
      rintro t3 ⟨hN3, hA3⟩
      have hE3 : pEq σ t3 := pEq.trans pEq.rf hN3.p
      have hb3 : t3 0 27 = 0 := (hN3 0 27 (by omega)).trans hb
      have ho3 : t3 0 26 = nI 0 := (hN3 0 26 (by omega)).trans ho
      have hi3 : tN b z i ≤ z := (tN_le hi).2
      refine v_aload_n F 0 dX8_part_19 rfl rfl rfl ?_
      refine m_get F G 27 (w := .int (t3 0 27)) (by decide) q1280 rfl dX8_part_20 rfl ?_
      refine v_int F (y := 0) (hb3) ?_
      refine v_if_eq (tgt := 30) (q := 26) F dX8_part_23 rfl rfl (fun c4 => ?_) (fun c4 => ?_)
      · skip
        refine v_aload_n F 0 dX8_part_30 rfl rfl rfl ?_
        refine m_callx F G (cm_X8_either0 G t3 (pTx.eq hT hE3) hA3 hi3 hb3 ho3) ok_X8_either0 q1449 is_X8_either0 rfl rfl dX8_part_31 rfl rfl ?_
        rintro r5 t5 ⟨hN5, hR5⟩
        have hE5 : pEq σ t5 := pEq.trans hE3 hN5
        rcases hp5 : (eiG b z (PX b z 5).2) (tN b z i) with e5 | ⟨f5, j5⟩
        · skip
          rw [hp5] at hR5
          obtain ⟨hb5, hf5⟩ : t5 0 27 = 1 ∧ t5 0 28 = nI e5 := hR5
          refine v_istore_n (ls' := [(2, .int r5), (0, .ref (ad 0)), (1, .int (bI p))]) F dX8_part_34 rfl rfl (by decide) rfl ?_
          refine v_aload_n F 1 dX8_part_35 rfl rfl rfl ?_
          refine v_bipush (x := 59) F dX8_part_36 rfl (by decide) ?_
          refine m_calli F G (cm_X8_isSign_b G t5 59 hb5) ok_X8_isSign q1497 is_X8_isSign rfl rfl dX8_part_38 rfl rfl ?_
          intro u0 hu0; subst u0
          refine v_if_ne (tgt := 48) (q := 44) F dX8_part_41 rfl rfl (fun c6 => ?_) (fun c6 => ?_)
          · skip
            exact absurd c6 (by decide)
          · skip
            refine v_aload_n F 1 dX8_part_44 rfl rfl rfl ?_
            refine m_calln F G (cm_X8_fail_b G t5 hb5) ok_X8_fail q1445 is_X8_fail rfl rfl dX8_part_45 rfl rfl ?_
            intro u0 hu0; subst u0
            refine v_aload_n F 1 dX8_part_48 rfl rfl rfl ?_
            refine m_get F G 27 (w := .int (t5 0 27)) (by decide) q1280 rfl dX8_part_49 rfl ?_
            refine v_int F (y := 1) (hb5) ?_
            refine v_if_ne (tgt := 59) (q := 55) F dX8_part_52 rfl rfl (fun c7 => ?_) (fun c7 => ?_)
            · skip
              refine v_iload_n F 0 dX8_part_59 rfl rfl rfl ?_
              exact v_retx F dX8_part_60 rfl (⟨hE5, pRes.e (ptP_e c1 hp5) hb5 hf5⟩)
            · skip
              exact absurd c7 (by decide)
        · skip
          rw [hp5] at hR5
          obtain ⟨hr5, hA5, hb5, ho5⟩ : r5 = f5 (rho t3) ∧ pAt b z t5 j5 ∧ t5 0 27 = 0 ∧ t5 0 26 = nI 0 := hR5
          rw [rho_eq hE3] at hr5
          have hg5 := (eiG_good (PX_good 5).2) _ _ _ hi3 hp5
          have hi5 : j5 ≤ z := hg5.2
          refine v_istore_n (ls' := [(2, .int r5), (0, .ref (ad 0)), (1, .int (bI p))]) F dX8_part_34 rfl rfl (by decide) rfl ?_
          refine v_aload_n F 1 dX8_part_35 rfl rfl rfl ?_
          refine v_bipush (x := 59) F dX8_part_36 rfl (by decide) ?_
          refine m_calli F G (cm_X8_isSign G t5 59 hA5 hb5) ok_X8_isSign q1497 is_X8_isSign rfl rfl dX8_part_38 rfl rfl ?_
          intro u0 hu0; subst u0
          refine v_if_neB (p := (sg b z j5 59)) (tgt := 48) (q := 44) F dX8_part_41 rfl rfl (fun c8 => ?_) (fun c8 => ?_)
          · skip
            refine v_aload_n F 1 dX8_part_48 rfl rfl rfl ?_
            refine m_get F G 27 (w := .int (t5 0 27)) (by decide) q1280 rfl dX8_part_49 rfl ?_
            refine v_int F (y := 0) (hb5) ?_
            refine v_if_ne (tgt := 59) (q := 55) F dX8_part_52 rfl rfl (fun c9 => ?_) (fun c9 => ?_)
            · skip
              exact absurd c9 (by decide)
            · skip
              refine v_aload_n F 1 dX8_part_55 rfl rfl rfl ?_
              refine m_calln F G (cm_X8_next (i := tN b z j5) G t5 (pTx.eq hT hE5) hA5.2.2.1 (tN_le hi5).2) ok_X8_next q1421 is_X8_next rfl rfl dX8_part_56 rfl rfl ?_
              rintro t10 ⟨hN10, hA10⟩
              have hE10 : pEq σ t10 := pEq.trans hE5 hN10.p
              have hb10 : t10 0 27 = 0 := (hN10 0 27 (by omega)).trans hb5
              have ho10 : t10 0 26 = nI 0 := (hN10 0 26 (by omega)).trans ho5
              have hi10 : tN b z j5 ≤ z := (tN_le hi5).2
              refine v_iload_n F 0 dX8_part_59 rfl rfl rfl ?_
              exact v_retx F dX8_part_60 rfl (⟨hE10, pRes.o (ptP_o c1 hp5 c8) (hr5) hA10 hb10 ho10⟩)
          · skip
            refine v_aload_n F 1 dX8_part_44 rfl rfl rfl ?_
            refine m_calln F G (cm_X8_fail G t5 hb5) ok_X8_fail q1445 is_X8_fail rfl rfl dX8_part_45 rfl rfl ?_
            intro u0 hu0; subst u0
            refine v_aload_n F 1 dX8_part_48 rfl rfl rfl ?_
            refine m_get F G 27 (w := .int 1) (by decide) q1280 rfl dX8_part_49 rfl ?_
            refine v_if_ne (tgt := 59) (q := 55) F dX8_part_52 rfl rfl (fun c11 => ?_) (fun c11 => ?_)
            · skip
              refine v_iload_n F 0 dX8_part_59 rfl rfl rfl ?_
              exact v_retx F dX8_part_60 rfl (⟨(pEq.u (pEq.u hE5 (j := 27) (by decide) 1) (j := 28) (by decide) (t5 0 24)), pRes.e (ptP_b c1 hp5 c8) rfl hA5.2.1⟩)
            · skip
              exact absurd c11 (by decide)
      · skip
        exact absurd c4 (by decide)
  · skip
    refine v_aload_n F 0 dX8_part_4 rfl rfl rfl ?_
    refine m_calln F G (cm_X8_fail G σ hb) ok_X8_fail q1445 is_X8_fail rfl rfl dX8_part_5 rfl rfl ?_
    intro u0 hu0; subst u0
    refine v_aload_n F 0 dX8_part_8 rfl rfl rfl ?_
    refine m_get F G 27 (w := .int 1) (by decide) q1280 rfl dX8_part_9 rfl ?_
    refine v_if_ne (tgt := 19) (q := 15) F dX8_part_12 rfl rfl (fun c12 => ?_) (fun c12 => ?_)
    · skip
      refine v_aload_n F 0 dX8_part_19 rfl rfl rfl ?_
      refine m_get F G 27 (w := .int 1) (by decide) q1280 rfl dX8_part_20 rfl ?_
      refine v_if_eq (tgt := 30) (q := 26) F dX8_part_23 rfl rfl (fun c13 => ?_) (fun c13 => ?_)
      · skip
        exact absurd c13 (by decide)
      · skip
        refine v_iconst (x := 0) F dX8_part_26 rfl (by decide) ?_
        refine v_goto (tgt := 34) F dX8_part_27 rfl ?_
        refine v_istore_n (ls' := [(2, .int 0), (0, .ref (ad 0)), (1, .int (bI p))]) F dX8_part_34 rfl rfl (by decide) rfl ?_
        refine v_aload_n F 1 dX8_part_35 rfl rfl rfl ?_
        refine v_bipush (x := 59) F dX8_part_36 rfl (by decide) ?_
        refine m_calli F G (cm_X8_isSign_b G (up (up σ 0 27 1) 0 28 (σ 0 24)) 59 rfl) ok_X8_isSign q1497 is_X8_isSign rfl rfl dX8_part_38 rfl rfl ?_
        intro u0 hu0; subst u0
        refine v_if_ne (tgt := 48) (q := 44) F dX8_part_41 rfl rfl (fun c14 => ?_) (fun c14 => ?_)
        · skip
          exact absurd c14 (by decide)
        · skip
          refine v_aload_n F 1 dX8_part_44 rfl rfl rfl ?_
          refine m_calln F G (cm_X8_fail_b G (up (up σ 0 27 1) 0 28 (σ 0 24)) rfl) ok_X8_fail q1445 is_X8_fail rfl rfl dX8_part_45 rfl rfl ?_
          intro u0 hu0; subst u0
          refine v_aload_n F 1 dX8_part_48 rfl rfl rfl ?_
          refine m_get F G 27 (w := .int 1) (by decide) q1280 rfl dX8_part_49 rfl ?_
          refine v_if_ne (tgt := 59) (q := 55) F dX8_part_52 rfl rfl (fun c15 => ?_) (fun c15 => ?_)
          · skip
            refine v_iload_n F 0 dX8_part_59 rfl rfl rfl ?_
            exact v_retx F dX8_part_60 rfl (⟨(pEq.u (pEq.u pEq.rf (j := 27) (by decide) 1) (j := 28) (by decide) (σ 0 24)), pRes.e (ptP_k c1) rfl hA.2.1⟩)
          · skip
            exact absurd c15 (by decide)
    · skip
      exact absurd c12 (by decide)
theorem ok_X8_read : vv_oc yX8_read 6 2 (ws_ yX8_read cX8_read 6 (some .int)) := vv_ok.oc (rt := (some .int)) ⟨q1420, q133, by decide +kernel, by decide +kernel⟩
theorem is_X8_read : Cond.instanceMethod yX8_read ∈ lw_all ∧ Cond.selects RX8 yX8_read yX8_read ∈ lw_all := ⟨q1419, qs52⟩
set_option maxHeartbeats 4000000 in
theorem cm_X8_read {l : Launch} {Kf : State → Prop} {D : va_G} {ad : Nat → Nat} {cI cZ : ClassId} {A : Nat → Prop} (G : mG A Kf D cI cZ) {b : Nat → Int32} {z : Nat} (σ : mS) (tt : Nat) (w : Int32) (ht : tt < 6) (hz : σ 2 tt = nI z) (hz2 : z ≤ 160) (hby : ∀ i, i < z → σ 1 (160 * tt + i) = b i ∧ 0 ≤ b i) : vv_Ct l yX8_read (ws_ yX8_read cX8_read 6 (some .int)) (rm 41 905) Kf (mWd D ad cI cZ A) A [.ref (ad 0), .int (nI tt), .int w] σ (vv_x (fun r u => ab u = ab σ ∧ rRes σ u r w (rdG b z))) := by
  refine vv_of (by decide +kernel) (Nat.le_of_ble_eq_true rfl) ?_
  intro v (F : vv_F v l cX8_read 6 RX8 "read" (some .int) [] (rm 41 905) Kf (mWd D ad cI cZ A) A _)
  show v σ 0 0 0 [(0, .ref (ad 0)), (1, .int (nI tt)), (2, .int w)] []
  refine v_aload_n F 0 dX8_read_0 rfl rfl rfl ?_
  refine v_sipush (x := 160) F dX8_read_1 rfl (by decide) ?_
  refine v_iload_n F 1 dX8_read_4 rfl rfl rfl ?_
  refine v_imulN (a := 160) (b := tt) F dX8_read_5 rfl ?_
  refine m_put20 F G q1273 dX8_read_6 rfl ?_
  refine v_aload_n F 0 dX8_read_9 rfl rfl rfl ?_
  refine v_aload_n F 0 dX8_read_10 rfl rfl rfl ?_
  refine m_get F G 2 (w := .ref (ad 2)) (by decide) q1255 rfl dX8_read_11 rfl ?_
  refine v_iload_n F 1 dX8_read_14 rfl rfl rfl ?_
  refine m_ald2 (t := tt) F G (by omega) dX8_read_15 rfl ?_
  refine v_int F (hz) ?_
  refine m_put21 F G q1274 dX8_read_16 rfl ?_
  refine v_aload_n F 0 dX8_read_19 rfl rfl rfl ?_
  refine v_iconst (x := 0) F dX8_read_20 rfl (by decide) ?_
  refine m_put22 F G q1275 dX8_read_21 rfl ?_
  refine v_aload_n F 0 dX8_read_24 rfl rfl rfl ?_
  refine v_iconst (x := 0) F dX8_read_25 rfl (by decide) ?_
  refine m_put26 F G q1279 dX8_read_26 rfl ?_
  refine v_aload_n F 0 dX8_read_29 rfl rfl rfl ?_
  refine v_iconst (x := 0) F dX8_read_30 rfl (by decide) ?_
  refine m_put27 F G q1280 (by decide) dX8_read_31 rfl ?_
  obtain ⟨s0, hs0⟩ : ∃ s : mS, s = up (up (up (up (up σ 0 20 (nI (160 * tt))) 0 21 (nI z)) 0 22 0) 0 26 0) 0 27 0 := ⟨_, rfl⟩
  refine v_st F hs0.symm ?_
  have hT : pTx b z tt s0 := by rw [hs0]; exact ⟨ht, hz2, rfl, rfl, hby⟩
  have h22 : s0 0 22 = nI 0 := by rw [hs0]; rfl
  have hb0 : s0 0 27 = 0 := by rw [hs0]; rfl
  have ho0 : s0 0 26 = nI 0 := by rw [hs0]; rfl
  have hab : ab s0 = ab σ := by rw [hs0]; rw [ab_us rfl, ab_us rfl, ab_us rfl, ab_us rfl, ab_us rfl]
  have hrho : rho s0 = rho σ := by rw [hs0]; rw [rho_u (by decide), rho_u (by decide), rho_u (by decide), rho_u (by decide), rho_u (by decide)]
  refine v_aload_n F 0 dX8_read_34 rfl rfl rfl ?_
  refine m_calln F G (cm_X8_next (i := 0) G s0 hT h22 (Nat.zero_le _)) ok_X8_next q1421 is_X8_next rfl rfl dX8_read_35 rfl rfl ?_
  rintro t1 ⟨hN1, hA1⟩
  have hE1 : pEq s0 t1 := pEq.trans pEq.rf hN1.p
  have hb1 : t1 0 27 = 0 := (hN1 0 27 (by omega)).trans hb0
  have ho1 : t1 0 26 = nI 0 := (hN1 0 26 (by omega)).trans ho0
  have hi1 : 0 ≤ z := Nat.zero_le _
  refine v_aload_n F 0 dX8_read_38 rfl rfl rfl ?_
  refine v_aload_n F 0 dX8_read_39 rfl rfl rfl ?_
  refine v_bipush (x := 114) F dX8_read_40 rfl (by decide) ?_
  refine v_bipush (x := 111) F dX8_read_42 rfl (by decide) ?_
  refine v_bipush (x := 116) F dX8_read_44 rfl (by decide) ?_
  refine v_bipush (x := 115) F dX8_read_46 rfl (by decide) ?_
  refine v_iconst (x := 0) F dX8_read_48 rfl (by decide) ?_
  refine v_iconst (x := 0) F dX8_read_49 rfl (by decide) ?_
  refine v_iconst (x := 0) F dX8_read_50 rfl (by decide) ?_
  refine v_iconst (x := 0) F dX8_read_51 rfl (by decide) ?_
  refine m_calli F G (cm_X8_isWord G t1 114 111 116 115 0 0 0 0 (pTx.eq hT hE1) hA1 hi1 hb1) ok_X8_isWord q1433 is_X8_isWord rfl rfl dX8_read_52 rfl rfl ?_
  intro u0 hu0; subst u0
  refine m_callx F G (cm_X8_part G t1 (wd b z 0 114 111 116 115 0 0 0 0) (pTx.eq hT hE1) hA1 hi1 hb1 ho1) ok_X8_part q1441 is_X8_part rfl rfl dX8_read_55 rfl rfl ?_
  rintro r2 t2 ⟨hN2, hR2⟩
  have hE2 : pEq s0 t2 := pEq.trans hE1 hN2
  rcases hp2 : ptP b z (wd b z 0 114 111 116 115 0 0 0 0) 0 with e2 | ⟨f2, j2⟩
  · skip
    rw [hp2] at hR2
    obtain ⟨hb2, hf2⟩ : t2 0 27 = 1 ∧ t2 0 28 = nI e2 := hR2
    refine v_istore_n (ls' := [(3, .int r2), (0, .ref (ad 0)), (1, .int (nI tt)), (2, .int w)]) F dX8_read_58 rfl rfl (by decide) rfl ?_
    refine v_aload_n F 1 dX8_read_59 rfl rfl rfl ?_
    refine m_get F G 27 (w := .int (t2 0 27)) (by decide) q1280 rfl dX8_read_60 rfl ?_
    refine v_int F (y := 1) (hb2) ?_
    refine v_if_eq (tgt := 70) (q := 66) F dX8_read_63 rfl rfl (fun c3 => ?_) (fun c3 => ?_)
    · skip
      exact absurd c3 (by decide)
    · skip
      refine v_iconst (x := 0) F dX8_read_66 rfl (by decide) ?_
      refine v_goto (tgt := 90) F dX8_read_67 rfl ?_
      refine v_istore (ls' := [(4, .int 0), (3, .int r2), (0, .ref (ad 0)), (1, .int (nI tt)), (2, .int w)]) F dX8_read_90 rfl (by decide) rfl ?_
      refine v_aload_n F 2 dX8_read_92 rfl rfl rfl ?_
      refine m_get F G 27 (w := .int (t2 0 27)) (by decide) q1280 rfl dX8_read_93 rfl ?_
      refine v_int F (y := 1) (hb2) ?_
      refine v_if_eq (tgt := 103) (q := 99) F dX8_read_96 rfl rfl (fun c4 => ?_) (fun c4 => ?_)
      · skip
        exact absurd c4 (by decide)
      · skip
        refine v_iconst (x := 0) F dX8_read_99 rfl (by decide) ?_
        refine v_goto (tgt := 124) F dX8_read_100 rfl ?_
        refine v_istore (ls' := [(5, .int 0), (4, .int 0), (3, .int r2), (0, .ref (ad 0)), (1, .int (nI tt)), (2, .int w)]) F dX8_read_124 rfl (by decide) rfl ?_
        refine v_aload_n F 3 dX8_read_126 rfl rfl rfl ?_
        refine m_get F G 27 (w := .int (t2 0 27)) (by decide) q1280 rfl dX8_read_127 rfl ?_
        refine v_int F (y := 1) (hb2) ?_
        refine v_if_ne (tgt := 144) (q := 133) F dX8_read_130 rfl rfl (fun c5 => ?_) (fun c5 => ?_)
        · skip
          refine v_iload_n F 5 dX8_read_144 rfl rfl rfl ?_
          refine v_if_ne (tgt := 152) (q := 148) F dX8_read_145 rfl rfl (fun c6 => ?_) (fun c6 => ?_)
          · skip
            refine v_iload_n F 5 dX8_read_152 rfl rfl rfl ?_
            refine v_iconst (x := 1) F dX8_read_153 rfl (by decide) ?_
            refine v_icmp_ne (tgt := 162) (q := 157) F dX8_read_154 rfl rfl (fun c7 => ?_) (fun c7 => ?_)
            · skip
              refine v_iload F 0 dX8_read_162 rfl rfl ?_
              exact v_retx F dX8_read_164 rfl (⟨(ab_p hE2).trans hab, rRes.e (rdG_1 hp2) hb2 hf2⟩)
            · skip
              refine v_iload F 1 dX8_read_157 rfl rfl ?_
              refine v_goto (tgt := 164) F dX8_read_159 rfl ?_
              exact v_retx F dX8_read_164 rfl (⟨(ab_p hE2).trans hab, rRes.e (rdG_1 hp2) hb2 hf2⟩)
          · skip
            refine v_iload_n F 2 dX8_read_148 rfl rfl rfl ?_
            refine v_goto (tgt := 164) F dX8_read_149 rfl ?_
            exact v_retx F dX8_read_164 rfl (⟨(ab_p hE2).trans hab, rRes.e (rdG_1 hp2) hb2 hf2⟩)
        · skip
          exact absurd c5 (by decide)
  · skip
    rw [hp2] at hR2
    obtain ⟨hr2, hA2, hb2, ho2⟩ : r2 = f2 (rho t1) ∧ pAt b z t2 j2 ∧ t2 0 27 = 0 ∧ t2 0 26 = nI 0 := hR2
    rw [rho_eq hE1] at hr2
    have hg2 := ptP_le _ _ _ hi1 hp2
    have hi2 : j2 ≤ z := hg2.2
    refine v_istore_n (ls' := [(3, .int r2), (0, .ref (ad 0)), (1, .int (nI tt)), (2, .int w)]) F dX8_read_58 rfl rfl (by decide) rfl ?_
    refine v_aload_n F 1 dX8_read_59 rfl rfl rfl ?_
    refine m_get F G 27 (w := .int (t2 0 27)) (by decide) q1280 rfl dX8_read_60 rfl ?_
    refine v_int F (y := 0) (hb2) ?_
    refine v_if_eq (tgt := 70) (q := 66) F dX8_read_63 rfl rfl (fun c8 => ?_) (fun c8 => ?_)
    · skip
      refine v_aload_n F 1 dX8_read_70 rfl rfl rfl ?_
      refine v_aload_n F 1 dX8_read_71 rfl rfl rfl ?_
      refine v_bipush (x := 112) F dX8_read_72 rfl (by decide) ?_
      refine v_bipush (x := 97) F dX8_read_74 rfl (by decide) ?_
      refine v_bipush (x := 121) F dX8_read_76 rfl (by decide) ?_
      refine v_bipush (x := 115) F dX8_read_78 rfl (by decide) ?_
      refine v_iconst (x := 0) F dX8_read_80 rfl (by decide) ?_
      refine v_iconst (x := 0) F dX8_read_81 rfl (by decide) ?_
      refine v_iconst (x := 0) F dX8_read_82 rfl (by decide) ?_
      refine v_iconst (x := 0) F dX8_read_83 rfl (by decide) ?_
      refine m_calli F G (cm_X8_isWord G t2 112 97 121 115 0 0 0 0 (pTx.eq hT hE2) hA2 hi2 hb2) ok_X8_isWord q1433 is_X8_isWord rfl rfl dX8_read_84 rfl rfl ?_
      intro u0 hu0; subst u0
      refine m_callx F G (cm_X8_part G t2 (wd b z j2 112 97 121 115 0 0 0 0) (pTx.eq hT hE2) hA2 hi2 hb2 ho2) ok_X8_part q1441 is_X8_part rfl rfl dX8_read_87 rfl rfl ?_
      rintro r9 t9 ⟨hN9, hR9⟩
      have hE9 : pEq s0 t9 := pEq.trans hE2 hN9
      rcases hp9 : ptP b z (wd b z j2 112 97 121 115 0 0 0 0) j2 with e9 | ⟨f9, j9⟩
      · skip
        rw [hp9] at hR9
        obtain ⟨hb9, hf9⟩ : t9 0 27 = 1 ∧ t9 0 28 = nI e9 := hR9
        refine v_istore (ls' := [(4, .int r9), (3, .int r2), (0, .ref (ad 0)), (1, .int (nI tt)), (2, .int w)]) F dX8_read_90 rfl (by decide) rfl ?_
        refine v_aload_n F 2 dX8_read_92 rfl rfl rfl ?_
        refine m_get F G 27 (w := .int (t9 0 27)) (by decide) q1280 rfl dX8_read_93 rfl ?_
        refine v_int F (y := 1) (hb9) ?_
        refine v_if_eq (tgt := 103) (q := 99) F dX8_read_96 rfl rfl (fun c10 => ?_) (fun c10 => ?_)
        · skip
          exact absurd c10 (by decide)
        · skip
          refine v_iconst (x := 0) F dX8_read_99 rfl (by decide) ?_
          refine v_goto (tgt := 124) F dX8_read_100 rfl ?_
          refine v_istore (ls' := [(5, .int 0), (4, .int r9), (3, .int r2), (0, .ref (ad 0)), (1, .int (nI tt)), (2, .int w)]) F dX8_read_124 rfl (by decide) rfl ?_
          refine v_aload_n F 3 dX8_read_126 rfl rfl rfl ?_
          refine m_get F G 27 (w := .int (t9 0 27)) (by decide) q1280 rfl dX8_read_127 rfl ?_
          refine v_int F (y := 1) (hb9) ?_
          refine v_if_ne (tgt := 144) (q := 133) F dX8_read_130 rfl rfl (fun c11 => ?_) (fun c11 => ?_)
          · skip
            refine v_iload_n F 5 dX8_read_144 rfl rfl rfl ?_
            refine v_if_ne (tgt := 152) (q := 148) F dX8_read_145 rfl rfl (fun c12 => ?_) (fun c12 => ?_)
            · skip
              refine v_iload_n F 5 dX8_read_152 rfl rfl rfl ?_
              refine v_iconst (x := 1) F dX8_read_153 rfl (by decide) ?_
              refine v_icmp_ne (tgt := 162) (q := 157) F dX8_read_154 rfl rfl (fun c13 => ?_) (fun c13 => ?_)
              · skip
                refine v_iload F 0 dX8_read_162 rfl rfl ?_
                exact v_retx F dX8_read_164 rfl (⟨(ab_p hE9).trans hab, rRes.e (rdG_2 hp2 hp9) hb9 hf9⟩)
              · skip
                refine v_iload F 1 dX8_read_157 rfl rfl ?_
                refine v_goto (tgt := 164) F dX8_read_159 rfl ?_
                exact v_retx F dX8_read_164 rfl (⟨(ab_p hE9).trans hab, rRes.e (rdG_2 hp2 hp9) hb9 hf9⟩)
            · skip
              refine v_iload_n F 2 dX8_read_148 rfl rfl rfl ?_
              refine v_goto (tgt := 164) F dX8_read_149 rfl ?_
              exact v_retx F dX8_read_164 rfl (⟨(ab_p hE9).trans hab, rRes.e (rdG_2 hp2 hp9) hb9 hf9⟩)
          · skip
            exact absurd c11 (by decide)
      · skip
        rw [hp9] at hR9
        obtain ⟨hr9, hA9, hb9, ho9⟩ : r9 = f9 (rho t2) ∧ pAt b z t9 j9 ∧ t9 0 27 = 0 ∧ t9 0 26 = nI 0 := hR9
        rw [rho_eq hE2] at hr9
        have hg9 := ptP_le _ _ _ hi2 hp9
        have hi9 : j9 ≤ z := hg9.2
        refine v_istore (ls' := [(4, .int r9), (3, .int r2), (0, .ref (ad 0)), (1, .int (nI tt)), (2, .int w)]) F dX8_read_90 rfl (by decide) rfl ?_
        refine v_aload_n F 2 dX8_read_92 rfl rfl rfl ?_
        refine m_get F G 27 (w := .int (t9 0 27)) (by decide) q1280 rfl dX8_read_93 rfl ?_
        refine v_int F (y := 0) (hb9) ?_
        refine v_if_eq (tgt := 103) (q := 99) F dX8_read_96 rfl rfl (fun c14 => ?_) (fun c14 => ?_)
        · skip
          refine v_aload_n F 2 dX8_read_103 rfl rfl rfl ?_
          refine v_aload_n F 2 dX8_read_104 rfl rfl rfl ?_
          refine v_bipush (x := 102) F dX8_read_105 rfl (by decide) ?_
          refine v_bipush (x := 105) F dX8_read_107 rfl (by decide) ?_
          refine v_bipush (x := 110) F dX8_read_109 rfl (by decide) ?_
          refine v_bipush (x := 100) F dX8_read_111 rfl (by decide) ?_
          refine v_bipush (x := 115) F dX8_read_113 rfl (by decide) ?_
          refine v_iconst (x := 0) F dX8_read_115 rfl (by decide) ?_
          refine v_iconst (x := 0) F dX8_read_116 rfl (by decide) ?_
          refine v_iconst (x := 0) F dX8_read_117 rfl (by decide) ?_
          refine m_calli F G (cm_X8_isWord G t9 102 105 110 100 115 0 0 0 (pTx.eq hT hE9) hA9 hi9 hb9) ok_X8_isWord q1433 is_X8_isWord rfl rfl dX8_read_118 rfl rfl ?_
          intro u0 hu0; subst u0
          refine m_callx F G (cm_X8_part G t9 (wd b z j9 102 105 110 100 115 0 0 0) (pTx.eq hT hE9) hA9 hi9 hb9 ho9) ok_X8_part q1441 is_X8_part rfl rfl dX8_read_121 rfl rfl ?_
          rintro r15 t15 ⟨hN15, hR15⟩
          have hE15 : pEq s0 t15 := pEq.trans hE9 hN15
          rcases hp15 : ptP b z (wd b z j9 102 105 110 100 115 0 0 0) j9 with e15 | ⟨f15, j15⟩
          · skip
            rw [hp15] at hR15
            obtain ⟨hb15, hf15⟩ : t15 0 27 = 1 ∧ t15 0 28 = nI e15 := hR15
            refine v_istore (ls' := [(5, .int r15), (4, .int r9), (3, .int r2), (0, .ref (ad 0)), (1, .int (nI tt)), (2, .int w)]) F dX8_read_124 rfl (by decide) rfl ?_
            refine v_aload_n F 3 dX8_read_126 rfl rfl rfl ?_
            refine m_get F G 27 (w := .int (t15 0 27)) (by decide) q1280 rfl dX8_read_127 rfl ?_
            refine v_int F (y := 1) (hb15) ?_
            refine v_if_ne (tgt := 144) (q := 133) F dX8_read_130 rfl rfl (fun c16 => ?_) (fun c16 => ?_)
            · skip
              refine v_iload_n F 5 dX8_read_144 rfl rfl rfl ?_
              refine v_if_ne (tgt := 152) (q := 148) F dX8_read_145 rfl rfl (fun c17 => ?_) (fun c17 => ?_)
              · skip
                refine v_iload_n F 5 dX8_read_152 rfl rfl rfl ?_
                refine v_iconst (x := 1) F dX8_read_153 rfl (by decide) ?_
                refine v_icmp_ne (tgt := 162) (q := 157) F dX8_read_154 rfl rfl (fun c18 => ?_) (fun c18 => ?_)
                · skip
                  refine v_iload F 0 dX8_read_162 rfl rfl ?_
                  exact v_retx F dX8_read_164 rfl (⟨(ab_p hE15).trans hab, rRes.e (rdG_3 hp2 hp9 hp15) hb15 hf15⟩)
                · skip
                  refine v_iload F 1 dX8_read_157 rfl rfl ?_
                  refine v_goto (tgt := 164) F dX8_read_159 rfl ?_
                  exact v_retx F dX8_read_164 rfl (⟨(ab_p hE15).trans hab, rRes.e (rdG_3 hp2 hp9 hp15) hb15 hf15⟩)
              · skip
                refine v_iload_n F 2 dX8_read_148 rfl rfl rfl ?_
                refine v_goto (tgt := 164) F dX8_read_149 rfl ?_
                exact v_retx F dX8_read_164 rfl (⟨(ab_p hE15).trans hab, rRes.e (rdG_3 hp2 hp9 hp15) hb15 hf15⟩)
            · skip
              exact absurd c16 (by decide)
          · skip
            rw [hp15] at hR15
            obtain ⟨hr15, hA15, hb15, ho15⟩ : r15 = f15 (rho t9) ∧ pAt b z t15 j15 ∧ t15 0 27 = 0 ∧ t15 0 26 = nI 0 := hR15
            rw [rho_eq hE9] at hr15
            have hg15 := ptP_le _ _ _ hi9 hp15
            have hi15 : j15 ≤ z := hg15.2
            refine v_istore (ls' := [(5, .int r15), (4, .int r9), (3, .int r2), (0, .ref (ad 0)), (1, .int (nI tt)), (2, .int w)]) F dX8_read_124 rfl (by decide) rfl ?_
            refine v_aload_n F 3 dX8_read_126 rfl rfl rfl ?_
            refine m_get F G 27 (w := .int (t15 0 27)) (by decide) q1280 rfl dX8_read_127 rfl ?_
            refine v_int F (y := 0) (hb15) ?_
            refine v_if_ne (tgt := 144) (q := 133) F dX8_read_130 rfl rfl (fun c19 => ?_) (fun c19 => ?_)
            · skip
              exact absurd c19 (by decide)
            · skip
              refine v_aload_n F 3 dX8_read_133 rfl rfl rfl ?_
              refine m_get F G 23 (w := .int (t15 0 23)) (by decide) q1276 rfl dX8_read_134 rfl ?_
              refine v_int F (hA15.1) ?_
              refine v_if_eq (tgt := 144) (q := 140) F dX8_read_137 rfl rfl (fun c20 => ?_) (fun c20 => ?_)
              · skip
                refine v_iload_n F 5 dX8_read_144 rfl rfl rfl ?_
                refine v_if_ne (tgt := 152) (q := 148) F dX8_read_145 rfl rfl (fun c21 => ?_) (fun c21 => ?_)
                · skip
                  refine v_iload_n F 5 dX8_read_152 rfl rfl rfl ?_
                  refine v_iconst (x := 1) F dX8_read_153 rfl (by decide) ?_
                  refine v_icmp_ne (tgt := 162) (q := 157) F dX8_read_154 rfl rfl (fun c22 => ?_) (fun c22 => ?_)
                  · skip
                    refine v_iload F 0 dX8_read_162 rfl rfl ?_
                    exact v_retx F dX8_read_164 rfl (⟨(ab_p hE15).trans hab, rRes.o (rdG_o hp2 hp9 hp15 c20) hb15 (by unfold rd3; rw [if_neg c21, if_neg c22]; rw [← hrho]; exact hr15)⟩)
                  · skip
                    refine v_iload F 1 dX8_read_157 rfl rfl ?_
                    refine v_goto (tgt := 164) F dX8_read_159 rfl ?_
                    exact v_retx F dX8_read_164 rfl (⟨(ab_p hE15).trans hab, rRes.o (rdG_o hp2 hp9 hp15 c20) hb15 (by unfold rd3; rw [if_neg c21, if_pos c22]; rw [← hrho]; exact hr9)⟩)
                · skip
                  refine v_iload_n F 2 dX8_read_148 rfl rfl rfl ?_
                  refine v_goto (tgt := 164) F dX8_read_149 rfl ?_
                  exact v_retx F dX8_read_164 rfl (⟨(ab_p hE15).trans hab, rRes.o (rdG_o hp2 hp9 hp15 c20) hb15 (by unfold rd3; rw [if_pos c21]; rw [← hrho]; exact hr2)⟩)
              · skip
                refine v_aload_n F 3 dX8_read_140 rfl rfl rfl ?_
                refine m_calln F G (cm_X8_fail G t15 hb15) ok_X8_fail q1445 is_X8_fail rfl rfl dX8_read_141 rfl rfl ?_
                intro u0 hu0; subst u0
                refine v_iload_n F 5 dX8_read_144 rfl rfl rfl ?_
                refine v_if_ne (tgt := 152) (q := 148) F dX8_read_145 rfl rfl (fun c23 => ?_) (fun c23 => ?_)
                · skip
                  refine v_iload_n F 5 dX8_read_152 rfl rfl rfl ?_
                  refine v_iconst (x := 1) F dX8_read_153 rfl (by decide) ?_
                  refine v_icmp_ne (tgt := 162) (q := 157) F dX8_read_154 rfl rfl (fun c24 => ?_) (fun c24 => ?_)
                  · skip
                    refine v_iload F 0 dX8_read_162 rfl rfl ?_
                    exact v_retx F dX8_read_164 rfl (⟨(ab_p (pEq.u (pEq.u hE15 (j := 27) (by decide) 1) (j := 28) (by decide) (t15 0 24))).trans hab, rRes.e (rdG_4 hp2 hp9 hp15 c20) rfl hA15.2.1⟩)
                  · skip
                    refine v_iload F 1 dX8_read_157 rfl rfl ?_
                    refine v_goto (tgt := 164) F dX8_read_159 rfl ?_
                    exact v_retx F dX8_read_164 rfl (⟨(ab_p (pEq.u (pEq.u hE15 (j := 27) (by decide) 1) (j := 28) (by decide) (t15 0 24))).trans hab, rRes.e (rdG_4 hp2 hp9 hp15 c20) rfl hA15.2.1⟩)
                · skip
                  refine v_iload_n F 2 dX8_read_148 rfl rfl rfl ?_
                  refine v_goto (tgt := 164) F dX8_read_149 rfl ?_
                  exact v_retx F dX8_read_164 rfl (⟨(ab_p (pEq.u (pEq.u hE15 (j := 27) (by decide) 1) (j := 28) (by decide) (t15 0 24))).trans hab, rRes.e (rdG_4 hp2 hp9 hp15 c20) rfl hA15.2.1⟩)
        · skip
          exact absurd c14 (by decide)
    · skip
      exact absurd c8 (by decide)
theorem ok_X8_says : vv_oc yX8_says 3 2 (ws_ yX8_says cX8_says 3 (some .int)) := vv_ok.oc (rt := (some .int)) ⟨q1416, q133, by decide +kernel, by decide +kernel⟩
theorem is_X8_says : Cond.instanceMethod yX8_says ∈ lw_all ∧ Cond.selects RX8 yX8_says yX8_says ∈ lw_all := ⟨q1415, qs51⟩
set_option maxHeartbeats 4000000 in
theorem cm_X8_says {l : Launch} {Kf : State → Prop} {D : va_G} {ad : Nat → Nat} {cI cZ : ClassId} {A : Nat → Prop} (G : mG A Kf D cI cZ)  (σ : mS) (w : Int32) (p : Nat) (hw : Wf (ab σ)) (hp : p < tn (σ 0 13)) : vv_Ct l yX8_says (ws_ yX8_says cX8_says 3 (some .int)) (rm 42 930) Kf (mWd D ad cI cZ A) A [.ref (ad 0), .int w, .int (nI p)] σ (vv_i (sayV (ab σ) w p) (fun u => ab u = ab σ)) := by
  refine vv_of (by decide +kernel) (Nat.le_of_ble_eq_true rfl) ?_
  intro v (F : vv_F v l cX8_says 3 RX8 "says" (some .int) [] (rm 42 930) Kf (mWd D ad cI cZ A) A _)
  show v σ 0 0 0 [(0, .ref (ad 0)), (1, .int w), (2, .int (nI p))] []
  have hM : σ 0 13 = nI (tn (σ 0 13)) := hw.1.1.1
  have hM8 : tn (σ 0 13) ≤ 8 := hw.1.1.2
  have hg : σ 12 (3 * p + 1) = nI (tn (σ 12 (3 * p + 1))) := (hw.2.1 p hp).1.1
  have hg7 : tn (σ 12 (3 * p + 1)) ≤ 7 := (hw.2.1 p hp).1.2
  have hR : σ 0 4 = nI (tn (σ 0 4)) := hw.1.2.2.1
  have hRC : tn (σ 0 4) < tn (σ 0 3) := hw.1.2.2.2
  have hC6 : tn (σ 0 3) ≤ 6 := hw.1.2.1.2
  obtain ⟨⟨hz, hz2⟩, hby, x, hx⟩ := hw.2.2 (tn (σ 0 4)) hRC
  have hx0 : rdG (fun i => σ 1 (160 * tn (σ 0 4) + i)) (tn (σ 2 (tn (σ 0 4)))) = .inr x := hx
  refine v_aload_n F 0 dX8_says_0 rfl rfl rfl ?_
  refine v_aload_n F 0 dX8_says_1 rfl rfl rfl ?_
  refine m_get F G 10 (w := .ref (ad 10)) (by decide) q1263 rfl dX8_says_2 rfl ?_
  refine v_aload_n F 0 dX8_says_5 rfl rfl rfl ?_
  refine m_get F G 12 (w := .ref (ad 12)) (by decide) q1265 rfl dX8_says_6 rfl ?_
  refine v_iconst (x := 3) F dX8_says_9 rfl (by decide) ?_
  refine v_iload_n F 2 dX8_says_10 rfl rfl rfl ?_
  refine v_imulN (a := 3) (b := p) F dX8_says_11 rfl ?_
  refine v_iconst (x := 1) F dX8_says_12 rfl (by decide) ?_
  refine v_iaddN (a := 3 * p) (b := 1) F dX8_says_13 rfl ?_
  refine m_ald12 (t := (3 * p) + 1) F G (by omega) dX8_says_14 rfl ?_
  refine v_int F (hg) ?_
  refine m_ald10 (t := tn (σ 12 (3 * p + 1))) F G (by omega) dX8_says_15 rfl ?_
  refine m_put14 F G q1267 dX8_says_16 rfl ?_
  refine v_aload_n F 0 dX8_says_19 rfl rfl rfl ?_
  refine v_aload_n F 0 dX8_says_20 rfl rfl rfl ?_
  refine m_get F G 7 (w := .int (σ 0 7)) (by decide) q1260 rfl dX8_says_21 rfl ?_
  refine m_put15 F G q1268 dX8_says_24 rfl ?_
  refine v_aload_n F 0 dX8_says_27 rfl rfl rfl ?_
  refine v_aload_n F 0 dX8_says_28 rfl rfl rfl ?_
  refine m_get F G 12 (w := .ref (ad 12)) (by decide) q1265 rfl dX8_says_29 rfl ?_
  refine v_iconst (x := 3) F dX8_says_32 rfl (by decide) ?_
  refine v_iload_n F 2 dX8_says_33 rfl rfl rfl ?_
  refine v_imulN (a := 3) (b := p) F dX8_says_34 rfl ?_
  refine m_ald12 (t := 3 * p) F G (by omega) dX8_says_35 rfl ?_
  refine m_put16 F G q1269 dX8_says_36 rfl ?_
  refine v_aload_n F 0 dX8_says_39 rfl rfl rfl ?_
  refine v_aload_n F 0 dX8_says_40 rfl rfl rfl ?_
  refine m_get F G 12 (w := .ref (ad 12)) (by decide) q1265 rfl dX8_says_41 rfl ?_
  refine v_iconst (x := 3) F dX8_says_44 rfl (by decide) ?_
  refine v_iload_n F 2 dX8_says_45 rfl rfl rfl ?_
  refine v_imulN (a := 3) (b := p) F dX8_says_46 rfl ?_
  refine v_iconst (x := 2) F dX8_says_47 rfl (by decide) ?_
  refine v_iaddN (a := 3 * p) (b := 2) F dX8_says_48 rfl ?_
  refine m_ald12 (t := (3 * p) + 2) F G (by omega) dX8_says_49 rfl ?_
  refine m_put17 F G q1270 dX8_says_50 rfl ?_
  refine v_aload_n F 0 dX8_says_53 rfl rfl rfl ?_
  refine v_aload_n F 0 dX8_says_54 rfl rfl rfl ?_
  refine m_get F G 12 (w := .ref (ad 12)) (by decide) q1265 rfl dX8_says_55 rfl ?_
  refine v_iconst (x := 3) F dX8_says_58 rfl (by decide) ?_
  refine v_iload_n F 2 dX8_says_59 rfl rfl rfl ?_
  refine v_imulN (a := 3) (b := p) F dX8_says_60 rfl ?_
  refine v_iconst (x := 1) F dX8_says_61 rfl (by decide) ?_
  refine v_iaddN (a := 3 * p) (b := 1) F dX8_says_62 rfl ?_
  refine m_ald12 (t := (3 * p) + 1) F G (by omega) dX8_says_63 rfl ?_
  refine v_int F (hg) ?_
  refine m_put18 F G q1271 dX8_says_64 rfl ?_
  refine v_aload_n F 0 dX8_says_67 rfl rfl rfl ?_
  refine v_aload_n F 0 dX8_says_68 rfl rfl rfl ?_
  refine m_get F G 8 (w := .int (σ 0 8)) (by decide) q1261 rfl dX8_says_69 rfl ?_
  refine m_put19 F G q1272 dX8_says_72 rfl ?_
  refine v_aload_n F 0 dX8_says_75 rfl rfl rfl ?_
  refine v_aload_n F 0 dX8_says_76 rfl rfl rfl ?_
  refine m_get F G 4 (w := .int (σ 0 4)) (by decide) q1257 rfl dX8_says_77 rfl ?_
  refine v_int F (hR) ?_
  refine v_iload_n F 1 dX8_says_80 rfl rfl rfl ?_
  refine m_callx F G (cm_X8_read (b := fun i => σ 1 (160 * tn (σ 0 4) + i)) (z := tn (σ 2 (tn (σ 0 4)))) G (up (up (up (up (up (up σ 0 14 (σ 10 (tn (σ 12 (3 * p + 1))))) 0 15 (σ 0 7)) 0 16 (σ 12 (3 * p))) 0 17 (σ 12 ((3 * p) + 2))) 0 18 (nI (tn (σ 12 (3 * p + 1))))) 0 19 (σ 0 8)) (tn (σ 0 4)) w (by omega) hz hz2 (fun i hi => ⟨rfl, hby i hi⟩)) ok_X8_read q1417 is_X8_read rfl rfl dX8_says_81 rfl rfl ?_
  rintro r1 t1 ⟨hb1, hr1⟩
  rw [hx0] at hr1
  refine v_iconst (x := 0) F dX8_says_84 rfl (by decide) ?_
  refine v_iload_n F 1 dX8_says_85 rfl rfl rfl ?_
  refine v_iconst (x := 1) F dX8_says_86 rfl (by decide) ?_
  refine v_icmp_ne (tgt := 95) (q := 90) F dX8_says_87 rfl rfl (fun c2 => ?_) (fun c2 => ?_)
  · skip
    refine v_bipush (x := 100) F dX8_says_95 rfl (by decide) ?_
    refine s_calli F G.1 (cm_X8_within G t1 r1 0 100 ) ok_X8_within q1607 q1608 rfl rfl dX8_says_97 rfl rfl ?_
    intro u0 hu0; subst u0
    exact v_reti F dX8_says_100 rfl (by rw [say_eq (α := ab σ) hx]; have h9 : r1 = _ := hr1.2; rw [rho_env hg.symm] at h9; rw [h9]; rw [if_neg c2]) (hb1.trans (by rw [ab_us rfl, ab_us rfl, ab_us rfl, ab_us rfl, ab_us rfl, ab_us rfl]))
  · skip
    refine v_bipush (x := 99) F dX8_says_90 rfl (by decide) ?_
    refine v_goto (tgt := 97) F dX8_says_92 rfl ?_
    refine s_calli F G.1 (cm_X8_within G t1 r1 0 99 ) ok_X8_within q1607 q1608 rfl rfl dX8_says_97 rfl rfl ?_
    intro u0 hu0; subst u0
    exact v_reti F dX8_says_100 rfl (by rw [say_eq (α := ab σ) hx]; have h9 : r1 = _ := hr1.2; rw [rho_env hg.symm] at h9; rw [h9]; rw [if_pos c2]) (hb1.trans (by rw [ab_us rfl, ab_us rfl, ab_us rfl, ab_us rfl, ab_us rfl, ab_us rfl]))
theorem ok_X8_rotsOf : vv_oc yX8_rotsOf 5 1 (ws_ yX8_rotsOf cX8_rotsOf 5 (some .int)) := vv_ok.oc (rt := (some .int)) ⟨q1412, q133, by decide +kernel, by decide +kernel⟩
theorem is_X8_rotsOf : Cond.instanceMethod yX8_rotsOf ∈ lw_all ∧ Cond.selects RX8 yX8_rotsOf yX8_rotsOf ∈ lw_all := ⟨q1411, qs50⟩
set_option maxHeartbeats 4000000 in
theorem cm_X8_rotsOf {l : Launch} {Kf : State → Prop} {D : va_G} {ad : Nat → Nat} {cI cZ : ClassId} {A : Nat → Prop} (G : mG A Kf D cI cZ)  (σ : mS) (p : Nat) (hw : Wf (ab σ)) (hp : p < tn (σ 0 13)) : vv_Ct l yX8_rotsOf (ws_ yX8_rotsOf cX8_rotsOf 5 (some .int)) (rm 43 952) Kf (mWd D ad cI cZ A) A [.ref (ad 0), .int (nI p)] σ (vv_i (rotV (ab σ) p) (fun u => ab u = ab σ)) := by
  refine vv_of (by decide +kernel) (Nat.le_of_ble_eq_true rfl) ?_
  intro v (F : vv_F v l cX8_rotsOf 5 RX8 "rotsOf" (some .int) [] (rm 43 952) Kf (mWd D ad cI cZ A) A _)
  show v σ 0 0 0 [(0, .ref (ad 0)), (1, .int (nI p))] []
  have hM : σ 0 13 = nI (tn (σ 0 13)) := hw.1.1.1
  have hM8 : tn (σ 0 13) ≤ 8 := hw.1.1.2
  have hg : σ 12 (3 * p + 1) = nI (tn (σ 12 (3 * p + 1))) := (hw.2.1 p hp).1.1
  have hg7 : tn (σ 12 (3 * p + 1)) ≤ 7 := (hw.2.1 p hp).1.2
  refine v_aload_n F 0 dX8_rotsOf_0 rfl rfl rfl ?_
  refine m_get F G 11 (w := .ref (ad 11)) (by decide) q1264 rfl dX8_rotsOf_1 rfl ?_
  refine v_iload_n F 1 dX8_rotsOf_4 rfl rfl rfl ?_
  refine m_ald11 (t := p) F G (by omega) dX8_rotsOf_5 rfl ?_
  refine v_istore_n (ls' := [(2, .int (σ 11 p)), (0, .ref (ad 0)), (1, .int (nI p))]) F dX8_rotsOf_6 rfl rfl (by decide) rfl ?_
  refine v_aload_n F 1 dX8_rotsOf_7 rfl rfl rfl ?_
  refine v_iconst (x := 0) F dX8_rotsOf_8 rfl (by decide) ?_
  refine v_iload_n F 2 dX8_rotsOf_9 rfl rfl rfl ?_
  refine m_calli F G (cm_X8_says G σ 0 p hw hp) ok_X8_says q1413 is_X8_says rfl rfl dX8_rotsOf_10 rfl rfl ?_
  intro t1 hb1
  refine v_istore_n (ls' := [(3, .int (sayV (ab σ) 0 p)), (2, .int (σ 11 p)), (0, .ref (ad 0)), (1, .int (nI p))]) F dX8_rotsOf_13 rfl rfl (by decide) rfl ?_
  refine v_iload_n F 1 dX8_rotsOf_14 rfl rfl rfl ?_
  refine v_iconst (x := 1) F dX8_rotsOf_15 rfl (by decide) ?_
  refine v_icmp_eq (tgt := 24) (q := 19) F dX8_rotsOf_16 rfl rfl (fun c2 => ?_) (fun c2 => ?_)
  · skip
    refine v_iload_n F 0 dX8_rotsOf_24 rfl rfl rfl ?_
    refine v_bipush (x := 10) F dX8_rotsOf_25 rfl (by decide) ?_
    refine v_iadd F dX8_rotsOf_27 rfl ?_
    refine v_goto (tgt := 86) F dX8_rotsOf_28 rfl ?_
    refine v_istore (ls' := [(4, .int ((sayV (ab σ) 0 p) + 10)), (3, .int (sayV (ab σ) 0 p)), (2, .int (σ 11 p)), (0, .ref (ad 0)), (1, .int (nI p))]) F dX8_rotsOf_86 rfl (by decide) rfl ?_
    refine v_iload F 0 dX8_rotsOf_88 rfl rfl ?_
    refine v_iconst (x := 0) F dX8_rotsOf_90 rfl (by decide) ?_
    refine v_bipush (x := 100) F dX8_rotsOf_91 rfl (by decide) ?_
    refine s_calli F G.1 (cm_X8_within G t1 ((sayV (ab σ) 0 p) + 10) 0 100 ) ok_X8_within q1607 q1608 rfl rfl dX8_rotsOf_93 rfl rfl ?_
    intro u0 hu0; subst u0
    exact v_reti F dX8_rotsOf_96 rfl (by show _ = rotF (σ 11 p) (sayV (ab σ) 0 p) (σ 10 (tn (σ 12 (3 * p + 1)))); unfold rotF; first | (simp [c2]; done) | grind) (hb1)
  · skip
    refine v_iload_n F 1 dX8_rotsOf_19 rfl rfl rfl ?_
    refine v_iconst (x := 3) F dX8_rotsOf_20 rfl (by decide) ?_
    refine v_icmp_ne (tgt := 31) (q := 24) F dX8_rotsOf_21 rfl rfl (fun c3 => ?_) (fun c3 => ?_)
    · skip
      refine v_iload_n F 1 dX8_rotsOf_31 rfl rfl rfl ?_
      refine v_iconst (x := 2) F dX8_rotsOf_32 rfl (by decide) ?_
      refine v_icmp_ne (tgt := 42) (q := 36) F dX8_rotsOf_33 rfl rfl (fun c4 => ?_) (fun c4 => ?_)
      · skip
        refine v_iload_n F 1 dX8_rotsOf_42 rfl rfl rfl ?_
        refine v_iconst (x := 4) F dX8_rotsOf_43 rfl (by decide) ?_
        refine v_icmp_ne (tgt := 69) (q := 47) F dX8_rotsOf_44 rfl rfl (fun c5 => ?_) (fun c5 => ?_)
        · skip
          refine v_iload_n F 1 dX8_rotsOf_69 rfl rfl rfl ?_
          refine v_iconst (x := 5) F dX8_rotsOf_70 rfl (by decide) ?_
          refine v_icmp_ne (tgt := 85) (q := 74) F dX8_rotsOf_71 rfl rfl (fun c6 => ?_) (fun c6 => ?_)
          · skip
            refine v_iload_n F 0 dX8_rotsOf_85 rfl rfl rfl ?_
            refine v_istore (ls' := [(4, .int (sayV (ab σ) 0 p)), (3, .int (sayV (ab σ) 0 p)), (2, .int (σ 11 p)), (0, .ref (ad 0)), (1, .int (nI p))]) F dX8_rotsOf_86 rfl (by decide) rfl ?_
            refine v_iload F 0 dX8_rotsOf_88 rfl rfl ?_
            refine v_iconst (x := 0) F dX8_rotsOf_90 rfl (by decide) ?_
            refine v_bipush (x := 100) F dX8_rotsOf_91 rfl (by decide) ?_
            refine s_calli F G.1 (cm_X8_within G t1 (sayV (ab σ) 0 p) 0 100 ) ok_X8_within q1607 q1608 rfl rfl dX8_rotsOf_93 rfl rfl ?_
            intro u0 hu0; subst u0
            exact v_reti F dX8_rotsOf_96 rfl (by show _ = rotF (σ 11 p) (sayV (ab σ) 0 p) (σ 10 (tn (σ 12 (3 * p + 1)))); unfold rotF; first | (simp [c2, c3, c4, c5, c6]; done) | grind) (hb1)
          · skip
            refine v_iload_n F 0 dX8_rotsOf_74 rfl rfl rfl ?_
            refine v_bipush (x := 50) F dX8_rotsOf_75 rfl (by decide) ?_
            refine v_icmp_ge (tgt := 85) (q := 80) F dX8_rotsOf_77 rfl rfl (fun c7 => ?_) (fun c7 => ?_)
            · skip
              refine v_iload_n F 0 dX8_rotsOf_85 rfl rfl rfl ?_
              refine v_istore (ls' := [(4, .int (sayV (ab σ) 0 p)), (3, .int (sayV (ab σ) 0 p)), (2, .int (σ 11 p)), (0, .ref (ad 0)), (1, .int (nI p))]) F dX8_rotsOf_86 rfl (by decide) rfl ?_
              refine v_iload F 0 dX8_rotsOf_88 rfl rfl ?_
              refine v_iconst (x := 0) F dX8_rotsOf_90 rfl (by decide) ?_
              refine v_bipush (x := 100) F dX8_rotsOf_91 rfl (by decide) ?_
              refine s_calli F G.1 (cm_X8_within G t1 (sayV (ab σ) 0 p) 0 100 ) ok_X8_within q1607 q1608 rfl rfl dX8_rotsOf_93 rfl rfl ?_
              intro u0 hu0; subst u0
              exact v_reti F dX8_rotsOf_96 rfl (by show _ = rotF (σ 11 p) (sayV (ab σ) 0 p) (σ 10 (tn (σ 12 (3 * p + 1)))); unfold rotF; first | (simp [c2, c3, c4, c5, c6, c7]; done) | grind) (hb1)
            · skip
              refine v_bipush (x := 50) F dX8_rotsOf_80 rfl (by decide) ?_
              refine v_goto (tgt := 86) F dX8_rotsOf_82 rfl ?_
              refine v_istore (ls' := [(4, .int 50), (3, .int (sayV (ab σ) 0 p)), (2, .int (σ 11 p)), (0, .ref (ad 0)), (1, .int (nI p))]) F dX8_rotsOf_86 rfl (by decide) rfl ?_
              refine v_iload F 0 dX8_rotsOf_88 rfl rfl ?_
              refine v_iconst (x := 0) F dX8_rotsOf_90 rfl (by decide) ?_
              refine v_bipush (x := 100) F dX8_rotsOf_91 rfl (by decide) ?_
              refine s_calli F G.1 (cm_X8_within G t1 50 0 100 ) ok_X8_within q1607 q1608 rfl rfl dX8_rotsOf_93 rfl rfl ?_
              intro u0 hu0; subst u0
              exact v_reti F dX8_rotsOf_96 rfl (by show _ = rotF (σ 11 p) (sayV (ab σ) 0 p) (σ 10 (tn (σ 12 (3 * p + 1)))); unfold rotF; first | (simp [c2, c3, c4, c5, c6, c7]; done) | grind) (hb1)
        · skip
          refine v_iload_n F 0 dX8_rotsOf_47 rfl rfl rfl ?_
          refine v_iconst (x := 2) F dX8_rotsOf_48 rfl (by decide) ?_
          refine v_idiv F dX8_rotsOf_49 rfl (by decide) ?_
          refine v_aload_n F 2 dX8_rotsOf_50 rfl rfl rfl ?_
          refine m_get F G 10 (w := .ref (ad 10)) (by decide) q1263 rfl dX8_rotsOf_51 rfl ?_
          refine v_aload_n F 2 dX8_rotsOf_54 rfl rfl rfl ?_
          refine m_get F G 12 (w := .ref (ad 12)) (by decide) q1265 rfl dX8_rotsOf_55 rfl ?_
          refine v_iconst (x := 3) F dX8_rotsOf_58 rfl (by decide) ?_
          refine v_iload_n F 3 dX8_rotsOf_59 rfl rfl rfl ?_
          refine v_imulN (a := 3) (b := p) F dX8_rotsOf_60 rfl ?_
          refine v_iconst (x := 1) F dX8_rotsOf_61 rfl (by decide) ?_
          refine v_iaddN (a := 3 * p) (b := 1) F dX8_rotsOf_62 rfl ?_
          refine m_ald12 (t := (3 * p) + 1) F G (by omega) dX8_rotsOf_63 rfl ?_
          refine v_int F (y := σ 12 ((3 * p) + 1)) (ab_eq hb1 12 ((3 * p) + 1) rfl) ?_
          refine v_int F (hg) ?_
          refine m_ald10 (t := tn (σ 12 (3 * p + 1))) F G (by omega) dX8_rotsOf_64 rfl ?_
          refine v_int F (y := σ 10 (tn (σ 12 (3 * p + 1)))) (ab_eq hb1 10 (tn (σ 12 (3 * p + 1))) rfl) ?_
          refine v_iadd F dX8_rotsOf_65 rfl ?_
          refine v_goto (tgt := 86) F dX8_rotsOf_66 rfl ?_
          refine v_istore (ls' := [(4, .int (((sayV (ab σ) 0 p) / 2) + (σ 10 (tn (σ 12 (3 * p + 1)))))), (3, .int (sayV (ab σ) 0 p)), (2, .int (σ 11 p)), (0, .ref (ad 0)), (1, .int (nI p))]) F dX8_rotsOf_86 rfl (by decide) rfl ?_
          refine v_iload F 0 dX8_rotsOf_88 rfl rfl ?_
          refine v_iconst (x := 0) F dX8_rotsOf_90 rfl (by decide) ?_
          refine v_bipush (x := 100) F dX8_rotsOf_91 rfl (by decide) ?_
          refine s_calli F G.1 (cm_X8_within G t1 (((sayV (ab σ) 0 p) / 2) + (σ 10 (tn (σ 12 (3 * p + 1))))) 0 100 ) ok_X8_within q1607 q1608 rfl rfl dX8_rotsOf_93 rfl rfl ?_
          intro u0 hu0; subst u0
          exact v_reti F dX8_rotsOf_96 rfl (by show _ = rotF (σ 11 p) (sayV (ab σ) 0 p) (σ 10 (tn (σ 12 (3 * p + 1)))); unfold rotF; first | (simp [c2, c3, c4, c5]; done) | grind) (hb1)
      · skip
        refine v_iload_n F 0 dX8_rotsOf_36 rfl rfl rfl ?_
        refine v_iconst (x := 2) F dX8_rotsOf_37 rfl (by decide) ?_
        refine v_idiv F dX8_rotsOf_38 rfl (by decide) ?_
        refine v_goto (tgt := 86) F dX8_rotsOf_39 rfl ?_
        refine v_istore (ls' := [(4, .int ((sayV (ab σ) 0 p) / 2)), (3, .int (sayV (ab σ) 0 p)), (2, .int (σ 11 p)), (0, .ref (ad 0)), (1, .int (nI p))]) F dX8_rotsOf_86 rfl (by decide) rfl ?_
        refine v_iload F 0 dX8_rotsOf_88 rfl rfl ?_
        refine v_iconst (x := 0) F dX8_rotsOf_90 rfl (by decide) ?_
        refine v_bipush (x := 100) F dX8_rotsOf_91 rfl (by decide) ?_
        refine s_calli F G.1 (cm_X8_within G t1 ((sayV (ab σ) 0 p) / 2) 0 100 ) ok_X8_within q1607 q1608 rfl rfl dX8_rotsOf_93 rfl rfl ?_
        intro u0 hu0; subst u0
        exact v_reti F dX8_rotsOf_96 rfl (by show _ = rotF (σ 11 p) (sayV (ab σ) 0 p) (σ 10 (tn (σ 12 (3 * p + 1)))); unfold rotF; first | (simp [c2, c3, c4]; done) | grind) (hb1)
    · skip
      refine v_iload_n F 0 dX8_rotsOf_24 rfl rfl rfl ?_
      refine v_bipush (x := 10) F dX8_rotsOf_25 rfl (by decide) ?_
      refine v_iadd F dX8_rotsOf_27 rfl ?_
      refine v_goto (tgt := 86) F dX8_rotsOf_28 rfl ?_
      refine v_istore (ls' := [(4, .int ((sayV (ab σ) 0 p) + 10)), (3, .int (sayV (ab σ) 0 p)), (2, .int (σ 11 p)), (0, .ref (ad 0)), (1, .int (nI p))]) F dX8_rotsOf_86 rfl (by decide) rfl ?_
      refine v_iload F 0 dX8_rotsOf_88 rfl rfl ?_
      refine v_iconst (x := 0) F dX8_rotsOf_90 rfl (by decide) ?_
      refine v_bipush (x := 100) F dX8_rotsOf_91 rfl (by decide) ?_
      refine s_calli F G.1 (cm_X8_within G t1 ((sayV (ab σ) 0 p) + 10) 0 100 ) ok_X8_within q1607 q1608 rfl rfl dX8_rotsOf_93 rfl rfl ?_
      intro u0 hu0; subst u0
      exact v_reti F dX8_rotsOf_96 rfl (by show _ = rotF (σ 11 p) (sayV (ab σ) 0 p) (σ 10 (tn (σ 12 (3 * p + 1)))); unfold rotF; first | (simp [c2, c3]; done) | grind) (hb1)
theorem ok_X8_growsOf : vv_oc yX8_growsOf 6 2 (ws_ yX8_growsOf cX8_growsOf 6 (some .int)) := vv_ok.oc (rt := (some .int)) ⟨q1613, q133, by decide +kernel, by decide +kernel⟩
theorem is_X8_growsOf : Cond.instanceMethod yX8_growsOf ∈ lw_all ∧ Cond.selects RX8 yX8_growsOf yX8_growsOf ∈ lw_all := ⟨q1612, qs98⟩
set_option maxHeartbeats 4000000 in
theorem cm_X8_growsOf {l : Launch} {Kf : State → Prop} {D : va_G} {ad : Nat → Nat} {cI cZ : ClassId} {A : Nat → Prop} (G : mG A Kf D cI cZ)  (σ : mS) (p : Nat) (n : Int32) (hw : Wf (ab σ)) (hp : p < tn (σ 0 13)) : vv_Ct l yX8_growsOf (ws_ yX8_growsOf cX8_growsOf 6 (some .int)) (rm 1 22) Kf (mWd D ad cI cZ A) A [.ref (ad 0), .int (nI p), .int n] σ (vv_i (groV (ab σ) p n) (fun u => u = σ)) := by
  refine vv_of (by decide +kernel) (Nat.le_of_ble_eq_true rfl) ?_
  intro v (F : vv_F v l cX8_growsOf 6 RX8 "growsOf" (some .int) [] (rm 1 22) Kf (mWd D ad cI cZ A) A _)
  show v σ 0 0 0 [(0, .ref (ad 0)), (1, .int (nI p)), (2, .int n)] []
  have hM : σ 0 13 = nI (tn (σ 0 13)) := hw.1.1.1
  have hM8 : tn (σ 0 13) ≤ 8 := hw.1.1.2
  have hg : σ 12 (3 * p + 1) = nI (tn (σ 12 (3 * p + 1))) := (hw.2.1 p hp).1.1
  have hg7 : tn (σ 12 (3 * p + 1)) ≤ 7 := (hw.2.1 p hp).1.2
  refine v_aload_n F 0 dX8_growsOf_0 rfl rfl rfl ?_
  refine m_get F G 11 (w := .ref (ad 11)) (by decide) q1264 rfl dX8_growsOf_1 rfl ?_
  refine v_iload_n F 1 dX8_growsOf_4 rfl rfl rfl ?_
  refine m_ald11 (t := p) F G (by omega) dX8_growsOf_5 rfl ?_
  refine v_istore_n (ls' := [(3, .int (σ 11 p)), (0, .ref (ad 0)), (1, .int (nI p)), (2, .int n)]) F dX8_growsOf_6 rfl rfl (by decide) rfl ?_
  refine v_iload_n F 0 dX8_growsOf_7 rfl rfl rfl ?_
  refine v_iconst (x := 5) F dX8_growsOf_8 rfl (by decide) ?_
  refine v_icmp_eq (tgt := 27) (q := 12) F dX8_growsOf_9 rfl rfl (fun c1 => ?_) (fun c1 => ?_)
  · skip
    refine v_iload_n F 3 dX8_growsOf_27 rfl rfl rfl ?_
    refine v_iconst (x := 0) F dX8_growsOf_28 rfl (by decide) ?_
    refine v_sipush (x := 9999) F dX8_growsOf_29 rfl (by decide) ?_
    refine s_calli F G.1 (cm_X8_within G σ n 0 9999 ) ok_X8_within q1607 q1608 rfl rfl dX8_growsOf_32 rfl rfl ?_
    intro u0 hu0; subst u0
    exact v_reti F dX8_growsOf_35 rfl (by show _ = groF (σ 11 p) n (σ 10 (tn (σ 12 (3 * p + 1)))) (σ 12 (3 * p)) (σ 0 7); unfold groF; grind) (rfl)
  · skip
    refine v_iload_n F 0 dX8_growsOf_12 rfl rfl rfl ?_
    refine v_iconst (x := 4) F dX8_growsOf_13 rfl (by decide) ?_
    refine v_icmp_ne (tgt := 36) (q := 17) F dX8_growsOf_14 rfl rfl (fun c2 => ?_) (fun c2 => ?_)
    · skip
      refine v_iload_n F 0 dX8_growsOf_36 rfl rfl rfl ?_
      refine v_iconst (x := 2) F dX8_growsOf_37 rfl (by decide) ?_
      refine v_icmp_eq (tgt := 46) (q := 41) F dX8_growsOf_38 rfl rfl (fun c3 => ?_) (fun c3 => ?_)
      · skip
        refine v_iload_n F 3 dX8_growsOf_46 rfl rfl rfl ?_
        refine v_iload_n F 3 dX8_growsOf_47 rfl rfl rfl ?_
        refine v_iconst (x := 2) F dX8_growsOf_48 rfl (by decide) ?_
        refine v_idiv F dX8_growsOf_49 rfl (by decide) ?_
        refine v_iadd F dX8_growsOf_50 rfl ?_
        refine v_iconst (x := 0) F dX8_growsOf_51 rfl (by decide) ?_
        refine v_sipush (x := 9999) F dX8_growsOf_52 rfl (by decide) ?_
        refine s_calli F G.1 (cm_X8_within G σ (n + (n / 2)) 0 9999 ) ok_X8_within q1607 q1608 rfl rfl dX8_growsOf_55 rfl rfl ?_
        intro u0 hu0; subst u0
        exact v_reti F dX8_growsOf_58 rfl (by show _ = groF (σ 11 p) n (σ 10 (tn (σ 12 (3 * p + 1)))) (σ 12 (3 * p)) (σ 0 7); unfold groF; grind) (rfl)
      · skip
        refine v_iload_n F 0 dX8_growsOf_41 rfl rfl rfl ?_
        refine v_iconst (x := 4) F dX8_growsOf_42 rfl (by decide) ?_
        refine v_icmp_ne (tgt := 59) (q := 46) F dX8_growsOf_43 rfl rfl (fun c4 => ?_) (fun c4 => ?_)
        · skip
          refine v_aload_n F 1 dX8_growsOf_59 rfl rfl rfl ?_
          refine m_get F G 10 (w := .ref (ad 10)) (by decide) q1263 rfl dX8_growsOf_60 rfl ?_
          refine v_aload_n F 1 dX8_growsOf_63 rfl rfl rfl ?_
          refine m_get F G 12 (w := .ref (ad 12)) (by decide) q1265 rfl dX8_growsOf_64 rfl ?_
          refine v_iconst (x := 3) F dX8_growsOf_67 rfl (by decide) ?_
          refine v_iload_n F 2 dX8_growsOf_68 rfl rfl rfl ?_
          refine v_imulN (a := 3) (b := p) F dX8_growsOf_69 rfl ?_
          refine v_iconst (x := 1) F dX8_growsOf_70 rfl (by decide) ?_
          refine v_iaddN (a := 3 * p) (b := 1) F dX8_growsOf_71 rfl ?_
          refine m_ald12 (t := (3 * p) + 1) F G (by omega) dX8_growsOf_72 rfl ?_
          refine v_int F (hg) ?_
          refine m_ald10 (t := tn (σ 12 (3 * p + 1))) F G (by omega) dX8_growsOf_73 rfl ?_
          refine v_iconst (x := 3) F dX8_growsOf_74 rfl (by decide) ?_
          refine v_icmp_le (tgt := 84) (q := 78) F dX8_growsOf_75 rfl rfl (fun c5 => ?_) (fun c5 => ?_)
          · skip
            refine v_iload_n F 3 dX8_growsOf_84 rfl rfl rfl ?_
            refine v_istore (ls' := [(4, .int n), (3, .int (σ 11 p)), (0, .ref (ad 0)), (1, .int (nI p)), (2, .int n)]) F dX8_growsOf_85 rfl (by decide) rfl ?_
            refine v_iload_n F 4 dX8_growsOf_87 rfl rfl rfl ?_
            refine v_if_le (tgt := 105) (q := 91) F dX8_growsOf_88 rfl rfl (fun c6 => ?_) (fun c6 => ?_)
            · skip
              refine v_iload F 0 dX8_growsOf_105 rfl rfl ?_
              refine v_istore (ls' := [(5, .int n), (4, .int n), (3, .int (σ 11 p)), (0, .ref (ad 0)), (1, .int (nI p)), (2, .int n)]) F dX8_growsOf_107 rfl (by decide) rfl ?_
              refine v_iload_n F 2 dX8_growsOf_109 rfl rfl rfl ?_
              refine v_if_ne (tgt := 118) (q := 113) F dX8_growsOf_110 rfl rfl (fun c7 => ?_) (fun c7 => ?_)
              · skip
                refine v_iload_n F 2 dX8_growsOf_118 rfl rfl rfl ?_
                refine v_iconst (x := 1) F dX8_growsOf_119 rfl (by decide) ?_
                refine v_icmp_ne (tgt := 128) (q := 123) F dX8_growsOf_120 rfl rfl (fun c8 => ?_) (fun c8 => ?_)
                · skip
                  refine v_iload F 0 dX8_growsOf_128 rfl rfl ?_
                  refine v_iload_n F 5 dX8_growsOf_130 rfl rfl rfl ?_
                  refine v_iadd F dX8_growsOf_131 rfl ?_
                  refine v_iconst (x := 0) F dX8_growsOf_132 rfl (by decide) ?_
                  refine v_sipush (x := 9999) F dX8_growsOf_133 rfl (by decide) ?_
                  refine s_calli F G.1 (cm_X8_within G σ (n + n) 0 9999 ) ok_X8_within q1607 q1608 rfl rfl dX8_growsOf_136 rfl rfl ?_
                  intro u0 hu0; subst u0
                  exact v_reti F dX8_growsOf_139 rfl (by show _ = groF (σ 11 p) n (σ 10 (tn (σ 12 (3 * p + 1)))) (σ 12 (3 * p)) (σ 0 7); unfold groF; grind) (rfl)
                · skip
                  refine v_iload F 0 dX8_growsOf_123 rfl rfl ?_
                  refine v_goto (tgt := 132) F dX8_growsOf_125 rfl ?_
                  refine v_iconst (x := 0) F dX8_growsOf_132 rfl (by decide) ?_
                  refine v_sipush (x := 9999) F dX8_growsOf_133 rfl (by decide) ?_
                  refine s_calli F G.1 (cm_X8_within G σ n 0 9999 ) ok_X8_within q1607 q1608 rfl rfl dX8_growsOf_136 rfl rfl ?_
                  intro u0 hu0; subst u0
                  exact v_reti F dX8_growsOf_139 rfl (by show _ = groF (σ 11 p) n (σ 10 (tn (σ 12 (3 * p + 1)))) (σ 12 (3 * p)) (σ 0 7); unfold groF; grind) (rfl)
              · skip
                refine v_iload F 1 dX8_growsOf_113 rfl rfl ?_
                refine v_goto (tgt := 132) F dX8_growsOf_115 rfl ?_
                refine v_iconst (x := 0) F dX8_growsOf_132 rfl (by decide) ?_
                refine v_sipush (x := 9999) F dX8_growsOf_133 rfl (by decide) ?_
                refine s_calli F G.1 (cm_X8_within G σ n 0 9999 ) ok_X8_within q1607 q1608 rfl rfl dX8_growsOf_136 rfl rfl ?_
                intro u0 hu0; subst u0
                exact v_reti F dX8_growsOf_139 rfl (by show _ = groF (σ 11 p) n (σ 10 (tn (σ 12 (3 * p + 1)))) (σ 12 (3 * p)) (σ 0 7); unfold groF; grind) (rfl)
            · skip
              refine v_iload F 0 dX8_growsOf_91 rfl rfl ?_
              refine v_aload_n F 2 dX8_growsOf_93 rfl rfl rfl ?_
              refine m_get F G 12 (w := .ref (ad 12)) (by decide) q1265 rfl dX8_growsOf_94 rfl ?_
              refine v_iconst (x := 3) F dX8_growsOf_97 rfl (by decide) ?_
              refine v_iload_n F 3 dX8_growsOf_98 rfl rfl rfl ?_
              refine v_imulN (a := 3) (b := p) F dX8_growsOf_99 rfl ?_
              refine m_ald12 (t := 3 * p) F G (by omega) dX8_growsOf_100 rfl ?_
              refine v_iadd F dX8_growsOf_101 rfl ?_
              refine v_goto (tgt := 107) F dX8_growsOf_102 rfl ?_
              refine v_istore (ls' := [(5, .int (n + (σ 12 (3 * p)))), (4, .int n), (3, .int (σ 11 p)), (0, .ref (ad 0)), (1, .int (nI p)), (2, .int n)]) F dX8_growsOf_107 rfl (by decide) rfl ?_
              refine v_iload_n F 2 dX8_growsOf_109 rfl rfl rfl ?_
              refine v_if_ne (tgt := 118) (q := 113) F dX8_growsOf_110 rfl rfl (fun c9 => ?_) (fun c9 => ?_)
              · skip
                refine v_iload_n F 2 dX8_growsOf_118 rfl rfl rfl ?_
                refine v_iconst (x := 1) F dX8_growsOf_119 rfl (by decide) ?_
                refine v_icmp_ne (tgt := 128) (q := 123) F dX8_growsOf_120 rfl rfl (fun c10 => ?_) (fun c10 => ?_)
                · skip
                  refine v_iload F 0 dX8_growsOf_128 rfl rfl ?_
                  refine v_iload_n F 5 dX8_growsOf_130 rfl rfl rfl ?_
                  refine v_iadd F dX8_growsOf_131 rfl ?_
                  refine v_iconst (x := 0) F dX8_growsOf_132 rfl (by decide) ?_
                  refine v_sipush (x := 9999) F dX8_growsOf_133 rfl (by decide) ?_
                  refine s_calli F G.1 (cm_X8_within G σ ((n + (σ 12 (3 * p))) + n) 0 9999 ) ok_X8_within q1607 q1608 rfl rfl dX8_growsOf_136 rfl rfl ?_
                  intro u0 hu0; subst u0
                  exact v_reti F dX8_growsOf_139 rfl (by show _ = groF (σ 11 p) n (σ 10 (tn (σ 12 (3 * p + 1)))) (σ 12 (3 * p)) (σ 0 7); unfold groF; grind) (rfl)
                · skip
                  refine v_iload F 0 dX8_growsOf_123 rfl rfl ?_
                  refine v_goto (tgt := 132) F dX8_growsOf_125 rfl ?_
                  refine v_iconst (x := 0) F dX8_growsOf_132 rfl (by decide) ?_
                  refine v_sipush (x := 9999) F dX8_growsOf_133 rfl (by decide) ?_
                  refine s_calli F G.1 (cm_X8_within G σ (n + (σ 12 (3 * p))) 0 9999 ) ok_X8_within q1607 q1608 rfl rfl dX8_growsOf_136 rfl rfl ?_
                  intro u0 hu0; subst u0
                  exact v_reti F dX8_growsOf_139 rfl (by show _ = groF (σ 11 p) n (σ 10 (tn (σ 12 (3 * p + 1)))) (σ 12 (3 * p)) (σ 0 7); unfold groF; grind) (rfl)
              · skip
                refine v_iload F 1 dX8_growsOf_113 rfl rfl ?_
                refine v_goto (tgt := 132) F dX8_growsOf_115 rfl ?_
                refine v_iconst (x := 0) F dX8_growsOf_132 rfl (by decide) ?_
                refine v_sipush (x := 9999) F dX8_growsOf_133 rfl (by decide) ?_
                refine s_calli F G.1 (cm_X8_within G σ n 0 9999 ) ok_X8_within q1607 q1608 rfl rfl dX8_growsOf_136 rfl rfl ?_
                intro u0 hu0; subst u0
                exact v_reti F dX8_growsOf_139 rfl (by show _ = groF (σ 11 p) n (σ 10 (tn (σ 12 (3 * p + 1)))) (σ 12 (3 * p)) (σ 0 7); unfold groF; grind) (rfl)
          · skip
            refine v_iconst (x := 2) F dX8_growsOf_78 rfl (by decide) ?_
            refine v_iload_n F 3 dX8_growsOf_79 rfl rfl rfl ?_
            refine v_imul F dX8_growsOf_80 rfl ?_
            refine v_goto (tgt := 85) F dX8_growsOf_81 rfl ?_
            refine v_istore (ls' := [(4, .int (2 * n)), (3, .int (σ 11 p)), (0, .ref (ad 0)), (1, .int (nI p)), (2, .int n)]) F dX8_growsOf_85 rfl (by decide) rfl ?_
            refine v_iload_n F 4 dX8_growsOf_87 rfl rfl rfl ?_
            refine v_if_le (tgt := 105) (q := 91) F dX8_growsOf_88 rfl rfl (fun c11 => ?_) (fun c11 => ?_)
            · skip
              refine v_iload F 0 dX8_growsOf_105 rfl rfl ?_
              refine v_istore (ls' := [(5, .int (2 * n)), (4, .int (2 * n)), (3, .int (σ 11 p)), (0, .ref (ad 0)), (1, .int (nI p)), (2, .int n)]) F dX8_growsOf_107 rfl (by decide) rfl ?_
              refine v_iload_n F 2 dX8_growsOf_109 rfl rfl rfl ?_
              refine v_if_ne (tgt := 118) (q := 113) F dX8_growsOf_110 rfl rfl (fun c12 => ?_) (fun c12 => ?_)
              · skip
                refine v_iload_n F 2 dX8_growsOf_118 rfl rfl rfl ?_
                refine v_iconst (x := 1) F dX8_growsOf_119 rfl (by decide) ?_
                refine v_icmp_ne (tgt := 128) (q := 123) F dX8_growsOf_120 rfl rfl (fun c13 => ?_) (fun c13 => ?_)
                · skip
                  refine v_iload F 0 dX8_growsOf_128 rfl rfl ?_
                  refine v_iload_n F 5 dX8_growsOf_130 rfl rfl rfl ?_
                  refine v_iadd F dX8_growsOf_131 rfl ?_
                  refine v_iconst (x := 0) F dX8_growsOf_132 rfl (by decide) ?_
                  refine v_sipush (x := 9999) F dX8_growsOf_133 rfl (by decide) ?_
                  refine s_calli F G.1 (cm_X8_within G σ ((2 * n) + n) 0 9999 ) ok_X8_within q1607 q1608 rfl rfl dX8_growsOf_136 rfl rfl ?_
                  intro u0 hu0; subst u0
                  exact v_reti F dX8_growsOf_139 rfl (by show _ = groF (σ 11 p) n (σ 10 (tn (σ 12 (3 * p + 1)))) (σ 12 (3 * p)) (σ 0 7); unfold groF; grind) (rfl)
                · skip
                  refine v_iload F 0 dX8_growsOf_123 rfl rfl ?_
                  refine v_goto (tgt := 132) F dX8_growsOf_125 rfl ?_
                  refine v_iconst (x := 0) F dX8_growsOf_132 rfl (by decide) ?_
                  refine v_sipush (x := 9999) F dX8_growsOf_133 rfl (by decide) ?_
                  refine s_calli F G.1 (cm_X8_within G σ (2 * n) 0 9999 ) ok_X8_within q1607 q1608 rfl rfl dX8_growsOf_136 rfl rfl ?_
                  intro u0 hu0; subst u0
                  exact v_reti F dX8_growsOf_139 rfl (by show _ = groF (σ 11 p) n (σ 10 (tn (σ 12 (3 * p + 1)))) (σ 12 (3 * p)) (σ 0 7); unfold groF; grind) (rfl)
              · skip
                refine v_iload F 1 dX8_growsOf_113 rfl rfl ?_
                refine v_goto (tgt := 132) F dX8_growsOf_115 rfl ?_
                refine v_iconst (x := 0) F dX8_growsOf_132 rfl (by decide) ?_
                refine v_sipush (x := 9999) F dX8_growsOf_133 rfl (by decide) ?_
                refine s_calli F G.1 (cm_X8_within G σ (2 * n) 0 9999 ) ok_X8_within q1607 q1608 rfl rfl dX8_growsOf_136 rfl rfl ?_
                intro u0 hu0; subst u0
                exact v_reti F dX8_growsOf_139 rfl (by show _ = groF (σ 11 p) n (σ 10 (tn (σ 12 (3 * p + 1)))) (σ 12 (3 * p)) (σ 0 7); unfold groF; grind) (rfl)
            · skip
              refine v_iload F 0 dX8_growsOf_91 rfl rfl ?_
              refine v_aload_n F 2 dX8_growsOf_93 rfl rfl rfl ?_
              refine m_get F G 12 (w := .ref (ad 12)) (by decide) q1265 rfl dX8_growsOf_94 rfl ?_
              refine v_iconst (x := 3) F dX8_growsOf_97 rfl (by decide) ?_
              refine v_iload_n F 3 dX8_growsOf_98 rfl rfl rfl ?_
              refine v_imulN (a := 3) (b := p) F dX8_growsOf_99 rfl ?_
              refine m_ald12 (t := 3 * p) F G (by omega) dX8_growsOf_100 rfl ?_
              refine v_iadd F dX8_growsOf_101 rfl ?_
              refine v_goto (tgt := 107) F dX8_growsOf_102 rfl ?_
              refine v_istore (ls' := [(5, .int ((2 * n) + (σ 12 (3 * p)))), (4, .int (2 * n)), (3, .int (σ 11 p)), (0, .ref (ad 0)), (1, .int (nI p)), (2, .int n)]) F dX8_growsOf_107 rfl (by decide) rfl ?_
              refine v_iload_n F 2 dX8_growsOf_109 rfl rfl rfl ?_
              refine v_if_ne (tgt := 118) (q := 113) F dX8_growsOf_110 rfl rfl (fun c14 => ?_) (fun c14 => ?_)
              · skip
                refine v_iload_n F 2 dX8_growsOf_118 rfl rfl rfl ?_
                refine v_iconst (x := 1) F dX8_growsOf_119 rfl (by decide) ?_
                refine v_icmp_ne (tgt := 128) (q := 123) F dX8_growsOf_120 rfl rfl (fun c15 => ?_) (fun c15 => ?_)
                · skip
                  refine v_iload F 0 dX8_growsOf_128 rfl rfl ?_
                  refine v_iload_n F 5 dX8_growsOf_130 rfl rfl rfl ?_
                  refine v_iadd F dX8_growsOf_131 rfl ?_
                  refine v_iconst (x := 0) F dX8_growsOf_132 rfl (by decide) ?_
                  refine v_sipush (x := 9999) F dX8_growsOf_133 rfl (by decide) ?_
                  refine s_calli F G.1 (cm_X8_within G σ (((2 * n) + (σ 12 (3 * p))) + n) 0 9999 ) ok_X8_within q1607 q1608 rfl rfl dX8_growsOf_136 rfl rfl ?_
                  intro u0 hu0; subst u0
                  exact v_reti F dX8_growsOf_139 rfl (by show _ = groF (σ 11 p) n (σ 10 (tn (σ 12 (3 * p + 1)))) (σ 12 (3 * p)) (σ 0 7); unfold groF; grind) (rfl)
                · skip
                  refine v_iload F 0 dX8_growsOf_123 rfl rfl ?_
                  refine v_goto (tgt := 132) F dX8_growsOf_125 rfl ?_
                  refine v_iconst (x := 0) F dX8_growsOf_132 rfl (by decide) ?_
                  refine v_sipush (x := 9999) F dX8_growsOf_133 rfl (by decide) ?_
                  refine s_calli F G.1 (cm_X8_within G σ ((2 * n) + (σ 12 (3 * p))) 0 9999 ) ok_X8_within q1607 q1608 rfl rfl dX8_growsOf_136 rfl rfl ?_
                  intro u0 hu0; subst u0
                  exact v_reti F dX8_growsOf_139 rfl (by show _ = groF (σ 11 p) n (σ 10 (tn (σ 12 (3 * p + 1)))) (σ 12 (3 * p)) (σ 0 7); unfold groF; grind) (rfl)
              · skip
                refine v_iload F 1 dX8_growsOf_113 rfl rfl ?_
                refine v_goto (tgt := 132) F dX8_growsOf_115 rfl ?_
                refine v_iconst (x := 0) F dX8_growsOf_132 rfl (by decide) ?_
                refine v_sipush (x := 9999) F dX8_growsOf_133 rfl (by decide) ?_
                refine s_calli F G.1 (cm_X8_within G σ (2 * n) 0 9999 ) ok_X8_within q1607 q1608 rfl rfl dX8_growsOf_136 rfl rfl ?_
                intro u0 hu0; subst u0
                exact v_reti F dX8_growsOf_139 rfl (by show _ = groF (σ 11 p) n (σ 10 (tn (σ 12 (3 * p + 1)))) (σ 12 (3 * p)) (σ 0 7); unfold groF; grind) (rfl)
        · skip
          refine v_iload_n F 3 dX8_growsOf_46 rfl rfl rfl ?_
          refine v_iload_n F 3 dX8_growsOf_47 rfl rfl rfl ?_
          refine v_iconst (x := 2) F dX8_growsOf_48 rfl (by decide) ?_
          refine v_idiv F dX8_growsOf_49 rfl (by decide) ?_
          refine v_iadd F dX8_growsOf_50 rfl ?_
          refine v_iconst (x := 0) F dX8_growsOf_51 rfl (by decide) ?_
          refine v_sipush (x := 9999) F dX8_growsOf_52 rfl (by decide) ?_
          refine s_calli F G.1 (cm_X8_within G σ (n + (n / 2)) 0 9999 ) ok_X8_within q1607 q1608 rfl rfl dX8_growsOf_55 rfl rfl ?_
          intro u0 hu0; subst u0
          exact v_reti F dX8_growsOf_58 rfl (by show _ = groF (σ 11 p) n (σ 10 (tn (σ 12 (3 * p + 1)))) (σ 12 (3 * p)) (σ 0 7); unfold groF; grind) (rfl)
    · skip
      refine v_aload_n F 1 dX8_growsOf_17 rfl rfl rfl ?_
      refine m_get F G 7 (w := .int (σ 0 7)) (by decide) q1260 rfl dX8_growsOf_18 rfl ?_
      refine v_iconst (x := 2) F dX8_growsOf_21 rfl (by decide) ?_
      refine v_irem F dX8_growsOf_22 rfl (by decide) ?_
      refine v_iconst (x := 1) F dX8_growsOf_23 rfl (by decide) ?_
      refine v_icmp_ne (tgt := 36) (q := 27) F dX8_growsOf_24 rfl rfl (fun c16 => ?_) (fun c16 => ?_)
      · skip
        refine v_iload_n F 0 dX8_growsOf_36 rfl rfl rfl ?_
        refine v_iconst (x := 2) F dX8_growsOf_37 rfl (by decide) ?_
        refine v_icmp_eq (tgt := 46) (q := 41) F dX8_growsOf_38 rfl rfl (fun c17 => ?_) (fun c17 => ?_)
        · skip
          refine v_iload_n F 3 dX8_growsOf_46 rfl rfl rfl ?_
          refine v_iload_n F 3 dX8_growsOf_47 rfl rfl rfl ?_
          refine v_iconst (x := 2) F dX8_growsOf_48 rfl (by decide) ?_
          refine v_idiv F dX8_growsOf_49 rfl (by decide) ?_
          refine v_iadd F dX8_growsOf_50 rfl ?_
          refine v_iconst (x := 0) F dX8_growsOf_51 rfl (by decide) ?_
          refine v_sipush (x := 9999) F dX8_growsOf_52 rfl (by decide) ?_
          refine s_calli F G.1 (cm_X8_within G σ (n + (n / 2)) 0 9999 ) ok_X8_within q1607 q1608 rfl rfl dX8_growsOf_55 rfl rfl ?_
          intro u0 hu0; subst u0
          exact v_reti F dX8_growsOf_58 rfl (by show _ = groF (σ 11 p) n (σ 10 (tn (σ 12 (3 * p + 1)))) (σ 12 (3 * p)) (σ 0 7); unfold groF; grind) (rfl)
        · skip
          refine v_iload_n F 0 dX8_growsOf_41 rfl rfl rfl ?_
          refine v_iconst (x := 4) F dX8_growsOf_42 rfl (by decide) ?_
          refine v_icmp_ne (tgt := 59) (q := 46) F dX8_growsOf_43 rfl rfl (fun c18 => ?_) (fun c18 => ?_)
          · skip
            refine v_aload_n F 1 dX8_growsOf_59 rfl rfl rfl ?_
            refine m_get F G 10 (w := .ref (ad 10)) (by decide) q1263 rfl dX8_growsOf_60 rfl ?_
            refine v_aload_n F 1 dX8_growsOf_63 rfl rfl rfl ?_
            refine m_get F G 12 (w := .ref (ad 12)) (by decide) q1265 rfl dX8_growsOf_64 rfl ?_
            refine v_iconst (x := 3) F dX8_growsOf_67 rfl (by decide) ?_
            refine v_iload_n F 2 dX8_growsOf_68 rfl rfl rfl ?_
            refine v_imulN (a := 3) (b := p) F dX8_growsOf_69 rfl ?_
            refine v_iconst (x := 1) F dX8_growsOf_70 rfl (by decide) ?_
            refine v_iaddN (a := 3 * p) (b := 1) F dX8_growsOf_71 rfl ?_
            refine m_ald12 (t := (3 * p) + 1) F G (by omega) dX8_growsOf_72 rfl ?_
            refine v_int F (hg) ?_
            refine m_ald10 (t := tn (σ 12 (3 * p + 1))) F G (by omega) dX8_growsOf_73 rfl ?_
            refine v_iconst (x := 3) F dX8_growsOf_74 rfl (by decide) ?_
            refine v_icmp_le (tgt := 84) (q := 78) F dX8_growsOf_75 rfl rfl (fun c19 => ?_) (fun c19 => ?_)
            · skip
              refine v_iload_n F 3 dX8_growsOf_84 rfl rfl rfl ?_
              refine v_istore (ls' := [(4, .int n), (3, .int (σ 11 p)), (0, .ref (ad 0)), (1, .int (nI p)), (2, .int n)]) F dX8_growsOf_85 rfl (by decide) rfl ?_
              refine v_iload_n F 4 dX8_growsOf_87 rfl rfl rfl ?_
              refine v_if_le (tgt := 105) (q := 91) F dX8_growsOf_88 rfl rfl (fun c20 => ?_) (fun c20 => ?_)
              · skip
                refine v_iload F 0 dX8_growsOf_105 rfl rfl ?_
                refine v_istore (ls' := [(5, .int n), (4, .int n), (3, .int (σ 11 p)), (0, .ref (ad 0)), (1, .int (nI p)), (2, .int n)]) F dX8_growsOf_107 rfl (by decide) rfl ?_
                refine v_iload_n F 2 dX8_growsOf_109 rfl rfl rfl ?_
                refine v_if_ne (tgt := 118) (q := 113) F dX8_growsOf_110 rfl rfl (fun c21 => ?_) (fun c21 => ?_)
                · skip
                  refine v_iload_n F 2 dX8_growsOf_118 rfl rfl rfl ?_
                  refine v_iconst (x := 1) F dX8_growsOf_119 rfl (by decide) ?_
                  refine v_icmp_ne (tgt := 128) (q := 123) F dX8_growsOf_120 rfl rfl (fun c22 => ?_) (fun c22 => ?_)
                  · skip
                    refine v_iload F 0 dX8_growsOf_128 rfl rfl ?_
                    refine v_iload_n F 5 dX8_growsOf_130 rfl rfl rfl ?_
                    refine v_iadd F dX8_growsOf_131 rfl ?_
                    refine v_iconst (x := 0) F dX8_growsOf_132 rfl (by decide) ?_
                    refine v_sipush (x := 9999) F dX8_growsOf_133 rfl (by decide) ?_
                    refine s_calli F G.1 (cm_X8_within G σ (n + n) 0 9999 ) ok_X8_within q1607 q1608 rfl rfl dX8_growsOf_136 rfl rfl ?_
                    intro u0 hu0; subst u0
                    exact v_reti F dX8_growsOf_139 rfl (by show _ = groF (σ 11 p) n (σ 10 (tn (σ 12 (3 * p + 1)))) (σ 12 (3 * p)) (σ 0 7); unfold groF; grind) (rfl)
                  · skip
                    refine v_iload F 0 dX8_growsOf_123 rfl rfl ?_
                    refine v_goto (tgt := 132) F dX8_growsOf_125 rfl ?_
                    refine v_iconst (x := 0) F dX8_growsOf_132 rfl (by decide) ?_
                    refine v_sipush (x := 9999) F dX8_growsOf_133 rfl (by decide) ?_
                    refine s_calli F G.1 (cm_X8_within G σ n 0 9999 ) ok_X8_within q1607 q1608 rfl rfl dX8_growsOf_136 rfl rfl ?_
                    intro u0 hu0; subst u0
                    exact v_reti F dX8_growsOf_139 rfl (by show _ = groF (σ 11 p) n (σ 10 (tn (σ 12 (3 * p + 1)))) (σ 12 (3 * p)) (σ 0 7); unfold groF; grind) (rfl)
                · skip
                  refine v_iload F 1 dX8_growsOf_113 rfl rfl ?_
                  refine v_goto (tgt := 132) F dX8_growsOf_115 rfl ?_
                  refine v_iconst (x := 0) F dX8_growsOf_132 rfl (by decide) ?_
                  refine v_sipush (x := 9999) F dX8_growsOf_133 rfl (by decide) ?_
                  refine s_calli F G.1 (cm_X8_within G σ n 0 9999 ) ok_X8_within q1607 q1608 rfl rfl dX8_growsOf_136 rfl rfl ?_
                  intro u0 hu0; subst u0
                  exact v_reti F dX8_growsOf_139 rfl (by show _ = groF (σ 11 p) n (σ 10 (tn (σ 12 (3 * p + 1)))) (σ 12 (3 * p)) (σ 0 7); unfold groF; grind) (rfl)
              · skip
                refine v_iload F 0 dX8_growsOf_91 rfl rfl ?_
                refine v_aload_n F 2 dX8_growsOf_93 rfl rfl rfl ?_
                refine m_get F G 12 (w := .ref (ad 12)) (by decide) q1265 rfl dX8_growsOf_94 rfl ?_
                refine v_iconst (x := 3) F dX8_growsOf_97 rfl (by decide) ?_
                refine v_iload_n F 3 dX8_growsOf_98 rfl rfl rfl ?_
                refine v_imulN (a := 3) (b := p) F dX8_growsOf_99 rfl ?_
                refine m_ald12 (t := 3 * p) F G (by omega) dX8_growsOf_100 rfl ?_
                refine v_iadd F dX8_growsOf_101 rfl ?_
                refine v_goto (tgt := 107) F dX8_growsOf_102 rfl ?_
                refine v_istore (ls' := [(5, .int (n + (σ 12 (3 * p)))), (4, .int n), (3, .int (σ 11 p)), (0, .ref (ad 0)), (1, .int (nI p)), (2, .int n)]) F dX8_growsOf_107 rfl (by decide) rfl ?_
                refine v_iload_n F 2 dX8_growsOf_109 rfl rfl rfl ?_
                refine v_if_ne (tgt := 118) (q := 113) F dX8_growsOf_110 rfl rfl (fun c23 => ?_) (fun c23 => ?_)
                · skip
                  refine v_iload_n F 2 dX8_growsOf_118 rfl rfl rfl ?_
                  refine v_iconst (x := 1) F dX8_growsOf_119 rfl (by decide) ?_
                  refine v_icmp_ne (tgt := 128) (q := 123) F dX8_growsOf_120 rfl rfl (fun c24 => ?_) (fun c24 => ?_)
                  · skip
                    refine v_iload F 0 dX8_growsOf_128 rfl rfl ?_
                    refine v_iload_n F 5 dX8_growsOf_130 rfl rfl rfl ?_
                    refine v_iadd F dX8_growsOf_131 rfl ?_
                    refine v_iconst (x := 0) F dX8_growsOf_132 rfl (by decide) ?_
                    refine v_sipush (x := 9999) F dX8_growsOf_133 rfl (by decide) ?_
                    refine s_calli F G.1 (cm_X8_within G σ ((n + (σ 12 (3 * p))) + n) 0 9999 ) ok_X8_within q1607 q1608 rfl rfl dX8_growsOf_136 rfl rfl ?_
                    intro u0 hu0; subst u0
                    exact v_reti F dX8_growsOf_139 rfl (by show _ = groF (σ 11 p) n (σ 10 (tn (σ 12 (3 * p + 1)))) (σ 12 (3 * p)) (σ 0 7); unfold groF; grind) (rfl)
                  · skip
                    refine v_iload F 0 dX8_growsOf_123 rfl rfl ?_
                    refine v_goto (tgt := 132) F dX8_growsOf_125 rfl ?_
                    refine v_iconst (x := 0) F dX8_growsOf_132 rfl (by decide) ?_
                    refine v_sipush (x := 9999) F dX8_growsOf_133 rfl (by decide) ?_
                    refine s_calli F G.1 (cm_X8_within G σ (n + (σ 12 (3 * p))) 0 9999 ) ok_X8_within q1607 q1608 rfl rfl dX8_growsOf_136 rfl rfl ?_
                    intro u0 hu0; subst u0
                    exact v_reti F dX8_growsOf_139 rfl (by show _ = groF (σ 11 p) n (σ 10 (tn (σ 12 (3 * p + 1)))) (σ 12 (3 * p)) (σ 0 7); unfold groF; grind) (rfl)
                · skip
                  refine v_iload F 1 dX8_growsOf_113 rfl rfl ?_
                  refine v_goto (tgt := 132) F dX8_growsOf_115 rfl ?_
                  refine v_iconst (x := 0) F dX8_growsOf_132 rfl (by decide) ?_
                  refine v_sipush (x := 9999) F dX8_growsOf_133 rfl (by decide) ?_
                  refine s_calli F G.1 (cm_X8_within G σ n 0 9999 ) ok_X8_within q1607 q1608 rfl rfl dX8_growsOf_136 rfl rfl ?_
                  intro u0 hu0; subst u0
                  exact v_reti F dX8_growsOf_139 rfl (by show _ = groF (σ 11 p) n (σ 10 (tn (σ 12 (3 * p + 1)))) (σ 12 (3 * p)) (σ 0 7); unfold groF; grind) (rfl)
            · skip
              refine v_iconst (x := 2) F dX8_growsOf_78 rfl (by decide) ?_
              refine v_iload_n F 3 dX8_growsOf_79 rfl rfl rfl ?_
              refine v_imul F dX8_growsOf_80 rfl ?_
              refine v_goto (tgt := 85) F dX8_growsOf_81 rfl ?_
              refine v_istore (ls' := [(4, .int (2 * n)), (3, .int (σ 11 p)), (0, .ref (ad 0)), (1, .int (nI p)), (2, .int n)]) F dX8_growsOf_85 rfl (by decide) rfl ?_
              refine v_iload_n F 4 dX8_growsOf_87 rfl rfl rfl ?_
              refine v_if_le (tgt := 105) (q := 91) F dX8_growsOf_88 rfl rfl (fun c25 => ?_) (fun c25 => ?_)
              · skip
                refine v_iload F 0 dX8_growsOf_105 rfl rfl ?_
                refine v_istore (ls' := [(5, .int (2 * n)), (4, .int (2 * n)), (3, .int (σ 11 p)), (0, .ref (ad 0)), (1, .int (nI p)), (2, .int n)]) F dX8_growsOf_107 rfl (by decide) rfl ?_
                refine v_iload_n F 2 dX8_growsOf_109 rfl rfl rfl ?_
                refine v_if_ne (tgt := 118) (q := 113) F dX8_growsOf_110 rfl rfl (fun c26 => ?_) (fun c26 => ?_)
                · skip
                  refine v_iload_n F 2 dX8_growsOf_118 rfl rfl rfl ?_
                  refine v_iconst (x := 1) F dX8_growsOf_119 rfl (by decide) ?_
                  refine v_icmp_ne (tgt := 128) (q := 123) F dX8_growsOf_120 rfl rfl (fun c27 => ?_) (fun c27 => ?_)
                  · skip
                    refine v_iload F 0 dX8_growsOf_128 rfl rfl ?_
                    refine v_iload_n F 5 dX8_growsOf_130 rfl rfl rfl ?_
                    refine v_iadd F dX8_growsOf_131 rfl ?_
                    refine v_iconst (x := 0) F dX8_growsOf_132 rfl (by decide) ?_
                    refine v_sipush (x := 9999) F dX8_growsOf_133 rfl (by decide) ?_
                    refine s_calli F G.1 (cm_X8_within G σ ((2 * n) + n) 0 9999 ) ok_X8_within q1607 q1608 rfl rfl dX8_growsOf_136 rfl rfl ?_
                    intro u0 hu0; subst u0
                    exact v_reti F dX8_growsOf_139 rfl (by show _ = groF (σ 11 p) n (σ 10 (tn (σ 12 (3 * p + 1)))) (σ 12 (3 * p)) (σ 0 7); unfold groF; grind) (rfl)
                  · skip
                    refine v_iload F 0 dX8_growsOf_123 rfl rfl ?_
                    refine v_goto (tgt := 132) F dX8_growsOf_125 rfl ?_
                    refine v_iconst (x := 0) F dX8_growsOf_132 rfl (by decide) ?_
                    refine v_sipush (x := 9999) F dX8_growsOf_133 rfl (by decide) ?_
                    refine s_calli F G.1 (cm_X8_within G σ (2 * n) 0 9999 ) ok_X8_within q1607 q1608 rfl rfl dX8_growsOf_136 rfl rfl ?_
                    intro u0 hu0; subst u0
                    exact v_reti F dX8_growsOf_139 rfl (by show _ = groF (σ 11 p) n (σ 10 (tn (σ 12 (3 * p + 1)))) (σ 12 (3 * p)) (σ 0 7); unfold groF; grind) (rfl)
                · skip
                  refine v_iload F 1 dX8_growsOf_113 rfl rfl ?_
                  refine v_goto (tgt := 132) F dX8_growsOf_115 rfl ?_
                  refine v_iconst (x := 0) F dX8_growsOf_132 rfl (by decide) ?_
                  refine v_sipush (x := 9999) F dX8_growsOf_133 rfl (by decide) ?_
                  refine s_calli F G.1 (cm_X8_within G σ (2 * n) 0 9999 ) ok_X8_within q1607 q1608 rfl rfl dX8_growsOf_136 rfl rfl ?_
                  intro u0 hu0; subst u0
                  exact v_reti F dX8_growsOf_139 rfl (by show _ = groF (σ 11 p) n (σ 10 (tn (σ 12 (3 * p + 1)))) (σ 12 (3 * p)) (σ 0 7); unfold groF; grind) (rfl)
              · skip
                refine v_iload F 0 dX8_growsOf_91 rfl rfl ?_
                refine v_aload_n F 2 dX8_growsOf_93 rfl rfl rfl ?_
                refine m_get F G 12 (w := .ref (ad 12)) (by decide) q1265 rfl dX8_growsOf_94 rfl ?_
                refine v_iconst (x := 3) F dX8_growsOf_97 rfl (by decide) ?_
                refine v_iload_n F 3 dX8_growsOf_98 rfl rfl rfl ?_
                refine v_imulN (a := 3) (b := p) F dX8_growsOf_99 rfl ?_
                refine m_ald12 (t := 3 * p) F G (by omega) dX8_growsOf_100 rfl ?_
                refine v_iadd F dX8_growsOf_101 rfl ?_
                refine v_goto (tgt := 107) F dX8_growsOf_102 rfl ?_
                refine v_istore (ls' := [(5, .int ((2 * n) + (σ 12 (3 * p)))), (4, .int (2 * n)), (3, .int (σ 11 p)), (0, .ref (ad 0)), (1, .int (nI p)), (2, .int n)]) F dX8_growsOf_107 rfl (by decide) rfl ?_
                refine v_iload_n F 2 dX8_growsOf_109 rfl rfl rfl ?_
                refine v_if_ne (tgt := 118) (q := 113) F dX8_growsOf_110 rfl rfl (fun c28 => ?_) (fun c28 => ?_)
                · skip
                  refine v_iload_n F 2 dX8_growsOf_118 rfl rfl rfl ?_
                  refine v_iconst (x := 1) F dX8_growsOf_119 rfl (by decide) ?_
                  refine v_icmp_ne (tgt := 128) (q := 123) F dX8_growsOf_120 rfl rfl (fun c29 => ?_) (fun c29 => ?_)
                  · skip
                    refine v_iload F 0 dX8_growsOf_128 rfl rfl ?_
                    refine v_iload_n F 5 dX8_growsOf_130 rfl rfl rfl ?_
                    refine v_iadd F dX8_growsOf_131 rfl ?_
                    refine v_iconst (x := 0) F dX8_growsOf_132 rfl (by decide) ?_
                    refine v_sipush (x := 9999) F dX8_growsOf_133 rfl (by decide) ?_
                    refine s_calli F G.1 (cm_X8_within G σ (((2 * n) + (σ 12 (3 * p))) + n) 0 9999 ) ok_X8_within q1607 q1608 rfl rfl dX8_growsOf_136 rfl rfl ?_
                    intro u0 hu0; subst u0
                    exact v_reti F dX8_growsOf_139 rfl (by show _ = groF (σ 11 p) n (σ 10 (tn (σ 12 (3 * p + 1)))) (σ 12 (3 * p)) (σ 0 7); unfold groF; grind) (rfl)
                  · skip
                    refine v_iload F 0 dX8_growsOf_123 rfl rfl ?_
                    refine v_goto (tgt := 132) F dX8_growsOf_125 rfl ?_
                    refine v_iconst (x := 0) F dX8_growsOf_132 rfl (by decide) ?_
                    refine v_sipush (x := 9999) F dX8_growsOf_133 rfl (by decide) ?_
                    refine s_calli F G.1 (cm_X8_within G σ ((2 * n) + (σ 12 (3 * p))) 0 9999 ) ok_X8_within q1607 q1608 rfl rfl dX8_growsOf_136 rfl rfl ?_
                    intro u0 hu0; subst u0
                    exact v_reti F dX8_growsOf_139 rfl (by show _ = groF (σ 11 p) n (σ 10 (tn (σ 12 (3 * p + 1)))) (σ 12 (3 * p)) (σ 0 7); unfold groF; grind) (rfl)
                · skip
                  refine v_iload F 1 dX8_growsOf_113 rfl rfl ?_
                  refine v_goto (tgt := 132) F dX8_growsOf_115 rfl ?_
                  refine v_iconst (x := 0) F dX8_growsOf_132 rfl (by decide) ?_
                  refine v_sipush (x := 9999) F dX8_growsOf_133 rfl (by decide) ?_
                  refine s_calli F G.1 (cm_X8_within G σ (2 * n) 0 9999 ) ok_X8_within q1607 q1608 rfl rfl dX8_growsOf_136 rfl rfl ?_
                  intro u0 hu0; subst u0
                  exact v_reti F dX8_growsOf_139 rfl (by show _ = groF (σ 11 p) n (σ 10 (tn (σ 12 (3 * p + 1)))) (σ 12 (3 * p)) (σ 0 7); unfold groF; grind) (rfl)
          · skip
            refine v_iload_n F 3 dX8_growsOf_46 rfl rfl rfl ?_
            refine v_iload_n F 3 dX8_growsOf_47 rfl rfl rfl ?_
            refine v_iconst (x := 2) F dX8_growsOf_48 rfl (by decide) ?_
            refine v_idiv F dX8_growsOf_49 rfl (by decide) ?_
            refine v_iadd F dX8_growsOf_50 rfl ?_
            refine v_iconst (x := 0) F dX8_growsOf_51 rfl (by decide) ?_
            refine v_sipush (x := 9999) F dX8_growsOf_52 rfl (by decide) ?_
            refine s_calli F G.1 (cm_X8_within G σ (n + (n / 2)) 0 9999 ) ok_X8_within q1607 q1608 rfl rfl dX8_growsOf_55 rfl rfl ?_
            intro u0 hu0; subst u0
            exact v_reti F dX8_growsOf_58 rfl (by show _ = groF (σ 11 p) n (σ 10 (tn (σ 12 (3 * p + 1)))) (σ 12 (3 * p)) (σ 0 7); unfold groF; grind) (rfl)
      · skip
        refine v_iload_n F 3 dX8_growsOf_27 rfl rfl rfl ?_
        refine v_iconst (x := 0) F dX8_growsOf_28 rfl (by decide) ?_
        refine v_sipush (x := 9999) F dX8_growsOf_29 rfl (by decide) ?_
        refine s_calli F G.1 (cm_X8_within G σ n 0 9999 ) ok_X8_within q1607 q1608 rfl rfl dX8_growsOf_32 rfl rfl ?_
        intro u0 hu0; subst u0
        exact v_reti F dX8_growsOf_35 rfl (by show _ = groF (σ 11 p) n (σ 10 (tn (σ 12 (3 * p + 1)))) (σ 12 (3 * p)) (σ 0 7); unfold groF; grind) (rfl)
theorem ok_X8_flowersOf : vv_oc yX8_flowersOf 5 2 (ws_ yX8_flowersOf cX8_flowersOf 5 (some .int)) := vv_ok.oc (rt := (some .int)) ⟨q1617, q133, by decide +kernel, by decide +kernel⟩
theorem is_X8_flowersOf : Cond.instanceMethod yX8_flowersOf ∈ lw_all ∧ Cond.selects RX8 yX8_flowersOf yX8_flowersOf ∈ lw_all := ⟨q1616, qs99⟩
set_option maxHeartbeats 4000000 in
theorem cm_X8_flowersOf {l : Launch} {Kf : State → Prop} {D : va_G} {ad : Nat → Nat} {cI cZ : ClassId} {A : Nat → Prop} (G : mG A Kf D cI cZ)  (σ : mS) (p : Nat) (n : Int32) (hp : p < 8) : vv_Ct l yX8_flowersOf (ws_ yX8_flowersOf cX8_flowersOf 5 (some .int)) (rm 1 22) Kf (mWd D ad cI cZ A) A [.ref (ad 0), .int (nI p), .int n] σ (vv_i (floV (ab σ) p n) (fun u => u = σ)) := by
  refine vv_of (by decide +kernel) (Nat.le_of_ble_eq_true rfl) ?_
  intro v (F : vv_F v l cX8_flowersOf 5 RX8 "flowersOf" (some .int) [] (rm 1 22) Kf (mWd D ad cI cZ A) A _)
  show v σ 0 0 0 [(0, .ref (ad 0)), (1, .int (nI p)), (2, .int n)] []
  refine v_aload_n F 0 dX8_flowersOf_0 rfl rfl rfl ?_
  refine m_get F G 11 (w := .ref (ad 11)) (by decide) q1264 rfl dX8_flowersOf_1 rfl ?_
  refine v_iload_n F 1 dX8_flowersOf_4 rfl rfl rfl ?_
  refine m_ald11 (t := p) F G (by omega) dX8_flowersOf_5 rfl ?_
  refine v_istore_n (ls' := [(3, .int (σ 11 p)), (0, .ref (ad 0)), (1, .int (nI p)), (2, .int n)]) F dX8_flowersOf_6 rfl rfl (by decide) rfl ?_
  refine v_iload_n F 0 dX8_flowersOf_7 rfl rfl rfl ?_
  refine v_iconst (x := 1) F dX8_flowersOf_8 rfl (by decide) ?_
  refine v_icmp_ne (tgt := 18) (q := 12) F dX8_flowersOf_9 rfl rfl (fun c1 => ?_) (fun c1 => ?_)
  · skip
    refine v_iload_n F 0 dX8_flowersOf_18 rfl rfl rfl ?_
    refine v_iconst (x := 2) F dX8_flowersOf_19 rfl (by decide) ?_
    refine v_icmp_ne (tgt := 29) (q := 23) F dX8_flowersOf_20 rfl rfl (fun c2 => ?_) (fun c2 => ?_)
    · skip
      refine v_iload_n F 0 dX8_flowersOf_29 rfl rfl rfl ?_
      refine v_iconst (x := 3) F dX8_flowersOf_30 rfl (by decide) ?_
      refine v_icmp_ne (tgt := 57) (q := 34) F dX8_flowersOf_31 rfl rfl (fun c3 => ?_) (fun c3 => ?_)
      · skip
        refine v_iload_n F 0 dX8_flowersOf_57 rfl rfl rfl ?_
        refine v_iconst (x := 4) F dX8_flowersOf_58 rfl (by decide) ?_
        refine v_icmp_ne (tgt := 66) (q := 62) F dX8_flowersOf_59 rfl rfl (fun c4 => ?_) (fun c4 => ?_)
        · skip
          refine v_iload_n F 3 dX8_flowersOf_66 rfl rfl rfl ?_
          refine v_istore (ls' := [(4, .int n), (3, .int (σ 11 p)), (0, .ref (ad 0)), (1, .int (nI p)), (2, .int n)]) F dX8_flowersOf_67 rfl (by decide) rfl ?_
          refine v_iload F 0 dX8_flowersOf_69 rfl rfl ?_
          refine v_iconst (x := 0) F dX8_flowersOf_71 rfl (by decide) ?_
          refine v_ldcw F q1618 dX8_flowersOf_72 rfl ?_
          refine s_calli F G.1 (cm_X8_within G σ n 0 99999 ) ok_X8_within q1607 q1608 rfl rfl dX8_flowersOf_75 rfl rfl ?_
          intro u0 hu0; subst u0
          exact v_reti F dX8_flowersOf_78 rfl (by show _ = floF (σ 11 p) n (σ 12 (3 * p)); unfold floF; first | (simp [c1, c2, c3, c4]; done) | grind) (rfl)
        · skip
          refine v_iconst (x := 0) F dX8_flowersOf_62 rfl (by decide) ?_
          refine v_goto (tgt := 67) F dX8_flowersOf_63 rfl ?_
          refine v_istore (ls' := [(4, .int 0), (3, .int (σ 11 p)), (0, .ref (ad 0)), (1, .int (nI p)), (2, .int n)]) F dX8_flowersOf_67 rfl (by decide) rfl ?_
          refine v_iload F 0 dX8_flowersOf_69 rfl rfl ?_
          refine v_iconst (x := 0) F dX8_flowersOf_71 rfl (by decide) ?_
          refine v_ldcw F q1618 dX8_flowersOf_72 rfl ?_
          refine s_calli F G.1 (cm_X8_within G σ 0 0 99999 ) ok_X8_within q1607 q1608 rfl rfl dX8_flowersOf_75 rfl rfl ?_
          intro u0 hu0; subst u0
          exact v_reti F dX8_flowersOf_78 rfl (by show _ = floF (σ 11 p) n (σ 12 (3 * p)); unfold floF; first | (simp [c1, c2, c3, c4]; done) | grind) (rfl)
      · skip
        refine v_iload_n F 3 dX8_flowersOf_34 rfl rfl rfl ?_
        refine v_if_le (tgt := 53) (q := 38) F dX8_flowersOf_35 rfl rfl (fun c5 => ?_) (fun c5 => ?_)
        · skip
          refine v_iconst (x := 0) F dX8_flowersOf_53 rfl (by decide) ?_
          refine v_goto (tgt := 67) F dX8_flowersOf_54 rfl ?_
          refine v_istore (ls' := [(4, .int 0), (3, .int (σ 11 p)), (0, .ref (ad 0)), (1, .int (nI p)), (2, .int n)]) F dX8_flowersOf_67 rfl (by decide) rfl ?_
          refine v_iload F 0 dX8_flowersOf_69 rfl rfl ?_
          refine v_iconst (x := 0) F dX8_flowersOf_71 rfl (by decide) ?_
          refine v_ldcw F q1618 dX8_flowersOf_72 rfl ?_
          refine s_calli F G.1 (cm_X8_within G σ 0 0 99999 ) ok_X8_within q1607 q1608 rfl rfl dX8_flowersOf_75 rfl rfl ?_
          intro u0 hu0; subst u0
          exact v_reti F dX8_flowersOf_78 rfl (by show _ = floF (σ 11 p) n (σ 12 (3 * p)); unfold floF; first | (simp [c1, c2, c3, c5]; done) | grind) (rfl)
        · skip
          refine v_iconst (x := 2) F dX8_flowersOf_38 rfl (by decide) ?_
          refine v_iload_n F 3 dX8_flowersOf_39 rfl rfl rfl ?_
          refine v_imul F dX8_flowersOf_40 rfl ?_
          refine v_aload_n F 1 dX8_flowersOf_41 rfl rfl rfl ?_
          refine m_get F G 12 (w := .ref (ad 12)) (by decide) q1265 rfl dX8_flowersOf_42 rfl ?_
          refine v_iconst (x := 3) F dX8_flowersOf_45 rfl (by decide) ?_
          refine v_iload_n F 2 dX8_flowersOf_46 rfl rfl rfl ?_
          refine v_imulN (a := 3) (b := p) F dX8_flowersOf_47 rfl ?_
          refine m_ald12 (t := 3 * p) F G (by omega) dX8_flowersOf_48 rfl ?_
          refine v_iadd F dX8_flowersOf_49 rfl ?_
          refine v_goto (tgt := 67) F dX8_flowersOf_50 rfl ?_
          refine v_istore (ls' := [(4, .int ((2 * n) + (σ 12 (3 * p)))), (3, .int (σ 11 p)), (0, .ref (ad 0)), (1, .int (nI p)), (2, .int n)]) F dX8_flowersOf_67 rfl (by decide) rfl ?_
          refine v_iload F 0 dX8_flowersOf_69 rfl rfl ?_
          refine v_iconst (x := 0) F dX8_flowersOf_71 rfl (by decide) ?_
          refine v_ldcw F q1618 dX8_flowersOf_72 rfl ?_
          refine s_calli F G.1 (cm_X8_within G σ ((2 * n) + (σ 12 (3 * p))) 0 99999 ) ok_X8_within q1607 q1608 rfl rfl dX8_flowersOf_75 rfl rfl ?_
          intro u0 hu0; subst u0
          exact v_reti F dX8_flowersOf_78 rfl (by show _ = floF (σ 11 p) n (σ 12 (3 * p)); unfold floF; first | (simp [c1, c2, c3, c5]; done) | grind) (rfl)
    · skip
      refine v_iload_n F 3 dX8_flowersOf_23 rfl rfl rfl ?_
      refine v_iconst (x := 3) F dX8_flowersOf_24 rfl (by decide) ?_
      refine v_idiv F dX8_flowersOf_25 rfl (by decide) ?_
      refine v_goto (tgt := 67) F dX8_flowersOf_26 rfl ?_
      refine v_istore (ls' := [(4, .int (n / 3)), (3, .int (σ 11 p)), (0, .ref (ad 0)), (1, .int (nI p)), (2, .int n)]) F dX8_flowersOf_67 rfl (by decide) rfl ?_
      refine v_iload F 0 dX8_flowersOf_69 rfl rfl ?_
      refine v_iconst (x := 0) F dX8_flowersOf_71 rfl (by decide) ?_
      refine v_ldcw F q1618 dX8_flowersOf_72 rfl ?_
      refine s_calli F G.1 (cm_X8_within G σ (n / 3) 0 99999 ) ok_X8_within q1607 q1608 rfl rfl dX8_flowersOf_75 rfl rfl ?_
      intro u0 hu0; subst u0
      exact v_reti F dX8_flowersOf_78 rfl (by show _ = floF (σ 11 p) n (σ 12 (3 * p)); unfold floF; first | (simp [c1, c2]; done) | grind) (rfl)
  · skip
    refine v_iconst (x := 2) F dX8_flowersOf_12 rfl (by decide) ?_
    refine v_iload_n F 3 dX8_flowersOf_13 rfl rfl rfl ?_
    refine v_imul F dX8_flowersOf_14 rfl ?_
    refine v_goto (tgt := 67) F dX8_flowersOf_15 rfl ?_
    refine v_istore (ls' := [(4, .int (2 * n)), (3, .int (σ 11 p)), (0, .ref (ad 0)), (1, .int (nI p)), (2, .int n)]) F dX8_flowersOf_67 rfl (by decide) rfl ?_
    refine v_iload F 0 dX8_flowersOf_69 rfl rfl ?_
    refine v_iconst (x := 0) F dX8_flowersOf_71 rfl (by decide) ?_
    refine v_ldcw F q1618 dX8_flowersOf_72 rfl ?_
    refine s_calli F G.1 (cm_X8_within G σ (2 * n) 0 99999 ) ok_X8_within q1607 q1608 rfl rfl dX8_flowersOf_75 rfl rfl ?_
    intro u0 hu0; subst u0
    exact v_reti F dX8_flowersOf_78 rfl (by show _ = floF (σ 11 p) n (σ 12 (3 * p)); unfold floF; first | (simp [c1]; done) | grind) (rfl)
theorem ok_X8_worthOf : vv_oc yX8_worthOf 2 1 (ws_ yX8_worthOf cX8_worthOf 2 (some .int)) := vv_ok.oc (rt := (some .int)) ⟨q1658, q133, by decide +kernel, by decide +kernel⟩
theorem is_X8_worthOf : Cond.instanceMethod yX8_worthOf ∈ lw_all ∧ Cond.selects RX8 yX8_worthOf yX8_worthOf ∈ lw_all := ⟨q1657, qs102⟩
set_option maxHeartbeats 4000000 in
theorem cm_X8_worthOf {l : Launch} {Kf : State → Prop} {D : va_G} {ad : Nat → Nat} {cI cZ : ClassId} {A : Nat → Prop} (G : mG A Kf D cI cZ)  (σ : mS) (p : Nat) (hw : Wf (ab σ)) (hp : p < tn (σ 0 13)) : vv_Ct l yX8_worthOf (ws_ yX8_worthOf cX8_worthOf 2 (some .int)) (rm 43 952) Kf (mWd D ad cI cZ A) A [.ref (ad 0), .int (nI p)] σ (vv_i (worV (ab σ) p) (fun u => ab u = ab σ)) := by
  refine vv_of (by decide +kernel) (Nat.le_of_ble_eq_true rfl) ?_
  intro v (F : vv_F v l cX8_worthOf 2 RX8 "worthOf" (some .int) [] (rm 43 952) Kf (mWd D ad cI cZ A) A _)
  show v σ 0 0 0 [(0, .ref (ad 0)), (1, .int (nI p))] []
  have hM : σ 0 13 = nI (tn (σ 0 13)) := hw.1.1.1
  have hM8 : tn (σ 0 13) ≤ 8 := hw.1.1.2
  have hg : σ 12 (3 * p + 1) = nI (tn (σ 12 (3 * p + 1))) := (hw.2.1 p hp).1.1
  have hg7 : tn (σ 12 (3 * p + 1)) ≤ 7 := (hw.2.1 p hp).1.2
  refine v_aload_n F 0 dX8_worthOf_0 rfl rfl rfl ?_
  refine v_iconst (x := 1) F dX8_worthOf_1 rfl (by decide) ?_
  refine v_iload_n F 1 dX8_worthOf_2 rfl rfl rfl ?_
  refine m_calli F G (cm_X8_says G σ 1 p hw hp) ok_X8_says q1413 is_X8_says rfl rfl dX8_worthOf_3 rfl rfl ?_
  intro t1 hb1
  refine v_aload_n F 0 dX8_worthOf_6 rfl rfl rfl ?_
  refine v_iload_n F 1 dX8_worthOf_7 rfl rfl rfl ?_
  refine v_aload_n F 0 dX8_worthOf_8 rfl rfl rfl ?_
  refine m_get F G 12 (w := .ref (ad 12)) (by decide) q1265 rfl dX8_worthOf_9 rfl ?_
  refine v_iconst (x := 3) F dX8_worthOf_12 rfl (by decide) ?_
  refine v_iload_n F 1 dX8_worthOf_13 rfl rfl rfl ?_
  refine v_imulN (a := 3) (b := p) F dX8_worthOf_14 rfl ?_
  refine v_iconst (x := 2) F dX8_worthOf_15 rfl (by decide) ?_
  refine v_iaddN (a := 3 * p) (b := 2) F dX8_worthOf_16 rfl ?_
  refine m_ald12 (t := (3 * p) + 2) F G (by omega) dX8_worthOf_17 rfl ?_
  refine v_int F (y := σ 12 ((3 * p) + 2)) (ab_eq hb1 12 ((3 * p) + 2) rfl) ?_
  refine m_calli F G (cm_X8_flowersOf G t1 p (σ 12 ((3 * p) + 2)) (by omega)) ok_X8_flowersOf q1614 is_X8_flowersOf rfl rfl dX8_worthOf_18 rfl rfl ?_
  intro u0 hu0; subst u0
  refine v_imul F dX8_worthOf_21 rfl ?_
  exact v_reti F dX8_worthOf_22 rfl (by rw [hb1]; rfl) (hb1)
