set_option maxRecDepth 100000
theorem ok_X8_atom3 : vv_oc yX8_atom3 2 0 (ws_ yX8_atom3 cX8_atom3 2 (some .int)) := vv_ok.oc (rt := (some .int)) ⟨q1538, q133, by decide +kernel, by decide +kernel⟩
theorem is_X8_atom3 : Cond.instanceMethod yX8_atom3 ∈ lw_all ∧ Cond.selects RX8 yX8_atom3 yX8_atom3 ∈ lw_all := ⟨q1537, qs80⟩
set_option maxHeartbeats 4000000 in
theorem cm_X8_atom3 {l : Launch} {Kf : State → Prop} {D : va_G} {ad : Nat → Nat} {cI cZ : ClassId} {A : Nat → Prop} (G : mG A Kf D cI cZ) {b : Nat → Int32} {z t i : Nat} (σ : mS)  (hT : pTx b z t σ) (hA : pAt b z σ i) (hi : i ≤ z) (hb : σ 0 27 = 0) (ho : σ 0 26 = nI 3) : vv_Ct l yX8_atom3 (ws_ yX8_atom3 cX8_atom3 2 (some .int)) (rm 16 355) Kf (mWd D ad cI cZ A) A [.ref (ad 0)] σ (vv_x (fun r u => pEq σ u ∧ pRes b z 3 σ u r ((PX b z 2).1 i))) := by
  refine vv_of (by decide +kernel) (Nat.le_of_ble_eq_true rfl) ?_
  intro v (F : vv_F v l cX8_atom3 2 RX8 "atom3" (some .int) [] (rm 16 355) Kf (mWd D ad cI cZ A) A _)
  show v σ 0 0 0 [(0, .ref (ad 0))] []
  refine v_iconst (x := 0) F dX8_atom3_0 rfl (by decide) ?_
  refine v_istore_n (ls' := [(1, .int 0), (0, .ref (ad 0))]) F dX8_atom3_1 rfl rfl (by decide) rfl ?_
  refine v_aload_n F 1 dX8_atom3_2 rfl rfl rfl ?_
  refine v_bipush (x := 45) F dX8_atom3_3 rfl (by decide) ?_
  refine m_calli F G (cm_X8_isSign G σ 45 hA hb) ok_X8_isSign q1497 is_X8_isSign rfl rfl dX8_atom3_5 rfl rfl ?_
  intro u0 hu0; subst u0
  refine v_if_eqB (p := (sg b z i 45)) (tgt := 37) (q := 11) F dX8_atom3_8 rfl rfl (fun c1 => ?_) (fun c1 => ?_)
  · skip
    refine v_aload_n F 1 dX8_atom3_37 rfl rfl rfl ?_
    refine v_bipush (x := 40) F dX8_atom3_38 rfl (by decide) ?_
    refine m_calli F G (cm_X8_isSign G σ 40 hA hb) ok_X8_isSign q1497 is_X8_isSign rfl rfl dX8_atom3_40 rfl rfl ?_
    intro u0 hu0; subst u0
    refine v_if_eqB (p := (sg b z i 40)) (tgt := 95) (q := 46) F dX8_atom3_43 rfl rfl (fun c2 => ?_) (fun c2 => ?_)
    · skip
      refine v_aload_n F 1 dX8_atom3_95 rfl rfl rfl ?_
      refine m_get F G 27 (w := .int (σ 0 27)) (by decide) q1280 rfl dX8_atom3_96 rfl ?_
      refine v_int F (y := 0) (hb) ?_
      refine v_if_ne (tgt := 123) (q := 102) F dX8_atom3_99 rfl rfl (fun c3 => ?_) (fun c3 => ?_)
      · skip
        exact absurd c3 (by decide)
      · skip
        refine v_aload_n F 1 dX8_atom3_102 rfl rfl rfl ?_
        refine m_get F G 23 (w := .int (σ 0 23)) (by decide) q1276 rfl dX8_atom3_103 rfl ?_
        refine v_int F (hA.1) ?_
        refine v_iconst (x := 2) F dX8_atom3_106 rfl (by decide) ?_
        refine v_icmp_ne (tgt := 123) (q := 110) F dX8_atom3_107 rfl rfl (fun c4 => ?_) (fun c4 => ?_)
        · skip
          refine v_aload_n F 1 dX8_atom3_123 rfl rfl rfl ?_
          refine m_get F G 27 (w := .int (σ 0 27)) (by decide) q1280 rfl dX8_atom3_124 rfl ?_
          refine v_int F (y := 0) (hb) ?_
          refine v_if_ne (tgt := 157) (q := 130) F dX8_atom3_127 rfl rfl (fun c5 => ?_) (fun c5 => ?_)
          · skip
            exact absurd c5 (by decide)
          · skip
            refine v_aload_n F 1 dX8_atom3_130 rfl rfl rfl ?_
            refine m_get F G 23 (w := .int (σ 0 23)) (by decide) q1276 rfl dX8_atom3_131 rfl ?_
            refine v_int F (hA.1) ?_
            refine v_iconst (x := 1) F dX8_atom3_134 rfl (by decide) ?_
            refine v_icmp_ne (tgt := 157) (q := 138) F dX8_atom3_135 rfl rfl (fun c6 => ?_) (fun c6 => ?_)
            · skip
              refine v_aload_n F 1 dX8_atom3_157 rfl rfl rfl ?_
              refine m_calln F G (cm_X8_fail G σ hb) ok_X8_fail q1445 is_X8_fail rfl rfl dX8_atom3_158 rfl rfl ?_
              intro u0 hu0; subst u0
              refine v_iload_n F 0 dX8_atom3_161 rfl rfl rfl ?_
              exact v_retx F dX8_atom3_162 rfl (⟨(pEq.u (pEq.u pEq.rf (j := 27) (by decide) 1) (j := 28) (by decide) (σ 0 24)), pRes.e ((PXa 1).trans (atG_el c1 c2 c4 c6)) rfl hA.2.1⟩)
            · skip
              refine v_aload_n F 1 dX8_atom3_138 rfl rfl rfl ?_
              refine m_callx F G (cm_X8_name G σ hT hA hi hb) ok_X8_name q1501 is_X8_name rfl rfl dX8_atom3_139 rfl rfl ?_
              intro r7 t7 hm7
              rcases hn7 : nmK b z i with _ | k7
              · skip
                rw [hn7] at hm7
                have hm7 : t7 = up (up σ 0 27 1) 0 28 (σ 0 24) := hm7
                subst t7
                refine v_istore_n (ls' := [(1, .int r7), (0, .ref (ad 0))]) F dX8_atom3_142 rfl rfl (by decide) rfl ?_
                refine v_aload_n F 1 dX8_atom3_143 rfl rfl rfl ?_
                refine m_get F G 27 (w := .int 1) (by decide) q1280 rfl dX8_atom3_144 rfl ?_
                refine v_if_ne (tgt := 161) (q := 150) F dX8_atom3_147 rfl rfl (fun c8 => ?_) (fun c8 => ?_)
                · skip
                  refine v_iload_n F 0 dX8_atom3_161 rfl rfl rfl ?_
                  exact v_retx F dX8_atom3_162 rfl (⟨(pEq.u (pEq.u pEq.rf (j := 27) (by decide) 1) (j := 28) (by decide) (σ 0 24)), pRes.e ((PXa 1).trans (atG_nn c1 c2 c4 c6 hn7)) rfl hA.2.1⟩)
                · skip
                  exact absurd c8 (by decide)
              · skip
                rw [hn7] at hm7
                obtain ⟨hr7, hk7, hu7⟩ : r7 = σ 0 (14 + k7) ∧ k7 < 6 ∧ t7 = σ := hm7
                subst t7
                refine v_istore_n (ls' := [(1, .int r7), (0, .ref (ad 0))]) F dX8_atom3_142 rfl rfl (by decide) rfl ?_
                refine v_aload_n F 1 dX8_atom3_143 rfl rfl rfl ?_
                refine m_get F G 27 (w := .int (σ 0 27)) (by decide) q1280 rfl dX8_atom3_144 rfl ?_
                refine v_int F (y := 0) (hb) ?_
                refine v_if_ne (tgt := 161) (q := 150) F dX8_atom3_147 rfl rfl (fun c9 => ?_) (fun c9 => ?_)
                · skip
                  exact absurd c9 (by decide)
                · skip
                  refine v_aload_n F 1 dX8_atom3_150 rfl rfl rfl ?_
                  refine m_calln F G (cm_X8_next (i := tN b z i) G σ hT hA.2.2.1 (tN_le hi).2) ok_X8_next q1421 is_X8_next rfl rfl dX8_atom3_151 rfl rfl ?_
                  rintro t10 ⟨hN10, hA10⟩
                  have hE10 : pEq σ t10 := pEq.trans pEq.rf hN10.p
                  have hb10 : t10 0 27 = 0 := (hN10 0 27 (by omega)).trans hb
                  have ho10 : t10 0 26 = nI 3 := (hN10 0 26 (by omega)).trans ho
                  have hi10 : tN b z i ≤ z := (tN_le hi).2
                  refine v_goto (tgt := 161) F dX8_atom3_154 rfl ?_
                  refine v_iload_n F 0 dX8_atom3_161 rfl rfl rfl ?_
                  exact v_retx F dX8_atom3_162 rfl (⟨hE10, pRes.o ((PXa 1).trans (atG_nm c1 c2 c4 c6 hn7)) (by rw [hr7]; show _ = rho σ k7; unfold rho; rw [if_pos hk7]) hA10 hb10 ho10⟩)
        · skip
          refine v_aload_n F 1 dX8_atom3_110 rfl rfl rfl ?_
          refine m_get F G 25 (w := .long (Int32.toInt64 (σ 0 25))) (by decide) q1278 rfl dX8_atom3_111 rfl ?_
          refine v_lng F (y := Int32.toInt64 (tW b z i)) (by rw [hA.2.2.2 (Or.inl c4)]) ?_
          refine v_l2i F dX8_atom3_114 rfl ?_
          refine v_int F (y := tW b z i) (Int32.toInt32_toInt64 _) ?_
          refine v_istore_n (ls' := [(1, .int (tW b z i)), (0, .ref (ad 0))]) F dX8_atom3_115 rfl rfl (by decide) rfl ?_
          refine v_aload_n F 1 dX8_atom3_116 rfl rfl rfl ?_
          refine m_calln F G (cm_X8_next (i := tN b z i) G σ hT hA.2.2.1 (tN_le hi).2) ok_X8_next q1421 is_X8_next rfl rfl dX8_atom3_117 rfl rfl ?_
          rintro t11 ⟨hN11, hA11⟩
          have hE11 : pEq σ t11 := pEq.trans pEq.rf hN11.p
          have hb11 : t11 0 27 = 0 := (hN11 0 27 (by omega)).trans hb
          have ho11 : t11 0 26 = nI 3 := (hN11 0 26 (by omega)).trans ho
          have hi11 : tN b z i ≤ z := (tN_le hi).2
          refine v_goto (tgt := 161) F dX8_atom3_120 rfl ?_
          refine v_iload_n F 0 dX8_atom3_161 rfl rfl rfl ?_
          exact v_retx F dX8_atom3_162 rfl (⟨hE11, pRes.o ((PXa 1).trans (atG_num c1 c2 c4)) (rfl) hA11 hb11 ho11⟩)
    · skip
      refine v_aload_n F 1 dX8_atom3_46 rfl rfl rfl ?_
      refine m_calli F G (cm_X8_opens (d := 3) G σ hT hA hi hb ho (by decide)) ok_X8_opens q1461 is_X8_opens rfl rfl dX8_atom3_47 rfl rfl ?_
      rintro t12 ⟨hN12, hA12, hb12, ho12⟩
      have hE12 : pEq σ t12 := pEq.trans pEq.rf hN12
      have hi12 : tN b z i ≤ z := (tN_le hi).2
      refine v_if_eq (tgt := 161) (q := 53) F dX8_atom3_50 rfl rfl (fun c13 => ?_) (fun c13 => ?_)
      · skip
        exact absurd c13 (by decide)
      · skip
        refine v_aload_n F 1 dX8_atom3_53 rfl rfl rfl ?_
        refine m_callx F G (cm_X8_either4 G t12 (pTx.eq hT hE12) hA12 hi12 hb12 ho12) ok_X8_either4 q1539 is_X8_either4 rfl rfl dX8_atom3_54 rfl rfl ?_
        rintro r14 t14 ⟨hN14, hR14⟩
        have hE14 : pEq σ t14 := pEq.trans hE12 hN14
        rcases hp14 : (eiG b z (PX b z 1).2) (tN b z i) with e14 | ⟨f14, j14⟩
        · skip
          rw [hp14] at hR14
          obtain ⟨hb14, hf14⟩ : t14 0 27 = 1 ∧ t14 0 28 = nI e14 := hR14
          refine v_istore_n (ls' := [(1, .int r14), (0, .ref (ad 0))]) F dX8_atom3_57 rfl rfl (by decide) rfl ?_
          refine v_aload_n F 1 dX8_atom3_58 rfl rfl rfl ?_
          refine v_bipush (x := 41) F dX8_atom3_59 rfl (by decide) ?_
          refine m_calli F G (cm_X8_isSign_b G t14 41 hb14) ok_X8_isSign q1497 is_X8_isSign rfl rfl dX8_atom3_61 rfl rfl ?_
          intro u0 hu0; subst u0
          refine v_if_ne (tgt := 71) (q := 67) F dX8_atom3_64 rfl rfl (fun c15 => ?_) (fun c15 => ?_)
          · skip
            exact absurd c15 (by decide)
          · skip
            refine v_aload_n F 1 dX8_atom3_67 rfl rfl rfl ?_
            refine m_calln F G (cm_X8_fail_b G t14 hb14) ok_X8_fail q1445 is_X8_fail rfl rfl dX8_atom3_68 rfl rfl ?_
            intro u0 hu0; subst u0
            refine v_aload_n F 1 dX8_atom3_71 rfl rfl rfl ?_
            refine v_dup F dX8_atom3_72 rfl rfl ?_
            refine m_get F G 26 (w := .int (t14 0 26)) (by decide) q1279 rfl dX8_atom3_73 rfl ?_
            refine v_iconst (x := 1) F dX8_atom3_76 rfl (by decide) ?_
            refine v_isub F dX8_atom3_77 rfl ?_
            refine m_put26 F G q1279 dX8_atom3_78 rfl ?_
            refine v_aload_n F 1 dX8_atom3_81 rfl rfl rfl ?_
            refine m_get F G 27 (w := .int (t14 0 27)) (by decide) q1280 rfl dX8_atom3_82 rfl ?_
            refine v_int F (y := 1) (hb14) ?_
            refine v_if_ne (tgt := 161) (q := 88) F dX8_atom3_85 rfl rfl (fun c16 => ?_) (fun c16 => ?_)
            · skip
              refine v_iload_n F 0 dX8_atom3_161 rfl rfl rfl ?_
              exact v_retx F dX8_atom3_162 rfl (⟨(pEq.u hE14 (j := 26) (by decide) ((t14 0 26) - 1)), pRes.e ((PXa 1).trans (atG_pe c1 c2 hp14)) hb14 hf14⟩)
            · skip
              exact absurd c16 (by decide)
        · skip
          rw [hp14] at hR14
          obtain ⟨hr14, hA14, hb14, ho14⟩ : r14 = f14 (rho t12) ∧ pAt b z t14 j14 ∧ t14 0 27 = 0 ∧ t14 0 26 = nI 4 := hR14
          rw [rho_eq hE12] at hr14
          have hg14 := (eiG_good (PX_good 1).2) _ _ _ hi12 hp14
          have hi14 : j14 ≤ z := hg14.2
          refine v_istore_n (ls' := [(1, .int r14), (0, .ref (ad 0))]) F dX8_atom3_57 rfl rfl (by decide) rfl ?_
          refine v_aload_n F 1 dX8_atom3_58 rfl rfl rfl ?_
          refine v_bipush (x := 41) F dX8_atom3_59 rfl (by decide) ?_
          refine m_calli F G (cm_X8_isSign G t14 41 hA14 hb14) ok_X8_isSign q1497 is_X8_isSign rfl rfl dX8_atom3_61 rfl rfl ?_
          intro u0 hu0; subst u0
          refine v_if_neB (p := (sg b z j14 41)) (tgt := 71) (q := 67) F dX8_atom3_64 rfl rfl (fun c17 => ?_) (fun c17 => ?_)
          · skip
            refine v_aload_n F 1 dX8_atom3_71 rfl rfl rfl ?_
            refine v_dup F dX8_atom3_72 rfl rfl ?_
            refine m_get F G 26 (w := .int (t14 0 26)) (by decide) q1279 rfl dX8_atom3_73 rfl ?_
            refine v_int F (ho14) ?_
            refine v_iconst (x := 1) F dX8_atom3_76 rfl (by decide) ?_
            refine v_isub F dX8_atom3_77 rfl ?_
            refine v_int F (y := 3) (by decide) ?_
            refine m_put26 F G q1279 dX8_atom3_78 rfl ?_
            refine v_aload_n F 1 dX8_atom3_81 rfl rfl rfl ?_
            refine m_get F G 27 (w := .int (t14 0 27)) (by decide) q1280 rfl dX8_atom3_82 rfl ?_
            refine v_int F (y := 0) (hb14) ?_
            refine v_if_ne (tgt := 161) (q := 88) F dX8_atom3_85 rfl rfl (fun c18 => ?_) (fun c18 => ?_)
            · skip
              exact absurd c18 (by decide)
            · skip
              refine v_aload_n F 1 dX8_atom3_88 rfl rfl rfl ?_
              refine m_calln F G (cm_X8_next (i := tN b z j14) G (up t14 0 26 3) (pTx.eq hT (pEq.u hE14 (j := 26) (by decide) 3)) (pAt.u hA14 (j := 26) (x := 3) (by decide)).2.2.1 (tN_le hi14).2) ok_X8_next q1421 is_X8_next rfl rfl dX8_atom3_89 rfl rfl ?_
              rintro t19 ⟨hN19, hA19⟩
              have hE19 : pEq σ t19 := pEq.trans (pEq.u hE14 (j := 26) (by decide) 3) hN19.p
              have hb19 : t19 0 27 = 0 := (hN19 0 27 (by omega)).trans hb14
              have ho19 : t19 0 26 = nI 3 := (hN19 0 26 (by omega)).trans rfl
              have hi19 : tN b z j14 ≤ z := (tN_le hi14).2
              refine v_goto (tgt := 161) F dX8_atom3_92 rfl ?_
              refine v_iload_n F 0 dX8_atom3_161 rfl rfl rfl ?_
              exact v_retx F dX8_atom3_162 rfl (⟨hE19, pRes.o ((PXa 1).trans (atG_po c1 c2 hp14 c17)) (hr14) hA19 hb19 ho19⟩)
          · skip
            refine v_aload_n F 1 dX8_atom3_67 rfl rfl rfl ?_
            refine m_calln F G (cm_X8_fail G t14 hb14) ok_X8_fail q1445 is_X8_fail rfl rfl dX8_atom3_68 rfl rfl ?_
            intro u0 hu0; subst u0
            refine v_aload_n F 1 dX8_atom3_71 rfl rfl rfl ?_
            refine v_dup F dX8_atom3_72 rfl rfl ?_
            refine m_get F G 26 (w := .int (t14 0 26)) (by decide) q1279 rfl dX8_atom3_73 rfl ?_
            refine v_iconst (x := 1) F dX8_atom3_76 rfl (by decide) ?_
            refine v_isub F dX8_atom3_77 rfl ?_
            refine m_put26 F G q1279 dX8_atom3_78 rfl ?_
            refine v_aload_n F 1 dX8_atom3_81 rfl rfl rfl ?_
            refine m_get F G 27 (w := .int 1) (by decide) q1280 rfl dX8_atom3_82 rfl ?_
            refine v_if_ne (tgt := 161) (q := 88) F dX8_atom3_85 rfl rfl (fun c20 => ?_) (fun c20 => ?_)
            · skip
              refine v_iload_n F 0 dX8_atom3_161 rfl rfl rfl ?_
              exact v_retx F dX8_atom3_162 rfl (⟨(pEq.u (pEq.u (pEq.u hE14 (j := 27) (by decide) 1) (j := 28) (by decide) (t14 0 24)) (j := 26) (by decide) ((t14 0 26) - 1)), pRes.e ((PXa 1).trans (atG_pb c1 c2 hp14 c17)) rfl hA14.2.1⟩)
            · skip
              exact absurd c20 (by decide)
  · skip
    refine v_aload_n F 1 dX8_atom3_11 rfl rfl rfl ?_
    refine m_calli F G (cm_X8_opens (d := 3) G σ hT hA hi hb ho (by decide)) ok_X8_opens q1461 is_X8_opens rfl rfl dX8_atom3_12 rfl rfl ?_
    rintro t21 ⟨hN21, hA21, hb21, ho21⟩
    have hE21 : pEq σ t21 := pEq.trans pEq.rf hN21
    have hi21 : tN b z i ≤ z := (tN_le hi).2
    refine v_if_eq (tgt := 161) (q := 18) F dX8_atom3_15 rfl rfl (fun c22 => ?_) (fun c22 => ?_)
    · skip
      exact absurd c22 (by decide)
    · skip
      refine v_aload_n F 1 dX8_atom3_18 rfl rfl rfl ?_
      refine m_callx F G (cm_X8_atom4 G t21 (pTx.eq hT hE21) hA21 hi21 hb21 ho21) ok_X8_atom4 q1515 is_X8_atom4 rfl rfl dX8_atom3_19 rfl rfl ?_
      rintro r23 t23 ⟨hN23, hR23⟩
      have hE23 : pEq σ t23 := pEq.trans hE21 hN23
      rcases hp23 : (PX b z 1).1 (tN b z i) with e23 | ⟨f23, j23⟩
      · skip
        rw [hp23] at hR23
        obtain ⟨hb23, hf23⟩ : t23 0 27 = 1 ∧ t23 0 28 = nI e23 := hR23
        refine v_ineg F dX8_atom3_22 rfl ?_
        refine v_istore_n (ls' := [(1, .int (-r23)), (0, .ref (ad 0))]) F dX8_atom3_23 rfl rfl (by decide) rfl ?_
        refine v_aload_n F 1 dX8_atom3_24 rfl rfl rfl ?_
        refine v_dup F dX8_atom3_25 rfl rfl ?_
        refine m_get F G 26 (w := .int (t23 0 26)) (by decide) q1279 rfl dX8_atom3_26 rfl ?_
        refine v_iconst (x := 1) F dX8_atom3_29 rfl (by decide) ?_
        refine v_isub F dX8_atom3_30 rfl ?_
        refine m_put26 F G q1279 dX8_atom3_31 rfl ?_
        refine v_goto (tgt := 161) F dX8_atom3_34 rfl ?_
        refine v_iload_n F 0 dX8_atom3_161 rfl rfl rfl ?_
        exact v_retx F dX8_atom3_162 rfl (⟨(pEq.u hE23 (j := 26) (by decide) ((t23 0 26) - 1)), pRes.e ((PXa 1).trans (atG_ne c1 hp23)) hb23 hf23⟩)
      · skip
        rw [hp23] at hR23
        obtain ⟨hr23, hA23, hb23, ho23⟩ : r23 = f23 (rho t21) ∧ pAt b z t23 j23 ∧ t23 0 27 = 0 ∧ t23 0 26 = nI 4 := hR23
        rw [rho_eq hE21] at hr23
        have hg23 := (PX_good 1).1 _ _ _ hi21 hp23
        have hi23 : j23 ≤ z := hg23.2
        refine v_ineg F dX8_atom3_22 rfl ?_
        refine v_istore_n (ls' := [(1, .int (-r23)), (0, .ref (ad 0))]) F dX8_atom3_23 rfl rfl (by decide) rfl ?_
        refine v_aload_n F 1 dX8_atom3_24 rfl rfl rfl ?_
        refine v_dup F dX8_atom3_25 rfl rfl ?_
        refine m_get F G 26 (w := .int (t23 0 26)) (by decide) q1279 rfl dX8_atom3_26 rfl ?_
        refine v_int F (ho23) ?_
        refine v_iconst (x := 1) F dX8_atom3_29 rfl (by decide) ?_
        refine v_isub F dX8_atom3_30 rfl ?_
        refine v_int F (y := 3) (by decide) ?_
        refine m_put26 F G q1279 dX8_atom3_31 rfl ?_
        refine v_goto (tgt := 161) F dX8_atom3_34 rfl ?_
        refine v_iload_n F 0 dX8_atom3_161 rfl rfl rfl ?_
        exact v_retx F dX8_atom3_162 rfl (⟨(pEq.u hE23 (j := 26) (by decide) 3), pRes.o ((PXa 1).trans (atG_no c1 hp23)) (by rw [hr23]) (pAt.u hA23 (j := 26) (x := 3) (by decide)) hb23 rfl⟩)
theorem ok_X8_term3 : vv_oc yX8_term3 2 0 (ws_ yX8_term3 cX8_term3 2 (some .int)) := vv_ok.oc (rt := (some .int)) ⟨q1534, q133, by decide +kernel, by decide +kernel⟩
theorem is_X8_term3 : Cond.instanceMethod yX8_term3 ∈ lw_all ∧ Cond.selects RX8 yX8_term3 yX8_term3 ∈ lw_all := ⟨q1533, qs79⟩
set_option maxHeartbeats 4000000 in
theorem cm_X8_term3 {l : Launch} {Kf : State → Prop} {D : va_G} {ad : Nat → Nat} {cI cZ : ClassId} {A : Nat → Prop} (G : mG A Kf D cI cZ) {b : Nat → Int32} {z t i : Nat} (σ : mS)  (hT : pTx b z t σ) (hA : pAt b z σ i) (hi : i ≤ z) (hb : σ 0 27 = 0) (ho : σ 0 26 = nI 3) : vv_Ct l yX8_term3 (ws_ yX8_term3 cX8_term3 2 (some .int)) (rm 17 376) Kf (mWd D ad cI cZ A) A [.ref (ad 0)] σ (vv_x (fun r u => pEq σ u ∧ pRes b z 3 σ u r ((teG b z (PX b z 2).1) i))) := by
  refine vv_of (by decide +kernel) (Nat.le_of_ble_eq_true rfl) ?_
  intro v (F : vv_F v l cX8_term3 2 RX8 "term3" (some .int) [] (rm 17 376) Kf (mWd D ad cI cZ A) A _)
  show v σ 0 0 0 [(0, .ref (ad 0))] []
  refine v_aload_n F 0 dX8_term3_0 rfl rfl rfl ?_
  refine m_callx F G (cm_X8_atom3 G σ hT hA hi hb ho) ok_X8_atom3 q1535 is_X8_atom3 rfl rfl dX8_term3_1 rfl rfl ?_
  rintro r1 t1 ⟨hN1, hR1⟩
  have hE1 : pEq σ t1 := pEq.trans pEq.rf hN1
  rcases hp1 : (PX b z 2).1 i with e1 | ⟨f1, j1⟩
  · skip
    rw [hp1] at hR1
    obtain ⟨hb1, hf1⟩ : t1 0 27 = 1 ∧ t1 0 28 = nI e1 := hR1
    refine v_istore_n (ls' := [(1, .int r1), (0, .ref (ad 0))]) F dX8_term3_4 rfl rfl (by decide) rfl ?_
    refine v_aload_n F 1 dX8_term3_5 rfl rfl rfl ?_
    refine v_bipush (x := 42) F dX8_term3_6 rfl (by decide) ?_
    refine m_calli F G (cm_X8_isSign_b G t1 42 hb1) ok_X8_isSign q1497 is_X8_isSign rfl rfl dX8_term3_8 rfl rfl ?_
    intro u0 hu0; subst u0
    refine v_if_eq (tgt := 28) (q := 14) F dX8_term3_11 rfl rfl (fun c2 => ?_) (fun c2 => ?_)
    · skip
      refine v_iload_n F 0 dX8_term3_28 rfl rfl rfl ?_
      exact v_retx F dX8_term3_29 rfl (⟨hE1, pRes.e (chG_er hp1) hb1 hf1⟩)
    · skip
      exact absurd c2 (by decide)
  · skip
    rw [hp1] at hR1
    obtain ⟨hr1, hA1, hb1, ho1⟩ : r1 = f1 (rho σ) ∧ pAt b z t1 j1 ∧ t1 0 27 = 0 ∧ t1 0 26 = nI 3 := hR1
    rw [rho_eq pEq.rf] at hr1
    have hg1 := (PX_good 2).1 _ _ _ hi hp1
    have hi1 : j1 ≤ z := hg1.2
    refine v_istore_n (ls' := [(1, .int r1), (0, .ref (ad 0))]) F dX8_term3_4 rfl rfl (by decide) rfl ?_
    have L5 : ∀ (n : Nat) (s : mS) (f : (Nat → Int32) → Int32) (j : Nat) (x : Int32) (hEs : pEq σ s) (hAs : pAt b z s j) (hbs : s 0 27 = 0) (hos : s 0 26 = nI 3) (hj : j ≤ z) (hx : x = f (rho σ)) (hL : (teG b z (PX b z 2).1) i = loG b z (fun i => decide (sg b z i 42)) (PX b z 2).1 (fun _ x y => x * y) n f j) (hn : z - j < n), v s 0 0 5 [(0, .ref (ad 0)), (1, .int x)] [] := by
      intro n
      induction n with
      | zero => intro s f j x hEs hAs hbs hos hj hx hL hn; exact absurd hn (Nat.not_lt_zero _)
      | succ n ih5 =>
        intro s f j x hEs hAs hbs hos hj hx hL hn
        refine v_aload_n F 0 dX8_term3_5 rfl rfl rfl ?_
        refine v_bipush (x := 42) F dX8_term3_6 rfl (by decide) ?_
        refine m_calli F G (cm_X8_isSign G s 42 hAs hbs) ok_X8_isSign q1497 is_X8_isSign rfl rfl dX8_term3_8 rfl rfl ?_
        intro u0 hu0; subst u0
        refine v_if_eqB (p := (sg b z j 42)) (tgt := 28) (q := 14) F dX8_term3_11 rfl rfl (fun c3 => ?_) (fun c3 => ?_)
        · skip
          refine v_iload_n F 1 dX8_term3_28 rfl rfl rfl ?_
          exact v_retx F dX8_term3_29 rfl (⟨hEs, pRes.o (hL.trans (loG_ou (fun h => c3 (of_decide_eq_true h)))) (hx) hAs hbs hos⟩)
        · skip
          have hs9 := (sg_lt hj c3).1
          refine v_aload_n F 0 dX8_term3_14 rfl rfl rfl ?_
          refine m_calln F G (cm_X8_next (i := tN b z j) G s (pTx.eq hT hEs) hAs.2.2.1 (tN_le hj).2) ok_X8_next q1421 is_X8_next rfl rfl dX8_term3_15 rfl rfl ?_
          rintro t4 ⟨hN4, hA4⟩
          have hE4 : pEq σ t4 := pEq.trans hEs hN4.p
          have hb4 : t4 0 27 = 0 := (hN4 0 27 (by omega)).trans hbs
          have ho4 : t4 0 26 = nI 3 := (hN4 0 26 (by omega)).trans hos
          have hi4 : tN b z j ≤ z := (tN_le hj).2
          refine v_iload_n F 1 dX8_term3_18 rfl rfl rfl ?_
          refine v_aload_n F 0 dX8_term3_19 rfl rfl rfl ?_
          refine m_callx F G (cm_X8_atom3 G t4 (pTx.eq hT hE4) hA4 hi4 hb4 ho4) ok_X8_atom3 q1535 is_X8_atom3 rfl rfl dX8_term3_20 rfl rfl ?_
          rintro r5 t5 ⟨hN5, hR5⟩
          have hE5 : pEq σ t5 := pEq.trans hE4 hN5
          rcases hp5 : (PX b z 2).1 (tN b z j) with e5 | ⟨f5, j5⟩
          · skip
            rw [hp5] at hR5
            obtain ⟨hb5, hf5⟩ : t5 0 27 = 1 ∧ t5 0 28 = nI e5 := hR5
            refine v_imul F dX8_term3_23 rfl ?_
            refine v_istore_n (ls' := [(1, .int (x * r5)), (0, .ref (ad 0))]) F dX8_term3_24 rfl rfl (by decide) rfl ?_
            refine v_goto (tgt := 5) F dX8_term3_25 rfl ?_
            refine v_aload_n F 1 dX8_term3_5 rfl rfl rfl ?_
            refine v_bipush (x := 42) F dX8_term3_6 rfl (by decide) ?_
            refine m_calli F G (cm_X8_isSign_b G t5 42 hb5) ok_X8_isSign q1497 is_X8_isSign rfl rfl dX8_term3_8 rfl rfl ?_
            intro u0 hu0; subst u0
            refine v_if_eq (tgt := 28) (q := 14) F dX8_term3_11 rfl rfl (fun c6 => ?_) (fun c6 => ?_)
            · skip
              refine v_iload_n F 0 dX8_term3_28 rfl rfl rfl ?_
              exact v_retx F dX8_term3_29 rfl (⟨hE5, pRes.e (hL.trans (loG_er (decide_eq_true c3) hp5)) hb5 hf5⟩)
            · skip
              exact absurd c6 (by decide)
          · skip
            rw [hp5] at hR5
            obtain ⟨hr5, hA5, hb5, ho5⟩ : r5 = f5 (rho t4) ∧ pAt b z t5 j5 ∧ t5 0 27 = 0 ∧ t5 0 26 = nI 3 := hR5
            rw [rho_eq hE4] at hr5
            have hg5 := (PX_good 2).1 _ _ _ hi4 hp5
            have hi5 : j5 ≤ z := hg5.2
            refine v_imul F dX8_term3_23 rfl ?_
            refine v_istore_n (ls' := [(1, .int (x * r5)), (0, .ref (ad 0))]) F dX8_term3_24 rfl rfl (by decide) rfl ?_
            have hs8 := hg5
            refine v_goto (tgt := 5) F dX8_term3_25 rfl ?_
            refine v_sub (ls' := [(0, .ref (ad 0)), (1, .int (x * r5))]) F [1, 0] rfl ?_
            exact ih5 t5 (fun ρ => (f ρ) * (f5 ρ)) j5 (x * r5) hE5 hA5 hb5 ho5 hi5 (by rw [hx, hr5]) (hL.trans (loG_go (decide_eq_true c3) hp5)) (by have := hs9; omega)
    refine v_sub (ls' := [(0, .ref (ad 0)), (1, .int r1)]) F [1, 0] rfl ?_
    exact L5 (z + 1) t1 f1 j1 r1 hE1 hA1 hb1 ho1 hi1 hr1 (chG_go hp1) (by omega)
theorem ok_X8_added3 : vv_oc yX8_added3 4 0 (ws_ yX8_added3 cX8_added3 4 (some .int)) := vv_ok.oc (rt := (some .int)) ⟨q1530, q133, by decide +kernel, by decide +kernel⟩
theorem is_X8_added3 : Cond.instanceMethod yX8_added3 ∈ lw_all ∧ Cond.selects RX8 yX8_added3 yX8_added3 ∈ lw_all := ⟨q1529, qs78⟩
set_option maxHeartbeats 4000000 in
theorem cm_X8_added3 {l : Launch} {Kf : State → Prop} {D : va_G} {ad : Nat → Nat} {cI cZ : ClassId} {A : Nat → Prop} (G : mG A Kf D cI cZ) {b : Nat → Int32} {z t i : Nat} (σ : mS)  (hT : pTx b z t σ) (hA : pAt b z σ i) (hi : i ≤ z) (hb : σ 0 27 = 0) (ho : σ 0 26 = nI 3) : vv_Ct l yX8_added3 (ws_ yX8_added3 cX8_added3 4 (some .int)) (rm 18 397) Kf (mWd D ad cI cZ A) A [.ref (ad 0)] σ (vv_x (fun r u => pEq σ u ∧ pRes b z 3 σ u r ((adG b z (PX b z 2).1) i))) := by
  refine vv_of (by decide +kernel) (Nat.le_of_ble_eq_true rfl) ?_
  intro v (F : vv_F v l cX8_added3 4 RX8 "added3" (some .int) [] (rm 18 397) Kf (mWd D ad cI cZ A) A _)
  show v σ 0 0 0 [(0, .ref (ad 0))] []
  refine v_aload_n F 0 dX8_added3_0 rfl rfl rfl ?_
  refine m_callx F G (cm_X8_term3 G σ hT hA hi hb ho) ok_X8_term3 q1531 is_X8_term3 rfl rfl dX8_added3_1 rfl rfl ?_
  rintro r1 t1 ⟨hN1, hR1⟩
  have hE1 : pEq σ t1 := pEq.trans pEq.rf hN1
  rcases hp1 : (teG b z (PX b z 2).1) i with e1 | ⟨f1, j1⟩
  · skip
    rw [hp1] at hR1
    obtain ⟨hb1, hf1⟩ : t1 0 27 = 1 ∧ t1 0 28 = nI e1 := hR1
    refine v_istore_n (ls' := [(1, .int r1), (0, .ref (ad 0))]) F dX8_added3_4 rfl rfl (by decide) rfl ?_
    refine v_aload_n F 1 dX8_added3_5 rfl rfl rfl ?_
    refine v_bipush (x := 43) F dX8_added3_6 rfl (by decide) ?_
    refine m_calli F G (cm_X8_isSign_b G t1 43 hb1) ok_X8_isSign q1497 is_X8_isSign rfl rfl dX8_added3_8 rfl rfl ?_
    intro u0 hu0; subst u0
    refine v_if_ne (tgt := 23) (q := 14) F dX8_added3_11 rfl rfl (fun c2 => ?_) (fun c2 => ?_)
    · skip
      exact absurd c2 (by decide)
    · skip
      refine v_aload_n F 1 dX8_added3_14 rfl rfl rfl ?_
      refine v_bipush (x := 45) F dX8_added3_15 rfl (by decide) ?_
      refine m_calli F G (cm_X8_isSign_b G t1 45 hb1) ok_X8_isSign q1497 is_X8_isSign rfl rfl dX8_added3_17 rfl rfl ?_
      intro u0 hu0; subst u0
      refine v_if_eq (tgt := 66) (q := 23) F dX8_added3_20 rfl rfl (fun c3 => ?_) (fun c3 => ?_)
      · skip
        refine v_iload_n F 0 dX8_added3_66 rfl rfl rfl ?_
        exact v_retx F dX8_added3_67 rfl (⟨hE1, pRes.e (chG_er hp1) hb1 hf1⟩)
      · skip
        exact absurd c3 (by decide)
  · skip
    rw [hp1] at hR1
    obtain ⟨hr1, hA1, hb1, ho1⟩ : r1 = f1 (rho σ) ∧ pAt b z t1 j1 ∧ t1 0 27 = 0 ∧ t1 0 26 = nI 3 := hR1
    rw [rho_eq pEq.rf] at hr1
    have hg1 := (teG_good (PX_good 2).1) _ _ _ hi hp1
    have hi1 : j1 ≤ z := hg1.2
    refine v_istore_n (ls' := [(1, .int r1), (0, .ref (ad 0))]) F dX8_added3_4 rfl rfl (by decide) rfl ?_
    have L5 : ∀ (n : Nat) (s : mS) (f : (Nat → Int32) → Int32) (j : Nat) (x : Int32) (hEs : pEq σ s) (hAs : pAt b z s j) (hbs : s 0 27 = 0) (hos : s 0 26 = nI 3) (hj : j ≤ z) (hx : x = f (rho σ)) (hL : (adG b z (PX b z 2).1) i = loG b z (fun i => decide (sg b z i 43 ∨ sg b z i 45)) (teG b z (PX b z 2).1) (fun i x y => if tW b z i = 43 then x + y else x - y) n f j) (hn : z - j < n), v s 0 0 5 [(0, .ref (ad 0)), (1, .int x)] [] := by
      intro n
      induction n with
      | zero => intro s f j x hEs hAs hbs hos hj hx hL hn; exact absurd hn (Nat.not_lt_zero _)
      | succ n ih5 =>
        intro s f j x hEs hAs hbs hos hj hx hL hn
        refine v_aload_n F 0 dX8_added3_5 rfl rfl rfl ?_
        refine v_bipush (x := 43) F dX8_added3_6 rfl (by decide) ?_
        refine m_calli F G (cm_X8_isSign G s 43 hAs hbs) ok_X8_isSign q1497 is_X8_isSign rfl rfl dX8_added3_8 rfl rfl ?_
        intro u0 hu0; subst u0
        refine v_if_neB (p := (sg b z j 43)) (tgt := 23) (q := 14) F dX8_added3_11 rfl rfl (fun c4 => ?_) (fun c4 => ?_)
        · skip
          have hs9 := (sg_lt hj c4).1
          have h25 : s 0 25 = tW b z j := hAs.2.2.2 (Or.inr c4.1)
          refine v_aload_n F 0 dX8_added3_23 rfl rfl rfl ?_
          refine m_get F G 25 (w := .long (Int32.toInt64 (s 0 25))) (by decide) q1278 rfl dX8_added3_24 rfl ?_
          refine v_ldc2 F q1505 dX8_added3_27 rfl ?_
          refine v_lng (y := (43 : Int32).toInt64) F (by decide) ?_
          refine v_lcmp F dX8_added3_30 rfl ?_
          refine v_if_neLI (tgt := 38) (q := 34) F dX8_added3_31 rfl rfl (fun c5 => ?_) (fun c5 => ?_)
          · skip
            refine v_iconst (x := 0) F dX8_added3_38 rfl (by decide) ?_
            refine v_istore_n (ls' := [(2, .int 0), (0, .ref (ad 0)), (1, .int x)]) F dX8_added3_39 rfl rfl (by decide) rfl ?_
            refine v_aload_n F 1 dX8_added3_40 rfl rfl rfl ?_
            refine m_calln F G (cm_X8_next (i := tN b z j) G s (pTx.eq hT hEs) hAs.2.2.1 (tN_le hj).2) ok_X8_next q1421 is_X8_next rfl rfl dX8_added3_41 rfl rfl ?_
            rintro t6 ⟨hN6, hA6⟩
            have hE6 : pEq σ t6 := pEq.trans hEs hN6.p
            have hb6 : t6 0 27 = 0 := (hN6 0 27 (by omega)).trans hbs
            have ho6 : t6 0 26 = nI 3 := (hN6 0 26 (by omega)).trans hos
            have hi6 : tN b z j ≤ z := (tN_le hj).2
            refine v_aload_n F 1 dX8_added3_44 rfl rfl rfl ?_
            refine m_callx F G (cm_X8_term3 G t6 (pTx.eq hT hE6) hA6 hi6 hb6 ho6) ok_X8_term3 q1531 is_X8_term3 rfl rfl dX8_added3_45 rfl rfl ?_
            rintro r7 t7 ⟨hN7, hR7⟩
            have hE7 : pEq σ t7 := pEq.trans hE6 hN7
            rcases hp7 : (teG b z (PX b z 2).1) (tN b z j) with e7 | ⟨f7, j7⟩
            · skip
              rw [hp7] at hR7
              obtain ⟨hb7, hf7⟩ : t7 0 27 = 1 ∧ t7 0 28 = nI e7 := hR7
              refine v_istore_n (ls' := [(3, .int r7), (2, .int 0), (0, .ref (ad 0)), (1, .int x)]) F dX8_added3_48 rfl rfl (by decide) rfl ?_
              refine v_iload_n F 1 dX8_added3_49 rfl rfl rfl ?_
              refine v_if_eq (tgt := 59) (q := 53) F dX8_added3_50 rfl rfl (fun c8 => ?_) (fun c8 => ?_)
              · skip
                refine v_iload_n F 3 dX8_added3_59 rfl rfl rfl ?_
                refine v_iload_n F 0 dX8_added3_60 rfl rfl rfl ?_
                refine v_isub F dX8_added3_61 rfl ?_
                refine v_istore_n (ls' := [(1, .int (x - r7)), (3, .int r7), (2, .int 0), (0, .ref (ad 0))]) F dX8_added3_62 rfl rfl (by decide) rfl ?_
                refine v_goto (tgt := 5) F dX8_added3_63 rfl ?_
                refine v_aload_n F 3 dX8_added3_5 rfl rfl rfl ?_
                refine v_bipush (x := 43) F dX8_added3_6 rfl (by decide) ?_
                refine m_calli F G (cm_X8_isSign_b G t7 43 hb7) ok_X8_isSign q1497 is_X8_isSign rfl rfl dX8_added3_8 rfl rfl ?_
                intro u0 hu0; subst u0
                refine v_if_ne (tgt := 23) (q := 14) F dX8_added3_11 rfl rfl (fun c9 => ?_) (fun c9 => ?_)
                · skip
                  exact absurd c9 (by decide)
                · skip
                  refine v_aload_n F 3 dX8_added3_14 rfl rfl rfl ?_
                  refine v_bipush (x := 45) F dX8_added3_15 rfl (by decide) ?_
                  refine m_calli F G (cm_X8_isSign_b G t7 45 hb7) ok_X8_isSign q1497 is_X8_isSign rfl rfl dX8_added3_17 rfl rfl ?_
                  intro u0 hu0; subst u0
                  refine v_if_eq (tgt := 66) (q := 23) F dX8_added3_20 rfl rfl (fun c10 => ?_) (fun c10 => ?_)
                  · skip
                    refine v_iload_n F 0 dX8_added3_66 rfl rfl rfl ?_
                    exact v_retx F dX8_added3_67 rfl (⟨hE7, pRes.e (hL.trans (loG_er (decide_eq_true (Or.inl c4)) hp7)) hb7 hf7⟩)
                  · skip
                    exact absurd c10 (by decide)
              · skip
                exact absurd c8 (by decide)
            · skip
              rw [hp7] at hR7
              obtain ⟨hr7, hA7, hb7, ho7⟩ : r7 = f7 (rho t6) ∧ pAt b z t7 j7 ∧ t7 0 27 = 0 ∧ t7 0 26 = nI 3 := hR7
              rw [rho_eq hE6] at hr7
              have hg7 := (teG_good (PX_good 2).1) _ _ _ hi6 hp7
              have hi7 : j7 ≤ z := hg7.2
              refine v_istore_n (ls' := [(3, .int r7), (2, .int 0), (0, .ref (ad 0)), (1, .int x)]) F dX8_added3_48 rfl rfl (by decide) rfl ?_
              refine v_iload_n F 1 dX8_added3_49 rfl rfl rfl ?_
              refine v_if_eq (tgt := 59) (q := 53) F dX8_added3_50 rfl rfl (fun c11 => ?_) (fun c11 => ?_)
              · skip
                refine v_iload_n F 3 dX8_added3_59 rfl rfl rfl ?_
                refine v_iload_n F 0 dX8_added3_60 rfl rfl rfl ?_
                refine v_isub F dX8_added3_61 rfl ?_
                refine v_istore_n (ls' := [(1, .int (x - r7)), (3, .int r7), (2, .int 0), (0, .ref (ad 0))]) F dX8_added3_62 rfl rfl (by decide) rfl ?_
                refine v_goto (tgt := 5) F dX8_added3_63 rfl ?_
                refine v_sub (ls' := [(0, .ref (ad 0)), (1, .int (x - r7))]) F [3, 0] rfl ?_
                exact ih5 t7 (fun ρ => if tW b z j = 43 then (f ρ) + (f7 ρ) else (f ρ) - (f7 ρ)) j7 (x - r7) hE7 hA7 hb7 ho7 hi7 (by show _ = (if tW b z j = 43 then _ else _); rw [if_neg (fun h => c5 (h25.trans h)), hx, hr7]) (hL.trans (loG_go (decide_eq_true (Or.inl c4)) hp7)) (by have := hs9; omega)
              · skip
                exact absurd c11 (by decide)
          · skip
            refine v_iconst (x := 1) F dX8_added3_34 rfl (by decide) ?_
            refine v_goto (tgt := 39) F dX8_added3_35 rfl ?_
            refine v_istore_n (ls' := [(2, .int 1), (0, .ref (ad 0)), (1, .int x)]) F dX8_added3_39 rfl rfl (by decide) rfl ?_
            refine v_aload_n F 1 dX8_added3_40 rfl rfl rfl ?_
            refine m_calln F G (cm_X8_next (i := tN b z j) G s (pTx.eq hT hEs) hAs.2.2.1 (tN_le hj).2) ok_X8_next q1421 is_X8_next rfl rfl dX8_added3_41 rfl rfl ?_
            rintro t12 ⟨hN12, hA12⟩
            have hE12 : pEq σ t12 := pEq.trans hEs hN12.p
            have hb12 : t12 0 27 = 0 := (hN12 0 27 (by omega)).trans hbs
            have ho12 : t12 0 26 = nI 3 := (hN12 0 26 (by omega)).trans hos
            have hi12 : tN b z j ≤ z := (tN_le hj).2
            refine v_aload_n F 1 dX8_added3_44 rfl rfl rfl ?_
            refine m_callx F G (cm_X8_term3 G t12 (pTx.eq hT hE12) hA12 hi12 hb12 ho12) ok_X8_term3 q1531 is_X8_term3 rfl rfl dX8_added3_45 rfl rfl ?_
            rintro r13 t13 ⟨hN13, hR13⟩
            have hE13 : pEq σ t13 := pEq.trans hE12 hN13
            rcases hp13 : (teG b z (PX b z 2).1) (tN b z j) with e13 | ⟨f13, j13⟩
            · skip
              rw [hp13] at hR13
              obtain ⟨hb13, hf13⟩ : t13 0 27 = 1 ∧ t13 0 28 = nI e13 := hR13
              refine v_istore_n (ls' := [(3, .int r13), (2, .int 1), (0, .ref (ad 0)), (1, .int x)]) F dX8_added3_48 rfl rfl (by decide) rfl ?_
              refine v_iload_n F 1 dX8_added3_49 rfl rfl rfl ?_
              refine v_if_eq (tgt := 59) (q := 53) F dX8_added3_50 rfl rfl (fun c14 => ?_) (fun c14 => ?_)
              · skip
                exact absurd c14 (by decide)
              · skip
                refine v_iload_n F 3 dX8_added3_53 rfl rfl rfl ?_
                refine v_iload_n F 0 dX8_added3_54 rfl rfl rfl ?_
                refine v_iadd F dX8_added3_55 rfl ?_
                refine v_goto (tgt := 62) F dX8_added3_56 rfl ?_
                refine v_istore_n (ls' := [(1, .int (x + r13)), (3, .int r13), (2, .int 1), (0, .ref (ad 0))]) F dX8_added3_62 rfl rfl (by decide) rfl ?_
                refine v_goto (tgt := 5) F dX8_added3_63 rfl ?_
                refine v_aload_n F 3 dX8_added3_5 rfl rfl rfl ?_
                refine v_bipush (x := 43) F dX8_added3_6 rfl (by decide) ?_
                refine m_calli F G (cm_X8_isSign_b G t13 43 hb13) ok_X8_isSign q1497 is_X8_isSign rfl rfl dX8_added3_8 rfl rfl ?_
                intro u0 hu0; subst u0
                refine v_if_ne (tgt := 23) (q := 14) F dX8_added3_11 rfl rfl (fun c15 => ?_) (fun c15 => ?_)
                · skip
                  exact absurd c15 (by decide)
                · skip
                  refine v_aload_n F 3 dX8_added3_14 rfl rfl rfl ?_
                  refine v_bipush (x := 45) F dX8_added3_15 rfl (by decide) ?_
                  refine m_calli F G (cm_X8_isSign_b G t13 45 hb13) ok_X8_isSign q1497 is_X8_isSign rfl rfl dX8_added3_17 rfl rfl ?_
                  intro u0 hu0; subst u0
                  refine v_if_eq (tgt := 66) (q := 23) F dX8_added3_20 rfl rfl (fun c16 => ?_) (fun c16 => ?_)
                  · skip
                    refine v_iload_n F 0 dX8_added3_66 rfl rfl rfl ?_
                    exact v_retx F dX8_added3_67 rfl (⟨hE13, pRes.e (hL.trans (loG_er (decide_eq_true (Or.inl c4)) hp13)) hb13 hf13⟩)
                  · skip
                    exact absurd c16 (by decide)
            · skip
              rw [hp13] at hR13
              obtain ⟨hr13, hA13, hb13, ho13⟩ : r13 = f13 (rho t12) ∧ pAt b z t13 j13 ∧ t13 0 27 = 0 ∧ t13 0 26 = nI 3 := hR13
              rw [rho_eq hE12] at hr13
              have hg13 := (teG_good (PX_good 2).1) _ _ _ hi12 hp13
              have hi13 : j13 ≤ z := hg13.2
              refine v_istore_n (ls' := [(3, .int r13), (2, .int 1), (0, .ref (ad 0)), (1, .int x)]) F dX8_added3_48 rfl rfl (by decide) rfl ?_
              refine v_iload_n F 1 dX8_added3_49 rfl rfl rfl ?_
              refine v_if_eq (tgt := 59) (q := 53) F dX8_added3_50 rfl rfl (fun c17 => ?_) (fun c17 => ?_)
              · skip
                exact absurd c17 (by decide)
              · skip
                refine v_iload_n F 3 dX8_added3_53 rfl rfl rfl ?_
                refine v_iload_n F 0 dX8_added3_54 rfl rfl rfl ?_
                refine v_iadd F dX8_added3_55 rfl ?_
                refine v_goto (tgt := 62) F dX8_added3_56 rfl ?_
                refine v_istore_n (ls' := [(1, .int (x + r13)), (3, .int r13), (2, .int 1), (0, .ref (ad 0))]) F dX8_added3_62 rfl rfl (by decide) rfl ?_
                refine v_goto (tgt := 5) F dX8_added3_63 rfl ?_
                refine v_sub (ls' := [(0, .ref (ad 0)), (1, .int (x + r13))]) F [3, 0] rfl ?_
                exact ih5 t13 (fun ρ => if tW b z j = 43 then (f ρ) + (f13 ρ) else (f ρ) - (f13 ρ)) j13 (x + r13) hE13 hA13 hb13 ho13 hi13 (by show _ = (if tW b z j = 43 then _ else _); rw [if_pos (h25.symm.trans c5), hx, hr13]) (hL.trans (loG_go (decide_eq_true (Or.inl c4)) hp13)) (by have := hs9; omega)
        · skip
          refine v_aload_n F 0 dX8_added3_14 rfl rfl rfl ?_
          refine v_bipush (x := 45) F dX8_added3_15 rfl (by decide) ?_
          refine m_calli F G (cm_X8_isSign G s 45 hAs hbs) ok_X8_isSign q1497 is_X8_isSign rfl rfl dX8_added3_17 rfl rfl ?_
          intro u0 hu0; subst u0
          refine v_if_eqB (p := (sg b z j 45)) (tgt := 66) (q := 23) F dX8_added3_20 rfl rfl (fun c18 => ?_) (fun c18 => ?_)
          · skip
            refine v_iload_n F 1 dX8_added3_66 rfl rfl rfl ?_
            exact v_retx F dX8_added3_67 rfl (⟨hEs, pRes.o (hL.trans (loG_ou (fun h => (fun h => h.elim c4 c18) (of_decide_eq_true h)))) (hx) hAs hbs hos⟩)
          · skip
            have hs9 := (sg_lt hj c18).1
            have h25 : s 0 25 = tW b z j := hAs.2.2.2 (Or.inr c18.1)
            refine v_aload_n F 0 dX8_added3_23 rfl rfl rfl ?_
            refine m_get F G 25 (w := .long (Int32.toInt64 (s 0 25))) (by decide) q1278 rfl dX8_added3_24 rfl ?_
            refine v_ldc2 F q1505 dX8_added3_27 rfl ?_
            refine v_lng (y := (43 : Int32).toInt64) F (by decide) ?_
            refine v_lcmp F dX8_added3_30 rfl ?_
            refine v_if_neLI (tgt := 38) (q := 34) F dX8_added3_31 rfl rfl (fun c19 => ?_) (fun c19 => ?_)
            · skip
              refine v_iconst (x := 0) F dX8_added3_38 rfl (by decide) ?_
              refine v_istore_n (ls' := [(2, .int 0), (0, .ref (ad 0)), (1, .int x)]) F dX8_added3_39 rfl rfl (by decide) rfl ?_
              refine v_aload_n F 1 dX8_added3_40 rfl rfl rfl ?_
              refine m_calln F G (cm_X8_next (i := tN b z j) G s (pTx.eq hT hEs) hAs.2.2.1 (tN_le hj).2) ok_X8_next q1421 is_X8_next rfl rfl dX8_added3_41 rfl rfl ?_
              rintro t20 ⟨hN20, hA20⟩
              have hE20 : pEq σ t20 := pEq.trans hEs hN20.p
              have hb20 : t20 0 27 = 0 := (hN20 0 27 (by omega)).trans hbs
              have ho20 : t20 0 26 = nI 3 := (hN20 0 26 (by omega)).trans hos
              have hi20 : tN b z j ≤ z := (tN_le hj).2
              refine v_aload_n F 1 dX8_added3_44 rfl rfl rfl ?_
              refine m_callx F G (cm_X8_term3 G t20 (pTx.eq hT hE20) hA20 hi20 hb20 ho20) ok_X8_term3 q1531 is_X8_term3 rfl rfl dX8_added3_45 rfl rfl ?_
              rintro r21 t21 ⟨hN21, hR21⟩
              have hE21 : pEq σ t21 := pEq.trans hE20 hN21
              rcases hp21 : (teG b z (PX b z 2).1) (tN b z j) with e21 | ⟨f21, j21⟩
              · skip
                rw [hp21] at hR21
                obtain ⟨hb21, hf21⟩ : t21 0 27 = 1 ∧ t21 0 28 = nI e21 := hR21
                refine v_istore_n (ls' := [(3, .int r21), (2, .int 0), (0, .ref (ad 0)), (1, .int x)]) F dX8_added3_48 rfl rfl (by decide) rfl ?_
                refine v_iload_n F 1 dX8_added3_49 rfl rfl rfl ?_
                refine v_if_eq (tgt := 59) (q := 53) F dX8_added3_50 rfl rfl (fun c22 => ?_) (fun c22 => ?_)
                · skip
                  refine v_iload_n F 3 dX8_added3_59 rfl rfl rfl ?_
                  refine v_iload_n F 0 dX8_added3_60 rfl rfl rfl ?_
                  refine v_isub F dX8_added3_61 rfl ?_
                  refine v_istore_n (ls' := [(1, .int (x - r21)), (3, .int r21), (2, .int 0), (0, .ref (ad 0))]) F dX8_added3_62 rfl rfl (by decide) rfl ?_
                  refine v_goto (tgt := 5) F dX8_added3_63 rfl ?_
                  refine v_aload_n F 3 dX8_added3_5 rfl rfl rfl ?_
                  refine v_bipush (x := 43) F dX8_added3_6 rfl (by decide) ?_
                  refine m_calli F G (cm_X8_isSign_b G t21 43 hb21) ok_X8_isSign q1497 is_X8_isSign rfl rfl dX8_added3_8 rfl rfl ?_
                  intro u0 hu0; subst u0
                  refine v_if_ne (tgt := 23) (q := 14) F dX8_added3_11 rfl rfl (fun c23 => ?_) (fun c23 => ?_)
                  · skip
                    exact absurd c23 (by decide)
                  · skip
                    refine v_aload_n F 3 dX8_added3_14 rfl rfl rfl ?_
                    refine v_bipush (x := 45) F dX8_added3_15 rfl (by decide) ?_
                    refine m_calli F G (cm_X8_isSign_b G t21 45 hb21) ok_X8_isSign q1497 is_X8_isSign rfl rfl dX8_added3_17 rfl rfl ?_
                    intro u0 hu0; subst u0
                    refine v_if_eq (tgt := 66) (q := 23) F dX8_added3_20 rfl rfl (fun c24 => ?_) (fun c24 => ?_)
                    · skip
                      refine v_iload_n F 0 dX8_added3_66 rfl rfl rfl ?_
                      exact v_retx F dX8_added3_67 rfl (⟨hE21, pRes.e (hL.trans (loG_er (decide_eq_true (Or.inr c18)) hp21)) hb21 hf21⟩)
                    · skip
                      exact absurd c24 (by decide)
                · skip
                  exact absurd c22 (by decide)
              · skip
                rw [hp21] at hR21
                obtain ⟨hr21, hA21, hb21, ho21⟩ : r21 = f21 (rho t20) ∧ pAt b z t21 j21 ∧ t21 0 27 = 0 ∧ t21 0 26 = nI 3 := hR21
                rw [rho_eq hE20] at hr21
                have hg21 := (teG_good (PX_good 2).1) _ _ _ hi20 hp21
                have hi21 : j21 ≤ z := hg21.2
                refine v_istore_n (ls' := [(3, .int r21), (2, .int 0), (0, .ref (ad 0)), (1, .int x)]) F dX8_added3_48 rfl rfl (by decide) rfl ?_
                refine v_iload_n F 1 dX8_added3_49 rfl rfl rfl ?_
                refine v_if_eq (tgt := 59) (q := 53) F dX8_added3_50 rfl rfl (fun c25 => ?_) (fun c25 => ?_)
                · skip
                  refine v_iload_n F 3 dX8_added3_59 rfl rfl rfl ?_
                  refine v_iload_n F 0 dX8_added3_60 rfl rfl rfl ?_
                  refine v_isub F dX8_added3_61 rfl ?_
                  refine v_istore_n (ls' := [(1, .int (x - r21)), (3, .int r21), (2, .int 0), (0, .ref (ad 0))]) F dX8_added3_62 rfl rfl (by decide) rfl ?_
                  refine v_goto (tgt := 5) F dX8_added3_63 rfl ?_
                  refine v_sub (ls' := [(0, .ref (ad 0)), (1, .int (x - r21))]) F [3, 0] rfl ?_
                  exact ih5 t21 (fun ρ => if tW b z j = 43 then (f ρ) + (f21 ρ) else (f ρ) - (f21 ρ)) j21 (x - r21) hE21 hA21 hb21 ho21 hi21 (by show _ = (if tW b z j = 43 then _ else _); rw [if_neg (fun h => c19 (h25.trans h)), hx, hr21]) (hL.trans (loG_go (decide_eq_true (Or.inr c18)) hp21)) (by have := hs9; omega)
                · skip
                  exact absurd c25 (by decide)
            · skip
              refine v_iconst (x := 1) F dX8_added3_34 rfl (by decide) ?_
              refine v_goto (tgt := 39) F dX8_added3_35 rfl ?_
              refine v_istore_n (ls' := [(2, .int 1), (0, .ref (ad 0)), (1, .int x)]) F dX8_added3_39 rfl rfl (by decide) rfl ?_
              refine v_aload_n F 1 dX8_added3_40 rfl rfl rfl ?_
              refine m_calln F G (cm_X8_next (i := tN b z j) G s (pTx.eq hT hEs) hAs.2.2.1 (tN_le hj).2) ok_X8_next q1421 is_X8_next rfl rfl dX8_added3_41 rfl rfl ?_
              rintro t26 ⟨hN26, hA26⟩
              have hE26 : pEq σ t26 := pEq.trans hEs hN26.p
              have hb26 : t26 0 27 = 0 := (hN26 0 27 (by omega)).trans hbs
              have ho26 : t26 0 26 = nI 3 := (hN26 0 26 (by omega)).trans hos
              have hi26 : tN b z j ≤ z := (tN_le hj).2
              refine v_aload_n F 1 dX8_added3_44 rfl rfl rfl ?_
              refine m_callx F G (cm_X8_term3 G t26 (pTx.eq hT hE26) hA26 hi26 hb26 ho26) ok_X8_term3 q1531 is_X8_term3 rfl rfl dX8_added3_45 rfl rfl ?_
              rintro r27 t27 ⟨hN27, hR27⟩
              have hE27 : pEq σ t27 := pEq.trans hE26 hN27
              rcases hp27 : (teG b z (PX b z 2).1) (tN b z j) with e27 | ⟨f27, j27⟩
              · skip
                rw [hp27] at hR27
                obtain ⟨hb27, hf27⟩ : t27 0 27 = 1 ∧ t27 0 28 = nI e27 := hR27
                refine v_istore_n (ls' := [(3, .int r27), (2, .int 1), (0, .ref (ad 0)), (1, .int x)]) F dX8_added3_48 rfl rfl (by decide) rfl ?_
                refine v_iload_n F 1 dX8_added3_49 rfl rfl rfl ?_
                refine v_if_eq (tgt := 59) (q := 53) F dX8_added3_50 rfl rfl (fun c28 => ?_) (fun c28 => ?_)
                · skip
                  exact absurd c28 (by decide)
                · skip
                  refine v_iload_n F 3 dX8_added3_53 rfl rfl rfl ?_
                  refine v_iload_n F 0 dX8_added3_54 rfl rfl rfl ?_
                  refine v_iadd F dX8_added3_55 rfl ?_
                  refine v_goto (tgt := 62) F dX8_added3_56 rfl ?_
                  refine v_istore_n (ls' := [(1, .int (x + r27)), (3, .int r27), (2, .int 1), (0, .ref (ad 0))]) F dX8_added3_62 rfl rfl (by decide) rfl ?_
                  refine v_goto (tgt := 5) F dX8_added3_63 rfl ?_
                  refine v_aload_n F 3 dX8_added3_5 rfl rfl rfl ?_
                  refine v_bipush (x := 43) F dX8_added3_6 rfl (by decide) ?_
                  refine m_calli F G (cm_X8_isSign_b G t27 43 hb27) ok_X8_isSign q1497 is_X8_isSign rfl rfl dX8_added3_8 rfl rfl ?_
                  intro u0 hu0; subst u0
                  refine v_if_ne (tgt := 23) (q := 14) F dX8_added3_11 rfl rfl (fun c29 => ?_) (fun c29 => ?_)
                  · skip
                    exact absurd c29 (by decide)
                  · skip
                    refine v_aload_n F 3 dX8_added3_14 rfl rfl rfl ?_
                    refine v_bipush (x := 45) F dX8_added3_15 rfl (by decide) ?_
                    refine m_calli F G (cm_X8_isSign_b G t27 45 hb27) ok_X8_isSign q1497 is_X8_isSign rfl rfl dX8_added3_17 rfl rfl ?_
                    intro u0 hu0; subst u0
                    refine v_if_eq (tgt := 66) (q := 23) F dX8_added3_20 rfl rfl (fun c30 => ?_) (fun c30 => ?_)
                    · skip
                      refine v_iload_n F 0 dX8_added3_66 rfl rfl rfl ?_
                      exact v_retx F dX8_added3_67 rfl (⟨hE27, pRes.e (hL.trans (loG_er (decide_eq_true (Or.inr c18)) hp27)) hb27 hf27⟩)
                    · skip
                      exact absurd c30 (by decide)
              · skip
                rw [hp27] at hR27
                obtain ⟨hr27, hA27, hb27, ho27⟩ : r27 = f27 (rho t26) ∧ pAt b z t27 j27 ∧ t27 0 27 = 0 ∧ t27 0 26 = nI 3 := hR27
                rw [rho_eq hE26] at hr27
                have hg27 := (teG_good (PX_good 2).1) _ _ _ hi26 hp27
                have hi27 : j27 ≤ z := hg27.2
                refine v_istore_n (ls' := [(3, .int r27), (2, .int 1), (0, .ref (ad 0)), (1, .int x)]) F dX8_added3_48 rfl rfl (by decide) rfl ?_
                refine v_iload_n F 1 dX8_added3_49 rfl rfl rfl ?_
                refine v_if_eq (tgt := 59) (q := 53) F dX8_added3_50 rfl rfl (fun c31 => ?_) (fun c31 => ?_)
                · skip
                  exact absurd c31 (by decide)
                · skip
                  refine v_iload_n F 3 dX8_added3_53 rfl rfl rfl ?_
                  refine v_iload_n F 0 dX8_added3_54 rfl rfl rfl ?_
                  refine v_iadd F dX8_added3_55 rfl ?_
                  refine v_goto (tgt := 62) F dX8_added3_56 rfl ?_
                  refine v_istore_n (ls' := [(1, .int (x + r27)), (3, .int r27), (2, .int 1), (0, .ref (ad 0))]) F dX8_added3_62 rfl rfl (by decide) rfl ?_
                  refine v_goto (tgt := 5) F dX8_added3_63 rfl ?_
                  refine v_sub (ls' := [(0, .ref (ad 0)), (1, .int (x + r27))]) F [3, 0] rfl ?_
                  exact ih5 t27 (fun ρ => if tW b z j = 43 then (f ρ) + (f27 ρ) else (f ρ) - (f27 ρ)) j27 (x + r27) hE27 hA27 hb27 ho27 hi27 (by show _ = (if tW b z j = 43 then _ else _); rw [if_pos (h25.symm.trans c19), hx, hr27]) (hL.trans (loG_go (decide_eq_true (Or.inr c18)) hp27)) (by have := hs9; omega)
    refine v_sub (ls' := [(0, .ref (ad 0)), (1, .int r1)]) F [1, 0] rfl ?_
    exact L5 (z + 1) t1 f1 j1 r1 hE1 hA1 hb1 ho1 hi1 hr1 (chG_go hp1) (by omega)
theorem ok_X8_not3 : vv_oc yX8_not3 4 0 (ws_ yX8_not3 cX8_not3 4 (some .int)) := vv_ok.oc (rt := (some .int)) ⟨q1476, q133, by decide +kernel, by decide +kernel⟩
theorem is_X8_not3 : Cond.instanceMethod yX8_not3 ∈ lw_all ∧ Cond.selects RX8 yX8_not3 yX8_not3 ∈ lw_all := ⟨q1475, qs65⟩
set_option maxHeartbeats 4000000 in
theorem cm_X8_not3 {l : Launch} {Kf : State → Prop} {D : va_G} {ad : Nat → Nat} {cI cZ : ClassId} {A : Nat → Prop} (G : mG A Kf D cI cZ) {b : Nat → Int32} {z t i : Nat} (σ : mS)  (hT : pTx b z t σ) (hA : pAt b z σ i) (hi : i ≤ z) (hb : σ 0 27 = 0) (ho : σ 0 26 = nI 3) : vv_Ct l yX8_not3 (ws_ yX8_not3 cX8_not3 4 (some .int)) (rm 19 420) Kf (mWd D ad cI cZ A) A [.ref (ad 0)] σ (vv_x (fun r u => pEq σ u ∧ pRes b z 3 σ u r ((PX b z 2).2 i))) := by
  refine vv_of (by decide +kernel) (Nat.le_of_ble_eq_true rfl) ?_
  intro v (F : vv_F v l cX8_not3 4 RX8 "not3" (some .int) [] (rm 19 420) Kf (mWd D ad cI cZ A) A _)
  show v σ 0 0 0 [(0, .ref (ad 0))] []
  refine v_aload_n F 0 dX8_not3_0 rfl rfl rfl ?_
  refine v_bipush (x := 110) F dX8_not3_1 rfl (by decide) ?_
  refine v_bipush (x := 111) F dX8_not3_3 rfl (by decide) ?_
  refine v_bipush (x := 116) F dX8_not3_5 rfl (by decide) ?_
  refine v_iconst (x := 0) F dX8_not3_7 rfl (by decide) ?_
  refine v_iconst (x := 0) F dX8_not3_8 rfl (by decide) ?_
  refine v_iconst (x := 0) F dX8_not3_9 rfl (by decide) ?_
  refine v_iconst (x := 0) F dX8_not3_10 rfl (by decide) ?_
  refine v_iconst (x := 0) F dX8_not3_11 rfl (by decide) ?_
  refine m_calli F G (cm_X8_isWord G σ 110 111 116 0 0 0 0 0 hT hA hi hb) ok_X8_isWord q1433 is_X8_isWord rfl rfl dX8_not3_12 rfl rfl ?_
  intro u0 hu0; subst u0
  refine v_if_eqB (p := (wd b z i 110 111 116 0 0 0 0 0)) (tgt := 52) (q := 18) F dX8_not3_15 rfl rfl (fun c1 => ?_) (fun c1 => ?_)
  · skip
    refine v_aload_n F 0 dX8_not3_52 rfl rfl rfl ?_
    refine m_callx F G (cm_X8_added3 G σ hT hA hi hb ho) ok_X8_added3 q1527 is_X8_added3 rfl rfl dX8_not3_53 rfl rfl ?_
    rintro r2 t2 ⟨hN2, hR2⟩
    have hE2 : pEq σ t2 := pEq.trans pEq.rf hN2
    rcases hp2 : (adG b z (PX b z 2).1) i with e2 | ⟨f2, j2⟩
    · skip
      rw [hp2] at hR2
      obtain ⟨hb2, hf2⟩ : t2 0 27 = 1 ∧ t2 0 28 = nI e2 := hR2
      refine v_istore_n (ls' := [(1, .int r2), (0, .ref (ad 0))]) F dX8_not3_56 rfl rfl (by decide) rfl ?_
      refine v_aload_n F 1 dX8_not3_57 rfl rfl rfl ?_
      refine v_bipush (x := 60) F dX8_not3_58 rfl (by decide) ?_
      refine m_calli F G (cm_X8_isSign_b G t2 60 hb2) ok_X8_isSign q1497 is_X8_isSign rfl rfl dX8_not3_60 rfl rfl ?_
      intro u0 hu0; subst u0
      refine v_if_ne (tgt := 77) (q := 66) F dX8_not3_63 rfl rfl (fun c3 => ?_) (fun c3 => ?_)
      · skip
        exact absurd c3 (by decide)
      · skip
        refine v_aload_n F 1 dX8_not3_66 rfl rfl rfl ?_
        refine v_bipush (x := 61) F dX8_not3_67 rfl (by decide) ?_
        refine m_calli F G (cm_X8_isSign_b G t2 61 hb2) ok_X8_isSign q1497 is_X8_isSign rfl rfl dX8_not3_69 rfl rfl ?_
        intro u0 hu0; subst u0
        refine v_if_ne (tgt := 77) (q := 75) F dX8_not3_72 rfl rfl (fun c4 => ?_) (fun c4 => ?_)
        · skip
          exact absurd c4 (by decide)
        · skip
          refine v_iload_n F 0 dX8_not3_75 rfl rfl rfl ?_
          exact v_retx F dX8_not3_76 rfl (⟨hE2, pRes.e ((PXn 1).trans (noG_e1 c1 hp2)) hb2 hf2⟩)
    · skip
      rw [hp2] at hR2
      obtain ⟨hr2, hA2, hb2, ho2⟩ : r2 = f2 (rho σ) ∧ pAt b z t2 j2 ∧ t2 0 27 = 0 ∧ t2 0 26 = nI 3 := hR2
      rw [rho_eq pEq.rf] at hr2
      have hg2 := (adG_good (PX_good 2).1) _ _ _ hi hp2
      have hi2 : j2 ≤ z := hg2.2
      refine v_istore_n (ls' := [(1, .int r2), (0, .ref (ad 0))]) F dX8_not3_56 rfl rfl (by decide) rfl ?_
      refine v_aload_n F 1 dX8_not3_57 rfl rfl rfl ?_
      refine v_bipush (x := 60) F dX8_not3_58 rfl (by decide) ?_
      refine m_calli F G (cm_X8_isSign G t2 60 hA2 hb2) ok_X8_isSign q1497 is_X8_isSign rfl rfl dX8_not3_60 rfl rfl ?_
      intro u0 hu0; subst u0
      refine v_if_neB (p := (sg b z j2 60)) (tgt := 77) (q := 66) F dX8_not3_63 rfl rfl (fun c5 => ?_) (fun c5 => ?_)
      · skip
        have hw6 : t2 0 25 = tW b z j2 := hA2.2.2.2 (Or.inr c5.1)
        refine v_aload_n F 1 dX8_not3_77 rfl rfl rfl ?_
        refine m_get F G 25 (w := .long (Int32.toInt64 (t2 0 25))) (by decide) q1278 rfl dX8_not3_78 rfl ?_
        refine v_ldc2 F q1506 dX8_not3_81 rfl ?_
        refine v_lng (y := (60 : Int32).toInt64) F (by decide) ?_
        refine v_lcmp F dX8_not3_84 rfl ?_
        refine v_if_neLI (tgt := 92) (q := 88) F dX8_not3_85 rfl rfl (fun c7 => ?_) (fun c7 => ?_)
        · skip
          refine v_iconst (x := 0) F dX8_not3_92 rfl (by decide) ?_
          refine v_istore_n (ls' := [(2, .int 0), (1, .int r2), (0, .ref (ad 0))]) F dX8_not3_93 rfl rfl (by decide) rfl ?_
          refine v_aload_n F 2 dX8_not3_94 rfl rfl rfl ?_
          refine m_calln F G (cm_X8_next (i := tN b z j2) G t2 (pTx.eq hT hE2) hA2.2.2.1 (tN_le hi2).2) ok_X8_next q1421 is_X8_next rfl rfl dX8_not3_95 rfl rfl ?_
          rintro t8 ⟨hN8, hA8⟩
          have hE8 : pEq σ t8 := pEq.trans hE2 hN8.p
          have hb8 : t8 0 27 = 0 := (hN8 0 27 (by omega)).trans hb2
          have ho8 : t8 0 26 = nI 3 := (hN8 0 26 (by omega)).trans ho2
          have hi8 : tN b z j2 ≤ z := (tN_le hi2).2
          refine v_aload_n F 2 dX8_not3_98 rfl rfl rfl ?_
          refine m_callx F G (cm_X8_added3 G t8 (pTx.eq hT hE8) hA8 hi8 hb8 ho8) ok_X8_added3 q1527 is_X8_added3 rfl rfl dX8_not3_99 rfl rfl ?_
          rintro r9 t9 ⟨hN9, hR9⟩
          have hE9 : pEq σ t9 := pEq.trans hE8 hN9
          rcases hp9 : (adG b z (PX b z 2).1) (tN b z j2) with e9 | ⟨f9, j9⟩
          · skip
            rw [hp9] at hR9
            obtain ⟨hb9, hf9⟩ : t9 0 27 = 1 ∧ t9 0 28 = nI e9 := hR9
            refine v_istore_n (ls' := [(3, .int r9), (2, .int 0), (1, .int r2), (0, .ref (ad 0))]) F dX8_not3_102 rfl rfl (by decide) rfl ?_
            refine v_iload_n F 1 dX8_not3_103 rfl rfl rfl ?_
            refine v_if_eq (tgt := 115) (q := 107) F dX8_not3_104 rfl rfl (fun c10 => ?_) (fun c10 => ?_)
            · skip
              refine v_iload_n F 2 dX8_not3_115 rfl rfl rfl ?_
              refine v_iload_n F 0 dX8_not3_116 rfl rfl rfl ?_
              refine v_icmp_ne (tgt := 124) (q := 120) F dX8_not3_117 rfl rfl (fun c11 => ?_) (fun c11 => ?_)
              · skip
                refine v_iconst (x := 0) F dX8_not3_124 rfl (by decide) ?_
                exact v_retx F dX8_not3_125 rfl (⟨hE9, pRes.e ((PXn 1).trans (noG_e2 c1 hp2 (Or.inl c5) hp9)) hb9 hf9⟩)
              · skip
                refine v_iconst (x := 1) F dX8_not3_120 rfl (by decide) ?_
                refine v_goto (tgt := 125) F dX8_not3_121 rfl ?_
                exact v_retx F dX8_not3_125 rfl (⟨hE9, pRes.e ((PXn 1).trans (noG_e2 c1 hp2 (Or.inl c5) hp9)) hb9 hf9⟩)
            · skip
              exact absurd c10 (by decide)
          · skip
            rw [hp9] at hR9
            obtain ⟨hr9, hA9, hb9, ho9⟩ : r9 = f9 (rho t8) ∧ pAt b z t9 j9 ∧ t9 0 27 = 0 ∧ t9 0 26 = nI 3 := hR9
            rw [rho_eq hE8] at hr9
            have hg9 := (adG_good (PX_good 2).1) _ _ _ hi8 hp9
            have hi9 : j9 ≤ z := hg9.2
            refine v_istore_n (ls' := [(3, .int r9), (2, .int 0), (1, .int r2), (0, .ref (ad 0))]) F dX8_not3_102 rfl rfl (by decide) rfl ?_
            refine v_iload_n F 1 dX8_not3_103 rfl rfl rfl ?_
            refine v_if_eq (tgt := 115) (q := 107) F dX8_not3_104 rfl rfl (fun c12 => ?_) (fun c12 => ?_)
            · skip
              refine v_iload_n F 2 dX8_not3_115 rfl rfl rfl ?_
              refine v_iload_n F 0 dX8_not3_116 rfl rfl rfl ?_
              refine v_icmp_ne (tgt := 124) (q := 120) F dX8_not3_117 rfl rfl (fun c13 => ?_) (fun c13 => ?_)
              · skip
                refine v_iconst (x := 0) F dX8_not3_124 rfl (by decide) ?_
                exact v_retx F dX8_not3_125 rfl (⟨hE9, pRes.o ((PXn 1).trans (noG_cm c1 hp2 (Or.inl c5) hp9)) (by show _ = (if (if _ then _ else _) then _ else _); rw [← hr2, ← hr9]; simp only [if_neg (fun h => c7 (hw6.trans h))]; exact (if_neg (c13)).symm) hA9 hb9 ho9⟩)
              · skip
                refine v_iconst (x := 1) F dX8_not3_120 rfl (by decide) ?_
                refine v_goto (tgt := 125) F dX8_not3_121 rfl ?_
                exact v_retx F dX8_not3_125 rfl (⟨hE9, pRes.o ((PXn 1).trans (noG_cm c1 hp2 (Or.inl c5) hp9)) (by show _ = (if (if _ then _ else _) then _ else _); rw [← hr2, ← hr9]; simp only [if_neg (fun h => c7 (hw6.trans h))]; exact (if_pos (c13)).symm) hA9 hb9 ho9⟩)
            · skip
              exact absurd c12 (by decide)
        · skip
          refine v_iconst (x := 1) F dX8_not3_88 rfl (by decide) ?_
          refine v_goto (tgt := 93) F dX8_not3_89 rfl ?_
          refine v_istore_n (ls' := [(2, .int 1), (1, .int r2), (0, .ref (ad 0))]) F dX8_not3_93 rfl rfl (by decide) rfl ?_
          refine v_aload_n F 2 dX8_not3_94 rfl rfl rfl ?_
          refine m_calln F G (cm_X8_next (i := tN b z j2) G t2 (pTx.eq hT hE2) hA2.2.2.1 (tN_le hi2).2) ok_X8_next q1421 is_X8_next rfl rfl dX8_not3_95 rfl rfl ?_
          rintro t14 ⟨hN14, hA14⟩
          have hE14 : pEq σ t14 := pEq.trans hE2 hN14.p
          have hb14 : t14 0 27 = 0 := (hN14 0 27 (by omega)).trans hb2
          have ho14 : t14 0 26 = nI 3 := (hN14 0 26 (by omega)).trans ho2
          have hi14 : tN b z j2 ≤ z := (tN_le hi2).2
          refine v_aload_n F 2 dX8_not3_98 rfl rfl rfl ?_
          refine m_callx F G (cm_X8_added3 G t14 (pTx.eq hT hE14) hA14 hi14 hb14 ho14) ok_X8_added3 q1527 is_X8_added3 rfl rfl dX8_not3_99 rfl rfl ?_
          rintro r15 t15 ⟨hN15, hR15⟩
          have hE15 : pEq σ t15 := pEq.trans hE14 hN15
          rcases hp15 : (adG b z (PX b z 2).1) (tN b z j2) with e15 | ⟨f15, j15⟩
          · skip
            rw [hp15] at hR15
            obtain ⟨hb15, hf15⟩ : t15 0 27 = 1 ∧ t15 0 28 = nI e15 := hR15
            refine v_istore_n (ls' := [(3, .int r15), (2, .int 1), (1, .int r2), (0, .ref (ad 0))]) F dX8_not3_102 rfl rfl (by decide) rfl ?_
            refine v_iload_n F 1 dX8_not3_103 rfl rfl rfl ?_
            refine v_if_eq (tgt := 115) (q := 107) F dX8_not3_104 rfl rfl (fun c16 => ?_) (fun c16 => ?_)
            · skip
              exact absurd c16 (by decide)
            · skip
              refine v_iload_n F 2 dX8_not3_107 rfl rfl rfl ?_
              refine v_iload_n F 0 dX8_not3_108 rfl rfl rfl ?_
              refine v_icmp_ge (tgt := 124) (q := 112) F dX8_not3_109 rfl rfl (fun c17 => ?_) (fun c17 => ?_)
              · skip
                refine v_iconst (x := 0) F dX8_not3_124 rfl (by decide) ?_
                exact v_retx F dX8_not3_125 rfl (⟨hE15, pRes.e ((PXn 1).trans (noG_e2 c1 hp2 (Or.inl c5) hp15)) hb15 hf15⟩)
              · skip
                refine v_goto (tgt := 120) F dX8_not3_112 rfl ?_
                refine v_iconst (x := 1) F dX8_not3_120 rfl (by decide) ?_
                refine v_goto (tgt := 125) F dX8_not3_121 rfl ?_
                exact v_retx F dX8_not3_125 rfl (⟨hE15, pRes.e ((PXn 1).trans (noG_e2 c1 hp2 (Or.inl c5) hp15)) hb15 hf15⟩)
          · skip
            rw [hp15] at hR15
            obtain ⟨hr15, hA15, hb15, ho15⟩ : r15 = f15 (rho t14) ∧ pAt b z t15 j15 ∧ t15 0 27 = 0 ∧ t15 0 26 = nI 3 := hR15
            rw [rho_eq hE14] at hr15
            have hg15 := (adG_good (PX_good 2).1) _ _ _ hi14 hp15
            have hi15 : j15 ≤ z := hg15.2
            refine v_istore_n (ls' := [(3, .int r15), (2, .int 1), (1, .int r2), (0, .ref (ad 0))]) F dX8_not3_102 rfl rfl (by decide) rfl ?_
            refine v_iload_n F 1 dX8_not3_103 rfl rfl rfl ?_
            refine v_if_eq (tgt := 115) (q := 107) F dX8_not3_104 rfl rfl (fun c18 => ?_) (fun c18 => ?_)
            · skip
              exact absurd c18 (by decide)
            · skip
              refine v_iload_n F 2 dX8_not3_107 rfl rfl rfl ?_
              refine v_iload_n F 0 dX8_not3_108 rfl rfl rfl ?_
              refine v_icmp_ge (tgt := 124) (q := 112) F dX8_not3_109 rfl rfl (fun c19 => ?_) (fun c19 => ?_)
              · skip
                refine v_iconst (x := 0) F dX8_not3_124 rfl (by decide) ?_
                exact v_retx F dX8_not3_125 rfl (⟨hE15, pRes.o ((PXn 1).trans (noG_cm c1 hp2 (Or.inl c5) hp15)) (by show _ = (if (if _ then _ else _) then _ else _); rw [← hr2, ← hr15]; simp only [if_pos (hw6.symm.trans c7)]; exact (if_neg (fun h => absurd c19 (Int32.not_le.mpr h))).symm) hA15 hb15 ho15⟩)
              · skip
                refine v_goto (tgt := 120) F dX8_not3_112 rfl ?_
                refine v_iconst (x := 1) F dX8_not3_120 rfl (by decide) ?_
                refine v_goto (tgt := 125) F dX8_not3_121 rfl ?_
                exact v_retx F dX8_not3_125 rfl (⟨hE15, pRes.o ((PXn 1).trans (noG_cm c1 hp2 (Or.inl c5) hp15)) (by show _ = (if (if _ then _ else _) then _ else _); rw [← hr2, ← hr15]; simp only [if_pos (hw6.symm.trans c7)]; exact (if_pos (Int32.not_le.mp c19)).symm) hA15 hb15 ho15⟩)
      · skip
        refine v_aload_n F 1 dX8_not3_66 rfl rfl rfl ?_
        refine v_bipush (x := 61) F dX8_not3_67 rfl (by decide) ?_
        refine m_calli F G (cm_X8_isSign G t2 61 hA2 hb2) ok_X8_isSign q1497 is_X8_isSign rfl rfl dX8_not3_69 rfl rfl ?_
        intro u0 hu0; subst u0
        refine v_if_neB (p := (sg b z j2 61)) (tgt := 77) (q := 75) F dX8_not3_72 rfl rfl (fun c20 => ?_) (fun c20 => ?_)
        · skip
          have hw21 : t2 0 25 = tW b z j2 := hA2.2.2.2 (Or.inr c20.1)
          refine v_aload_n F 1 dX8_not3_77 rfl rfl rfl ?_
          refine m_get F G 25 (w := .long (Int32.toInt64 (t2 0 25))) (by decide) q1278 rfl dX8_not3_78 rfl ?_
          refine v_ldc2 F q1506 dX8_not3_81 rfl ?_
          refine v_lng (y := (60 : Int32).toInt64) F (by decide) ?_
          refine v_lcmp F dX8_not3_84 rfl ?_
          refine v_if_neLI (tgt := 92) (q := 88) F dX8_not3_85 rfl rfl (fun c22 => ?_) (fun c22 => ?_)
          · skip
            refine v_iconst (x := 0) F dX8_not3_92 rfl (by decide) ?_
            refine v_istore_n (ls' := [(2, .int 0), (1, .int r2), (0, .ref (ad 0))]) F dX8_not3_93 rfl rfl (by decide) rfl ?_
            refine v_aload_n F 2 dX8_not3_94 rfl rfl rfl ?_
            refine m_calln F G (cm_X8_next (i := tN b z j2) G t2 (pTx.eq hT hE2) hA2.2.2.1 (tN_le hi2).2) ok_X8_next q1421 is_X8_next rfl rfl dX8_not3_95 rfl rfl ?_
            rintro t23 ⟨hN23, hA23⟩
            have hE23 : pEq σ t23 := pEq.trans hE2 hN23.p
            have hb23 : t23 0 27 = 0 := (hN23 0 27 (by omega)).trans hb2
            have ho23 : t23 0 26 = nI 3 := (hN23 0 26 (by omega)).trans ho2
            have hi23 : tN b z j2 ≤ z := (tN_le hi2).2
            refine v_aload_n F 2 dX8_not3_98 rfl rfl rfl ?_
            refine m_callx F G (cm_X8_added3 G t23 (pTx.eq hT hE23) hA23 hi23 hb23 ho23) ok_X8_added3 q1527 is_X8_added3 rfl rfl dX8_not3_99 rfl rfl ?_
            rintro r24 t24 ⟨hN24, hR24⟩
            have hE24 : pEq σ t24 := pEq.trans hE23 hN24
            rcases hp24 : (adG b z (PX b z 2).1) (tN b z j2) with e24 | ⟨f24, j24⟩
            · skip
              rw [hp24] at hR24
              obtain ⟨hb24, hf24⟩ : t24 0 27 = 1 ∧ t24 0 28 = nI e24 := hR24
              refine v_istore_n (ls' := [(3, .int r24), (2, .int 0), (1, .int r2), (0, .ref (ad 0))]) F dX8_not3_102 rfl rfl (by decide) rfl ?_
              refine v_iload_n F 1 dX8_not3_103 rfl rfl rfl ?_
              refine v_if_eq (tgt := 115) (q := 107) F dX8_not3_104 rfl rfl (fun c25 => ?_) (fun c25 => ?_)
              · skip
                refine v_iload_n F 2 dX8_not3_115 rfl rfl rfl ?_
                refine v_iload_n F 0 dX8_not3_116 rfl rfl rfl ?_
                refine v_icmp_ne (tgt := 124) (q := 120) F dX8_not3_117 rfl rfl (fun c26 => ?_) (fun c26 => ?_)
                · skip
                  refine v_iconst (x := 0) F dX8_not3_124 rfl (by decide) ?_
                  exact v_retx F dX8_not3_125 rfl (⟨hE24, pRes.e ((PXn 1).trans (noG_e2 c1 hp2 (Or.inr c20) hp24)) hb24 hf24⟩)
                · skip
                  refine v_iconst (x := 1) F dX8_not3_120 rfl (by decide) ?_
                  refine v_goto (tgt := 125) F dX8_not3_121 rfl ?_
                  exact v_retx F dX8_not3_125 rfl (⟨hE24, pRes.e ((PXn 1).trans (noG_e2 c1 hp2 (Or.inr c20) hp24)) hb24 hf24⟩)
              · skip
                exact absurd c25 (by decide)
            · skip
              rw [hp24] at hR24
              obtain ⟨hr24, hA24, hb24, ho24⟩ : r24 = f24 (rho t23) ∧ pAt b z t24 j24 ∧ t24 0 27 = 0 ∧ t24 0 26 = nI 3 := hR24
              rw [rho_eq hE23] at hr24
              have hg24 := (adG_good (PX_good 2).1) _ _ _ hi23 hp24
              have hi24 : j24 ≤ z := hg24.2
              refine v_istore_n (ls' := [(3, .int r24), (2, .int 0), (1, .int r2), (0, .ref (ad 0))]) F dX8_not3_102 rfl rfl (by decide) rfl ?_
              refine v_iload_n F 1 dX8_not3_103 rfl rfl rfl ?_
              refine v_if_eq (tgt := 115) (q := 107) F dX8_not3_104 rfl rfl (fun c27 => ?_) (fun c27 => ?_)
              · skip
                refine v_iload_n F 2 dX8_not3_115 rfl rfl rfl ?_
                refine v_iload_n F 0 dX8_not3_116 rfl rfl rfl ?_
                refine v_icmp_ne (tgt := 124) (q := 120) F dX8_not3_117 rfl rfl (fun c28 => ?_) (fun c28 => ?_)
                · skip
                  refine v_iconst (x := 0) F dX8_not3_124 rfl (by decide) ?_
                  exact v_retx F dX8_not3_125 rfl (⟨hE24, pRes.o ((PXn 1).trans (noG_cm c1 hp2 (Or.inr c20) hp24)) (by show _ = (if (if _ then _ else _) then _ else _); rw [← hr2, ← hr24]; simp only [if_neg (fun h => c22 (hw21.trans h))]; exact (if_neg (c28)).symm) hA24 hb24 ho24⟩)
                · skip
                  refine v_iconst (x := 1) F dX8_not3_120 rfl (by decide) ?_
                  refine v_goto (tgt := 125) F dX8_not3_121 rfl ?_
                  exact v_retx F dX8_not3_125 rfl (⟨hE24, pRes.o ((PXn 1).trans (noG_cm c1 hp2 (Or.inr c20) hp24)) (by show _ = (if (if _ then _ else _) then _ else _); rw [← hr2, ← hr24]; simp only [if_neg (fun h => c22 (hw21.trans h))]; exact (if_pos (c28)).symm) hA24 hb24 ho24⟩)
              · skip
                exact absurd c27 (by decide)
          · skip
            refine v_iconst (x := 1) F dX8_not3_88 rfl (by decide) ?_
            refine v_goto (tgt := 93) F dX8_not3_89 rfl ?_
            refine v_istore_n (ls' := [(2, .int 1), (1, .int r2), (0, .ref (ad 0))]) F dX8_not3_93 rfl rfl (by decide) rfl ?_
            refine v_aload_n F 2 dX8_not3_94 rfl rfl rfl ?_
            refine m_calln F G (cm_X8_next (i := tN b z j2) G t2 (pTx.eq hT hE2) hA2.2.2.1 (tN_le hi2).2) ok_X8_next q1421 is_X8_next rfl rfl dX8_not3_95 rfl rfl ?_
            rintro t29 ⟨hN29, hA29⟩
            have hE29 : pEq σ t29 := pEq.trans hE2 hN29.p
            have hb29 : t29 0 27 = 0 := (hN29 0 27 (by omega)).trans hb2
            have ho29 : t29 0 26 = nI 3 := (hN29 0 26 (by omega)).trans ho2
            have hi29 : tN b z j2 ≤ z := (tN_le hi2).2
            refine v_aload_n F 2 dX8_not3_98 rfl rfl rfl ?_
            refine m_callx F G (cm_X8_added3 G t29 (pTx.eq hT hE29) hA29 hi29 hb29 ho29) ok_X8_added3 q1527 is_X8_added3 rfl rfl dX8_not3_99 rfl rfl ?_
            rintro r30 t30 ⟨hN30, hR30⟩
            have hE30 : pEq σ t30 := pEq.trans hE29 hN30
            rcases hp30 : (adG b z (PX b z 2).1) (tN b z j2) with e30 | ⟨f30, j30⟩
            · skip
              rw [hp30] at hR30
              obtain ⟨hb30, hf30⟩ : t30 0 27 = 1 ∧ t30 0 28 = nI e30 := hR30
              refine v_istore_n (ls' := [(3, .int r30), (2, .int 1), (1, .int r2), (0, .ref (ad 0))]) F dX8_not3_102 rfl rfl (by decide) rfl ?_
              refine v_iload_n F 1 dX8_not3_103 rfl rfl rfl ?_
              refine v_if_eq (tgt := 115) (q := 107) F dX8_not3_104 rfl rfl (fun c31 => ?_) (fun c31 => ?_)
              · skip
                exact absurd c31 (by decide)
              · skip
                refine v_iload_n F 2 dX8_not3_107 rfl rfl rfl ?_
                refine v_iload_n F 0 dX8_not3_108 rfl rfl rfl ?_
                refine v_icmp_ge (tgt := 124) (q := 112) F dX8_not3_109 rfl rfl (fun c32 => ?_) (fun c32 => ?_)
                · skip
                  refine v_iconst (x := 0) F dX8_not3_124 rfl (by decide) ?_
                  exact v_retx F dX8_not3_125 rfl (⟨hE30, pRes.e ((PXn 1).trans (noG_e2 c1 hp2 (Or.inr c20) hp30)) hb30 hf30⟩)
                · skip
                  refine v_goto (tgt := 120) F dX8_not3_112 rfl ?_
                  refine v_iconst (x := 1) F dX8_not3_120 rfl (by decide) ?_
                  refine v_goto (tgt := 125) F dX8_not3_121 rfl ?_
                  exact v_retx F dX8_not3_125 rfl (⟨hE30, pRes.e ((PXn 1).trans (noG_e2 c1 hp2 (Or.inr c20) hp30)) hb30 hf30⟩)
            · skip
              rw [hp30] at hR30
              obtain ⟨hr30, hA30, hb30, ho30⟩ : r30 = f30 (rho t29) ∧ pAt b z t30 j30 ∧ t30 0 27 = 0 ∧ t30 0 26 = nI 3 := hR30
              rw [rho_eq hE29] at hr30
              have hg30 := (adG_good (PX_good 2).1) _ _ _ hi29 hp30
              have hi30 : j30 ≤ z := hg30.2
              refine v_istore_n (ls' := [(3, .int r30), (2, .int 1), (1, .int r2), (0, .ref (ad 0))]) F dX8_not3_102 rfl rfl (by decide) rfl ?_
              refine v_iload_n F 1 dX8_not3_103 rfl rfl rfl ?_
              refine v_if_eq (tgt := 115) (q := 107) F dX8_not3_104 rfl rfl (fun c33 => ?_) (fun c33 => ?_)
              · skip
                exact absurd c33 (by decide)
              · skip
                refine v_iload_n F 2 dX8_not3_107 rfl rfl rfl ?_
                refine v_iload_n F 0 dX8_not3_108 rfl rfl rfl ?_
                refine v_icmp_ge (tgt := 124) (q := 112) F dX8_not3_109 rfl rfl (fun c34 => ?_) (fun c34 => ?_)
                · skip
                  refine v_iconst (x := 0) F dX8_not3_124 rfl (by decide) ?_
                  exact v_retx F dX8_not3_125 rfl (⟨hE30, pRes.o ((PXn 1).trans (noG_cm c1 hp2 (Or.inr c20) hp30)) (by show _ = (if (if _ then _ else _) then _ else _); rw [← hr2, ← hr30]; simp only [if_pos (hw21.symm.trans c22)]; exact (if_neg (fun h => absurd c34 (Int32.not_le.mpr h))).symm) hA30 hb30 ho30⟩)
                · skip
                  refine v_goto (tgt := 120) F dX8_not3_112 rfl ?_
                  refine v_iconst (x := 1) F dX8_not3_120 rfl (by decide) ?_
                  refine v_goto (tgt := 125) F dX8_not3_121 rfl ?_
                  exact v_retx F dX8_not3_125 rfl (⟨hE30, pRes.o ((PXn 1).trans (noG_cm c1 hp2 (Or.inr c20) hp30)) (by show _ = (if (if _ then _ else _) then _ else _); rw [← hr2, ← hr30]; simp only [if_pos (hw21.symm.trans c22)]; exact (if_pos (Int32.not_le.mp c34)).symm) hA30 hb30 ho30⟩)
        · skip
          refine v_iload_n F 0 dX8_not3_75 rfl rfl rfl ?_
          exact v_retx F dX8_not3_76 rfl (⟨hE2, pRes.o ((PXn 1).trans (noG_pl c1 hp2 (fun h => h.elim c5 c20))) (hr2) hA2 hb2 ho2⟩)
  · skip
    refine v_aload_n F 0 dX8_not3_18 rfl rfl rfl ?_
    refine m_calli F G (cm_X8_opens (d := 3) G σ hT hA hi hb ho (by decide)) ok_X8_opens q1461 is_X8_opens rfl rfl dX8_not3_19 rfl rfl ?_
    rintro t35 ⟨hN35, hA35, hb35, ho35⟩
    have hE35 : pEq σ t35 := pEq.trans pEq.rf hN35
    have hi35 : tN b z i ≤ z := (tN_le hi).2
    refine v_if_ne (tgt := 27) (q := 25) F dX8_not3_22 rfl rfl (fun c36 => ?_) (fun c36 => ?_)
    · skip
      refine v_aload_n F 0 dX8_not3_27 rfl rfl rfl ?_
      refine m_callx F G (cm_X8_not4 G t35 (pTx.eq hT hE35) hA35 hi35 hb35 ho35) ok_X8_not4 q1477 is_X8_not4 rfl rfl dX8_not3_28 rfl rfl ?_
      rintro r37 t37 ⟨hN37, hR37⟩
      have hE37 : pEq σ t37 := pEq.trans hE35 hN37
      rcases hp37 : (PX b z 1).2 (tN b z i) with e37 | ⟨f37, j37⟩
      · skip
        rw [hp37] at hR37
        obtain ⟨hb37, hf37⟩ : t37 0 27 = 1 ∧ t37 0 28 = nI e37 := hR37
        refine v_istore_n (ls' := [(1, .int r37), (0, .ref (ad 0))]) F dX8_not3_31 rfl rfl (by decide) rfl ?_
        refine v_aload_n F 1 dX8_not3_32 rfl rfl rfl ?_
        refine v_dup F dX8_not3_33 rfl rfl ?_
        refine m_get F G 26 (w := .int (t37 0 26)) (by decide) q1279 rfl dX8_not3_34 rfl ?_
        refine v_iconst (x := 1) F dX8_not3_37 rfl (by decide) ?_
        refine v_isub F dX8_not3_38 rfl ?_
        refine m_put26 F G q1279 dX8_not3_39 rfl ?_
        refine v_iload_n F 0 dX8_not3_42 rfl rfl rfl ?_
        refine v_if_ne (tgt := 50) (q := 46) F dX8_not3_43 rfl rfl (fun c38 => ?_) (fun c38 => ?_)
        · skip
          refine v_iconst (x := 0) F dX8_not3_50 rfl (by decide) ?_
          exact v_retx F dX8_not3_51 rfl (⟨(pEq.u hE37 (j := 26) (by decide) ((t37 0 26) - 1)), pRes.e ((PXn 1).trans (noG_ne c1 hp37)) hb37 hf37⟩)
        · skip
          refine v_iconst (x := 1) F dX8_not3_46 rfl (by decide) ?_
          refine v_goto (tgt := 51) F dX8_not3_47 rfl ?_
          exact v_retx F dX8_not3_51 rfl (⟨(pEq.u hE37 (j := 26) (by decide) ((t37 0 26) - 1)), pRes.e ((PXn 1).trans (noG_ne c1 hp37)) hb37 hf37⟩)
      · skip
        rw [hp37] at hR37
        obtain ⟨hr37, hA37, hb37, ho37⟩ : r37 = f37 (rho t35) ∧ pAt b z t37 j37 ∧ t37 0 27 = 0 ∧ t37 0 26 = nI 4 := hR37
        rw [rho_eq hE35] at hr37
        have hg37 := (PX_good 1).2 _ _ _ hi35 hp37
        have hi37 : j37 ≤ z := hg37.2
        refine v_istore_n (ls' := [(1, .int r37), (0, .ref (ad 0))]) F dX8_not3_31 rfl rfl (by decide) rfl ?_
        refine v_aload_n F 1 dX8_not3_32 rfl rfl rfl ?_
        refine v_dup F dX8_not3_33 rfl rfl ?_
        refine m_get F G 26 (w := .int (t37 0 26)) (by decide) q1279 rfl dX8_not3_34 rfl ?_
        refine v_int F (ho37) ?_
        refine v_iconst (x := 1) F dX8_not3_37 rfl (by decide) ?_
        refine v_isub F dX8_not3_38 rfl ?_
        refine v_int F (y := 3) (by decide) ?_
        refine m_put26 F G q1279 dX8_not3_39 rfl ?_
        refine v_iload_n F 0 dX8_not3_42 rfl rfl rfl ?_
        refine v_if_ne (tgt := 50) (q := 46) F dX8_not3_43 rfl rfl (fun c39 => ?_) (fun c39 => ?_)
        · skip
          refine v_iconst (x := 0) F dX8_not3_50 rfl (by decide) ?_
          exact v_retx F dX8_not3_51 rfl (⟨(pEq.u hE37 (j := 26) (by decide) 3), pRes.o ((PXn 1).trans (noG_no c1 hp37)) (by show _ = (if _ then _ else _); rw [← hr37, if_neg c39]) (pAt.u hA37 (j := 26) (x := 3) (by decide)) hb37 rfl⟩)
        · skip
          refine v_iconst (x := 1) F dX8_not3_46 rfl (by decide) ?_
          refine v_goto (tgt := 51) F dX8_not3_47 rfl ?_
          exact v_retx F dX8_not3_51 rfl (⟨(pEq.u hE37 (j := 26) (by decide) 3), pRes.o ((PXn 1).trans (noG_no c1 hp37)) (by show _ = (if _ then _ else _); rw [← hr37, if_pos c39]) (pAt.u hA37 (j := 26) (x := 3) (by decide)) hb37 rfl⟩)
    · skip
      exact absurd c36 (by decide)
theorem ok_X8_both3 : vv_oc yX8_both3 3 0 (ws_ yX8_both3 cX8_both3 3 (some .int)) := vv_ok.oc (rt := (some .int)) ⟨q1566, q133, by decide +kernel, by decide +kernel⟩
theorem is_X8_both3 : Cond.instanceMethod yX8_both3 ∈ lw_all ∧ Cond.selects RX8 yX8_both3 yX8_both3 ∈ lw_all := ⟨q1565, qs87⟩
set_option maxHeartbeats 4000000 in
theorem cm_X8_both3 {l : Launch} {Kf : State → Prop} {D : va_G} {ad : Nat → Nat} {cI cZ : ClassId} {A : Nat → Prop} (G : mG A Kf D cI cZ) {b : Nat → Int32} {z t i : Nat} (σ : mS)  (hT : pTx b z t σ) (hA : pAt b z σ i) (hi : i ≤ z) (hb : σ 0 27 = 0) (ho : σ 0 26 = nI 3) : vv_Ct l yX8_both3 (ws_ yX8_both3 cX8_both3 3 (some .int)) (rm 20 443) Kf (mWd D ad cI cZ A) A [.ref (ad 0)] σ (vv_x (fun r u => pEq σ u ∧ pRes b z 3 σ u r ((boG b z (PX b z 2).2) i))) := by
  refine vv_of (by decide +kernel) (Nat.le_of_ble_eq_true rfl) ?_
  intro v (F : vv_F v l cX8_both3 3 RX8 "both3" (some .int) [] (rm 20 443) Kf (mWd D ad cI cZ A) A _)
  show v σ 0 0 0 [(0, .ref (ad 0))] []
  refine v_aload_n F 0 dX8_both3_0 rfl rfl rfl ?_
  refine m_callx F G (cm_X8_not3 G σ hT hA hi hb ho) ok_X8_not3 q1473 is_X8_not3 rfl rfl dX8_both3_1 rfl rfl ?_
  rintro r1 t1 ⟨hN1, hR1⟩
  have hE1 : pEq σ t1 := pEq.trans pEq.rf hN1
  rcases hp1 : (PX b z 2).2 i with e1 | ⟨f1, j1⟩
  · skip
    rw [hp1] at hR1
    obtain ⟨hb1, hf1⟩ : t1 0 27 = 1 ∧ t1 0 28 = nI e1 := hR1
    refine v_istore_n (ls' := [(1, .int r1), (0, .ref (ad 0))]) F dX8_both3_4 rfl rfl (by decide) rfl ?_
    refine v_aload_n F 1 dX8_both3_5 rfl rfl rfl ?_
    refine v_bipush (x := 97) F dX8_both3_6 rfl (by decide) ?_
    refine v_bipush (x := 110) F dX8_both3_8 rfl (by decide) ?_
    refine v_bipush (x := 100) F dX8_both3_10 rfl (by decide) ?_
    refine v_iconst (x := 0) F dX8_both3_12 rfl (by decide) ?_
    refine v_iconst (x := 0) F dX8_both3_13 rfl (by decide) ?_
    refine v_iconst (x := 0) F dX8_both3_14 rfl (by decide) ?_
    refine v_iconst (x := 0) F dX8_both3_15 rfl (by decide) ?_
    refine v_iconst (x := 0) F dX8_both3_16 rfl (by decide) ?_
    refine m_calli F G (cm_X8_isWord_b G t1 97 110 100 0 0 0 0 0 hb1) ok_X8_isWord q1433 is_X8_isWord rfl rfl dX8_both3_17 rfl rfl ?_
    intro u0 hu0; subst u0
    refine v_if_eq (tgt := 49) (q := 23) F dX8_both3_20 rfl rfl (fun c2 => ?_) (fun c2 => ?_)
    · skip
      refine v_iload_n F 0 dX8_both3_49 rfl rfl rfl ?_
      exact v_retx F dX8_both3_50 rfl (⟨hE1, pRes.e (chG_er hp1) hb1 hf1⟩)
    · skip
      exact absurd c2 (by decide)
  · skip
    rw [hp1] at hR1
    obtain ⟨hr1, hA1, hb1, ho1⟩ : r1 = f1 (rho σ) ∧ pAt b z t1 j1 ∧ t1 0 27 = 0 ∧ t1 0 26 = nI 3 := hR1
    rw [rho_eq pEq.rf] at hr1
    have hg1 := (PX_good 2).2 _ _ _ hi hp1
    have hi1 : j1 ≤ z := hg1.2
    refine v_istore_n (ls' := [(1, .int r1), (0, .ref (ad 0))]) F dX8_both3_4 rfl rfl (by decide) rfl ?_
    have L5 : ∀ (n : Nat) (s : mS) (f : (Nat → Int32) → Int32) (j : Nat) (x : Int32) (hEs : pEq σ s) (hAs : pAt b z s j) (hbs : s 0 27 = 0) (hos : s 0 26 = nI 3) (hj : j ≤ z) (hx : x = f (rho σ)) (hL : (boG b z (PX b z 2).2) i = loG b z (fun i => decide (kAnd b z i)) (PX b z 2).2 (fun _ x y => if x ≠ 0 ∧ y ≠ 0 then 1 else 0) n f j) (hn : z - j < n), v s 0 0 5 [(0, .ref (ad 0)), (1, .int x)] [] := by
      intro n
      induction n with
      | zero => intro s f j x hEs hAs hbs hos hj hx hL hn; exact absurd hn (Nat.not_lt_zero _)
      | succ n ih5 =>
        intro s f j x hEs hAs hbs hos hj hx hL hn
        refine v_aload_n F 0 dX8_both3_5 rfl rfl rfl ?_
        refine v_bipush (x := 97) F dX8_both3_6 rfl (by decide) ?_
        refine v_bipush (x := 110) F dX8_both3_8 rfl (by decide) ?_
        refine v_bipush (x := 100) F dX8_both3_10 rfl (by decide) ?_
        refine v_iconst (x := 0) F dX8_both3_12 rfl (by decide) ?_
        refine v_iconst (x := 0) F dX8_both3_13 rfl (by decide) ?_
        refine v_iconst (x := 0) F dX8_both3_14 rfl (by decide) ?_
        refine v_iconst (x := 0) F dX8_both3_15 rfl (by decide) ?_
        refine v_iconst (x := 0) F dX8_both3_16 rfl (by decide) ?_
        refine m_calli F G (cm_X8_isWord G s 97 110 100 0 0 0 0 0 (pTx.eq hT hEs) hAs hj hbs) ok_X8_isWord q1433 is_X8_isWord rfl rfl dX8_both3_17 rfl rfl ?_
        intro u0 hu0; subst u0
        refine v_if_eqB (p := (wd b z j 97 110 100 0 0 0 0 0)) (tgt := 49) (q := 23) F dX8_both3_20 rfl rfl (fun c3 => ?_) (fun c3 => ?_)
        · skip
          refine v_iload_n F 1 dX8_both3_49 rfl rfl rfl ?_
          exact v_retx F dX8_both3_50 rfl (⟨hEs, pRes.o (hL.trans (loG_ou (fun h => c3 (of_decide_eq_true h)))) (hx) hAs hbs hos⟩)
        · skip
          have hs9 := (tk1_lt hj c3.1).1
          refine v_aload_n F 0 dX8_both3_23 rfl rfl rfl ?_
          refine m_calln F G (cm_X8_next (i := tN b z j) G s (pTx.eq hT hEs) hAs.2.2.1 (tN_le hj).2) ok_X8_next q1421 is_X8_next rfl rfl dX8_both3_24 rfl rfl ?_
          rintro t4 ⟨hN4, hA4⟩
          have hE4 : pEq σ t4 := pEq.trans hEs hN4.p
          have hb4 : t4 0 27 = 0 := (hN4 0 27 (by omega)).trans hbs
          have ho4 : t4 0 26 = nI 3 := (hN4 0 26 (by omega)).trans hos
          have hi4 : tN b z j ≤ z := (tN_le hj).2
          refine v_aload_n F 0 dX8_both3_27 rfl rfl rfl ?_
          refine m_callx F G (cm_X8_not3 G t4 (pTx.eq hT hE4) hA4 hi4 hb4 ho4) ok_X8_not3 q1473 is_X8_not3 rfl rfl dX8_both3_28 rfl rfl ?_
          rintro r5 t5 ⟨hN5, hR5⟩
          have hE5 : pEq σ t5 := pEq.trans hE4 hN5
          rcases hp5 : (PX b z 2).2 (tN b z j) with e5 | ⟨f5, j5⟩
          · skip
            rw [hp5] at hR5
            obtain ⟨hb5, hf5⟩ : t5 0 27 = 1 ∧ t5 0 28 = nI e5 := hR5
            refine v_istore_n (ls' := [(2, .int r5), (0, .ref (ad 0)), (1, .int x)]) F dX8_both3_31 rfl rfl (by decide) rfl ?_
            refine v_iload_n F 2 dX8_both3_32 rfl rfl rfl ?_
            refine v_if_eq (tgt := 44) (q := 36) F dX8_both3_33 rfl rfl (fun c6 => ?_) (fun c6 => ?_)
            · skip
              refine v_iconst (x := 0) F dX8_both3_44 rfl (by decide) ?_
              refine v_istore_n (ls' := [(1, .int 0), (2, .int r5), (0, .ref (ad 0))]) F dX8_both3_45 rfl rfl (by decide) rfl ?_
              refine v_goto (tgt := 5) F dX8_both3_46 rfl ?_
              refine v_aload_n F 2 dX8_both3_5 rfl rfl rfl ?_
              refine v_bipush (x := 97) F dX8_both3_6 rfl (by decide) ?_
              refine v_bipush (x := 110) F dX8_both3_8 rfl (by decide) ?_
              refine v_bipush (x := 100) F dX8_both3_10 rfl (by decide) ?_
              refine v_iconst (x := 0) F dX8_both3_12 rfl (by decide) ?_
              refine v_iconst (x := 0) F dX8_both3_13 rfl (by decide) ?_
              refine v_iconst (x := 0) F dX8_both3_14 rfl (by decide) ?_
              refine v_iconst (x := 0) F dX8_both3_15 rfl (by decide) ?_
              refine v_iconst (x := 0) F dX8_both3_16 rfl (by decide) ?_
              refine m_calli F G (cm_X8_isWord_b G t5 97 110 100 0 0 0 0 0 hb5) ok_X8_isWord q1433 is_X8_isWord rfl rfl dX8_both3_17 rfl rfl ?_
              intro u0 hu0; subst u0
              refine v_if_eq (tgt := 49) (q := 23) F dX8_both3_20 rfl rfl (fun c7 => ?_) (fun c7 => ?_)
              · skip
                refine v_iload_n F 0 dX8_both3_49 rfl rfl rfl ?_
                exact v_retx F dX8_both3_50 rfl (⟨hE5, pRes.e (hL.trans (loG_er (decide_eq_true c3) hp5)) hb5 hf5⟩)
              · skip
                exact absurd c7 (by decide)
            · skip
              refine v_iload_n F 0 dX8_both3_36 rfl rfl rfl ?_
              refine v_if_eq (tgt := 44) (q := 40) F dX8_both3_37 rfl rfl (fun c8 => ?_) (fun c8 => ?_)
              · skip
                refine v_iconst (x := 0) F dX8_both3_44 rfl (by decide) ?_
                refine v_istore_n (ls' := [(1, .int 0), (2, .int r5), (0, .ref (ad 0))]) F dX8_both3_45 rfl rfl (by decide) rfl ?_
                refine v_goto (tgt := 5) F dX8_both3_46 rfl ?_
                refine v_aload_n F 2 dX8_both3_5 rfl rfl rfl ?_
                refine v_bipush (x := 97) F dX8_both3_6 rfl (by decide) ?_
                refine v_bipush (x := 110) F dX8_both3_8 rfl (by decide) ?_
                refine v_bipush (x := 100) F dX8_both3_10 rfl (by decide) ?_
                refine v_iconst (x := 0) F dX8_both3_12 rfl (by decide) ?_
                refine v_iconst (x := 0) F dX8_both3_13 rfl (by decide) ?_
                refine v_iconst (x := 0) F dX8_both3_14 rfl (by decide) ?_
                refine v_iconst (x := 0) F dX8_both3_15 rfl (by decide) ?_
                refine v_iconst (x := 0) F dX8_both3_16 rfl (by decide) ?_
                refine m_calli F G (cm_X8_isWord_b G t5 97 110 100 0 0 0 0 0 hb5) ok_X8_isWord q1433 is_X8_isWord rfl rfl dX8_both3_17 rfl rfl ?_
                intro u0 hu0; subst u0
                refine v_if_eq (tgt := 49) (q := 23) F dX8_both3_20 rfl rfl (fun c9 => ?_) (fun c9 => ?_)
                · skip
                  refine v_iload_n F 0 dX8_both3_49 rfl rfl rfl ?_
                  exact v_retx F dX8_both3_50 rfl (⟨hE5, pRes.e (hL.trans (loG_er (decide_eq_true c3) hp5)) hb5 hf5⟩)
                · skip
                  exact absurd c9 (by decide)
              · skip
                refine v_iconst (x := 1) F dX8_both3_40 rfl (by decide) ?_
                refine v_goto (tgt := 45) F dX8_both3_41 rfl ?_
                refine v_istore_n (ls' := [(1, .int 1), (2, .int r5), (0, .ref (ad 0))]) F dX8_both3_45 rfl rfl (by decide) rfl ?_
                refine v_goto (tgt := 5) F dX8_both3_46 rfl ?_
                refine v_aload_n F 2 dX8_both3_5 rfl rfl rfl ?_
                refine v_bipush (x := 97) F dX8_both3_6 rfl (by decide) ?_
                refine v_bipush (x := 110) F dX8_both3_8 rfl (by decide) ?_
                refine v_bipush (x := 100) F dX8_both3_10 rfl (by decide) ?_
                refine v_iconst (x := 0) F dX8_both3_12 rfl (by decide) ?_
                refine v_iconst (x := 0) F dX8_both3_13 rfl (by decide) ?_
                refine v_iconst (x := 0) F dX8_both3_14 rfl (by decide) ?_
                refine v_iconst (x := 0) F dX8_both3_15 rfl (by decide) ?_
                refine v_iconst (x := 0) F dX8_both3_16 rfl (by decide) ?_
                refine m_calli F G (cm_X8_isWord_b G t5 97 110 100 0 0 0 0 0 hb5) ok_X8_isWord q1433 is_X8_isWord rfl rfl dX8_both3_17 rfl rfl ?_
                intro u0 hu0; subst u0
                refine v_if_eq (tgt := 49) (q := 23) F dX8_both3_20 rfl rfl (fun c10 => ?_) (fun c10 => ?_)
                · skip
                  refine v_iload_n F 0 dX8_both3_49 rfl rfl rfl ?_
                  exact v_retx F dX8_both3_50 rfl (⟨hE5, pRes.e (hL.trans (loG_er (decide_eq_true c3) hp5)) hb5 hf5⟩)
                · skip
                  exact absurd c10 (by decide)
          · skip
            rw [hp5] at hR5
            obtain ⟨hr5, hA5, hb5, ho5⟩ : r5 = f5 (rho t4) ∧ pAt b z t5 j5 ∧ t5 0 27 = 0 ∧ t5 0 26 = nI 3 := hR5
            rw [rho_eq hE4] at hr5
            have hg5 := (PX_good 2).2 _ _ _ hi4 hp5
            have hi5 : j5 ≤ z := hg5.2
            refine v_istore_n (ls' := [(2, .int r5), (0, .ref (ad 0)), (1, .int x)]) F dX8_both3_31 rfl rfl (by decide) rfl ?_
            refine v_iload_n F 2 dX8_both3_32 rfl rfl rfl ?_
            refine v_if_eq (tgt := 44) (q := 36) F dX8_both3_33 rfl rfl (fun c11 => ?_) (fun c11 => ?_)
            · skip
              refine v_iconst (x := 0) F dX8_both3_44 rfl (by decide) ?_
              refine v_istore_n (ls' := [(1, .int 0), (2, .int r5), (0, .ref (ad 0))]) F dX8_both3_45 rfl rfl (by decide) rfl ?_
              refine v_goto (tgt := 5) F dX8_both3_46 rfl ?_
              refine v_sub (ls' := [(0, .ref (ad 0)), (1, .int 0)]) F [2, 0] rfl ?_
              exact ih5 t5 (fun ρ => if (f ρ) ≠ 0 ∧ (f5 ρ) ≠ 0 then 1 else 0) j5 0 hE5 hA5 hb5 ho5 hi5 (by show _ = (if _ then _ else _); rw [← hx, ← hr5]; exact (if_neg (fun h => by first | exact h.1 c11 | exact h.2 c11)).symm) (hL.trans (loG_go (decide_eq_true c3) hp5)) (by have := hs9; omega)
            · skip
              refine v_iload_n F 0 dX8_both3_36 rfl rfl rfl ?_
              refine v_if_eq (tgt := 44) (q := 40) F dX8_both3_37 rfl rfl (fun c12 => ?_) (fun c12 => ?_)
              · skip
                refine v_iconst (x := 0) F dX8_both3_44 rfl (by decide) ?_
                refine v_istore_n (ls' := [(1, .int 0), (2, .int r5), (0, .ref (ad 0))]) F dX8_both3_45 rfl rfl (by decide) rfl ?_
                refine v_goto (tgt := 5) F dX8_both3_46 rfl ?_
                refine v_sub (ls' := [(0, .ref (ad 0)), (1, .int 0)]) F [2, 0] rfl ?_
                exact ih5 t5 (fun ρ => if (f ρ) ≠ 0 ∧ (f5 ρ) ≠ 0 then 1 else 0) j5 0 hE5 hA5 hb5 ho5 hi5 (by show _ = (if _ then _ else _); rw [← hx, ← hr5]; exact (if_neg (fun h => by first | exact h.1 c12 | exact h.2 c12)).symm) (hL.trans (loG_go (decide_eq_true c3) hp5)) (by have := hs9; omega)
              · skip
                refine v_iconst (x := 1) F dX8_both3_40 rfl (by decide) ?_
                refine v_goto (tgt := 45) F dX8_both3_41 rfl ?_
                refine v_istore_n (ls' := [(1, .int 1), (2, .int r5), (0, .ref (ad 0))]) F dX8_both3_45 rfl rfl (by decide) rfl ?_
                refine v_goto (tgt := 5) F dX8_both3_46 rfl ?_
                refine v_sub (ls' := [(0, .ref (ad 0)), (1, .int 1)]) F [2, 0] rfl ?_
                exact ih5 t5 (fun ρ => if (f ρ) ≠ 0 ∧ (f5 ρ) ≠ 0 then 1 else 0) j5 1 hE5 hA5 hb5 ho5 hi5 (by show _ = (if _ then _ else _); rw [← hx, ← hr5]; exact (if_pos (⟨c11, c12⟩)).symm) (hL.trans (loG_go (decide_eq_true c3) hp5)) (by have := hs9; omega)
    refine v_sub (ls' := [(0, .ref (ad 0)), (1, .int r1)]) F [1, 0] rfl ?_
    exact L5 (z + 1) t1 f1 j1 r1 hE1 hA1 hb1 ho1 hi1 hr1 (chG_go hp1) (by omega)
theorem ok_X8_either3 : vv_oc yX8_either3 3 0 (ws_ yX8_either3 cX8_either3 3 (some .int)) := vv_ok.oc (rt := (some .int)) ⟨q1562, q133, by decide +kernel, by decide +kernel⟩
theorem is_X8_either3 : Cond.instanceMethod yX8_either3 ∈ lw_all ∧ Cond.selects RX8 yX8_either3 yX8_either3 ∈ lw_all := ⟨q1561, qs86⟩
set_option maxHeartbeats 4000000 in
theorem cm_X8_either3 {l : Launch} {Kf : State → Prop} {D : va_G} {ad : Nat → Nat} {cI cZ : ClassId} {A : Nat → Prop} (G : mG A Kf D cI cZ) {b : Nat → Int32} {z t i : Nat} (σ : mS)  (hT : pTx b z t σ) (hA : pAt b z σ i) (hi : i ≤ z) (hb : σ 0 27 = 0) (ho : σ 0 26 = nI 3) : vv_Ct l yX8_either3 (ws_ yX8_either3 cX8_either3 3 (some .int)) (rm 21 465) Kf (mWd D ad cI cZ A) A [.ref (ad 0)] σ (vv_x (fun r u => pEq σ u ∧ pRes b z 3 σ u r ((eiG b z (PX b z 2).2) i))) := by
  refine vv_of (by decide +kernel) (Nat.le_of_ble_eq_true rfl) ?_
  intro v (F : vv_F v l cX8_either3 3 RX8 "either3" (some .int) [] (rm 21 465) Kf (mWd D ad cI cZ A) A _)
  show v σ 0 0 0 [(0, .ref (ad 0))] []
  refine v_aload_n F 0 dX8_either3_0 rfl rfl rfl ?_
  refine m_callx F G (cm_X8_both3 G σ hT hA hi hb ho) ok_X8_both3 q1563 is_X8_both3 rfl rfl dX8_either3_1 rfl rfl ?_
  rintro r1 t1 ⟨hN1, hR1⟩
  have hE1 : pEq σ t1 := pEq.trans pEq.rf hN1
  rcases hp1 : (boG b z (PX b z 2).2) i with e1 | ⟨f1, j1⟩
  · skip
    rw [hp1] at hR1
    obtain ⟨hb1, hf1⟩ : t1 0 27 = 1 ∧ t1 0 28 = nI e1 := hR1
    refine v_istore_n (ls' := [(1, .int r1), (0, .ref (ad 0))]) F dX8_either3_4 rfl rfl (by decide) rfl ?_
    refine v_aload_n F 1 dX8_either3_5 rfl rfl rfl ?_
    refine v_bipush (x := 111) F dX8_either3_6 rfl (by decide) ?_
    refine v_bipush (x := 114) F dX8_either3_8 rfl (by decide) ?_
    refine v_iconst (x := 0) F dX8_either3_10 rfl (by decide) ?_
    refine v_iconst (x := 0) F dX8_either3_11 rfl (by decide) ?_
    refine v_iconst (x := 0) F dX8_either3_12 rfl (by decide) ?_
    refine v_iconst (x := 0) F dX8_either3_13 rfl (by decide) ?_
    refine v_iconst (x := 0) F dX8_either3_14 rfl (by decide) ?_
    refine v_iconst (x := 0) F dX8_either3_15 rfl (by decide) ?_
    refine m_calli F G (cm_X8_isWord_b G t1 111 114 0 0 0 0 0 0 hb1) ok_X8_isWord q1433 is_X8_isWord rfl rfl dX8_either3_16 rfl rfl ?_
    intro u0 hu0; subst u0
    refine v_if_eq (tgt := 48) (q := 22) F dX8_either3_19 rfl rfl (fun c2 => ?_) (fun c2 => ?_)
    · skip
      refine v_iload_n F 0 dX8_either3_48 rfl rfl rfl ?_
      exact v_retx F dX8_either3_49 rfl (⟨hE1, pRes.e (chG_er hp1) hb1 hf1⟩)
    · skip
      exact absurd c2 (by decide)
  · skip
    rw [hp1] at hR1
    obtain ⟨hr1, hA1, hb1, ho1⟩ : r1 = f1 (rho σ) ∧ pAt b z t1 j1 ∧ t1 0 27 = 0 ∧ t1 0 26 = nI 3 := hR1
    rw [rho_eq pEq.rf] at hr1
    have hg1 := (boG_good (PX_good 2).2) _ _ _ hi hp1
    have hi1 : j1 ≤ z := hg1.2
    refine v_istore_n (ls' := [(1, .int r1), (0, .ref (ad 0))]) F dX8_either3_4 rfl rfl (by decide) rfl ?_
    have L5 : ∀ (n : Nat) (s : mS) (f : (Nat → Int32) → Int32) (j : Nat) (x : Int32) (hEs : pEq σ s) (hAs : pAt b z s j) (hbs : s 0 27 = 0) (hos : s 0 26 = nI 3) (hj : j ≤ z) (hx : x = f (rho σ)) (hL : (eiG b z (PX b z 2).2) i = loG b z (fun i => decide (kOr b z i)) (boG b z (PX b z 2).2) (fun _ x y => if x ≠ 0 ∨ y ≠ 0 then 1 else 0) n f j) (hn : z - j < n), v s 0 0 5 [(0, .ref (ad 0)), (1, .int x)] [] := by
      intro n
      induction n with
      | zero => intro s f j x hEs hAs hbs hos hj hx hL hn; exact absurd hn (Nat.not_lt_zero _)
      | succ n ih5 =>
        intro s f j x hEs hAs hbs hos hj hx hL hn
        refine v_aload_n F 0 dX8_either3_5 rfl rfl rfl ?_
        refine v_bipush (x := 111) F dX8_either3_6 rfl (by decide) ?_
        refine v_bipush (x := 114) F dX8_either3_8 rfl (by decide) ?_
        refine v_iconst (x := 0) F dX8_either3_10 rfl (by decide) ?_
        refine v_iconst (x := 0) F dX8_either3_11 rfl (by decide) ?_
        refine v_iconst (x := 0) F dX8_either3_12 rfl (by decide) ?_
        refine v_iconst (x := 0) F dX8_either3_13 rfl (by decide) ?_
        refine v_iconst (x := 0) F dX8_either3_14 rfl (by decide) ?_
        refine v_iconst (x := 0) F dX8_either3_15 rfl (by decide) ?_
        refine m_calli F G (cm_X8_isWord G s 111 114 0 0 0 0 0 0 (pTx.eq hT hEs) hAs hj hbs) ok_X8_isWord q1433 is_X8_isWord rfl rfl dX8_either3_16 rfl rfl ?_
        intro u0 hu0; subst u0
        refine v_if_eqB (p := (wd b z j 111 114 0 0 0 0 0 0)) (tgt := 48) (q := 22) F dX8_either3_19 rfl rfl (fun c3 => ?_) (fun c3 => ?_)
        · skip
          refine v_iload_n F 1 dX8_either3_48 rfl rfl rfl ?_
          exact v_retx F dX8_either3_49 rfl (⟨hEs, pRes.o (hL.trans (loG_ou (fun h => c3 (of_decide_eq_true h)))) (hx) hAs hbs hos⟩)
        · skip
          have hs9 := (tk1_lt hj c3.1).1
          refine v_aload_n F 0 dX8_either3_22 rfl rfl rfl ?_
          refine m_calln F G (cm_X8_next (i := tN b z j) G s (pTx.eq hT hEs) hAs.2.2.1 (tN_le hj).2) ok_X8_next q1421 is_X8_next rfl rfl dX8_either3_23 rfl rfl ?_
          rintro t4 ⟨hN4, hA4⟩
          have hE4 : pEq σ t4 := pEq.trans hEs hN4.p
          have hb4 : t4 0 27 = 0 := (hN4 0 27 (by omega)).trans hbs
          have ho4 : t4 0 26 = nI 3 := (hN4 0 26 (by omega)).trans hos
          have hi4 : tN b z j ≤ z := (tN_le hj).2
          refine v_aload_n F 0 dX8_either3_26 rfl rfl rfl ?_
          refine m_callx F G (cm_X8_both3 G t4 (pTx.eq hT hE4) hA4 hi4 hb4 ho4) ok_X8_both3 q1563 is_X8_both3 rfl rfl dX8_either3_27 rfl rfl ?_
          rintro r5 t5 ⟨hN5, hR5⟩
          have hE5 : pEq σ t5 := pEq.trans hE4 hN5
          rcases hp5 : (boG b z (PX b z 2).2) (tN b z j) with e5 | ⟨f5, j5⟩
          · skip
            rw [hp5] at hR5
            obtain ⟨hb5, hf5⟩ : t5 0 27 = 1 ∧ t5 0 28 = nI e5 := hR5
            refine v_istore_n (ls' := [(2, .int r5), (0, .ref (ad 0)), (1, .int x)]) F dX8_either3_30 rfl rfl (by decide) rfl ?_
            refine v_iload_n F 2 dX8_either3_31 rfl rfl rfl ?_
            refine v_if_ne (tgt := 39) (q := 35) F dX8_either3_32 rfl rfl (fun c6 => ?_) (fun c6 => ?_)
            · skip
              refine v_iconst (x := 1) F dX8_either3_39 rfl (by decide) ?_
              refine v_goto (tgt := 44) F dX8_either3_40 rfl ?_
              refine v_istore_n (ls' := [(1, .int 1), (2, .int r5), (0, .ref (ad 0))]) F dX8_either3_44 rfl rfl (by decide) rfl ?_
              refine v_goto (tgt := 5) F dX8_either3_45 rfl ?_
              refine v_aload_n F 2 dX8_either3_5 rfl rfl rfl ?_
              refine v_bipush (x := 111) F dX8_either3_6 rfl (by decide) ?_
              refine v_bipush (x := 114) F dX8_either3_8 rfl (by decide) ?_
              refine v_iconst (x := 0) F dX8_either3_10 rfl (by decide) ?_
              refine v_iconst (x := 0) F dX8_either3_11 rfl (by decide) ?_
              refine v_iconst (x := 0) F dX8_either3_12 rfl (by decide) ?_
              refine v_iconst (x := 0) F dX8_either3_13 rfl (by decide) ?_
              refine v_iconst (x := 0) F dX8_either3_14 rfl (by decide) ?_
              refine v_iconst (x := 0) F dX8_either3_15 rfl (by decide) ?_
              refine m_calli F G (cm_X8_isWord_b G t5 111 114 0 0 0 0 0 0 hb5) ok_X8_isWord q1433 is_X8_isWord rfl rfl dX8_either3_16 rfl rfl ?_
              intro u0 hu0; subst u0
              refine v_if_eq (tgt := 48) (q := 22) F dX8_either3_19 rfl rfl (fun c7 => ?_) (fun c7 => ?_)
              · skip
                refine v_iload_n F 0 dX8_either3_48 rfl rfl rfl ?_
                exact v_retx F dX8_either3_49 rfl (⟨hE5, pRes.e (hL.trans (loG_er (decide_eq_true c3) hp5)) hb5 hf5⟩)
              · skip
                exact absurd c7 (by decide)
            · skip
              refine v_iload_n F 0 dX8_either3_35 rfl rfl rfl ?_
              refine v_if_eq (tgt := 43) (q := 39) F dX8_either3_36 rfl rfl (fun c8 => ?_) (fun c8 => ?_)
              · skip
                refine v_iconst (x := 0) F dX8_either3_43 rfl (by decide) ?_
                refine v_istore_n (ls' := [(1, .int 0), (2, .int r5), (0, .ref (ad 0))]) F dX8_either3_44 rfl rfl (by decide) rfl ?_
                refine v_goto (tgt := 5) F dX8_either3_45 rfl ?_
                refine v_aload_n F 2 dX8_either3_5 rfl rfl rfl ?_
                refine v_bipush (x := 111) F dX8_either3_6 rfl (by decide) ?_
                refine v_bipush (x := 114) F dX8_either3_8 rfl (by decide) ?_
                refine v_iconst (x := 0) F dX8_either3_10 rfl (by decide) ?_
                refine v_iconst (x := 0) F dX8_either3_11 rfl (by decide) ?_
                refine v_iconst (x := 0) F dX8_either3_12 rfl (by decide) ?_
                refine v_iconst (x := 0) F dX8_either3_13 rfl (by decide) ?_
                refine v_iconst (x := 0) F dX8_either3_14 rfl (by decide) ?_
                refine v_iconst (x := 0) F dX8_either3_15 rfl (by decide) ?_
                refine m_calli F G (cm_X8_isWord_b G t5 111 114 0 0 0 0 0 0 hb5) ok_X8_isWord q1433 is_X8_isWord rfl rfl dX8_either3_16 rfl rfl ?_
                intro u0 hu0; subst u0
                refine v_if_eq (tgt := 48) (q := 22) F dX8_either3_19 rfl rfl (fun c9 => ?_) (fun c9 => ?_)
                · skip
                  refine v_iload_n F 0 dX8_either3_48 rfl rfl rfl ?_
                  exact v_retx F dX8_either3_49 rfl (⟨hE5, pRes.e (hL.trans (loG_er (decide_eq_true c3) hp5)) hb5 hf5⟩)
                · skip
                  exact absurd c9 (by decide)
              · skip
                refine v_iconst (x := 1) F dX8_either3_39 rfl (by decide) ?_
                refine v_goto (tgt := 44) F dX8_either3_40 rfl ?_
                refine v_istore_n (ls' := [(1, .int 1), (2, .int r5), (0, .ref (ad 0))]) F dX8_either3_44 rfl rfl (by decide) rfl ?_
                refine v_goto (tgt := 5) F dX8_either3_45 rfl ?_
                refine v_aload_n F 2 dX8_either3_5 rfl rfl rfl ?_
                refine v_bipush (x := 111) F dX8_either3_6 rfl (by decide) ?_
                refine v_bipush (x := 114) F dX8_either3_8 rfl (by decide) ?_
                refine v_iconst (x := 0) F dX8_either3_10 rfl (by decide) ?_
                refine v_iconst (x := 0) F dX8_either3_11 rfl (by decide) ?_
                refine v_iconst (x := 0) F dX8_either3_12 rfl (by decide) ?_
                refine v_iconst (x := 0) F dX8_either3_13 rfl (by decide) ?_
                refine v_iconst (x := 0) F dX8_either3_14 rfl (by decide) ?_
                refine v_iconst (x := 0) F dX8_either3_15 rfl (by decide) ?_
                refine m_calli F G (cm_X8_isWord_b G t5 111 114 0 0 0 0 0 0 hb5) ok_X8_isWord q1433 is_X8_isWord rfl rfl dX8_either3_16 rfl rfl ?_
                intro u0 hu0; subst u0
                refine v_if_eq (tgt := 48) (q := 22) F dX8_either3_19 rfl rfl (fun c10 => ?_) (fun c10 => ?_)
                · skip
                  refine v_iload_n F 0 dX8_either3_48 rfl rfl rfl ?_
                  exact v_retx F dX8_either3_49 rfl (⟨hE5, pRes.e (hL.trans (loG_er (decide_eq_true c3) hp5)) hb5 hf5⟩)
                · skip
                  exact absurd c10 (by decide)
          · skip
            rw [hp5] at hR5
            obtain ⟨hr5, hA5, hb5, ho5⟩ : r5 = f5 (rho t4) ∧ pAt b z t5 j5 ∧ t5 0 27 = 0 ∧ t5 0 26 = nI 3 := hR5
            rw [rho_eq hE4] at hr5
            have hg5 := (boG_good (PX_good 2).2) _ _ _ hi4 hp5
            have hi5 : j5 ≤ z := hg5.2
            refine v_istore_n (ls' := [(2, .int r5), (0, .ref (ad 0)), (1, .int x)]) F dX8_either3_30 rfl rfl (by decide) rfl ?_
            refine v_iload_n F 2 dX8_either3_31 rfl rfl rfl ?_
            refine v_if_ne (tgt := 39) (q := 35) F dX8_either3_32 rfl rfl (fun c11 => ?_) (fun c11 => ?_)
            · skip
              refine v_iconst (x := 1) F dX8_either3_39 rfl (by decide) ?_
              refine v_goto (tgt := 44) F dX8_either3_40 rfl ?_
              refine v_istore_n (ls' := [(1, .int 1), (2, .int r5), (0, .ref (ad 0))]) F dX8_either3_44 rfl rfl (by decide) rfl ?_
              refine v_goto (tgt := 5) F dX8_either3_45 rfl ?_
              refine v_sub (ls' := [(0, .ref (ad 0)), (1, .int 1)]) F [2, 0] rfl ?_
              exact ih5 t5 (fun ρ => if (f ρ) ≠ 0 ∨ (f5 ρ) ≠ 0 then 1 else 0) j5 1 hE5 hA5 hb5 ho5 hi5 (by show _ = (if _ then _ else _); rw [← hx, ← hr5]; exact (if_pos (by first | exact Or.inl c11 | exact Or.inr c11)).symm) (hL.trans (loG_go (decide_eq_true c3) hp5)) (by have := hs9; omega)
            · skip
              refine v_iload_n F 0 dX8_either3_35 rfl rfl rfl ?_
              refine v_if_eq (tgt := 43) (q := 39) F dX8_either3_36 rfl rfl (fun c12 => ?_) (fun c12 => ?_)
              · skip
                refine v_iconst (x := 0) F dX8_either3_43 rfl (by decide) ?_
                refine v_istore_n (ls' := [(1, .int 0), (2, .int r5), (0, .ref (ad 0))]) F dX8_either3_44 rfl rfl (by decide) rfl ?_
                refine v_goto (tgt := 5) F dX8_either3_45 rfl ?_
                refine v_sub (ls' := [(0, .ref (ad 0)), (1, .int 0)]) F [2, 0] rfl ?_
                exact ih5 t5 (fun ρ => if (f ρ) ≠ 0 ∨ (f5 ρ) ≠ 0 then 1 else 0) j5 0 hE5 hA5 hb5 ho5 hi5 (by show _ = (if _ then _ else _); rw [← hx, ← hr5]; exact (if_neg (fun h => h.elim (fun g => g c11) (fun g => g c12))).symm) (hL.trans (loG_go (decide_eq_true c3) hp5)) (by have := hs9; omega)
              · skip
                refine v_iconst (x := 1) F dX8_either3_39 rfl (by decide) ?_
                refine v_goto (tgt := 44) F dX8_either3_40 rfl ?_
                refine v_istore_n (ls' := [(1, .int 1), (2, .int r5), (0, .ref (ad 0))]) F dX8_either3_44 rfl rfl (by decide) rfl ?_
                refine v_goto (tgt := 5) F dX8_either3_45 rfl ?_
                refine v_sub (ls' := [(0, .ref (ad 0)), (1, .int 1)]) F [2, 0] rfl ?_
                exact ih5 t5 (fun ρ => if (f ρ) ≠ 0 ∨ (f5 ρ) ≠ 0 then 1 else 0) j5 1 hE5 hA5 hb5 ho5 hi5 (by show _ = (if _ then _ else _); rw [← hx, ← hr5]; exact (if_pos (by first | exact Or.inl c12 | exact Or.inr c12)).symm) (hL.trans (loG_go (decide_eq_true c3) hp5)) (by have := hs9; omega)
    refine v_sub (ls' := [(0, .ref (ad 0)), (1, .int r1)]) F [1, 0] rfl ?_
    exact L5 (z + 1) t1 f1 j1 r1 hE1 hA1 hb1 ho1 hi1 hr1 (chG_go hp1) (by omega)
theorem ok_X8_atom2 : vv_oc yX8_atom2 2 0 (ws_ yX8_atom2 cX8_atom2 2 (some .int)) := vv_ok.oc (rt := (some .int)) ⟨q1558, q133, by decide +kernel, by decide +kernel⟩
theorem is_X8_atom2 : Cond.instanceMethod yX8_atom2 ∈ lw_all ∧ Cond.selects RX8 yX8_atom2 yX8_atom2 ∈ lw_all := ⟨q1557, qs85⟩
set_option maxHeartbeats 4000000 in
theorem cm_X8_atom2 {l : Launch} {Kf : State → Prop} {D : va_G} {ad : Nat → Nat} {cI cZ : ClassId} {A : Nat → Prop} (G : mG A Kf D cI cZ) {b : Nat → Int32} {z t i : Nat} (σ : mS)  (hT : pTx b z t σ) (hA : pAt b z σ i) (hi : i ≤ z) (hb : σ 0 27 = 0) (ho : σ 0 26 = nI 2) : vv_Ct l yX8_atom2 (ws_ yX8_atom2 cX8_atom2 2 (some .int)) (rm 22 487) Kf (mWd D ad cI cZ A) A [.ref (ad 0)] σ (vv_x (fun r u => pEq σ u ∧ pRes b z 2 σ u r ((PX b z 3).1 i))) := by
  refine vv_of (by decide +kernel) (Nat.le_of_ble_eq_true rfl) ?_
  intro v (F : vv_F v l cX8_atom2 2 RX8 "atom2" (some .int) [] (rm 22 487) Kf (mWd D ad cI cZ A) A _)
  show v σ 0 0 0 [(0, .ref (ad 0))] []
  refine v_iconst (x := 0) F dX8_atom2_0 rfl (by decide) ?_
  refine v_istore_n (ls' := [(1, .int 0), (0, .ref (ad 0))]) F dX8_atom2_1 rfl rfl (by decide) rfl ?_
  refine v_aload_n F 1 dX8_atom2_2 rfl rfl rfl ?_
  refine v_bipush (x := 45) F dX8_atom2_3 rfl (by decide) ?_
  refine m_calli F G (cm_X8_isSign G σ 45 hA hb) ok_X8_isSign q1497 is_X8_isSign rfl rfl dX8_atom2_5 rfl rfl ?_
  intro u0 hu0; subst u0
  refine v_if_eqB (p := (sg b z i 45)) (tgt := 37) (q := 11) F dX8_atom2_8 rfl rfl (fun c1 => ?_) (fun c1 => ?_)
  · skip
    refine v_aload_n F 1 dX8_atom2_37 rfl rfl rfl ?_
    refine v_bipush (x := 40) F dX8_atom2_38 rfl (by decide) ?_
    refine m_calli F G (cm_X8_isSign G σ 40 hA hb) ok_X8_isSign q1497 is_X8_isSign rfl rfl dX8_atom2_40 rfl rfl ?_
    intro u0 hu0; subst u0
    refine v_if_eqB (p := (sg b z i 40)) (tgt := 95) (q := 46) F dX8_atom2_43 rfl rfl (fun c2 => ?_) (fun c2 => ?_)
    · skip
      refine v_aload_n F 1 dX8_atom2_95 rfl rfl rfl ?_
      refine m_get F G 27 (w := .int (σ 0 27)) (by decide) q1280 rfl dX8_atom2_96 rfl ?_
      refine v_int F (y := 0) (hb) ?_
      refine v_if_ne (tgt := 123) (q := 102) F dX8_atom2_99 rfl rfl (fun c3 => ?_) (fun c3 => ?_)
      · skip
        exact absurd c3 (by decide)
      · skip
        refine v_aload_n F 1 dX8_atom2_102 rfl rfl rfl ?_
        refine m_get F G 23 (w := .int (σ 0 23)) (by decide) q1276 rfl dX8_atom2_103 rfl ?_
        refine v_int F (hA.1) ?_
        refine v_iconst (x := 2) F dX8_atom2_106 rfl (by decide) ?_
        refine v_icmp_ne (tgt := 123) (q := 110) F dX8_atom2_107 rfl rfl (fun c4 => ?_) (fun c4 => ?_)
        · skip
          refine v_aload_n F 1 dX8_atom2_123 rfl rfl rfl ?_
          refine m_get F G 27 (w := .int (σ 0 27)) (by decide) q1280 rfl dX8_atom2_124 rfl ?_
          refine v_int F (y := 0) (hb) ?_
          refine v_if_ne (tgt := 157) (q := 130) F dX8_atom2_127 rfl rfl (fun c5 => ?_) (fun c5 => ?_)
          · skip
            exact absurd c5 (by decide)
          · skip
            refine v_aload_n F 1 dX8_atom2_130 rfl rfl rfl ?_
            refine m_get F G 23 (w := .int (σ 0 23)) (by decide) q1276 rfl dX8_atom2_131 rfl ?_
            refine v_int F (hA.1) ?_
            refine v_iconst (x := 1) F dX8_atom2_134 rfl (by decide) ?_
            refine v_icmp_ne (tgt := 157) (q := 138) F dX8_atom2_135 rfl rfl (fun c6 => ?_) (fun c6 => ?_)
            · skip
              refine v_aload_n F 1 dX8_atom2_157 rfl rfl rfl ?_
              refine m_calln F G (cm_X8_fail G σ hb) ok_X8_fail q1445 is_X8_fail rfl rfl dX8_atom2_158 rfl rfl ?_
              intro u0 hu0; subst u0
              refine v_iload_n F 0 dX8_atom2_161 rfl rfl rfl ?_
              exact v_retx F dX8_atom2_162 rfl (⟨(pEq.u (pEq.u pEq.rf (j := 27) (by decide) 1) (j := 28) (by decide) (σ 0 24)), pRes.e ((PXa 2).trans (atG_el c1 c2 c4 c6)) rfl hA.2.1⟩)
            · skip
              refine v_aload_n F 1 dX8_atom2_138 rfl rfl rfl ?_
              refine m_callx F G (cm_X8_name G σ hT hA hi hb) ok_X8_name q1501 is_X8_name rfl rfl dX8_atom2_139 rfl rfl ?_
              intro r7 t7 hm7
              rcases hn7 : nmK b z i with _ | k7
              · skip
                rw [hn7] at hm7
                have hm7 : t7 = up (up σ 0 27 1) 0 28 (σ 0 24) := hm7
                subst t7
                refine v_istore_n (ls' := [(1, .int r7), (0, .ref (ad 0))]) F dX8_atom2_142 rfl rfl (by decide) rfl ?_
                refine v_aload_n F 1 dX8_atom2_143 rfl rfl rfl ?_
                refine m_get F G 27 (w := .int 1) (by decide) q1280 rfl dX8_atom2_144 rfl ?_
                refine v_if_ne (tgt := 161) (q := 150) F dX8_atom2_147 rfl rfl (fun c8 => ?_) (fun c8 => ?_)
                · skip
                  refine v_iload_n F 0 dX8_atom2_161 rfl rfl rfl ?_
                  exact v_retx F dX8_atom2_162 rfl (⟨(pEq.u (pEq.u pEq.rf (j := 27) (by decide) 1) (j := 28) (by decide) (σ 0 24)), pRes.e ((PXa 2).trans (atG_nn c1 c2 c4 c6 hn7)) rfl hA.2.1⟩)
                · skip
                  exact absurd c8 (by decide)
              · skip
                rw [hn7] at hm7
                obtain ⟨hr7, hk7, hu7⟩ : r7 = σ 0 (14 + k7) ∧ k7 < 6 ∧ t7 = σ := hm7
                subst t7
                refine v_istore_n (ls' := [(1, .int r7), (0, .ref (ad 0))]) F dX8_atom2_142 rfl rfl (by decide) rfl ?_
                refine v_aload_n F 1 dX8_atom2_143 rfl rfl rfl ?_
                refine m_get F G 27 (w := .int (σ 0 27)) (by decide) q1280 rfl dX8_atom2_144 rfl ?_
                refine v_int F (y := 0) (hb) ?_
                refine v_if_ne (tgt := 161) (q := 150) F dX8_atom2_147 rfl rfl (fun c9 => ?_) (fun c9 => ?_)
                · skip
                  exact absurd c9 (by decide)
                · skip
                  refine v_aload_n F 1 dX8_atom2_150 rfl rfl rfl ?_
                  refine m_calln F G (cm_X8_next (i := tN b z i) G σ hT hA.2.2.1 (tN_le hi).2) ok_X8_next q1421 is_X8_next rfl rfl dX8_atom2_151 rfl rfl ?_
                  rintro t10 ⟨hN10, hA10⟩
                  have hE10 : pEq σ t10 := pEq.trans pEq.rf hN10.p
                  have hb10 : t10 0 27 = 0 := (hN10 0 27 (by omega)).trans hb
                  have ho10 : t10 0 26 = nI 2 := (hN10 0 26 (by omega)).trans ho
                  have hi10 : tN b z i ≤ z := (tN_le hi).2
                  refine v_goto (tgt := 161) F dX8_atom2_154 rfl ?_
                  refine v_iload_n F 0 dX8_atom2_161 rfl rfl rfl ?_
                  exact v_retx F dX8_atom2_162 rfl (⟨hE10, pRes.o ((PXa 2).trans (atG_nm c1 c2 c4 c6 hn7)) (by rw [hr7]; show _ = rho σ k7; unfold rho; rw [if_pos hk7]) hA10 hb10 ho10⟩)
        · skip
          refine v_aload_n F 1 dX8_atom2_110 rfl rfl rfl ?_
          refine m_get F G 25 (w := .long (Int32.toInt64 (σ 0 25))) (by decide) q1278 rfl dX8_atom2_111 rfl ?_
          refine v_lng F (y := Int32.toInt64 (tW b z i)) (by rw [hA.2.2.2 (Or.inl c4)]) ?_
          refine v_l2i F dX8_atom2_114 rfl ?_
          refine v_int F (y := tW b z i) (Int32.toInt32_toInt64 _) ?_
          refine v_istore_n (ls' := [(1, .int (tW b z i)), (0, .ref (ad 0))]) F dX8_atom2_115 rfl rfl (by decide) rfl ?_
          refine v_aload_n F 1 dX8_atom2_116 rfl rfl rfl ?_
          refine m_calln F G (cm_X8_next (i := tN b z i) G σ hT hA.2.2.1 (tN_le hi).2) ok_X8_next q1421 is_X8_next rfl rfl dX8_atom2_117 rfl rfl ?_
          rintro t11 ⟨hN11, hA11⟩
          have hE11 : pEq σ t11 := pEq.trans pEq.rf hN11.p
          have hb11 : t11 0 27 = 0 := (hN11 0 27 (by omega)).trans hb
          have ho11 : t11 0 26 = nI 2 := (hN11 0 26 (by omega)).trans ho
          have hi11 : tN b z i ≤ z := (tN_le hi).2
          refine v_goto (tgt := 161) F dX8_atom2_120 rfl ?_
          refine v_iload_n F 0 dX8_atom2_161 rfl rfl rfl ?_
          exact v_retx F dX8_atom2_162 rfl (⟨hE11, pRes.o ((PXa 2).trans (atG_num c1 c2 c4)) (rfl) hA11 hb11 ho11⟩)
    · skip
      refine v_aload_n F 1 dX8_atom2_46 rfl rfl rfl ?_
      refine m_calli F G (cm_X8_opens (d := 2) G σ hT hA hi hb ho (by decide)) ok_X8_opens q1461 is_X8_opens rfl rfl dX8_atom2_47 rfl rfl ?_
      rintro t12 ⟨hN12, hA12, hb12, ho12⟩
      have hE12 : pEq σ t12 := pEq.trans pEq.rf hN12
      have hi12 : tN b z i ≤ z := (tN_le hi).2
      refine v_if_eq (tgt := 161) (q := 53) F dX8_atom2_50 rfl rfl (fun c13 => ?_) (fun c13 => ?_)
      · skip
        exact absurd c13 (by decide)
      · skip
        refine v_aload_n F 1 dX8_atom2_53 rfl rfl rfl ?_
        refine m_callx F G (cm_X8_either3 G t12 (pTx.eq hT hE12) hA12 hi12 hb12 ho12) ok_X8_either3 q1559 is_X8_either3 rfl rfl dX8_atom2_54 rfl rfl ?_
        rintro r14 t14 ⟨hN14, hR14⟩
        have hE14 : pEq σ t14 := pEq.trans hE12 hN14
        rcases hp14 : (eiG b z (PX b z 2).2) (tN b z i) with e14 | ⟨f14, j14⟩
        · skip
          rw [hp14] at hR14
          obtain ⟨hb14, hf14⟩ : t14 0 27 = 1 ∧ t14 0 28 = nI e14 := hR14
          refine v_istore_n (ls' := [(1, .int r14), (0, .ref (ad 0))]) F dX8_atom2_57 rfl rfl (by decide) rfl ?_
          refine v_aload_n F 1 dX8_atom2_58 rfl rfl rfl ?_
          refine v_bipush (x := 41) F dX8_atom2_59 rfl (by decide) ?_
          refine m_calli F G (cm_X8_isSign_b G t14 41 hb14) ok_X8_isSign q1497 is_X8_isSign rfl rfl dX8_atom2_61 rfl rfl ?_
          intro u0 hu0; subst u0
          refine v_if_ne (tgt := 71) (q := 67) F dX8_atom2_64 rfl rfl (fun c15 => ?_) (fun c15 => ?_)
          · skip
            exact absurd c15 (by decide)
          · skip
            refine v_aload_n F 1 dX8_atom2_67 rfl rfl rfl ?_
            refine m_calln F G (cm_X8_fail_b G t14 hb14) ok_X8_fail q1445 is_X8_fail rfl rfl dX8_atom2_68 rfl rfl ?_
            intro u0 hu0; subst u0
            refine v_aload_n F 1 dX8_atom2_71 rfl rfl rfl ?_
            refine v_dup F dX8_atom2_72 rfl rfl ?_
            refine m_get F G 26 (w := .int (t14 0 26)) (by decide) q1279 rfl dX8_atom2_73 rfl ?_
            refine v_iconst (x := 1) F dX8_atom2_76 rfl (by decide) ?_
            refine v_isub F dX8_atom2_77 rfl ?_
            refine m_put26 F G q1279 dX8_atom2_78 rfl ?_
            refine v_aload_n F 1 dX8_atom2_81 rfl rfl rfl ?_
            refine m_get F G 27 (w := .int (t14 0 27)) (by decide) q1280 rfl dX8_atom2_82 rfl ?_
            refine v_int F (y := 1) (hb14) ?_
            refine v_if_ne (tgt := 161) (q := 88) F dX8_atom2_85 rfl rfl (fun c16 => ?_) (fun c16 => ?_)
            · skip
              refine v_iload_n F 0 dX8_atom2_161 rfl rfl rfl ?_
              exact v_retx F dX8_atom2_162 rfl (⟨(pEq.u hE14 (j := 26) (by decide) ((t14 0 26) - 1)), pRes.e ((PXa 2).trans (atG_pe c1 c2 hp14)) hb14 hf14⟩)
            · skip
              exact absurd c16 (by decide)
        · skip
          rw [hp14] at hR14
          obtain ⟨hr14, hA14, hb14, ho14⟩ : r14 = f14 (rho t12) ∧ pAt b z t14 j14 ∧ t14 0 27 = 0 ∧ t14 0 26 = nI 3 := hR14
          rw [rho_eq hE12] at hr14
          have hg14 := (eiG_good (PX_good 2).2) _ _ _ hi12 hp14
          have hi14 : j14 ≤ z := hg14.2
          refine v_istore_n (ls' := [(1, .int r14), (0, .ref (ad 0))]) F dX8_atom2_57 rfl rfl (by decide) rfl ?_
          refine v_aload_n F 1 dX8_atom2_58 rfl rfl rfl ?_
          refine v_bipush (x := 41) F dX8_atom2_59 rfl (by decide) ?_
          refine m_calli F G (cm_X8_isSign G t14 41 hA14 hb14) ok_X8_isSign q1497 is_X8_isSign rfl rfl dX8_atom2_61 rfl rfl ?_
          intro u0 hu0; subst u0
          refine v_if_neB (p := (sg b z j14 41)) (tgt := 71) (q := 67) F dX8_atom2_64 rfl rfl (fun c17 => ?_) (fun c17 => ?_)
          · skip
            refine v_aload_n F 1 dX8_atom2_71 rfl rfl rfl ?_
            refine v_dup F dX8_atom2_72 rfl rfl ?_
            refine m_get F G 26 (w := .int (t14 0 26)) (by decide) q1279 rfl dX8_atom2_73 rfl ?_
            refine v_int F (ho14) ?_
            refine v_iconst (x := 1) F dX8_atom2_76 rfl (by decide) ?_
            refine v_isub F dX8_atom2_77 rfl ?_
            refine v_int F (y := 2) (by decide) ?_
            refine m_put26 F G q1279 dX8_atom2_78 rfl ?_
            refine v_aload_n F 1 dX8_atom2_81 rfl rfl rfl ?_
            refine m_get F G 27 (w := .int (t14 0 27)) (by decide) q1280 rfl dX8_atom2_82 rfl ?_
            refine v_int F (y := 0) (hb14) ?_
            refine v_if_ne (tgt := 161) (q := 88) F dX8_atom2_85 rfl rfl (fun c18 => ?_) (fun c18 => ?_)
            · skip
              exact absurd c18 (by decide)
            · skip
              refine v_aload_n F 1 dX8_atom2_88 rfl rfl rfl ?_
              refine m_calln F G (cm_X8_next (i := tN b z j14) G (up t14 0 26 2) (pTx.eq hT (pEq.u hE14 (j := 26) (by decide) 2)) (pAt.u hA14 (j := 26) (x := 2) (by decide)).2.2.1 (tN_le hi14).2) ok_X8_next q1421 is_X8_next rfl rfl dX8_atom2_89 rfl rfl ?_
              rintro t19 ⟨hN19, hA19⟩
              have hE19 : pEq σ t19 := pEq.trans (pEq.u hE14 (j := 26) (by decide) 2) hN19.p
              have hb19 : t19 0 27 = 0 := (hN19 0 27 (by omega)).trans hb14
              have ho19 : t19 0 26 = nI 2 := (hN19 0 26 (by omega)).trans rfl
              have hi19 : tN b z j14 ≤ z := (tN_le hi14).2
              refine v_goto (tgt := 161) F dX8_atom2_92 rfl ?_
              refine v_iload_n F 0 dX8_atom2_161 rfl rfl rfl ?_
              exact v_retx F dX8_atom2_162 rfl (⟨hE19, pRes.o ((PXa 2).trans (atG_po c1 c2 hp14 c17)) (hr14) hA19 hb19 ho19⟩)
          · skip
            refine v_aload_n F 1 dX8_atom2_67 rfl rfl rfl ?_
            refine m_calln F G (cm_X8_fail G t14 hb14) ok_X8_fail q1445 is_X8_fail rfl rfl dX8_atom2_68 rfl rfl ?_
            intro u0 hu0; subst u0
            refine v_aload_n F 1 dX8_atom2_71 rfl rfl rfl ?_
            refine v_dup F dX8_atom2_72 rfl rfl ?_
            refine m_get F G 26 (w := .int (t14 0 26)) (by decide) q1279 rfl dX8_atom2_73 rfl ?_
            refine v_iconst (x := 1) F dX8_atom2_76 rfl (by decide) ?_
            refine v_isub F dX8_atom2_77 rfl ?_
            refine m_put26 F G q1279 dX8_atom2_78 rfl ?_
            refine v_aload_n F 1 dX8_atom2_81 rfl rfl rfl ?_
            refine m_get F G 27 (w := .int 1) (by decide) q1280 rfl dX8_atom2_82 rfl ?_
            refine v_if_ne (tgt := 161) (q := 88) F dX8_atom2_85 rfl rfl (fun c20 => ?_) (fun c20 => ?_)
            · skip
              refine v_iload_n F 0 dX8_atom2_161 rfl rfl rfl ?_
              exact v_retx F dX8_atom2_162 rfl (⟨(pEq.u (pEq.u (pEq.u hE14 (j := 27) (by decide) 1) (j := 28) (by decide) (t14 0 24)) (j := 26) (by decide) ((t14 0 26) - 1)), pRes.e ((PXa 2).trans (atG_pb c1 c2 hp14 c17)) rfl hA14.2.1⟩)
            · skip
              exact absurd c20 (by decide)
  · skip
    refine v_aload_n F 1 dX8_atom2_11 rfl rfl rfl ?_
    refine m_calli F G (cm_X8_opens (d := 2) G σ hT hA hi hb ho (by decide)) ok_X8_opens q1461 is_X8_opens rfl rfl dX8_atom2_12 rfl rfl ?_
    rintro t21 ⟨hN21, hA21, hb21, ho21⟩
    have hE21 : pEq σ t21 := pEq.trans pEq.rf hN21
    have hi21 : tN b z i ≤ z := (tN_le hi).2
    refine v_if_eq (tgt := 161) (q := 18) F dX8_atom2_15 rfl rfl (fun c22 => ?_) (fun c22 => ?_)
    · skip
      exact absurd c22 (by decide)
    · skip
      refine v_aload_n F 1 dX8_atom2_18 rfl rfl rfl ?_
      refine m_callx F G (cm_X8_atom3 G t21 (pTx.eq hT hE21) hA21 hi21 hb21 ho21) ok_X8_atom3 q1535 is_X8_atom3 rfl rfl dX8_atom2_19 rfl rfl ?_
      rintro r23 t23 ⟨hN23, hR23⟩
      have hE23 : pEq σ t23 := pEq.trans hE21 hN23
      rcases hp23 : (PX b z 2).1 (tN b z i) with e23 | ⟨f23, j23⟩
      · skip
        rw [hp23] at hR23
        obtain ⟨hb23, hf23⟩ : t23 0 27 = 1 ∧ t23 0 28 = nI e23 := hR23
        refine v_ineg F dX8_atom2_22 rfl ?_
        refine v_istore_n (ls' := [(1, .int (-r23)), (0, .ref (ad 0))]) F dX8_atom2_23 rfl rfl (by decide) rfl ?_
        refine v_aload_n F 1 dX8_atom2_24 rfl rfl rfl ?_
        refine v_dup F dX8_atom2_25 rfl rfl ?_
        refine m_get F G 26 (w := .int (t23 0 26)) (by decide) q1279 rfl dX8_atom2_26 rfl ?_
        refine v_iconst (x := 1) F dX8_atom2_29 rfl (by decide) ?_
        refine v_isub F dX8_atom2_30 rfl ?_
        refine m_put26 F G q1279 dX8_atom2_31 rfl ?_
        refine v_goto (tgt := 161) F dX8_atom2_34 rfl ?_
        refine v_iload_n F 0 dX8_atom2_161 rfl rfl rfl ?_
        exact v_retx F dX8_atom2_162 rfl (⟨(pEq.u hE23 (j := 26) (by decide) ((t23 0 26) - 1)), pRes.e ((PXa 2).trans (atG_ne c1 hp23)) hb23 hf23⟩)
      · skip
        rw [hp23] at hR23
        obtain ⟨hr23, hA23, hb23, ho23⟩ : r23 = f23 (rho t21) ∧ pAt b z t23 j23 ∧ t23 0 27 = 0 ∧ t23 0 26 = nI 3 := hR23
        rw [rho_eq hE21] at hr23
        have hg23 := (PX_good 2).1 _ _ _ hi21 hp23
        have hi23 : j23 ≤ z := hg23.2
        refine v_ineg F dX8_atom2_22 rfl ?_
        refine v_istore_n (ls' := [(1, .int (-r23)), (0, .ref (ad 0))]) F dX8_atom2_23 rfl rfl (by decide) rfl ?_
        refine v_aload_n F 1 dX8_atom2_24 rfl rfl rfl ?_
        refine v_dup F dX8_atom2_25 rfl rfl ?_
        refine m_get F G 26 (w := .int (t23 0 26)) (by decide) q1279 rfl dX8_atom2_26 rfl ?_
        refine v_int F (ho23) ?_
        refine v_iconst (x := 1) F dX8_atom2_29 rfl (by decide) ?_
        refine v_isub F dX8_atom2_30 rfl ?_
        refine v_int F (y := 2) (by decide) ?_
        refine m_put26 F G q1279 dX8_atom2_31 rfl ?_
        refine v_goto (tgt := 161) F dX8_atom2_34 rfl ?_
        refine v_iload_n F 0 dX8_atom2_161 rfl rfl rfl ?_
        exact v_retx F dX8_atom2_162 rfl (⟨(pEq.u hE23 (j := 26) (by decide) 2), pRes.o ((PXa 2).trans (atG_no c1 hp23)) (by rw [hr23]) (pAt.u hA23 (j := 26) (x := 2) (by decide)) hb23 rfl⟩)
theorem ok_X8_term2 : vv_oc yX8_term2 2 0 (ws_ yX8_term2 cX8_term2 2 (some .int)) := vv_ok.oc (rt := (some .int)) ⟨q1554, q133, by decide +kernel, by decide +kernel⟩
theorem is_X8_term2 : Cond.instanceMethod yX8_term2 ∈ lw_all ∧ Cond.selects RX8 yX8_term2 yX8_term2 ∈ lw_all := ⟨q1553, qs84⟩
set_option maxHeartbeats 4000000 in
theorem cm_X8_term2 {l : Launch} {Kf : State → Prop} {D : va_G} {ad : Nat → Nat} {cI cZ : ClassId} {A : Nat → Prop} (G : mG A Kf D cI cZ) {b : Nat → Int32} {z t i : Nat} (σ : mS)  (hT : pTx b z t σ) (hA : pAt b z σ i) (hi : i ≤ z) (hb : σ 0 27 = 0) (ho : σ 0 26 = nI 2) : vv_Ct l yX8_term2 (ws_ yX8_term2 cX8_term2 2 (some .int)) (rm 23 508) Kf (mWd D ad cI cZ A) A [.ref (ad 0)] σ (vv_x (fun r u => pEq σ u ∧ pRes b z 2 σ u r ((teG b z (PX b z 3).1) i))) := by
  refine vv_of (by decide +kernel) (Nat.le_of_ble_eq_true rfl) ?_
  intro v (F : vv_F v l cX8_term2 2 RX8 "term2" (some .int) [] (rm 23 508) Kf (mWd D ad cI cZ A) A _)
  show v σ 0 0 0 [(0, .ref (ad 0))] []
  refine v_aload_n F 0 dX8_term2_0 rfl rfl rfl ?_
  refine m_callx F G (cm_X8_atom2 G σ hT hA hi hb ho) ok_X8_atom2 q1555 is_X8_atom2 rfl rfl dX8_term2_1 rfl rfl ?_
  rintro r1 t1 ⟨hN1, hR1⟩
  have hE1 : pEq σ t1 := pEq.trans pEq.rf hN1
  rcases hp1 : (PX b z 3).1 i with e1 | ⟨f1, j1⟩
  · skip
    rw [hp1] at hR1
    obtain ⟨hb1, hf1⟩ : t1 0 27 = 1 ∧ t1 0 28 = nI e1 := hR1
    refine v_istore_n (ls' := [(1, .int r1), (0, .ref (ad 0))]) F dX8_term2_4 rfl rfl (by decide) rfl ?_
    refine v_aload_n F 1 dX8_term2_5 rfl rfl rfl ?_
    refine v_bipush (x := 42) F dX8_term2_6 rfl (by decide) ?_
    refine m_calli F G (cm_X8_isSign_b G t1 42 hb1) ok_X8_isSign q1497 is_X8_isSign rfl rfl dX8_term2_8 rfl rfl ?_
    intro u0 hu0; subst u0
    refine v_if_eq (tgt := 28) (q := 14) F dX8_term2_11 rfl rfl (fun c2 => ?_) (fun c2 => ?_)
    · skip
      refine v_iload_n F 0 dX8_term2_28 rfl rfl rfl ?_
      exact v_retx F dX8_term2_29 rfl (⟨hE1, pRes.e (chG_er hp1) hb1 hf1⟩)
    · skip
      exact absurd c2 (by decide)
  · skip
    rw [hp1] at hR1
    obtain ⟨hr1, hA1, hb1, ho1⟩ : r1 = f1 (rho σ) ∧ pAt b z t1 j1 ∧ t1 0 27 = 0 ∧ t1 0 26 = nI 2 := hR1
    rw [rho_eq pEq.rf] at hr1
    have hg1 := (PX_good 3).1 _ _ _ hi hp1
    have hi1 : j1 ≤ z := hg1.2
    refine v_istore_n (ls' := [(1, .int r1), (0, .ref (ad 0))]) F dX8_term2_4 rfl rfl (by decide) rfl ?_
    have L5 : ∀ (n : Nat) (s : mS) (f : (Nat → Int32) → Int32) (j : Nat) (x : Int32) (hEs : pEq σ s) (hAs : pAt b z s j) (hbs : s 0 27 = 0) (hos : s 0 26 = nI 2) (hj : j ≤ z) (hx : x = f (rho σ)) (hL : (teG b z (PX b z 3).1) i = loG b z (fun i => decide (sg b z i 42)) (PX b z 3).1 (fun _ x y => x * y) n f j) (hn : z - j < n), v s 0 0 5 [(0, .ref (ad 0)), (1, .int x)] [] := by
      intro n
      induction n with
      | zero => intro s f j x hEs hAs hbs hos hj hx hL hn; exact absurd hn (Nat.not_lt_zero _)
      | succ n ih5 =>
        intro s f j x hEs hAs hbs hos hj hx hL hn
        refine v_aload_n F 0 dX8_term2_5 rfl rfl rfl ?_
        refine v_bipush (x := 42) F dX8_term2_6 rfl (by decide) ?_
        refine m_calli F G (cm_X8_isSign G s 42 hAs hbs) ok_X8_isSign q1497 is_X8_isSign rfl rfl dX8_term2_8 rfl rfl ?_
        intro u0 hu0; subst u0
        refine v_if_eqB (p := (sg b z j 42)) (tgt := 28) (q := 14) F dX8_term2_11 rfl rfl (fun c3 => ?_) (fun c3 => ?_)
        · skip
          refine v_iload_n F 1 dX8_term2_28 rfl rfl rfl ?_
          exact v_retx F dX8_term2_29 rfl (⟨hEs, pRes.o (hL.trans (loG_ou (fun h => c3 (of_decide_eq_true h)))) (hx) hAs hbs hos⟩)
        · skip
          have hs9 := (sg_lt hj c3).1
          refine v_aload_n F 0 dX8_term2_14 rfl rfl rfl ?_
          refine m_calln F G (cm_X8_next (i := tN b z j) G s (pTx.eq hT hEs) hAs.2.2.1 (tN_le hj).2) ok_X8_next q1421 is_X8_next rfl rfl dX8_term2_15 rfl rfl ?_
          rintro t4 ⟨hN4, hA4⟩
          have hE4 : pEq σ t4 := pEq.trans hEs hN4.p
          have hb4 : t4 0 27 = 0 := (hN4 0 27 (by omega)).trans hbs
          have ho4 : t4 0 26 = nI 2 := (hN4 0 26 (by omega)).trans hos
          have hi4 : tN b z j ≤ z := (tN_le hj).2
          refine v_iload_n F 1 dX8_term2_18 rfl rfl rfl ?_
          refine v_aload_n F 0 dX8_term2_19 rfl rfl rfl ?_
          refine m_callx F G (cm_X8_atom2 G t4 (pTx.eq hT hE4) hA4 hi4 hb4 ho4) ok_X8_atom2 q1555 is_X8_atom2 rfl rfl dX8_term2_20 rfl rfl ?_
          rintro r5 t5 ⟨hN5, hR5⟩
          have hE5 : pEq σ t5 := pEq.trans hE4 hN5
          rcases hp5 : (PX b z 3).1 (tN b z j) with e5 | ⟨f5, j5⟩
          · skip
            rw [hp5] at hR5
            obtain ⟨hb5, hf5⟩ : t5 0 27 = 1 ∧ t5 0 28 = nI e5 := hR5
            refine v_imul F dX8_term2_23 rfl ?_
            refine v_istore_n (ls' := [(1, .int (x * r5)), (0, .ref (ad 0))]) F dX8_term2_24 rfl rfl (by decide) rfl ?_
            refine v_goto (tgt := 5) F dX8_term2_25 rfl ?_
            refine v_aload_n F 1 dX8_term2_5 rfl rfl rfl ?_
            refine v_bipush (x := 42) F dX8_term2_6 rfl (by decide) ?_
            refine m_calli F G (cm_X8_isSign_b G t5 42 hb5) ok_X8_isSign q1497 is_X8_isSign rfl rfl dX8_term2_8 rfl rfl ?_
            intro u0 hu0; subst u0
            refine v_if_eq (tgt := 28) (q := 14) F dX8_term2_11 rfl rfl (fun c6 => ?_) (fun c6 => ?_)
            · skip
              refine v_iload_n F 0 dX8_term2_28 rfl rfl rfl ?_
              exact v_retx F dX8_term2_29 rfl (⟨hE5, pRes.e (hL.trans (loG_er (decide_eq_true c3) hp5)) hb5 hf5⟩)
            · skip
              exact absurd c6 (by decide)
          · skip
            rw [hp5] at hR5
            obtain ⟨hr5, hA5, hb5, ho5⟩ : r5 = f5 (rho t4) ∧ pAt b z t5 j5 ∧ t5 0 27 = 0 ∧ t5 0 26 = nI 2 := hR5
            rw [rho_eq hE4] at hr5
            have hg5 := (PX_good 3).1 _ _ _ hi4 hp5
            have hi5 : j5 ≤ z := hg5.2
            refine v_imul F dX8_term2_23 rfl ?_
            refine v_istore_n (ls' := [(1, .int (x * r5)), (0, .ref (ad 0))]) F dX8_term2_24 rfl rfl (by decide) rfl ?_
            have hs8 := hg5
            refine v_goto (tgt := 5) F dX8_term2_25 rfl ?_
            refine v_sub (ls' := [(0, .ref (ad 0)), (1, .int (x * r5))]) F [1, 0] rfl ?_
            exact ih5 t5 (fun ρ => (f ρ) * (f5 ρ)) j5 (x * r5) hE5 hA5 hb5 ho5 hi5 (by rw [hx, hr5]) (hL.trans (loG_go (decide_eq_true c3) hp5)) (by have := hs9; omega)
    refine v_sub (ls' := [(0, .ref (ad 0)), (1, .int r1)]) F [1, 0] rfl ?_
    exact L5 (z + 1) t1 f1 j1 r1 hE1 hA1 hb1 ho1 hi1 hr1 (chG_go hp1) (by omega)
theorem ok_X8_added2 : vv_oc yX8_added2 4 0 (ws_ yX8_added2 cX8_added2 4 (some .int)) := vv_ok.oc (rt := (some .int)) ⟨q1550, q133, by decide +kernel, by decide +kernel⟩
theorem is_X8_added2 : Cond.instanceMethod yX8_added2 ∈ lw_all ∧ Cond.selects RX8 yX8_added2 yX8_added2 ∈ lw_all := ⟨q1549, qs83⟩
set_option maxHeartbeats 4000000 in
theorem cm_X8_added2 {l : Launch} {Kf : State → Prop} {D : va_G} {ad : Nat → Nat} {cI cZ : ClassId} {A : Nat → Prop} (G : mG A Kf D cI cZ) {b : Nat → Int32} {z t i : Nat} (σ : mS)  (hT : pTx b z t σ) (hA : pAt b z σ i) (hi : i ≤ z) (hb : σ 0 27 = 0) (ho : σ 0 26 = nI 2) : vv_Ct l yX8_added2 (ws_ yX8_added2 cX8_added2 4 (some .int)) (rm 24 529) Kf (mWd D ad cI cZ A) A [.ref (ad 0)] σ (vv_x (fun r u => pEq σ u ∧ pRes b z 2 σ u r ((adG b z (PX b z 3).1) i))) := by
  refine vv_of (by decide +kernel) (Nat.le_of_ble_eq_true rfl) ?_
  intro v (F : vv_F v l cX8_added2 4 RX8 "added2" (some .int) [] (rm 24 529) Kf (mWd D ad cI cZ A) A _)
  show v σ 0 0 0 [(0, .ref (ad 0))] []
  refine v_aload_n F 0 dX8_added2_0 rfl rfl rfl ?_
  refine m_callx F G (cm_X8_term2 G σ hT hA hi hb ho) ok_X8_term2 q1551 is_X8_term2 rfl rfl dX8_added2_1 rfl rfl ?_
  rintro r1 t1 ⟨hN1, hR1⟩
  have hE1 : pEq σ t1 := pEq.trans pEq.rf hN1
  rcases hp1 : (teG b z (PX b z 3).1) i with e1 | ⟨f1, j1⟩
  · skip
    rw [hp1] at hR1
    obtain ⟨hb1, hf1⟩ : t1 0 27 = 1 ∧ t1 0 28 = nI e1 := hR1
    refine v_istore_n (ls' := [(1, .int r1), (0, .ref (ad 0))]) F dX8_added2_4 rfl rfl (by decide) rfl ?_
    refine v_aload_n F 1 dX8_added2_5 rfl rfl rfl ?_
    refine v_bipush (x := 43) F dX8_added2_6 rfl (by decide) ?_
    refine m_calli F G (cm_X8_isSign_b G t1 43 hb1) ok_X8_isSign q1497 is_X8_isSign rfl rfl dX8_added2_8 rfl rfl ?_
    intro u0 hu0; subst u0
    refine v_if_ne (tgt := 23) (q := 14) F dX8_added2_11 rfl rfl (fun c2 => ?_) (fun c2 => ?_)
    · skip
      exact absurd c2 (by decide)
    · skip
      refine v_aload_n F 1 dX8_added2_14 rfl rfl rfl ?_
      refine v_bipush (x := 45) F dX8_added2_15 rfl (by decide) ?_
      refine m_calli F G (cm_X8_isSign_b G t1 45 hb1) ok_X8_isSign q1497 is_X8_isSign rfl rfl dX8_added2_17 rfl rfl ?_
      intro u0 hu0; subst u0
      refine v_if_eq (tgt := 66) (q := 23) F dX8_added2_20 rfl rfl (fun c3 => ?_) (fun c3 => ?_)
      · skip
        refine v_iload_n F 0 dX8_added2_66 rfl rfl rfl ?_
        exact v_retx F dX8_added2_67 rfl (⟨hE1, pRes.e (chG_er hp1) hb1 hf1⟩)
      · skip
        exact absurd c3 (by decide)
  · skip
    rw [hp1] at hR1
    obtain ⟨hr1, hA1, hb1, ho1⟩ : r1 = f1 (rho σ) ∧ pAt b z t1 j1 ∧ t1 0 27 = 0 ∧ t1 0 26 = nI 2 := hR1
    rw [rho_eq pEq.rf] at hr1
    have hg1 := (teG_good (PX_good 3).1) _ _ _ hi hp1
    have hi1 : j1 ≤ z := hg1.2
    refine v_istore_n (ls' := [(1, .int r1), (0, .ref (ad 0))]) F dX8_added2_4 rfl rfl (by decide) rfl ?_
    have L5 : ∀ (n : Nat) (s : mS) (f : (Nat → Int32) → Int32) (j : Nat) (x : Int32) (hEs : pEq σ s) (hAs : pAt b z s j) (hbs : s 0 27 = 0) (hos : s 0 26 = nI 2) (hj : j ≤ z) (hx : x = f (rho σ)) (hL : (adG b z (PX b z 3).1) i = loG b z (fun i => decide (sg b z i 43 ∨ sg b z i 45)) (teG b z (PX b z 3).1) (fun i x y => if tW b z i = 43 then x + y else x - y) n f j) (hn : z - j < n), v s 0 0 5 [(0, .ref (ad 0)), (1, .int x)] [] := by
      intro n
      induction n with
      | zero => intro s f j x hEs hAs hbs hos hj hx hL hn; exact absurd hn (Nat.not_lt_zero _)
      | succ n ih5 =>
        intro s f j x hEs hAs hbs hos hj hx hL hn
        refine v_aload_n F 0 dX8_added2_5 rfl rfl rfl ?_
        refine v_bipush (x := 43) F dX8_added2_6 rfl (by decide) ?_
        refine m_calli F G (cm_X8_isSign G s 43 hAs hbs) ok_X8_isSign q1497 is_X8_isSign rfl rfl dX8_added2_8 rfl rfl ?_
        intro u0 hu0; subst u0
        refine v_if_neB (p := (sg b z j 43)) (tgt := 23) (q := 14) F dX8_added2_11 rfl rfl (fun c4 => ?_) (fun c4 => ?_)
        · skip
          have hs9 := (sg_lt hj c4).1
          have h25 : s 0 25 = tW b z j := hAs.2.2.2 (Or.inr c4.1)
          refine v_aload_n F 0 dX8_added2_23 rfl rfl rfl ?_
          refine m_get F G 25 (w := .long (Int32.toInt64 (s 0 25))) (by decide) q1278 rfl dX8_added2_24 rfl ?_
          refine v_ldc2 F q1505 dX8_added2_27 rfl ?_
          refine v_lng (y := (43 : Int32).toInt64) F (by decide) ?_
          refine v_lcmp F dX8_added2_30 rfl ?_
          refine v_if_neLI (tgt := 38) (q := 34) F dX8_added2_31 rfl rfl (fun c5 => ?_) (fun c5 => ?_)
          · skip
            refine v_iconst (x := 0) F dX8_added2_38 rfl (by decide) ?_
            refine v_istore_n (ls' := [(2, .int 0), (0, .ref (ad 0)), (1, .int x)]) F dX8_added2_39 rfl rfl (by decide) rfl ?_
            refine v_aload_n F 1 dX8_added2_40 rfl rfl rfl ?_
            refine m_calln F G (cm_X8_next (i := tN b z j) G s (pTx.eq hT hEs) hAs.2.2.1 (tN_le hj).2) ok_X8_next q1421 is_X8_next rfl rfl dX8_added2_41 rfl rfl ?_
            rintro t6 ⟨hN6, hA6⟩
            have hE6 : pEq σ t6 := pEq.trans hEs hN6.p
            have hb6 : t6 0 27 = 0 := (hN6 0 27 (by omega)).trans hbs
            have ho6 : t6 0 26 = nI 2 := (hN6 0 26 (by omega)).trans hos
            have hi6 : tN b z j ≤ z := (tN_le hj).2
            refine v_aload_n F 1 dX8_added2_44 rfl rfl rfl ?_
            refine m_callx F G (cm_X8_term2 G t6 (pTx.eq hT hE6) hA6 hi6 hb6 ho6) ok_X8_term2 q1551 is_X8_term2 rfl rfl dX8_added2_45 rfl rfl ?_
            rintro r7 t7 ⟨hN7, hR7⟩
            have hE7 : pEq σ t7 := pEq.trans hE6 hN7
            rcases hp7 : (teG b z (PX b z 3).1) (tN b z j) with e7 | ⟨f7, j7⟩
            · skip
              rw [hp7] at hR7
              obtain ⟨hb7, hf7⟩ : t7 0 27 = 1 ∧ t7 0 28 = nI e7 := hR7
              refine v_istore_n (ls' := [(3, .int r7), (2, .int 0), (0, .ref (ad 0)), (1, .int x)]) F dX8_added2_48 rfl rfl (by decide) rfl ?_
              refine v_iload_n F 1 dX8_added2_49 rfl rfl rfl ?_
              refine v_if_eq (tgt := 59) (q := 53) F dX8_added2_50 rfl rfl (fun c8 => ?_) (fun c8 => ?_)
              · skip
                refine v_iload_n F 3 dX8_added2_59 rfl rfl rfl ?_
                refine v_iload_n F 0 dX8_added2_60 rfl rfl rfl ?_
                refine v_isub F dX8_added2_61 rfl ?_
                refine v_istore_n (ls' := [(1, .int (x - r7)), (3, .int r7), (2, .int 0), (0, .ref (ad 0))]) F dX8_added2_62 rfl rfl (by decide) rfl ?_
                refine v_goto (tgt := 5) F dX8_added2_63 rfl ?_
                refine v_aload_n F 3 dX8_added2_5 rfl rfl rfl ?_
                refine v_bipush (x := 43) F dX8_added2_6 rfl (by decide) ?_
                refine m_calli F G (cm_X8_isSign_b G t7 43 hb7) ok_X8_isSign q1497 is_X8_isSign rfl rfl dX8_added2_8 rfl rfl ?_
                intro u0 hu0; subst u0
                refine v_if_ne (tgt := 23) (q := 14) F dX8_added2_11 rfl rfl (fun c9 => ?_) (fun c9 => ?_)
                · skip
                  exact absurd c9 (by decide)
                · skip
                  refine v_aload_n F 3 dX8_added2_14 rfl rfl rfl ?_
                  refine v_bipush (x := 45) F dX8_added2_15 rfl (by decide) ?_
                  refine m_calli F G (cm_X8_isSign_b G t7 45 hb7) ok_X8_isSign q1497 is_X8_isSign rfl rfl dX8_added2_17 rfl rfl ?_
                  intro u0 hu0; subst u0
                  refine v_if_eq (tgt := 66) (q := 23) F dX8_added2_20 rfl rfl (fun c10 => ?_) (fun c10 => ?_)
                  · skip
                    refine v_iload_n F 0 dX8_added2_66 rfl rfl rfl ?_
                    exact v_retx F dX8_added2_67 rfl (⟨hE7, pRes.e (hL.trans (loG_er (decide_eq_true (Or.inl c4)) hp7)) hb7 hf7⟩)
                  · skip
                    exact absurd c10 (by decide)
              · skip
                exact absurd c8 (by decide)
            · skip
              rw [hp7] at hR7
              obtain ⟨hr7, hA7, hb7, ho7⟩ : r7 = f7 (rho t6) ∧ pAt b z t7 j7 ∧ t7 0 27 = 0 ∧ t7 0 26 = nI 2 := hR7
              rw [rho_eq hE6] at hr7
              have hg7 := (teG_good (PX_good 3).1) _ _ _ hi6 hp7
              have hi7 : j7 ≤ z := hg7.2
              refine v_istore_n (ls' := [(3, .int r7), (2, .int 0), (0, .ref (ad 0)), (1, .int x)]) F dX8_added2_48 rfl rfl (by decide) rfl ?_
              refine v_iload_n F 1 dX8_added2_49 rfl rfl rfl ?_
              refine v_if_eq (tgt := 59) (q := 53) F dX8_added2_50 rfl rfl (fun c11 => ?_) (fun c11 => ?_)
              · skip
                refine v_iload_n F 3 dX8_added2_59 rfl rfl rfl ?_
                refine v_iload_n F 0 dX8_added2_60 rfl rfl rfl ?_
                refine v_isub F dX8_added2_61 rfl ?_
                refine v_istore_n (ls' := [(1, .int (x - r7)), (3, .int r7), (2, .int 0), (0, .ref (ad 0))]) F dX8_added2_62 rfl rfl (by decide) rfl ?_
                refine v_goto (tgt := 5) F dX8_added2_63 rfl ?_
                refine v_sub (ls' := [(0, .ref (ad 0)), (1, .int (x - r7))]) F [3, 0] rfl ?_
                exact ih5 t7 (fun ρ => if tW b z j = 43 then (f ρ) + (f7 ρ) else (f ρ) - (f7 ρ)) j7 (x - r7) hE7 hA7 hb7 ho7 hi7 (by show _ = (if tW b z j = 43 then _ else _); rw [if_neg (fun h => c5 (h25.trans h)), hx, hr7]) (hL.trans (loG_go (decide_eq_true (Or.inl c4)) hp7)) (by have := hs9; omega)
              · skip
                exact absurd c11 (by decide)
          · skip
            refine v_iconst (x := 1) F dX8_added2_34 rfl (by decide) ?_
            refine v_goto (tgt := 39) F dX8_added2_35 rfl ?_
            refine v_istore_n (ls' := [(2, .int 1), (0, .ref (ad 0)), (1, .int x)]) F dX8_added2_39 rfl rfl (by decide) rfl ?_
            refine v_aload_n F 1 dX8_added2_40 rfl rfl rfl ?_
            refine m_calln F G (cm_X8_next (i := tN b z j) G s (pTx.eq hT hEs) hAs.2.2.1 (tN_le hj).2) ok_X8_next q1421 is_X8_next rfl rfl dX8_added2_41 rfl rfl ?_
            rintro t12 ⟨hN12, hA12⟩
            have hE12 : pEq σ t12 := pEq.trans hEs hN12.p
            have hb12 : t12 0 27 = 0 := (hN12 0 27 (by omega)).trans hbs
            have ho12 : t12 0 26 = nI 2 := (hN12 0 26 (by omega)).trans hos
            have hi12 : tN b z j ≤ z := (tN_le hj).2
            refine v_aload_n F 1 dX8_added2_44 rfl rfl rfl ?_
            refine m_callx F G (cm_X8_term2 G t12 (pTx.eq hT hE12) hA12 hi12 hb12 ho12) ok_X8_term2 q1551 is_X8_term2 rfl rfl dX8_added2_45 rfl rfl ?_
            rintro r13 t13 ⟨hN13, hR13⟩
            have hE13 : pEq σ t13 := pEq.trans hE12 hN13
            rcases hp13 : (teG b z (PX b z 3).1) (tN b z j) with e13 | ⟨f13, j13⟩
            · skip
              rw [hp13] at hR13
              obtain ⟨hb13, hf13⟩ : t13 0 27 = 1 ∧ t13 0 28 = nI e13 := hR13
              refine v_istore_n (ls' := [(3, .int r13), (2, .int 1), (0, .ref (ad 0)), (1, .int x)]) F dX8_added2_48 rfl rfl (by decide) rfl ?_
              refine v_iload_n F 1 dX8_added2_49 rfl rfl rfl ?_
              refine v_if_eq (tgt := 59) (q := 53) F dX8_added2_50 rfl rfl (fun c14 => ?_) (fun c14 => ?_)
              · skip
                exact absurd c14 (by decide)
              · skip
                refine v_iload_n F 3 dX8_added2_53 rfl rfl rfl ?_
                refine v_iload_n F 0 dX8_added2_54 rfl rfl rfl ?_
                refine v_iadd F dX8_added2_55 rfl ?_
                refine v_goto (tgt := 62) F dX8_added2_56 rfl ?_
                refine v_istore_n (ls' := [(1, .int (x + r13)), (3, .int r13), (2, .int 1), (0, .ref (ad 0))]) F dX8_added2_62 rfl rfl (by decide) rfl ?_
                refine v_goto (tgt := 5) F dX8_added2_63 rfl ?_
                refine v_aload_n F 3 dX8_added2_5 rfl rfl rfl ?_
                refine v_bipush (x := 43) F dX8_added2_6 rfl (by decide) ?_
                refine m_calli F G (cm_X8_isSign_b G t13 43 hb13) ok_X8_isSign q1497 is_X8_isSign rfl rfl dX8_added2_8 rfl rfl ?_
                intro u0 hu0; subst u0
                refine v_if_ne (tgt := 23) (q := 14) F dX8_added2_11 rfl rfl (fun c15 => ?_) (fun c15 => ?_)
                · skip
                  exact absurd c15 (by decide)
                · skip
                  refine v_aload_n F 3 dX8_added2_14 rfl rfl rfl ?_
                  refine v_bipush (x := 45) F dX8_added2_15 rfl (by decide) ?_
                  refine m_calli F G (cm_X8_isSign_b G t13 45 hb13) ok_X8_isSign q1497 is_X8_isSign rfl rfl dX8_added2_17 rfl rfl ?_
                  intro u0 hu0; subst u0
                  refine v_if_eq (tgt := 66) (q := 23) F dX8_added2_20 rfl rfl (fun c16 => ?_) (fun c16 => ?_)
                  · skip
                    refine v_iload_n F 0 dX8_added2_66 rfl rfl rfl ?_
                    exact v_retx F dX8_added2_67 rfl (⟨hE13, pRes.e (hL.trans (loG_er (decide_eq_true (Or.inl c4)) hp13)) hb13 hf13⟩)
                  · skip
                    exact absurd c16 (by decide)
            · skip
              rw [hp13] at hR13
              obtain ⟨hr13, hA13, hb13, ho13⟩ : r13 = f13 (rho t12) ∧ pAt b z t13 j13 ∧ t13 0 27 = 0 ∧ t13 0 26 = nI 2 := hR13
              rw [rho_eq hE12] at hr13
              have hg13 := (teG_good (PX_good 3).1) _ _ _ hi12 hp13
              have hi13 : j13 ≤ z := hg13.2
              refine v_istore_n (ls' := [(3, .int r13), (2, .int 1), (0, .ref (ad 0)), (1, .int x)]) F dX8_added2_48 rfl rfl (by decide) rfl ?_
              refine v_iload_n F 1 dX8_added2_49 rfl rfl rfl ?_
              refine v_if_eq (tgt := 59) (q := 53) F dX8_added2_50 rfl rfl (fun c17 => ?_) (fun c17 => ?_)
              · skip
                exact absurd c17 (by decide)
              · skip
                refine v_iload_n F 3 dX8_added2_53 rfl rfl rfl ?_
                refine v_iload_n F 0 dX8_added2_54 rfl rfl rfl ?_
                refine v_iadd F dX8_added2_55 rfl ?_
                refine v_goto (tgt := 62) F dX8_added2_56 rfl ?_
                refine v_istore_n (ls' := [(1, .int (x + r13)), (3, .int r13), (2, .int 1), (0, .ref (ad 0))]) F dX8_added2_62 rfl rfl (by decide) rfl ?_
                refine v_goto (tgt := 5) F dX8_added2_63 rfl ?_
                refine v_sub (ls' := [(0, .ref (ad 0)), (1, .int (x + r13))]) F [3, 0] rfl ?_
                exact ih5 t13 (fun ρ => if tW b z j = 43 then (f ρ) + (f13 ρ) else (f ρ) - (f13 ρ)) j13 (x + r13) hE13 hA13 hb13 ho13 hi13 (by show _ = (if tW b z j = 43 then _ else _); rw [if_pos (h25.symm.trans c5), hx, hr13]) (hL.trans (loG_go (decide_eq_true (Or.inl c4)) hp13)) (by have := hs9; omega)
        · skip
          refine v_aload_n F 0 dX8_added2_14 rfl rfl rfl ?_
          refine v_bipush (x := 45) F dX8_added2_15 rfl (by decide) ?_
          refine m_calli F G (cm_X8_isSign G s 45 hAs hbs) ok_X8_isSign q1497 is_X8_isSign rfl rfl dX8_added2_17 rfl rfl ?_
          intro u0 hu0; subst u0
          refine v_if_eqB (p := (sg b z j 45)) (tgt := 66) (q := 23) F dX8_added2_20 rfl rfl (fun c18 => ?_) (fun c18 => ?_)
          · skip
            refine v_iload_n F 1 dX8_added2_66 rfl rfl rfl ?_
            exact v_retx F dX8_added2_67 rfl (⟨hEs, pRes.o (hL.trans (loG_ou (fun h => (fun h => h.elim c4 c18) (of_decide_eq_true h)))) (hx) hAs hbs hos⟩)
          · skip
            have hs9 := (sg_lt hj c18).1
            have h25 : s 0 25 = tW b z j := hAs.2.2.2 (Or.inr c18.1)
            refine v_aload_n F 0 dX8_added2_23 rfl rfl rfl ?_
            refine m_get F G 25 (w := .long (Int32.toInt64 (s 0 25))) (by decide) q1278 rfl dX8_added2_24 rfl ?_
            refine v_ldc2 F q1505 dX8_added2_27 rfl ?_
            refine v_lng (y := (43 : Int32).toInt64) F (by decide) ?_
            refine v_lcmp F dX8_added2_30 rfl ?_
            refine v_if_neLI (tgt := 38) (q := 34) F dX8_added2_31 rfl rfl (fun c19 => ?_) (fun c19 => ?_)
            · skip
              refine v_iconst (x := 0) F dX8_added2_38 rfl (by decide) ?_
              refine v_istore_n (ls' := [(2, .int 0), (0, .ref (ad 0)), (1, .int x)]) F dX8_added2_39 rfl rfl (by decide) rfl ?_
              refine v_aload_n F 1 dX8_added2_40 rfl rfl rfl ?_
              refine m_calln F G (cm_X8_next (i := tN b z j) G s (pTx.eq hT hEs) hAs.2.2.1 (tN_le hj).2) ok_X8_next q1421 is_X8_next rfl rfl dX8_added2_41 rfl rfl ?_
              rintro t20 ⟨hN20, hA20⟩
              have hE20 : pEq σ t20 := pEq.trans hEs hN20.p
              have hb20 : t20 0 27 = 0 := (hN20 0 27 (by omega)).trans hbs
              have ho20 : t20 0 26 = nI 2 := (hN20 0 26 (by omega)).trans hos
              have hi20 : tN b z j ≤ z := (tN_le hj).2
              refine v_aload_n F 1 dX8_added2_44 rfl rfl rfl ?_
              refine m_callx F G (cm_X8_term2 G t20 (pTx.eq hT hE20) hA20 hi20 hb20 ho20) ok_X8_term2 q1551 is_X8_term2 rfl rfl dX8_added2_45 rfl rfl ?_
              rintro r21 t21 ⟨hN21, hR21⟩
              have hE21 : pEq σ t21 := pEq.trans hE20 hN21
              rcases hp21 : (teG b z (PX b z 3).1) (tN b z j) with e21 | ⟨f21, j21⟩
              · skip
                rw [hp21] at hR21
                obtain ⟨hb21, hf21⟩ : t21 0 27 = 1 ∧ t21 0 28 = nI e21 := hR21
                refine v_istore_n (ls' := [(3, .int r21), (2, .int 0), (0, .ref (ad 0)), (1, .int x)]) F dX8_added2_48 rfl rfl (by decide) rfl ?_
                refine v_iload_n F 1 dX8_added2_49 rfl rfl rfl ?_
                refine v_if_eq (tgt := 59) (q := 53) F dX8_added2_50 rfl rfl (fun c22 => ?_) (fun c22 => ?_)
                · skip
                  refine v_iload_n F 3 dX8_added2_59 rfl rfl rfl ?_
                  refine v_iload_n F 0 dX8_added2_60 rfl rfl rfl ?_
                  refine v_isub F dX8_added2_61 rfl ?_
                  refine v_istore_n (ls' := [(1, .int (x - r21)), (3, .int r21), (2, .int 0), (0, .ref (ad 0))]) F dX8_added2_62 rfl rfl (by decide) rfl ?_
                  refine v_goto (tgt := 5) F dX8_added2_63 rfl ?_
                  refine v_aload_n F 3 dX8_added2_5 rfl rfl rfl ?_
                  refine v_bipush (x := 43) F dX8_added2_6 rfl (by decide) ?_
                  refine m_calli F G (cm_X8_isSign_b G t21 43 hb21) ok_X8_isSign q1497 is_X8_isSign rfl rfl dX8_added2_8 rfl rfl ?_
                  intro u0 hu0; subst u0
                  refine v_if_ne (tgt := 23) (q := 14) F dX8_added2_11 rfl rfl (fun c23 => ?_) (fun c23 => ?_)
                  · skip
                    exact absurd c23 (by decide)
                  · skip
                    refine v_aload_n F 3 dX8_added2_14 rfl rfl rfl ?_
                    refine v_bipush (x := 45) F dX8_added2_15 rfl (by decide) ?_
                    refine m_calli F G (cm_X8_isSign_b G t21 45 hb21) ok_X8_isSign q1497 is_X8_isSign rfl rfl dX8_added2_17 rfl rfl ?_
                    intro u0 hu0; subst u0
                    refine v_if_eq (tgt := 66) (q := 23) F dX8_added2_20 rfl rfl (fun c24 => ?_) (fun c24 => ?_)
                    · skip
                      refine v_iload_n F 0 dX8_added2_66 rfl rfl rfl ?_
                      exact v_retx F dX8_added2_67 rfl (⟨hE21, pRes.e (hL.trans (loG_er (decide_eq_true (Or.inr c18)) hp21)) hb21 hf21⟩)
                    · skip
                      exact absurd c24 (by decide)
                · skip
                  exact absurd c22 (by decide)
              · skip
                rw [hp21] at hR21
                obtain ⟨hr21, hA21, hb21, ho21⟩ : r21 = f21 (rho t20) ∧ pAt b z t21 j21 ∧ t21 0 27 = 0 ∧ t21 0 26 = nI 2 := hR21
                rw [rho_eq hE20] at hr21
                have hg21 := (teG_good (PX_good 3).1) _ _ _ hi20 hp21
                have hi21 : j21 ≤ z := hg21.2
                refine v_istore_n (ls' := [(3, .int r21), (2, .int 0), (0, .ref (ad 0)), (1, .int x)]) F dX8_added2_48 rfl rfl (by decide) rfl ?_
                refine v_iload_n F 1 dX8_added2_49 rfl rfl rfl ?_
                refine v_if_eq (tgt := 59) (q := 53) F dX8_added2_50 rfl rfl (fun c25 => ?_) (fun c25 => ?_)
                · skip
                  refine v_iload_n F 3 dX8_added2_59 rfl rfl rfl ?_
                  refine v_iload_n F 0 dX8_added2_60 rfl rfl rfl ?_
                  refine v_isub F dX8_added2_61 rfl ?_
                  refine v_istore_n (ls' := [(1, .int (x - r21)), (3, .int r21), (2, .int 0), (0, .ref (ad 0))]) F dX8_added2_62 rfl rfl (by decide) rfl ?_
                  refine v_goto (tgt := 5) F dX8_added2_63 rfl ?_
                  refine v_sub (ls' := [(0, .ref (ad 0)), (1, .int (x - r21))]) F [3, 0] rfl ?_
                  exact ih5 t21 (fun ρ => if tW b z j = 43 then (f ρ) + (f21 ρ) else (f ρ) - (f21 ρ)) j21 (x - r21) hE21 hA21 hb21 ho21 hi21 (by show _ = (if tW b z j = 43 then _ else _); rw [if_neg (fun h => c19 (h25.trans h)), hx, hr21]) (hL.trans (loG_go (decide_eq_true (Or.inr c18)) hp21)) (by have := hs9; omega)
                · skip
                  exact absurd c25 (by decide)
            · skip
              refine v_iconst (x := 1) F dX8_added2_34 rfl (by decide) ?_
              refine v_goto (tgt := 39) F dX8_added2_35 rfl ?_
              refine v_istore_n (ls' := [(2, .int 1), (0, .ref (ad 0)), (1, .int x)]) F dX8_added2_39 rfl rfl (by decide) rfl ?_
              refine v_aload_n F 1 dX8_added2_40 rfl rfl rfl ?_
              refine m_calln F G (cm_X8_next (i := tN b z j) G s (pTx.eq hT hEs) hAs.2.2.1 (tN_le hj).2) ok_X8_next q1421 is_X8_next rfl rfl dX8_added2_41 rfl rfl ?_
              rintro t26 ⟨hN26, hA26⟩
              have hE26 : pEq σ t26 := pEq.trans hEs hN26.p
              have hb26 : t26 0 27 = 0 := (hN26 0 27 (by omega)).trans hbs
              have ho26 : t26 0 26 = nI 2 := (hN26 0 26 (by omega)).trans hos
              have hi26 : tN b z j ≤ z := (tN_le hj).2
              refine v_aload_n F 1 dX8_added2_44 rfl rfl rfl ?_
              refine m_callx F G (cm_X8_term2 G t26 (pTx.eq hT hE26) hA26 hi26 hb26 ho26) ok_X8_term2 q1551 is_X8_term2 rfl rfl dX8_added2_45 rfl rfl ?_
              rintro r27 t27 ⟨hN27, hR27⟩
              have hE27 : pEq σ t27 := pEq.trans hE26 hN27
              rcases hp27 : (teG b z (PX b z 3).1) (tN b z j) with e27 | ⟨f27, j27⟩
              · skip
                rw [hp27] at hR27
                obtain ⟨hb27, hf27⟩ : t27 0 27 = 1 ∧ t27 0 28 = nI e27 := hR27
                refine v_istore_n (ls' := [(3, .int r27), (2, .int 1), (0, .ref (ad 0)), (1, .int x)]) F dX8_added2_48 rfl rfl (by decide) rfl ?_
                refine v_iload_n F 1 dX8_added2_49 rfl rfl rfl ?_
                refine v_if_eq (tgt := 59) (q := 53) F dX8_added2_50 rfl rfl (fun c28 => ?_) (fun c28 => ?_)
                · skip
                  exact absurd c28 (by decide)
                · skip
                  refine v_iload_n F 3 dX8_added2_53 rfl rfl rfl ?_
                  refine v_iload_n F 0 dX8_added2_54 rfl rfl rfl ?_
                  refine v_iadd F dX8_added2_55 rfl ?_
                  refine v_goto (tgt := 62) F dX8_added2_56 rfl ?_
                  refine v_istore_n (ls' := [(1, .int (x + r27)), (3, .int r27), (2, .int 1), (0, .ref (ad 0))]) F dX8_added2_62 rfl rfl (by decide) rfl ?_
                  refine v_goto (tgt := 5) F dX8_added2_63 rfl ?_
                  refine v_aload_n F 3 dX8_added2_5 rfl rfl rfl ?_
                  refine v_bipush (x := 43) F dX8_added2_6 rfl (by decide) ?_
                  refine m_calli F G (cm_X8_isSign_b G t27 43 hb27) ok_X8_isSign q1497 is_X8_isSign rfl rfl dX8_added2_8 rfl rfl ?_
                  intro u0 hu0; subst u0
                  refine v_if_ne (tgt := 23) (q := 14) F dX8_added2_11 rfl rfl (fun c29 => ?_) (fun c29 => ?_)
                  · skip
                    exact absurd c29 (by decide)
                  · skip
                    refine v_aload_n F 3 dX8_added2_14 rfl rfl rfl ?_
                    refine v_bipush (x := 45) F dX8_added2_15 rfl (by decide) ?_
                    refine m_calli F G (cm_X8_isSign_b G t27 45 hb27) ok_X8_isSign q1497 is_X8_isSign rfl rfl dX8_added2_17 rfl rfl ?_
                    intro u0 hu0; subst u0
                    refine v_if_eq (tgt := 66) (q := 23) F dX8_added2_20 rfl rfl (fun c30 => ?_) (fun c30 => ?_)
                    · skip
                      refine v_iload_n F 0 dX8_added2_66 rfl rfl rfl ?_
                      exact v_retx F dX8_added2_67 rfl (⟨hE27, pRes.e (hL.trans (loG_er (decide_eq_true (Or.inr c18)) hp27)) hb27 hf27⟩)
                    · skip
                      exact absurd c30 (by decide)
              · skip
                rw [hp27] at hR27
                obtain ⟨hr27, hA27, hb27, ho27⟩ : r27 = f27 (rho t26) ∧ pAt b z t27 j27 ∧ t27 0 27 = 0 ∧ t27 0 26 = nI 2 := hR27
                rw [rho_eq hE26] at hr27
                have hg27 := (teG_good (PX_good 3).1) _ _ _ hi26 hp27
                have hi27 : j27 ≤ z := hg27.2
                refine v_istore_n (ls' := [(3, .int r27), (2, .int 1), (0, .ref (ad 0)), (1, .int x)]) F dX8_added2_48 rfl rfl (by decide) rfl ?_
                refine v_iload_n F 1 dX8_added2_49 rfl rfl rfl ?_
                refine v_if_eq (tgt := 59) (q := 53) F dX8_added2_50 rfl rfl (fun c31 => ?_) (fun c31 => ?_)
                · skip
                  exact absurd c31 (by decide)
                · skip
                  refine v_iload_n F 3 dX8_added2_53 rfl rfl rfl ?_
                  refine v_iload_n F 0 dX8_added2_54 rfl rfl rfl ?_
                  refine v_iadd F dX8_added2_55 rfl ?_
                  refine v_goto (tgt := 62) F dX8_added2_56 rfl ?_
                  refine v_istore_n (ls' := [(1, .int (x + r27)), (3, .int r27), (2, .int 1), (0, .ref (ad 0))]) F dX8_added2_62 rfl rfl (by decide) rfl ?_
                  refine v_goto (tgt := 5) F dX8_added2_63 rfl ?_
                  refine v_sub (ls' := [(0, .ref (ad 0)), (1, .int (x + r27))]) F [3, 0] rfl ?_
                  exact ih5 t27 (fun ρ => if tW b z j = 43 then (f ρ) + (f27 ρ) else (f ρ) - (f27 ρ)) j27 (x + r27) hE27 hA27 hb27 ho27 hi27 (by show _ = (if tW b z j = 43 then _ else _); rw [if_pos (h25.symm.trans c19), hx, hr27]) (hL.trans (loG_go (decide_eq_true (Or.inr c18)) hp27)) (by have := hs9; omega)
    refine v_sub (ls' := [(0, .ref (ad 0)), (1, .int r1)]) F [1, 0] rfl ?_
    exact L5 (z + 1) t1 f1 j1 r1 hE1 hA1 hb1 ho1 hi1 hr1 (chG_go hp1) (by omega)
theorem ok_X8_not2 : vv_oc yX8_not2 4 0 (ws_ yX8_not2 cX8_not2 4 (some .int)) := vv_ok.oc (rt := (some .int)) ⟨q1472, q133, by decide +kernel, by decide +kernel⟩
theorem is_X8_not2 : Cond.instanceMethod yX8_not2 ∈ lw_all ∧ Cond.selects RX8 yX8_not2 yX8_not2 ∈ lw_all := ⟨q1471, qs64⟩
set_option maxHeartbeats 4000000 in
theorem cm_X8_not2 {l : Launch} {Kf : State → Prop} {D : va_G} {ad : Nat → Nat} {cI cZ : ClassId} {A : Nat → Prop} (G : mG A Kf D cI cZ) {b : Nat → Int32} {z t i : Nat} (σ : mS)  (hT : pTx b z t σ) (hA : pAt b z σ i) (hi : i ≤ z) (hb : σ 0 27 = 0) (ho : σ 0 26 = nI 2) : vv_Ct l yX8_not2 (ws_ yX8_not2 cX8_not2 4 (some .int)) (rm 25 552) Kf (mWd D ad cI cZ A) A [.ref (ad 0)] σ (vv_x (fun r u => pEq σ u ∧ pRes b z 2 σ u r ((PX b z 3).2 i))) := by
  refine vv_of (by decide +kernel) (Nat.le_of_ble_eq_true rfl) ?_
  intro v (F : vv_F v l cX8_not2 4 RX8 "not2" (some .int) [] (rm 25 552) Kf (mWd D ad cI cZ A) A _)
  show v σ 0 0 0 [(0, .ref (ad 0))] []
  refine v_aload_n F 0 dX8_not2_0 rfl rfl rfl ?_
  refine v_bipush (x := 110) F dX8_not2_1 rfl (by decide) ?_
  refine v_bipush (x := 111) F dX8_not2_3 rfl (by decide) ?_
  refine v_bipush (x := 116) F dX8_not2_5 rfl (by decide) ?_
  refine v_iconst (x := 0) F dX8_not2_7 rfl (by decide) ?_
  refine v_iconst (x := 0) F dX8_not2_8 rfl (by decide) ?_
  refine v_iconst (x := 0) F dX8_not2_9 rfl (by decide) ?_
  refine v_iconst (x := 0) F dX8_not2_10 rfl (by decide) ?_
  refine v_iconst (x := 0) F dX8_not2_11 rfl (by decide) ?_
  refine m_calli F G (cm_X8_isWord G σ 110 111 116 0 0 0 0 0 hT hA hi hb) ok_X8_isWord q1433 is_X8_isWord rfl rfl dX8_not2_12 rfl rfl ?_
  intro u0 hu0; subst u0
  refine v_if_eqB (p := (wd b z i 110 111 116 0 0 0 0 0)) (tgt := 52) (q := 18) F dX8_not2_15 rfl rfl (fun c1 => ?_) (fun c1 => ?_)
  · skip
    refine v_aload_n F 0 dX8_not2_52 rfl rfl rfl ?_
    refine m_callx F G (cm_X8_added2 G σ hT hA hi hb ho) ok_X8_added2 q1547 is_X8_added2 rfl rfl dX8_not2_53 rfl rfl ?_
    rintro r2 t2 ⟨hN2, hR2⟩
    have hE2 : pEq σ t2 := pEq.trans pEq.rf hN2
    rcases hp2 : (adG b z (PX b z 3).1) i with e2 | ⟨f2, j2⟩
    · skip
      rw [hp2] at hR2
      obtain ⟨hb2, hf2⟩ : t2 0 27 = 1 ∧ t2 0 28 = nI e2 := hR2
      refine v_istore_n (ls' := [(1, .int r2), (0, .ref (ad 0))]) F dX8_not2_56 rfl rfl (by decide) rfl ?_
      refine v_aload_n F 1 dX8_not2_57 rfl rfl rfl ?_
      refine v_bipush (x := 60) F dX8_not2_58 rfl (by decide) ?_
      refine m_calli F G (cm_X8_isSign_b G t2 60 hb2) ok_X8_isSign q1497 is_X8_isSign rfl rfl dX8_not2_60 rfl rfl ?_
      intro u0 hu0; subst u0
      refine v_if_ne (tgt := 77) (q := 66) F dX8_not2_63 rfl rfl (fun c3 => ?_) (fun c3 => ?_)
      · skip
        exact absurd c3 (by decide)
      · skip
        refine v_aload_n F 1 dX8_not2_66 rfl rfl rfl ?_
        refine v_bipush (x := 61) F dX8_not2_67 rfl (by decide) ?_
        refine m_calli F G (cm_X8_isSign_b G t2 61 hb2) ok_X8_isSign q1497 is_X8_isSign rfl rfl dX8_not2_69 rfl rfl ?_
        intro u0 hu0; subst u0
        refine v_if_ne (tgt := 77) (q := 75) F dX8_not2_72 rfl rfl (fun c4 => ?_) (fun c4 => ?_)
        · skip
          exact absurd c4 (by decide)
        · skip
          refine v_iload_n F 0 dX8_not2_75 rfl rfl rfl ?_
          exact v_retx F dX8_not2_76 rfl (⟨hE2, pRes.e ((PXn 2).trans (noG_e1 c1 hp2)) hb2 hf2⟩)
    · skip
      rw [hp2] at hR2
      obtain ⟨hr2, hA2, hb2, ho2⟩ : r2 = f2 (rho σ) ∧ pAt b z t2 j2 ∧ t2 0 27 = 0 ∧ t2 0 26 = nI 2 := hR2
      rw [rho_eq pEq.rf] at hr2
      have hg2 := (adG_good (PX_good 3).1) _ _ _ hi hp2
      have hi2 : j2 ≤ z := hg2.2
      refine v_istore_n (ls' := [(1, .int r2), (0, .ref (ad 0))]) F dX8_not2_56 rfl rfl (by decide) rfl ?_
      refine v_aload_n F 1 dX8_not2_57 rfl rfl rfl ?_
      refine v_bipush (x := 60) F dX8_not2_58 rfl (by decide) ?_
      refine m_calli F G (cm_X8_isSign G t2 60 hA2 hb2) ok_X8_isSign q1497 is_X8_isSign rfl rfl dX8_not2_60 rfl rfl ?_
      intro u0 hu0; subst u0
      refine v_if_neB (p := (sg b z j2 60)) (tgt := 77) (q := 66) F dX8_not2_63 rfl rfl (fun c5 => ?_) (fun c5 => ?_)
      · skip
        have hw6 : t2 0 25 = tW b z j2 := hA2.2.2.2 (Or.inr c5.1)
        refine v_aload_n F 1 dX8_not2_77 rfl rfl rfl ?_
        refine m_get F G 25 (w := .long (Int32.toInt64 (t2 0 25))) (by decide) q1278 rfl dX8_not2_78 rfl ?_
        refine v_ldc2 F q1506 dX8_not2_81 rfl ?_
        refine v_lng (y := (60 : Int32).toInt64) F (by decide) ?_
        refine v_lcmp F dX8_not2_84 rfl ?_
        refine v_if_neLI (tgt := 92) (q := 88) F dX8_not2_85 rfl rfl (fun c7 => ?_) (fun c7 => ?_)
        · skip
          refine v_iconst (x := 0) F dX8_not2_92 rfl (by decide) ?_
          refine v_istore_n (ls' := [(2, .int 0), (1, .int r2), (0, .ref (ad 0))]) F dX8_not2_93 rfl rfl (by decide) rfl ?_
          refine v_aload_n F 2 dX8_not2_94 rfl rfl rfl ?_
          refine m_calln F G (cm_X8_next (i := tN b z j2) G t2 (pTx.eq hT hE2) hA2.2.2.1 (tN_le hi2).2) ok_X8_next q1421 is_X8_next rfl rfl dX8_not2_95 rfl rfl ?_
          rintro t8 ⟨hN8, hA8⟩
          have hE8 : pEq σ t8 := pEq.trans hE2 hN8.p
          have hb8 : t8 0 27 = 0 := (hN8 0 27 (by omega)).trans hb2
          have ho8 : t8 0 26 = nI 2 := (hN8 0 26 (by omega)).trans ho2
          have hi8 : tN b z j2 ≤ z := (tN_le hi2).2
          refine v_aload_n F 2 dX8_not2_98 rfl rfl rfl ?_
          refine m_callx F G (cm_X8_added2 G t8 (pTx.eq hT hE8) hA8 hi8 hb8 ho8) ok_X8_added2 q1547 is_X8_added2 rfl rfl dX8_not2_99 rfl rfl ?_
          rintro r9 t9 ⟨hN9, hR9⟩
          have hE9 : pEq σ t9 := pEq.trans hE8 hN9
          rcases hp9 : (adG b z (PX b z 3).1) (tN b z j2) with e9 | ⟨f9, j9⟩
          · skip
            rw [hp9] at hR9
            obtain ⟨hb9, hf9⟩ : t9 0 27 = 1 ∧ t9 0 28 = nI e9 := hR9
            refine v_istore_n (ls' := [(3, .int r9), (2, .int 0), (1, .int r2), (0, .ref (ad 0))]) F dX8_not2_102 rfl rfl (by decide) rfl ?_
            refine v_iload_n F 1 dX8_not2_103 rfl rfl rfl ?_
            refine v_if_eq (tgt := 115) (q := 107) F dX8_not2_104 rfl rfl (fun c10 => ?_) (fun c10 => ?_)
            · skip
              refine v_iload_n F 2 dX8_not2_115 rfl rfl rfl ?_
              refine v_iload_n F 0 dX8_not2_116 rfl rfl rfl ?_
              refine v_icmp_ne (tgt := 124) (q := 120) F dX8_not2_117 rfl rfl (fun c11 => ?_) (fun c11 => ?_)
              · skip
                refine v_iconst (x := 0) F dX8_not2_124 rfl (by decide) ?_
                exact v_retx F dX8_not2_125 rfl (⟨hE9, pRes.e ((PXn 2).trans (noG_e2 c1 hp2 (Or.inl c5) hp9)) hb9 hf9⟩)
              · skip
                refine v_iconst (x := 1) F dX8_not2_120 rfl (by decide) ?_
                refine v_goto (tgt := 125) F dX8_not2_121 rfl ?_
                exact v_retx F dX8_not2_125 rfl (⟨hE9, pRes.e ((PXn 2).trans (noG_e2 c1 hp2 (Or.inl c5) hp9)) hb9 hf9⟩)
            · skip
              exact absurd c10 (by decide)
          · skip
            rw [hp9] at hR9
            obtain ⟨hr9, hA9, hb9, ho9⟩ : r9 = f9 (rho t8) ∧ pAt b z t9 j9 ∧ t9 0 27 = 0 ∧ t9 0 26 = nI 2 := hR9
            rw [rho_eq hE8] at hr9
            have hg9 := (adG_good (PX_good 3).1) _ _ _ hi8 hp9
            have hi9 : j9 ≤ z := hg9.2
            refine v_istore_n (ls' := [(3, .int r9), (2, .int 0), (1, .int r2), (0, .ref (ad 0))]) F dX8_not2_102 rfl rfl (by decide) rfl ?_
            refine v_iload_n F 1 dX8_not2_103 rfl rfl rfl ?_
            refine v_if_eq (tgt := 115) (q := 107) F dX8_not2_104 rfl rfl (fun c12 => ?_) (fun c12 => ?_)
            · skip
              refine v_iload_n F 2 dX8_not2_115 rfl rfl rfl ?_
              refine v_iload_n F 0 dX8_not2_116 rfl rfl rfl ?_
              refine v_icmp_ne (tgt := 124) (q := 120) F dX8_not2_117 rfl rfl (fun c13 => ?_) (fun c13 => ?_)
              · skip
                refine v_iconst (x := 0) F dX8_not2_124 rfl (by decide) ?_
                exact v_retx F dX8_not2_125 rfl (⟨hE9, pRes.o ((PXn 2).trans (noG_cm c1 hp2 (Or.inl c5) hp9)) (by show _ = (if (if _ then _ else _) then _ else _); rw [← hr2, ← hr9]; simp only [if_neg (fun h => c7 (hw6.trans h))]; exact (if_neg (c13)).symm) hA9 hb9 ho9⟩)
              · skip
                refine v_iconst (x := 1) F dX8_not2_120 rfl (by decide) ?_
                refine v_goto (tgt := 125) F dX8_not2_121 rfl ?_
                exact v_retx F dX8_not2_125 rfl (⟨hE9, pRes.o ((PXn 2).trans (noG_cm c1 hp2 (Or.inl c5) hp9)) (by show _ = (if (if _ then _ else _) then _ else _); rw [← hr2, ← hr9]; simp only [if_neg (fun h => c7 (hw6.trans h))]; exact (if_pos (c13)).symm) hA9 hb9 ho9⟩)
            · skip
              exact absurd c12 (by decide)
        · skip
          refine v_iconst (x := 1) F dX8_not2_88 rfl (by decide) ?_
          refine v_goto (tgt := 93) F dX8_not2_89 rfl ?_
          refine v_istore_n (ls' := [(2, .int 1), (1, .int r2), (0, .ref (ad 0))]) F dX8_not2_93 rfl rfl (by decide) rfl ?_
          refine v_aload_n F 2 dX8_not2_94 rfl rfl rfl ?_
          refine m_calln F G (cm_X8_next (i := tN b z j2) G t2 (pTx.eq hT hE2) hA2.2.2.1 (tN_le hi2).2) ok_X8_next q1421 is_X8_next rfl rfl dX8_not2_95 rfl rfl ?_
          rintro t14 ⟨hN14, hA14⟩
          have hE14 : pEq σ t14 := pEq.trans hE2 hN14.p
          have hb14 : t14 0 27 = 0 := (hN14 0 27 (by omega)).trans hb2
          have ho14 : t14 0 26 = nI 2 := (hN14 0 26 (by omega)).trans ho2
          have hi14 : tN b z j2 ≤ z := (tN_le hi2).2
          refine v_aload_n F 2 dX8_not2_98 rfl rfl rfl ?_
          refine m_callx F G (cm_X8_added2 G t14 (pTx.eq hT hE14) hA14 hi14 hb14 ho14) ok_X8_added2 q1547 is_X8_added2 rfl rfl dX8_not2_99 rfl rfl ?_
          rintro r15 t15 ⟨hN15, hR15⟩
          have hE15 : pEq σ t15 := pEq.trans hE14 hN15
          rcases hp15 : (adG b z (PX b z 3).1) (tN b z j2) with e15 | ⟨f15, j15⟩
          · skip
            rw [hp15] at hR15
            obtain ⟨hb15, hf15⟩ : t15 0 27 = 1 ∧ t15 0 28 = nI e15 := hR15
            refine v_istore_n (ls' := [(3, .int r15), (2, .int 1), (1, .int r2), (0, .ref (ad 0))]) F dX8_not2_102 rfl rfl (by decide) rfl ?_
            refine v_iload_n F 1 dX8_not2_103 rfl rfl rfl ?_
            refine v_if_eq (tgt := 115) (q := 107) F dX8_not2_104 rfl rfl (fun c16 => ?_) (fun c16 => ?_)
            · skip
              exact absurd c16 (by decide)
            · skip
              refine v_iload_n F 2 dX8_not2_107 rfl rfl rfl ?_
              refine v_iload_n F 0 dX8_not2_108 rfl rfl rfl ?_
              refine v_icmp_ge (tgt := 124) (q := 112) F dX8_not2_109 rfl rfl (fun c17 => ?_) (fun c17 => ?_)
              · skip
                refine v_iconst (x := 0) F dX8_not2_124 rfl (by decide) ?_
                exact v_retx F dX8_not2_125 rfl (⟨hE15, pRes.e ((PXn 2).trans (noG_e2 c1 hp2 (Or.inl c5) hp15)) hb15 hf15⟩)
              · skip
                refine v_goto (tgt := 120) F dX8_not2_112 rfl ?_
                refine v_iconst (x := 1) F dX8_not2_120 rfl (by decide) ?_
                refine v_goto (tgt := 125) F dX8_not2_121 rfl ?_
                exact v_retx F dX8_not2_125 rfl (⟨hE15, pRes.e ((PXn 2).trans (noG_e2 c1 hp2 (Or.inl c5) hp15)) hb15 hf15⟩)
          · skip
            rw [hp15] at hR15
            obtain ⟨hr15, hA15, hb15, ho15⟩ : r15 = f15 (rho t14) ∧ pAt b z t15 j15 ∧ t15 0 27 = 0 ∧ t15 0 26 = nI 2 := hR15
            rw [rho_eq hE14] at hr15
            have hg15 := (adG_good (PX_good 3).1) _ _ _ hi14 hp15
            have hi15 : j15 ≤ z := hg15.2
            refine v_istore_n (ls' := [(3, .int r15), (2, .int 1), (1, .int r2), (0, .ref (ad 0))]) F dX8_not2_102 rfl rfl (by decide) rfl ?_
            refine v_iload_n F 1 dX8_not2_103 rfl rfl rfl ?_
            refine v_if_eq (tgt := 115) (q := 107) F dX8_not2_104 rfl rfl (fun c18 => ?_) (fun c18 => ?_)
            · skip
              exact absurd c18 (by decide)
            · skip
              refine v_iload_n F 2 dX8_not2_107 rfl rfl rfl ?_
              refine v_iload_n F 0 dX8_not2_108 rfl rfl rfl ?_
              refine v_icmp_ge (tgt := 124) (q := 112) F dX8_not2_109 rfl rfl (fun c19 => ?_) (fun c19 => ?_)
              · skip
                refine v_iconst (x := 0) F dX8_not2_124 rfl (by decide) ?_
                exact v_retx F dX8_not2_125 rfl (⟨hE15, pRes.o ((PXn 2).trans (noG_cm c1 hp2 (Or.inl c5) hp15)) (by show _ = (if (if _ then _ else _) then _ else _); rw [← hr2, ← hr15]; simp only [if_pos (hw6.symm.trans c7)]; exact (if_neg (fun h => absurd c19 (Int32.not_le.mpr h))).symm) hA15 hb15 ho15⟩)
              · skip
                refine v_goto (tgt := 120) F dX8_not2_112 rfl ?_
                refine v_iconst (x := 1) F dX8_not2_120 rfl (by decide) ?_
                refine v_goto (tgt := 125) F dX8_not2_121 rfl ?_
                exact v_retx F dX8_not2_125 rfl (⟨hE15, pRes.o ((PXn 2).trans (noG_cm c1 hp2 (Or.inl c5) hp15)) (by show _ = (if (if _ then _ else _) then _ else _); rw [← hr2, ← hr15]; simp only [if_pos (hw6.symm.trans c7)]; exact (if_pos (Int32.not_le.mp c19)).symm) hA15 hb15 ho15⟩)
      · skip
        refine v_aload_n F 1 dX8_not2_66 rfl rfl rfl ?_
        refine v_bipush (x := 61) F dX8_not2_67 rfl (by decide) ?_
        refine m_calli F G (cm_X8_isSign G t2 61 hA2 hb2) ok_X8_isSign q1497 is_X8_isSign rfl rfl dX8_not2_69 rfl rfl ?_
        intro u0 hu0; subst u0
        refine v_if_neB (p := (sg b z j2 61)) (tgt := 77) (q := 75) F dX8_not2_72 rfl rfl (fun c20 => ?_) (fun c20 => ?_)
        · skip
          have hw21 : t2 0 25 = tW b z j2 := hA2.2.2.2 (Or.inr c20.1)
          refine v_aload_n F 1 dX8_not2_77 rfl rfl rfl ?_
          refine m_get F G 25 (w := .long (Int32.toInt64 (t2 0 25))) (by decide) q1278 rfl dX8_not2_78 rfl ?_
          refine v_ldc2 F q1506 dX8_not2_81 rfl ?_
          refine v_lng (y := (60 : Int32).toInt64) F (by decide) ?_
          refine v_lcmp F dX8_not2_84 rfl ?_
          refine v_if_neLI (tgt := 92) (q := 88) F dX8_not2_85 rfl rfl (fun c22 => ?_) (fun c22 => ?_)
          · skip
            refine v_iconst (x := 0) F dX8_not2_92 rfl (by decide) ?_
            refine v_istore_n (ls' := [(2, .int 0), (1, .int r2), (0, .ref (ad 0))]) F dX8_not2_93 rfl rfl (by decide) rfl ?_
            refine v_aload_n F 2 dX8_not2_94 rfl rfl rfl ?_
            refine m_calln F G (cm_X8_next (i := tN b z j2) G t2 (pTx.eq hT hE2) hA2.2.2.1 (tN_le hi2).2) ok_X8_next q1421 is_X8_next rfl rfl dX8_not2_95 rfl rfl ?_
            rintro t23 ⟨hN23, hA23⟩
            have hE23 : pEq σ t23 := pEq.trans hE2 hN23.p
            have hb23 : t23 0 27 = 0 := (hN23 0 27 (by omega)).trans hb2
            have ho23 : t23 0 26 = nI 2 := (hN23 0 26 (by omega)).trans ho2
            have hi23 : tN b z j2 ≤ z := (tN_le hi2).2
            refine v_aload_n F 2 dX8_not2_98 rfl rfl rfl ?_
            refine m_callx F G (cm_X8_added2 G t23 (pTx.eq hT hE23) hA23 hi23 hb23 ho23) ok_X8_added2 q1547 is_X8_added2 rfl rfl dX8_not2_99 rfl rfl ?_
            rintro r24 t24 ⟨hN24, hR24⟩
            have hE24 : pEq σ t24 := pEq.trans hE23 hN24
            rcases hp24 : (adG b z (PX b z 3).1) (tN b z j2) with e24 | ⟨f24, j24⟩
            · skip
              rw [hp24] at hR24
              obtain ⟨hb24, hf24⟩ : t24 0 27 = 1 ∧ t24 0 28 = nI e24 := hR24
              refine v_istore_n (ls' := [(3, .int r24), (2, .int 0), (1, .int r2), (0, .ref (ad 0))]) F dX8_not2_102 rfl rfl (by decide) rfl ?_
              refine v_iload_n F 1 dX8_not2_103 rfl rfl rfl ?_
              refine v_if_eq (tgt := 115) (q := 107) F dX8_not2_104 rfl rfl (fun c25 => ?_) (fun c25 => ?_)
              · skip
                refine v_iload_n F 2 dX8_not2_115 rfl rfl rfl ?_
                refine v_iload_n F 0 dX8_not2_116 rfl rfl rfl ?_
                refine v_icmp_ne (tgt := 124) (q := 120) F dX8_not2_117 rfl rfl (fun c26 => ?_) (fun c26 => ?_)
                · skip
                  refine v_iconst (x := 0) F dX8_not2_124 rfl (by decide) ?_
                  exact v_retx F dX8_not2_125 rfl (⟨hE24, pRes.e ((PXn 2).trans (noG_e2 c1 hp2 (Or.inr c20) hp24)) hb24 hf24⟩)
                · skip
                  refine v_iconst (x := 1) F dX8_not2_120 rfl (by decide) ?_
                  refine v_goto (tgt := 125) F dX8_not2_121 rfl ?_
                  exact v_retx F dX8_not2_125 rfl (⟨hE24, pRes.e ((PXn 2).trans (noG_e2 c1 hp2 (Or.inr c20) hp24)) hb24 hf24⟩)
              · skip
                exact absurd c25 (by decide)
            · skip
              rw [hp24] at hR24
              obtain ⟨hr24, hA24, hb24, ho24⟩ : r24 = f24 (rho t23) ∧ pAt b z t24 j24 ∧ t24 0 27 = 0 ∧ t24 0 26 = nI 2 := hR24
              rw [rho_eq hE23] at hr24
              have hg24 := (adG_good (PX_good 3).1) _ _ _ hi23 hp24
              have hi24 : j24 ≤ z := hg24.2
              refine v_istore_n (ls' := [(3, .int r24), (2, .int 0), (1, .int r2), (0, .ref (ad 0))]) F dX8_not2_102 rfl rfl (by decide) rfl ?_
              refine v_iload_n F 1 dX8_not2_103 rfl rfl rfl ?_
              refine v_if_eq (tgt := 115) (q := 107) F dX8_not2_104 rfl rfl (fun c27 => ?_) (fun c27 => ?_)
              · skip
                refine v_iload_n F 2 dX8_not2_115 rfl rfl rfl ?_
                refine v_iload_n F 0 dX8_not2_116 rfl rfl rfl ?_
                refine v_icmp_ne (tgt := 124) (q := 120) F dX8_not2_117 rfl rfl (fun c28 => ?_) (fun c28 => ?_)
                · skip
                  refine v_iconst (x := 0) F dX8_not2_124 rfl (by decide) ?_
                  exact v_retx F dX8_not2_125 rfl (⟨hE24, pRes.o ((PXn 2).trans (noG_cm c1 hp2 (Or.inr c20) hp24)) (by show _ = (if (if _ then _ else _) then _ else _); rw [← hr2, ← hr24]; simp only [if_neg (fun h => c22 (hw21.trans h))]; exact (if_neg (c28)).symm) hA24 hb24 ho24⟩)
                · skip
                  refine v_iconst (x := 1) F dX8_not2_120 rfl (by decide) ?_
                  refine v_goto (tgt := 125) F dX8_not2_121 rfl ?_
                  exact v_retx F dX8_not2_125 rfl (⟨hE24, pRes.o ((PXn 2).trans (noG_cm c1 hp2 (Or.inr c20) hp24)) (by show _ = (if (if _ then _ else _) then _ else _); rw [← hr2, ← hr24]; simp only [if_neg (fun h => c22 (hw21.trans h))]; exact (if_pos (c28)).symm) hA24 hb24 ho24⟩)
              · skip
                exact absurd c27 (by decide)
          · skip
            refine v_iconst (x := 1) F dX8_not2_88 rfl (by decide) ?_
            refine v_goto (tgt := 93) F dX8_not2_89 rfl ?_
            refine v_istore_n (ls' := [(2, .int 1), (1, .int r2), (0, .ref (ad 0))]) F dX8_not2_93 rfl rfl (by decide) rfl ?_
            refine v_aload_n F 2 dX8_not2_94 rfl rfl rfl ?_
            refine m_calln F G (cm_X8_next (i := tN b z j2) G t2 (pTx.eq hT hE2) hA2.2.2.1 (tN_le hi2).2) ok_X8_next q1421 is_X8_next rfl rfl dX8_not2_95 rfl rfl ?_
            rintro t29 ⟨hN29, hA29⟩
            have hE29 : pEq σ t29 := pEq.trans hE2 hN29.p
            have hb29 : t29 0 27 = 0 := (hN29 0 27 (by omega)).trans hb2
            have ho29 : t29 0 26 = nI 2 := (hN29 0 26 (by omega)).trans ho2
            have hi29 : tN b z j2 ≤ z := (tN_le hi2).2
            refine v_aload_n F 2 dX8_not2_98 rfl rfl rfl ?_
            refine m_callx F G (cm_X8_added2 G t29 (pTx.eq hT hE29) hA29 hi29 hb29 ho29) ok_X8_added2 q1547 is_X8_added2 rfl rfl dX8_not2_99 rfl rfl ?_
            rintro r30 t30 ⟨hN30, hR30⟩
            have hE30 : pEq σ t30 := pEq.trans hE29 hN30
            rcases hp30 : (adG b z (PX b z 3).1) (tN b z j2) with e30 | ⟨f30, j30⟩
            · skip
              rw [hp30] at hR30
              obtain ⟨hb30, hf30⟩ : t30 0 27 = 1 ∧ t30 0 28 = nI e30 := hR30
              refine v_istore_n (ls' := [(3, .int r30), (2, .int 1), (1, .int r2), (0, .ref (ad 0))]) F dX8_not2_102 rfl rfl (by decide) rfl ?_
              refine v_iload_n F 1 dX8_not2_103 rfl rfl rfl ?_
              refine v_if_eq (tgt := 115) (q := 107) F dX8_not2_104 rfl rfl (fun c31 => ?_) (fun c31 => ?_)
              · skip
                exact absurd c31 (by decide)
              · skip
                refine v_iload_n F 2 dX8_not2_107 rfl rfl rfl ?_
                refine v_iload_n F 0 dX8_not2_108 rfl rfl rfl ?_
                refine v_icmp_ge (tgt := 124) (q := 112) F dX8_not2_109 rfl rfl (fun c32 => ?_) (fun c32 => ?_)
                · skip
                  refine v_iconst (x := 0) F dX8_not2_124 rfl (by decide) ?_
                  exact v_retx F dX8_not2_125 rfl (⟨hE30, pRes.e ((PXn 2).trans (noG_e2 c1 hp2 (Or.inr c20) hp30)) hb30 hf30⟩)
                · skip
                  refine v_goto (tgt := 120) F dX8_not2_112 rfl ?_
                  refine v_iconst (x := 1) F dX8_not2_120 rfl (by decide) ?_
                  refine v_goto (tgt := 125) F dX8_not2_121 rfl ?_
                  exact v_retx F dX8_not2_125 rfl (⟨hE30, pRes.e ((PXn 2).trans (noG_e2 c1 hp2 (Or.inr c20) hp30)) hb30 hf30⟩)
            · skip
              rw [hp30] at hR30
              obtain ⟨hr30, hA30, hb30, ho30⟩ : r30 = f30 (rho t29) ∧ pAt b z t30 j30 ∧ t30 0 27 = 0 ∧ t30 0 26 = nI 2 := hR30
              rw [rho_eq hE29] at hr30
              have hg30 := (adG_good (PX_good 3).1) _ _ _ hi29 hp30
              have hi30 : j30 ≤ z := hg30.2
              refine v_istore_n (ls' := [(3, .int r30), (2, .int 1), (1, .int r2), (0, .ref (ad 0))]) F dX8_not2_102 rfl rfl (by decide) rfl ?_
              refine v_iload_n F 1 dX8_not2_103 rfl rfl rfl ?_
              refine v_if_eq (tgt := 115) (q := 107) F dX8_not2_104 rfl rfl (fun c33 => ?_) (fun c33 => ?_)
              · skip
                exact absurd c33 (by decide)
              · skip
                refine v_iload_n F 2 dX8_not2_107 rfl rfl rfl ?_
                refine v_iload_n F 0 dX8_not2_108 rfl rfl rfl ?_
                refine v_icmp_ge (tgt := 124) (q := 112) F dX8_not2_109 rfl rfl (fun c34 => ?_) (fun c34 => ?_)
                · skip
                  refine v_iconst (x := 0) F dX8_not2_124 rfl (by decide) ?_
                  exact v_retx F dX8_not2_125 rfl (⟨hE30, pRes.o ((PXn 2).trans (noG_cm c1 hp2 (Or.inr c20) hp30)) (by show _ = (if (if _ then _ else _) then _ else _); rw [← hr2, ← hr30]; simp only [if_pos (hw21.symm.trans c22)]; exact (if_neg (fun h => absurd c34 (Int32.not_le.mpr h))).symm) hA30 hb30 ho30⟩)
                · skip
                  refine v_goto (tgt := 120) F dX8_not2_112 rfl ?_
                  refine v_iconst (x := 1) F dX8_not2_120 rfl (by decide) ?_
                  refine v_goto (tgt := 125) F dX8_not2_121 rfl ?_
                  exact v_retx F dX8_not2_125 rfl (⟨hE30, pRes.o ((PXn 2).trans (noG_cm c1 hp2 (Or.inr c20) hp30)) (by show _ = (if (if _ then _ else _) then _ else _); rw [← hr2, ← hr30]; simp only [if_pos (hw21.symm.trans c22)]; exact (if_pos (Int32.not_le.mp c34)).symm) hA30 hb30 ho30⟩)
        · skip
          refine v_iload_n F 0 dX8_not2_75 rfl rfl rfl ?_
          exact v_retx F dX8_not2_76 rfl (⟨hE2, pRes.o ((PXn 2).trans (noG_pl c1 hp2 (fun h => h.elim c5 c20))) (hr2) hA2 hb2 ho2⟩)
  · skip
    refine v_aload_n F 0 dX8_not2_18 rfl rfl rfl ?_
    refine m_calli F G (cm_X8_opens (d := 2) G σ hT hA hi hb ho (by decide)) ok_X8_opens q1461 is_X8_opens rfl rfl dX8_not2_19 rfl rfl ?_
    rintro t35 ⟨hN35, hA35, hb35, ho35⟩
    have hE35 : pEq σ t35 := pEq.trans pEq.rf hN35
    have hi35 : tN b z i ≤ z := (tN_le hi).2
    refine v_if_ne (tgt := 27) (q := 25) F dX8_not2_22 rfl rfl (fun c36 => ?_) (fun c36 => ?_)
    · skip
      refine v_aload_n F 0 dX8_not2_27 rfl rfl rfl ?_
      refine m_callx F G (cm_X8_not3 G t35 (pTx.eq hT hE35) hA35 hi35 hb35 ho35) ok_X8_not3 q1473 is_X8_not3 rfl rfl dX8_not2_28 rfl rfl ?_
      rintro r37 t37 ⟨hN37, hR37⟩
      have hE37 : pEq σ t37 := pEq.trans hE35 hN37
      rcases hp37 : (PX b z 2).2 (tN b z i) with e37 | ⟨f37, j37⟩
      · skip
        rw [hp37] at hR37
        obtain ⟨hb37, hf37⟩ : t37 0 27 = 1 ∧ t37 0 28 = nI e37 := hR37
        refine v_istore_n (ls' := [(1, .int r37), (0, .ref (ad 0))]) F dX8_not2_31 rfl rfl (by decide) rfl ?_
        refine v_aload_n F 1 dX8_not2_32 rfl rfl rfl ?_
        refine v_dup F dX8_not2_33 rfl rfl ?_
        refine m_get F G 26 (w := .int (t37 0 26)) (by decide) q1279 rfl dX8_not2_34 rfl ?_
        refine v_iconst (x := 1) F dX8_not2_37 rfl (by decide) ?_
        refine v_isub F dX8_not2_38 rfl ?_
        refine m_put26 F G q1279 dX8_not2_39 rfl ?_
        refine v_iload_n F 0 dX8_not2_42 rfl rfl rfl ?_
        refine v_if_ne (tgt := 50) (q := 46) F dX8_not2_43 rfl rfl (fun c38 => ?_) (fun c38 => ?_)
        · skip
          refine v_iconst (x := 0) F dX8_not2_50 rfl (by decide) ?_
          exact v_retx F dX8_not2_51 rfl (⟨(pEq.u hE37 (j := 26) (by decide) ((t37 0 26) - 1)), pRes.e ((PXn 2).trans (noG_ne c1 hp37)) hb37 hf37⟩)
        · skip
          refine v_iconst (x := 1) F dX8_not2_46 rfl (by decide) ?_
          refine v_goto (tgt := 51) F dX8_not2_47 rfl ?_
          exact v_retx F dX8_not2_51 rfl (⟨(pEq.u hE37 (j := 26) (by decide) ((t37 0 26) - 1)), pRes.e ((PXn 2).trans (noG_ne c1 hp37)) hb37 hf37⟩)
      · skip
        rw [hp37] at hR37
        obtain ⟨hr37, hA37, hb37, ho37⟩ : r37 = f37 (rho t35) ∧ pAt b z t37 j37 ∧ t37 0 27 = 0 ∧ t37 0 26 = nI 3 := hR37
        rw [rho_eq hE35] at hr37
        have hg37 := (PX_good 2).2 _ _ _ hi35 hp37
        have hi37 : j37 ≤ z := hg37.2
        refine v_istore_n (ls' := [(1, .int r37), (0, .ref (ad 0))]) F dX8_not2_31 rfl rfl (by decide) rfl ?_
        refine v_aload_n F 1 dX8_not2_32 rfl rfl rfl ?_
        refine v_dup F dX8_not2_33 rfl rfl ?_
        refine m_get F G 26 (w := .int (t37 0 26)) (by decide) q1279 rfl dX8_not2_34 rfl ?_
        refine v_int F (ho37) ?_
        refine v_iconst (x := 1) F dX8_not2_37 rfl (by decide) ?_
        refine v_isub F dX8_not2_38 rfl ?_
        refine v_int F (y := 2) (by decide) ?_
        refine m_put26 F G q1279 dX8_not2_39 rfl ?_
        refine v_iload_n F 0 dX8_not2_42 rfl rfl rfl ?_
        refine v_if_ne (tgt := 50) (q := 46) F dX8_not2_43 rfl rfl (fun c39 => ?_) (fun c39 => ?_)
        · skip
          refine v_iconst (x := 0) F dX8_not2_50 rfl (by decide) ?_
          exact v_retx F dX8_not2_51 rfl (⟨(pEq.u hE37 (j := 26) (by decide) 2), pRes.o ((PXn 2).trans (noG_no c1 hp37)) (by show _ = (if _ then _ else _); rw [← hr37, if_neg c39]) (pAt.u hA37 (j := 26) (x := 2) (by decide)) hb37 rfl⟩)
        · skip
          refine v_iconst (x := 1) F dX8_not2_46 rfl (by decide) ?_
          refine v_goto (tgt := 51) F dX8_not2_47 rfl ?_
          exact v_retx F dX8_not2_51 rfl (⟨(pEq.u hE37 (j := 26) (by decide) 2), pRes.o ((PXn 2).trans (noG_no c1 hp37)) (by show _ = (if _ then _ else _); rw [← hr37, if_pos c39]) (pAt.u hA37 (j := 26) (x := 2) (by decide)) hb37 rfl⟩)
    · skip
      exact absurd c36 (by decide)
theorem ok_X8_both2 : vv_oc yX8_both2 3 0 (ws_ yX8_both2 cX8_both2 3 (some .int)) := vv_ok.oc (rt := (some .int)) ⟨q1586, q133, by decide +kernel, by decide +kernel⟩
theorem is_X8_both2 : Cond.instanceMethod yX8_both2 ∈ lw_all ∧ Cond.selects RX8 yX8_both2 yX8_both2 ∈ lw_all := ⟨q1585, qs92⟩
set_option maxHeartbeats 4000000 in
theorem cm_X8_both2 {l : Launch} {Kf : State → Prop} {D : va_G} {ad : Nat → Nat} {cI cZ : ClassId} {A : Nat → Prop} (G : mG A Kf D cI cZ) {b : Nat → Int32} {z t i : Nat} (σ : mS)  (hT : pTx b z t σ) (hA : pAt b z σ i) (hi : i ≤ z) (hb : σ 0 27 = 0) (ho : σ 0 26 = nI 2) : vv_Ct l yX8_both2 (ws_ yX8_both2 cX8_both2 3 (some .int)) (rm 26 575) Kf (mWd D ad cI cZ A) A [.ref (ad 0)] σ (vv_x (fun r u => pEq σ u ∧ pRes b z 2 σ u r ((boG b z (PX b z 3).2) i))) := by
  refine vv_of (by decide +kernel) (Nat.le_of_ble_eq_true rfl) ?_
  intro v (F : vv_F v l cX8_both2 3 RX8 "both2" (some .int) [] (rm 26 575) Kf (mWd D ad cI cZ A) A _)
  show v σ 0 0 0 [(0, .ref (ad 0))] []
  refine v_aload_n F 0 dX8_both2_0 rfl rfl rfl ?_
  refine m_callx F G (cm_X8_not2 G σ hT hA hi hb ho) ok_X8_not2 q1469 is_X8_not2 rfl rfl dX8_both2_1 rfl rfl ?_
  rintro r1 t1 ⟨hN1, hR1⟩
  have hE1 : pEq σ t1 := pEq.trans pEq.rf hN1
  rcases hp1 : (PX b z 3).2 i with e1 | ⟨f1, j1⟩
  · skip
    rw [hp1] at hR1
    obtain ⟨hb1, hf1⟩ : t1 0 27 = 1 ∧ t1 0 28 = nI e1 := hR1
    refine v_istore_n (ls' := [(1, .int r1), (0, .ref (ad 0))]) F dX8_both2_4 rfl rfl (by decide) rfl ?_
    refine v_aload_n F 1 dX8_both2_5 rfl rfl rfl ?_
    refine v_bipush (x := 97) F dX8_both2_6 rfl (by decide) ?_
    refine v_bipush (x := 110) F dX8_both2_8 rfl (by decide) ?_
    refine v_bipush (x := 100) F dX8_both2_10 rfl (by decide) ?_
    refine v_iconst (x := 0) F dX8_both2_12 rfl (by decide) ?_
    refine v_iconst (x := 0) F dX8_both2_13 rfl (by decide) ?_
    refine v_iconst (x := 0) F dX8_both2_14 rfl (by decide) ?_
    refine v_iconst (x := 0) F dX8_both2_15 rfl (by decide) ?_
    refine v_iconst (x := 0) F dX8_both2_16 rfl (by decide) ?_
    refine m_calli F G (cm_X8_isWord_b G t1 97 110 100 0 0 0 0 0 hb1) ok_X8_isWord q1433 is_X8_isWord rfl rfl dX8_both2_17 rfl rfl ?_
    intro u0 hu0; subst u0
    refine v_if_eq (tgt := 49) (q := 23) F dX8_both2_20 rfl rfl (fun c2 => ?_) (fun c2 => ?_)
    · skip
      refine v_iload_n F 0 dX8_both2_49 rfl rfl rfl ?_
      exact v_retx F dX8_both2_50 rfl (⟨hE1, pRes.e (chG_er hp1) hb1 hf1⟩)
    · skip
      exact absurd c2 (by decide)
  · skip
    rw [hp1] at hR1
    obtain ⟨hr1, hA1, hb1, ho1⟩ : r1 = f1 (rho σ) ∧ pAt b z t1 j1 ∧ t1 0 27 = 0 ∧ t1 0 26 = nI 2 := hR1
    rw [rho_eq pEq.rf] at hr1
    have hg1 := (PX_good 3).2 _ _ _ hi hp1
    have hi1 : j1 ≤ z := hg1.2
    refine v_istore_n (ls' := [(1, .int r1), (0, .ref (ad 0))]) F dX8_both2_4 rfl rfl (by decide) rfl ?_
    have L5 : ∀ (n : Nat) (s : mS) (f : (Nat → Int32) → Int32) (j : Nat) (x : Int32) (hEs : pEq σ s) (hAs : pAt b z s j) (hbs : s 0 27 = 0) (hos : s 0 26 = nI 2) (hj : j ≤ z) (hx : x = f (rho σ)) (hL : (boG b z (PX b z 3).2) i = loG b z (fun i => decide (kAnd b z i)) (PX b z 3).2 (fun _ x y => if x ≠ 0 ∧ y ≠ 0 then 1 else 0) n f j) (hn : z - j < n), v s 0 0 5 [(0, .ref (ad 0)), (1, .int x)] [] := by
      intro n
      induction n with
      | zero => intro s f j x hEs hAs hbs hos hj hx hL hn; exact absurd hn (Nat.not_lt_zero _)
      | succ n ih5 =>
        intro s f j x hEs hAs hbs hos hj hx hL hn
        refine v_aload_n F 0 dX8_both2_5 rfl rfl rfl ?_
        refine v_bipush (x := 97) F dX8_both2_6 rfl (by decide) ?_
        refine v_bipush (x := 110) F dX8_both2_8 rfl (by decide) ?_
        refine v_bipush (x := 100) F dX8_both2_10 rfl (by decide) ?_
        refine v_iconst (x := 0) F dX8_both2_12 rfl (by decide) ?_
        refine v_iconst (x := 0) F dX8_both2_13 rfl (by decide) ?_
        refine v_iconst (x := 0) F dX8_both2_14 rfl (by decide) ?_
        refine v_iconst (x := 0) F dX8_both2_15 rfl (by decide) ?_
        refine v_iconst (x := 0) F dX8_both2_16 rfl (by decide) ?_
        refine m_calli F G (cm_X8_isWord G s 97 110 100 0 0 0 0 0 (pTx.eq hT hEs) hAs hj hbs) ok_X8_isWord q1433 is_X8_isWord rfl rfl dX8_both2_17 rfl rfl ?_
        intro u0 hu0; subst u0
        refine v_if_eqB (p := (wd b z j 97 110 100 0 0 0 0 0)) (tgt := 49) (q := 23) F dX8_both2_20 rfl rfl (fun c3 => ?_) (fun c3 => ?_)
        · skip
          refine v_iload_n F 1 dX8_both2_49 rfl rfl rfl ?_
          exact v_retx F dX8_both2_50 rfl (⟨hEs, pRes.o (hL.trans (loG_ou (fun h => c3 (of_decide_eq_true h)))) (hx) hAs hbs hos⟩)
        · skip
          have hs9 := (tk1_lt hj c3.1).1
          refine v_aload_n F 0 dX8_both2_23 rfl rfl rfl ?_
          refine m_calln F G (cm_X8_next (i := tN b z j) G s (pTx.eq hT hEs) hAs.2.2.1 (tN_le hj).2) ok_X8_next q1421 is_X8_next rfl rfl dX8_both2_24 rfl rfl ?_
          rintro t4 ⟨hN4, hA4⟩
          have hE4 : pEq σ t4 := pEq.trans hEs hN4.p
          have hb4 : t4 0 27 = 0 := (hN4 0 27 (by omega)).trans hbs
          have ho4 : t4 0 26 = nI 2 := (hN4 0 26 (by omega)).trans hos
          have hi4 : tN b z j ≤ z := (tN_le hj).2
          refine v_aload_n F 0 dX8_both2_27 rfl rfl rfl ?_
          refine m_callx F G (cm_X8_not2 G t4 (pTx.eq hT hE4) hA4 hi4 hb4 ho4) ok_X8_not2 q1469 is_X8_not2 rfl rfl dX8_both2_28 rfl rfl ?_
          rintro r5 t5 ⟨hN5, hR5⟩
          have hE5 : pEq σ t5 := pEq.trans hE4 hN5
          rcases hp5 : (PX b z 3).2 (tN b z j) with e5 | ⟨f5, j5⟩
          · skip
            rw [hp5] at hR5
            obtain ⟨hb5, hf5⟩ : t5 0 27 = 1 ∧ t5 0 28 = nI e5 := hR5
            refine v_istore_n (ls' := [(2, .int r5), (0, .ref (ad 0)), (1, .int x)]) F dX8_both2_31 rfl rfl (by decide) rfl ?_
            refine v_iload_n F 2 dX8_both2_32 rfl rfl rfl ?_
            refine v_if_eq (tgt := 44) (q := 36) F dX8_both2_33 rfl rfl (fun c6 => ?_) (fun c6 => ?_)
            · skip
              refine v_iconst (x := 0) F dX8_both2_44 rfl (by decide) ?_
              refine v_istore_n (ls' := [(1, .int 0), (2, .int r5), (0, .ref (ad 0))]) F dX8_both2_45 rfl rfl (by decide) rfl ?_
              refine v_goto (tgt := 5) F dX8_both2_46 rfl ?_
              refine v_aload_n F 2 dX8_both2_5 rfl rfl rfl ?_
              refine v_bipush (x := 97) F dX8_both2_6 rfl (by decide) ?_
              refine v_bipush (x := 110) F dX8_both2_8 rfl (by decide) ?_
              refine v_bipush (x := 100) F dX8_both2_10 rfl (by decide) ?_
              refine v_iconst (x := 0) F dX8_both2_12 rfl (by decide) ?_
              refine v_iconst (x := 0) F dX8_both2_13 rfl (by decide) ?_
              refine v_iconst (x := 0) F dX8_both2_14 rfl (by decide) ?_
              refine v_iconst (x := 0) F dX8_both2_15 rfl (by decide) ?_
              refine v_iconst (x := 0) F dX8_both2_16 rfl (by decide) ?_
              refine m_calli F G (cm_X8_isWord_b G t5 97 110 100 0 0 0 0 0 hb5) ok_X8_isWord q1433 is_X8_isWord rfl rfl dX8_both2_17 rfl rfl ?_
              intro u0 hu0; subst u0
              refine v_if_eq (tgt := 49) (q := 23) F dX8_both2_20 rfl rfl (fun c7 => ?_) (fun c7 => ?_)
              · skip
                refine v_iload_n F 0 dX8_both2_49 rfl rfl rfl ?_
                exact v_retx F dX8_both2_50 rfl (⟨hE5, pRes.e (hL.trans (loG_er (decide_eq_true c3) hp5)) hb5 hf5⟩)
              · skip
                exact absurd c7 (by decide)
            · skip
              refine v_iload_n F 0 dX8_both2_36 rfl rfl rfl ?_
              refine v_if_eq (tgt := 44) (q := 40) F dX8_both2_37 rfl rfl (fun c8 => ?_) (fun c8 => ?_)
              · skip
                refine v_iconst (x := 0) F dX8_both2_44 rfl (by decide) ?_
                refine v_istore_n (ls' := [(1, .int 0), (2, .int r5), (0, .ref (ad 0))]) F dX8_both2_45 rfl rfl (by decide) rfl ?_
                refine v_goto (tgt := 5) F dX8_both2_46 rfl ?_
                refine v_aload_n F 2 dX8_both2_5 rfl rfl rfl ?_
                refine v_bipush (x := 97) F dX8_both2_6 rfl (by decide) ?_
                refine v_bipush (x := 110) F dX8_both2_8 rfl (by decide) ?_
                refine v_bipush (x := 100) F dX8_both2_10 rfl (by decide) ?_
                refine v_iconst (x := 0) F dX8_both2_12 rfl (by decide) ?_
                refine v_iconst (x := 0) F dX8_both2_13 rfl (by decide) ?_
                refine v_iconst (x := 0) F dX8_both2_14 rfl (by decide) ?_
                refine v_iconst (x := 0) F dX8_both2_15 rfl (by decide) ?_
                refine v_iconst (x := 0) F dX8_both2_16 rfl (by decide) ?_
                refine m_calli F G (cm_X8_isWord_b G t5 97 110 100 0 0 0 0 0 hb5) ok_X8_isWord q1433 is_X8_isWord rfl rfl dX8_both2_17 rfl rfl ?_
                intro u0 hu0; subst u0
                refine v_if_eq (tgt := 49) (q := 23) F dX8_both2_20 rfl rfl (fun c9 => ?_) (fun c9 => ?_)
                · skip
                  refine v_iload_n F 0 dX8_both2_49 rfl rfl rfl ?_
                  exact v_retx F dX8_both2_50 rfl (⟨hE5, pRes.e (hL.trans (loG_er (decide_eq_true c3) hp5)) hb5 hf5⟩)
                · skip
                  exact absurd c9 (by decide)
              · skip
                refine v_iconst (x := 1) F dX8_both2_40 rfl (by decide) ?_
                refine v_goto (tgt := 45) F dX8_both2_41 rfl ?_
                refine v_istore_n (ls' := [(1, .int 1), (2, .int r5), (0, .ref (ad 0))]) F dX8_both2_45 rfl rfl (by decide) rfl ?_
                refine v_goto (tgt := 5) F dX8_both2_46 rfl ?_
                refine v_aload_n F 2 dX8_both2_5 rfl rfl rfl ?_
                refine v_bipush (x := 97) F dX8_both2_6 rfl (by decide) ?_
                refine v_bipush (x := 110) F dX8_both2_8 rfl (by decide) ?_
                refine v_bipush (x := 100) F dX8_both2_10 rfl (by decide) ?_
                refine v_iconst (x := 0) F dX8_both2_12 rfl (by decide) ?_
                refine v_iconst (x := 0) F dX8_both2_13 rfl (by decide) ?_
                refine v_iconst (x := 0) F dX8_both2_14 rfl (by decide) ?_
                refine v_iconst (x := 0) F dX8_both2_15 rfl (by decide) ?_
                refine v_iconst (x := 0) F dX8_both2_16 rfl (by decide) ?_
                refine m_calli F G (cm_X8_isWord_b G t5 97 110 100 0 0 0 0 0 hb5) ok_X8_isWord q1433 is_X8_isWord rfl rfl dX8_both2_17 rfl rfl ?_
                intro u0 hu0; subst u0
                refine v_if_eq (tgt := 49) (q := 23) F dX8_both2_20 rfl rfl (fun c10 => ?_) (fun c10 => ?_)
                · skip
                  refine v_iload_n F 0 dX8_both2_49 rfl rfl rfl ?_
                  exact v_retx F dX8_both2_50 rfl (⟨hE5, pRes.e (hL.trans (loG_er (decide_eq_true c3) hp5)) hb5 hf5⟩)
                · skip
                  exact absurd c10 (by decide)
          · skip
            rw [hp5] at hR5
            obtain ⟨hr5, hA5, hb5, ho5⟩ : r5 = f5 (rho t4) ∧ pAt b z t5 j5 ∧ t5 0 27 = 0 ∧ t5 0 26 = nI 2 := hR5
            rw [rho_eq hE4] at hr5
            have hg5 := (PX_good 3).2 _ _ _ hi4 hp5
            have hi5 : j5 ≤ z := hg5.2
            refine v_istore_n (ls' := [(2, .int r5), (0, .ref (ad 0)), (1, .int x)]) F dX8_both2_31 rfl rfl (by decide) rfl ?_
            refine v_iload_n F 2 dX8_both2_32 rfl rfl rfl ?_
            refine v_if_eq (tgt := 44) (q := 36) F dX8_both2_33 rfl rfl (fun c11 => ?_) (fun c11 => ?_)
            · skip
              refine v_iconst (x := 0) F dX8_both2_44 rfl (by decide) ?_
              refine v_istore_n (ls' := [(1, .int 0), (2, .int r5), (0, .ref (ad 0))]) F dX8_both2_45 rfl rfl (by decide) rfl ?_
              refine v_goto (tgt := 5) F dX8_both2_46 rfl ?_
              refine v_sub (ls' := [(0, .ref (ad 0)), (1, .int 0)]) F [2, 0] rfl ?_
              exact ih5 t5 (fun ρ => if (f ρ) ≠ 0 ∧ (f5 ρ) ≠ 0 then 1 else 0) j5 0 hE5 hA5 hb5 ho5 hi5 (by show _ = (if _ then _ else _); rw [← hx, ← hr5]; exact (if_neg (fun h => by first | exact h.1 c11 | exact h.2 c11)).symm) (hL.trans (loG_go (decide_eq_true c3) hp5)) (by have := hs9; omega)
            · skip
              refine v_iload_n F 0 dX8_both2_36 rfl rfl rfl ?_
              refine v_if_eq (tgt := 44) (q := 40) F dX8_both2_37 rfl rfl (fun c12 => ?_) (fun c12 => ?_)
              · skip
                refine v_iconst (x := 0) F dX8_both2_44 rfl (by decide) ?_
                refine v_istore_n (ls' := [(1, .int 0), (2, .int r5), (0, .ref (ad 0))]) F dX8_both2_45 rfl rfl (by decide) rfl ?_
                refine v_goto (tgt := 5) F dX8_both2_46 rfl ?_
                refine v_sub (ls' := [(0, .ref (ad 0)), (1, .int 0)]) F [2, 0] rfl ?_
                exact ih5 t5 (fun ρ => if (f ρ) ≠ 0 ∧ (f5 ρ) ≠ 0 then 1 else 0) j5 0 hE5 hA5 hb5 ho5 hi5 (by show _ = (if _ then _ else _); rw [← hx, ← hr5]; exact (if_neg (fun h => by first | exact h.1 c12 | exact h.2 c12)).symm) (hL.trans (loG_go (decide_eq_true c3) hp5)) (by have := hs9; omega)
              · skip
                refine v_iconst (x := 1) F dX8_both2_40 rfl (by decide) ?_
                refine v_goto (tgt := 45) F dX8_both2_41 rfl ?_
                refine v_istore_n (ls' := [(1, .int 1), (2, .int r5), (0, .ref (ad 0))]) F dX8_both2_45 rfl rfl (by decide) rfl ?_
                refine v_goto (tgt := 5) F dX8_both2_46 rfl ?_
                refine v_sub (ls' := [(0, .ref (ad 0)), (1, .int 1)]) F [2, 0] rfl ?_
                exact ih5 t5 (fun ρ => if (f ρ) ≠ 0 ∧ (f5 ρ) ≠ 0 then 1 else 0) j5 1 hE5 hA5 hb5 ho5 hi5 (by show _ = (if _ then _ else _); rw [← hx, ← hr5]; exact (if_pos (⟨c11, c12⟩)).symm) (hL.trans (loG_go (decide_eq_true c3) hp5)) (by have := hs9; omega)
    refine v_sub (ls' := [(0, .ref (ad 0)), (1, .int r1)]) F [1, 0] rfl ?_
    exact L5 (z + 1) t1 f1 j1 r1 hE1 hA1 hb1 ho1 hi1 hr1 (chG_go hp1) (by omega)
theorem ok_X8_either2 : vv_oc yX8_either2 3 0 (ws_ yX8_either2 cX8_either2 3 (some .int)) := vv_ok.oc (rt := (some .int)) ⟨q1582, q133, by decide +kernel, by decide +kernel⟩
theorem is_X8_either2 : Cond.instanceMethod yX8_either2 ∈ lw_all ∧ Cond.selects RX8 yX8_either2 yX8_either2 ∈ lw_all := ⟨q1581, qs91⟩
set_option maxHeartbeats 4000000 in
theorem cm_X8_either2 {l : Launch} {Kf : State → Prop} {D : va_G} {ad : Nat → Nat} {cI cZ : ClassId} {A : Nat → Prop} (G : mG A Kf D cI cZ) {b : Nat → Int32} {z t i : Nat} (σ : mS)  (hT : pTx b z t σ) (hA : pAt b z σ i) (hi : i ≤ z) (hb : σ 0 27 = 0) (ho : σ 0 26 = nI 2) : vv_Ct l yX8_either2 (ws_ yX8_either2 cX8_either2 3 (some .int)) (rm 27 597) Kf (mWd D ad cI cZ A) A [.ref (ad 0)] σ (vv_x (fun r u => pEq σ u ∧ pRes b z 2 σ u r ((eiG b z (PX b z 3).2) i))) := by
  refine vv_of (by decide +kernel) (Nat.le_of_ble_eq_true rfl) ?_
  intro v (F : vv_F v l cX8_either2 3 RX8 "either2" (some .int) [] (rm 27 597) Kf (mWd D ad cI cZ A) A _)
  show v σ 0 0 0 [(0, .ref (ad 0))] []
  refine v_aload_n F 0 dX8_either2_0 rfl rfl rfl ?_
  refine m_callx F G (cm_X8_both2 G σ hT hA hi hb ho) ok_X8_both2 q1583 is_X8_both2 rfl rfl dX8_either2_1 rfl rfl ?_
  rintro r1 t1 ⟨hN1, hR1⟩
  have hE1 : pEq σ t1 := pEq.trans pEq.rf hN1
  rcases hp1 : (boG b z (PX b z 3).2) i with e1 | ⟨f1, j1⟩
  · skip
    rw [hp1] at hR1
    obtain ⟨hb1, hf1⟩ : t1 0 27 = 1 ∧ t1 0 28 = nI e1 := hR1
    refine v_istore_n (ls' := [(1, .int r1), (0, .ref (ad 0))]) F dX8_either2_4 rfl rfl (by decide) rfl ?_
    refine v_aload_n F 1 dX8_either2_5 rfl rfl rfl ?_
    refine v_bipush (x := 111) F dX8_either2_6 rfl (by decide) ?_
    refine v_bipush (x := 114) F dX8_either2_8 rfl (by decide) ?_
    refine v_iconst (x := 0) F dX8_either2_10 rfl (by decide) ?_
    refine v_iconst (x := 0) F dX8_either2_11 rfl (by decide) ?_
    refine v_iconst (x := 0) F dX8_either2_12 rfl (by decide) ?_
    refine v_iconst (x := 0) F dX8_either2_13 rfl (by decide) ?_
    refine v_iconst (x := 0) F dX8_either2_14 rfl (by decide) ?_
    refine v_iconst (x := 0) F dX8_either2_15 rfl (by decide) ?_
    refine m_calli F G (cm_X8_isWord_b G t1 111 114 0 0 0 0 0 0 hb1) ok_X8_isWord q1433 is_X8_isWord rfl rfl dX8_either2_16 rfl rfl ?_
    intro u0 hu0; subst u0
    refine v_if_eq (tgt := 48) (q := 22) F dX8_either2_19 rfl rfl (fun c2 => ?_) (fun c2 => ?_)
    · skip
      refine v_iload_n F 0 dX8_either2_48 rfl rfl rfl ?_
      exact v_retx F dX8_either2_49 rfl (⟨hE1, pRes.e (chG_er hp1) hb1 hf1⟩)
    · skip
      exact absurd c2 (by decide)
  · skip
    rw [hp1] at hR1
    obtain ⟨hr1, hA1, hb1, ho1⟩ : r1 = f1 (rho σ) ∧ pAt b z t1 j1 ∧ t1 0 27 = 0 ∧ t1 0 26 = nI 2 := hR1
    rw [rho_eq pEq.rf] at hr1
    have hg1 := (boG_good (PX_good 3).2) _ _ _ hi hp1
    have hi1 : j1 ≤ z := hg1.2
    refine v_istore_n (ls' := [(1, .int r1), (0, .ref (ad 0))]) F dX8_either2_4 rfl rfl (by decide) rfl ?_
    have L5 : ∀ (n : Nat) (s : mS) (f : (Nat → Int32) → Int32) (j : Nat) (x : Int32) (hEs : pEq σ s) (hAs : pAt b z s j) (hbs : s 0 27 = 0) (hos : s 0 26 = nI 2) (hj : j ≤ z) (hx : x = f (rho σ)) (hL : (eiG b z (PX b z 3).2) i = loG b z (fun i => decide (kOr b z i)) (boG b z (PX b z 3).2) (fun _ x y => if x ≠ 0 ∨ y ≠ 0 then 1 else 0) n f j) (hn : z - j < n), v s 0 0 5 [(0, .ref (ad 0)), (1, .int x)] [] := by
      intro n
      induction n with
      | zero => intro s f j x hEs hAs hbs hos hj hx hL hn; exact absurd hn (Nat.not_lt_zero _)
      | succ n ih5 =>
        intro s f j x hEs hAs hbs hos hj hx hL hn
        refine v_aload_n F 0 dX8_either2_5 rfl rfl rfl ?_
        refine v_bipush (x := 111) F dX8_either2_6 rfl (by decide) ?_
        refine v_bipush (x := 114) F dX8_either2_8 rfl (by decide) ?_
        refine v_iconst (x := 0) F dX8_either2_10 rfl (by decide) ?_
        refine v_iconst (x := 0) F dX8_either2_11 rfl (by decide) ?_
        refine v_iconst (x := 0) F dX8_either2_12 rfl (by decide) ?_
        refine v_iconst (x := 0) F dX8_either2_13 rfl (by decide) ?_
        refine v_iconst (x := 0) F dX8_either2_14 rfl (by decide) ?_
        refine v_iconst (x := 0) F dX8_either2_15 rfl (by decide) ?_
        refine m_calli F G (cm_X8_isWord G s 111 114 0 0 0 0 0 0 (pTx.eq hT hEs) hAs hj hbs) ok_X8_isWord q1433 is_X8_isWord rfl rfl dX8_either2_16 rfl rfl ?_
        intro u0 hu0; subst u0
        refine v_if_eqB (p := (wd b z j 111 114 0 0 0 0 0 0)) (tgt := 48) (q := 22) F dX8_either2_19 rfl rfl (fun c3 => ?_) (fun c3 => ?_)
        · skip
          refine v_iload_n F 1 dX8_either2_48 rfl rfl rfl ?_
          exact v_retx F dX8_either2_49 rfl (⟨hEs, pRes.o (hL.trans (loG_ou (fun h => c3 (of_decide_eq_true h)))) (hx) hAs hbs hos⟩)
        · skip
          have hs9 := (tk1_lt hj c3.1).1
          refine v_aload_n F 0 dX8_either2_22 rfl rfl rfl ?_
          refine m_calln F G (cm_X8_next (i := tN b z j) G s (pTx.eq hT hEs) hAs.2.2.1 (tN_le hj).2) ok_X8_next q1421 is_X8_next rfl rfl dX8_either2_23 rfl rfl ?_
          rintro t4 ⟨hN4, hA4⟩
          have hE4 : pEq σ t4 := pEq.trans hEs hN4.p
          have hb4 : t4 0 27 = 0 := (hN4 0 27 (by omega)).trans hbs
          have ho4 : t4 0 26 = nI 2 := (hN4 0 26 (by omega)).trans hos
          have hi4 : tN b z j ≤ z := (tN_le hj).2
          refine v_aload_n F 0 dX8_either2_26 rfl rfl rfl ?_
          refine m_callx F G (cm_X8_both2 G t4 (pTx.eq hT hE4) hA4 hi4 hb4 ho4) ok_X8_both2 q1583 is_X8_both2 rfl rfl dX8_either2_27 rfl rfl ?_
          rintro r5 t5 ⟨hN5, hR5⟩
          have hE5 : pEq σ t5 := pEq.trans hE4 hN5
          rcases hp5 : (boG b z (PX b z 3).2) (tN b z j) with e5 | ⟨f5, j5⟩
          · skip
            rw [hp5] at hR5
            obtain ⟨hb5, hf5⟩ : t5 0 27 = 1 ∧ t5 0 28 = nI e5 := hR5
            refine v_istore_n (ls' := [(2, .int r5), (0, .ref (ad 0)), (1, .int x)]) F dX8_either2_30 rfl rfl (by decide) rfl ?_
            refine v_iload_n F 2 dX8_either2_31 rfl rfl rfl ?_
            refine v_if_ne (tgt := 39) (q := 35) F dX8_either2_32 rfl rfl (fun c6 => ?_) (fun c6 => ?_)
            · skip
              refine v_iconst (x := 1) F dX8_either2_39 rfl (by decide) ?_
              refine v_goto (tgt := 44) F dX8_either2_40 rfl ?_
              refine v_istore_n (ls' := [(1, .int 1), (2, .int r5), (0, .ref (ad 0))]) F dX8_either2_44 rfl rfl (by decide) rfl ?_
              refine v_goto (tgt := 5) F dX8_either2_45 rfl ?_
              refine v_aload_n F 2 dX8_either2_5 rfl rfl rfl ?_
              refine v_bipush (x := 111) F dX8_either2_6 rfl (by decide) ?_
              refine v_bipush (x := 114) F dX8_either2_8 rfl (by decide) ?_
              refine v_iconst (x := 0) F dX8_either2_10 rfl (by decide) ?_
              refine v_iconst (x := 0) F dX8_either2_11 rfl (by decide) ?_
              refine v_iconst (x := 0) F dX8_either2_12 rfl (by decide) ?_
              refine v_iconst (x := 0) F dX8_either2_13 rfl (by decide) ?_
              refine v_iconst (x := 0) F dX8_either2_14 rfl (by decide) ?_
              refine v_iconst (x := 0) F dX8_either2_15 rfl (by decide) ?_
              refine m_calli F G (cm_X8_isWord_b G t5 111 114 0 0 0 0 0 0 hb5) ok_X8_isWord q1433 is_X8_isWord rfl rfl dX8_either2_16 rfl rfl ?_
              intro u0 hu0; subst u0
              refine v_if_eq (tgt := 48) (q := 22) F dX8_either2_19 rfl rfl (fun c7 => ?_) (fun c7 => ?_)
              · skip
                refine v_iload_n F 0 dX8_either2_48 rfl rfl rfl ?_
                exact v_retx F dX8_either2_49 rfl (⟨hE5, pRes.e (hL.trans (loG_er (decide_eq_true c3) hp5)) hb5 hf5⟩)
              · skip
                exact absurd c7 (by decide)
            · skip
              refine v_iload_n F 0 dX8_either2_35 rfl rfl rfl ?_
              refine v_if_eq (tgt := 43) (q := 39) F dX8_either2_36 rfl rfl (fun c8 => ?_) (fun c8 => ?_)
              · skip
                refine v_iconst (x := 0) F dX8_either2_43 rfl (by decide) ?_
                refine v_istore_n (ls' := [(1, .int 0), (2, .int r5), (0, .ref (ad 0))]) F dX8_either2_44 rfl rfl (by decide) rfl ?_
                refine v_goto (tgt := 5) F dX8_either2_45 rfl ?_
                refine v_aload_n F 2 dX8_either2_5 rfl rfl rfl ?_
                refine v_bipush (x := 111) F dX8_either2_6 rfl (by decide) ?_
                refine v_bipush (x := 114) F dX8_either2_8 rfl (by decide) ?_
                refine v_iconst (x := 0) F dX8_either2_10 rfl (by decide) ?_
                refine v_iconst (x := 0) F dX8_either2_11 rfl (by decide) ?_
                refine v_iconst (x := 0) F dX8_either2_12 rfl (by decide) ?_
                refine v_iconst (x := 0) F dX8_either2_13 rfl (by decide) ?_
                refine v_iconst (x := 0) F dX8_either2_14 rfl (by decide) ?_
                refine v_iconst (x := 0) F dX8_either2_15 rfl (by decide) ?_
                refine m_calli F G (cm_X8_isWord_b G t5 111 114 0 0 0 0 0 0 hb5) ok_X8_isWord q1433 is_X8_isWord rfl rfl dX8_either2_16 rfl rfl ?_
                intro u0 hu0; subst u0
                refine v_if_eq (tgt := 48) (q := 22) F dX8_either2_19 rfl rfl (fun c9 => ?_) (fun c9 => ?_)
                · skip
                  refine v_iload_n F 0 dX8_either2_48 rfl rfl rfl ?_
                  exact v_retx F dX8_either2_49 rfl (⟨hE5, pRes.e (hL.trans (loG_er (decide_eq_true c3) hp5)) hb5 hf5⟩)
                · skip
                  exact absurd c9 (by decide)
              · skip
                refine v_iconst (x := 1) F dX8_either2_39 rfl (by decide) ?_
                refine v_goto (tgt := 44) F dX8_either2_40 rfl ?_
                refine v_istore_n (ls' := [(1, .int 1), (2, .int r5), (0, .ref (ad 0))]) F dX8_either2_44 rfl rfl (by decide) rfl ?_
                refine v_goto (tgt := 5) F dX8_either2_45 rfl ?_
                refine v_aload_n F 2 dX8_either2_5 rfl rfl rfl ?_
                refine v_bipush (x := 111) F dX8_either2_6 rfl (by decide) ?_
                refine v_bipush (x := 114) F dX8_either2_8 rfl (by decide) ?_
                refine v_iconst (x := 0) F dX8_either2_10 rfl (by decide) ?_
                refine v_iconst (x := 0) F dX8_either2_11 rfl (by decide) ?_
                refine v_iconst (x := 0) F dX8_either2_12 rfl (by decide) ?_
                refine v_iconst (x := 0) F dX8_either2_13 rfl (by decide) ?_
                refine v_iconst (x := 0) F dX8_either2_14 rfl (by decide) ?_
                refine v_iconst (x := 0) F dX8_either2_15 rfl (by decide) ?_
                refine m_calli F G (cm_X8_isWord_b G t5 111 114 0 0 0 0 0 0 hb5) ok_X8_isWord q1433 is_X8_isWord rfl rfl dX8_either2_16 rfl rfl ?_
                intro u0 hu0; subst u0
                refine v_if_eq (tgt := 48) (q := 22) F dX8_either2_19 rfl rfl (fun c10 => ?_) (fun c10 => ?_)
                · skip
                  refine v_iload_n F 0 dX8_either2_48 rfl rfl rfl ?_
                  exact v_retx F dX8_either2_49 rfl (⟨hE5, pRes.e (hL.trans (loG_er (decide_eq_true c3) hp5)) hb5 hf5⟩)
                · skip
                  exact absurd c10 (by decide)
          · skip
            rw [hp5] at hR5
            obtain ⟨hr5, hA5, hb5, ho5⟩ : r5 = f5 (rho t4) ∧ pAt b z t5 j5 ∧ t5 0 27 = 0 ∧ t5 0 26 = nI 2 := hR5
            rw [rho_eq hE4] at hr5
            have hg5 := (boG_good (PX_good 3).2) _ _ _ hi4 hp5
            have hi5 : j5 ≤ z := hg5.2
            refine v_istore_n (ls' := [(2, .int r5), (0, .ref (ad 0)), (1, .int x)]) F dX8_either2_30 rfl rfl (by decide) rfl ?_
            refine v_iload_n F 2 dX8_either2_31 rfl rfl rfl ?_
            refine v_if_ne (tgt := 39) (q := 35) F dX8_either2_32 rfl rfl (fun c11 => ?_) (fun c11 => ?_)
            · skip
              refine v_iconst (x := 1) F dX8_either2_39 rfl (by decide) ?_
              refine v_goto (tgt := 44) F dX8_either2_40 rfl ?_
              refine v_istore_n (ls' := [(1, .int 1), (2, .int r5), (0, .ref (ad 0))]) F dX8_either2_44 rfl rfl (by decide) rfl ?_
              refine v_goto (tgt := 5) F dX8_either2_45 rfl ?_
              refine v_sub (ls' := [(0, .ref (ad 0)), (1, .int 1)]) F [2, 0] rfl ?_
              exact ih5 t5 (fun ρ => if (f ρ) ≠ 0 ∨ (f5 ρ) ≠ 0 then 1 else 0) j5 1 hE5 hA5 hb5 ho5 hi5 (by show _ = (if _ then _ else _); rw [← hx, ← hr5]; exact (if_pos (by first | exact Or.inl c11 | exact Or.inr c11)).symm) (hL.trans (loG_go (decide_eq_true c3) hp5)) (by have := hs9; omega)
            · skip
              refine v_iload_n F 0 dX8_either2_35 rfl rfl rfl ?_
              refine v_if_eq (tgt := 43) (q := 39) F dX8_either2_36 rfl rfl (fun c12 => ?_) (fun c12 => ?_)
              · skip
                refine v_iconst (x := 0) F dX8_either2_43 rfl (by decide) ?_
                refine v_istore_n (ls' := [(1, .int 0), (2, .int r5), (0, .ref (ad 0))]) F dX8_either2_44 rfl rfl (by decide) rfl ?_
                refine v_goto (tgt := 5) F dX8_either2_45 rfl ?_
                refine v_sub (ls' := [(0, .ref (ad 0)), (1, .int 0)]) F [2, 0] rfl ?_
                exact ih5 t5 (fun ρ => if (f ρ) ≠ 0 ∨ (f5 ρ) ≠ 0 then 1 else 0) j5 0 hE5 hA5 hb5 ho5 hi5 (by show _ = (if _ then _ else _); rw [← hx, ← hr5]; exact (if_neg (fun h => h.elim (fun g => g c11) (fun g => g c12))).symm) (hL.trans (loG_go (decide_eq_true c3) hp5)) (by have := hs9; omega)
              · skip
                refine v_iconst (x := 1) F dX8_either2_39 rfl (by decide) ?_
                refine v_goto (tgt := 44) F dX8_either2_40 rfl ?_
                refine v_istore_n (ls' := [(1, .int 1), (2, .int r5), (0, .ref (ad 0))]) F dX8_either2_44 rfl rfl (by decide) rfl ?_
                refine v_goto (tgt := 5) F dX8_either2_45 rfl ?_
                refine v_sub (ls' := [(0, .ref (ad 0)), (1, .int 1)]) F [2, 0] rfl ?_
                exact ih5 t5 (fun ρ => if (f ρ) ≠ 0 ∨ (f5 ρ) ≠ 0 then 1 else 0) j5 1 hE5 hA5 hb5 ho5 hi5 (by show _ = (if _ then _ else _); rw [← hx, ← hr5]; exact (if_pos (by first | exact Or.inl c12 | exact Or.inr c12)).symm) (hL.trans (loG_go (decide_eq_true c3) hp5)) (by have := hs9; omega)
    refine v_sub (ls' := [(0, .ref (ad 0)), (1, .int r1)]) F [1, 0] rfl ?_
    exact L5 (z + 1) t1 f1 j1 r1 hE1 hA1 hb1 ho1 hi1 hr1 (chG_go hp1) (by omega)
