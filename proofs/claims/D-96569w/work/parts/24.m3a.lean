set_option maxRecDepth 100000
theorem ok_X8_opens : vv_oc yX8_opens 1 0 (ws_ yX8_opens cX8_opens 1 (some .boolean)) := vv_ok.oc (rt := (some .boolean)) ⟨q1464, q133, by decide +kernel, by decide +kernel⟩
theorem is_X8_opens : Cond.instanceMethod yX8_opens ∈ lw_all ∧ Cond.selects RX8 yX8_opens yX8_opens ∈ lw_all := ⟨q1463, qs62⟩
set_option maxHeartbeats 4000000 in
theorem cm_X8_opens {l : Launch} {Kf : State → Prop} {D : va_G} {ad : Nat → Nat} {cI cZ : ClassId} {A : Nat → Prop} (G : mG A Kf D cI cZ) {b : Nat → Int32} {z t i d : Nat} (σ : mS)  (hT : pTx b z t σ) (hA : pAt b z σ i) (hi : i ≤ z) (hb : σ 0 27 = 0) (ho : σ 0 26 = nI d) (hd : d < 5) : vv_Ct l yX8_opens (ws_ yX8_opens cX8_opens 1 (some .boolean)) (rm 2 47) Kf (mWd D ad cI cZ A) A [.ref (ad 0)] σ (vv_i (bI True) (fun u => pEq σ u ∧ pAt b z u (tN b z i) ∧ u 0 27 = 0 ∧ u 0 26 = nI (d + 1))) := by
  refine vv_of (by decide +kernel) (Nat.le_of_ble_eq_true rfl) ?_
  intro v (F : vv_F v l cX8_opens 1 RX8 "opens" (some .boolean) [] (rm 2 47) Kf (mWd D ad cI cZ A) A _)
  show v σ 0 0 0 [(0, .ref (ad 0))] []
  refine v_aload_n F 0 dX8_opens_0 rfl rfl rfl ?_
  refine m_get F G 26 (w := .int (σ 0 26)) (by decide) q1279 rfl dX8_opens_1 rfl ?_
  refine v_int F (ho) ?_
  refine v_iconst (x := 5) F dX8_opens_4 rfl (by decide) ?_
  refine v_icmp_neN (a := d) (b := 5) (tgt := 14) (q := 8) F dX8_opens_5 rfl rfl (by omega) (by omega) (fun c1 => ?_) (fun c1 => ?_)
  · skip
    refine v_aload_n F 0 dX8_opens_14 rfl rfl rfl ?_
    refine v_dup F dX8_opens_15 rfl rfl ?_
    refine m_get F G 26 (w := .int (σ 0 26)) (by decide) q1279 rfl dX8_opens_16 rfl ?_
    refine v_int F (ho) ?_
    refine v_iconst (x := 1) F dX8_opens_19 rfl (by decide) ?_
    refine v_iaddN (a := d) (b := 1) F dX8_opens_20 rfl ?_
    refine m_put26 F G q1279 dX8_opens_21 rfl ?_
    have ho9 : up σ 0 26 (nI (d + 1)) 0 26 = nI (d + 1) := rfl
    refine v_aload_n F 0 dX8_opens_24 rfl rfl rfl ?_
    refine m_calln F G (cm_X8_next (i := tN b z i) G (up σ 0 26 (nI (d + 1))) (pTx.eq hT (pEq.u pEq.rf (j := 26) (by decide) (nI (d + 1)))) (pAt.u hA (j := 26) (x := nI (d + 1)) (by decide)).2.2.1 (tN_le hi).2) ok_X8_next q1421 is_X8_next rfl rfl dX8_opens_25 rfl rfl ?_
    rintro t2 ⟨hN2, hA2⟩
    have hE2 : pEq σ t2 := pEq.trans (pEq.u pEq.rf (j := 26) (by decide) (nI (d + 1))) hN2.p
    have hb2 : t2 0 27 = 0 := (hN2 0 27 (by omega)).trans hb
    have ho2 : t2 0 26 = nI (d + 1) := (hN2 0 26 (by omega)).trans ho9
    have hi2 : tN b z i ≤ z := (tN_le hi).2
    refine v_iconst (x := 1) F dX8_opens_28 rfl (by decide) ?_
    exact v_retz F dX8_opens_29 rfl (by first | rfl | grind [bI]) (⟨hE2, hA2, hb2, ho2⟩)
  · skip
    exact absurd c1 (by omega)
set_option maxHeartbeats 4000000 in
theorem cm_X8_opens_5 {l : Launch} {Kf : State → Prop} {D : va_G} {ad : Nat → Nat} {cI cZ : ClassId} {A : Nat → Prop} (G : mG A Kf D cI cZ)  (σ : mS)  (hb : σ 0 27 = 0) (ho : σ 0 26 = nI 5) : vv_Ct l yX8_opens (ws_ yX8_opens cX8_opens 1 (some .boolean)) (rm 2 47) Kf (mWd D ad cI cZ A) A [.ref (ad 0)] σ (vv_i (bI False) (fun u => u = up (up σ 0 27 1) 0 28 (σ 0 24))) := by
  refine vv_of (by decide +kernel) (Nat.le_of_ble_eq_true rfl) ?_
  intro v (F : vv_F v l cX8_opens 1 RX8 "opens" (some .boolean) [] (rm 2 47) Kf (mWd D ad cI cZ A) A _)
  show v σ 0 0 0 [(0, .ref (ad 0))] []
  refine v_aload_n F 0 dX8_opens_0 rfl rfl rfl ?_
  refine m_get F G 26 (w := .int (σ 0 26)) (by decide) q1279 rfl dX8_opens_1 rfl ?_
  refine v_int F (ho) ?_
  refine v_iconst (x := 5) F dX8_opens_4 rfl (by decide) ?_
  refine v_icmp_neN (a := 5) (b := 5) (tgt := 14) (q := 8) F dX8_opens_5 rfl rfl (by omega) (by omega) (fun c1 => ?_) (fun c1 => ?_)
  · skip
    exact absurd c1 (by decide)
  · skip
    refine v_aload_n F 0 dX8_opens_8 rfl rfl rfl ?_
    refine m_calln F G (cm_X8_fail G σ hb) ok_X8_fail q1445 is_X8_fail rfl rfl dX8_opens_9 rfl rfl ?_
    intro u0 hu0; subst u0
    refine v_iconst (x := 0) F dX8_opens_12 rfl (by decide) ?_
    exact v_retz F dX8_opens_13 rfl (by first | rfl | grind [bI]) (rfl)
theorem ok_X8_name : vv_oc yX8_name 1 0 (ws_ yX8_name cX8_name 1 (some .int)) := vv_ok.oc (rt := (some .int)) ⟨q1504, q133, by decide +kernel, by decide +kernel⟩
theorem is_X8_name : Cond.instanceMethod yX8_name ∈ lw_all ∧ Cond.selects RX8 yX8_name yX8_name ∈ lw_all := ⟨q1503, qs72⟩
set_option maxHeartbeats 4000000 in
theorem cm_X8_name {l : Launch} {Kf : State → Prop} {D : va_G} {ad : Nat → Nat} {cI cZ : ClassId} {A : Nat → Prop} (G : mG A Kf D cI cZ) {b : Nat → Int32} {z t i : Nat} (σ : mS)  (hT : pTx b z t σ) (hA : pAt b z σ i) (hi : i ≤ z) (hb : σ 0 27 = 0) : vv_Ct l yX8_name (ws_ yX8_name cX8_name 1 (some .int)) (rm 3 71) Kf (mWd D ad cI cZ A) A [.ref (ad 0)] σ (vv_x (fun r u => match nmK b z i with | some k => r = σ 0 (14 + k) ∧ k < 6 ∧ u = σ | none => u = up (up σ 0 27 1) 0 28 (σ 0 24))) := by
  refine vv_of (by decide +kernel) (Nat.le_of_ble_eq_true rfl) ?_
  intro v (F : vv_F v l cX8_name 1 RX8 "name" (some .int) [] (rm 3 71) Kf (mWd D ad cI cZ A) A _)
  show v σ 0 0 0 [(0, .ref (ad 0))] []
  refine v_aload_n F 0 dX8_name_0 rfl rfl rfl ?_
  refine v_bipush (x := 115) F dX8_name_1 rfl (by decide) ?_
  refine v_bipush (x := 111) F dX8_name_3 rfl (by decide) ?_
  refine v_bipush (x := 105) F dX8_name_5 rfl (by decide) ?_
  refine v_bipush (x := 108) F dX8_name_7 rfl (by decide) ?_
  refine v_iconst (x := 0) F dX8_name_9 rfl (by decide) ?_
  refine v_iconst (x := 0) F dX8_name_10 rfl (by decide) ?_
  refine v_iconst (x := 0) F dX8_name_11 rfl (by decide) ?_
  refine v_iconst (x := 0) F dX8_name_12 rfl (by decide) ?_
  refine m_calli F G (cm_X8_isWord G σ 115 111 105 108 0 0 0 0 hT hA hi hb) ok_X8_isWord q1433 is_X8_isWord rfl rfl dX8_name_13 rfl rfl ?_
  intro u0 hu0; subst u0
  refine v_if_eqB (p := (wd b z i 115 111 105 108 0 0 0 0)) (tgt := 24) (q := 19) F dX8_name_16 rfl rfl (fun c1 => ?_) (fun c1 => ?_)
  · skip
    refine v_aload_n F 0 dX8_name_24 rfl rfl rfl ?_
    refine v_bipush (x := 121) F dX8_name_25 rfl (by decide) ?_
    refine v_bipush (x := 101) F dX8_name_27 rfl (by decide) ?_
    refine v_bipush (x := 97) F dX8_name_29 rfl (by decide) ?_
    refine v_bipush (x := 114) F dX8_name_31 rfl (by decide) ?_
    refine v_iconst (x := 0) F dX8_name_33 rfl (by decide) ?_
    refine v_iconst (x := 0) F dX8_name_34 rfl (by decide) ?_
    refine v_iconst (x := 0) F dX8_name_35 rfl (by decide) ?_
    refine v_iconst (x := 0) F dX8_name_36 rfl (by decide) ?_
    refine m_calli F G (cm_X8_isWord G σ 121 101 97 114 0 0 0 0 hT hA hi hb) ok_X8_isWord q1433 is_X8_isWord rfl rfl dX8_name_37 rfl rfl ?_
    intro u0 hu0; subst u0
    refine v_if_eqB (p := (wd b z i 121 101 97 114 0 0 0 0)) (tgt := 48) (q := 43) F dX8_name_40 rfl rfl (fun c2 => ?_) (fun c2 => ?_)
    · skip
      refine v_aload_n F 0 dX8_name_48 rfl rfl rfl ?_
      refine v_bipush (x := 110) F dX8_name_49 rfl (by decide) ?_
      refine v_bipush (x := 117) F dX8_name_51 rfl (by decide) ?_
      refine v_bipush (x := 109) F dX8_name_53 rfl (by decide) ?_
      refine v_bipush (x := 98) F dX8_name_55 rfl (by decide) ?_
      refine v_bipush (x := 101) F dX8_name_57 rfl (by decide) ?_
      refine v_bipush (x := 114) F dX8_name_59 rfl (by decide) ?_
      refine v_iconst (x := 0) F dX8_name_61 rfl (by decide) ?_
      refine v_iconst (x := 0) F dX8_name_62 rfl (by decide) ?_
      refine m_calli F G (cm_X8_isWord G σ 110 117 109 98 101 114 0 0 hT hA hi hb) ok_X8_isWord q1433 is_X8_isWord rfl rfl dX8_name_63 rfl rfl ?_
      intro u0 hu0; subst u0
      refine v_if_eqB (p := (wd b z i 110 117 109 98 101 114 0 0)) (tgt := 74) (q := 69) F dX8_name_66 rfl rfl (fun c3 => ?_) (fun c3 => ?_)
      · skip
        refine v_aload_n F 0 dX8_name_74 rfl rfl rfl ?_
        refine v_bipush (x := 98) F dX8_name_75 rfl (by decide) ?_
        refine v_bipush (x := 117) F dX8_name_77 rfl (by decide) ?_
        refine v_bipush (x := 108) F dX8_name_79 rfl (by decide) ?_
        refine v_bipush (x := 98) F dX8_name_81 rfl (by decide) ?_
        refine v_bipush (x := 115) F dX8_name_83 rfl (by decide) ?_
        refine v_iconst (x := 0) F dX8_name_85 rfl (by decide) ?_
        refine v_iconst (x := 0) F dX8_name_86 rfl (by decide) ?_
        refine v_iconst (x := 0) F dX8_name_87 rfl (by decide) ?_
        refine m_calli F G (cm_X8_isWord G σ 98 117 108 98 115 0 0 0 hT hA hi hb) ok_X8_isWord q1433 is_X8_isWord rfl rfl dX8_name_88 rfl rfl ?_
        intro u0 hu0; subst u0
        refine v_if_eqB (p := (wd b z i 98 117 108 98 115 0 0 0)) (tgt := 99) (q := 94) F dX8_name_91 rfl rfl (fun c4 => ?_) (fun c4 => ?_)
        · skip
          refine v_aload_n F 0 dX8_name_99 rfl rfl rfl ?_
          refine v_bipush (x := 103) F dX8_name_100 rfl (by decide) ?_
          refine v_bipush (x := 97) F dX8_name_102 rfl (by decide) ?_
          refine v_bipush (x := 114) F dX8_name_104 rfl (by decide) ?_
          refine v_bipush (x := 100) F dX8_name_106 rfl (by decide) ?_
          refine v_bipush (x := 101) F dX8_name_108 rfl (by decide) ?_
          refine v_bipush (x := 110) F dX8_name_110 rfl (by decide) ?_
          refine v_iconst (x := 0) F dX8_name_112 rfl (by decide) ?_
          refine v_iconst (x := 0) F dX8_name_113 rfl (by decide) ?_
          refine m_calli F G (cm_X8_isWord G σ 103 97 114 100 101 110 0 0 hT hA hi hb) ok_X8_isWord q1433 is_X8_isWord rfl rfl dX8_name_114 rfl rfl ?_
          intro u0 hu0; subst u0
          refine v_if_eqB (p := (wd b z i 103 97 114 100 101 110 0 0)) (tgt := 125) (q := 120) F dX8_name_117 rfl rfl (fun c5 => ?_) (fun c5 => ?_)
          · skip
            refine v_aload_n F 0 dX8_name_125 rfl rfl rfl ?_
            refine v_bipush (x := 103) F dX8_name_126 rfl (by decide) ?_
            refine v_bipush (x := 117) F dX8_name_128 rfl (by decide) ?_
            refine v_bipush (x := 97) F dX8_name_130 rfl (by decide) ?_
            refine v_bipush (x := 114) F dX8_name_132 rfl (by decide) ?_
            refine v_bipush (x := 100) F dX8_name_134 rfl (by decide) ?_
            refine v_bipush (x := 115) F dX8_name_136 rfl (by decide) ?_
            refine v_iconst (x := 0) F dX8_name_138 rfl (by decide) ?_
            refine v_iconst (x := 0) F dX8_name_139 rfl (by decide) ?_
            refine m_calli F G (cm_X8_isWord G σ 103 117 97 114 100 115 0 0 hT hA hi hb) ok_X8_isWord q1433 is_X8_isWord rfl rfl dX8_name_140 rfl rfl ?_
            intro u0 hu0; subst u0
            refine v_if_eqB (p := (wd b z i 103 117 97 114 100 115 0 0)) (tgt := 151) (q := 146) F dX8_name_143 rfl rfl (fun c6 => ?_) (fun c6 => ?_)
            · skip
              refine v_aload_n F 0 dX8_name_151 rfl rfl rfl ?_
              refine m_calln F G (cm_X8_fail G σ hb) ok_X8_fail q1445 is_X8_fail rfl rfl dX8_name_152 rfl rfl ?_
              intro u0 hu0; subst u0
              refine v_iconst (x := 0) F dX8_name_155 rfl (by decide) ?_
              exact v_retx F dX8_name_156 rfl (by unfold nmK; rw [if_neg c1, if_neg c2, if_neg c3, if_neg c4, if_neg c5, if_neg c6])
            · skip
              refine v_aload_n F 0 dX8_name_146 rfl rfl rfl ?_
              refine m_get F G 19 (w := .int (σ 0 19)) (by decide) q1272 rfl dX8_name_147 rfl ?_
              exact v_retx F dX8_name_150 rfl (by unfold nmK; rw [if_neg c1, if_neg c2, if_neg c3, if_neg c4, if_neg c5, if_pos c6]; exact ⟨rfl, by decide, rfl⟩)
          · skip
            refine v_aload_n F 0 dX8_name_120 rfl rfl rfl ?_
            refine m_get F G 18 (w := .int (σ 0 18)) (by decide) q1271 rfl dX8_name_121 rfl ?_
            exact v_retx F dX8_name_124 rfl (by unfold nmK; rw [if_neg c1, if_neg c2, if_neg c3, if_neg c4, if_pos c5]; exact ⟨rfl, by decide, rfl⟩)
        · skip
          refine v_aload_n F 0 dX8_name_94 rfl rfl rfl ?_
          refine m_get F G 17 (w := .int (σ 0 17)) (by decide) q1270 rfl dX8_name_95 rfl ?_
          exact v_retx F dX8_name_98 rfl (by unfold nmK; rw [if_neg c1, if_neg c2, if_neg c3, if_pos c4]; exact ⟨rfl, by decide, rfl⟩)
      · skip
        refine v_aload_n F 0 dX8_name_69 rfl rfl rfl ?_
        refine m_get F G 16 (w := .int (σ 0 16)) (by decide) q1269 rfl dX8_name_70 rfl ?_
        exact v_retx F dX8_name_73 rfl (by unfold nmK; rw [if_neg c1, if_neg c2, if_pos c3]; exact ⟨rfl, by decide, rfl⟩)
    · skip
      refine v_aload_n F 0 dX8_name_43 rfl rfl rfl ?_
      refine m_get F G 15 (w := .int (σ 0 15)) (by decide) q1268 rfl dX8_name_44 rfl ?_
      exact v_retx F dX8_name_47 rfl (by unfold nmK; rw [if_neg c1, if_pos c2]; exact ⟨rfl, by decide, rfl⟩)
  · skip
    refine v_aload_n F 0 dX8_name_19 rfl rfl rfl ?_
    refine m_get F G 14 (w := .int (σ 0 14)) (by decide) q1267 rfl dX8_name_20 rfl ?_
    exact v_retx F dX8_name_23 rfl (by unfold nmK; rw [if_pos c1]; exact ⟨rfl, by decide, rfl⟩)
theorem ok_X8_atom5 : vv_oc yX8_atom5 2 0 (ws_ yX8_atom5 cX8_atom5 2 (some .int)) := vv_ok.oc (rt := (some .int)) ⟨q1496, q133, by decide +kernel, by decide +kernel⟩
theorem is_X8_atom5 : Cond.instanceMethod yX8_atom5 ∈ lw_all ∧ Cond.selects RX8 yX8_atom5 yX8_atom5 ∈ lw_all := ⟨q1495, qs70⟩
set_option maxHeartbeats 4000000 in
theorem cm_X8_atom5 {l : Launch} {Kf : State → Prop} {D : va_G} {ad : Nat → Nat} {cI cZ : ClassId} {A : Nat → Prop} (G : mG A Kf D cI cZ) {b : Nat → Int32} {z t i : Nat} (σ : mS)  (hT : pTx b z t σ) (hA : pAt b z σ i) (hi : i ≤ z) (hb : σ 0 27 = 0) (ho : σ 0 26 = nI 5) : vv_Ct l yX8_atom5 (ws_ yX8_atom5 cX8_atom5 2 (some .int)) (rm 4 91) Kf (mWd D ad cI cZ A) A [.ref (ad 0)] σ (vv_x (fun r u => pEq σ u ∧ pRes b z 5 σ u r ((PX b z 0).1 i))) := by
  refine vv_of (by decide +kernel) (Nat.le_of_ble_eq_true rfl) ?_
  intro v (F : vv_F v l cX8_atom5 2 RX8 "atom5" (some .int) [] (rm 4 91) Kf (mWd D ad cI cZ A) A _)
  show v σ 0 0 0 [(0, .ref (ad 0))] []
  refine v_iconst (x := 0) F dX8_atom5_0 rfl (by decide) ?_
  refine v_istore_n (ls' := [(1, .int 0), (0, .ref (ad 0))]) F dX8_atom5_1 rfl rfl (by decide) rfl ?_
  refine v_aload_n F 1 dX8_atom5_2 rfl rfl rfl ?_
  refine v_bipush (x := 45) F dX8_atom5_3 rfl (by decide) ?_
  refine m_calli F G (cm_X8_isSign G σ 45 hA hb) ok_X8_isSign q1497 is_X8_isSign rfl rfl dX8_atom5_5 rfl rfl ?_
  intro u0 hu0; subst u0
  refine v_if_eqB (p := (sg b z i 45)) (tgt := 19) (q := 11) F dX8_atom5_8 rfl rfl (fun c1 => ?_) (fun c1 => ?_)
  · skip
    refine v_aload_n F 1 dX8_atom5_19 rfl rfl rfl ?_
    refine v_bipush (x := 40) F dX8_atom5_20 rfl (by decide) ?_
    refine m_calli F G (cm_X8_isSign G σ 40 hA hb) ok_X8_isSign q1497 is_X8_isSign rfl rfl dX8_atom5_22 rfl rfl ?_
    intro u0 hu0; subst u0
    refine v_if_eqB (p := (sg b z i 40)) (tgt := 36) (q := 28) F dX8_atom5_25 rfl rfl (fun c2 => ?_) (fun c2 => ?_)
    · skip
      refine v_aload_n F 1 dX8_atom5_36 rfl rfl rfl ?_
      refine m_get F G 27 (w := .int (σ 0 27)) (by decide) q1280 rfl dX8_atom5_37 rfl ?_
      refine v_int F (y := 0) (hb) ?_
      refine v_if_ne (tgt := 64) (q := 43) F dX8_atom5_40 rfl rfl (fun c3 => ?_) (fun c3 => ?_)
      · skip
        exact absurd c3 (by decide)
      · skip
        refine v_aload_n F 1 dX8_atom5_43 rfl rfl rfl ?_
        refine m_get F G 23 (w := .int (σ 0 23)) (by decide) q1276 rfl dX8_atom5_44 rfl ?_
        refine v_int F (hA.1) ?_
        refine v_iconst (x := 2) F dX8_atom5_47 rfl (by decide) ?_
        refine v_icmp_ne (tgt := 64) (q := 51) F dX8_atom5_48 rfl rfl (fun c4 => ?_) (fun c4 => ?_)
        · skip
          refine v_aload_n F 1 dX8_atom5_64 rfl rfl rfl ?_
          refine m_get F G 27 (w := .int (σ 0 27)) (by decide) q1280 rfl dX8_atom5_65 rfl ?_
          refine v_int F (y := 0) (hb) ?_
          refine v_if_ne (tgt := 98) (q := 71) F dX8_atom5_68 rfl rfl (fun c5 => ?_) (fun c5 => ?_)
          · skip
            exact absurd c5 (by decide)
          · skip
            refine v_aload_n F 1 dX8_atom5_71 rfl rfl rfl ?_
            refine m_get F G 23 (w := .int (σ 0 23)) (by decide) q1276 rfl dX8_atom5_72 rfl ?_
            refine v_int F (hA.1) ?_
            refine v_iconst (x := 1) F dX8_atom5_75 rfl (by decide) ?_
            refine v_icmp_ne (tgt := 98) (q := 79) F dX8_atom5_76 rfl rfl (fun c6 => ?_) (fun c6 => ?_)
            · skip
              refine v_aload_n F 1 dX8_atom5_98 rfl rfl rfl ?_
              refine m_calln F G (cm_X8_fail G σ hb) ok_X8_fail q1445 is_X8_fail rfl rfl dX8_atom5_99 rfl rfl ?_
              intro u0 hu0; subst u0
              refine v_iload_n F 0 dX8_atom5_102 rfl rfl rfl ?_
              exact v_retx F dX8_atom5_103 rfl (⟨(pEq.u (pEq.u pEq.rf (j := 27) (by decide) 1) (j := 28) (by decide) (σ 0 24)), pRes.e (PXa0.trans (atG_el c1 c2 c4 c6)) rfl hA.2.1⟩)
            · skip
              refine v_aload_n F 1 dX8_atom5_79 rfl rfl rfl ?_
              refine m_callx F G (cm_X8_name G σ hT hA hi hb) ok_X8_name q1501 is_X8_name rfl rfl dX8_atom5_80 rfl rfl ?_
              intro r7 t7 hm7
              rcases hn7 : nmK b z i with _ | k7
              · skip
                rw [hn7] at hm7
                have hm7 : t7 = up (up σ 0 27 1) 0 28 (σ 0 24) := hm7
                subst t7
                refine v_istore_n (ls' := [(1, .int r7), (0, .ref (ad 0))]) F dX8_atom5_83 rfl rfl (by decide) rfl ?_
                refine v_aload_n F 1 dX8_atom5_84 rfl rfl rfl ?_
                refine m_get F G 27 (w := .int 1) (by decide) q1280 rfl dX8_atom5_85 rfl ?_
                refine v_if_ne (tgt := 102) (q := 91) F dX8_atom5_88 rfl rfl (fun c8 => ?_) (fun c8 => ?_)
                · skip
                  refine v_iload_n F 0 dX8_atom5_102 rfl rfl rfl ?_
                  exact v_retx F dX8_atom5_103 rfl (⟨(pEq.u (pEq.u pEq.rf (j := 27) (by decide) 1) (j := 28) (by decide) (σ 0 24)), pRes.e (PXa0.trans (atG_nn c1 c2 c4 c6 hn7)) rfl hA.2.1⟩)
                · skip
                  exact absurd c8 (by decide)
              · skip
                rw [hn7] at hm7
                obtain ⟨hr7, hk7, hu7⟩ : r7 = σ 0 (14 + k7) ∧ k7 < 6 ∧ t7 = σ := hm7
                subst t7
                refine v_istore_n (ls' := [(1, .int r7), (0, .ref (ad 0))]) F dX8_atom5_83 rfl rfl (by decide) rfl ?_
                refine v_aload_n F 1 dX8_atom5_84 rfl rfl rfl ?_
                refine m_get F G 27 (w := .int (σ 0 27)) (by decide) q1280 rfl dX8_atom5_85 rfl ?_
                refine v_int F (y := 0) (hb) ?_
                refine v_if_ne (tgt := 102) (q := 91) F dX8_atom5_88 rfl rfl (fun c9 => ?_) (fun c9 => ?_)
                · skip
                  exact absurd c9 (by decide)
                · skip
                  refine v_aload_n F 1 dX8_atom5_91 rfl rfl rfl ?_
                  refine m_calln F G (cm_X8_next (i := tN b z i) G σ hT hA.2.2.1 (tN_le hi).2) ok_X8_next q1421 is_X8_next rfl rfl dX8_atom5_92 rfl rfl ?_
                  rintro t10 ⟨hN10, hA10⟩
                  have hE10 : pEq σ t10 := pEq.trans pEq.rf hN10.p
                  have hb10 : t10 0 27 = 0 := (hN10 0 27 (by omega)).trans hb
                  have ho10 : t10 0 26 = nI 5 := (hN10 0 26 (by omega)).trans ho
                  have hi10 : tN b z i ≤ z := (tN_le hi).2
                  refine v_goto (tgt := 102) F dX8_atom5_95 rfl ?_
                  refine v_iload_n F 0 dX8_atom5_102 rfl rfl rfl ?_
                  exact v_retx F dX8_atom5_103 rfl (⟨hE10, pRes.o (PXa0.trans (atG_nm c1 c2 c4 c6 hn7)) (by rw [hr7]; show _ = rho σ k7; unfold rho; rw [if_pos hk7]) hA10 hb10 ho10⟩)
        · skip
          refine v_aload_n F 1 dX8_atom5_51 rfl rfl rfl ?_
          refine m_get F G 25 (w := .long (Int32.toInt64 (σ 0 25))) (by decide) q1278 rfl dX8_atom5_52 rfl ?_
          refine v_lng F (y := Int32.toInt64 (tW b z i)) (by rw [hA.2.2.2 (Or.inl c4)]) ?_
          refine v_l2i F dX8_atom5_55 rfl ?_
          refine v_int F (y := tW b z i) (Int32.toInt32_toInt64 _) ?_
          refine v_istore_n (ls' := [(1, .int (tW b z i)), (0, .ref (ad 0))]) F dX8_atom5_56 rfl rfl (by decide) rfl ?_
          refine v_aload_n F 1 dX8_atom5_57 rfl rfl rfl ?_
          refine m_calln F G (cm_X8_next (i := tN b z i) G σ hT hA.2.2.1 (tN_le hi).2) ok_X8_next q1421 is_X8_next rfl rfl dX8_atom5_58 rfl rfl ?_
          rintro t11 ⟨hN11, hA11⟩
          have hE11 : pEq σ t11 := pEq.trans pEq.rf hN11.p
          have hb11 : t11 0 27 = 0 := (hN11 0 27 (by omega)).trans hb
          have ho11 : t11 0 26 = nI 5 := (hN11 0 26 (by omega)).trans ho
          have hi11 : tN b z i ≤ z := (tN_le hi).2
          refine v_goto (tgt := 102) F dX8_atom5_61 rfl ?_
          refine v_iload_n F 0 dX8_atom5_102 rfl rfl rfl ?_
          exact v_retx F dX8_atom5_103 rfl (⟨hE11, pRes.o (PXa0.trans (atG_num c1 c2 c4)) (rfl) hA11 hb11 ho11⟩)
    · skip
      refine v_aload_n F 1 dX8_atom5_28 rfl rfl rfl ?_
      refine m_calli F G (cm_X8_opens_5 G σ hb ho) ok_X8_opens q1461 is_X8_opens rfl rfl dX8_atom5_29 rfl rfl ?_
      intro u0 hu0; subst u0
      refine v_pop F dX8_atom5_32 rfl rfl ?_
      refine v_goto (tgt := 102) F dX8_atom5_33 rfl ?_
      refine v_iload_n F 0 dX8_atom5_102 rfl rfl rfl ?_
      exact v_retx F dX8_atom5_103 rfl (⟨(pEq.u (pEq.u pEq.rf (j := 27) (by decide) 1) (j := 28) (by decide) (σ 0 24)), pRes.e (PXa0.trans (atG_dp rfl c1 c2)) rfl hA.2.1⟩)
  · skip
    refine v_aload_n F 1 dX8_atom5_11 rfl rfl rfl ?_
    refine m_calli F G (cm_X8_opens_5 G σ hb ho) ok_X8_opens q1461 is_X8_opens rfl rfl dX8_atom5_12 rfl rfl ?_
    intro u0 hu0; subst u0
    refine v_pop F dX8_atom5_15 rfl rfl ?_
    refine v_goto (tgt := 102) F dX8_atom5_16 rfl ?_
    refine v_iload_n F 0 dX8_atom5_102 rfl rfl rfl ?_
    exact v_retx F dX8_atom5_103 rfl (⟨(pEq.u (pEq.u pEq.rf (j := 27) (by decide) 1) (j := 28) (by decide) (σ 0 24)), pRes.e (PXa0.trans (atG_dn rfl c1)) rfl hA.2.1⟩)
theorem ok_X8_term5 : vv_oc yX8_term5 2 0 (ws_ yX8_term5 cX8_term5 2 (some .int)) := vv_ok.oc (rt := (some .int)) ⟨q1492, q133, by decide +kernel, by decide +kernel⟩
theorem is_X8_term5 : Cond.instanceMethod yX8_term5 ∈ lw_all ∧ Cond.selects RX8 yX8_term5 yX8_term5 ∈ lw_all := ⟨q1491, qs69⟩
set_option maxHeartbeats 4000000 in
theorem cm_X8_term5 {l : Launch} {Kf : State → Prop} {D : va_G} {ad : Nat → Nat} {cI cZ : ClassId} {A : Nat → Prop} (G : mG A Kf D cI cZ) {b : Nat → Int32} {z t i : Nat} (σ : mS)  (hT : pTx b z t σ) (hA : pAt b z σ i) (hi : i ≤ z) (hb : σ 0 27 = 0) (ho : σ 0 26 = nI 5) : vv_Ct l yX8_term5 (ws_ yX8_term5 cX8_term5 2 (some .int)) (rm 5 112) Kf (mWd D ad cI cZ A) A [.ref (ad 0)] σ (vv_x (fun r u => pEq σ u ∧ pRes b z 5 σ u r ((teG b z (PX b z 0).1) i))) := by
  refine vv_of (by decide +kernel) (Nat.le_of_ble_eq_true rfl) ?_
  intro v (F : vv_F v l cX8_term5 2 RX8 "term5" (some .int) [] (rm 5 112) Kf (mWd D ad cI cZ A) A _)
  show v σ 0 0 0 [(0, .ref (ad 0))] []
  refine v_aload_n F 0 dX8_term5_0 rfl rfl rfl ?_
  refine m_callx F G (cm_X8_atom5 G σ hT hA hi hb ho) ok_X8_atom5 q1493 is_X8_atom5 rfl rfl dX8_term5_1 rfl rfl ?_
  rintro r1 t1 ⟨hN1, hR1⟩
  have hE1 : pEq σ t1 := pEq.trans pEq.rf hN1
  rcases hp1 : (PX b z 0).1 i with e1 | ⟨f1, j1⟩
  · skip
    rw [hp1] at hR1
    obtain ⟨hb1, hf1⟩ : t1 0 27 = 1 ∧ t1 0 28 = nI e1 := hR1
    refine v_istore_n (ls' := [(1, .int r1), (0, .ref (ad 0))]) F dX8_term5_4 rfl rfl (by decide) rfl ?_
    refine v_aload_n F 1 dX8_term5_5 rfl rfl rfl ?_
    refine v_bipush (x := 42) F dX8_term5_6 rfl (by decide) ?_
    refine m_calli F G (cm_X8_isSign_b G t1 42 hb1) ok_X8_isSign q1497 is_X8_isSign rfl rfl dX8_term5_8 rfl rfl ?_
    intro u0 hu0; subst u0
    refine v_if_eq (tgt := 28) (q := 14) F dX8_term5_11 rfl rfl (fun c2 => ?_) (fun c2 => ?_)
    · skip
      refine v_iload_n F 0 dX8_term5_28 rfl rfl rfl ?_
      exact v_retx F dX8_term5_29 rfl (⟨hE1, pRes.e (chG_er hp1) hb1 hf1⟩)
    · skip
      exact absurd c2 (by decide)
  · skip
    rw [hp1] at hR1
    obtain ⟨hr1, hA1, hb1, ho1⟩ : r1 = f1 (rho σ) ∧ pAt b z t1 j1 ∧ t1 0 27 = 0 ∧ t1 0 26 = nI 5 := hR1
    rw [rho_eq pEq.rf] at hr1
    have hg1 := (PX_good 0).1 _ _ _ hi hp1
    have hi1 : j1 ≤ z := hg1.2
    refine v_istore_n (ls' := [(1, .int r1), (0, .ref (ad 0))]) F dX8_term5_4 rfl rfl (by decide) rfl ?_
    have L5 : ∀ (n : Nat) (s : mS) (f : (Nat → Int32) → Int32) (j : Nat) (x : Int32) (hEs : pEq σ s) (hAs : pAt b z s j) (hbs : s 0 27 = 0) (hos : s 0 26 = nI 5) (hj : j ≤ z) (hx : x = f (rho σ)) (hL : (teG b z (PX b z 0).1) i = loG b z (fun i => decide (sg b z i 42)) (PX b z 0).1 (fun _ x y => x * y) n f j) (hn : z - j < n), v s 0 0 5 [(0, .ref (ad 0)), (1, .int x)] [] := by
      intro n
      induction n with
      | zero => intro s f j x hEs hAs hbs hos hj hx hL hn; exact absurd hn (Nat.not_lt_zero _)
      | succ n ih5 =>
        intro s f j x hEs hAs hbs hos hj hx hL hn
        refine v_aload_n F 0 dX8_term5_5 rfl rfl rfl ?_
        refine v_bipush (x := 42) F dX8_term5_6 rfl (by decide) ?_
        refine m_calli F G (cm_X8_isSign G s 42 hAs hbs) ok_X8_isSign q1497 is_X8_isSign rfl rfl dX8_term5_8 rfl rfl ?_
        intro u0 hu0; subst u0
        refine v_if_eqB (p := (sg b z j 42)) (tgt := 28) (q := 14) F dX8_term5_11 rfl rfl (fun c3 => ?_) (fun c3 => ?_)
        · skip
          refine v_iload_n F 1 dX8_term5_28 rfl rfl rfl ?_
          exact v_retx F dX8_term5_29 rfl (⟨hEs, pRes.o (hL.trans (loG_ou (fun h => c3 (of_decide_eq_true h)))) (hx) hAs hbs hos⟩)
        · skip
          have hs9 := (sg_lt hj c3).1
          refine v_aload_n F 0 dX8_term5_14 rfl rfl rfl ?_
          refine m_calln F G (cm_X8_next (i := tN b z j) G s (pTx.eq hT hEs) hAs.2.2.1 (tN_le hj).2) ok_X8_next q1421 is_X8_next rfl rfl dX8_term5_15 rfl rfl ?_
          rintro t4 ⟨hN4, hA4⟩
          have hE4 : pEq σ t4 := pEq.trans hEs hN4.p
          have hb4 : t4 0 27 = 0 := (hN4 0 27 (by omega)).trans hbs
          have ho4 : t4 0 26 = nI 5 := (hN4 0 26 (by omega)).trans hos
          have hi4 : tN b z j ≤ z := (tN_le hj).2
          refine v_iload_n F 1 dX8_term5_18 rfl rfl rfl ?_
          refine v_aload_n F 0 dX8_term5_19 rfl rfl rfl ?_
          refine m_callx F G (cm_X8_atom5 G t4 (pTx.eq hT hE4) hA4 hi4 hb4 ho4) ok_X8_atom5 q1493 is_X8_atom5 rfl rfl dX8_term5_20 rfl rfl ?_
          rintro r5 t5 ⟨hN5, hR5⟩
          have hE5 : pEq σ t5 := pEq.trans hE4 hN5
          rcases hp5 : (PX b z 0).1 (tN b z j) with e5 | ⟨f5, j5⟩
          · skip
            rw [hp5] at hR5
            obtain ⟨hb5, hf5⟩ : t5 0 27 = 1 ∧ t5 0 28 = nI e5 := hR5
            refine v_imul F dX8_term5_23 rfl ?_
            refine v_istore_n (ls' := [(1, .int (x * r5)), (0, .ref (ad 0))]) F dX8_term5_24 rfl rfl (by decide) rfl ?_
            refine v_goto (tgt := 5) F dX8_term5_25 rfl ?_
            refine v_aload_n F 1 dX8_term5_5 rfl rfl rfl ?_
            refine v_bipush (x := 42) F dX8_term5_6 rfl (by decide) ?_
            refine m_calli F G (cm_X8_isSign_b G t5 42 hb5) ok_X8_isSign q1497 is_X8_isSign rfl rfl dX8_term5_8 rfl rfl ?_
            intro u0 hu0; subst u0
            refine v_if_eq (tgt := 28) (q := 14) F dX8_term5_11 rfl rfl (fun c6 => ?_) (fun c6 => ?_)
            · skip
              refine v_iload_n F 0 dX8_term5_28 rfl rfl rfl ?_
              exact v_retx F dX8_term5_29 rfl (⟨hE5, pRes.e (hL.trans (loG_er (decide_eq_true c3) hp5)) hb5 hf5⟩)
            · skip
              exact absurd c6 (by decide)
          · skip
            rw [hp5] at hR5
            obtain ⟨hr5, hA5, hb5, ho5⟩ : r5 = f5 (rho t4) ∧ pAt b z t5 j5 ∧ t5 0 27 = 0 ∧ t5 0 26 = nI 5 := hR5
            rw [rho_eq hE4] at hr5
            have hg5 := (PX_good 0).1 _ _ _ hi4 hp5
            have hi5 : j5 ≤ z := hg5.2
            refine v_imul F dX8_term5_23 rfl ?_
            refine v_istore_n (ls' := [(1, .int (x * r5)), (0, .ref (ad 0))]) F dX8_term5_24 rfl rfl (by decide) rfl ?_
            have hs8 := hg5
            refine v_goto (tgt := 5) F dX8_term5_25 rfl ?_
            refine v_sub (ls' := [(0, .ref (ad 0)), (1, .int (x * r5))]) F [1, 0] rfl ?_
            exact ih5 t5 (fun ρ => (f ρ) * (f5 ρ)) j5 (x * r5) hE5 hA5 hb5 ho5 hi5 (by rw [hx, hr5]) (hL.trans (loG_go (decide_eq_true c3) hp5)) (by have := hs9; omega)
    refine v_sub (ls' := [(0, .ref (ad 0)), (1, .int r1)]) F [1, 0] rfl ?_
    exact L5 (z + 1) t1 f1 j1 r1 hE1 hA1 hb1 ho1 hi1 hr1 (chG_go hp1) (by omega)
theorem ok_X8_added5 : vv_oc yX8_added5 4 0 (ws_ yX8_added5 cX8_added5 4 (some .int)) := vv_ok.oc (rt := (some .int)) ⟨q1488, q133, by decide +kernel, by decide +kernel⟩
theorem is_X8_added5 : Cond.instanceMethod yX8_added5 ∈ lw_all ∧ Cond.selects RX8 yX8_added5 yX8_added5 ∈ lw_all := ⟨q1487, qs68⟩
set_option maxHeartbeats 4000000 in
theorem cm_X8_added5 {l : Launch} {Kf : State → Prop} {D : va_G} {ad : Nat → Nat} {cI cZ : ClassId} {A : Nat → Prop} (G : mG A Kf D cI cZ) {b : Nat → Int32} {z t i : Nat} (σ : mS)  (hT : pTx b z t σ) (hA : pAt b z σ i) (hi : i ≤ z) (hb : σ 0 27 = 0) (ho : σ 0 26 = nI 5) : vv_Ct l yX8_added5 (ws_ yX8_added5 cX8_added5 4 (some .int)) (rm 6 133) Kf (mWd D ad cI cZ A) A [.ref (ad 0)] σ (vv_x (fun r u => pEq σ u ∧ pRes b z 5 σ u r ((adG b z (PX b z 0).1) i))) := by
  refine vv_of (by decide +kernel) (Nat.le_of_ble_eq_true rfl) ?_
  intro v (F : vv_F v l cX8_added5 4 RX8 "added5" (some .int) [] (rm 6 133) Kf (mWd D ad cI cZ A) A _)
  show v σ 0 0 0 [(0, .ref (ad 0))] []
  refine v_aload_n F 0 dX8_added5_0 rfl rfl rfl ?_
  refine m_callx F G (cm_X8_term5 G σ hT hA hi hb ho) ok_X8_term5 q1489 is_X8_term5 rfl rfl dX8_added5_1 rfl rfl ?_
  rintro r1 t1 ⟨hN1, hR1⟩
  have hE1 : pEq σ t1 := pEq.trans pEq.rf hN1
  rcases hp1 : (teG b z (PX b z 0).1) i with e1 | ⟨f1, j1⟩
  · skip
    rw [hp1] at hR1
    obtain ⟨hb1, hf1⟩ : t1 0 27 = 1 ∧ t1 0 28 = nI e1 := hR1
    refine v_istore_n (ls' := [(1, .int r1), (0, .ref (ad 0))]) F dX8_added5_4 rfl rfl (by decide) rfl ?_
    refine v_aload_n F 1 dX8_added5_5 rfl rfl rfl ?_
    refine v_bipush (x := 43) F dX8_added5_6 rfl (by decide) ?_
    refine m_calli F G (cm_X8_isSign_b G t1 43 hb1) ok_X8_isSign q1497 is_X8_isSign rfl rfl dX8_added5_8 rfl rfl ?_
    intro u0 hu0; subst u0
    refine v_if_ne (tgt := 23) (q := 14) F dX8_added5_11 rfl rfl (fun c2 => ?_) (fun c2 => ?_)
    · skip
      exact absurd c2 (by decide)
    · skip
      refine v_aload_n F 1 dX8_added5_14 rfl rfl rfl ?_
      refine v_bipush (x := 45) F dX8_added5_15 rfl (by decide) ?_
      refine m_calli F G (cm_X8_isSign_b G t1 45 hb1) ok_X8_isSign q1497 is_X8_isSign rfl rfl dX8_added5_17 rfl rfl ?_
      intro u0 hu0; subst u0
      refine v_if_eq (tgt := 66) (q := 23) F dX8_added5_20 rfl rfl (fun c3 => ?_) (fun c3 => ?_)
      · skip
        refine v_iload_n F 0 dX8_added5_66 rfl rfl rfl ?_
        exact v_retx F dX8_added5_67 rfl (⟨hE1, pRes.e (chG_er hp1) hb1 hf1⟩)
      · skip
        exact absurd c3 (by decide)
  · skip
    rw [hp1] at hR1
    obtain ⟨hr1, hA1, hb1, ho1⟩ : r1 = f1 (rho σ) ∧ pAt b z t1 j1 ∧ t1 0 27 = 0 ∧ t1 0 26 = nI 5 := hR1
    rw [rho_eq pEq.rf] at hr1
    have hg1 := (teG_good (PX_good 0).1) _ _ _ hi hp1
    have hi1 : j1 ≤ z := hg1.2
    refine v_istore_n (ls' := [(1, .int r1), (0, .ref (ad 0))]) F dX8_added5_4 rfl rfl (by decide) rfl ?_
    have L5 : ∀ (n : Nat) (s : mS) (f : (Nat → Int32) → Int32) (j : Nat) (x : Int32) (hEs : pEq σ s) (hAs : pAt b z s j) (hbs : s 0 27 = 0) (hos : s 0 26 = nI 5) (hj : j ≤ z) (hx : x = f (rho σ)) (hL : (adG b z (PX b z 0).1) i = loG b z (fun i => decide (sg b z i 43 ∨ sg b z i 45)) (teG b z (PX b z 0).1) (fun i x y => if tW b z i = 43 then x + y else x - y) n f j) (hn : z - j < n), v s 0 0 5 [(0, .ref (ad 0)), (1, .int x)] [] := by
      intro n
      induction n with
      | zero => intro s f j x hEs hAs hbs hos hj hx hL hn; exact absurd hn (Nat.not_lt_zero _)
      | succ n ih5 =>
        intro s f j x hEs hAs hbs hos hj hx hL hn
        refine v_aload_n F 0 dX8_added5_5 rfl rfl rfl ?_
        refine v_bipush (x := 43) F dX8_added5_6 rfl (by decide) ?_
        refine m_calli F G (cm_X8_isSign G s 43 hAs hbs) ok_X8_isSign q1497 is_X8_isSign rfl rfl dX8_added5_8 rfl rfl ?_
        intro u0 hu0; subst u0
        refine v_if_neB (p := (sg b z j 43)) (tgt := 23) (q := 14) F dX8_added5_11 rfl rfl (fun c4 => ?_) (fun c4 => ?_)
        · skip
          have hs9 := (sg_lt hj c4).1
          have h25 : s 0 25 = tW b z j := hAs.2.2.2 (Or.inr c4.1)
          refine v_aload_n F 0 dX8_added5_23 rfl rfl rfl ?_
          refine m_get F G 25 (w := .long (Int32.toInt64 (s 0 25))) (by decide) q1278 rfl dX8_added5_24 rfl ?_
          refine v_ldc2 F q1505 dX8_added5_27 rfl ?_
          refine v_lng (y := (43 : Int32).toInt64) F (by decide) ?_
          refine v_lcmp F dX8_added5_30 rfl ?_
          refine v_if_neLI (tgt := 38) (q := 34) F dX8_added5_31 rfl rfl (fun c5 => ?_) (fun c5 => ?_)
          · skip
            refine v_iconst (x := 0) F dX8_added5_38 rfl (by decide) ?_
            refine v_istore_n (ls' := [(2, .int 0), (0, .ref (ad 0)), (1, .int x)]) F dX8_added5_39 rfl rfl (by decide) rfl ?_
            refine v_aload_n F 1 dX8_added5_40 rfl rfl rfl ?_
            refine m_calln F G (cm_X8_next (i := tN b z j) G s (pTx.eq hT hEs) hAs.2.2.1 (tN_le hj).2) ok_X8_next q1421 is_X8_next rfl rfl dX8_added5_41 rfl rfl ?_
            rintro t6 ⟨hN6, hA6⟩
            have hE6 : pEq σ t6 := pEq.trans hEs hN6.p
            have hb6 : t6 0 27 = 0 := (hN6 0 27 (by omega)).trans hbs
            have ho6 : t6 0 26 = nI 5 := (hN6 0 26 (by omega)).trans hos
            have hi6 : tN b z j ≤ z := (tN_le hj).2
            refine v_aload_n F 1 dX8_added5_44 rfl rfl rfl ?_
            refine m_callx F G (cm_X8_term5 G t6 (pTx.eq hT hE6) hA6 hi6 hb6 ho6) ok_X8_term5 q1489 is_X8_term5 rfl rfl dX8_added5_45 rfl rfl ?_
            rintro r7 t7 ⟨hN7, hR7⟩
            have hE7 : pEq σ t7 := pEq.trans hE6 hN7
            rcases hp7 : (teG b z (PX b z 0).1) (tN b z j) with e7 | ⟨f7, j7⟩
            · skip
              rw [hp7] at hR7
              obtain ⟨hb7, hf7⟩ : t7 0 27 = 1 ∧ t7 0 28 = nI e7 := hR7
              refine v_istore_n (ls' := [(3, .int r7), (2, .int 0), (0, .ref (ad 0)), (1, .int x)]) F dX8_added5_48 rfl rfl (by decide) rfl ?_
              refine v_iload_n F 1 dX8_added5_49 rfl rfl rfl ?_
              refine v_if_eq (tgt := 59) (q := 53) F dX8_added5_50 rfl rfl (fun c8 => ?_) (fun c8 => ?_)
              · skip
                refine v_iload_n F 3 dX8_added5_59 rfl rfl rfl ?_
                refine v_iload_n F 0 dX8_added5_60 rfl rfl rfl ?_
                refine v_isub F dX8_added5_61 rfl ?_
                refine v_istore_n (ls' := [(1, .int (x - r7)), (3, .int r7), (2, .int 0), (0, .ref (ad 0))]) F dX8_added5_62 rfl rfl (by decide) rfl ?_
                refine v_goto (tgt := 5) F dX8_added5_63 rfl ?_
                refine v_aload_n F 3 dX8_added5_5 rfl rfl rfl ?_
                refine v_bipush (x := 43) F dX8_added5_6 rfl (by decide) ?_
                refine m_calli F G (cm_X8_isSign_b G t7 43 hb7) ok_X8_isSign q1497 is_X8_isSign rfl rfl dX8_added5_8 rfl rfl ?_
                intro u0 hu0; subst u0
                refine v_if_ne (tgt := 23) (q := 14) F dX8_added5_11 rfl rfl (fun c9 => ?_) (fun c9 => ?_)
                · skip
                  exact absurd c9 (by decide)
                · skip
                  refine v_aload_n F 3 dX8_added5_14 rfl rfl rfl ?_
                  refine v_bipush (x := 45) F dX8_added5_15 rfl (by decide) ?_
                  refine m_calli F G (cm_X8_isSign_b G t7 45 hb7) ok_X8_isSign q1497 is_X8_isSign rfl rfl dX8_added5_17 rfl rfl ?_
                  intro u0 hu0; subst u0
                  refine v_if_eq (tgt := 66) (q := 23) F dX8_added5_20 rfl rfl (fun c10 => ?_) (fun c10 => ?_)
                  · skip
                    refine v_iload_n F 0 dX8_added5_66 rfl rfl rfl ?_
                    exact v_retx F dX8_added5_67 rfl (⟨hE7, pRes.e (hL.trans (loG_er (decide_eq_true (Or.inl c4)) hp7)) hb7 hf7⟩)
                  · skip
                    exact absurd c10 (by decide)
              · skip
                exact absurd c8 (by decide)
            · skip
              rw [hp7] at hR7
              obtain ⟨hr7, hA7, hb7, ho7⟩ : r7 = f7 (rho t6) ∧ pAt b z t7 j7 ∧ t7 0 27 = 0 ∧ t7 0 26 = nI 5 := hR7
              rw [rho_eq hE6] at hr7
              have hg7 := (teG_good (PX_good 0).1) _ _ _ hi6 hp7
              have hi7 : j7 ≤ z := hg7.2
              refine v_istore_n (ls' := [(3, .int r7), (2, .int 0), (0, .ref (ad 0)), (1, .int x)]) F dX8_added5_48 rfl rfl (by decide) rfl ?_
              refine v_iload_n F 1 dX8_added5_49 rfl rfl rfl ?_
              refine v_if_eq (tgt := 59) (q := 53) F dX8_added5_50 rfl rfl (fun c11 => ?_) (fun c11 => ?_)
              · skip
                refine v_iload_n F 3 dX8_added5_59 rfl rfl rfl ?_
                refine v_iload_n F 0 dX8_added5_60 rfl rfl rfl ?_
                refine v_isub F dX8_added5_61 rfl ?_
                refine v_istore_n (ls' := [(1, .int (x - r7)), (3, .int r7), (2, .int 0), (0, .ref (ad 0))]) F dX8_added5_62 rfl rfl (by decide) rfl ?_
                refine v_goto (tgt := 5) F dX8_added5_63 rfl ?_
                refine v_sub (ls' := [(0, .ref (ad 0)), (1, .int (x - r7))]) F [3, 0] rfl ?_
                exact ih5 t7 (fun ρ => if tW b z j = 43 then (f ρ) + (f7 ρ) else (f ρ) - (f7 ρ)) j7 (x - r7) hE7 hA7 hb7 ho7 hi7 (by show _ = (if tW b z j = 43 then _ else _); rw [if_neg (fun h => c5 (h25.trans h)), hx, hr7]) (hL.trans (loG_go (decide_eq_true (Or.inl c4)) hp7)) (by have := hs9; omega)
              · skip
                exact absurd c11 (by decide)
          · skip
            refine v_iconst (x := 1) F dX8_added5_34 rfl (by decide) ?_
            refine v_goto (tgt := 39) F dX8_added5_35 rfl ?_
            refine v_istore_n (ls' := [(2, .int 1), (0, .ref (ad 0)), (1, .int x)]) F dX8_added5_39 rfl rfl (by decide) rfl ?_
            refine v_aload_n F 1 dX8_added5_40 rfl rfl rfl ?_
            refine m_calln F G (cm_X8_next (i := tN b z j) G s (pTx.eq hT hEs) hAs.2.2.1 (tN_le hj).2) ok_X8_next q1421 is_X8_next rfl rfl dX8_added5_41 rfl rfl ?_
            rintro t12 ⟨hN12, hA12⟩
            have hE12 : pEq σ t12 := pEq.trans hEs hN12.p
            have hb12 : t12 0 27 = 0 := (hN12 0 27 (by omega)).trans hbs
            have ho12 : t12 0 26 = nI 5 := (hN12 0 26 (by omega)).trans hos
            have hi12 : tN b z j ≤ z := (tN_le hj).2
            refine v_aload_n F 1 dX8_added5_44 rfl rfl rfl ?_
            refine m_callx F G (cm_X8_term5 G t12 (pTx.eq hT hE12) hA12 hi12 hb12 ho12) ok_X8_term5 q1489 is_X8_term5 rfl rfl dX8_added5_45 rfl rfl ?_
            rintro r13 t13 ⟨hN13, hR13⟩
            have hE13 : pEq σ t13 := pEq.trans hE12 hN13
            rcases hp13 : (teG b z (PX b z 0).1) (tN b z j) with e13 | ⟨f13, j13⟩
            · skip
              rw [hp13] at hR13
              obtain ⟨hb13, hf13⟩ : t13 0 27 = 1 ∧ t13 0 28 = nI e13 := hR13
              refine v_istore_n (ls' := [(3, .int r13), (2, .int 1), (0, .ref (ad 0)), (1, .int x)]) F dX8_added5_48 rfl rfl (by decide) rfl ?_
              refine v_iload_n F 1 dX8_added5_49 rfl rfl rfl ?_
              refine v_if_eq (tgt := 59) (q := 53) F dX8_added5_50 rfl rfl (fun c14 => ?_) (fun c14 => ?_)
              · skip
                exact absurd c14 (by decide)
              · skip
                refine v_iload_n F 3 dX8_added5_53 rfl rfl rfl ?_
                refine v_iload_n F 0 dX8_added5_54 rfl rfl rfl ?_
                refine v_iadd F dX8_added5_55 rfl ?_
                refine v_goto (tgt := 62) F dX8_added5_56 rfl ?_
                refine v_istore_n (ls' := [(1, .int (x + r13)), (3, .int r13), (2, .int 1), (0, .ref (ad 0))]) F dX8_added5_62 rfl rfl (by decide) rfl ?_
                refine v_goto (tgt := 5) F dX8_added5_63 rfl ?_
                refine v_aload_n F 3 dX8_added5_5 rfl rfl rfl ?_
                refine v_bipush (x := 43) F dX8_added5_6 rfl (by decide) ?_
                refine m_calli F G (cm_X8_isSign_b G t13 43 hb13) ok_X8_isSign q1497 is_X8_isSign rfl rfl dX8_added5_8 rfl rfl ?_
                intro u0 hu0; subst u0
                refine v_if_ne (tgt := 23) (q := 14) F dX8_added5_11 rfl rfl (fun c15 => ?_) (fun c15 => ?_)
                · skip
                  exact absurd c15 (by decide)
                · skip
                  refine v_aload_n F 3 dX8_added5_14 rfl rfl rfl ?_
                  refine v_bipush (x := 45) F dX8_added5_15 rfl (by decide) ?_
                  refine m_calli F G (cm_X8_isSign_b G t13 45 hb13) ok_X8_isSign q1497 is_X8_isSign rfl rfl dX8_added5_17 rfl rfl ?_
                  intro u0 hu0; subst u0
                  refine v_if_eq (tgt := 66) (q := 23) F dX8_added5_20 rfl rfl (fun c16 => ?_) (fun c16 => ?_)
                  · skip
                    refine v_iload_n F 0 dX8_added5_66 rfl rfl rfl ?_
                    exact v_retx F dX8_added5_67 rfl (⟨hE13, pRes.e (hL.trans (loG_er (decide_eq_true (Or.inl c4)) hp13)) hb13 hf13⟩)
                  · skip
                    exact absurd c16 (by decide)
            · skip
              rw [hp13] at hR13
              obtain ⟨hr13, hA13, hb13, ho13⟩ : r13 = f13 (rho t12) ∧ pAt b z t13 j13 ∧ t13 0 27 = 0 ∧ t13 0 26 = nI 5 := hR13
              rw [rho_eq hE12] at hr13
              have hg13 := (teG_good (PX_good 0).1) _ _ _ hi12 hp13
              have hi13 : j13 ≤ z := hg13.2
              refine v_istore_n (ls' := [(3, .int r13), (2, .int 1), (0, .ref (ad 0)), (1, .int x)]) F dX8_added5_48 rfl rfl (by decide) rfl ?_
              refine v_iload_n F 1 dX8_added5_49 rfl rfl rfl ?_
              refine v_if_eq (tgt := 59) (q := 53) F dX8_added5_50 rfl rfl (fun c17 => ?_) (fun c17 => ?_)
              · skip
                exact absurd c17 (by decide)
              · skip
                refine v_iload_n F 3 dX8_added5_53 rfl rfl rfl ?_
                refine v_iload_n F 0 dX8_added5_54 rfl rfl rfl ?_
                refine v_iadd F dX8_added5_55 rfl ?_
                refine v_goto (tgt := 62) F dX8_added5_56 rfl ?_
                refine v_istore_n (ls' := [(1, .int (x + r13)), (3, .int r13), (2, .int 1), (0, .ref (ad 0))]) F dX8_added5_62 rfl rfl (by decide) rfl ?_
                refine v_goto (tgt := 5) F dX8_added5_63 rfl ?_
                refine v_sub (ls' := [(0, .ref (ad 0)), (1, .int (x + r13))]) F [3, 0] rfl ?_
                exact ih5 t13 (fun ρ => if tW b z j = 43 then (f ρ) + (f13 ρ) else (f ρ) - (f13 ρ)) j13 (x + r13) hE13 hA13 hb13 ho13 hi13 (by show _ = (if tW b z j = 43 then _ else _); rw [if_pos (h25.symm.trans c5), hx, hr13]) (hL.trans (loG_go (decide_eq_true (Or.inl c4)) hp13)) (by have := hs9; omega)
        · skip
          refine v_aload_n F 0 dX8_added5_14 rfl rfl rfl ?_
          refine v_bipush (x := 45) F dX8_added5_15 rfl (by decide) ?_
          refine m_calli F G (cm_X8_isSign G s 45 hAs hbs) ok_X8_isSign q1497 is_X8_isSign rfl rfl dX8_added5_17 rfl rfl ?_
          intro u0 hu0; subst u0
          refine v_if_eqB (p := (sg b z j 45)) (tgt := 66) (q := 23) F dX8_added5_20 rfl rfl (fun c18 => ?_) (fun c18 => ?_)
          · skip
            refine v_iload_n F 1 dX8_added5_66 rfl rfl rfl ?_
            exact v_retx F dX8_added5_67 rfl (⟨hEs, pRes.o (hL.trans (loG_ou (fun h => (fun h => h.elim c4 c18) (of_decide_eq_true h)))) (hx) hAs hbs hos⟩)
          · skip
            have hs9 := (sg_lt hj c18).1
            have h25 : s 0 25 = tW b z j := hAs.2.2.2 (Or.inr c18.1)
            refine v_aload_n F 0 dX8_added5_23 rfl rfl rfl ?_
            refine m_get F G 25 (w := .long (Int32.toInt64 (s 0 25))) (by decide) q1278 rfl dX8_added5_24 rfl ?_
            refine v_ldc2 F q1505 dX8_added5_27 rfl ?_
            refine v_lng (y := (43 : Int32).toInt64) F (by decide) ?_
            refine v_lcmp F dX8_added5_30 rfl ?_
            refine v_if_neLI (tgt := 38) (q := 34) F dX8_added5_31 rfl rfl (fun c19 => ?_) (fun c19 => ?_)
            · skip
              refine v_iconst (x := 0) F dX8_added5_38 rfl (by decide) ?_
              refine v_istore_n (ls' := [(2, .int 0), (0, .ref (ad 0)), (1, .int x)]) F dX8_added5_39 rfl rfl (by decide) rfl ?_
              refine v_aload_n F 1 dX8_added5_40 rfl rfl rfl ?_
              refine m_calln F G (cm_X8_next (i := tN b z j) G s (pTx.eq hT hEs) hAs.2.2.1 (tN_le hj).2) ok_X8_next q1421 is_X8_next rfl rfl dX8_added5_41 rfl rfl ?_
              rintro t20 ⟨hN20, hA20⟩
              have hE20 : pEq σ t20 := pEq.trans hEs hN20.p
              have hb20 : t20 0 27 = 0 := (hN20 0 27 (by omega)).trans hbs
              have ho20 : t20 0 26 = nI 5 := (hN20 0 26 (by omega)).trans hos
              have hi20 : tN b z j ≤ z := (tN_le hj).2
              refine v_aload_n F 1 dX8_added5_44 rfl rfl rfl ?_
              refine m_callx F G (cm_X8_term5 G t20 (pTx.eq hT hE20) hA20 hi20 hb20 ho20) ok_X8_term5 q1489 is_X8_term5 rfl rfl dX8_added5_45 rfl rfl ?_
              rintro r21 t21 ⟨hN21, hR21⟩
              have hE21 : pEq σ t21 := pEq.trans hE20 hN21
              rcases hp21 : (teG b z (PX b z 0).1) (tN b z j) with e21 | ⟨f21, j21⟩
              · skip
                rw [hp21] at hR21
                obtain ⟨hb21, hf21⟩ : t21 0 27 = 1 ∧ t21 0 28 = nI e21 := hR21
                refine v_istore_n (ls' := [(3, .int r21), (2, .int 0), (0, .ref (ad 0)), (1, .int x)]) F dX8_added5_48 rfl rfl (by decide) rfl ?_
                refine v_iload_n F 1 dX8_added5_49 rfl rfl rfl ?_
                refine v_if_eq (tgt := 59) (q := 53) F dX8_added5_50 rfl rfl (fun c22 => ?_) (fun c22 => ?_)
                · skip
                  refine v_iload_n F 3 dX8_added5_59 rfl rfl rfl ?_
                  refine v_iload_n F 0 dX8_added5_60 rfl rfl rfl ?_
                  refine v_isub F dX8_added5_61 rfl ?_
                  refine v_istore_n (ls' := [(1, .int (x - r21)), (3, .int r21), (2, .int 0), (0, .ref (ad 0))]) F dX8_added5_62 rfl rfl (by decide) rfl ?_
                  refine v_goto (tgt := 5) F dX8_added5_63 rfl ?_
                  refine v_aload_n F 3 dX8_added5_5 rfl rfl rfl ?_
                  refine v_bipush (x := 43) F dX8_added5_6 rfl (by decide) ?_
                  refine m_calli F G (cm_X8_isSign_b G t21 43 hb21) ok_X8_isSign q1497 is_X8_isSign rfl rfl dX8_added5_8 rfl rfl ?_
                  intro u0 hu0; subst u0
                  refine v_if_ne (tgt := 23) (q := 14) F dX8_added5_11 rfl rfl (fun c23 => ?_) (fun c23 => ?_)
                  · skip
                    exact absurd c23 (by decide)
                  · skip
                    refine v_aload_n F 3 dX8_added5_14 rfl rfl rfl ?_
                    refine v_bipush (x := 45) F dX8_added5_15 rfl (by decide) ?_
                    refine m_calli F G (cm_X8_isSign_b G t21 45 hb21) ok_X8_isSign q1497 is_X8_isSign rfl rfl dX8_added5_17 rfl rfl ?_
                    intro u0 hu0; subst u0
                    refine v_if_eq (tgt := 66) (q := 23) F dX8_added5_20 rfl rfl (fun c24 => ?_) (fun c24 => ?_)
                    · skip
                      refine v_iload_n F 0 dX8_added5_66 rfl rfl rfl ?_
                      exact v_retx F dX8_added5_67 rfl (⟨hE21, pRes.e (hL.trans (loG_er (decide_eq_true (Or.inr c18)) hp21)) hb21 hf21⟩)
                    · skip
                      exact absurd c24 (by decide)
                · skip
                  exact absurd c22 (by decide)
              · skip
                rw [hp21] at hR21
                obtain ⟨hr21, hA21, hb21, ho21⟩ : r21 = f21 (rho t20) ∧ pAt b z t21 j21 ∧ t21 0 27 = 0 ∧ t21 0 26 = nI 5 := hR21
                rw [rho_eq hE20] at hr21
                have hg21 := (teG_good (PX_good 0).1) _ _ _ hi20 hp21
                have hi21 : j21 ≤ z := hg21.2
                refine v_istore_n (ls' := [(3, .int r21), (2, .int 0), (0, .ref (ad 0)), (1, .int x)]) F dX8_added5_48 rfl rfl (by decide) rfl ?_
                refine v_iload_n F 1 dX8_added5_49 rfl rfl rfl ?_
                refine v_if_eq (tgt := 59) (q := 53) F dX8_added5_50 rfl rfl (fun c25 => ?_) (fun c25 => ?_)
                · skip
                  refine v_iload_n F 3 dX8_added5_59 rfl rfl rfl ?_
                  refine v_iload_n F 0 dX8_added5_60 rfl rfl rfl ?_
                  refine v_isub F dX8_added5_61 rfl ?_
                  refine v_istore_n (ls' := [(1, .int (x - r21)), (3, .int r21), (2, .int 0), (0, .ref (ad 0))]) F dX8_added5_62 rfl rfl (by decide) rfl ?_
                  refine v_goto (tgt := 5) F dX8_added5_63 rfl ?_
                  refine v_sub (ls' := [(0, .ref (ad 0)), (1, .int (x - r21))]) F [3, 0] rfl ?_
                  exact ih5 t21 (fun ρ => if tW b z j = 43 then (f ρ) + (f21 ρ) else (f ρ) - (f21 ρ)) j21 (x - r21) hE21 hA21 hb21 ho21 hi21 (by show _ = (if tW b z j = 43 then _ else _); rw [if_neg (fun h => c19 (h25.trans h)), hx, hr21]) (hL.trans (loG_go (decide_eq_true (Or.inr c18)) hp21)) (by have := hs9; omega)
                · skip
                  exact absurd c25 (by decide)
            · skip
              refine v_iconst (x := 1) F dX8_added5_34 rfl (by decide) ?_
              refine v_goto (tgt := 39) F dX8_added5_35 rfl ?_
              refine v_istore_n (ls' := [(2, .int 1), (0, .ref (ad 0)), (1, .int x)]) F dX8_added5_39 rfl rfl (by decide) rfl ?_
              refine v_aload_n F 1 dX8_added5_40 rfl rfl rfl ?_
              refine m_calln F G (cm_X8_next (i := tN b z j) G s (pTx.eq hT hEs) hAs.2.2.1 (tN_le hj).2) ok_X8_next q1421 is_X8_next rfl rfl dX8_added5_41 rfl rfl ?_
              rintro t26 ⟨hN26, hA26⟩
              have hE26 : pEq σ t26 := pEq.trans hEs hN26.p
              have hb26 : t26 0 27 = 0 := (hN26 0 27 (by omega)).trans hbs
              have ho26 : t26 0 26 = nI 5 := (hN26 0 26 (by omega)).trans hos
              have hi26 : tN b z j ≤ z := (tN_le hj).2
              refine v_aload_n F 1 dX8_added5_44 rfl rfl rfl ?_
              refine m_callx F G (cm_X8_term5 G t26 (pTx.eq hT hE26) hA26 hi26 hb26 ho26) ok_X8_term5 q1489 is_X8_term5 rfl rfl dX8_added5_45 rfl rfl ?_
              rintro r27 t27 ⟨hN27, hR27⟩
              have hE27 : pEq σ t27 := pEq.trans hE26 hN27
              rcases hp27 : (teG b z (PX b z 0).1) (tN b z j) with e27 | ⟨f27, j27⟩
              · skip
                rw [hp27] at hR27
                obtain ⟨hb27, hf27⟩ : t27 0 27 = 1 ∧ t27 0 28 = nI e27 := hR27
                refine v_istore_n (ls' := [(3, .int r27), (2, .int 1), (0, .ref (ad 0)), (1, .int x)]) F dX8_added5_48 rfl rfl (by decide) rfl ?_
                refine v_iload_n F 1 dX8_added5_49 rfl rfl rfl ?_
                refine v_if_eq (tgt := 59) (q := 53) F dX8_added5_50 rfl rfl (fun c28 => ?_) (fun c28 => ?_)
                · skip
                  exact absurd c28 (by decide)
                · skip
                  refine v_iload_n F 3 dX8_added5_53 rfl rfl rfl ?_
                  refine v_iload_n F 0 dX8_added5_54 rfl rfl rfl ?_
                  refine v_iadd F dX8_added5_55 rfl ?_
                  refine v_goto (tgt := 62) F dX8_added5_56 rfl ?_
                  refine v_istore_n (ls' := [(1, .int (x + r27)), (3, .int r27), (2, .int 1), (0, .ref (ad 0))]) F dX8_added5_62 rfl rfl (by decide) rfl ?_
                  refine v_goto (tgt := 5) F dX8_added5_63 rfl ?_
                  refine v_aload_n F 3 dX8_added5_5 rfl rfl rfl ?_
                  refine v_bipush (x := 43) F dX8_added5_6 rfl (by decide) ?_
                  refine m_calli F G (cm_X8_isSign_b G t27 43 hb27) ok_X8_isSign q1497 is_X8_isSign rfl rfl dX8_added5_8 rfl rfl ?_
                  intro u0 hu0; subst u0
                  refine v_if_ne (tgt := 23) (q := 14) F dX8_added5_11 rfl rfl (fun c29 => ?_) (fun c29 => ?_)
                  · skip
                    exact absurd c29 (by decide)
                  · skip
                    refine v_aload_n F 3 dX8_added5_14 rfl rfl rfl ?_
                    refine v_bipush (x := 45) F dX8_added5_15 rfl (by decide) ?_
                    refine m_calli F G (cm_X8_isSign_b G t27 45 hb27) ok_X8_isSign q1497 is_X8_isSign rfl rfl dX8_added5_17 rfl rfl ?_
                    intro u0 hu0; subst u0
                    refine v_if_eq (tgt := 66) (q := 23) F dX8_added5_20 rfl rfl (fun c30 => ?_) (fun c30 => ?_)
                    · skip
                      refine v_iload_n F 0 dX8_added5_66 rfl rfl rfl ?_
                      exact v_retx F dX8_added5_67 rfl (⟨hE27, pRes.e (hL.trans (loG_er (decide_eq_true (Or.inr c18)) hp27)) hb27 hf27⟩)
                    · skip
                      exact absurd c30 (by decide)
              · skip
                rw [hp27] at hR27
                obtain ⟨hr27, hA27, hb27, ho27⟩ : r27 = f27 (rho t26) ∧ pAt b z t27 j27 ∧ t27 0 27 = 0 ∧ t27 0 26 = nI 5 := hR27
                rw [rho_eq hE26] at hr27
                have hg27 := (teG_good (PX_good 0).1) _ _ _ hi26 hp27
                have hi27 : j27 ≤ z := hg27.2
                refine v_istore_n (ls' := [(3, .int r27), (2, .int 1), (0, .ref (ad 0)), (1, .int x)]) F dX8_added5_48 rfl rfl (by decide) rfl ?_
                refine v_iload_n F 1 dX8_added5_49 rfl rfl rfl ?_
                refine v_if_eq (tgt := 59) (q := 53) F dX8_added5_50 rfl rfl (fun c31 => ?_) (fun c31 => ?_)
                · skip
                  exact absurd c31 (by decide)
                · skip
                  refine v_iload_n F 3 dX8_added5_53 rfl rfl rfl ?_
                  refine v_iload_n F 0 dX8_added5_54 rfl rfl rfl ?_
                  refine v_iadd F dX8_added5_55 rfl ?_
                  refine v_goto (tgt := 62) F dX8_added5_56 rfl ?_
                  refine v_istore_n (ls' := [(1, .int (x + r27)), (3, .int r27), (2, .int 1), (0, .ref (ad 0))]) F dX8_added5_62 rfl rfl (by decide) rfl ?_
                  refine v_goto (tgt := 5) F dX8_added5_63 rfl ?_
                  refine v_sub (ls' := [(0, .ref (ad 0)), (1, .int (x + r27))]) F [3, 0] rfl ?_
                  exact ih5 t27 (fun ρ => if tW b z j = 43 then (f ρ) + (f27 ρ) else (f ρ) - (f27 ρ)) j27 (x + r27) hE27 hA27 hb27 ho27 hi27 (by show _ = (if tW b z j = 43 then _ else _); rw [if_pos (h25.symm.trans c19), hx, hr27]) (hL.trans (loG_go (decide_eq_true (Or.inr c18)) hp27)) (by have := hs9; omega)
    refine v_sub (ls' := [(0, .ref (ad 0)), (1, .int r1)]) F [1, 0] rfl ?_
    exact L5 (z + 1) t1 f1 j1 r1 hE1 hA1 hb1 ho1 hi1 hr1 (chG_go hp1) (by omega)
theorem ok_X8_not5 : vv_oc yX8_not5 4 0 (ws_ yX8_not5 cX8_not5 4 (some .int)) := vv_ok.oc (rt := (some .int)) ⟨q1484, q133, by decide +kernel, by decide +kernel⟩
theorem is_X8_not5 : Cond.instanceMethod yX8_not5 ∈ lw_all ∧ Cond.selects RX8 yX8_not5 yX8_not5 ∈ lw_all := ⟨q1483, qs67⟩
set_option maxHeartbeats 4000000 in
theorem cm_X8_not5 {l : Launch} {Kf : State → Prop} {D : va_G} {ad : Nat → Nat} {cI cZ : ClassId} {A : Nat → Prop} (G : mG A Kf D cI cZ) {b : Nat → Int32} {z t i : Nat} (σ : mS)  (hT : pTx b z t σ) (hA : pAt b z σ i) (hi : i ≤ z) (hb : σ 0 27 = 0) (ho : σ 0 26 = nI 5) : vv_Ct l yX8_not5 (ws_ yX8_not5 cX8_not5 4 (some .int)) (rm 7 156) Kf (mWd D ad cI cZ A) A [.ref (ad 0)] σ (vv_x (fun r u => pEq σ u ∧ pRes b z 5 σ u r ((PX b z 0).2 i))) := by
  refine vv_of (by decide +kernel) (Nat.le_of_ble_eq_true rfl) ?_
  intro v (F : vv_F v l cX8_not5 4 RX8 "not5" (some .int) [] (rm 7 156) Kf (mWd D ad cI cZ A) A _)
  show v σ 0 0 0 [(0, .ref (ad 0))] []
  refine v_aload_n F 0 dX8_not5_0 rfl rfl rfl ?_
  refine v_bipush (x := 110) F dX8_not5_1 rfl (by decide) ?_
  refine v_bipush (x := 111) F dX8_not5_3 rfl (by decide) ?_
  refine v_bipush (x := 116) F dX8_not5_5 rfl (by decide) ?_
  refine v_iconst (x := 0) F dX8_not5_7 rfl (by decide) ?_
  refine v_iconst (x := 0) F dX8_not5_8 rfl (by decide) ?_
  refine v_iconst (x := 0) F dX8_not5_9 rfl (by decide) ?_
  refine v_iconst (x := 0) F dX8_not5_10 rfl (by decide) ?_
  refine v_iconst (x := 0) F dX8_not5_11 rfl (by decide) ?_
  refine m_calli F G (cm_X8_isWord G σ 110 111 116 0 0 0 0 0 hT hA hi hb) ok_X8_isWord q1433 is_X8_isWord rfl rfl dX8_not5_12 rfl rfl ?_
  intro u0 hu0; subst u0
  refine v_if_eqB (p := (wd b z i 110 111 116 0 0 0 0 0)) (tgt := 25) (q := 18) F dX8_not5_15 rfl rfl (fun c1 => ?_) (fun c1 => ?_)
  · skip
    refine v_aload_n F 0 dX8_not5_25 rfl rfl rfl ?_
    refine m_callx F G (cm_X8_added5 G σ hT hA hi hb ho) ok_X8_added5 q1485 is_X8_added5 rfl rfl dX8_not5_26 rfl rfl ?_
    rintro r2 t2 ⟨hN2, hR2⟩
    have hE2 : pEq σ t2 := pEq.trans pEq.rf hN2
    rcases hp2 : (adG b z (PX b z 0).1) i with e2 | ⟨f2, j2⟩
    · skip
      rw [hp2] at hR2
      obtain ⟨hb2, hf2⟩ : t2 0 27 = 1 ∧ t2 0 28 = nI e2 := hR2
      refine v_istore_n (ls' := [(1, .int r2), (0, .ref (ad 0))]) F dX8_not5_29 rfl rfl (by decide) rfl ?_
      refine v_aload_n F 1 dX8_not5_30 rfl rfl rfl ?_
      refine v_bipush (x := 60) F dX8_not5_31 rfl (by decide) ?_
      refine m_calli F G (cm_X8_isSign_b G t2 60 hb2) ok_X8_isSign q1497 is_X8_isSign rfl rfl dX8_not5_33 rfl rfl ?_
      intro u0 hu0; subst u0
      refine v_if_ne (tgt := 50) (q := 39) F dX8_not5_36 rfl rfl (fun c3 => ?_) (fun c3 => ?_)
      · skip
        exact absurd c3 (by decide)
      · skip
        refine v_aload_n F 1 dX8_not5_39 rfl rfl rfl ?_
        refine v_bipush (x := 61) F dX8_not5_40 rfl (by decide) ?_
        refine m_calli F G (cm_X8_isSign_b G t2 61 hb2) ok_X8_isSign q1497 is_X8_isSign rfl rfl dX8_not5_42 rfl rfl ?_
        intro u0 hu0; subst u0
        refine v_if_ne (tgt := 50) (q := 48) F dX8_not5_45 rfl rfl (fun c4 => ?_) (fun c4 => ?_)
        · skip
          exact absurd c4 (by decide)
        · skip
          refine v_iload_n F 0 dX8_not5_48 rfl rfl rfl ?_
          exact v_retx F dX8_not5_49 rfl (⟨hE2, pRes.e (PXn0.trans (noG_e1 c1 hp2)) hb2 hf2⟩)
    · skip
      rw [hp2] at hR2
      obtain ⟨hr2, hA2, hb2, ho2⟩ : r2 = f2 (rho σ) ∧ pAt b z t2 j2 ∧ t2 0 27 = 0 ∧ t2 0 26 = nI 5 := hR2
      rw [rho_eq pEq.rf] at hr2
      have hg2 := (adG_good (PX_good 0).1) _ _ _ hi hp2
      have hi2 : j2 ≤ z := hg2.2
      refine v_istore_n (ls' := [(1, .int r2), (0, .ref (ad 0))]) F dX8_not5_29 rfl rfl (by decide) rfl ?_
      refine v_aload_n F 1 dX8_not5_30 rfl rfl rfl ?_
      refine v_bipush (x := 60) F dX8_not5_31 rfl (by decide) ?_
      refine m_calli F G (cm_X8_isSign G t2 60 hA2 hb2) ok_X8_isSign q1497 is_X8_isSign rfl rfl dX8_not5_33 rfl rfl ?_
      intro u0 hu0; subst u0
      refine v_if_neB (p := (sg b z j2 60)) (tgt := 50) (q := 39) F dX8_not5_36 rfl rfl (fun c5 => ?_) (fun c5 => ?_)
      · skip
        have hw6 : t2 0 25 = tW b z j2 := hA2.2.2.2 (Or.inr c5.1)
        refine v_aload_n F 1 dX8_not5_50 rfl rfl rfl ?_
        refine m_get F G 25 (w := .long (Int32.toInt64 (t2 0 25))) (by decide) q1278 rfl dX8_not5_51 rfl ?_
        refine v_ldc2 F q1506 dX8_not5_54 rfl ?_
        refine v_lng (y := (60 : Int32).toInt64) F (by decide) ?_
        refine v_lcmp F dX8_not5_57 rfl ?_
        refine v_if_neLI (tgt := 65) (q := 61) F dX8_not5_58 rfl rfl (fun c7 => ?_) (fun c7 => ?_)
        · skip
          refine v_iconst (x := 0) F dX8_not5_65 rfl (by decide) ?_
          refine v_istore_n (ls' := [(2, .int 0), (1, .int r2), (0, .ref (ad 0))]) F dX8_not5_66 rfl rfl (by decide) rfl ?_
          refine v_aload_n F 2 dX8_not5_67 rfl rfl rfl ?_
          refine m_calln F G (cm_X8_next (i := tN b z j2) G t2 (pTx.eq hT hE2) hA2.2.2.1 (tN_le hi2).2) ok_X8_next q1421 is_X8_next rfl rfl dX8_not5_68 rfl rfl ?_
          rintro t8 ⟨hN8, hA8⟩
          have hE8 : pEq σ t8 := pEq.trans hE2 hN8.p
          have hb8 : t8 0 27 = 0 := (hN8 0 27 (by omega)).trans hb2
          have ho8 : t8 0 26 = nI 5 := (hN8 0 26 (by omega)).trans ho2
          have hi8 : tN b z j2 ≤ z := (tN_le hi2).2
          refine v_aload_n F 2 dX8_not5_71 rfl rfl rfl ?_
          refine m_callx F G (cm_X8_added5 G t8 (pTx.eq hT hE8) hA8 hi8 hb8 ho8) ok_X8_added5 q1485 is_X8_added5 rfl rfl dX8_not5_72 rfl rfl ?_
          rintro r9 t9 ⟨hN9, hR9⟩
          have hE9 : pEq σ t9 := pEq.trans hE8 hN9
          rcases hp9 : (adG b z (PX b z 0).1) (tN b z j2) with e9 | ⟨f9, j9⟩
          · skip
            rw [hp9] at hR9
            obtain ⟨hb9, hf9⟩ : t9 0 27 = 1 ∧ t9 0 28 = nI e9 := hR9
            refine v_istore_n (ls' := [(3, .int r9), (2, .int 0), (1, .int r2), (0, .ref (ad 0))]) F dX8_not5_75 rfl rfl (by decide) rfl ?_
            refine v_iload_n F 1 dX8_not5_76 rfl rfl rfl ?_
            refine v_if_eq (tgt := 88) (q := 80) F dX8_not5_77 rfl rfl (fun c10 => ?_) (fun c10 => ?_)
            · skip
              refine v_iload_n F 2 dX8_not5_88 rfl rfl rfl ?_
              refine v_iload_n F 0 dX8_not5_89 rfl rfl rfl ?_
              refine v_icmp_ne (tgt := 97) (q := 93) F dX8_not5_90 rfl rfl (fun c11 => ?_) (fun c11 => ?_)
              · skip
                refine v_iconst (x := 0) F dX8_not5_97 rfl (by decide) ?_
                exact v_retx F dX8_not5_98 rfl (⟨hE9, pRes.e (PXn0.trans (noG_e2 c1 hp2 (Or.inl c5) hp9)) hb9 hf9⟩)
              · skip
                refine v_iconst (x := 1) F dX8_not5_93 rfl (by decide) ?_
                refine v_goto (tgt := 98) F dX8_not5_94 rfl ?_
                exact v_retx F dX8_not5_98 rfl (⟨hE9, pRes.e (PXn0.trans (noG_e2 c1 hp2 (Or.inl c5) hp9)) hb9 hf9⟩)
            · skip
              exact absurd c10 (by decide)
          · skip
            rw [hp9] at hR9
            obtain ⟨hr9, hA9, hb9, ho9⟩ : r9 = f9 (rho t8) ∧ pAt b z t9 j9 ∧ t9 0 27 = 0 ∧ t9 0 26 = nI 5 := hR9
            rw [rho_eq hE8] at hr9
            have hg9 := (adG_good (PX_good 0).1) _ _ _ hi8 hp9
            have hi9 : j9 ≤ z := hg9.2
            refine v_istore_n (ls' := [(3, .int r9), (2, .int 0), (1, .int r2), (0, .ref (ad 0))]) F dX8_not5_75 rfl rfl (by decide) rfl ?_
            refine v_iload_n F 1 dX8_not5_76 rfl rfl rfl ?_
            refine v_if_eq (tgt := 88) (q := 80) F dX8_not5_77 rfl rfl (fun c12 => ?_) (fun c12 => ?_)
            · skip
              refine v_iload_n F 2 dX8_not5_88 rfl rfl rfl ?_
              refine v_iload_n F 0 dX8_not5_89 rfl rfl rfl ?_
              refine v_icmp_ne (tgt := 97) (q := 93) F dX8_not5_90 rfl rfl (fun c13 => ?_) (fun c13 => ?_)
              · skip
                refine v_iconst (x := 0) F dX8_not5_97 rfl (by decide) ?_
                exact v_retx F dX8_not5_98 rfl (⟨hE9, pRes.o (PXn0.trans (noG_cm c1 hp2 (Or.inl c5) hp9)) (by show _ = (if (if _ then _ else _) then _ else _); rw [← hr2, ← hr9]; simp only [if_neg (fun h => c7 (hw6.trans h))]; exact (if_neg (c13)).symm) hA9 hb9 ho9⟩)
              · skip
                refine v_iconst (x := 1) F dX8_not5_93 rfl (by decide) ?_
                refine v_goto (tgt := 98) F dX8_not5_94 rfl ?_
                exact v_retx F dX8_not5_98 rfl (⟨hE9, pRes.o (PXn0.trans (noG_cm c1 hp2 (Or.inl c5) hp9)) (by show _ = (if (if _ then _ else _) then _ else _); rw [← hr2, ← hr9]; simp only [if_neg (fun h => c7 (hw6.trans h))]; exact (if_pos (c13)).symm) hA9 hb9 ho9⟩)
            · skip
              exact absurd c12 (by decide)
        · skip
          refine v_iconst (x := 1) F dX8_not5_61 rfl (by decide) ?_
          refine v_goto (tgt := 66) F dX8_not5_62 rfl ?_
          refine v_istore_n (ls' := [(2, .int 1), (1, .int r2), (0, .ref (ad 0))]) F dX8_not5_66 rfl rfl (by decide) rfl ?_
          refine v_aload_n F 2 dX8_not5_67 rfl rfl rfl ?_
          refine m_calln F G (cm_X8_next (i := tN b z j2) G t2 (pTx.eq hT hE2) hA2.2.2.1 (tN_le hi2).2) ok_X8_next q1421 is_X8_next rfl rfl dX8_not5_68 rfl rfl ?_
          rintro t14 ⟨hN14, hA14⟩
          have hE14 : pEq σ t14 := pEq.trans hE2 hN14.p
          have hb14 : t14 0 27 = 0 := (hN14 0 27 (by omega)).trans hb2
          have ho14 : t14 0 26 = nI 5 := (hN14 0 26 (by omega)).trans ho2
          have hi14 : tN b z j2 ≤ z := (tN_le hi2).2
          refine v_aload_n F 2 dX8_not5_71 rfl rfl rfl ?_
          refine m_callx F G (cm_X8_added5 G t14 (pTx.eq hT hE14) hA14 hi14 hb14 ho14) ok_X8_added5 q1485 is_X8_added5 rfl rfl dX8_not5_72 rfl rfl ?_
          rintro r15 t15 ⟨hN15, hR15⟩
          have hE15 : pEq σ t15 := pEq.trans hE14 hN15
          rcases hp15 : (adG b z (PX b z 0).1) (tN b z j2) with e15 | ⟨f15, j15⟩
          · skip
            rw [hp15] at hR15
            obtain ⟨hb15, hf15⟩ : t15 0 27 = 1 ∧ t15 0 28 = nI e15 := hR15
            refine v_istore_n (ls' := [(3, .int r15), (2, .int 1), (1, .int r2), (0, .ref (ad 0))]) F dX8_not5_75 rfl rfl (by decide) rfl ?_
            refine v_iload_n F 1 dX8_not5_76 rfl rfl rfl ?_
            refine v_if_eq (tgt := 88) (q := 80) F dX8_not5_77 rfl rfl (fun c16 => ?_) (fun c16 => ?_)
            · skip
              exact absurd c16 (by decide)
            · skip
              refine v_iload_n F 2 dX8_not5_80 rfl rfl rfl ?_
              refine v_iload_n F 0 dX8_not5_81 rfl rfl rfl ?_
              refine v_icmp_ge (tgt := 97) (q := 85) F dX8_not5_82 rfl rfl (fun c17 => ?_) (fun c17 => ?_)
              · skip
                refine v_iconst (x := 0) F dX8_not5_97 rfl (by decide) ?_
                exact v_retx F dX8_not5_98 rfl (⟨hE15, pRes.e (PXn0.trans (noG_e2 c1 hp2 (Or.inl c5) hp15)) hb15 hf15⟩)
              · skip
                refine v_goto (tgt := 93) F dX8_not5_85 rfl ?_
                refine v_iconst (x := 1) F dX8_not5_93 rfl (by decide) ?_
                refine v_goto (tgt := 98) F dX8_not5_94 rfl ?_
                exact v_retx F dX8_not5_98 rfl (⟨hE15, pRes.e (PXn0.trans (noG_e2 c1 hp2 (Or.inl c5) hp15)) hb15 hf15⟩)
          · skip
            rw [hp15] at hR15
            obtain ⟨hr15, hA15, hb15, ho15⟩ : r15 = f15 (rho t14) ∧ pAt b z t15 j15 ∧ t15 0 27 = 0 ∧ t15 0 26 = nI 5 := hR15
            rw [rho_eq hE14] at hr15
            have hg15 := (adG_good (PX_good 0).1) _ _ _ hi14 hp15
            have hi15 : j15 ≤ z := hg15.2
            refine v_istore_n (ls' := [(3, .int r15), (2, .int 1), (1, .int r2), (0, .ref (ad 0))]) F dX8_not5_75 rfl rfl (by decide) rfl ?_
            refine v_iload_n F 1 dX8_not5_76 rfl rfl rfl ?_
            refine v_if_eq (tgt := 88) (q := 80) F dX8_not5_77 rfl rfl (fun c18 => ?_) (fun c18 => ?_)
            · skip
              exact absurd c18 (by decide)
            · skip
              refine v_iload_n F 2 dX8_not5_80 rfl rfl rfl ?_
              refine v_iload_n F 0 dX8_not5_81 rfl rfl rfl ?_
              refine v_icmp_ge (tgt := 97) (q := 85) F dX8_not5_82 rfl rfl (fun c19 => ?_) (fun c19 => ?_)
              · skip
                refine v_iconst (x := 0) F dX8_not5_97 rfl (by decide) ?_
                exact v_retx F dX8_not5_98 rfl (⟨hE15, pRes.o (PXn0.trans (noG_cm c1 hp2 (Or.inl c5) hp15)) (by show _ = (if (if _ then _ else _) then _ else _); rw [← hr2, ← hr15]; simp only [if_pos (hw6.symm.trans c7)]; exact (if_neg (fun h => absurd c19 (Int32.not_le.mpr h))).symm) hA15 hb15 ho15⟩)
              · skip
                refine v_goto (tgt := 93) F dX8_not5_85 rfl ?_
                refine v_iconst (x := 1) F dX8_not5_93 rfl (by decide) ?_
                refine v_goto (tgt := 98) F dX8_not5_94 rfl ?_
                exact v_retx F dX8_not5_98 rfl (⟨hE15, pRes.o (PXn0.trans (noG_cm c1 hp2 (Or.inl c5) hp15)) (by show _ = (if (if _ then _ else _) then _ else _); rw [← hr2, ← hr15]; simp only [if_pos (hw6.symm.trans c7)]; exact (if_pos (Int32.not_le.mp c19)).symm) hA15 hb15 ho15⟩)
      · skip
        refine v_aload_n F 1 dX8_not5_39 rfl rfl rfl ?_
        refine v_bipush (x := 61) F dX8_not5_40 rfl (by decide) ?_
        refine m_calli F G (cm_X8_isSign G t2 61 hA2 hb2) ok_X8_isSign q1497 is_X8_isSign rfl rfl dX8_not5_42 rfl rfl ?_
        intro u0 hu0; subst u0
        refine v_if_neB (p := (sg b z j2 61)) (tgt := 50) (q := 48) F dX8_not5_45 rfl rfl (fun c20 => ?_) (fun c20 => ?_)
        · skip
          have hw21 : t2 0 25 = tW b z j2 := hA2.2.2.2 (Or.inr c20.1)
          refine v_aload_n F 1 dX8_not5_50 rfl rfl rfl ?_
          refine m_get F G 25 (w := .long (Int32.toInt64 (t2 0 25))) (by decide) q1278 rfl dX8_not5_51 rfl ?_
          refine v_ldc2 F q1506 dX8_not5_54 rfl ?_
          refine v_lng (y := (60 : Int32).toInt64) F (by decide) ?_
          refine v_lcmp F dX8_not5_57 rfl ?_
          refine v_if_neLI (tgt := 65) (q := 61) F dX8_not5_58 rfl rfl (fun c22 => ?_) (fun c22 => ?_)
          · skip
            refine v_iconst (x := 0) F dX8_not5_65 rfl (by decide) ?_
            refine v_istore_n (ls' := [(2, .int 0), (1, .int r2), (0, .ref (ad 0))]) F dX8_not5_66 rfl rfl (by decide) rfl ?_
            refine v_aload_n F 2 dX8_not5_67 rfl rfl rfl ?_
            refine m_calln F G (cm_X8_next (i := tN b z j2) G t2 (pTx.eq hT hE2) hA2.2.2.1 (tN_le hi2).2) ok_X8_next q1421 is_X8_next rfl rfl dX8_not5_68 rfl rfl ?_
            rintro t23 ⟨hN23, hA23⟩
            have hE23 : pEq σ t23 := pEq.trans hE2 hN23.p
            have hb23 : t23 0 27 = 0 := (hN23 0 27 (by omega)).trans hb2
            have ho23 : t23 0 26 = nI 5 := (hN23 0 26 (by omega)).trans ho2
            have hi23 : tN b z j2 ≤ z := (tN_le hi2).2
            refine v_aload_n F 2 dX8_not5_71 rfl rfl rfl ?_
            refine m_callx F G (cm_X8_added5 G t23 (pTx.eq hT hE23) hA23 hi23 hb23 ho23) ok_X8_added5 q1485 is_X8_added5 rfl rfl dX8_not5_72 rfl rfl ?_
            rintro r24 t24 ⟨hN24, hR24⟩
            have hE24 : pEq σ t24 := pEq.trans hE23 hN24
            rcases hp24 : (adG b z (PX b z 0).1) (tN b z j2) with e24 | ⟨f24, j24⟩
            · skip
              rw [hp24] at hR24
              obtain ⟨hb24, hf24⟩ : t24 0 27 = 1 ∧ t24 0 28 = nI e24 := hR24
              refine v_istore_n (ls' := [(3, .int r24), (2, .int 0), (1, .int r2), (0, .ref (ad 0))]) F dX8_not5_75 rfl rfl (by decide) rfl ?_
              refine v_iload_n F 1 dX8_not5_76 rfl rfl rfl ?_
              refine v_if_eq (tgt := 88) (q := 80) F dX8_not5_77 rfl rfl (fun c25 => ?_) (fun c25 => ?_)
              · skip
                refine v_iload_n F 2 dX8_not5_88 rfl rfl rfl ?_
                refine v_iload_n F 0 dX8_not5_89 rfl rfl rfl ?_
                refine v_icmp_ne (tgt := 97) (q := 93) F dX8_not5_90 rfl rfl (fun c26 => ?_) (fun c26 => ?_)
                · skip
                  refine v_iconst (x := 0) F dX8_not5_97 rfl (by decide) ?_
                  exact v_retx F dX8_not5_98 rfl (⟨hE24, pRes.e (PXn0.trans (noG_e2 c1 hp2 (Or.inr c20) hp24)) hb24 hf24⟩)
                · skip
                  refine v_iconst (x := 1) F dX8_not5_93 rfl (by decide) ?_
                  refine v_goto (tgt := 98) F dX8_not5_94 rfl ?_
                  exact v_retx F dX8_not5_98 rfl (⟨hE24, pRes.e (PXn0.trans (noG_e2 c1 hp2 (Or.inr c20) hp24)) hb24 hf24⟩)
              · skip
                exact absurd c25 (by decide)
            · skip
              rw [hp24] at hR24
              obtain ⟨hr24, hA24, hb24, ho24⟩ : r24 = f24 (rho t23) ∧ pAt b z t24 j24 ∧ t24 0 27 = 0 ∧ t24 0 26 = nI 5 := hR24
              rw [rho_eq hE23] at hr24
              have hg24 := (adG_good (PX_good 0).1) _ _ _ hi23 hp24
              have hi24 : j24 ≤ z := hg24.2
              refine v_istore_n (ls' := [(3, .int r24), (2, .int 0), (1, .int r2), (0, .ref (ad 0))]) F dX8_not5_75 rfl rfl (by decide) rfl ?_
              refine v_iload_n F 1 dX8_not5_76 rfl rfl rfl ?_
              refine v_if_eq (tgt := 88) (q := 80) F dX8_not5_77 rfl rfl (fun c27 => ?_) (fun c27 => ?_)
              · skip
                refine v_iload_n F 2 dX8_not5_88 rfl rfl rfl ?_
                refine v_iload_n F 0 dX8_not5_89 rfl rfl rfl ?_
                refine v_icmp_ne (tgt := 97) (q := 93) F dX8_not5_90 rfl rfl (fun c28 => ?_) (fun c28 => ?_)
                · skip
                  refine v_iconst (x := 0) F dX8_not5_97 rfl (by decide) ?_
                  exact v_retx F dX8_not5_98 rfl (⟨hE24, pRes.o (PXn0.trans (noG_cm c1 hp2 (Or.inr c20) hp24)) (by show _ = (if (if _ then _ else _) then _ else _); rw [← hr2, ← hr24]; simp only [if_neg (fun h => c22 (hw21.trans h))]; exact (if_neg (c28)).symm) hA24 hb24 ho24⟩)
                · skip
                  refine v_iconst (x := 1) F dX8_not5_93 rfl (by decide) ?_
                  refine v_goto (tgt := 98) F dX8_not5_94 rfl ?_
                  exact v_retx F dX8_not5_98 rfl (⟨hE24, pRes.o (PXn0.trans (noG_cm c1 hp2 (Or.inr c20) hp24)) (by show _ = (if (if _ then _ else _) then _ else _); rw [← hr2, ← hr24]; simp only [if_neg (fun h => c22 (hw21.trans h))]; exact (if_pos (c28)).symm) hA24 hb24 ho24⟩)
              · skip
                exact absurd c27 (by decide)
          · skip
            refine v_iconst (x := 1) F dX8_not5_61 rfl (by decide) ?_
            refine v_goto (tgt := 66) F dX8_not5_62 rfl ?_
            refine v_istore_n (ls' := [(2, .int 1), (1, .int r2), (0, .ref (ad 0))]) F dX8_not5_66 rfl rfl (by decide) rfl ?_
            refine v_aload_n F 2 dX8_not5_67 rfl rfl rfl ?_
            refine m_calln F G (cm_X8_next (i := tN b z j2) G t2 (pTx.eq hT hE2) hA2.2.2.1 (tN_le hi2).2) ok_X8_next q1421 is_X8_next rfl rfl dX8_not5_68 rfl rfl ?_
            rintro t29 ⟨hN29, hA29⟩
            have hE29 : pEq σ t29 := pEq.trans hE2 hN29.p
            have hb29 : t29 0 27 = 0 := (hN29 0 27 (by omega)).trans hb2
            have ho29 : t29 0 26 = nI 5 := (hN29 0 26 (by omega)).trans ho2
            have hi29 : tN b z j2 ≤ z := (tN_le hi2).2
            refine v_aload_n F 2 dX8_not5_71 rfl rfl rfl ?_
            refine m_callx F G (cm_X8_added5 G t29 (pTx.eq hT hE29) hA29 hi29 hb29 ho29) ok_X8_added5 q1485 is_X8_added5 rfl rfl dX8_not5_72 rfl rfl ?_
            rintro r30 t30 ⟨hN30, hR30⟩
            have hE30 : pEq σ t30 := pEq.trans hE29 hN30
            rcases hp30 : (adG b z (PX b z 0).1) (tN b z j2) with e30 | ⟨f30, j30⟩
            · skip
              rw [hp30] at hR30
              obtain ⟨hb30, hf30⟩ : t30 0 27 = 1 ∧ t30 0 28 = nI e30 := hR30
              refine v_istore_n (ls' := [(3, .int r30), (2, .int 1), (1, .int r2), (0, .ref (ad 0))]) F dX8_not5_75 rfl rfl (by decide) rfl ?_
              refine v_iload_n F 1 dX8_not5_76 rfl rfl rfl ?_
              refine v_if_eq (tgt := 88) (q := 80) F dX8_not5_77 rfl rfl (fun c31 => ?_) (fun c31 => ?_)
              · skip
                exact absurd c31 (by decide)
              · skip
                refine v_iload_n F 2 dX8_not5_80 rfl rfl rfl ?_
                refine v_iload_n F 0 dX8_not5_81 rfl rfl rfl ?_
                refine v_icmp_ge (tgt := 97) (q := 85) F dX8_not5_82 rfl rfl (fun c32 => ?_) (fun c32 => ?_)
                · skip
                  refine v_iconst (x := 0) F dX8_not5_97 rfl (by decide) ?_
                  exact v_retx F dX8_not5_98 rfl (⟨hE30, pRes.e (PXn0.trans (noG_e2 c1 hp2 (Or.inr c20) hp30)) hb30 hf30⟩)
                · skip
                  refine v_goto (tgt := 93) F dX8_not5_85 rfl ?_
                  refine v_iconst (x := 1) F dX8_not5_93 rfl (by decide) ?_
                  refine v_goto (tgt := 98) F dX8_not5_94 rfl ?_
                  exact v_retx F dX8_not5_98 rfl (⟨hE30, pRes.e (PXn0.trans (noG_e2 c1 hp2 (Or.inr c20) hp30)) hb30 hf30⟩)
            · skip
              rw [hp30] at hR30
              obtain ⟨hr30, hA30, hb30, ho30⟩ : r30 = f30 (rho t29) ∧ pAt b z t30 j30 ∧ t30 0 27 = 0 ∧ t30 0 26 = nI 5 := hR30
              rw [rho_eq hE29] at hr30
              have hg30 := (adG_good (PX_good 0).1) _ _ _ hi29 hp30
              have hi30 : j30 ≤ z := hg30.2
              refine v_istore_n (ls' := [(3, .int r30), (2, .int 1), (1, .int r2), (0, .ref (ad 0))]) F dX8_not5_75 rfl rfl (by decide) rfl ?_
              refine v_iload_n F 1 dX8_not5_76 rfl rfl rfl ?_
              refine v_if_eq (tgt := 88) (q := 80) F dX8_not5_77 rfl rfl (fun c33 => ?_) (fun c33 => ?_)
              · skip
                exact absurd c33 (by decide)
              · skip
                refine v_iload_n F 2 dX8_not5_80 rfl rfl rfl ?_
                refine v_iload_n F 0 dX8_not5_81 rfl rfl rfl ?_
                refine v_icmp_ge (tgt := 97) (q := 85) F dX8_not5_82 rfl rfl (fun c34 => ?_) (fun c34 => ?_)
                · skip
                  refine v_iconst (x := 0) F dX8_not5_97 rfl (by decide) ?_
                  exact v_retx F dX8_not5_98 rfl (⟨hE30, pRes.o (PXn0.trans (noG_cm c1 hp2 (Or.inr c20) hp30)) (by show _ = (if (if _ then _ else _) then _ else _); rw [← hr2, ← hr30]; simp only [if_pos (hw21.symm.trans c22)]; exact (if_neg (fun h => absurd c34 (Int32.not_le.mpr h))).symm) hA30 hb30 ho30⟩)
                · skip
                  refine v_goto (tgt := 93) F dX8_not5_85 rfl ?_
                  refine v_iconst (x := 1) F dX8_not5_93 rfl (by decide) ?_
                  refine v_goto (tgt := 98) F dX8_not5_94 rfl ?_
                  exact v_retx F dX8_not5_98 rfl (⟨hE30, pRes.o (PXn0.trans (noG_cm c1 hp2 (Or.inr c20) hp30)) (by show _ = (if (if _ then _ else _) then _ else _); rw [← hr2, ← hr30]; simp only [if_pos (hw21.symm.trans c22)]; exact (if_pos (Int32.not_le.mp c34)).symm) hA30 hb30 ho30⟩)
        · skip
          refine v_iload_n F 0 dX8_not5_48 rfl rfl rfl ?_
          exact v_retx F dX8_not5_49 rfl (⟨hE2, pRes.o (PXn0.trans (noG_pl c1 hp2 (fun h => h.elim c5 c20))) (hr2) hA2 hb2 ho2⟩)
  · skip
    refine v_aload_n F 0 dX8_not5_18 rfl rfl rfl ?_
    refine m_calli F G (cm_X8_opens_5 G σ hb ho) ok_X8_opens q1461 is_X8_opens rfl rfl dX8_not5_19 rfl rfl ?_
    intro u0 hu0; subst u0
    refine v_pop F dX8_not5_22 rfl rfl ?_
    refine v_iconst (x := 0) F dX8_not5_23 rfl (by decide) ?_
    exact v_retx F dX8_not5_24 rfl (⟨(pEq.u (pEq.u pEq.rf (j := 27) (by decide) 1) (j := 28) (by decide) (σ 0 24)), pRes.e (PXn0.trans (noG_d rfl c1)) rfl hA.2.1⟩)
theorem ok_X8_both5 : vv_oc yX8_both5 3 0 (ws_ yX8_both5 cX8_both5 3 (some .int)) := vv_ok.oc (rt := (some .int)) ⟨q1526, q133, by decide +kernel, by decide +kernel⟩
theorem is_X8_both5 : Cond.instanceMethod yX8_both5 ∈ lw_all ∧ Cond.selects RX8 yX8_both5 yX8_both5 ∈ lw_all := ⟨q1525, qs77⟩
set_option maxHeartbeats 4000000 in
theorem cm_X8_both5 {l : Launch} {Kf : State → Prop} {D : va_G} {ad : Nat → Nat} {cI cZ : ClassId} {A : Nat → Prop} (G : mG A Kf D cI cZ) {b : Nat → Int32} {z t i : Nat} (σ : mS)  (hT : pTx b z t σ) (hA : pAt b z σ i) (hi : i ≤ z) (hb : σ 0 27 = 0) (ho : σ 0 26 = nI 5) : vv_Ct l yX8_both5 (ws_ yX8_both5 cX8_both5 3 (some .int)) (rm 8 179) Kf (mWd D ad cI cZ A) A [.ref (ad 0)] σ (vv_x (fun r u => pEq σ u ∧ pRes b z 5 σ u r ((boG b z (PX b z 0).2) i))) := by
  refine vv_of (by decide +kernel) (Nat.le_of_ble_eq_true rfl) ?_
  intro v (F : vv_F v l cX8_both5 3 RX8 "both5" (some .int) [] (rm 8 179) Kf (mWd D ad cI cZ A) A _)
  show v σ 0 0 0 [(0, .ref (ad 0))] []
  refine v_aload_n F 0 dX8_both5_0 rfl rfl rfl ?_
  refine m_callx F G (cm_X8_not5 G σ hT hA hi hb ho) ok_X8_not5 q1481 is_X8_not5 rfl rfl dX8_both5_1 rfl rfl ?_
  rintro r1 t1 ⟨hN1, hR1⟩
  have hE1 : pEq σ t1 := pEq.trans pEq.rf hN1
  rcases hp1 : (PX b z 0).2 i with e1 | ⟨f1, j1⟩
  · skip
    rw [hp1] at hR1
    obtain ⟨hb1, hf1⟩ : t1 0 27 = 1 ∧ t1 0 28 = nI e1 := hR1
    refine v_istore_n (ls' := [(1, .int r1), (0, .ref (ad 0))]) F dX8_both5_4 rfl rfl (by decide) rfl ?_
    refine v_aload_n F 1 dX8_both5_5 rfl rfl rfl ?_
    refine v_bipush (x := 97) F dX8_both5_6 rfl (by decide) ?_
    refine v_bipush (x := 110) F dX8_both5_8 rfl (by decide) ?_
    refine v_bipush (x := 100) F dX8_both5_10 rfl (by decide) ?_
    refine v_iconst (x := 0) F dX8_both5_12 rfl (by decide) ?_
    refine v_iconst (x := 0) F dX8_both5_13 rfl (by decide) ?_
    refine v_iconst (x := 0) F dX8_both5_14 rfl (by decide) ?_
    refine v_iconst (x := 0) F dX8_both5_15 rfl (by decide) ?_
    refine v_iconst (x := 0) F dX8_both5_16 rfl (by decide) ?_
    refine m_calli F G (cm_X8_isWord_b G t1 97 110 100 0 0 0 0 0 hb1) ok_X8_isWord q1433 is_X8_isWord rfl rfl dX8_both5_17 rfl rfl ?_
    intro u0 hu0; subst u0
    refine v_if_eq (tgt := 49) (q := 23) F dX8_both5_20 rfl rfl (fun c2 => ?_) (fun c2 => ?_)
    · skip
      refine v_iload_n F 0 dX8_both5_49 rfl rfl rfl ?_
      exact v_retx F dX8_both5_50 rfl (⟨hE1, pRes.e (chG_er hp1) hb1 hf1⟩)
    · skip
      exact absurd c2 (by decide)
  · skip
    rw [hp1] at hR1
    obtain ⟨hr1, hA1, hb1, ho1⟩ : r1 = f1 (rho σ) ∧ pAt b z t1 j1 ∧ t1 0 27 = 0 ∧ t1 0 26 = nI 5 := hR1
    rw [rho_eq pEq.rf] at hr1
    have hg1 := (PX_good 0).2 _ _ _ hi hp1
    have hi1 : j1 ≤ z := hg1.2
    refine v_istore_n (ls' := [(1, .int r1), (0, .ref (ad 0))]) F dX8_both5_4 rfl rfl (by decide) rfl ?_
    have L5 : ∀ (n : Nat) (s : mS) (f : (Nat → Int32) → Int32) (j : Nat) (x : Int32) (hEs : pEq σ s) (hAs : pAt b z s j) (hbs : s 0 27 = 0) (hos : s 0 26 = nI 5) (hj : j ≤ z) (hx : x = f (rho σ)) (hL : (boG b z (PX b z 0).2) i = loG b z (fun i => decide (kAnd b z i)) (PX b z 0).2 (fun _ x y => if x ≠ 0 ∧ y ≠ 0 then 1 else 0) n f j) (hn : z - j < n), v s 0 0 5 [(0, .ref (ad 0)), (1, .int x)] [] := by
      intro n
      induction n with
      | zero => intro s f j x hEs hAs hbs hos hj hx hL hn; exact absurd hn (Nat.not_lt_zero _)
      | succ n ih5 =>
        intro s f j x hEs hAs hbs hos hj hx hL hn
        refine v_aload_n F 0 dX8_both5_5 rfl rfl rfl ?_
        refine v_bipush (x := 97) F dX8_both5_6 rfl (by decide) ?_
        refine v_bipush (x := 110) F dX8_both5_8 rfl (by decide) ?_
        refine v_bipush (x := 100) F dX8_both5_10 rfl (by decide) ?_
        refine v_iconst (x := 0) F dX8_both5_12 rfl (by decide) ?_
        refine v_iconst (x := 0) F dX8_both5_13 rfl (by decide) ?_
        refine v_iconst (x := 0) F dX8_both5_14 rfl (by decide) ?_
        refine v_iconst (x := 0) F dX8_both5_15 rfl (by decide) ?_
        refine v_iconst (x := 0) F dX8_both5_16 rfl (by decide) ?_
        refine m_calli F G (cm_X8_isWord G s 97 110 100 0 0 0 0 0 (pTx.eq hT hEs) hAs hj hbs) ok_X8_isWord q1433 is_X8_isWord rfl rfl dX8_both5_17 rfl rfl ?_
        intro u0 hu0; subst u0
        refine v_if_eqB (p := (wd b z j 97 110 100 0 0 0 0 0)) (tgt := 49) (q := 23) F dX8_both5_20 rfl rfl (fun c3 => ?_) (fun c3 => ?_)
        · skip
          refine v_iload_n F 1 dX8_both5_49 rfl rfl rfl ?_
          exact v_retx F dX8_both5_50 rfl (⟨hEs, pRes.o (hL.trans (loG_ou (fun h => c3 (of_decide_eq_true h)))) (hx) hAs hbs hos⟩)
        · skip
          have hs9 := (tk1_lt hj c3.1).1
          refine v_aload_n F 0 dX8_both5_23 rfl rfl rfl ?_
          refine m_calln F G (cm_X8_next (i := tN b z j) G s (pTx.eq hT hEs) hAs.2.2.1 (tN_le hj).2) ok_X8_next q1421 is_X8_next rfl rfl dX8_both5_24 rfl rfl ?_
          rintro t4 ⟨hN4, hA4⟩
          have hE4 : pEq σ t4 := pEq.trans hEs hN4.p
          have hb4 : t4 0 27 = 0 := (hN4 0 27 (by omega)).trans hbs
          have ho4 : t4 0 26 = nI 5 := (hN4 0 26 (by omega)).trans hos
          have hi4 : tN b z j ≤ z := (tN_le hj).2
          refine v_aload_n F 0 dX8_both5_27 rfl rfl rfl ?_
          refine m_callx F G (cm_X8_not5 G t4 (pTx.eq hT hE4) hA4 hi4 hb4 ho4) ok_X8_not5 q1481 is_X8_not5 rfl rfl dX8_both5_28 rfl rfl ?_
          rintro r5 t5 ⟨hN5, hR5⟩
          have hE5 : pEq σ t5 := pEq.trans hE4 hN5
          rcases hp5 : (PX b z 0).2 (tN b z j) with e5 | ⟨f5, j5⟩
          · skip
            rw [hp5] at hR5
            obtain ⟨hb5, hf5⟩ : t5 0 27 = 1 ∧ t5 0 28 = nI e5 := hR5
            refine v_istore_n (ls' := [(2, .int r5), (0, .ref (ad 0)), (1, .int x)]) F dX8_both5_31 rfl rfl (by decide) rfl ?_
            refine v_iload_n F 2 dX8_both5_32 rfl rfl rfl ?_
            refine v_if_eq (tgt := 44) (q := 36) F dX8_both5_33 rfl rfl (fun c6 => ?_) (fun c6 => ?_)
            · skip
              refine v_iconst (x := 0) F dX8_both5_44 rfl (by decide) ?_
              refine v_istore_n (ls' := [(1, .int 0), (2, .int r5), (0, .ref (ad 0))]) F dX8_both5_45 rfl rfl (by decide) rfl ?_
              refine v_goto (tgt := 5) F dX8_both5_46 rfl ?_
              refine v_aload_n F 2 dX8_both5_5 rfl rfl rfl ?_
              refine v_bipush (x := 97) F dX8_both5_6 rfl (by decide) ?_
              refine v_bipush (x := 110) F dX8_both5_8 rfl (by decide) ?_
              refine v_bipush (x := 100) F dX8_both5_10 rfl (by decide) ?_
              refine v_iconst (x := 0) F dX8_both5_12 rfl (by decide) ?_
              refine v_iconst (x := 0) F dX8_both5_13 rfl (by decide) ?_
              refine v_iconst (x := 0) F dX8_both5_14 rfl (by decide) ?_
              refine v_iconst (x := 0) F dX8_both5_15 rfl (by decide) ?_
              refine v_iconst (x := 0) F dX8_both5_16 rfl (by decide) ?_
              refine m_calli F G (cm_X8_isWord_b G t5 97 110 100 0 0 0 0 0 hb5) ok_X8_isWord q1433 is_X8_isWord rfl rfl dX8_both5_17 rfl rfl ?_
              intro u0 hu0; subst u0
              refine v_if_eq (tgt := 49) (q := 23) F dX8_both5_20 rfl rfl (fun c7 => ?_) (fun c7 => ?_)
              · skip
                refine v_iload_n F 0 dX8_both5_49 rfl rfl rfl ?_
                exact v_retx F dX8_both5_50 rfl (⟨hE5, pRes.e (hL.trans (loG_er (decide_eq_true c3) hp5)) hb5 hf5⟩)
              · skip
                exact absurd c7 (by decide)
            · skip
              refine v_iload_n F 0 dX8_both5_36 rfl rfl rfl ?_
              refine v_if_eq (tgt := 44) (q := 40) F dX8_both5_37 rfl rfl (fun c8 => ?_) (fun c8 => ?_)
              · skip
                refine v_iconst (x := 0) F dX8_both5_44 rfl (by decide) ?_
                refine v_istore_n (ls' := [(1, .int 0), (2, .int r5), (0, .ref (ad 0))]) F dX8_both5_45 rfl rfl (by decide) rfl ?_
                refine v_goto (tgt := 5) F dX8_both5_46 rfl ?_
                refine v_aload_n F 2 dX8_both5_5 rfl rfl rfl ?_
                refine v_bipush (x := 97) F dX8_both5_6 rfl (by decide) ?_
                refine v_bipush (x := 110) F dX8_both5_8 rfl (by decide) ?_
                refine v_bipush (x := 100) F dX8_both5_10 rfl (by decide) ?_
                refine v_iconst (x := 0) F dX8_both5_12 rfl (by decide) ?_
                refine v_iconst (x := 0) F dX8_both5_13 rfl (by decide) ?_
                refine v_iconst (x := 0) F dX8_both5_14 rfl (by decide) ?_
                refine v_iconst (x := 0) F dX8_both5_15 rfl (by decide) ?_
                refine v_iconst (x := 0) F dX8_both5_16 rfl (by decide) ?_
                refine m_calli F G (cm_X8_isWord_b G t5 97 110 100 0 0 0 0 0 hb5) ok_X8_isWord q1433 is_X8_isWord rfl rfl dX8_both5_17 rfl rfl ?_
                intro u0 hu0; subst u0
                refine v_if_eq (tgt := 49) (q := 23) F dX8_both5_20 rfl rfl (fun c9 => ?_) (fun c9 => ?_)
                · skip
                  refine v_iload_n F 0 dX8_both5_49 rfl rfl rfl ?_
                  exact v_retx F dX8_both5_50 rfl (⟨hE5, pRes.e (hL.trans (loG_er (decide_eq_true c3) hp5)) hb5 hf5⟩)
                · skip
                  exact absurd c9 (by decide)
              · skip
                refine v_iconst (x := 1) F dX8_both5_40 rfl (by decide) ?_
                refine v_goto (tgt := 45) F dX8_both5_41 rfl ?_
                refine v_istore_n (ls' := [(1, .int 1), (2, .int r5), (0, .ref (ad 0))]) F dX8_both5_45 rfl rfl (by decide) rfl ?_
                refine v_goto (tgt := 5) F dX8_both5_46 rfl ?_
                refine v_aload_n F 2 dX8_both5_5 rfl rfl rfl ?_
                refine v_bipush (x := 97) F dX8_both5_6 rfl (by decide) ?_
                refine v_bipush (x := 110) F dX8_both5_8 rfl (by decide) ?_
                refine v_bipush (x := 100) F dX8_both5_10 rfl (by decide) ?_
                refine v_iconst (x := 0) F dX8_both5_12 rfl (by decide) ?_
                refine v_iconst (x := 0) F dX8_both5_13 rfl (by decide) ?_
                refine v_iconst (x := 0) F dX8_both5_14 rfl (by decide) ?_
                refine v_iconst (x := 0) F dX8_both5_15 rfl (by decide) ?_
                refine v_iconst (x := 0) F dX8_both5_16 rfl (by decide) ?_
                refine m_calli F G (cm_X8_isWord_b G t5 97 110 100 0 0 0 0 0 hb5) ok_X8_isWord q1433 is_X8_isWord rfl rfl dX8_both5_17 rfl rfl ?_
                intro u0 hu0; subst u0
                refine v_if_eq (tgt := 49) (q := 23) F dX8_both5_20 rfl rfl (fun c10 => ?_) (fun c10 => ?_)
                · skip
                  refine v_iload_n F 0 dX8_both5_49 rfl rfl rfl ?_
                  exact v_retx F dX8_both5_50 rfl (⟨hE5, pRes.e (hL.trans (loG_er (decide_eq_true c3) hp5)) hb5 hf5⟩)
                · skip
                  exact absurd c10 (by decide)
          · skip
            rw [hp5] at hR5
            obtain ⟨hr5, hA5, hb5, ho5⟩ : r5 = f5 (rho t4) ∧ pAt b z t5 j5 ∧ t5 0 27 = 0 ∧ t5 0 26 = nI 5 := hR5
            rw [rho_eq hE4] at hr5
            have hg5 := (PX_good 0).2 _ _ _ hi4 hp5
            have hi5 : j5 ≤ z := hg5.2
            refine v_istore_n (ls' := [(2, .int r5), (0, .ref (ad 0)), (1, .int x)]) F dX8_both5_31 rfl rfl (by decide) rfl ?_
            refine v_iload_n F 2 dX8_both5_32 rfl rfl rfl ?_
            refine v_if_eq (tgt := 44) (q := 36) F dX8_both5_33 rfl rfl (fun c11 => ?_) (fun c11 => ?_)
            · skip
              refine v_iconst (x := 0) F dX8_both5_44 rfl (by decide) ?_
              refine v_istore_n (ls' := [(1, .int 0), (2, .int r5), (0, .ref (ad 0))]) F dX8_both5_45 rfl rfl (by decide) rfl ?_
              refine v_goto (tgt := 5) F dX8_both5_46 rfl ?_
              refine v_sub (ls' := [(0, .ref (ad 0)), (1, .int 0)]) F [2, 0] rfl ?_
              exact ih5 t5 (fun ρ => if (f ρ) ≠ 0 ∧ (f5 ρ) ≠ 0 then 1 else 0) j5 0 hE5 hA5 hb5 ho5 hi5 (by show _ = (if _ then _ else _); rw [← hx, ← hr5]; exact (if_neg (fun h => by first | exact h.1 c11 | exact h.2 c11)).symm) (hL.trans (loG_go (decide_eq_true c3) hp5)) (by have := hs9; omega)
            · skip
              refine v_iload_n F 0 dX8_both5_36 rfl rfl rfl ?_
              refine v_if_eq (tgt := 44) (q := 40) F dX8_both5_37 rfl rfl (fun c12 => ?_) (fun c12 => ?_)
              · skip
                refine v_iconst (x := 0) F dX8_both5_44 rfl (by decide) ?_
                refine v_istore_n (ls' := [(1, .int 0), (2, .int r5), (0, .ref (ad 0))]) F dX8_both5_45 rfl rfl (by decide) rfl ?_
                refine v_goto (tgt := 5) F dX8_both5_46 rfl ?_
                refine v_sub (ls' := [(0, .ref (ad 0)), (1, .int 0)]) F [2, 0] rfl ?_
                exact ih5 t5 (fun ρ => if (f ρ) ≠ 0 ∧ (f5 ρ) ≠ 0 then 1 else 0) j5 0 hE5 hA5 hb5 ho5 hi5 (by show _ = (if _ then _ else _); rw [← hx, ← hr5]; exact (if_neg (fun h => by first | exact h.1 c12 | exact h.2 c12)).symm) (hL.trans (loG_go (decide_eq_true c3) hp5)) (by have := hs9; omega)
              · skip
                refine v_iconst (x := 1) F dX8_both5_40 rfl (by decide) ?_
                refine v_goto (tgt := 45) F dX8_both5_41 rfl ?_
                refine v_istore_n (ls' := [(1, .int 1), (2, .int r5), (0, .ref (ad 0))]) F dX8_both5_45 rfl rfl (by decide) rfl ?_
                refine v_goto (tgt := 5) F dX8_both5_46 rfl ?_
                refine v_sub (ls' := [(0, .ref (ad 0)), (1, .int 1)]) F [2, 0] rfl ?_
                exact ih5 t5 (fun ρ => if (f ρ) ≠ 0 ∧ (f5 ρ) ≠ 0 then 1 else 0) j5 1 hE5 hA5 hb5 ho5 hi5 (by show _ = (if _ then _ else _); rw [← hx, ← hr5]; exact (if_pos (⟨c11, c12⟩)).symm) (hL.trans (loG_go (decide_eq_true c3) hp5)) (by have := hs9; omega)
    refine v_sub (ls' := [(0, .ref (ad 0)), (1, .int r1)]) F [1, 0] rfl ?_
    exact L5 (z + 1) t1 f1 j1 r1 hE1 hA1 hb1 ho1 hi1 hr1 (chG_go hp1) (by omega)
theorem ok_X8_either5 : vv_oc yX8_either5 3 0 (ws_ yX8_either5 cX8_either5 3 (some .int)) := vv_ok.oc (rt := (some .int)) ⟨q1522, q133, by decide +kernel, by decide +kernel⟩
theorem is_X8_either5 : Cond.instanceMethod yX8_either5 ∈ lw_all ∧ Cond.selects RX8 yX8_either5 yX8_either5 ∈ lw_all := ⟨q1521, qs76⟩
set_option maxHeartbeats 4000000 in
theorem cm_X8_either5 {l : Launch} {Kf : State → Prop} {D : va_G} {ad : Nat → Nat} {cI cZ : ClassId} {A : Nat → Prop} (G : mG A Kf D cI cZ) {b : Nat → Int32} {z t i : Nat} (σ : mS)  (hT : pTx b z t σ) (hA : pAt b z σ i) (hi : i ≤ z) (hb : σ 0 27 = 0) (ho : σ 0 26 = nI 5) : vv_Ct l yX8_either5 (ws_ yX8_either5 cX8_either5 3 (some .int)) (rm 9 201) Kf (mWd D ad cI cZ A) A [.ref (ad 0)] σ (vv_x (fun r u => pEq σ u ∧ pRes b z 5 σ u r ((eiG b z (PX b z 0).2) i))) := by
  refine vv_of (by decide +kernel) (Nat.le_of_ble_eq_true rfl) ?_
  intro v (F : vv_F v l cX8_either5 3 RX8 "either5" (some .int) [] (rm 9 201) Kf (mWd D ad cI cZ A) A _)
  show v σ 0 0 0 [(0, .ref (ad 0))] []
  refine v_aload_n F 0 dX8_either5_0 rfl rfl rfl ?_
  refine m_callx F G (cm_X8_both5 G σ hT hA hi hb ho) ok_X8_both5 q1523 is_X8_both5 rfl rfl dX8_either5_1 rfl rfl ?_
  rintro r1 t1 ⟨hN1, hR1⟩
  have hE1 : pEq σ t1 := pEq.trans pEq.rf hN1
  rcases hp1 : (boG b z (PX b z 0).2) i with e1 | ⟨f1, j1⟩
  · skip
    rw [hp1] at hR1
    obtain ⟨hb1, hf1⟩ : t1 0 27 = 1 ∧ t1 0 28 = nI e1 := hR1
    refine v_istore_n (ls' := [(1, .int r1), (0, .ref (ad 0))]) F dX8_either5_4 rfl rfl (by decide) rfl ?_
    refine v_aload_n F 1 dX8_either5_5 rfl rfl rfl ?_
    refine v_bipush (x := 111) F dX8_either5_6 rfl (by decide) ?_
    refine v_bipush (x := 114) F dX8_either5_8 rfl (by decide) ?_
    refine v_iconst (x := 0) F dX8_either5_10 rfl (by decide) ?_
    refine v_iconst (x := 0) F dX8_either5_11 rfl (by decide) ?_
    refine v_iconst (x := 0) F dX8_either5_12 rfl (by decide) ?_
    refine v_iconst (x := 0) F dX8_either5_13 rfl (by decide) ?_
    refine v_iconst (x := 0) F dX8_either5_14 rfl (by decide) ?_
    refine v_iconst (x := 0) F dX8_either5_15 rfl (by decide) ?_
    refine m_calli F G (cm_X8_isWord_b G t1 111 114 0 0 0 0 0 0 hb1) ok_X8_isWord q1433 is_X8_isWord rfl rfl dX8_either5_16 rfl rfl ?_
    intro u0 hu0; subst u0
    refine v_if_eq (tgt := 48) (q := 22) F dX8_either5_19 rfl rfl (fun c2 => ?_) (fun c2 => ?_)
    · skip
      refine v_iload_n F 0 dX8_either5_48 rfl rfl rfl ?_
      exact v_retx F dX8_either5_49 rfl (⟨hE1, pRes.e (chG_er hp1) hb1 hf1⟩)
    · skip
      exact absurd c2 (by decide)
  · skip
    rw [hp1] at hR1
    obtain ⟨hr1, hA1, hb1, ho1⟩ : r1 = f1 (rho σ) ∧ pAt b z t1 j1 ∧ t1 0 27 = 0 ∧ t1 0 26 = nI 5 := hR1
    rw [rho_eq pEq.rf] at hr1
    have hg1 := (boG_good (PX_good 0).2) _ _ _ hi hp1
    have hi1 : j1 ≤ z := hg1.2
    refine v_istore_n (ls' := [(1, .int r1), (0, .ref (ad 0))]) F dX8_either5_4 rfl rfl (by decide) rfl ?_
    have L5 : ∀ (n : Nat) (s : mS) (f : (Nat → Int32) → Int32) (j : Nat) (x : Int32) (hEs : pEq σ s) (hAs : pAt b z s j) (hbs : s 0 27 = 0) (hos : s 0 26 = nI 5) (hj : j ≤ z) (hx : x = f (rho σ)) (hL : (eiG b z (PX b z 0).2) i = loG b z (fun i => decide (kOr b z i)) (boG b z (PX b z 0).2) (fun _ x y => if x ≠ 0 ∨ y ≠ 0 then 1 else 0) n f j) (hn : z - j < n), v s 0 0 5 [(0, .ref (ad 0)), (1, .int x)] [] := by
      intro n
      induction n with
      | zero => intro s f j x hEs hAs hbs hos hj hx hL hn; exact absurd hn (Nat.not_lt_zero _)
      | succ n ih5 =>
        intro s f j x hEs hAs hbs hos hj hx hL hn
        refine v_aload_n F 0 dX8_either5_5 rfl rfl rfl ?_
        refine v_bipush (x := 111) F dX8_either5_6 rfl (by decide) ?_
        refine v_bipush (x := 114) F dX8_either5_8 rfl (by decide) ?_
        refine v_iconst (x := 0) F dX8_either5_10 rfl (by decide) ?_
        refine v_iconst (x := 0) F dX8_either5_11 rfl (by decide) ?_
        refine v_iconst (x := 0) F dX8_either5_12 rfl (by decide) ?_
        refine v_iconst (x := 0) F dX8_either5_13 rfl (by decide) ?_
        refine v_iconst (x := 0) F dX8_either5_14 rfl (by decide) ?_
        refine v_iconst (x := 0) F dX8_either5_15 rfl (by decide) ?_
        refine m_calli F G (cm_X8_isWord G s 111 114 0 0 0 0 0 0 (pTx.eq hT hEs) hAs hj hbs) ok_X8_isWord q1433 is_X8_isWord rfl rfl dX8_either5_16 rfl rfl ?_
        intro u0 hu0; subst u0
        refine v_if_eqB (p := (wd b z j 111 114 0 0 0 0 0 0)) (tgt := 48) (q := 22) F dX8_either5_19 rfl rfl (fun c3 => ?_) (fun c3 => ?_)
        · skip
          refine v_iload_n F 1 dX8_either5_48 rfl rfl rfl ?_
          exact v_retx F dX8_either5_49 rfl (⟨hEs, pRes.o (hL.trans (loG_ou (fun h => c3 (of_decide_eq_true h)))) (hx) hAs hbs hos⟩)
        · skip
          have hs9 := (tk1_lt hj c3.1).1
          refine v_aload_n F 0 dX8_either5_22 rfl rfl rfl ?_
          refine m_calln F G (cm_X8_next (i := tN b z j) G s (pTx.eq hT hEs) hAs.2.2.1 (tN_le hj).2) ok_X8_next q1421 is_X8_next rfl rfl dX8_either5_23 rfl rfl ?_
          rintro t4 ⟨hN4, hA4⟩
          have hE4 : pEq σ t4 := pEq.trans hEs hN4.p
          have hb4 : t4 0 27 = 0 := (hN4 0 27 (by omega)).trans hbs
          have ho4 : t4 0 26 = nI 5 := (hN4 0 26 (by omega)).trans hos
          have hi4 : tN b z j ≤ z := (tN_le hj).2
          refine v_aload_n F 0 dX8_either5_26 rfl rfl rfl ?_
          refine m_callx F G (cm_X8_both5 G t4 (pTx.eq hT hE4) hA4 hi4 hb4 ho4) ok_X8_both5 q1523 is_X8_both5 rfl rfl dX8_either5_27 rfl rfl ?_
          rintro r5 t5 ⟨hN5, hR5⟩
          have hE5 : pEq σ t5 := pEq.trans hE4 hN5
          rcases hp5 : (boG b z (PX b z 0).2) (tN b z j) with e5 | ⟨f5, j5⟩
          · skip
            rw [hp5] at hR5
            obtain ⟨hb5, hf5⟩ : t5 0 27 = 1 ∧ t5 0 28 = nI e5 := hR5
            refine v_istore_n (ls' := [(2, .int r5), (0, .ref (ad 0)), (1, .int x)]) F dX8_either5_30 rfl rfl (by decide) rfl ?_
            refine v_iload_n F 2 dX8_either5_31 rfl rfl rfl ?_
            refine v_if_ne (tgt := 39) (q := 35) F dX8_either5_32 rfl rfl (fun c6 => ?_) (fun c6 => ?_)
            · skip
              refine v_iconst (x := 1) F dX8_either5_39 rfl (by decide) ?_
              refine v_goto (tgt := 44) F dX8_either5_40 rfl ?_
              refine v_istore_n (ls' := [(1, .int 1), (2, .int r5), (0, .ref (ad 0))]) F dX8_either5_44 rfl rfl (by decide) rfl ?_
              refine v_goto (tgt := 5) F dX8_either5_45 rfl ?_
              refine v_aload_n F 2 dX8_either5_5 rfl rfl rfl ?_
              refine v_bipush (x := 111) F dX8_either5_6 rfl (by decide) ?_
              refine v_bipush (x := 114) F dX8_either5_8 rfl (by decide) ?_
              refine v_iconst (x := 0) F dX8_either5_10 rfl (by decide) ?_
              refine v_iconst (x := 0) F dX8_either5_11 rfl (by decide) ?_
              refine v_iconst (x := 0) F dX8_either5_12 rfl (by decide) ?_
              refine v_iconst (x := 0) F dX8_either5_13 rfl (by decide) ?_
              refine v_iconst (x := 0) F dX8_either5_14 rfl (by decide) ?_
              refine v_iconst (x := 0) F dX8_either5_15 rfl (by decide) ?_
              refine m_calli F G (cm_X8_isWord_b G t5 111 114 0 0 0 0 0 0 hb5) ok_X8_isWord q1433 is_X8_isWord rfl rfl dX8_either5_16 rfl rfl ?_
              intro u0 hu0; subst u0
              refine v_if_eq (tgt := 48) (q := 22) F dX8_either5_19 rfl rfl (fun c7 => ?_) (fun c7 => ?_)
              · skip
                refine v_iload_n F 0 dX8_either5_48 rfl rfl rfl ?_
                exact v_retx F dX8_either5_49 rfl (⟨hE5, pRes.e (hL.trans (loG_er (decide_eq_true c3) hp5)) hb5 hf5⟩)
              · skip
                exact absurd c7 (by decide)
            · skip
              refine v_iload_n F 0 dX8_either5_35 rfl rfl rfl ?_
              refine v_if_eq (tgt := 43) (q := 39) F dX8_either5_36 rfl rfl (fun c8 => ?_) (fun c8 => ?_)
              · skip
                refine v_iconst (x := 0) F dX8_either5_43 rfl (by decide) ?_
                refine v_istore_n (ls' := [(1, .int 0), (2, .int r5), (0, .ref (ad 0))]) F dX8_either5_44 rfl rfl (by decide) rfl ?_
                refine v_goto (tgt := 5) F dX8_either5_45 rfl ?_
                refine v_aload_n F 2 dX8_either5_5 rfl rfl rfl ?_
                refine v_bipush (x := 111) F dX8_either5_6 rfl (by decide) ?_
                refine v_bipush (x := 114) F dX8_either5_8 rfl (by decide) ?_
                refine v_iconst (x := 0) F dX8_either5_10 rfl (by decide) ?_
                refine v_iconst (x := 0) F dX8_either5_11 rfl (by decide) ?_
                refine v_iconst (x := 0) F dX8_either5_12 rfl (by decide) ?_
                refine v_iconst (x := 0) F dX8_either5_13 rfl (by decide) ?_
                refine v_iconst (x := 0) F dX8_either5_14 rfl (by decide) ?_
                refine v_iconst (x := 0) F dX8_either5_15 rfl (by decide) ?_
                refine m_calli F G (cm_X8_isWord_b G t5 111 114 0 0 0 0 0 0 hb5) ok_X8_isWord q1433 is_X8_isWord rfl rfl dX8_either5_16 rfl rfl ?_
                intro u0 hu0; subst u0
                refine v_if_eq (tgt := 48) (q := 22) F dX8_either5_19 rfl rfl (fun c9 => ?_) (fun c9 => ?_)
                · skip
                  refine v_iload_n F 0 dX8_either5_48 rfl rfl rfl ?_
                  exact v_retx F dX8_either5_49 rfl (⟨hE5, pRes.e (hL.trans (loG_er (decide_eq_true c3) hp5)) hb5 hf5⟩)
                · skip
                  exact absurd c9 (by decide)
              · skip
                refine v_iconst (x := 1) F dX8_either5_39 rfl (by decide) ?_
                refine v_goto (tgt := 44) F dX8_either5_40 rfl ?_
                refine v_istore_n (ls' := [(1, .int 1), (2, .int r5), (0, .ref (ad 0))]) F dX8_either5_44 rfl rfl (by decide) rfl ?_
                refine v_goto (tgt := 5) F dX8_either5_45 rfl ?_
                refine v_aload_n F 2 dX8_either5_5 rfl rfl rfl ?_
                refine v_bipush (x := 111) F dX8_either5_6 rfl (by decide) ?_
                refine v_bipush (x := 114) F dX8_either5_8 rfl (by decide) ?_
                refine v_iconst (x := 0) F dX8_either5_10 rfl (by decide) ?_
                refine v_iconst (x := 0) F dX8_either5_11 rfl (by decide) ?_
                refine v_iconst (x := 0) F dX8_either5_12 rfl (by decide) ?_
                refine v_iconst (x := 0) F dX8_either5_13 rfl (by decide) ?_
                refine v_iconst (x := 0) F dX8_either5_14 rfl (by decide) ?_
                refine v_iconst (x := 0) F dX8_either5_15 rfl (by decide) ?_
                refine m_calli F G (cm_X8_isWord_b G t5 111 114 0 0 0 0 0 0 hb5) ok_X8_isWord q1433 is_X8_isWord rfl rfl dX8_either5_16 rfl rfl ?_
                intro u0 hu0; subst u0
                refine v_if_eq (tgt := 48) (q := 22) F dX8_either5_19 rfl rfl (fun c10 => ?_) (fun c10 => ?_)
                · skip
                  refine v_iload_n F 0 dX8_either5_48 rfl rfl rfl ?_
                  exact v_retx F dX8_either5_49 rfl (⟨hE5, pRes.e (hL.trans (loG_er (decide_eq_true c3) hp5)) hb5 hf5⟩)
                · skip
                  exact absurd c10 (by decide)
          · skip
            rw [hp5] at hR5
            obtain ⟨hr5, hA5, hb5, ho5⟩ : r5 = f5 (rho t4) ∧ pAt b z t5 j5 ∧ t5 0 27 = 0 ∧ t5 0 26 = nI 5 := hR5
            rw [rho_eq hE4] at hr5
            have hg5 := (boG_good (PX_good 0).2) _ _ _ hi4 hp5
            have hi5 : j5 ≤ z := hg5.2
            refine v_istore_n (ls' := [(2, .int r5), (0, .ref (ad 0)), (1, .int x)]) F dX8_either5_30 rfl rfl (by decide) rfl ?_
            refine v_iload_n F 2 dX8_either5_31 rfl rfl rfl ?_
            refine v_if_ne (tgt := 39) (q := 35) F dX8_either5_32 rfl rfl (fun c11 => ?_) (fun c11 => ?_)
            · skip
              refine v_iconst (x := 1) F dX8_either5_39 rfl (by decide) ?_
              refine v_goto (tgt := 44) F dX8_either5_40 rfl ?_
              refine v_istore_n (ls' := [(1, .int 1), (2, .int r5), (0, .ref (ad 0))]) F dX8_either5_44 rfl rfl (by decide) rfl ?_
              refine v_goto (tgt := 5) F dX8_either5_45 rfl ?_
              refine v_sub (ls' := [(0, .ref (ad 0)), (1, .int 1)]) F [2, 0] rfl ?_
              exact ih5 t5 (fun ρ => if (f ρ) ≠ 0 ∨ (f5 ρ) ≠ 0 then 1 else 0) j5 1 hE5 hA5 hb5 ho5 hi5 (by show _ = (if _ then _ else _); rw [← hx, ← hr5]; exact (if_pos (by first | exact Or.inl c11 | exact Or.inr c11)).symm) (hL.trans (loG_go (decide_eq_true c3) hp5)) (by have := hs9; omega)
            · skip
              refine v_iload_n F 0 dX8_either5_35 rfl rfl rfl ?_
              refine v_if_eq (tgt := 43) (q := 39) F dX8_either5_36 rfl rfl (fun c12 => ?_) (fun c12 => ?_)
              · skip
                refine v_iconst (x := 0) F dX8_either5_43 rfl (by decide) ?_
                refine v_istore_n (ls' := [(1, .int 0), (2, .int r5), (0, .ref (ad 0))]) F dX8_either5_44 rfl rfl (by decide) rfl ?_
                refine v_goto (tgt := 5) F dX8_either5_45 rfl ?_
                refine v_sub (ls' := [(0, .ref (ad 0)), (1, .int 0)]) F [2, 0] rfl ?_
                exact ih5 t5 (fun ρ => if (f ρ) ≠ 0 ∨ (f5 ρ) ≠ 0 then 1 else 0) j5 0 hE5 hA5 hb5 ho5 hi5 (by show _ = (if _ then _ else _); rw [← hx, ← hr5]; exact (if_neg (fun h => h.elim (fun g => g c11) (fun g => g c12))).symm) (hL.trans (loG_go (decide_eq_true c3) hp5)) (by have := hs9; omega)
              · skip
                refine v_iconst (x := 1) F dX8_either5_39 rfl (by decide) ?_
                refine v_goto (tgt := 44) F dX8_either5_40 rfl ?_
                refine v_istore_n (ls' := [(1, .int 1), (2, .int r5), (0, .ref (ad 0))]) F dX8_either5_44 rfl rfl (by decide) rfl ?_
                refine v_goto (tgt := 5) F dX8_either5_45 rfl ?_
                refine v_sub (ls' := [(0, .ref (ad 0)), (1, .int 1)]) F [2, 0] rfl ?_
                exact ih5 t5 (fun ρ => if (f ρ) ≠ 0 ∨ (f5 ρ) ≠ 0 then 1 else 0) j5 1 hE5 hA5 hb5 ho5 hi5 (by show _ = (if _ then _ else _); rw [← hx, ← hr5]; exact (if_pos (by first | exact Or.inl c12 | exact Or.inr c12)).symm) (hL.trans (loG_go (decide_eq_true c3) hp5)) (by have := hs9; omega)
    refine v_sub (ls' := [(0, .ref (ad 0)), (1, .int r1)]) F [1, 0] rfl ?_
    exact L5 (z + 1) t1 f1 j1 r1 hE1 hA1 hb1 ho1 hi1 hr1 (chG_go hp1) (by omega)
