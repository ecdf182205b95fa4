set_option maxRecDepth 100000
theorem dig_st {n m : mS} {k : Nat} {x y z : Int32} (hm : tn (m 0 13) = tn (n 0 13)) : cab (up (up (up (up (stN (hb8 m k x y 1) 8 (tn (n 0 13))) 0 60 1) 12 (3 * tn (n 0 13) + 2) z) 0 13 (nI (tn (n 0 13) + 1))) 0 60 0) = comS (cab m) (nI k) x y z := by
  rw [cab_us rfl, cab_u rfl, cab_u rfl, cab_us rfl]
  unfold stN
  rw [cab_us rfl, cab_u rfl, cab_u rfl, cab_u rfl, cab_u rfl, cab_us rfl, hb8_cab, up_up]
  unfold comS
  rw [show tn (cab m 0 13) = tn (n 0 13) from hm]
  rfl
theorem kind_nI {n : mS} {p : Nat} (h : okN (n 11 p) 5) : nI (tn (n 11 p)) = n 11 p := h.1.symm
theorem ok_X0_dig : vv_oc yX0_dig 5 3 (ws_ yX0_dig cX0_dig 5 (some .int)) := vv_ok.oc (rt := (some .int)) ⟨q906, q116, by decide +kernel, by decide +kernel⟩
theorem is_X0_dig : Cond.instanceMethod yX0_dig ∈ lw_all ∧ Cond.selects RX0 yX0_dig yX0_dig ∈ lw_all := ⟨q904, q905⟩
set_option maxHeartbeats 4000000 in
theorem cc_X0_dig {l : Launch} {Kf : State → Prop} {D : va_G} {K : Nat → ClassId} {fv : List Value × (Nat → Nat)} {A : Nat → Prop} (G : cG A fv cIm Kf D K)  (n : mS) (δ : Nat → Nat) (ν : Nat → Option (Mg × Nat)) (o : Int32) (g : Int32) (z : Int32) (hok : cOk n) : vv_Ct l yX0_dig (ws_ yX0_dig cX0_dig 5 (some .int)) (rmc 5 1 3 108) Kf (cWd D K fv A) A [.ref (δ 0), .int o, .int g, .int z] (n, δ, ν) (vv_i (digR (cab n) o g z) (fun u => ∃ (t : mS) (δ2 : Nat → Nat), u = (t, δ2, ν) ∧ cab t = digS (cab n) o g z ∧ δ2 0 = δ 0)) := by
  refine vv_of (by decide +kernel) (Nat.le_of_ble_eq_true rfl) ?_
  intro v (F : vv_F v l cX0_dig 5 RX0 "dig" (some .int) [] (rmc 5 1 3 108) Kf (cWd D K fv A) A _)
  show v (n, δ, ν) 1 3 0 [(0, .ref (δ 0)), (1, .int o), (2, .int g), (3, .int z)] []
  have hM := hok.m
  have h8 := hok.m8
  refine v_aload_n F 0 dX0_dig_0 rfl rfl rfl ?_
  refine v_iload_n F 1 dX0_dig_1 rfl rfl rfl ?_
  refine c_calli F G (cc_X0_isPlant G n δ ν o ) ok_X0_isPlant q250 is_X0_isPlant rfl rfl dX0_dig_2 rfl rfl ?_
  intro u0 hu0; subst u0
  refine v_if_eqB (p := (0 ≤ o ∧ o ≤ n 0 13 - 1)) (tgt := 27) (q := 8) F dX0_dig_5 rfl rfl (fun c1 => ?_) (fun c1 => ?_)
  · skip
    refine v_bipush (x := (-2)) F dX0_dig_27 rfl (by decide) ?_
    exact v_reti F dX0_dig_29 rfl (by unfold digR; rw [if_pos (show ¬ digOK (cab n) o g z from (fun h => c1 h.1))]) (⟨_, δ, rfl, by unfold digS; rw [if_pos (show ¬ digOK (cab n) o g z from (fun h => c1 h.1))], rfl⟩)
  · skip
    refine v_iload_n F 2 dX0_dig_8 rfl rfl rfl ?_
    refine s_calli F G.1 (cg_X0_isGarden G.1 (n, δ, ν) g ) ok_X0_isGarden q155 q156 rfl rfl dX0_dig_9 rfl rfl ?_
    intro u0 hu0; subst u0
    refine v_if_eqB (p := (0 ≤ g ∧ g ≤ 7)) (tgt := 27) (q := 15) F dX0_dig_12 rfl rfl (fun c2 => ?_) (fun c2 => ?_)
    · skip
      refine v_bipush (x := (-2)) F dX0_dig_27 rfl (by decide) ?_
      exact v_reti F dX0_dig_29 rfl (by unfold digR; rw [if_pos (show ¬ digOK (cab n) o g z from (fun h => c2 h.2.1))]) (⟨_, δ, rfl, by unfold digS; rw [if_pos (show ¬ digOK (cab n) o g z from (fun h => c2 h.2.1))], rfl⟩)
    · skip
      refine v_iload_n F 3 dX0_dig_15 rfl rfl rfl ?_
      refine v_i2l F dX0_dig_16 rfl ?_
      refine v_lconst (x := (1 : Int32).toInt64) F dX0_dig_17 rfl (by decide) ?_
      refine v_ldc2 F q254 dX0_dig_18 rfl ?_
      refine v_lng (y := (9999 : Int32).toInt64) F (by decide) ?_
      refine s_calli F G.1 (cg_X0_in G.1 (n, δ, ν) z 1 9999 ) ok_X0_in q151 q152 rfl rfl dX0_dig_21 rfl rfl ?_
      intro u0 hu0; subst u0
      refine v_if_neB (p := (1 ≤ z ∧ z ≤ 9999)) (tgt := 30) (q := 27) F dX0_dig_24 rfl rfl (fun c3 => ?_) (fun c3 => ?_)
      · skip
        obtain ⟨p, hp, hop⟩ := pl_of hM h8 c1
        have htp : tn o = p := by rw [hop, tn_nI (by omega)]
        have hkd := hok.2 p hp
        have hkd5 := hkd.2
        refine v_aload_n F 0 dX0_dig_30 rfl rfl rfl ?_
        refine c_get F G 0 (w := .ref (δ 1)) (by decide) q797 rfl dX0_dig_31 rfl ?_
        refine v_iload_n F 1 dX0_dig_34 rfl rfl rfl ?_
        refine v_int F (hop) ?_
        refine c_plant (s := p) F G (hok.lv hp) (by omega) dX0_dig_35 rfl ?_
        refine v_astore (ls' := [(4, .ref (δ (200 + p))), (0, .ref (δ 0)), (1, .int o), (2, .int g), (3, .int z)]) F dX0_dig_36 rfl (by decide) rfl ?_
        refine v_aload F 0 dX0_dig_38 rfl rfl ?_
        refine c_bget F G p 2 (hok.lv hp) (hok.k hp) (by decide) q185 (refO_9 2) dX0_dig_40 rfl ?_
        refine v_iload_n F 4 dX0_dig_43 rfl rfl rfl ?_
        refine v_icmp_ge (tgt := 50) (q := 47) F dX0_dig_44 rfl rfl (fun c4 => ?_) (fun c4 => ?_)
        · skip
          refine v_aload_n F 1 dX0_dig_50 rfl rfl rfl ?_
          refine c_get F G 1 (w := .int (n 0 13)) (by decide) q798 rfl dX0_dig_51 rfl ?_
          refine v_bipush (x := 8) F dX0_dig_54 rfl (by decide) ?_
          refine v_icmp_ne (tgt := 62) (q := 59) F dX0_dig_56 rfl rfl (fun c5 => ?_) (fun c5 => ?_)
          · skip
            have hM8 : tn (n 0 13) < 8 := plt8 hM h8 c5
            refine v_aload F 0 dX0_dig_62 rfl rfl ?_
            refine v_dup F dX0_dig_64 rfl rfl ?_
            refine c_bget F G p 2 (hok.lv hp) (hok.k hp) (by decide) q185 (refO_9 2) dX0_dig_65 rfl ?_
            refine v_iload_n F 4 dX0_dig_68 rfl rfl rfl ?_
            refine v_isub F dX0_dig_69 rfl ?_
            refine c_bput F G p 2 (hok.lv hp) (hok.k hp) (by decide) q185 (refO_9 2) rfl (by decide +kernel) dX0_dig_70 rfl ?_
            refine v_aload_n F 1 dX0_dig_73 rfl rfl rfl ?_
            refine c_get F G 0 (w := .ref (δ 1)) (by decide) q797 rfl dX0_dig_74 rfl ?_
            refine v_aload_n F 1 dX0_dig_77 rfl rfl rfl ?_
            refine c_get F G 1 (w := .int (n 0 13)) (by decide) q798 rfl dX0_dig_78 rfl ?_
            refine v_int F (y := nI (tn (n 0 13))) hM ?_
            refine v_aload F 0 dX0_dig_81 rfl rfl ?_
            refine c_vcalli F G (As := []) (hok.lv hp) (hok.k hp) q265 od_kind vo_kind (vc_kind G (up n 12 (3 * p + 2) ((n 12 (3 * p + 2)) - z)) δ ν p  (hok.lv hp) (hok.k hp)) rfl rfl dX0_dig_83 rfl rfl ?_
            intro u0 hu0; subst u0
            refine v_int F (y := nI (tn (n 11 p))) rfl ?_
            refine v_aload F 0 dX0_dig_86 rfl rfl ?_
            refine c_bget F G p 0 (hok.lv hp) (hok.k hp) (by decide) q179 (refO_9 0) dX0_dig_88 rfl ?_
            refine v_int F (y := n 12 (3 * p)) (up_ne (by omega)) ?_
            refine v_iload_n F 3 dX0_dig_91 rfl rfl rfl ?_
            refine s_callA (bc' := 0) (bs' := 0) F G.1 (cc_X0_made G (up n 12 (3 * p + 2) ((n 12 (3 * p + 2)) - z)) δ ν (tn (n 11 p)) (n 12 (3 * p)) g hkd.2) ok_X0_made q159 q160 rfl rfl dX0_dig_92 rfl rfl (rfl) (rfl) ?_
            rintro _ _ ⟨_, rfl, d6, rfl, rfl, hd6⟩
            rw [show δ 1 = d6 1 from (hd6 1 (by omega)).symm, show δ (200 + p) = d6 (200 + p) from (hd6 (200 + p) (by omega)).symm, show δ 0 = d6 0 from (hd6 0 (by omega)).symm]
            refine c_store (m := tn (n 0 13)) F G rfl (by omega) rfl (show tn (nI (tn (n 11 p))) ≤ 5 by rw [tn_nI (by omega)]; omega) dX0_dig_95 rfl ?_
            intro d7 hd7 hd7m
            rw [show d6 (200 + p) = d7 (200 + p) from (hd7 (200 + p) (by omega)).symm, show d6 0 = d7 0 from (hd7 0 (by omega)).symm]
            refine v_aload_n F 1 dX0_dig_96 rfl rfl rfl ?_
            refine c_get F G 0 (w := .ref (d7 1)) (by decide) q797 rfl dX0_dig_97 rfl ?_
            refine v_aload_n F 1 dX0_dig_100 rfl rfl rfl ?_
            refine c_get F G 1 (w := .int ((up (stN (hb8 (up n 12 (3 * p + 2) ((n 12 (3 * p + 2)) - z)) (tn (n 11 p)) (n 12 (3 * p)) g 1) 8 (tn (n 0 13))) 0 60 1) 0 13)) (by decide) q798 rfl dX0_dig_101 rfl ?_
            refine v_int F (y := nI (tn (n 0 13))) hM ?_
            refine c_plant (s := tn (n 0 13)) F G (⟨by show tn (n 0 13) < tn (n 0 13) + tn (1 : Int32); rw [show tn (1 : Int32) = 1 by decide]; omega, by omega⟩) (by omega) dX0_dig_104 rfl ?_
            refine v_iload_n F 4 dX0_dig_105 rfl rfl rfl ?_
            refine c_bput F G (tn (n 0 13)) 2 (⟨by show tn (n 0 13) < tn (n 0 13) + tn (1 : Int32); rw [show tn (1 : Int32) = 1 by decide]; omega, by omega⟩) (by show tn (up (stN _ 8 (tn (n 0 13))) 0 60 1 11 (tn (n 0 13))) ≤ 5; rw [up_ne (by omega), stN_11]; show tn (nI (tn (n 11 p))) ≤ 5; rw [tn_nI (by have := hkd.2; omega)]; exact hkd.2) (by decide) q185 (refO_9 2) rfl (by decide +kernel) dX0_dig_106 rfl ?_
            refine v_aload_n F 1 dX0_dig_109 rfl rfl rfl ?_
            refine v_dup F dX0_dig_110 rfl rfl ?_
            refine c_get F G 1 (w := .int ((up (stN (hb8 (up n 12 (3 * p + 2) ((n 12 (3 * p + 2)) - z)) (tn (n 11 p)) (n 12 (3 * p)) g 1) 8 (tn (n 0 13))) 0 60 1) 0 13)) (by decide) q798 rfl dX0_dig_111 rfl ?_
            refine v_int F (y := nI (tn (n 0 13))) hM ?_
            refine v_iconst (x := 1) F dX0_dig_114 rfl (by decide) ?_
            refine v_iaddN (a := tn (n 0 13)) (b := 1) F dX0_dig_115 rfl ?_
            refine c_putM F G (by show tn (nI (tn (n 0 13) + 1)) ≤ tn (n 0 13) + 1; rw [tn_nI (by omega)]; exact Nat.le_refl _) q798 dX0_dig_116 rfl ?_
            refine v_aload_n F 1 dX0_dig_119 rfl rfl rfl ?_
            refine c_get F G 1 (w := .int (nI ((tn (n 0 13)) + 1))) (by decide) q798 rfl dX0_dig_120 rfl ?_
            refine v_int F (y := nI (tn (n 0 13) + 1)) rfl ?_
            refine v_iconst (x := 1) F dX0_dig_123 rfl (by decide) ?_
            refine v_isubN (a := tn (n 0 13) + 1) (b := 1) F dX0_dig_124 rfl (by omega) ?_
            exact v_reti F dX0_dig_125 rfl (by unfold digR; rw [if_neg (show ¬ ¬ digOK (cab n) o g z from fun h => h ⟨c1, c2, c3⟩), htp]; rw [if_neg (show ¬ cab n 12 (3 * p + 2) < z from Int32.not_lt.mpr c4)]; rw [if_neg (show ¬ cab n 0 13 = 8 from c5)]; exact hM.symm) (⟨_, _, rfl, by unfold digS; rw [if_neg (show ¬ ¬ digOK (cab n) o g z from fun h => h ⟨c1, c2, c3⟩), htp]; rw [if_neg (show ¬ cab n 12 (3 * p + 2) < z from Int32.not_lt.mpr c4)]; rw [if_neg (show ¬ cab n 0 13 = 8 from c5)]; rw [dig_st (n := n) (m := up n 12 (3 * p + 2) (n 12 (3 * p + 2) - z)) rfl, cab_u rfl, kind_nI hkd]; rfl, (hd7 0 (by omega)).trans (hd6 0 (by omega))⟩)
          · skip
            refine v_bipush (x := (-4)) F dX0_dig_59 rfl (by decide) ?_
            exact v_reti F dX0_dig_61 rfl (by unfold digR; rw [if_neg (show ¬ ¬ digOK (cab n) o g z from fun h => h ⟨c1, c2, c3⟩), htp]; rw [if_neg (show ¬ cab n 12 (3 * p + 2) < z from Int32.not_lt.mpr c4)]; rw [if_pos (show cab n 0 13 = 8 from c5)]) (⟨_, δ, rfl, by unfold digS; rw [if_neg (show ¬ ¬ digOK (cab n) o g z from fun h => h ⟨c1, c2, c3⟩), htp]; rw [if_neg (show ¬ cab n 12 (3 * p + 2) < z from Int32.not_lt.mpr c4)]; rw [if_pos (show cab n 0 13 = 8 from c5)], rfl⟩)
        · skip
          refine v_bipush (x := (-3)) F dX0_dig_47 rfl (by decide) ?_
          exact v_reti F dX0_dig_49 rfl (by unfold digR; rw [if_neg (show ¬ ¬ digOK (cab n) o g z from fun h => h ⟨c1, c2, c3⟩), htp]; rw [if_pos (show cab n 12 (3 * p + 2) < z from Int32.not_le.mp c4)]) (⟨_, δ, rfl, by unfold digS; rw [if_neg (show ¬ ¬ digOK (cab n) o g z from fun h => h ⟨c1, c2, c3⟩), htp]; rw [if_pos (show cab n 12 (3 * p + 2) < z from Int32.not_le.mp c4)], rfl⟩)
      · skip
        refine v_bipush (x := (-2)) F dX0_dig_27 rfl (by decide) ?_
        exact v_reti F dX0_dig_29 rfl (by unfold digR; rw [if_pos (show ¬ digOK (cab n) o g z from (fun h => c3 h.2.2))]) (⟨_, δ, rfl, by unfold digS; rw [if_pos (show ¬ digOK (cab n) o g z from (fun h => c3 h.2.2))], rfl⟩)
theorem lf_st {n : mS} (hM : n 0 13 = nI (tn (n 0 13))) : cab (up (up (up (stN n 8 (tn (n 0 13))) 0 60 1) 0 13 (nI (tn (n 0 13) + 1))) 0 60 0) = comS (cab n) (n 67 8) (n 68 24) (n 68 25) (n 68 26) := by
  rw [cab_us rfl, cab_u rfl, cab_us rfl]
  unfold stN
  rw [cab_us rfl, cab_u rfl, cab_u rfl, cab_u rfl, cab_u rfl, cab_us rfl]
  rfl
theorem com_13 {α : mS} {k x y z : Int32} : comS α k x y z 0 13 = nI (tn (α 0 13) + 1) := up_eq
theorem ok_X0_isLeft : vv_oc yX0_isLeft 5 2 (wsW_ yX0_isLeft cX0_isLeft 5 (some .boolean) [(0, 47, 69, 0), (69, 71, 69, 0)]) := vv_okW.oc (rt := (some .boolean)) ⟨q996, q116, by decide +kernel, by decide +kernel⟩
theorem is_X0_isLeft : Cond.instanceMethod yX0_isLeft ∈ lw_all ∧ Cond.selects RX0 yX0_isLeft yX0_isLeft ∈ lw_all := ⟨q995, qs37⟩
set_option maxHeartbeats 4000000 in
theorem cc_X0_isLeft {l : Launch} {Kf : State → Prop} {D : va_G} {K : Nat → ClassId} {fv : List Value × (Nat → Nat)} {A : Nat → Prop} (G : cG A fv cIm Kf D K)  (n : mS) (δ : Nat → Nat) (ν : Nat → Option (Mg × Nat)) (m : Nat) (hM : n 0 13 = nI (tn (n 0 13))) (h8 : tn (n 0 13) < 8) (h56 : n 56 8 = 1) (hk : tn (n 67 8) ≤ 5) (hm : m ≤ 30) (hokx : cOk (comS (cab n) (n 67 8) (n 68 24) (n 68 25) (n 68 26))) : vv_Ct l yX0_isLeft (wsW_ yX0_isLeft cX0_isLeft 5 (some .boolean) [(0, 47, 69, 0), (69, 71, 69, 0)]) (rm 166 3654) Kf (cWd D K fv A) A [.ref (δ 0), .ref (δ (200 + 8)), .int (nI m)] (n, δ, ν) (vv_i (bI (¬ mbV (comS (cab n) (n 67 8) (n 68 24) (n 68 25) (n 68 26)) (tn (n 0 13)) m ≤ 0)) (fun u => ∃ (t : mS) (δ2 : Nat → Nat), u = (t, δ2, ν) ∧ cab t = up (comS (cab n) (n 67 8) (n 68 24) (n 68 25) (n 68 26)) 0 13 (nI (tn (n 0 13))) ∧ oth (200 + tn (n 0 13)) δ δ2)) := by
  refine vv_ofW (by decide +kernel) (Nat.le_of_ble_eq_true rfl) ?_
  intro v (F : vv_F v l cX0_isLeft 5 RX0 "isLeft" (some .boolean) [(0, 47, 69, 0), (69, 71, 69, 0)] (rm 166 3654) Kf (cWd D K fv A) A _)
  show v (n, δ, ν) 0 0 0 [(0, .ref (δ 0)), (1, .ref (δ (200 + 8))), (2, .int (nI m))] []
  refine v_aload_n F 0 dX0_isLeft_0 rfl rfl rfl ?_
  refine c_get F G 0 (w := .ref (δ 1)) (by decide) q797 rfl dX0_isLeft_1 rfl ?_
  refine v_aload_n F 0 dX0_isLeft_4 rfl rfl rfl ?_
  refine c_get F G 1 (w := .int (n 0 13)) (by decide) q798 rfl dX0_isLeft_5 rfl ?_
  refine v_int F (hM) ?_
  refine v_aload_n F 1 dX0_isLeft_8 rfl rfl rfl ?_
  refine c_store (m := tn (n 0 13)) F G rfl (by omega) h56 hk dX0_isLeft_9 rfl ?_
  intro d1 hd1 hd1m
  refine v_sub (ls' := [(0, .ref (δ 0)), (2, .int (nI m))]) F [0, 2] rfl ?_
  rw [show δ 0 = d1 0 from (hd1 0 (by omega)).symm]
  refine v_aload_n F 0 dX0_isLeft_10 rfl rfl rfl ?_
  refine v_dup F dX0_isLeft_11 rfl rfl ?_
  refine c_get F G 1 (w := .int ((up (stN n 8 (tn (n 0 13))) 0 60 1) 0 13)) (by decide) q798 rfl dX0_isLeft_12 rfl ?_
  refine v_int F (y := nI (tn (n 0 13))) hM ?_
  refine v_iconst (x := 1) F dX0_isLeft_15 rfl (by decide) ?_
  refine v_iaddN (a := tn (n 0 13)) (b := 1) F dX0_isLeft_16 rfl ?_
  refine c_putM F G (by show tn (nI (tn (n 0 13) + 1)) ≤ tn (n 0 13) + 1; rw [tn_nI (by omega)]; exact Nat.le_refl _) q798 dX0_isLeft_17 rfl ?_
  have e1 : cab (up (up (up (stN n 8 (tn (n 0 13))) 0 60 1) 0 13 (nI ((tn (n 0 13)) + 1))) 0 60 0) = comS (cab n) (n 67 8) (n 68 24) (n 68 25) (n 68 26) := lf_st hM
  obtain ⟨s1, hs1⟩ : ∃ s1, s1 = up (up (up (stN n 8 (tn (n 0 13))) 0 60 1) 0 13 (nI ((tn (n 0 13)) + 1))) 0 60 0 := ⟨_, rfl⟩
  rw [← hs1] at e1
  refine v_st F (σ2 := (s1, d1, ν)) (by rw [hs1]) ?_
  have ok1 : cOk s1 := cOk_cab.mp (by rw [e1]; exact hokx)
  have h131 : s1 0 13 = nI (tn (n 0 13) + 1) := by rw [← cab_rd (n := s1) 0 13 rfl, e1, com_13]; rfl
  refine v_aload_n F 0 dX0_isLeft_20 rfl rfl rfl ?_
  refine v_iload_n F 1 dX0_isLeft_21 rfl rfl rfl ?_
  refine c_calln F G (cc_X0_runs G s1 d1 ν m ok1 hm) ok_X0_runs q937 is_X0_runs rfl rfl dX0_isLeft_22 rfl rfl ?_
  rintro _ ⟨tr, rfl, hbr, hRtr⟩
  have oktr : cOk tr := cOk.of (show cOk s1 from ok1) hbr
  refine v_aload_n F 0 dX0_isLeft_25 rfl rfl rfl ?_
  refine c_get F G 22 (w := .ref (d1 22)) (by decide) q823 rfl dX0_isLeft_26 rfl ?_
  refine v_iload_n F 1 dX0_isLeft_29 rfl rfl rfl ?_
  refine c_behind (t := m) F G (by omega) dX0_isLeft_30 rfl ?_
  refine v_aload_n F 0 dX0_isLeft_31 rfl rfl rfl ?_
  refine c_get F G 1 (w := .int (tr 0 13)) (by decide) q798 rfl dX0_isLeft_32 rfl ?_
  refine v_int F (y := nI (tn (n 0 13) + 1)) ((cab_eq hbr 0 13 rfl).trans h131) ?_
  refine v_iconst (x := 1) F dX0_isLeft_35 rfl (by decide) ?_
  refine v_isubN (a := tn (n 0 13) + 1) (b := 1) F dX0_isLeft_36 rfl (by omega) ?_
  refine c_bld (t := m) (i := (tn (n 0 13) + 1) - 1) F G (by omega) (by omega) dX0_isLeft_37 rfl ?_
  have hv : tr (70 + m) (tn (n 0 13)) = mbV (comS (cab n) (n 67 8) (n 68 24) (n 68 25) (n 68 26)) (tn (n 0 13)) m := by rw [(hRtr.1 m (Nat.le_refl _)).2.2 (tn (n 0 13)) (by show tn (n 0 13) < tn (s1 0 13); rw [h131, tn_nI (by omega)]; omega), e1]; rfl
  refine v_int F hv ?_
  refine v_if_le (tgt := 45) (q := 41) F dX0_isLeft_38 rfl rfl (fun c3 => ?_) (fun c3 => ?_)
  · skip
    refine v_iconst (x := 0) F dX0_isLeft_45 rfl (by decide) ?_
    refine v_istore_n (ls' := [(3, .int 0), (0, .ref (d1 0)), (2, .int (nI m))]) F dX0_isLeft_46 rfl rfl (by decide) rfl ?_
    refine v_aload_n F 1 dX0_isLeft_47 rfl rfl rfl ?_
    refine v_dup F dX0_isLeft_48 rfl rfl ?_
    refine c_get F G 1 (w := .int (tr 0 13)) (by decide) q798 rfl dX0_isLeft_49 rfl ?_
    refine v_int F (y := nI (tn (n 0 13) + 1)) ((cab_eq hbr 0 13 rfl).trans h131) ?_
    refine v_iconst (x := 1) F dX0_isLeft_52 rfl (by decide) ?_
    refine v_isubN (a := tn (n 0 13) + 1) (b := 1) F dX0_isLeft_53 rfl (by omega) ?_
    refine c_putM F G (by show tn (nI (tn (n 0 13))) ≤ tn (tr 0 13) + tn (tr 0 60); rw [cab_eq hbr 0 13 rfl, h131, tn_nI (by omega), tn_nI (by omega)]; omega) q798 dX0_isLeft_54 rfl ?_
    refine v_aload_n F 1 dX0_isLeft_57 rfl rfl rfl ?_
    refine c_get F G 0 (w := .ref (d1 1)) (by decide) q797 rfl dX0_isLeft_58 rfl ?_
    refine v_aload_n F 1 dX0_isLeft_61 rfl rfl rfl ?_
    refine c_get F G 1 (w := .int (nI ((tn (n 0 13) + 1) - 1))) (by decide) q798 rfl dX0_isLeft_62 rfl ?_
    refine v_int F (y := nI (tn (n 0 13))) rfl ?_
    refine v_null F dX0_isLeft_65 rfl ?_
    refine c_null (m := tn (n 0 13)) F G (by show tn (nI (tn (n 0 13))) + tn 0 ≤ tn (n 0 13); rw [tn_nI (by omega), show tn (0 : Int32) = 0 by decide]; exact Nat.le_refl _) (by omega) dX0_isLeft_66 rfl ?_
    refine v_iload_n F 0 dX0_isLeft_67 rfl rfl rfl ?_
    exact v_retz F dX0_isLeft_68 rfl ((bI_f (fun h => h c3)).symm) (⟨_, _, rfl, by rw [cab_us rfl, cab_u rfl, hbr, e1]; rfl, hd1⟩)
  · skip
    refine v_iconst (x := 1) F dX0_isLeft_41 rfl (by decide) ?_
    refine v_goto (tgt := 46) F dX0_isLeft_42 rfl ?_
    refine v_istore_n (ls' := [(3, .int 1), (0, .ref (d1 0)), (2, .int (nI m))]) F dX0_isLeft_46 rfl rfl (by decide) rfl ?_
    refine v_aload_n F 1 dX0_isLeft_47 rfl rfl rfl ?_
    refine v_dup F dX0_isLeft_48 rfl rfl ?_
    refine c_get F G 1 (w := .int (tr 0 13)) (by decide) q798 rfl dX0_isLeft_49 rfl ?_
    refine v_int F (y := nI (tn (n 0 13) + 1)) ((cab_eq hbr 0 13 rfl).trans h131) ?_
    refine v_iconst (x := 1) F dX0_isLeft_52 rfl (by decide) ?_
    refine v_isubN (a := tn (n 0 13) + 1) (b := 1) F dX0_isLeft_53 rfl (by omega) ?_
    refine c_putM F G (by show tn (nI (tn (n 0 13))) ≤ tn (tr 0 13) + tn (tr 0 60); rw [cab_eq hbr 0 13 rfl, h131, tn_nI (by omega), tn_nI (by omega)]; omega) q798 dX0_isLeft_54 rfl ?_
    refine v_aload_n F 1 dX0_isLeft_57 rfl rfl rfl ?_
    refine c_get F G 0 (w := .ref (d1 1)) (by decide) q797 rfl dX0_isLeft_58 rfl ?_
    refine v_aload_n F 1 dX0_isLeft_61 rfl rfl rfl ?_
    refine c_get F G 1 (w := .int (nI ((tn (n 0 13) + 1) - 1))) (by decide) q798 rfl dX0_isLeft_62 rfl ?_
    refine v_int F (y := nI (tn (n 0 13))) rfl ?_
    refine v_null F dX0_isLeft_65 rfl ?_
    refine c_null (m := tn (n 0 13)) F G (by show tn (nI (tn (n 0 13))) + tn 0 ≤ tn (n 0 13); rw [tn_nI (by omega), show tn (0 : Int32) = 0 by decide]; exact Nat.le_refl _) (by omega) dX0_isLeft_66 rfl ?_
    refine v_iload_n F 0 dX0_isLeft_67 rfl rfl rfl ?_
    exact v_retz F dX0_isLeft_68 rfl ((bI_t c3).symm) (⟨_, _, rfl, by rw [cab_us rfl, cab_u rfl, hbr, e1]; rfl, hd1⟩)
theorem com_com {α : mS} {k x y z k2 x2 y2 z2 : Int32} (hM : α 0 13 = nI (tn (α 0 13))) : comS (up (comS α k x y z) 0 13 (nI (tn (α 0 13)))) k2 x2 y2 z2 = comS α k2 x2 y2 z2 := by
  have e13 : tn (up (comS α k x y z) 0 13 (nI (tn (α 0 13))) 0 13) = tn (α 0 13) := by rw [up_eq, ← hM]
  funext a b
  unfold comS
  rw [show tn (up (up (up (up (up (up α 11 (tn (α 0 13)) k) 12 (3 * tn (α 0 13)) x) 12 (3 * tn (α 0 13) + 1) y) 12 (3 * tn (α 0 13) + 2) z) 0 13 (nI (tn (α 0 13) + 1))) 0 13 (nI (tn (α 0 13))) 0 13) = tn (α 0 13) from e13]
  by_cases h0 : a = 0 ∧ b = 13
  · obtain ⟨rfl, rfl⟩ := h0; rw [up_eq, up_eq]
  rw [up_ne h0, up_ne h0]
  by_cases h1 : a = 12 ∧ b = 3 * tn (α 0 13) + 2
  · obtain ⟨rfl, rfl⟩ := h1; rw [up_eq, up_eq]
  rw [up_ne h1, up_ne h1]
  by_cases h2 : a = 12 ∧ b = 3 * tn (α 0 13) + 1
  · obtain ⟨rfl, rfl⟩ := h2; rw [up_eq, up_eq]
  rw [up_ne h2, up_ne h2]
  by_cases h3 : a = 12 ∧ b = 3 * tn (α 0 13)
  · obtain ⟨rfl, rfl⟩ := h3; rw [up_eq, up_eq]
  rw [up_ne h3, up_ne h3]
  by_cases h4 : a = 11 ∧ b = tn (α 0 13)
  · obtain ⟨rfl, rfl⟩ := h4; rw [up_eq, up_eq]
  rw [up_ne h4, up_ne h4, up_ne h0, up_ne h0, up_ne h1, up_ne h2, up_ne h3, up_ne h4]
theorem cOk_com {α : mS} {k g : Nat} {x : Int32} (h : cOk α) (hM : tn (α 0 13) < 8) (hg : g < 8) (hk : k ≤ 5) : cOk (comS α (nI k) x (nI g) 1) := by
  refine ⟨wf_com h.1 hM hg (by decide), fun p hp => ?_⟩
  rw [com_13, tn_nI (by omega)] at hp
  by_cases c : p = tn (α 0 13)
  · subst c
    have e : comS α (nI k) x (nI g) 1 11 (tn (α 0 13)) = nI k := by unfold comS; rw [up_ne (by omega), up_ne (by omega), up_ne (by omega), up_ne (by omega), up_eq]
    rw [e]; exact okN_of hk (by decide)
  · rw [com_rd (by omega)]; exact h.2 p (by omega)
/-- where sown stands behind g gardens -/
def sowJ (α β : mS) (k g : Nat) : Prop := β 0 13 = α 0 13 ∧ (∀ a x y z, comS β a x y z = comS α a x y z) ∧ (0 < g → β = up (comS α (nI (k / 10)) (nI (k % 10)) (nI (g - 1)) 1) 0 13 (nI (tn (α 0 13))))
theorem sowJ_0 {α : mS} {k : Nat} : sowJ α α k 0 := ⟨rfl, fun _ _ _ _ => rfl, fun h => absurd h (Nat.lt_irrefl _)⟩
theorem sowJ_s {α β γ : mS} {k g : Nat} (hM : α 0 13 = nI (tn (α 0 13))) (h : sowJ α β k g) (hγ : γ = up (comS β (nI (k / 10)) (nI (k % 10)) (nI g) 1) 0 13 (nI (tn (β 0 13)))) : sowJ α γ k (g + 1) := by
  obtain ⟨h1, h2, -⟩ := h
  rw [h2, h1] at hγ
  subst hγ
  exact ⟨by rw [up_eq]; exact hM.symm, fun a x y z => com_com hM, fun _ => rfl⟩
theorem shl_0 (g : Int32) : (0 : Int32) <<< g = 0 := by
  apply Int32.toBitVec_inj.mp
  show (0 : BitVec 32) <<< _ = 0
  simp
theorem ok_X0_sown : vv_oc yX0_sown 5 2 (ws_ yX0_sown cX0_sown 5 (some .int)) := vv_ok.oc (rt := (some .int)) ⟨q991, q116, by decide +kernel, by decide +kernel⟩
theorem is_X0_sown : Cond.instanceMethod yX0_sown ∈ lw_all ∧ Cond.selects RX0 yX0_sown yX0_sown ∈ lw_all := ⟨q989, q990⟩
set_option maxHeartbeats 4000000 in
theorem cc_X0_sown {l : Launch} {Kf : State → Prop} {D : va_G} {K : Nat → ClassId} {fv : List Value × (Nat → Nat)} {A : Nat → Prop} (G : cG A fv cIm Kf D K)  (n : mS) (δ : Nat → Nat) (ν : Nat → Option (Mg × Nat)) (k : Int32) (y : Int32) (hok : cOk n) : vv_Ct l yX0_sown (ws_ yX0_sown cX0_sown 5 (some .int)) (rmc 167 8 24 3678) Kf (cWd D K fv A) A [.ref (δ 0), .int k, .int y] (n, δ, ν) (vv_i (sowR (cab n) k y) (fun u => ∃ (t : mS) (δ2 : Nat → Nat), u = (t, δ2, ν) ∧ cab t = sowS (cab n) k y ∧ δ2 0 = δ 0)) := by
  refine vv_of (by decide +kernel) (Nat.le_of_ble_eq_true rfl) ?_
  intro v (F : vv_F v l cX0_sown 5 RX0 "sown" (some .int) [] (rmc 167 8 24 3678) Kf (cWd D K fv A) A _)
  show v (n, δ, ν) 8 24 0 [(0, .ref (δ 0)), (1, .int k), (2, .int y)] []
  have hM := hok.m
  have h8 := hok.m8
  refine v_iload_n F 1 dX0_sown_0 rfl rfl rfl ?_
  refine v_i2l F dX0_sown_1 rfl ?_
  refine v_lconst (x := (0 : Int32).toInt64) F dX0_sown_2 rfl (by decide) ?_
  refine v_ldc2 F q992 dX0_sown_3 rfl ?_
  refine v_lng (y := (59 : Int32).toInt64) F (by decide) ?_
  refine s_calli F G.1 (cg_X0_in G.1 (n, δ, ν) k 0 59 ) ok_X0_in q151 q152 rfl rfl dX0_sown_6 rfl rfl ?_
  intro u0 hu0; subst u0
  refine v_if_eqB (p := (0 ≤ k ∧ k ≤ 59)) (tgt := 19) (q := 12) F dX0_sown_9 rfl rfl (fun c1 => ?_) (fun c1 => ?_)
  · skip
    refine v_bipush (x := (-2)) F dX0_sown_19 rfl (by decide) ?_
    exact v_reti F dX0_sown_21 rfl (by unfold sowR; rw [if_pos (show ¬ ((0 ≤ k ∧ k ≤ 59) ∧ (0 ≤ y ∧ y ≤ 30)) from fun h => c1 h.1)]) (⟨_, δ, rfl, by unfold sowS; rw [if_pos (show ¬ ((0 ≤ k ∧ k ≤ 59) ∧ (0 ≤ y ∧ y ≤ 30)) from fun h => c1 h.1)], rfl⟩)
  · skip
    refine v_iload_n F 2 dX0_sown_12 rfl rfl rfl ?_
    refine s_calli F G.1 (cg_X0_areYears G.1 (n, δ, ν) y ) ok_X0_areYears q932 q933 rfl rfl dX0_sown_13 rfl rfl ?_
    intro u0 hu0; subst u0
    refine v_if_neB (p := (0 ≤ y ∧ y ≤ 30)) (tgt := 22) (q := 19) F dX0_sown_16 rfl rfl (fun c2 => ?_) (fun c2 => ?_)
    · skip
      refine v_aload_n F 0 dX0_sown_22 rfl rfl rfl ?_
      refine c_get F G 1 (w := .int (n 0 13)) (by decide) q798 rfl dX0_sown_23 rfl ?_
      refine v_bipush (x := 8) F dX0_sown_26 rfl (by decide) ?_
      refine v_icmp_ne (tgt := 34) (q := 31) F dX0_sown_28 rfl rfl (fun c3 => ?_) (fun c3 => ?_)
      · skip
        obtain ⟨kn, hkn, hkkn⟩ := in_of (M := 59) (n := 59) (by decide) c1
        have htk : tn k = kn := by rw [hkkn, tn_nI (by omega)]
        obtain ⟨m, hm, hym⟩ := in_of (M := 30) (n := 30) (by decide) c2
        have hty : tn y = m := by rw [hym, tn_nI (by omega)]
        have hM8 : tn (n 0 13) < 8 := plt8 hM h8 c3
        refine v_iconst (x := 0) F dX0_sown_34 rfl (by decide) ?_
        refine v_istore_n (ls' := [(3, .int 0), (0, .ref (δ 0)), (1, .int k), (2, .int y)]) F dX0_sown_35 rfl rfl (by decide) rfl ?_
        refine v_iconst (x := 0) F dX0_sown_36 rfl (by decide) ?_
        refine v_istore (ls' := [(4, .int 0), (3, .int 0), (0, .ref (δ 0)), (1, .int k), (2, .int y)]) F dX0_sown_37 rfl (by decide) rfl ?_
        have L39 : ∀ (nf : Nat) (s : mS) (d0 : Nat → Nat) (x : Int32) (g : Nat) (hgl : g ≤ 8) (h0 : d0 0 = δ 0) (hJ : sowJ (cab n) (cab s) kn g) (hx : x = sowN (cab n) kn m g) (hnf : 8 - g < nf), v (s, d0, ν) (8 - g) (3 * (8 - g)) 39 [(0, .ref (d0 0)), (1, .int k), (2, .int y), (3, .int x), (4, .int (nI g))] [] := by
          intro nf
          induction nf with
          | zero => intro s d0 x g hgl h0 hJ hx hnf; exact absurd hnf (Nat.not_lt_zero _)
          | succ nf ih39 =>
            intro s d0 x g hgl h0 hJ hx hnf
            refine v_iload F 4 dX0_sown_39 rfl rfl ?_
            refine v_bipush (x := 8) F dX0_sown_41 rfl (by decide) ?_
            refine v_icmp_geN (a := g) (b := 8) (tgt := 84) (q := 46) F dX0_sown_43 rfl rfl (by omega) (by omega) (fun c4 => ?_) (fun c4 => ?_)
            · skip
              refine v_iload_n F 3 dX0_sown_84 rfl rfl rfl ?_
              exact v_reti F dX0_sown_85 rfl (by unfold sowR; rw [if_neg (show ¬ ¬ ((0 ≤ k ∧ k ≤ 59) ∧ (0 ≤ y ∧ y ≤ 30)) from fun h => h ⟨c1, c2⟩)]; rw [if_neg (show ¬ cab n 0 13 = 8 from c3), htk, hty, hx, show g = 8 by omega]) (⟨_, _, rfl, by unfold sowS; rw [if_neg (show ¬ ¬ ((0 ≤ k ∧ k ≤ 59) ∧ (0 ≤ y ∧ y ≤ 30)) from fun h => h ⟨c1, c2⟩)]; rw [if_neg (show ¬ cab n 0 13 = 8 from c3), htk, hJ.2.2 (by omega), show g - 1 = 7 by omega]; exact congrArg (fun z => up (sowA (cab n) kn 7) 0 13 z) (show nI (tn (cab n 0 13)) = cab n 0 13 from hM.symm), h0⟩)
            · skip
              refine v_iload_n F 3 dX0_sown_46 rfl rfl rfl ?_
              refine v_aload_n F 0 dX0_sown_47 rfl rfl rfl ?_
              refine v_iload_n F 1 dX0_sown_48 rfl rfl rfl ?_
              refine v_int F (hkkn) ?_
              refine v_bipush (x := 10) F dX0_sown_49 rfl (by decide) ?_
              refine v_idivN (a := kn) (b := 10) F dX0_sown_51 rfl (by omega) (by decide) (by decide) ?_
              refine v_iload_n F 1 dX0_sown_52 rfl rfl rfl ?_
              refine v_int F (hkkn) ?_
              refine v_bipush (x := 10) F dX0_sown_53 rfl (by decide) ?_
              refine v_iremN (a := kn) (b := 10) F dX0_sown_55 rfl (by omega) (by decide) (by decide) ?_
              refine v_iload F 4 dX0_sown_56 rfl rfl ?_
              refine s_callA (bc' := 8 - (g + 1)) (bs' := 3 * (8 - (g + 1))) F G.1 (cc_X0_made G s d0 ν (kn / 10) (nI (kn % 10)) (nI g) (by omega)) ok_X0_made q159 q160 rfl rfl dX0_sown_58 rfl rfl (by omega) (by omega) ?_
              rintro _ _ ⟨_, rfl, d5, rfl, rfl, hd5⟩
              rw [show d0 0 = d5 0 from (hd5 0 (by omega)).symm]
              obtain ⟨hs13, hs2, hs3⟩ := id hJ
              have hs13n : s 0 13 = n 0 13 := hs13
              have hsM : s 0 13 = nI (tn (s 0 13)) := by rw [hs13n]; exact hM
              have hsT : tn (s 0 13) = tn (n 0 13) := by rw [hs13n]
              refine v_iload_n F 2 dX0_sown_61 rfl rfl rfl ?_
              refine v_int F (hym) ?_
              refine c_calli F G (cc_X0_isLeft G (hb8 s (kn / 10) (nI (kn % 10)) (nI g) 1) d5 ν m hsM (show tn (s 0 13) < 8 by omega) rfl (show tn (nI (kn / 10)) ≤ 5 by rw [tn_nI (by omega)]; omega) hm (by rw [hb8_cab, show hb8 s (kn / 10) (nI (kn % 10)) (nI g) 1 67 8 = nI (kn / 10) from rfl]; show cOk (comS (cab s) (nI (kn / 10)) (nI (kn % 10)) (nI g) 1); rw [hs2]; exact cOk_com (cOk_cab.mpr hok) hM8 (by omega) (by omega))) ok_X0_isLeft q993 is_X0_isLeft rfl rfl dX0_sown_62 rfl rfl ?_
              rintro _ ⟨tl, d6, rfl, hbl, hd6⟩
              rw [show d5 0 = d6 0 from (hd6 0 (by omega)).symm]
              have hbl2 : cab tl = up (comS (cab s) (nI (kn / 10)) (nI (kn % 10)) (nI g) 1) 0 13 (nI (tn (s 0 13))) := by rw [hbl, hb8_cab]; rfl
              have hmv : mbV (comS (cab (hb8 s (kn / 10) (nI (kn % 10)) (nI g) 1)) (nI (kn / 10)) (nI (kn % 10)) (nI g) 1) (tn (s 0 13)) m = mbV (sowA (cab n) kn g) (tn (n 0 13)) m := by rw [hb8_cab, hs2, hsT]; rfl
              refine v_if_eqB (p := (¬ mbV (comS (cab (hb8 s (kn / 10) (nI (kn % 10)) (nI g) 1)) ((hb8 s (kn / 10) (nI (kn % 10)) (nI g) 1) 67 8) ((hb8 s (kn / 10) (nI (kn % 10)) (nI g) 1) 68 24) ((hb8 s (kn / 10) (nI (kn % 10)) (nI g) 1) 68 25) ((hb8 s (kn / 10) (nI (kn % 10)) (nI g) 1) 68 26)) (tn ((hb8 s (kn / 10) (nI (kn % 10)) (nI g) 1) 0 13)) m ≤ 0)) (tgt := 75) (q := 68) F dX0_sown_65 rfl rfl (fun c7 => ?_) (fun c7 => ?_)
              · skip
                refine v_iconst (x := 0) F dX0_sown_75 rfl (by decide) ?_
                refine v_ior F dX0_sown_76 rfl ?_
                refine v_istore_n (ls' := [(3, .int (x ||| 0)), (0, .ref (d6 0)), (1, .int k), (2, .int y), (4, .int (nI g))]) F dX0_sown_77 rfl rfl (by decide) rfl ?_
                refine v_iincN (ls' := [(4, .int (nI (g + 1))), (3, .int (x ||| 0)), (0, .ref (d6 0)), (1, .int k), (2, .int y)]) F 4 dX0_sown_78 rfl rfl (by decide) rfl ?_
                refine v_goto (tgt := 39) F dX0_sown_81 rfl ?_
                refine v_sub (ls' := [(0, .ref (d6 0)), (1, .int k), (2, .int y), (3, .int (x ||| 0)), (4, .int (nI (g + 1)))]) F [2, 3, 4, 1, 0] rfl ?_
                exact ih39 tl d6 (x ||| 0) (g + 1) (by omega) ((hd6 0 (by omega)).trans ((hd5 0 (by omega)).trans h0)) (sowJ_s (α := cab n) hM hJ hbl2) (by show _ = sowN (cab n) kn m g ||| ((if mbV (sowA (cab n) kn g) (tn (n 0 13)) m ≤ 0 then 0 else 1) <<< (nI g &&& 31)); rw [← hx, ← hmv]; rw [if_pos (show mbV (comS (cab (hb8 s (kn / 10) (nI (kn % 10)) (nI g) 1)) (nI (kn / 10)) (nI (kn % 10)) (nI g) 1) (tn (s 0 13)) m ≤ 0 from Classical.not_not.mp c7), shl_0]) (by omega)
              · skip
                refine v_iconst (x := 1) F dX0_sown_68 rfl (by decide) ?_
                refine v_iload F 4 dX0_sown_69 rfl rfl ?_
                refine v_ishl F dX0_sown_71 rfl ?_
                refine v_goto (tgt := 76) F dX0_sown_72 rfl ?_
                refine v_ior F dX0_sown_76 rfl ?_
                refine v_istore_n (ls' := [(3, .int (x ||| (1 <<< ((nI g) &&& 31)))), (0, .ref (d6 0)), (1, .int k), (2, .int y), (4, .int (nI g))]) F dX0_sown_77 rfl rfl (by decide) rfl ?_
                refine v_iincN (ls' := [(4, .int (nI (g + 1))), (3, .int (x ||| (1 <<< ((nI g) &&& 31)))), (0, .ref (d6 0)), (1, .int k), (2, .int y)]) F 4 dX0_sown_78 rfl rfl (by decide) rfl ?_
                refine v_goto (tgt := 39) F dX0_sown_81 rfl ?_
                refine v_sub (ls' := [(0, .ref (d6 0)), (1, .int k), (2, .int y), (3, .int (x ||| (1 <<< ((nI g) &&& 31)))), (4, .int (nI (g + 1)))]) F [2, 3, 4, 1, 0] rfl ?_
                exact ih39 tl d6 (x ||| (1 <<< ((nI g) &&& 31))) (g + 1) (by omega) ((hd6 0 (by omega)).trans ((hd5 0 (by omega)).trans h0)) (sowJ_s (α := cab n) hM hJ hbl2) (by show _ = sowN (cab n) kn m g ||| ((if mbV (sowA (cab n) kn g) (tn (n 0 13)) m ≤ 0 then 0 else 1) <<< (nI g &&& 31)); rw [← hx, ← hmv]; rw [if_neg (show ¬ mbV (comS (cab (hb8 s (kn / 10) (nI (kn % 10)) (nI g) 1)) (nI (kn / 10)) (nI (kn % 10)) (nI g) 1) (tn (s 0 13)) m ≤ 0 from c7)]) (by omega)
        refine v_sub (ls' := [(0, .ref (δ 0)), (1, .int k), (2, .int y), (3, .int 0), (4, .int 0)]) F [2, 3, 4, 1, 0] rfl ?_
        exact L39 _ n δ 0 0 (by decide) rfl sowJ_0 rfl (Nat.lt_succ_self _)
      · skip
        refine v_bipush (x := (-4)) F dX0_sown_31 rfl (by decide) ?_
        exact v_reti F dX0_sown_33 rfl (by unfold sowR; rw [if_neg (show ¬ ¬ ((0 ≤ k ∧ k ≤ 59) ∧ (0 ≤ y ∧ y ≤ 30)) from fun h => h ⟨c1, c2⟩)]; rw [if_pos (show cab n 0 13 = 8 from c3)]) (⟨_, δ, rfl, by unfold sowS; rw [if_neg (show ¬ ¬ ((0 ≤ k ∧ k ≤ 59) ∧ (0 ≤ y ∧ y ≤ 30)) from fun h => h ⟨c1, c2⟩)]; rw [if_pos (show cab n 0 13 = 8 from c3)], rfl⟩)
    · skip
      refine v_bipush (x := (-2)) F dX0_sown_19 rfl (by decide) ?_
      exact v_reti F dX0_sown_21 rfl (by unfold sowR; rw [if_pos (show ¬ ((0 ≤ k ∧ k ≤ 59) ∧ (0 ≤ y ∧ y ≤ 30)) from fun h => c2 h.2)]) (⟨_, δ, rfl, by unfold sowS; rw [if_pos (show ¬ ((0 ≤ k ∧ k ≤ 59) ∧ (0 ≤ y ∧ y ≤ 30)) from fun h => c2 h.2)], rfl⟩)
