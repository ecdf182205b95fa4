set_option maxRecDepth 100000
theorem lay_back {α : mS} {k p : Nat} {x : Int32} (hk : 3 ≤ k ∧ k ≤ 5) (hp : p < 8) (h : isOfP α (nI k) (nI p)) : layS (layS α k p x) k p (tolV α (nI p) (nI k)) = α := by
  have e : tolV α (nI p) (nI k) = α 12 (3 * p + k - 3) := tolV_k hk rfl (tn_nI (by omega)) h
  rw [e]
  unfold layS
  rw [if_neg (by omega), if_neg (by omega), if_neg (by omega), if_pos (by omega), if_neg (by omega), if_neg (by omega), if_neg (by omega), if_pos (by omega), up_up, up_self rfl]
theorem cOk_gar {α : mS} {p g : Nat} (h : cOk α) (hg : g < 8) : cOk (up α 12 (3 * p + 1) (nI g)) := by
  refine ⟨⟨h.1.1, fun q hq => ?_, h.1.2.2⟩, h.2⟩
  rw [up_ne (show ¬ (12 = 12 ∧ 3 * q + 2 = 3 * p + 1) by omega)]
  refine ⟨?_, (h.1.2.1 q hq).2⟩
  by_cases c : q = p
  · subst c; rw [up_eq]; exact okN_of (by omega) (by decide)
  · rw [up_ne (show ¬ (12 = 12 ∧ 3 * q + 1 = 3 * p + 1) by omega)]; exact (h.1.2.1 q hq).1
theorem cOk_cnt {α : mS} {p : Nat} {x : Int32} (h : cOk α) (hx : 0 ≤ x ∧ x ≤ 9999) : cOk (up α 12 (3 * p + 2) x) := ⟨wf_cnt h.1 hx, h.2⟩
theorem cOk_num {α : mS} {p : Nat} {x : Int32} (h : cOk α) : cOk (up α 12 (3 * p) x) := by
  refine ⟨⟨h.1.1, fun q hq => ?_, h.1.2.2⟩, h.2⟩
  rw [up_ne (show ¬ (12 = 12 ∧ 3 * q + 2 = 3 * p) by omega), up_ne (show ¬ (12 = 12 ∧ 3 * q + 1 = 3 * p) by omega)]
  exact h.1.2.1 q hq
theorem nI_in10 {k : Nat} (h : 3 ≤ k ∧ k ≤ 5) : (3 : Int32) ≤ nI k ∧ nI k ≤ 10 := ⟨nI_le (a := 3) (by omega) (by omega), nI_le (b := 10) (by omega) (by decide)⟩
theorem isOf_k {α : mS} {k p : Nat} (hk : 3 ≤ k ∧ k ≤ 5) (hM : α 0 13 = nI (tn (α 0 13))) (h8 : tn (α 0 13) ≤ 8) (hp : p < tn (α 0 13)) : isOfP α (nI k) (nI p) := isOf_p (nI_in10 hk) (pl_iff hM h8 rfl hp)
theorem ok_X0_found : vv_oc yX0_found 7 3 (ws_ yX0_found cX0_found 7 (some .long)) := vv_ok.oc (rt := (some .long)) ⟨q969, q116, by decide +kernel, by decide +kernel⟩
theorem is_X0_found : Cond.instanceMethod yX0_found ∈ lw_all ∧ Cond.selects RX0 yX0_found yX0_found ∈ lw_all := ⟨q967, q968⟩
set_option maxHeartbeats 4000000 in
theorem cc_X0_found {l : Launch} {Kf : State → Prop} {D : va_G} {K : Nat → ClassId} {fv : List Value × (Nat → Nat)} {A : Nat → Prop} (G : cG A fv cIm Kf D K)  (n : mS) (δ : Nat → Nat) (ν : Nat → Option (Mg × Nat)) (o : Int32) (y : Int32) (k : Int32) (hok : cOk n) : vv_Ct l yX0_found (ws_ yX0_found cX0_found 7 (some .long)) (rm 166 3657) Kf (cWd D K fv A) A [.ref (δ 0), .int o, .int y, .int k] (n, δ, ν) (vv_j (fouR (cab n) o y k) (fun u => ∃ t : mS, u = (t, δ, ν) ∧ cab t = cab n)) := by
  refine vv_of (by decide +kernel) (Nat.le_of_ble_eq_true rfl) ?_
  intro v (F : vv_F v l cX0_found 7 RX0 "found" (some .long) [] (rm 166 3657) Kf (cWd D K fv A) A _)
  show v (n, δ, ν) 0 0 0 [(0, .ref (δ 0)), (1, .int o), (2, .int y), (3, .int k)] []
  have hM := hok.m
  have h8 := hok.m8
  refine v_aload_n F 0 dX0_found_0 rfl rfl rfl ?_
  refine v_iload_n F 1 dX0_found_1 rfl rfl rfl ?_
  refine c_calli F G (cc_X0_isPlant G n δ ν o ) ok_X0_isPlant q250 is_X0_isPlant rfl rfl dX0_found_2 rfl rfl ?_
  intro u0 hu0; subst u0
  refine v_if_eqB (p := (0 ≤ o ∧ o ≤ n 0 13 - 1)) (tgt := 30) (q := 8) F dX0_found_5 rfl rfl (fun c1 => ?_) (fun c1 => ?_)
  · skip
    refine v_ldc2 F q971 dX0_found_30 rfl ?_
    exact v_retj F dX0_found_33 rfl (by unfold fouR; rw [if_neg (show ¬ fouOK (cab n) o y k from (fun h => c1 h.1))]) (⟨_, rfl, rfl⟩)
  · skip
    refine v_iload_n F 2 dX0_found_8 rfl rfl rfl ?_
    refine v_i2l F dX0_found_9 rfl ?_
    refine v_lconst (x := (0 : Int32).toInt64) F dX0_found_10 rfl (by decide) ?_
    refine v_ldc2 F q970 dX0_found_11 rfl ?_
    refine v_lng (y := (8 : Int32).toInt64) F (by decide) ?_
    refine s_calli F G.1 (cg_X0_in G.1 (n, δ, ν) y 0 8 ) ok_X0_in q151 q152 rfl rfl dX0_found_14 rfl rfl ?_
    intro u0 hu0; subst u0
    refine v_if_eqB (p := (0 ≤ y ∧ y ≤ 8)) (tgt := 30) (q := 20) F dX0_found_17 rfl rfl (fun c2 => ?_) (fun c2 => ?_)
    · skip
      refine v_ldc2 F q971 dX0_found_30 rfl ?_
      exact v_retj F dX0_found_33 rfl (by unfold fouR; rw [if_neg (show ¬ fouOK (cab n) o y k from (fun h => c2 h.2.1))]) (⟨_, rfl, rfl⟩)
    · skip
      refine v_iload_n F 3 dX0_found_20 rfl rfl rfl ?_
      refine v_i2l F dX0_found_21 rfl ?_
      refine v_lconst (x := (0 : Int32).toInt64) F dX0_found_22 rfl (by decide) ?_
      refine v_lconst (x := (1 : Int32).toInt64) F dX0_found_23 rfl (by decide) ?_
      refine s_calli F G.1 (cg_X0_in G.1 (n, δ, ν) k 0 1 ) ok_X0_in q151 q152 rfl rfl dX0_found_24 rfl rfl ?_
      intro u0 hu0; subst u0
      refine v_if_neB (p := (0 ≤ k ∧ k ≤ 1)) (tgt := 34) (q := 30) F dX0_found_27 rfl rfl (fun c3 => ?_) (fun c3 => ?_)
      · skip
        obtain ⟨p, hp, hop⟩ := pl_of hM h8 c1
        have htp : tn o = p := by rw [hop, tn_nI (by omega)]
        obtain ⟨m, hm, hym⟩ := in_of (M := 8) (n := 8) (by decide) c2
        have hty : tn y = m := by rw [hym, tn_nI (by omega)]
        have hA := hid_le (cab n) p m hm
        have hC := pow8 hm
        refine v_lconst (x := (1 : Int32).toInt64) F dX0_found_34 rfl (by decide) ?_
        refine v_lstore (ls' := [(4, .long ((1 : Int32).toInt64)), (0, .ref (δ 0)), (1, .int o), (2, .int y), (3, .int k)]) F dX0_found_35 rfl (by decide) rfl ?_
        refine v_iconst (x := 0) F dX0_found_37 rfl (by decide) ?_
        refine v_istore (ls' := [(6, .int 0), (4, .long ((1 : Int32).toInt64)), (0, .ref (δ 0)), (1, .int o), (2, .int y), (3, .int k)]) F dX0_found_38 rfl (by decide) rfl ?_
        have L40 : ∀ (nf : Nat) (j : Nat) (hj : j ≤ m) (hnf : m - j < nf), v (n, δ, ν) 0 0 40 [(0, .ref (δ 0)), (1, .int o), (2, .int y), (3, .int k), (4, .long (lN (100 ^ j))), (6, .int (nI j))] [] := by
          intro nf
          induction nf with
          | zero => intro j hj hnf; exact absurd hnf (Nat.not_lt_zero _)
          | succ nf ih40 =>
            intro j hj hnf
            refine v_iload F 5 dX0_found_40 rfl rfl ?_
            refine v_iload_n F 2 dX0_found_42 rfl rfl rfl ?_
            refine v_int F (hym) ?_
            refine v_icmp_geN (a := j) (b := m) (tgt := 60) (q := 46) F dX0_found_43 rfl rfl (by omega) (by omega) (fun c4 => ?_) (fun c4 => ?_)
            · skip
              refine v_aload_n F 0 dX0_found_60 rfl rfl rfl ?_
              refine v_iload_n F 1 dX0_found_61 rfl rfl rfl ?_
              refine v_int F (hop) ?_
              refine v_iload_n F 2 dX0_found_62 rfl rfl rfl ?_
              refine v_int F (hym) ?_
              refine c_callj F G (cc_X0_notFound G n δ ν p m hok hp (by omega)) ok_X0_notFound q973 is_X0_notFound rfl rfl dX0_found_63 rfl rfl ?_
              rintro _ ⟨tn9, rfl, hbn⟩
              have oktn9 : cOk tn9 := cOk.of (show cOk n from hok) hbn
              refine v_lng F hA.1 ?_
              refine v_lload F 4 dX0_found_66 rfl rfl ?_
              refine v_iload_n F 3 dX0_found_68 rfl rfl rfl ?_
              refine s_callj F G.1 (cg_X0_lowest G.1 (tn9, δ, ν) (hidN (cab n) p m) (100 ^ j) k (by have := hA.2; omega) (by have := pow8 (Nat.le_trans hj hm); omega) (Nat.pow_pos (by decide))) ok_X0_lowest q977 q978 rfl rfl dX0_found_69 rfl rfl ?_
              intro u0 hu0; subst u0
              exact v_retj F dX0_found_72 rfl (by unfold fouR; rw [if_pos (show fouOK (cab n) o y k from ⟨c1, c2, c3⟩), htp, hty, show j = m by omega]) (⟨_, rfl, hbn⟩)
            · skip
              refine v_lload F 4 dX0_found_46 rfl rfl ?_
              refine v_ldc2 F q972 dX0_found_48 rfl ?_
              refine v_lng (y := (100 : Int32).toInt64) F (by decide) ?_
              refine v_lmul F dX0_found_51 rfl ?_
              refine v_lng F (y := lN (100 ^ (j + 1))) (by rw [show (100 : Int32).toInt64 = lN 100 by decide, lN_mul, Nat.pow_succ]) ?_
              refine v_lstore (ls' := [(4, .long (lN (100 ^ (j + 1)))), (0, .ref (δ 0)), (1, .int o), (2, .int y), (3, .int k), (6, .int (nI j))]) F dX0_found_52 rfl (by decide) rfl ?_
              refine v_iincN (ls' := [(6, .int (nI (j + 1))), (4, .long (lN (100 ^ (j + 1)))), (0, .ref (δ 0)), (1, .int o), (2, .int y), (3, .int k)]) F 5 dX0_found_54 rfl rfl (by decide) rfl ?_
              refine v_goto (tgt := 40) F dX0_found_57 rfl ?_
              refine v_sub (ls' := [(0, .ref (δ 0)), (1, .int o), (2, .int y), (3, .int k), (4, .long (lN (100 ^ (j + 1)))), (6, .int (nI (j + 1)))]) F [2, 3, 4, 5, 1, 0] rfl ?_
              exact ih40 (j + 1) (by omega) (by omega)
        refine v_sub (ls' := [(0, .ref (δ 0)), (1, .int o), (2, .int y), (3, .int k), (4, .long ((1 : Int32).toInt64)), (6, .int 0)]) F [2, 3, 4, 5, 1, 0] rfl ?_
        exact L40 _ 0 (Nat.zero_le _) (Nat.lt_succ_self _)
      · skip
        refine v_ldc2 F q971 dX0_found_30 rfl ?_
        exact v_retj F dX0_found_33 rfl (by unfold fouR; rw [if_neg (show ¬ fouOK (cab n) o y k from (fun h => c3 h.2.2))]) (⟨_, rfl, rfl⟩)
theorem layC13 {α : mS} {k p : Nat} {x : Int32} (hk : 3 ≤ k ∧ k ≤ 5) : layS α k p x 0 13 = α 0 13 := by
  unfold layS
  rw [if_neg (by omega), if_neg (by omega), if_neg (by omega), if_pos (by omega), up_ne (by omega)]
theorem layC11 {α : mS} {k p q : Nat} {x : Int32} (hk : 3 ≤ k ∧ k ≤ 5) : layS α k p x 11 q = α 11 q := by
  unfold layS
  rw [if_neg (by omega), if_neg (by omega), if_neg (by omega), if_pos (by omega), up_ne (by omega)]
theorem ok_X0_manyBy : vv_oc yX0_manyBy 8 4 (wsW_ yX0_manyBy cX0_manyBy 8 (some .int) [(8, 31, 42, 0), (42, 44, 42, 0)]) := vv_okW.oc (rt := (some .int)) ⟨q987, q116, by decide +kernel, by decide +kernel⟩
theorem is_X0_manyBy : Cond.instanceMethod yX0_manyBy ∈ lw_all ∧ Cond.selects RX0 yX0_manyBy yX0_manyBy ∈ lw_all := ⟨q986, qs36⟩
set_option maxHeartbeats 4000000 in
theorem cc_X0_manyBy {l : Launch} {Kf : State → Prop} {D : va_G} {K : Nat → ClassId} {fv : List Value × (Nat → Nat)} {A : Nat → Prop} (G : cG A fv cIm Kf D K)  (n : mS) (δ : Nat → Nat) (ν : Nat → Option (Mg × Nat)) (p : Nat) (m : Nat) (k : Nat) (x : Int32) (hok : cOk n) (hp : p < tn (n 0 13)) (hm : m ≤ 30) (hk : 3 ≤ k ∧ k ≤ 5) (hokx : cOk (layS (cab n) k p x)) : vv_Ct l yX0_manyBy (wsW_ yX0_manyBy cX0_manyBy 8 (some .int) [(8, 31, 42, 0), (42, 44, 42, 0)]) (rm 166 3654) Kf (cWd D K fv A) A [.ref (δ 0), .int (nI p), .int (nI m), .int (nI k), .int x] (n, δ, ν) (vv_i (mbV (layS (cab n) k p x) p m) (fun u => ∃ t : mS, u = (t, δ, ν) ∧ cab t = cab n)) := by
  refine vv_ofW (by decide +kernel) (Nat.le_of_ble_eq_true rfl) ?_
  intro v (F : vv_F v l cX0_manyBy 8 RX0 "manyBy" (some .int) [(8, 31, 42, 0), (42, 44, 42, 0)] (rm 166 3654) Kf (cWd D K fv A) A _)
  show v (n, δ, ν) 0 0 0 [(0, .ref (δ 0)), (1, .int (nI p)), (2, .int (nI m)), (3, .int (nI k)), (4, .int x)] []
  have hM := hok.m
  have h8 := hok.m8
  refine v_aload_n F 0 dX0_manyBy_0 rfl rfl rfl ?_
  refine v_iload_n F 1 dX0_manyBy_1 rfl rfl rfl ?_
  refine v_iload_n F 3 dX0_manyBy_2 rfl rfl rfl ?_
  refine c_calli F G (cc_X0_told G n δ ν (nI p) (nI k) hok) ok_X0_told q255 is_X0_told rfl rfl dX0_manyBy_3 rfl rfl ?_
  rintro _ ⟨t1, rfl, hb1, hct1⟩
  have okt1 : cOk t1 := cOk.of (show cOk n from hok) hb1
  have hpt1_0 : p < tn (t1 0 13) := by rw [cab_eq hb1 0 13 rfl]; exact hp
  refine v_istore (ls' := [(5, .int (tolV (cab n) (nI p) (nI k))), (0, .ref (δ 0)), (1, .int (nI p)), (2, .int (nI m)), (3, .int (nI k)), (4, .int x)]) F dX0_manyBy_6 rfl (by decide) rfl ?_
  have hof := isOf_k (α := cab n) hk hM h8 hp
  refine v_aload_n F 1 dX0_manyBy_8 rfl rfl rfl ?_
  refine v_iload_n F 4 dX0_manyBy_9 rfl rfl rfl ?_
  refine v_iload_n F 2 dX0_manyBy_10 rfl rfl rfl ?_
  refine v_iload F 5 dX0_manyBy_11 rfl rfl ?_
  refine c_calln F G (cc_X0_becomes G t1 δ ν k (nI p) x hk.2 (fun _ => ⟨rfl, by omega⟩) (fun _ => hpt1_0) (fun q hq => okt1.k hq)) ok_X0_becomes q423 is_X0_becomes rfl rfl dX0_manyBy_13 rfl rfl ?_
  rintro _ ⟨t2, rfl, hb2⟩
  have e2 : cab t2 = layS (cab n) k p x := by rw [hb2, lay_cab, hb1]
  have ok2 : cOk t2 := cOk_cab.mp (by rw [e2]; exact hokx)
  have hp2 : p < tn (t2 0 13) := by rw [← cab_rd (n := t2) 0 13 rfl, e2, layC13 hk]; exact hp
  refine v_aload_n F 1 dX0_manyBy_16 rfl rfl rfl ?_
  refine v_iload_n F 3 dX0_manyBy_17 rfl rfl rfl ?_
  refine c_calln F G (cc_X0_runs G t2 δ ν m ok2 hm) ok_X0_runs q937 is_X0_runs rfl rfl dX0_manyBy_18 rfl rfl ?_
  rintro _ ⟨tr, rfl, hbr, hRtr⟩
  have oktr : cOk tr := cOk.of (show cOk t2 from ok2) hbr
  have hptr_0 : p < tn (tr 0 13) := by rw [cab_eq hbr 0 13 rfl]; exact hp2
  refine v_aload_n F 1 dX0_manyBy_21 rfl rfl rfl ?_
  refine c_get F G 22 (w := .ref (δ 22)) (by decide) q823 rfl dX0_manyBy_22 rfl ?_
  refine v_iload_n F 3 dX0_manyBy_25 rfl rfl rfl ?_
  refine c_behind (t := m) F G (by omega) dX0_manyBy_26 rfl ?_
  refine v_iload_n F 2 dX0_manyBy_27 rfl rfl rfl ?_
  refine c_bld (t := m) (i := p) F G (by omega) (by omega) dX0_manyBy_28 rfl ?_
  have h13c : tn (layS (cab n) k p x 0 13) = tn (n 0 13) := by rw [layC13 hk]; rfl
  have hv : tr (70 + m) p = mbV (layS (cab n) k p x) p m := by rw [(hRtr.1 m (Nat.le_refl _)).2.2 p (by rw [e2, h13c]; exact hp), e2]; rfl
  refine v_int F hv ?_
  refine v_istore (ls' := [(6, .int (mbV (layS (cab n) k p x) p m)), (5, .int (tolV (cab n) (nI p) (nI k))), (0, .ref (δ 0)), (1, .int (nI p)), (2, .int (nI m)), (3, .int (nI k)), (4, .int x)]) F dX0_manyBy_29 rfl (by decide) rfl ?_
  refine v_aload_n F 2 dX0_manyBy_31 rfl rfl rfl ?_
  refine v_iload_n F 5 dX0_manyBy_32 rfl rfl rfl ?_
  refine v_iload_n F 3 dX0_manyBy_33 rfl rfl rfl ?_
  refine v_iload F 1 dX0_manyBy_34 rfl rfl ?_
  refine c_calln F G (cc_X0_becomes G tr δ ν k (nI p) (tolV (cab n) (nI p) (nI k)) hk.2 (fun _ => ⟨rfl, by omega⟩) (fun _ => hptr_0) (fun q hq => oktr.k hq)) ok_X0_becomes q423 is_X0_becomes rfl rfl dX0_manyBy_36 rfl rfl ?_
  rintro _ ⟨t4, rfl, hb4⟩
  refine v_iload F 0 dX0_manyBy_39 rfl rfl ?_
  exact v_reti F dX0_manyBy_41 rfl (by first | rfl | grind [bI]) (⟨_, rfl, by rw [hb4, lay_cab, hbr, e2]; exact lay_back hk (by omega) hof⟩)
theorem ok_X0_soil : vv_oc yX0_soil 8 3 (ws_ yX0_soil cX0_soil 8 (some .int)) := vv_ok.oc (rt := (some .int)) ⟨q983, q116, by decide +kernel, by decide +kernel⟩
theorem is_X0_soil : Cond.instanceMethod yX0_soil ∈ lw_all ∧ Cond.selects RX0 yX0_soil yX0_soil ∈ lw_all := ⟨q981, q982⟩
set_option maxHeartbeats 4000000 in
theorem cc_X0_soil {l : Launch} {Kf : State → Prop} {D : va_G} {K : Nat → ClassId} {fv : List Value × (Nat → Nat)} {A : Nat → Prop} (G : cG A fv cIm Kf D K)  (n : mS) (δ : Nat → Nat) (ν : Nat → Option (Mg × Nat)) (o : Int32) (y : Int32) (k : Int32) (hok : cOk n) : vv_Ct l yX0_soil (ws_ yX0_soil cX0_soil 8 (some .int)) (rm 167 3681) Kf (cWd D K fv A) A [.ref (δ 0), .int o, .int y, .int k] (n, δ, ν) (vv_i (soiR (cab n) o y k) (fun u => ∃ t : mS, u = (t, δ, ν) ∧ cab t = cab n)) := by
  refine vv_of (by decide +kernel) (Nat.le_of_ble_eq_true rfl) ?_
  intro v (F : vv_F v l cX0_soil 8 RX0 "soil" (some .int) [] (rm 167 3681) Kf (cWd D K fv A) A _)
  show v (n, δ, ν) 0 0 0 [(0, .ref (δ 0)), (1, .int o), (2, .int y), (3, .int k)] []
  have hM := hok.m
  have h8 := hok.m8
  refine v_aload_n F 0 dX0_soil_0 rfl rfl rfl ?_
  refine v_iload_n F 1 dX0_soil_1 rfl rfl rfl ?_
  refine c_calli F G (cc_X0_isPlant G n δ ν o ) ok_X0_isPlant q250 is_X0_isPlant rfl rfl dX0_soil_2 rfl rfl ?_
  intro u0 hu0; subst u0
  refine v_if_eqB (p := (0 ≤ o ∧ o ≤ n 0 13 - 1)) (tgt := 25) (q := 8) F dX0_soil_5 rfl rfl (fun c1 => ?_) (fun c1 => ?_)
  · skip
    refine v_bipush (x := (-2)) F dX0_soil_25 rfl (by decide) ?_
    exact v_reti F dX0_soil_27 rfl (by unfold soiR; rw [if_neg (show ¬ soiOK (cab n) o y k from (fun h => c1 h.1))]) (⟨_, rfl, rfl⟩)
  · skip
    refine v_iload_n F 2 dX0_soil_8 rfl rfl rfl ?_
    refine s_calli F G.1 (cg_X0_areYears G.1 (n, δ, ν) y ) ok_X0_areYears q932 q933 rfl rfl dX0_soil_9 rfl rfl ?_
    intro u0 hu0; subst u0
    refine v_if_eqB (p := (0 ≤ y ∧ y ≤ 30)) (tgt := 25) (q := 15) F dX0_soil_12 rfl rfl (fun c2 => ?_) (fun c2 => ?_)
    · skip
      refine v_bipush (x := (-2)) F dX0_soil_25 rfl (by decide) ?_
      exact v_reti F dX0_soil_27 rfl (by unfold soiR; rw [if_neg (show ¬ soiOK (cab n) o y k from (fun h => c2 h.2.1))]) (⟨_, rfl, rfl⟩)
    · skip
      refine v_iload_n F 3 dX0_soil_15 rfl rfl rfl ?_
      refine v_i2l F dX0_soil_16 rfl ?_
      refine v_lconst (x := (0 : Int32).toInt64) F dX0_soil_17 rfl (by decide) ?_
      refine v_lconst (x := (1 : Int32).toInt64) F dX0_soil_18 rfl (by decide) ?_
      refine s_calli F G.1 (cg_X0_in G.1 (n, δ, ν) k 0 1 ) ok_X0_in q151 q152 rfl rfl dX0_soil_19 rfl rfl ?_
      intro u0 hu0; subst u0
      refine v_if_neB (p := (0 ≤ k ∧ k ≤ 1)) (tgt := 28) (q := 25) F dX0_soil_22 rfl rfl (fun c3 => ?_) (fun c3 => ?_)
      · skip
        obtain ⟨p, hp, hop⟩ := pl_of hM h8 c1
        have htp : tn o = p := by rw [hop, tn_nI (by omega)]
        obtain ⟨m, hm, hym⟩ := in_of (M := 30) (n := 30) (by decide) c2
        have hty : tn y = m := by rw [hym, tn_nI (by omega)]
        refine v_iconst (x := (-1)) F dX0_soil_28 rfl (by decide) ?_
        refine v_istore (ls' := [(4, .int (-1)), (0, .ref (δ 0)), (1, .int o), (2, .int y), (3, .int k)]) F dX0_soil_29 rfl (by decide) rfl ?_
        refine v_iconst (x := (-1)) F dX0_soil_31 rfl (by decide) ?_
        refine v_istore (ls' := [(5, .int (-1)), (4, .int (-1)), (0, .ref (δ 0)), (1, .int o), (2, .int y), (3, .int k)]) F dX0_soil_32 rfl (by decide) rfl ?_
        refine v_iconst (x := 0) F dX0_soil_34 rfl (by decide) ?_
        refine v_istore (ls' := [(6, .int 0), (5, .int (-1)), (4, .int (-1)), (0, .ref (δ 0)), (1, .int o), (2, .int y), (3, .int k)]) F dX0_soil_35 rfl (by decide) rfl ?_
        have L37 : ∀ (nf : Nat) (s : mS) (x : Int32) (z : Int32) (g : Nat) (hgl : g ≤ 8) (hs : cab s = cab n) (hx : (x, z) = soiN (cab n) p m g) (hnf : 8 - g < nf), v (s, δ, ν) 0 0 37 [(0, .ref (δ 0)), (1, .int o), (2, .int y), (3, .int k), (4, .int x), (5, .int z), (6, .int (nI g))] [] := by
          intro nf
          induction nf with
          | zero => intro s x z g hgl hs hx hnf; exact absurd hnf (Nat.not_lt_zero _)
          | succ nf ih37 =>
            intro s x z g hgl hs hx hnf
            have oks : cOk s := hok.of hs
            have hps : p < tn (s 0 13) := by rw [cab_eq hs 0 13 rfl]; exact hp
            refine v_iload F 6 dX0_soil_37 rfl rfl ?_
            refine v_bipush (x := 8) F dX0_soil_39 rfl (by decide) ?_
            refine v_icmp_geN (a := g) (b := 8) (tgt := 86) (q := 44) F dX0_soil_41 rfl rfl (by omega) (by omega) (fun c4 => ?_) (fun c4 => ?_)
            · skip
              refine v_iload_n F 3 dX0_soil_86 rfl rfl rfl ?_
              refine v_if_ne (tgt := 95) (q := 90) F dX0_soil_87 rfl rfl (fun c5 => ?_) (fun c5 => ?_)
              · skip
                refine v_iload F 5 dX0_soil_95 rfl rfl ?_
                exact v_reti F dX0_soil_97 rfl (by unfold soiR; rw [if_pos (show soiOK (cab n) o y k from ⟨c1, c2, c3⟩), htp, hty, show 8 = g by omega, ← hx]; exact (if_neg c5).symm) (⟨_, rfl, hs⟩)
              · skip
                refine v_iload F 4 dX0_soil_90 rfl rfl ?_
                refine v_goto (tgt := 97) F dX0_soil_92 rfl ?_
                exact v_reti F dX0_soil_97 rfl (by unfold soiR; rw [if_pos (show soiOK (cab n) o y k from ⟨c1, c2, c3⟩), htp, hty, show 8 = g by omega, ← hx]; exact (if_pos c5).symm) (⟨_, rfl, hs⟩)
            · skip
              refine v_aload_n F 0 dX0_soil_44 rfl rfl rfl ?_
              refine v_iload_n F 1 dX0_soil_45 rfl rfl rfl ?_
              refine v_int F (hop) ?_
              refine v_iload_n F 2 dX0_soil_46 rfl rfl rfl ?_
              refine v_int F (hym) ?_
              refine v_iconst (x := 4) F dX0_soil_47 rfl (by decide) ?_
              refine v_iload F 6 dX0_soil_48 rfl rfl ?_
              refine c_calli F G (cc_X0_manyBy G s δ ν p m 4 (nI g) oks hps hm (by decide) (by rw [← lay_k (n := cab s) 1 (k := 4) rfl (by decide)]; exact cOk_gar oks (by omega))) ok_X0_manyBy q984 is_X0_manyBy rfl rfl dX0_soil_50 rfl rfl ?_
              rintro _ ⟨tm, rfl, hbm⟩
              have oktm : cOk tm := cOk.of (show cOk s from oks) hbm
              have hptm_0 : p < tn (tm 0 13) := by rw [cab_eq hbm 0 13 rfl]; exact hps
              have hmg : mbV (layS (cab s) 4 p (nI g)) p m = mbV (up (cab n) 12 (3 * p + 1) (nI g)) p m := by rw [hs, lay_k (n := cab n) 1 (k := 4) rfl (by decide)]
              refine v_istore (ls' := [(7, .int (mbV (layS (cab s) 4 p (nI g)) p m)), (0, .ref (δ 0)), (1, .int o), (2, .int y), (3, .int k), (4, .int x), (5, .int z), (6, .int (nI g))]) F dX0_soil_53 rfl (by decide) rfl ?_
              refine v_iload F 0 dX0_soil_55 rfl rfl ?_
              refine v_iload F 6 dX0_soil_57 rfl rfl ?_
              refine v_icmp_le (tgt := 67) (q := 62) F dX0_soil_59 rfl rfl (fun c7 => ?_) (fun c7 => ?_)
              · skip
                refine v_iload F 5 dX0_soil_67 rfl rfl ?_
                refine v_istore (ls' := [(4, .int x), (7, .int (mbV (layS (cab s) 4 p (nI g)) p m)), (0, .ref (δ 0)), (1, .int o), (2, .int y), (3, .int k), (5, .int z), (6, .int (nI g))]) F dX0_soil_69 rfl (by decide) rfl ?_
                refine v_iload F 6 dX0_soil_71 rfl rfl ?_
                refine v_iload F 1 dX0_soil_73 rfl rfl ?_
                refine s_calli F G.1 (cg_J7_max G.1 (tm, δ, ν) z (mbV (layS (cab s) 4 p (nI g)) p m) ) ok_J7_max q321 q322 rfl rfl dX0_soil_75 rfl rfl ?_
                intro u0 hu0; subst u0
                refine v_istore (ls' := [(5, .int (if (mbV (layS (cab s) 4 p (nI g)) p m) ≤ z then z else (mbV (layS (cab s) 4 p (nI g)) p m))), (4, .int x), (7, .int (mbV (layS (cab s) 4 p (nI g)) p m)), (0, .ref (δ 0)), (1, .int o), (2, .int y), (3, .int k), (6, .int (nI g))]) F dX0_soil_78 rfl (by decide) rfl ?_
                refine v_iincN (ls' := [(6, .int (nI (g + 1))), (5, .int (if (mbV (layS (cab s) 4 p (nI g)) p m) ≤ z then z else (mbV (layS (cab s) 4 p (nI g)) p m))), (4, .int x), (7, .int (mbV (layS (cab s) 4 p (nI g)) p m)), (0, .ref (δ 0)), (1, .int o), (2, .int y), (3, .int k)]) F 7 dX0_soil_80 rfl rfl (by decide) rfl ?_
                refine v_goto (tgt := 37) F dX0_soil_83 rfl ?_
                refine v_sub (ls' := [(0, .ref (δ 0)), (1, .int o), (2, .int y), (3, .int k), (4, .int x), (5, .int (if (mbV (layS (cab s) 4 p (nI g)) p m) ≤ z then z else (mbV (layS (cab s) 4 p (nI g)) p m))), (6, .int (nI (g + 1)))]) F [4, 5, 6, 7, 2, 1, 0] rfl ?_
                exact ih37 tm x (if (mbV (layS (cab s) 4 p (nI g)) p m) ≤ z then z else (mbV (layS (cab s) 4 p (nI g)) p m)) (g + 1) (by omega) (hbm.trans hs) (by show _ = (if (soiN (cab n) p m g).2 < mbV (up (cab n) 12 (3 * p + 1) (nI g)) p m then _ else _); rw [← hx, ← hmg]; rw [if_pos c7]; exact (if_neg (Int32.not_lt.mpr c7)).symm) (by omega)
              · skip
                refine v_iload F 7 dX0_soil_62 rfl rfl ?_
                refine v_goto (tgt := 69) F dX0_soil_64 rfl ?_
                refine v_istore (ls' := [(4, .int (nI g)), (7, .int (mbV (layS (cab s) 4 p (nI g)) p m)), (0, .ref (δ 0)), (1, .int o), (2, .int y), (3, .int k), (5, .int z), (6, .int (nI g))]) F dX0_soil_69 rfl (by decide) rfl ?_
                refine v_iload F 6 dX0_soil_71 rfl rfl ?_
                refine v_iload F 1 dX0_soil_73 rfl rfl ?_
                refine s_calli F G.1 (cg_J7_max G.1 (tm, δ, ν) z (mbV (layS (cab s) 4 p (nI g)) p m) ) ok_J7_max q321 q322 rfl rfl dX0_soil_75 rfl rfl ?_
                intro u0 hu0; subst u0
                refine v_istore (ls' := [(5, .int (if (mbV (layS (cab s) 4 p (nI g)) p m) ≤ z then z else (mbV (layS (cab s) 4 p (nI g)) p m))), (4, .int (nI g)), (7, .int (mbV (layS (cab s) 4 p (nI g)) p m)), (0, .ref (δ 0)), (1, .int o), (2, .int y), (3, .int k), (6, .int (nI g))]) F dX0_soil_78 rfl (by decide) rfl ?_
                refine v_iincN (ls' := [(6, .int (nI (g + 1))), (5, .int (if (mbV (layS (cab s) 4 p (nI g)) p m) ≤ z then z else (mbV (layS (cab s) 4 p (nI g)) p m))), (4, .int (nI g)), (7, .int (mbV (layS (cab s) 4 p (nI g)) p m)), (0, .ref (δ 0)), (1, .int o), (2, .int y), (3, .int k)]) F 7 dX0_soil_80 rfl rfl (by decide) rfl ?_
                refine v_goto (tgt := 37) F dX0_soil_83 rfl ?_
                refine v_sub (ls' := [(0, .ref (δ 0)), (1, .int o), (2, .int y), (3, .int k), (4, .int (nI g)), (5, .int (if (mbV (layS (cab s) 4 p (nI g)) p m) ≤ z then z else (mbV (layS (cab s) 4 p (nI g)) p m))), (6, .int (nI (g + 1)))]) F [4, 5, 6, 7, 2, 1, 0] rfl ?_
                exact ih37 tm (nI g) (if (mbV (layS (cab s) 4 p (nI g)) p m) ≤ z then z else (mbV (layS (cab s) 4 p (nI g)) p m)) (g + 1) (by omega) (hbm.trans hs) (by show _ = (if (soiN (cab n) p m g).2 < mbV (up (cab n) 12 (3 * p + 1) (nI g)) p m then _ else _); rw [← hx, ← hmg]; rw [if_neg c7]; exact (if_pos (Int32.not_le.mp c7)).symm) (by omega)
        refine v_sub (ls' := [(0, .ref (δ 0)), (1, .int o), (2, .int y), (3, .int k), (4, .int (-1)), (5, .int (-1)), (6, .int 0)]) F [3, 4, 5, 6, 2, 1, 0] rfl ?_
        exact L37 _ n (-1) (-1) 0 (by decide) rfl rfl (Nat.lt_succ_self _)
      · skip
        refine v_bipush (x := (-2)) F dX0_soil_25 rfl (by decide) ?_
        exact v_reti F dX0_soil_27 rfl (by unfold soiR; rw [if_neg (show ¬ soiOK (cab n) o y k from (fun h => c3 h.2.2))]) (⟨_, rfl, rfl⟩)
theorem ok_X0_when : vv_oc yX0_when 5 2 (ws_ yX0_when cX0_when 5 (some .int)) := vv_ok.oc (rt := (some .int)) ⟨q1008, q116, by decide +kernel, by decide +kernel⟩
theorem is_X0_when : Cond.instanceMethod yX0_when ∈ lw_all ∧ Cond.selects RX0 yX0_when yX0_when ∈ lw_all := ⟨q1006, q1007⟩
set_option maxHeartbeats 4000000 in
theorem cc_X0_when {l : Launch} {Kf : State → Prop} {D : va_G} {K : Nat → ClassId} {fv : List Value × (Nat → Nat)} {A : Nat → Prop} (G : cG A fv cIm Kf D K)  (n : mS) (δ : Nat → Nat) (ν : Nat → Option (Mg × Nat)) (y : Int32) (k : Int32) (hok : cOk n) : vv_Ct l yX0_when (ws_ yX0_when cX0_when 5 (some .int)) (rm 166 3654) Kf (cWd D K fv A) A [.ref (δ 0), .int y, .int k] (n, δ, ν) (vv_i (wheR (cab n) y k) (fun u => ∃ t : mS, u = (t, δ, ν) ∧ cab t = cab n)) := by
  refine vv_of (by decide +kernel) (Nat.le_of_ble_eq_true rfl) ?_
  intro v (F : vv_F v l cX0_when 5 RX0 "when" (some .int) [] (rm 166 3654) Kf (cWd D K fv A) A _)
  show v (n, δ, ν) 0 0 0 [(0, .ref (δ 0)), (1, .int y), (2, .int k)] []
  have hM := hok.m
  have h8 := hok.m8
  refine v_iload_n F 1 dX0_when_0 rfl rfl rfl ?_
  refine s_calli F G.1 (cg_X0_areYears G.1 (n, δ, ν) y ) ok_X0_areYears q932 q933 rfl rfl dX0_when_1 rfl rfl ?_
  intro u0 hu0; subst u0
  refine v_if_eqB (p := (0 ≤ y ∧ y ≤ 30)) (tgt := 17) (q := 7) F dX0_when_4 rfl rfl (fun c1 => ?_) (fun c1 => ?_)
  · skip
    refine v_bipush (x := (-2)) F dX0_when_17 rfl (by decide) ?_
    exact v_reti F dX0_when_19 rfl (by unfold wheR; rw [if_neg (show ¬ ((0 ≤ y ∧ y ≤ 30) ∧ (0 ≤ k ∧ k ≤ 1)) from (fun h => c1 h.1))]) (⟨_, rfl, rfl⟩)
  · skip
    refine v_iload_n F 2 dX0_when_7 rfl rfl rfl ?_
    refine v_i2l F dX0_when_8 rfl ?_
    refine v_lconst (x := (0 : Int32).toInt64) F dX0_when_9 rfl (by decide) ?_
    refine v_lconst (x := (1 : Int32).toInt64) F dX0_when_10 rfl (by decide) ?_
    refine s_calli F G.1 (cg_X0_in G.1 (n, δ, ν) k 0 1 ) ok_X0_in q151 q152 rfl rfl dX0_when_11 rfl rfl ?_
    intro u0 hu0; subst u0
    refine v_if_neB (p := (0 ≤ k ∧ k ≤ 1)) (tgt := 20) (q := 17) F dX0_when_14 rfl rfl (fun c2 => ?_) (fun c2 => ?_)
    · skip
      obtain ⟨m, hm, hym⟩ := in_of (M := 30) (n := 30) (by decide) c1
      have hty : tn y = m := by rw [hym, tn_nI (by omega)]
      refine v_aload_n F 0 dX0_when_20 rfl rfl rfl ?_
      refine v_iload_n F 1 dX0_when_21 rfl rfl rfl ?_
      refine v_int F (hym) ?_
      refine c_calln F G (cc_X0_runs G n δ ν m hok (by omega)) ok_X0_runs q937 is_X0_runs rfl rfl dX0_when_22 rfl rfl ?_
      rintro _ ⟨tr, rfl, hbr, hRtr⟩
      have oktr : cOk tr := cOk.of (show cOk n from hok) hbr
      refine v_iconst (x := 0) F dX0_when_25 rfl (by decide) ?_
      refine v_istore_n (ls' := [(3, .int 0), (0, .ref (δ 0)), (1, .int y), (2, .int k)]) F dX0_when_26 rfl rfl (by decide) rfl ?_
      refine v_iconst (x := 1) F dX0_when_27 rfl (by decide) ?_
      refine v_istore (ls' := [(4, .int 1), (3, .int 0), (0, .ref (δ 0)), (1, .int y), (2, .int k)]) F dX0_when_28 rfl (by decide) rfl ?_
      have L30 : ∀ (nf : Nat) (j : Nat) (b : Nat) (hj : j ≤ m) (hbj : b ≤ j) (hx : (nI b, wrtV (yrs (cab n) b)) = wheN (cab n) j) (hnf : m - j < nf), v (tr, δ, ν) 0 0 30 [(0, .ref (δ 0)), (1, .int y), (2, .int k), (3, .int (nI b)), (4, .int (nI (j + 1)))] [] := by
        intro nf
        induction nf with
        | zero => intro j b hj hbj hx hnf; exact absurd hnf (Nat.not_lt_zero _)
        | succ nf ih30 =>
          intro j b hj hbj hx hnf
          refine v_iload F 4 dX0_when_30 rfl rfl ?_
          refine v_iload_n F 1 dX0_when_32 rfl rfl rfl ?_
          refine v_int F (hym) ?_
          refine v_icmp_gtN (a := j + 1) (b := m) (tgt := 65) (q := 36) F dX0_when_33 rfl rfl (by omega) (by omega) (fun c4 => ?_) (fun c4 => ?_)
          · skip
            refine v_iload_n F 2 dX0_when_65 rfl rfl rfl ?_
            refine v_if_ne (tgt := 73) (q := 69) F dX0_when_66 rfl rfl (fun c5 => ?_) (fun c5 => ?_)
            · skip
              refine v_aload_n F 0 dX0_when_73 rfl rfl rfl ?_
              refine c_get F G 24 (w := .ref (δ 24)) (by decide) q825 rfl dX0_when_74 rfl ?_
              refine v_iload_n F 3 dX0_when_77 rfl rfl rfl ?_
              refine c_ald (t := b) F G 24 52 31 (fun _ => rfl) (by unfold rowO; omega) (by omega) (by decide) dX0_when_78 rfl ?_
              refine v_int F (hRtr.1 b (by omega)).2.1 ?_
              exact v_reti F dX0_when_79 rfl (by unfold wheR; rw [if_pos ⟨c1, c2⟩, hty, show m = j by omega, ← hx]; exact (if_neg c5).symm) (⟨_, rfl, hbr⟩)
            · skip
              refine v_iload_n F 3 dX0_when_69 rfl rfl rfl ?_
              refine v_goto (tgt := 79) F dX0_when_70 rfl ?_
              exact v_reti F dX0_when_79 rfl (by unfold wheR; rw [if_pos ⟨c1, c2⟩, hty, show m = j by omega, ← hx]; exact (if_pos c5).symm) (⟨_, rfl, hbr⟩)
          · skip
            refine v_aload_n F 0 dX0_when_36 rfl rfl rfl ?_
            refine c_get F G 24 (w := .ref (δ 24)) (by decide) q825 rfl dX0_when_37 rfl ?_
            refine v_iload F 4 dX0_when_40 rfl rfl ?_
            refine c_ald (t := j + 1) F G 24 52 31 (fun _ => rfl) (by unfold rowO; omega) (by omega) (by decide) dX0_when_42 rfl ?_
            refine v_int F (hRtr.1 (j + 1) (by omega)).2.1 ?_
            refine v_aload_n F 0 dX0_when_43 rfl rfl rfl ?_
            refine c_get F G 24 (w := .ref (δ 24)) (by decide) q825 rfl dX0_when_44 rfl ?_
            refine v_iload_n F 3 dX0_when_47 rfl rfl rfl ?_
            refine c_ald (t := b) F G 24 52 31 (fun _ => rfl) (by unfold rowO; omega) (by omega) (by decide) dX0_when_48 rfl ?_
            refine v_int F (hRtr.1 b (by omega)).2.1 ?_
            refine v_icmp_le (tgt := 57) (q := 52) F dX0_when_49 rfl rfl (fun c6 => ?_) (fun c6 => ?_)
            · skip
              refine v_iload_n F 3 dX0_when_57 rfl rfl rfl ?_
              refine v_istore_n (ls' := [(3, .int (nI b)), (0, .ref (δ 0)), (1, .int y), (2, .int k), (4, .int (nI (j + 1)))]) F dX0_when_58 rfl rfl (by decide) rfl ?_
              refine v_iincN (ls' := [(4, .int (nI ((j + 1) + 1))), (3, .int (nI b)), (0, .ref (δ 0)), (1, .int y), (2, .int k)]) F 4 dX0_when_59 rfl rfl (by decide) rfl ?_
              refine v_goto (tgt := 30) F dX0_when_62 rfl ?_
              refine v_sub (ls' := [(0, .ref (δ 0)), (1, .int y), (2, .int k), (3, .int (nI b)), (4, .int (nI ((j + 1) + 1)))]) F [2, 3, 4, 1, 0] rfl ?_
              exact ih30 (j + 1) b (by omega) (by omega) (by show _ = (if (wheN (cab n) j).2 < wrtV (yrs (cab n) (j + 1)) then _ else _); rw [← hx]; exact (if_neg (Int32.not_lt.mpr c6)).symm) (by omega)
            · skip
              refine v_iload F 4 dX0_when_52 rfl rfl ?_
              refine v_goto (tgt := 58) F dX0_when_54 rfl ?_
              refine v_istore_n (ls' := [(3, .int (nI (j + 1))), (0, .ref (δ 0)), (1, .int y), (2, .int k), (4, .int (nI (j + 1)))]) F dX0_when_58 rfl rfl (by decide) rfl ?_
              refine v_iincN (ls' := [(4, .int (nI ((j + 1) + 1))), (3, .int (nI (j + 1))), (0, .ref (δ 0)), (1, .int y), (2, .int k)]) F 4 dX0_when_59 rfl rfl (by decide) rfl ?_
              refine v_goto (tgt := 30) F dX0_when_62 rfl ?_
              refine v_sub (ls' := [(0, .ref (δ 0)), (1, .int y), (2, .int k), (3, .int (nI (j + 1))), (4, .int (nI ((j + 1) + 1)))]) F [2, 3, 4, 1, 0] rfl ?_
              exact ih30 (j + 1) (j + 1) (by omega) (Nat.le_refl _) (by show _ = (if (wheN (cab n) j).2 < wrtV (yrs (cab n) (j + 1)) then _ else _); rw [← hx]; exact (if_pos (Int32.not_le.mp c6)).symm) (by omega)
      refine v_sub (ls' := [(0, .ref (δ 0)), (1, .int y), (2, .int k), (3, .int 0), (4, .int 1)]) F [2, 3, 4, 1, 0] rfl ?_
      exact L30 _ 0 0 (Nat.zero_le _) (Nat.le_refl _) rfl (Nat.lt_succ_self _)
    · skip
      refine v_bipush (x := (-2)) F dX0_when_17 rfl (by decide) ?_
      exact v_reti F dX0_when_19 rfl (by unfold wheR; rw [if_neg (show ¬ ((0 ≤ y ∧ y ≤ 30) ∧ (0 ≤ k ∧ k ≤ 1)) from (fun h => c2 h.2))]) (⟨_, rfl, rfl⟩)
theorem ok_X0_enough : vv_oc yX0_enough 5 3 (ws_ yX0_enough cX0_enough 5 (some .int)) := vv_ok.oc (rt := (some .int)) ⟨q1012, q116, by decide +kernel, by decide +kernel⟩
theorem is_X0_enough : Cond.instanceMethod yX0_enough ∈ lw_all ∧ Cond.selects RX0 yX0_enough yX0_enough ∈ lw_all := ⟨q1010, q1011⟩
set_option maxHeartbeats 4000000 in
theorem cc_X0_enough {l : Launch} {Kf : State → Prop} {D : va_G} {K : Nat → ClassId} {fv : List Value × (Nat → Nat)} {A : Nat → Prop} (G : cG A fv cIm Kf D K)  (n : mS) (δ : Nat → Nat) (ν : Nat → Option (Mg × Nat)) (o : Int32) (y : Int32) (k : Int32) (hok : cOk n) : vv_Ct l yX0_enough (ws_ yX0_enough cX0_enough 5 (some .int)) (rm 167 3681) Kf (cWd D K fv A) A [.ref (δ 0), .int o, .int y, .int k] (n, δ, ν) (vv_i (enoR (cab n) o y k) (fun u => ∃ t : mS, u = (t, δ, ν) ∧ cab t = cab n)) := by
  refine vv_of (by decide +kernel) (Nat.le_of_ble_eq_true rfl) ?_
  intro v (F : vv_F v l cX0_enough 5 RX0 "enough" (some .int) [] (rm 167 3681) Kf (cWd D K fv A) A _)
  show v (n, δ, ν) 0 0 0 [(0, .ref (δ 0)), (1, .int o), (2, .int y), (3, .int k)] []
  have hM := hok.m
  have h8 := hok.m8
  refine v_aload_n F 0 dX0_enough_0 rfl rfl rfl ?_
  refine v_iload_n F 1 dX0_enough_1 rfl rfl rfl ?_
  refine c_calli F G (cc_X0_isPlant G n δ ν o ) ok_X0_isPlant q250 is_X0_isPlant rfl rfl dX0_enough_2 rfl rfl ?_
  intro u0 hu0; subst u0
  refine v_if_eqB (p := (0 ≤ o ∧ o ≤ n 0 13 - 1)) (tgt := 27) (q := 8) F dX0_enough_5 rfl rfl (fun c1 => ?_) (fun c1 => ?_)
  · skip
    refine v_bipush (x := (-2)) F dX0_enough_27 rfl (by decide) ?_
    exact v_reti F dX0_enough_29 rfl (by unfold enoR; rw [if_neg (show ¬ enoOK (cab n) o y k from (fun h => c1 h.1))]) (⟨_, rfl, rfl⟩)
  · skip
    refine v_iload_n F 2 dX0_enough_8 rfl rfl rfl ?_
    refine s_calli F G.1 (cg_X0_areYears G.1 (n, δ, ν) y ) ok_X0_areYears q932 q933 rfl rfl dX0_enough_9 rfl rfl ?_
    intro u0 hu0; subst u0
    refine v_if_eqB (p := (0 ≤ y ∧ y ≤ 30)) (tgt := 27) (q := 15) F dX0_enough_12 rfl rfl (fun c2 => ?_) (fun c2 => ?_)
    · skip
      refine v_bipush (x := (-2)) F dX0_enough_27 rfl (by decide) ?_
      exact v_reti F dX0_enough_29 rfl (by unfold enoR; rw [if_neg (show ¬ enoOK (cab n) o y k from (fun h => c2 h.2.1))]) (⟨_, rfl, rfl⟩)
    · skip
      refine v_iload_n F 3 dX0_enough_15 rfl rfl rfl ?_
      refine v_i2l F dX0_enough_16 rfl ?_
      refine v_lconst (x := (1 : Int32).toInt64) F dX0_enough_17 rfl (by decide) ?_
      refine v_ldc2 F q254 dX0_enough_18 rfl ?_
      refine v_lng (y := (9999 : Int32).toInt64) F (by decide) ?_
      refine s_calli F G.1 (cg_X0_in G.1 (n, δ, ν) k 1 9999 ) ok_X0_in q151 q152 rfl rfl dX0_enough_21 rfl rfl ?_
      intro u0 hu0; subst u0
      refine v_if_neB (p := (1 ≤ k ∧ k ≤ 9999)) (tgt := 30) (q := 27) F dX0_enough_24 rfl rfl (fun c3 => ?_) (fun c3 => ?_)
      · skip
        obtain ⟨p, hp, hop⟩ := pl_of hM h8 c1
        have htp : tn o = p := by rw [hop, tn_nI (by omega)]
        obtain ⟨m, hm, hym⟩ := in_of (M := 30) (n := 30) (by decide) c2
        have hty : tn y = m := by rw [hym, tn_nI (by omega)]
        refine v_iconst (x := 1) F dX0_enough_30 rfl (by decide) ?_
        refine v_istore (ls' := [(4, .int 1), (0, .ref (δ 0)), (1, .int o), (2, .int y), (3, .int k)]) F dX0_enough_31 rfl (by decide) rfl ?_
        have L33 : ∀ (nf : Nat) (s : mS) (j : Nat) (hj : j ≤ 99) (hs : cab s = cab n) (hx : -1 = enoN (cab n) p m k j) (hnf : 99 - j < nf), v (s, δ, ν) 0 0 33 [(0, .ref (δ 0)), (1, .int o), (2, .int y), (3, .int k), (4, .int (nI (j + 1)))] [] := by
          intro nf
          induction nf with
          | zero => intro s j hj hs hx hnf; exact absurd hnf (Nat.not_lt_zero _)
          | succ nf ih33 =>
            intro s j hj hs hx hnf
            have oks : cOk s := hok.of hs
            have hps : p < tn (s 0 13) := by rw [cab_eq hs 0 13 rfl]; exact hp
            refine v_iload F 4 dX0_enough_33 rfl rfl ?_
            refine v_bipush (x := 99) F dX0_enough_35 rfl (by decide) ?_
            refine v_icmp_gtN (a := j + 1) (b := 99) (tgt := 62) (q := 40) F dX0_enough_37 rfl rfl (by omega) (by omega) (fun c4 => ?_) (fun c4 => ?_)
            · skip
              refine v_iconst (x := (-1)) F dX0_enough_62 rfl (by decide) ?_
              exact v_reti F dX0_enough_63 rfl (by unfold enoR; rw [if_pos (show enoOK (cab n) o y k from ⟨c1, c2, c3⟩), htp, hty]; exact eno_e hx hj (Or.inl (by omega))) (⟨_, rfl, hs⟩)
            · skip
              refine v_aload_n F 0 dX0_enough_40 rfl rfl rfl ?_
              refine v_iload_n F 1 dX0_enough_41 rfl rfl rfl ?_
              refine v_int F (hop) ?_
              refine v_iload_n F 2 dX0_enough_42 rfl rfl rfl ?_
              refine v_int F (hym) ?_
              refine v_iconst (x := 5) F dX0_enough_43 rfl (by decide) ?_
              refine v_iload F 4 dX0_enough_44 rfl rfl ?_
              refine c_calli F G (cc_X0_manyBy G s δ ν p m 5 (nI (j + 1)) oks hps hm (by decide) (by rw [← lay_k (n := cab s) 2 (k := 5) rfl (by decide)]; exact cOk_cnt oks ⟨nI_pos' (by omega), nI_le (b := 9999) (by omega) (by decide)⟩)) ok_X0_manyBy q984 is_X0_manyBy rfl rfl dX0_enough_46 rfl rfl ?_
              rintro _ ⟨tm, rfl, hbm⟩
              have oktm : cOk tm := cOk.of (show cOk s from oks) hbm
              have hptm_0 : p < tn (tm 0 13) := by rw [cab_eq hbm 0 13 rfl]; exact hps
              have hmg : mbV (layS (cab s) 5 p (nI (j + 1))) p m = mbV (up (cab n) 12 (3 * p + 2) (nI (j + 1))) p m := by rw [hs, lay_k (n := cab n) 2 (k := 5) rfl (by decide)]
              refine v_iload_n F 3 dX0_enough_49 rfl rfl rfl ?_
              refine v_icmp_lt (tgt := 56) (q := 53) F dX0_enough_50 rfl rfl (fun c6 => ?_) (fun c6 => ?_)
              · skip
                refine v_iincN (ls' := [(4, .int (nI ((j + 1) + 1))), (0, .ref (δ 0)), (1, .int o), (2, .int y), (3, .int k)]) F 4 dX0_enough_56 rfl rfl (by decide) rfl ?_
                refine v_goto (tgt := 33) F dX0_enough_59 rfl ?_
                refine v_sub (ls' := [(0, .ref (δ 0)), (1, .int o), (2, .int y), (3, .int k), (4, .int (nI ((j + 1) + 1)))]) F [1, 2, 3, 4, 0] rfl ?_
                exact ih33 tm (j + 1) (by omega) (hbm.trans hs) (eno_s hx rfl (by rw [← hmg]; exact c6)) (by omega)
              · skip
                refine v_iload F 4 dX0_enough_53 rfl rfl ?_
                exact v_reti F dX0_enough_55 rfl (by unfold enoR; rw [if_pos (show enoOK (cab n) o y k from ⟨c1, c2, c3⟩), htp, hty]; exact eno_e (eno_f hx rfl (by rw [← hmg]; exact c6)) (by omega) (Or.inr (nI_m1 (by omega)))) (⟨_, rfl, hbm.trans hs⟩)
        refine v_sub (ls' := [(0, .ref (δ 0)), (1, .int o), (2, .int y), (3, .int k), (4, .int 1)]) F [1, 2, 3, 4, 0] rfl ?_
        exact L33 _ n 0 (by decide) rfl rfl (Nat.lt_succ_self _)
      · skip
        refine v_bipush (x := (-2)) F dX0_enough_27 rfl (by decide) ?_
        exact v_reti F dX0_enough_29 rfl (by unfold enoR; rw [if_neg (show ¬ enoOK (cab n) o y k from (fun h => c3 h.2.2))]) (⟨_, rfl, rfl⟩)
theorem ok_X0_safest : vv_oc yX0_safest 8 1 (ws_ yX0_safest cX0_safest 8 (some .int)) := vv_ok.oc (rt := (some .int)) ⟨q1000, q116, by decide +kernel, by decide +kernel⟩
theorem is_X0_safest : Cond.instanceMethod yX0_safest ∈ lw_all ∧ Cond.selects RX0 yX0_safest yX0_safest ∈ lw_all := ⟨q998, q999⟩
set_option maxHeartbeats 4000000 in
theorem cc_X0_safest {l : Launch} {Kf : State → Prop} {D : va_G} {K : Nat → ClassId} {fv : List Value × (Nat → Nat)} {A : Nat → Prop} (G : cG A fv cIm Kf D K)  (n : mS) (δ : Nat → Nat) (ν : Nat → Option (Mg × Nat)) (y : Int32) (hok : cOk n) : vv_Ct l yX0_safest (ws_ yX0_safest cX0_safest 8 (some .int)) (rm 166 3657) Kf (cWd D K fv A) A [.ref (δ 0), .int y] (n, δ, ν) (vv_i (safR (cab n) y) (fun u => ∃ t : mS, u = (t, δ, ν) ∧ cab t = cab n)) := by
  refine vv_of (by decide +kernel) (Nat.le_of_ble_eq_true rfl) ?_
  intro v (F : vv_F v l cX0_safest 8 RX0 "safest" (some .int) [] (rm 166 3657) Kf (cWd D K fv A) A _)
  show v (n, δ, ν) 0 0 0 [(0, .ref (δ 0)), (1, .int y)] []
  have hM := hok.m
  have h8 := hok.m8
  refine v_iload_n F 1 dX0_safest_0 rfl rfl rfl ?_
  refine v_i2l F dX0_safest_1 rfl ?_
  refine v_lconst (x := (0 : Int32).toInt64) F dX0_safest_2 rfl (by decide) ?_
  refine v_ldc2 F q970 dX0_safest_3 rfl ?_
  refine v_lng (y := (8 : Int32).toInt64) F (by decide) ?_
  refine s_calli F G.1 (cg_X0_in G.1 (n, δ, ν) y 0 8 ) ok_X0_in q151 q152 rfl rfl dX0_safest_6 rfl rfl ?_
  intro u0 hu0; subst u0
  refine v_if_neB (p := (0 ≤ y ∧ y ≤ 8)) (tgt := 15) (q := 12) F dX0_safest_9 rfl rfl (fun c1 => ?_) (fun c1 => ?_)
  · skip
    obtain ⟨m, hm, hym⟩ := in_of (M := 8) (n := 8) (by decide) c1
    have hty : tn y = m := by rw [hym, tn_nI (by omega)]
    refine v_iconst (x := (-1)) F dX0_safest_15 rfl (by decide) ?_
    refine v_istore_n (ls' := [(2, .int (-1)), (0, .ref (δ 0)), (1, .int y)]) F dX0_safest_16 rfl rfl (by decide) rfl ?_
    refine v_ldc2 F q1001 dX0_safest_17 rfl ?_
    refine v_lng (y := (-1 : Int32).toInt64) F (by decide) ?_
    refine v_lstore_n (ls' := [(3, .long ((-1 : Int32).toInt64)), (2, .int (-1)), (0, .ref (δ 0)), (1, .int y)]) F dX0_safest_20 rfl rfl (by decide) rfl ?_
    refine v_iconst (x := 0) F dX0_safest_21 rfl (by decide) ?_
    refine v_istore (ls' := [(5, .int 0), (3, .long ((-1 : Int32).toInt64)), (2, .int (-1)), (0, .ref (δ 0)), (1, .int y)]) F dX0_safest_22 rfl (by decide) rfl ?_
    have L24 : ∀ (nf : Nat) (s : mS) (x : Int32) (z : Int64) (p : Nat) (hpM : p ≤ tn (n 0 13)) (hs : cab s = cab n) (hx : (x, z) = safN (cab n) m p) (hnf : tn (n 0 13) - p < nf), v (s, δ, ν) 0 0 24 [(0, .ref (δ 0)), (1, .int y), (2, .int x), (3, .long z), (5, .int (nI p))] [] := by
      intro nf
      induction nf with
      | zero => intro s x z p hpM hs hx hnf; exact absurd hnf (Nat.not_lt_zero _)
      | succ nf ih24 =>
        intro s x z p hpM hs hx hnf
        have oks : cOk s := hok.of hs
        have h13t : tn (s 0 13) = tn (n 0 13) := by rw [cab_eq hs 0 13 rfl]
        have h13n : s 0 13 = nI (tn (n 0 13)) := (cab_eq hs 0 13 rfl).trans hM
        refine v_iload F 4 dX0_safest_24 rfl rfl ?_
        refine v_aload_n F 0 dX0_safest_26 rfl rfl rfl ?_
        refine c_get F G 1 (w := .int (s 0 13)) (by decide) q798 rfl dX0_safest_27 rfl ?_
        refine v_int F (h13n) ?_
        refine v_icmp_geN (a := p) (b := tn (n 0 13)) (tgt := 69) (q := 33) F dX0_safest_30 rfl rfl (by omega) (by omega) (fun c2 => ?_) (fun c2 => ?_)
        · skip
          refine v_iload_n F 2 dX0_safest_69 rfl rfl rfl ?_
          exact v_reti F dX0_safest_70 rfl (by unfold safR; rw [if_pos c1, hty, show tn (cab n 0 13) = p from (all_end (σ := n) c2 hpM).symm, ← hx]) (⟨_, rfl, hs⟩)
        · skip
          refine v_aload_n F 0 dX0_safest_33 rfl rfl rfl ?_
          refine v_iload F 4 dX0_safest_34 rfl rfl ?_
          refine v_iload_n F 1 dX0_safest_36 rfl rfl rfl ?_
          refine v_int F (hym) ?_
          refine c_callj F G (cc_X0_notFound G s δ ν p m oks (by omega) (by omega)) ok_X0_notFound q973 is_X0_notFound rfl rfl dX0_safest_37 rfl rfl ?_
          rintro _ ⟨tm, rfl, hbm⟩
          have oktm : cOk tm := cOk.of (show cOk s from oks) hbm
          have hptm_0 : p < tn (tm 0 13) := by rw [cab_eq hbm 0 13 rfl]; exact (by omega)
          refine v_lstore (ls' := [(6, .long (hidV (cab s) p m)), (0, .ref (δ 0)), (1, .int y), (2, .int x), (3, .long z), (5, .int (nI p))]) F dX0_safest_40 rfl (by decide) rfl ?_
          refine v_lload F 0 dX0_safest_42 rfl rfl ?_
          refine v_lload_n F 4 dX0_safest_44 rfl rfl rfl ?_
          refine v_lcmp F dX0_safest_45 rfl ?_
          refine v_if_leL (tgt := 54) (q := 49) F dX0_safest_46 rfl rfl (fun c4 => ?_) (fun c4 => ?_)
          · skip
            refine v_iload_n F 3 dX0_safest_54 rfl rfl rfl ?_
            refine v_istore_n (ls' := [(2, .int x), (6, .long (hidV (cab s) p m)), (0, .ref (δ 0)), (1, .int y), (3, .long z), (5, .int (nI p))]) F dX0_safest_55 rfl rfl (by decide) rfl ?_
            refine v_lload_n F 4 dX0_safest_56 rfl rfl rfl ?_
            refine v_lload F 1 dX0_safest_57 rfl rfl ?_
            refine s_callj F G.1 (cg_J7_max_2 G.1 (tm, δ, ν) z (hidV (cab s) p m) ) ok_J7_max_2 q1002 q1003 rfl rfl dX0_safest_59 rfl rfl ?_
            intro u0 hu0; subst u0
            refine v_lstore_n (ls' := [(3, .long (if (hidV (cab s) p m) ≤ z then z else (hidV (cab s) p m))), (2, .int x), (6, .long (hidV (cab s) p m)), (0, .ref (δ 0)), (1, .int y), (5, .int (nI p))]) F dX0_safest_62 rfl rfl (by decide) rfl ?_
            refine v_iincN (ls' := [(5, .int (nI (p + 1))), (3, .long (if (hidV (cab s) p m) ≤ z then z else (hidV (cab s) p m))), (2, .int x), (6, .long (hidV (cab s) p m)), (0, .ref (δ 0)), (1, .int y)]) F 5 dX0_safest_63 rfl rfl (by decide) rfl ?_
            refine v_goto (tgt := 24) F dX0_safest_66 rfl ?_
            refine v_sub (ls' := [(0, .ref (δ 0)), (1, .int y), (2, .int x), (3, .long (if (hidV (cab s) p m) ≤ z then z else (hidV (cab s) p m))), (5, .int (nI (p + 1)))]) F [4, 5, 2, 1, 0] rfl ?_
            exact ih24 tm x (if (hidV (cab s) p m) ≤ z then z else (hidV (cab s) p m)) (p + 1) (by omega) (hbm.trans hs) (by show _ = (if (safN (cab n) m p).2 < hidV (cab n) p m then _ else _); rw [← hx, hs]; rw [hs] at c4; rw [if_pos c4]; exact (if_neg (Int64.not_lt.mpr c4)).symm) (by omega)
          · skip
            refine v_iload F 5 dX0_safest_49 rfl rfl ?_
            refine v_goto (tgt := 55) F dX0_safest_51 rfl ?_
            refine v_istore_n (ls' := [(2, .int (nI p)), (6, .long (hidV (cab s) p m)), (0, .ref (δ 0)), (1, .int y), (3, .long z), (5, .int (nI p))]) F dX0_safest_55 rfl rfl (by decide) rfl ?_
            refine v_lload_n F 4 dX0_safest_56 rfl rfl rfl ?_
            refine v_lload F 1 dX0_safest_57 rfl rfl ?_
            refine s_callj F G.1 (cg_J7_max_2 G.1 (tm, δ, ν) z (hidV (cab s) p m) ) ok_J7_max_2 q1002 q1003 rfl rfl dX0_safest_59 rfl rfl ?_
            intro u0 hu0; subst u0
            refine v_lstore_n (ls' := [(3, .long (if (hidV (cab s) p m) ≤ z then z else (hidV (cab s) p m))), (2, .int (nI p)), (6, .long (hidV (cab s) p m)), (0, .ref (δ 0)), (1, .int y), (5, .int (nI p))]) F dX0_safest_62 rfl rfl (by decide) rfl ?_
            refine v_iincN (ls' := [(5, .int (nI (p + 1))), (3, .long (if (hidV (cab s) p m) ≤ z then z else (hidV (cab s) p m))), (2, .int (nI p)), (6, .long (hidV (cab s) p m)), (0, .ref (δ 0)), (1, .int y)]) F 5 dX0_safest_63 rfl rfl (by decide) rfl ?_
            refine v_goto (tgt := 24) F dX0_safest_66 rfl ?_
            refine v_sub (ls' := [(0, .ref (δ 0)), (1, .int y), (2, .int (nI p)), (3, .long (if (hidV (cab s) p m) ≤ z then z else (hidV (cab s) p m))), (5, .int (nI (p + 1)))]) F [4, 5, 2, 1, 0] rfl ?_
            exact ih24 tm (nI p) (if (hidV (cab s) p m) ≤ z then z else (hidV (cab s) p m)) (p + 1) (by omega) (hbm.trans hs) (by show _ = (if (safN (cab n) m p).2 < hidV (cab n) p m then _ else _); rw [← hx, hs]; rw [hs] at c4; rw [if_neg c4]; exact (if_pos (Int64.not_le.mp c4)).symm) (by omega)
    refine v_sub (ls' := [(0, .ref (δ 0)), (1, .int y), (2, .int (-1)), (3, .long ((-1 : Int32).toInt64)), (5, .int 0)]) F [3, 4, 2, 1, 0] rfl ?_
    exact L24 _ n (-1) ((-1 : Int32).toInt64) 0 (Nat.zero_le _) rfl (by show _ = ((-1 : Int32), (-1 : Int64)); rw [show (-1 : Int32).toInt64 = -1 by decide]) (Nat.lt_succ_self _)
  · skip
    refine v_bipush (x := (-2)) F dX0_safest_12 rfl (by decide) ?_
    exact v_reti F dX0_safest_14 rfl (by unfold safR; rw [if_neg (show ¬ (0 ≤ y ∧ y ≤ 8) from c1)]) (⟨_, rfl, rfl⟩)
