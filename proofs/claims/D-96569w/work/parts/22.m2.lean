set_option maxRecDepth 100000
theorem ok_X8_byteAt : vv_oc yX8_byteAt 2 1 (ws_ yX8_byteAt cX8_byteAt 2 (some .int)) := vv_ok.oc (rt := (some .int)) ⟨q1428, q133, by decide +kernel, by decide +kernel⟩
theorem is_X8_byteAt : Cond.instanceMethod yX8_byteAt ∈ lw_all ∧ Cond.selects RX8 yX8_byteAt yX8_byteAt ∈ lw_all := ⟨q1427, qs54⟩
set_option maxHeartbeats 4000000 in
theorem cm_X8_byteAt {l : Launch} {Kf : State → Prop} {D : va_G} {ad : Nat → Nat} {cI cZ : ClassId} {A : Nat → Prop} (G : mG A Kf D cI cZ) {b : Nat → Int32} {z t : Nat} (σ : mS) (i : Nat) (hT : pTx b z t σ) (hi : i < 2 ^ 31) : vv_Ct l yX8_byteAt (ws_ yX8_byteAt cX8_byteAt 2 (some .int)) (rm 0 0) Kf (mWd D ad cI cZ A) A [.ref (ad 0), .int (nI i)] σ (vv_i (bA b z i) (fun u => u = σ)) := by
  refine vv_of (by decide +kernel) (Nat.le_of_ble_eq_true rfl) ?_
  intro v (F : vv_F v l cX8_byteAt 2 RX8 "byteAt" (some .int) [] (rm 0 0) Kf (mWd D ad cI cZ A) A _)
  show v σ 0 0 0 [(0, .ref (ad 0)), (1, .int (nI i))] []
  obtain ⟨ht6, hz, hfr, hsz, hby⟩ := hT
  refine v_iload_n F 1 dX8_byteAt_0 rfl rfl rfl ?_
  refine v_aload_n F 0 dX8_byteAt_1 rfl rfl rfl ?_
  refine m_get F G 21 (w := .int (σ 0 21)) (by decide) q1274 rfl dX8_byteAt_2 rfl ?_
  refine v_int F (hsz) ?_
  refine v_icmp_geN (a := i) (b := z) (tgt := 22) (q := 8) F dX8_byteAt_5 rfl rfl (by omega) (by omega) (fun c1 => ?_) (fun c1 => ?_)
  · skip
    refine v_iconst (x := (-1)) F dX8_byteAt_22 rfl (by decide) ?_
    exact v_reti F dX8_byteAt_23 rfl (by rw [bA, if_neg (by omega)]) (rfl)
  · skip
    refine v_aload_n F 0 dX8_byteAt_8 rfl rfl rfl ?_
    refine m_get F G 1 (w := .ref (ad 1)) (by decide) q1254 rfl dX8_byteAt_9 rfl ?_
    refine v_aload_n F 0 dX8_byteAt_12 rfl rfl rfl ?_
    refine m_get F G 20 (w := .int (σ 0 20)) (by decide) q1273 rfl dX8_byteAt_13 rfl ?_
    refine v_int F (hfr) ?_
    refine v_iload_n F 1 dX8_byteAt_16 rfl rfl rfl ?_
    refine v_iaddN (a := 160 * t) (b := i) F dX8_byteAt_17 rfl ?_
    refine m_ald1 (t := (160 * t) + i) F G (by omega) dX8_byteAt_18 rfl ?_
    refine v_goto (tgt := 23) F dX8_byteAt_19 rfl ?_
    exact v_reti F dX8_byteAt_23 rfl (by rw [bA, if_pos c1]; exact (hby i c1).1) (rfl)
theorem ok_X8_next : vv_oc yX8_next 3 0 (ws_ yX8_next cX8_next 3 none) := vv_ok.oc (rt := none) ⟨q1424, q133, by decide +kernel, by decide +kernel⟩
theorem is_X8_next : Cond.instanceMethod yX8_next ∈ lw_all ∧ Cond.selects RX8 yX8_next yX8_next ∈ lw_all := ⟨q1423, qs53⟩
set_option maxHeartbeats 4000000 in
theorem cm_X8_next {l : Launch} {Kf : State → Prop} {D : va_G} {ad : Nat → Nat} {cI cZ : ClassId} {A : Nat → Prop} (G : mG A Kf D cI cZ) {b : Nat → Int32} {z t i : Nat} (σ : mS)  (hT : pTx b z t σ) (hh : σ 0 22 = nI i) (hi : i ≤ z) : vv_Ct l yX8_next (ws_ yX8_next cX8_next 3 none) (rm 1 25) Kf (mWd D ad cI cZ A) A [.ref (ad 0)] σ (vv_n (fun u => nEq σ u ∧ pAt b z u i)) := by
  refine vv_of (by decide +kernel) (Nat.le_of_ble_eq_true rfl) ?_
  intro v (F : vv_F v l cX8_next 3 RX8 "next" none [] (rm 1 25) Kf (mWd D ad cI cZ A) A _)
  show v σ 0 0 0 [(0, .ref (ad 0))] []
  obtain ⟨ht6, hz, -, -, -⟩ := id hT
  have L0 : ∀ (nf : Nat) (s : mS) (k : Nat) (hE : nEq σ s) (h22 : s 0 22 = nI k) (hk : k ≤ z) (hA : tA b z i = tA b z k) (hnf : z - k < nf), v s 0 0 0 [(0, .ref (ad 0))] [] := by
    intro nf
    induction nf with
    | zero => intro s k hE h22 hk hA hnf; exact absurd hnf (Nat.not_lt_zero _)
    | succ nf ih0 =>
      intro s k hE h22 hk hA hnf
      have h21 : s 0 21 = nI z := (pTx.eq hT hE.p).2.2.2.1
      refine v_aload_n F 0 dX8_next_0 rfl rfl rfl ?_
      refine v_aload_n F 0 dX8_next_1 rfl rfl rfl ?_
      refine m_get F G 22 (w := .int (s 0 22)) (by decide) q1275 rfl dX8_next_2 rfl ?_
      refine v_int F (h22) ?_
      refine m_calli F G (cm_X8_byteAt G s k (pTx.eq hT (nEq.p hE)) (by omega)) ok_X8_byteAt q1425 is_X8_byteAt rfl rfl dX8_next_5 rfl rfl ?_
      intro u0 hu0; subst u0
      refine v_bipush (x := 32) F dX8_next_8 rfl (by decide) ?_
      refine v_icmp_eq (tgt := 26) (q := 13) F dX8_next_10 rfl rfl (fun c1 => ?_) (fun c1 => ?_)
      · skip
        refine v_aload_n F 0 dX8_next_26 rfl rfl rfl ?_
        refine v_dup F dX8_next_27 rfl rfl ?_
        refine m_get F G 22 (w := .int (s 0 22)) (by decide) q1275 rfl dX8_next_28 rfl ?_
        refine v_int F (h22) ?_
        refine v_iconst (x := 1) F dX8_next_31 rfl (by decide) ?_
        refine v_iaddN (a := k) (b := 1) F dX8_next_32 rfl ?_
        refine m_put22 F G q1275 dX8_next_33 rfl ?_
        refine v_goto (tgt := 0) F dX8_next_36 rfl ?_
        exact ih0 (up s 0 22 (nI (k + 1))) (k + 1) (nEq.u hE (by decide) _) rfl (by have := (tA_step (Or.inl c1)).2; omega) (hA.trans (tA_step (Or.inl c1)).1) (by have := (tA_step (b := b) (z := z) (k := k) (by first | exact Or.inl c1 | exact Or.inr c2)).2; omega)
      · skip
        refine v_aload_n F 0 dX8_next_13 rfl rfl rfl ?_
        refine v_aload_n F 0 dX8_next_14 rfl rfl rfl ?_
        refine m_get F G 22 (w := .int (s 0 22)) (by decide) q1275 rfl dX8_next_15 rfl ?_
        refine v_int F (h22) ?_
        refine m_calli F G (cm_X8_byteAt G s k (pTx.eq hT (nEq.p hE)) (by omega)) ok_X8_byteAt q1425 is_X8_byteAt rfl rfl dX8_next_18 rfl rfl ?_
        intro u0 hu0; subst u0
        refine v_bipush (x := 10) F dX8_next_21 rfl (by decide) ?_
        refine v_icmp_ne (tgt := 39) (q := 26) F dX8_next_23 rfl rfl (fun c2 => ?_) (fun c2 => ?_)
        · skip
          have hk0 : tA b z i = k := hA.trans (tA_stop (fun h => h.elim c1 c2))
          refine v_aload_n F 0 dX8_next_39 rfl rfl rfl ?_
          refine v_aload_n F 0 dX8_next_40 rfl rfl rfl ?_
          refine m_get F G 22 (w := .int (s 0 22)) (by decide) q1275 rfl dX8_next_41 rfl ?_
          refine v_int F (h22) ?_
          refine m_put24 F G q1277 dX8_next_44 rfl ?_
          refine v_aload_n F 0 dX8_next_47 rfl rfl rfl ?_
          refine v_aload_n F 0 dX8_next_48 rfl rfl rfl ?_
          refine m_get F G 22 (w := .int (s 0 22)) (by decide) q1275 rfl dX8_next_49 rfl ?_
          refine v_int F (h22) ?_
          refine m_calli F G (cm_X8_byteAt G (up s 0 24 (nI k)) k (pTx.eq hT (nEq.p (nEq.u hE (j := 24) (by decide) (nI k)))) (by omega)) ok_X8_byteAt q1425 is_X8_byteAt rfl rfl dX8_next_52 rfl rfl ?_
          intro u0 hu0; subst u0
          refine v_istore_n (ls' := [(1, .int (bA b z k)), (0, .ref (ad 0))]) F dX8_next_55 rfl rfl (by decide) rfl ?_
          refine v_aload_n F 1 dX8_next_56 rfl rfl rfl ?_
          refine v_iconst (x := 4) F dX8_next_57 rfl (by decide) ?_
          refine m_put23 F G q1276 dX8_next_58 rfl ?_
          refine v_iload_n F 0 dX8_next_61 rfl rfl rfl ?_
          refine v_if_ge (tgt := 81) (q := 65) F dX8_next_62 rfl rfl (fun c3 => ?_) (fun c3 => ?_)
          · skip
            refine v_iload_n F 0 dX8_next_81 rfl rfl rfl ?_
            refine v_i2l F dX8_next_82 rfl ?_
            refine v_ldc2 F q1429 dX8_next_83 rfl ?_
            refine v_lng (y := (97 : Int32).toInt64) F (by decide) ?_
            refine v_ldc2 F q1430 dX8_next_86 rfl ?_
            refine v_lng (y := (122 : Int32).toInt64) F (by decide) ?_
            refine s_calli F G.1 (cm_X8_in G (up (up s 0 24 (nI k)) 0 23 4) (bA b z k) 97 122 ) ok_X8_in q1386 q1387 rfl rfl dX8_next_89 rfl rfl ?_
            intro u0 hu0; subst u0
            refine v_if_eqB (p := (97 ≤ (bA b z k) ∧ (bA b z k) ≤ 122)) (tgt := 134) (q := 95) F dX8_next_92 rfl rfl (fun c4 => ?_) (fun c4 => ?_)
            · skip
              refine v_iload_n F 0 dX8_next_134 rfl rfl rfl ?_
              refine v_i2l F dX8_next_135 rfl ?_
              refine v_ldc2 F q1431 dX8_next_136 rfl ?_
              refine v_lng (y := (48 : Int32).toInt64) F (by decide) ?_
              refine v_ldc2 F q1432 dX8_next_139 rfl ?_
              refine v_lng (y := (57 : Int32).toInt64) F (by decide) ?_
              refine s_calli F G.1 (cm_X8_in G (up (up s 0 24 (nI k)) 0 23 4) (bA b z k) 48 57 ) ok_X8_in q1386 q1387 rfl rfl dX8_next_142 rfl rfl ?_
              intro u0 hu0; subst u0
              refine v_if_eqB (p := (48 ≤ (bA b z k) ∧ (bA b z k) ≤ 57)) (tgt := 252) (q := 148) F dX8_next_145 rfl rfl (fun c5 => ?_) (fun c5 => ?_)
              · skip
                refine v_iload_n F 0 dX8_next_252 rfl rfl rfl ?_
                refine v_bipush (x := 40) F dX8_next_253 rfl (by decide) ?_
                refine v_icmp_eq (tgt := 300) (q := 258) F dX8_next_255 rfl rfl (fun c6 => ?_) (fun c6 => ?_)
                · skip
                  refine v_aload_n F 1 dX8_next_300 rfl rfl rfl ?_
                  refine v_iconst (x := 3) F dX8_next_301 rfl (by decide) ?_
                  refine m_put23 F G q1276 dX8_next_302 rfl ?_
                  refine v_aload_n F 1 dX8_next_305 rfl rfl rfl ?_
                  refine v_iload_n F 0 dX8_next_306 rfl rfl rfl ?_
                  refine v_i2l F dX8_next_307 rfl ?_
                  refine m_put25 F G q1278 (bA b z k) rfl dX8_next_308 rfl ?_
                  refine v_aload_n F 1 dX8_next_311 rfl rfl rfl ?_
                  refine v_dup F dX8_next_312 rfl rfl ?_
                  refine m_get F G 22 (w := .int (s 0 22)) (by decide) q1275 rfl dX8_next_313 rfl ?_
                  refine v_int F (h22) ?_
                  refine v_iconst (x := 1) F dX8_next_316 rfl (by decide) ?_
                  refine v_iaddN (a := k) (b := 1) F dX8_next_317 rfl ?_
                  refine m_put22 F G q1275 dX8_next_318 rfl ?_
                  exact v_retn F dX8_next_321 rfl (⟨(nEq.u (nEq.u (nEq.u (nEq.u (nEq.u hE (j := 24) (by decide) (nI k)) (j := 23) (by decide) 4) (j := 23) (by decide) 3) (j := 25) (by decide) (bA b z k)) (j := 22) (by decide) (nI (k + 1))), by rw [(tok_sign hk0 c3 c4 c5 (by simp [c6])).1]; rfl, by rw [hk0]; rfl, by rw [(tok_sign hk0 c3 c4 c5 (by simp [c6])).2.1]; rfl, fun h => by rw [(tok_sign hk0 c3 c4 c5 (by simp [c6])).2.2]; rfl⟩)
                · skip
                  refine v_iload_n F 0 dX8_next_258 rfl rfl rfl ?_
                  refine v_bipush (x := 41) F dX8_next_259 rfl (by decide) ?_
                  refine v_icmp_eq (tgt := 300) (q := 264) F dX8_next_261 rfl rfl (fun c7 => ?_) (fun c7 => ?_)
                  · skip
                    refine v_aload_n F 1 dX8_next_300 rfl rfl rfl ?_
                    refine v_iconst (x := 3) F dX8_next_301 rfl (by decide) ?_
                    refine m_put23 F G q1276 dX8_next_302 rfl ?_
                    refine v_aload_n F 1 dX8_next_305 rfl rfl rfl ?_
                    refine v_iload_n F 0 dX8_next_306 rfl rfl rfl ?_
                    refine v_i2l F dX8_next_307 rfl ?_
                    refine m_put25 F G q1278 (bA b z k) rfl dX8_next_308 rfl ?_
                    refine v_aload_n F 1 dX8_next_311 rfl rfl rfl ?_
                    refine v_dup F dX8_next_312 rfl rfl ?_
                    refine m_get F G 22 (w := .int (s 0 22)) (by decide) q1275 rfl dX8_next_313 rfl ?_
                    refine v_int F (h22) ?_
                    refine v_iconst (x := 1) F dX8_next_316 rfl (by decide) ?_
                    refine v_iaddN (a := k) (b := 1) F dX8_next_317 rfl ?_
                    refine m_put22 F G q1275 dX8_next_318 rfl ?_
                    exact v_retn F dX8_next_321 rfl (⟨(nEq.u (nEq.u (nEq.u (nEq.u (nEq.u hE (j := 24) (by decide) (nI k)) (j := 23) (by decide) 4) (j := 23) (by decide) 3) (j := 25) (by decide) (bA b z k)) (j := 22) (by decide) (nI (k + 1))), by rw [(tok_sign hk0 c3 c4 c5 (by simp [c7])).1]; rfl, by rw [hk0]; rfl, by rw [(tok_sign hk0 c3 c4 c5 (by simp [c7])).2.1]; rfl, fun h => by rw [(tok_sign hk0 c3 c4 c5 (by simp [c7])).2.2]; rfl⟩)
                  · skip
                    refine v_iload_n F 0 dX8_next_264 rfl rfl rfl ?_
                    refine v_bipush (x := 59) F dX8_next_265 rfl (by decide) ?_
                    refine v_icmp_eq (tgt := 300) (q := 270) F dX8_next_267 rfl rfl (fun c8 => ?_) (fun c8 => ?_)
                    · skip
                      refine v_aload_n F 1 dX8_next_300 rfl rfl rfl ?_
                      refine v_iconst (x := 3) F dX8_next_301 rfl (by decide) ?_
                      refine m_put23 F G q1276 dX8_next_302 rfl ?_
                      refine v_aload_n F 1 dX8_next_305 rfl rfl rfl ?_
                      refine v_iload_n F 0 dX8_next_306 rfl rfl rfl ?_
                      refine v_i2l F dX8_next_307 rfl ?_
                      refine m_put25 F G q1278 (bA b z k) rfl dX8_next_308 rfl ?_
                      refine v_aload_n F 1 dX8_next_311 rfl rfl rfl ?_
                      refine v_dup F dX8_next_312 rfl rfl ?_
                      refine m_get F G 22 (w := .int (s 0 22)) (by decide) q1275 rfl dX8_next_313 rfl ?_
                      refine v_int F (h22) ?_
                      refine v_iconst (x := 1) F dX8_next_316 rfl (by decide) ?_
                      refine v_iaddN (a := k) (b := 1) F dX8_next_317 rfl ?_
                      refine m_put22 F G q1275 dX8_next_318 rfl ?_
                      exact v_retn F dX8_next_321 rfl (⟨(nEq.u (nEq.u (nEq.u (nEq.u (nEq.u hE (j := 24) (by decide) (nI k)) (j := 23) (by decide) 4) (j := 23) (by decide) 3) (j := 25) (by decide) (bA b z k)) (j := 22) (by decide) (nI (k + 1))), by rw [(tok_sign hk0 c3 c4 c5 (by simp [c8])).1]; rfl, by rw [hk0]; rfl, by rw [(tok_sign hk0 c3 c4 c5 (by simp [c8])).2.1]; rfl, fun h => by rw [(tok_sign hk0 c3 c4 c5 (by simp [c8])).2.2]; rfl⟩)
                    · skip
                      refine v_iload_n F 0 dX8_next_270 rfl rfl rfl ?_
                      refine v_bipush (x := 43) F dX8_next_271 rfl (by decide) ?_
                      refine v_icmp_eq (tgt := 300) (q := 276) F dX8_next_273 rfl rfl (fun c9 => ?_) (fun c9 => ?_)
                      · skip
                        refine v_aload_n F 1 dX8_next_300 rfl rfl rfl ?_
                        refine v_iconst (x := 3) F dX8_next_301 rfl (by decide) ?_
                        refine m_put23 F G q1276 dX8_next_302 rfl ?_
                        refine v_aload_n F 1 dX8_next_305 rfl rfl rfl ?_
                        refine v_iload_n F 0 dX8_next_306 rfl rfl rfl ?_
                        refine v_i2l F dX8_next_307 rfl ?_
                        refine m_put25 F G q1278 (bA b z k) rfl dX8_next_308 rfl ?_
                        refine v_aload_n F 1 dX8_next_311 rfl rfl rfl ?_
                        refine v_dup F dX8_next_312 rfl rfl ?_
                        refine m_get F G 22 (w := .int (s 0 22)) (by decide) q1275 rfl dX8_next_313 rfl ?_
                        refine v_int F (h22) ?_
                        refine v_iconst (x := 1) F dX8_next_316 rfl (by decide) ?_
                        refine v_iaddN (a := k) (b := 1) F dX8_next_317 rfl ?_
                        refine m_put22 F G q1275 dX8_next_318 rfl ?_
                        exact v_retn F dX8_next_321 rfl (⟨(nEq.u (nEq.u (nEq.u (nEq.u (nEq.u hE (j := 24) (by decide) (nI k)) (j := 23) (by decide) 4) (j := 23) (by decide) 3) (j := 25) (by decide) (bA b z k)) (j := 22) (by decide) (nI (k + 1))), by rw [(tok_sign hk0 c3 c4 c5 (by simp [c9])).1]; rfl, by rw [hk0]; rfl, by rw [(tok_sign hk0 c3 c4 c5 (by simp [c9])).2.1]; rfl, fun h => by rw [(tok_sign hk0 c3 c4 c5 (by simp [c9])).2.2]; rfl⟩)
                      · skip
                        refine v_iload_n F 0 dX8_next_276 rfl rfl rfl ?_
                        refine v_bipush (x := 45) F dX8_next_277 rfl (by decide) ?_
                        refine v_icmp_eq (tgt := 300) (q := 282) F dX8_next_279 rfl rfl (fun c10 => ?_) (fun c10 => ?_)
                        · skip
                          refine v_aload_n F 1 dX8_next_300 rfl rfl rfl ?_
                          refine v_iconst (x := 3) F dX8_next_301 rfl (by decide) ?_
                          refine m_put23 F G q1276 dX8_next_302 rfl ?_
                          refine v_aload_n F 1 dX8_next_305 rfl rfl rfl ?_
                          refine v_iload_n F 0 dX8_next_306 rfl rfl rfl ?_
                          refine v_i2l F dX8_next_307 rfl ?_
                          refine m_put25 F G q1278 (bA b z k) rfl dX8_next_308 rfl ?_
                          refine v_aload_n F 1 dX8_next_311 rfl rfl rfl ?_
                          refine v_dup F dX8_next_312 rfl rfl ?_
                          refine m_get F G 22 (w := .int (s 0 22)) (by decide) q1275 rfl dX8_next_313 rfl ?_
                          refine v_int F (h22) ?_
                          refine v_iconst (x := 1) F dX8_next_316 rfl (by decide) ?_
                          refine v_iaddN (a := k) (b := 1) F dX8_next_317 rfl ?_
                          refine m_put22 F G q1275 dX8_next_318 rfl ?_
                          exact v_retn F dX8_next_321 rfl (⟨(nEq.u (nEq.u (nEq.u (nEq.u (nEq.u hE (j := 24) (by decide) (nI k)) (j := 23) (by decide) 4) (j := 23) (by decide) 3) (j := 25) (by decide) (bA b z k)) (j := 22) (by decide) (nI (k + 1))), by rw [(tok_sign hk0 c3 c4 c5 (by simp [c10])).1]; rfl, by rw [hk0]; rfl, by rw [(tok_sign hk0 c3 c4 c5 (by simp [c10])).2.1]; rfl, fun h => by rw [(tok_sign hk0 c3 c4 c5 (by simp [c10])).2.2]; rfl⟩)
                        · skip
                          refine v_iload_n F 0 dX8_next_282 rfl rfl rfl ?_
                          refine v_bipush (x := 42) F dX8_next_283 rfl (by decide) ?_
                          refine v_icmp_eq (tgt := 300) (q := 288) F dX8_next_285 rfl rfl (fun c11 => ?_) (fun c11 => ?_)
                          · skip
                            refine v_aload_n F 1 dX8_next_300 rfl rfl rfl ?_
                            refine v_iconst (x := 3) F dX8_next_301 rfl (by decide) ?_
                            refine m_put23 F G q1276 dX8_next_302 rfl ?_
                            refine v_aload_n F 1 dX8_next_305 rfl rfl rfl ?_
                            refine v_iload_n F 0 dX8_next_306 rfl rfl rfl ?_
                            refine v_i2l F dX8_next_307 rfl ?_
                            refine m_put25 F G q1278 (bA b z k) rfl dX8_next_308 rfl ?_
                            refine v_aload_n F 1 dX8_next_311 rfl rfl rfl ?_
                            refine v_dup F dX8_next_312 rfl rfl ?_
                            refine m_get F G 22 (w := .int (s 0 22)) (by decide) q1275 rfl dX8_next_313 rfl ?_
                            refine v_int F (h22) ?_
                            refine v_iconst (x := 1) F dX8_next_316 rfl (by decide) ?_
                            refine v_iaddN (a := k) (b := 1) F dX8_next_317 rfl ?_
                            refine m_put22 F G q1275 dX8_next_318 rfl ?_
                            exact v_retn F dX8_next_321 rfl (⟨(nEq.u (nEq.u (nEq.u (nEq.u (nEq.u hE (j := 24) (by decide) (nI k)) (j := 23) (by decide) 4) (j := 23) (by decide) 3) (j := 25) (by decide) (bA b z k)) (j := 22) (by decide) (nI (k + 1))), by rw [(tok_sign hk0 c3 c4 c5 (by simp [c11])).1]; rfl, by rw [hk0]; rfl, by rw [(tok_sign hk0 c3 c4 c5 (by simp [c11])).2.1]; rfl, fun h => by rw [(tok_sign hk0 c3 c4 c5 (by simp [c11])).2.2]; rfl⟩)
                          · skip
                            refine v_iload_n F 0 dX8_next_288 rfl rfl rfl ?_
                            refine v_bipush (x := 60) F dX8_next_289 rfl (by decide) ?_
                            refine v_icmp_eq (tgt := 300) (q := 294) F dX8_next_291 rfl rfl (fun c12 => ?_) (fun c12 => ?_)
                            · skip
                              refine v_aload_n F 1 dX8_next_300 rfl rfl rfl ?_
                              refine v_iconst (x := 3) F dX8_next_301 rfl (by decide) ?_
                              refine m_put23 F G q1276 dX8_next_302 rfl ?_
                              refine v_aload_n F 1 dX8_next_305 rfl rfl rfl ?_
                              refine v_iload_n F 0 dX8_next_306 rfl rfl rfl ?_
                              refine v_i2l F dX8_next_307 rfl ?_
                              refine m_put25 F G q1278 (bA b z k) rfl dX8_next_308 rfl ?_
                              refine v_aload_n F 1 dX8_next_311 rfl rfl rfl ?_
                              refine v_dup F dX8_next_312 rfl rfl ?_
                              refine m_get F G 22 (w := .int (s 0 22)) (by decide) q1275 rfl dX8_next_313 rfl ?_
                              refine v_int F (h22) ?_
                              refine v_iconst (x := 1) F dX8_next_316 rfl (by decide) ?_
                              refine v_iaddN (a := k) (b := 1) F dX8_next_317 rfl ?_
                              refine m_put22 F G q1275 dX8_next_318 rfl ?_
                              exact v_retn F dX8_next_321 rfl (⟨(nEq.u (nEq.u (nEq.u (nEq.u (nEq.u hE (j := 24) (by decide) (nI k)) (j := 23) (by decide) 4) (j := 23) (by decide) 3) (j := 25) (by decide) (bA b z k)) (j := 22) (by decide) (nI (k + 1))), by rw [(tok_sign hk0 c3 c4 c5 (by simp [c12])).1]; rfl, by rw [hk0]; rfl, by rw [(tok_sign hk0 c3 c4 c5 (by simp [c12])).2.1]; rfl, fun h => by rw [(tok_sign hk0 c3 c4 c5 (by simp [c12])).2.2]; rfl⟩)
                            · skip
                              refine v_iload_n F 0 dX8_next_294 rfl rfl rfl ?_
                              refine v_bipush (x := 61) F dX8_next_295 rfl (by decide) ?_
                              refine v_icmp_ne (tgt := 321) (q := 300) F dX8_next_297 rfl rfl (fun c13 => ?_) (fun c13 => ?_)
                              · skip
                                exact v_retn F dX8_next_321 rfl (⟨(nEq.u (nEq.u hE (j := 24) (by decide) (nI k)) (j := 23) (by decide) 4), by rw [(tok_wrong hk0 c3 c4 c5 (by simp [c6, c7, c8, c9, c10, c11, c12, c13])).1]; rfl, by rw [hk0]; rfl, by rw [(tok_wrong hk0 c3 c4 c5 (by simp [c6, c7, c8, c9, c10, c11, c12, c13])).2]; exact h22, fun h => absurd h (by rw [(tok_wrong hk0 c3 c4 c5 (by simp [c6, c7, c8, c9, c10, c11, c12, c13])).1]; decide)⟩)
                              · skip
                                refine v_aload_n F 1 dX8_next_300 rfl rfl rfl ?_
                                refine v_iconst (x := 3) F dX8_next_301 rfl (by decide) ?_
                                refine m_put23 F G q1276 dX8_next_302 rfl ?_
                                refine v_aload_n F 1 dX8_next_305 rfl rfl rfl ?_
                                refine v_iload_n F 0 dX8_next_306 rfl rfl rfl ?_
                                refine v_i2l F dX8_next_307 rfl ?_
                                refine m_put25 F G q1278 (bA b z k) rfl dX8_next_308 rfl ?_
                                refine v_aload_n F 1 dX8_next_311 rfl rfl rfl ?_
                                refine v_dup F dX8_next_312 rfl rfl ?_
                                refine m_get F G 22 (w := .int (s 0 22)) (by decide) q1275 rfl dX8_next_313 rfl ?_
                                refine v_int F (h22) ?_
                                refine v_iconst (x := 1) F dX8_next_316 rfl (by decide) ?_
                                refine v_iaddN (a := k) (b := 1) F dX8_next_317 rfl ?_
                                refine m_put22 F G q1275 dX8_next_318 rfl ?_
                                exact v_retn F dX8_next_321 rfl (⟨(nEq.u (nEq.u (nEq.u (nEq.u (nEq.u hE (j := 24) (by decide) (nI k)) (j := 23) (by decide) 4) (j := 23) (by decide) 3) (j := 25) (by decide) (bA b z k)) (j := 22) (by decide) (nI (k + 1))), by rw [(tok_sign hk0 c3 c4 c5 (by simp [c13])).1]; rfl, by rw [hk0]; rfl, by rw [(tok_sign hk0 c3 c4 c5 (by simp [c13])).2.1]; rfl, fun h => by rw [(tok_sign hk0 c3 c4 c5 (by simp [c13])).2.2]; rfl⟩)
              · skip
                refine v_aload_n F 1 dX8_next_148 rfl rfl rfl ?_
                refine v_iconst (x := 2) F dX8_next_149 rfl (by decide) ?_
                refine m_put23 F G q1276 dX8_next_150 rfl ?_
                refine v_aload_n F 1 dX8_next_153 rfl rfl rfl ?_
                refine v_lconst (x := (0 : Int32).toInt64) F dX8_next_154 rfl (by decide) ?_
                refine m_put25 F G q1278 0 rfl dX8_next_155 rfl ?_
                refine v_iconst (x := 0) F dX8_next_158 rfl (by decide) ?_
                refine v_istore_n (ls' := [(2, .int 0), (1, .int (bA b z k)), (0, .ref (ad 0))]) F dX8_next_159 rfl rfl (by decide) rfl ?_
                have L160 : ∀ (nf : Nat) (s3 : mS) (m : Nat) (c : Nat) (y : Nat) (hE3 : nEq σ s3) (f22 : s3 0 22 = nI m) (f23 : s3 0 23 = 2) (f24 : s3 0 24 = nI k) (hm : m ≤ z) (hR : run b z 48 57 (z + 1) k = run b z 48 57 (z + 1) m) (hc : m = k + c) (f25 : s3 0 25 = nI y) (hy1 : y ≤ 9999) (hy2 : c ≤ 4 → y < 10 ^ c) (hD : dgt b z (z + 1) 0 k 0 = dgt b z (z + 1) c m (nI y)) (hnf : z - m < nf), v s3 0 0 160 [(0, .ref (ad 0)), (1, .int (bA b z k)), (2, .int (nI c))] [] := by
                  intro nf
                  induction nf with
                  | zero => intro s3 m c y hE3 f22 f23 f24 hm hR hc f25 hy1 hy2 hD hnf; exact absurd hnf (Nat.not_lt_zero _)
                  | succ nf ih160 =>
                    intro s3 m c y hE3 f22 f23 f24 hm hR hc f25 hy1 hy2 hD hnf
                    refine v_aload_n F 0 dX8_next_160 rfl rfl rfl ?_
                    refine v_aload_n F 0 dX8_next_161 rfl rfl rfl ?_
                    refine m_get F G 22 (w := .int (s3 0 22)) (by decide) q1275 rfl dX8_next_162 rfl ?_
                    refine v_int F (f22) ?_
                    refine m_calli F G (cm_X8_byteAt G s3 m (pTx.eq hT (nEq.p hE3)) (by omega)) ok_X8_byteAt q1425 is_X8_byteAt rfl rfl dX8_next_165 rfl rfl ?_
                    intro u0 hu0; subst u0
                    refine v_i2l F dX8_next_168 rfl ?_
                    refine v_ldc2 F q1431 dX8_next_169 rfl ?_
                    refine v_lng (y := (48 : Int32).toInt64) F (by decide) ?_
                    refine v_ldc2 F q1432 dX8_next_172 rfl ?_
                    refine v_lng (y := (57 : Int32).toInt64) F (by decide) ?_
                    refine s_calli F G.1 (cm_X8_in G s3 (bA b z m) 48 57 ) ok_X8_in q1386 q1387 rfl rfl dX8_next_175 rfl rfl ?_
                    intro u0 hu0; subst u0
                    refine v_if_eqB (p := (48 ≤ (bA b z m) ∧ (bA b z m) ≤ 57)) (tgt := 235) (q := 181) F dX8_next_178 rfl rfl (fun c14 => ?_) (fun c14 => ?_)
                    · skip
                      refine v_aload_n F 0 dX8_next_235 rfl rfl rfl ?_
                      refine v_iload_n F 2 dX8_next_236 rfl rfl rfl ?_
                      refine v_iconst (x := 4) F dX8_next_237 rfl (by decide) ?_
                      refine v_icmp_leN (a := c) (b := 4) (tgt := 245) (q := 241) F dX8_next_238 rfl rfl (by omega) (by omega) (fun c15 => ?_) (fun c15 => ?_)
                      · skip
                        refine v_iconst (x := 2) F dX8_next_245 rfl (by decide) ?_
                        refine m_put23 F G q1276 dX8_next_246 rfl ?_
                        refine v_goto (tgt := 321) F dX8_next_249 rfl ?_
                        exact v_retn F dX8_next_321 rfl (by have hr : run b z 48 57 (z + 1) k = m := hR.trans (run_stop c14); exact ⟨(nEq.u hE3 (j := 23) (by decide) 2), by rw [(tok_num hk0 c4 c5).1, hr]; first | (rw [if_pos (by omega)]; rfl) | (rw [if_neg (by omega)]; rfl), by rw [hk0]; exact f24, by rw [(tok_num hk0 c4 c5).2.1, hr]; exact f22, fun h => by rw [(tok_num hk0 c4 c5).2.2, hD, dgt_stop c14]; exact f25⟩)
                      · skip
                        refine v_iconst (x := 4) F dX8_next_241 rfl (by decide) ?_
                        refine v_goto (tgt := 246) F dX8_next_242 rfl ?_
                        refine m_put23 F G q1276 dX8_next_246 rfl ?_
                        refine v_goto (tgt := 321) F dX8_next_249 rfl ?_
                        exact v_retn F dX8_next_321 rfl (by have hr : run b z 48 57 (z + 1) k = m := hR.trans (run_stop c14); exact ⟨(nEq.u hE3 (j := 23) (by decide) 4), by rw [(tok_num hk0 c4 c5).1, hr]; first | (rw [if_pos (by omega)]; rfl) | (rw [if_neg (by omega)]; rfl), by rw [hk0]; exact f24, by rw [(tok_num hk0 c4 c5).2.1, hr]; exact f22, fun h => by rw [(tok_num hk0 c4 c5).2.2, hD, dgt_stop c14]; exact f25⟩)
                    · skip
                      refine v_aload_n F 0 dX8_next_181 rfl rfl rfl ?_
                      refine v_iload_n F 2 dX8_next_182 rfl rfl rfl ?_
                      refine v_iconst (x := 4) F dX8_next_183 rfl (by decide) ?_
                      refine v_icmp_geN (a := c) (b := 4) (tgt := 212) (q := 187) F dX8_next_184 rfl rfl (by omega) (by omega) (fun c16 => ?_) (fun c16 => ?_)
                      · skip
                        refine v_aload_n F 0 dX8_next_212 rfl rfl rfl ?_
                        refine m_get F G 25 (w := .long (Int32.toInt64 (s3 0 25))) (by decide) q1278 rfl dX8_next_213 rfl ?_
                        refine v_lng F (by rw [f25]) ?_
                        refine m_put25 F G q1278 (nI y) rfl dX8_next_216 rfl ?_
                        refine v_iincN (ls' := [(2, .int (nI (c + 1))), (0, .ref (ad 0)), (1, .int (bA b z k))]) F 2 dX8_next_219 rfl rfl (by decide) rfl ?_
                        refine v_aload_n F 1 dX8_next_222 rfl rfl rfl ?_
                        refine v_dup F dX8_next_223 rfl rfl ?_
                        refine m_get F G 22 (w := .int (s3 0 22)) (by decide) q1275 rfl dX8_next_224 rfl ?_
                        refine v_int F (f22) ?_
                        refine v_iconst (x := 1) F dX8_next_227 rfl (by decide) ?_
                        refine v_iaddN (a := m) (b := 1) F dX8_next_228 rfl ?_
                        refine m_put22 F G q1275 dX8_next_229 rfl ?_
                        refine v_goto (tgt := 160) F dX8_next_232 rfl ?_
                        refine v_sub (ls' := [(0, .ref (ad 0)), (1, .int (bA b z k)), (2, .int (nI (c + 1)))]) F [1, 2, 0] rfl ?_
                        exact ih160 (up (up s3 0 25 (nI y)) 0 22 (nI (m + 1))) (m + 1) (c + 1) y (nEq.u (nEq.u hE3 (by decide) _) (by decide) _) rfl f23 f24 (by have := (run_step (by decide) c14).2; omega) (hR.trans (run_step (by decide) c14).1) (by omega) rfl hy1 (fun hc => absurd hc (by omega)) (by rw [hD, dgt_step c14, if_neg (by omega)]) (by have := (run_step (b := b) (z := z) (lo := 48) (hi := 57) (k := m) (by decide) (by assumption)).2; omega)
                      · skip
                        obtain ⟨hq, m', he, hm'⟩ := dg64 (m := y) (ten4 c16 (hy2 (by omega))) c14
                        refine v_ldc2 F q1408 dX8_next_187 rfl ?_
                        refine v_lng (y := (10 : Int32).toInt64) F (by decide) ?_
                        refine v_aload_n F 0 dX8_next_190 rfl rfl rfl ?_
                        refine m_get F G 25 (w := .long (Int32.toInt64 (s3 0 25))) (by decide) q1278 rfl dX8_next_191 rfl ?_
                        refine v_lng F (by rw [f25]) ?_
                        refine v_lmul F dX8_next_194 rfl ?_
                        refine v_aload_n F 0 dX8_next_195 rfl rfl rfl ?_
                        refine v_aload_n F 0 dX8_next_196 rfl rfl rfl ?_
                        refine m_get F G 22 (w := .int (s3 0 22)) (by decide) q1275 rfl dX8_next_197 rfl ?_
                        refine v_int F (f22) ?_
                        refine m_calli F G (cm_X8_byteAt G s3 m (pTx.eq hT (nEq.p hE3)) (by omega)) ok_X8_byteAt q1425 is_X8_byteAt rfl rfl dX8_next_200 rfl rfl ?_
                        intro u0 hu0; subst u0
                        refine v_i2l F dX8_next_203 rfl ?_
                        refine v_ladd F dX8_next_204 rfl ?_
                        refine v_ldc2 F q1431 dX8_next_205 rfl ?_
                        refine v_lng (y := (48 : Int32).toInt64) F (by decide) ?_
                        refine v_lsub F dX8_next_208 rfl ?_
                        refine v_goto (tgt := 216) F dX8_next_209 rfl ?_
                        refine m_put25 F G q1278 (10 * nI y + bA b z m - 48) hq dX8_next_216 rfl ?_
                        refine v_iincN (ls' := [(2, .int (nI (c + 1))), (0, .ref (ad 0)), (1, .int (bA b z k))]) F 2 dX8_next_219 rfl rfl (by decide) rfl ?_
                        refine v_aload_n F 1 dX8_next_222 rfl rfl rfl ?_
                        refine v_dup F dX8_next_223 rfl rfl ?_
                        refine m_get F G 22 (w := .int (s3 0 22)) (by decide) q1275 rfl dX8_next_224 rfl ?_
                        refine v_int F (f22) ?_
                        refine v_iconst (x := 1) F dX8_next_227 rfl (by decide) ?_
                        refine v_iaddN (a := m) (b := 1) F dX8_next_228 rfl ?_
                        refine m_put22 F G q1275 dX8_next_229 rfl ?_
                        refine v_goto (tgt := 160) F dX8_next_232 rfl ?_
                        refine v_sub (ls' := [(0, .ref (ad 0)), (1, .int (bA b z k)), (2, .int (nI (c + 1)))]) F [1, 2, 0] rfl ?_
                        exact ih160 (up (up s3 0 25 (10 * nI y + bA b z m - 48)) 0 22 (nI (m + 1))) (m + 1) (c + 1) (m') (nEq.u (nEq.u hE3 (by decide) _) (by decide) _) rfl f23 f24 (by have := (run_step (by decide) c14).2; omega) (hR.trans (run_step (by decide) c14).1) (by omega) he (by have := ten4 (c := c) (y := y) (by assumption) (hy2 (by omega)); omega) (fun _ => ten5 (by assumption) (hy2 (by omega)) hm') (by rw [hD, dgt_step c14, if_pos (by assumption), he]) (by have := (run_step (b := b) (z := z) (lo := 48) (hi := 57) (k := m) (by decide) (by assumption)).2; omega)
                refine v_sub (ls' := [(0, .ref (ad 0)), (1, .int (bA b z k)), (2, .int 0)]) F [2, 1, 0] rfl ?_
                exact L160 _ (up (up (up (up s 0 24 (nI k)) 0 23 4) 0 23 2) 0 25 0) k 0 0 (nEq.u (nEq.u (nEq.u (nEq.u hE (j := 24) (by decide) (nI k)) (j := 23) (by decide) 4) (j := 23) (by decide) 2) (j := 25) (by decide) 0) h22 rfl rfl hk rfl rfl rfl (by decide) (fun _ => by decide) rfl (Nat.lt_succ_self _)
            · skip
              refine v_aload_n F 1 dX8_next_95 rfl rfl rfl ?_
              refine v_iconst (x := 1) F dX8_next_96 rfl (by decide) ?_
              refine m_put23 F G q1276 dX8_next_97 rfl ?_
              have L100 : ∀ (nf : Nat) (s2 : mS) (m : Nat) (hE2 : nEq σ s2) (g22 : s2 0 22 = nI m) (g23 : s2 0 23 = 1) (g24 : s2 0 24 = nI k) (hm : m ≤ z) (hR : run b z 97 122 (z + 1) k = run b z 97 122 (z + 1) m) (hnf : z - m < nf), v s2 0 0 100 [(0, .ref (ad 0)), (1, .int (bA b z k))] [] := by
                intro nf
                induction nf with
                | zero => intro s2 m hE2 g22 g23 g24 hm hR hnf; exact absurd hnf (Nat.not_lt_zero _)
                | succ nf ih100 =>
                  intro s2 m hE2 g22 g23 g24 hm hR hnf
                  refine v_aload_n F 0 dX8_next_100 rfl rfl rfl ?_
                  refine v_aload_n F 0 dX8_next_101 rfl rfl rfl ?_
                  refine m_get F G 22 (w := .int (s2 0 22)) (by decide) q1275 rfl dX8_next_102 rfl ?_
                  refine v_int F (g22) ?_
                  refine m_calli F G (cm_X8_byteAt G s2 m (pTx.eq hT (nEq.p hE2)) (by omega)) ok_X8_byteAt q1425 is_X8_byteAt rfl rfl dX8_next_105 rfl rfl ?_
                  intro u0 hu0; subst u0
                  refine v_i2l F dX8_next_108 rfl ?_
                  refine v_ldc2 F q1429 dX8_next_109 rfl ?_
                  refine v_lng (y := (97 : Int32).toInt64) F (by decide) ?_
                  refine v_ldc2 F q1430 dX8_next_112 rfl ?_
                  refine v_lng (y := (122 : Int32).toInt64) F (by decide) ?_
                  refine s_calli F G.1 (cm_X8_in G s2 (bA b z m) 97 122 ) ok_X8_in q1386 q1387 rfl rfl dX8_next_115 rfl rfl ?_
                  intro u0 hu0; subst u0
                  refine v_if_eqB (p := (97 ≤ (bA b z m) ∧ (bA b z m) ≤ 122)) (tgt := 321) (q := 121) F dX8_next_118 rfl rfl (fun c17 => ?_) (fun c17 => ?_)
                  · skip
                    exact v_retn F dX8_next_321 rfl (⟨hE2, by rw [(tok_word hk0 c4).1]; exact g23, by rw [hk0]; exact g24, by rw [(tok_word hk0 c4).2, hR, run_stop c17]; exact g22, fun h => absurd h (by rw [(tok_word hk0 c4).1]; decide)⟩)
                  · skip
                    refine v_aload_n F 0 dX8_next_121 rfl rfl rfl ?_
                    refine v_dup F dX8_next_122 rfl rfl ?_
                    refine m_get F G 22 (w := .int (s2 0 22)) (by decide) q1275 rfl dX8_next_123 rfl ?_
                    refine v_int F (g22) ?_
                    refine v_iconst (x := 1) F dX8_next_126 rfl (by decide) ?_
                    refine v_iaddN (a := m) (b := 1) F dX8_next_127 rfl ?_
                    refine m_put22 F G q1275 dX8_next_128 rfl ?_
                    refine v_goto (tgt := 100) F dX8_next_131 rfl ?_
                    exact ih100 (up s2 0 22 (nI (m + 1))) (m + 1) (nEq.u hE2 (by decide) _) rfl g23 g24 (by have := (run_step (by decide) c17).2; omega) (hR.trans (run_step (by decide) c17).1) (by have := (run_step (b := b) (z := z) (lo := 97) (hi := 122) (k := m) (by decide) (by assumption)).2; omega)
              refine v_sub (ls' := [(0, .ref (ad 0)), (1, .int (bA b z k))]) F [1, 0] rfl ?_
              exact L100 _ (up (up (up s 0 24 (nI k)) 0 23 4) 0 23 1) k (nEq.u (nEq.u (nEq.u hE (j := 24) (by decide) (nI k)) (j := 23) (by decide) 4) (j := 23) (by decide) 1) h22 rfl rfl hk rfl (Nat.lt_succ_self _)
          · skip
            refine v_aload_n F 1 dX8_next_65 rfl rfl rfl ?_
            refine v_iconst (x := 0) F dX8_next_66 rfl (by decide) ?_
            refine m_put23 F G q1276 dX8_next_67 rfl ?_
            refine v_aload_n F 1 dX8_next_70 rfl rfl rfl ?_
            refine v_aload_n F 1 dX8_next_71 rfl rfl rfl ?_
            refine m_get F G 21 (w := .int (s 0 21)) (by decide) q1274 rfl dX8_next_72 rfl ?_
            refine v_int F (h21) ?_
            refine m_put24 F G q1277 dX8_next_75 rfl ?_
            refine v_goto (tgt := 321) F dX8_next_78 rfl ?_
            exact v_retn F dX8_next_321 rfl (⟨(nEq.u (nEq.u (nEq.u (nEq.u hE (j := 24) (by decide) (nI k)) (j := 23) (by decide) 4) (j := 23) (by decide) 0) (j := 24) (by decide) (nI z)), by rw [(tok_end hk0 (fun j hj => (hT.2.2.2.2 j hj).2) hk c3).1]; rfl, by rw [hk0, (tok_end hk0 (fun j hj => (hT.2.2.2.2 j hj).2) hk c3).2.1]; rfl, by rw [(tok_end hk0 (fun j hj => (hT.2.2.2.2 j hj).2) hk c3).2.2]; exact h22, fun h => absurd h (by rw [(tok_end hk0 (fun j hj => (hT.2.2.2.2 j hj).2) hk c3).1]; decide)⟩)
        · skip
          refine v_aload_n F 0 dX8_next_26 rfl rfl rfl ?_
          refine v_dup F dX8_next_27 rfl rfl ?_
          refine m_get F G 22 (w := .int (s 0 22)) (by decide) q1275 rfl dX8_next_28 rfl ?_
          refine v_int F (h22) ?_
          refine v_iconst (x := 1) F dX8_next_31 rfl (by decide) ?_
          refine v_iaddN (a := k) (b := 1) F dX8_next_32 rfl ?_
          refine m_put22 F G q1275 dX8_next_33 rfl ?_
          refine v_goto (tgt := 0) F dX8_next_36 rfl ?_
          exact ih0 (up s 0 22 (nI (k + 1))) (k + 1) (nEq.u hE (by decide) _) rfl (by have := (tA_step (Or.inr c2)).2; omega) (hA.trans (tA_step (Or.inr c2)).1) (by have := (tA_step (b := b) (z := z) (k := k) (by first | exact Or.inl c1 | exact Or.inr c2)).2; omega)
  exact L0 _ σ i nEq.rf hh hi rfl (Nat.lt_succ_self _)
theorem ok_X8_fail : vv_oc yX8_fail 1 0 (ws_ yX8_fail cX8_fail 1 none) := vv_ok.oc (rt := none) ⟨q1448, q133, by decide +kernel, by decide +kernel⟩
theorem is_X8_fail : Cond.instanceMethod yX8_fail ∈ lw_all ∧ Cond.selects RX8 yX8_fail yX8_fail ∈ lw_all := ⟨q1447, qs58⟩
set_option maxHeartbeats 4000000 in
theorem cm_X8_fail {l : Launch} {Kf : State → Prop} {D : va_G} {ad : Nat → Nat} {cI cZ : ClassId} {A : Nat → Prop} (G : mG A Kf D cI cZ)  (σ : mS)  (hb : σ 0 27 = 0) : vv_Ct l yX8_fail (ws_ yX8_fail cX8_fail 1 none) (rm 0 0) Kf (mWd D ad cI cZ A) A [.ref (ad 0)] σ (vv_n (fun u => u = up (up σ 0 27 1) 0 28 (σ 0 24))) := by
  refine vv_of (by decide +kernel) (Nat.le_of_ble_eq_true rfl) ?_
  intro v (F : vv_F v l cX8_fail 1 RX8 "fail" none [] (rm 0 0) Kf (mWd D ad cI cZ A) A _)
  show v σ 0 0 0 [(0, .ref (ad 0))] []
  refine v_aload_n F 0 dX8_fail_0 rfl rfl rfl ?_
  refine m_get F G 27 (w := .int (σ 0 27)) (by decide) q1280 rfl dX8_fail_1 rfl ?_
  refine v_if_ne (tgt := 20) (q := 7) F dX8_fail_4 rfl rfl (fun c1 => ?_) (fun c1 => ?_)
  · skip
    exact absurd hb c1
  · skip
    refine v_aload_n F 0 dX8_fail_7 rfl rfl rfl ?_
    refine v_iconst (x := 1) F dX8_fail_8 rfl (by decide) ?_
    refine m_put27 F G q1280 (by decide) dX8_fail_9 rfl ?_
    refine v_aload_n F 0 dX8_fail_12 rfl rfl rfl ?_
    refine v_aload_n F 0 dX8_fail_13 rfl rfl rfl ?_
    refine m_get F G 24 (w := .int (σ 0 24)) (by decide) q1277 rfl dX8_fail_14 rfl ?_
    refine m_put28 F G q1281 dX8_fail_17 rfl ?_
    exact v_retn F dX8_fail_20 rfl (rfl)
set_option maxHeartbeats 4000000 in
theorem cm_X8_fail_b {l : Launch} {Kf : State → Prop} {D : va_G} {ad : Nat → Nat} {cI cZ : ClassId} {A : Nat → Prop} (G : mG A Kf D cI cZ)  (σ : mS)  (hb : σ 0 27 = 1) : vv_Ct l yX8_fail (ws_ yX8_fail cX8_fail 1 none) (rm 0 0) Kf (mWd D ad cI cZ A) A [.ref (ad 0)] σ (vv_n (fun u => u = σ)) := by
  refine vv_of (by decide +kernel) (Nat.le_of_ble_eq_true rfl) ?_
  intro v (F : vv_F v l cX8_fail 1 RX8 "fail" none [] (rm 0 0) Kf (mWd D ad cI cZ A) A _)
  show v σ 0 0 0 [(0, .ref (ad 0))] []
  refine v_aload_n F 0 dX8_fail_0 rfl rfl rfl ?_
  refine m_get F G 27 (w := .int (σ 0 27)) (by decide) q1280 rfl dX8_fail_1 rfl ?_
  refine v_if_ne (tgt := 20) (q := 7) F dX8_fail_4 rfl rfl (fun c1 => ?_) (fun c1 => ?_)
  · skip
    exact v_retn F dX8_fail_20 rfl (rfl)
  · skip
    exact absurd (hb.symm.trans c1) (by decide)
theorem ok_X8_isLetter : vv_oc yX8_isLetter 3 2 (ws_ yX8_isLetter cX8_isLetter 3 (some .boolean)) := vv_ok.oc (rt := (some .boolean)) ⟨q1440, q133, by decide +kernel, by decide +kernel⟩
theorem is_X8_isLetter : Cond.instanceMethod yX8_isLetter ∈ lw_all ∧ Cond.selects RX8 yX8_isLetter yX8_isLetter ∈ lw_all := ⟨q1439, qs56⟩
set_option maxHeartbeats 4000000 in
theorem cm_X8_isLetter {l : Launch} {Kf : State → Prop} {D : va_G} {ad : Nat → Nat} {cI cZ : ClassId} {A : Nat → Prop} (G : mG A Kf D cI cZ) {b : Nat → Int32} {z t i : Nat} (σ : mS) (k : Nat) (x : Int32) (hT : pTx b z t σ) (hA : pAt b z σ i) (hi : i ≤ z) (hk : k < 8) : vv_Ct l yX8_isLetter (ws_ yX8_isLetter cX8_isLetter 3 (some .boolean)) (rm 1 21) Kf (mWd D ad cI cZ A) A [.ref (ad 0), .int (nI k), .int x] σ (vv_i (bI (lt8 b z i k x)) (fun u => u = σ)) := by
  refine vv_of (by decide +kernel) (Nat.le_of_ble_eq_true rfl) ?_
  intro v (F : vv_F v l cX8_isLetter 3 RX8 "isLetter" (some .boolean) [] (rm 1 21) Kf (mWd D ad cI cZ A) A _)
  show v σ 0 0 0 [(0, .ref (ad 0)), (1, .int (nI k)), (2, .int x)] []
  have hz := hT.2.1
  have h24 := hA.2.1
  have h22 := hA.2.2.1
  have hl := tN_le (b := b) hi
  refine v_aload_n F 0 dX8_isLetter_0 rfl rfl rfl ?_
  refine m_get F G 24 (w := .int (σ 0 24)) (by decide) q1277 rfl dX8_isLetter_1 rfl ?_
  refine v_int F (h24) ?_
  refine v_iload_n F 1 dX8_isLetter_4 rfl rfl rfl ?_
  refine v_iaddN (a := tA b z i) (b := k) F dX8_isLetter_5 rfl ?_
  refine v_aload_n F 0 dX8_isLetter_6 rfl rfl rfl ?_
  refine m_get F G 22 (w := .int (σ 0 22)) (by decide) q1275 rfl dX8_isLetter_7 rfl ?_
  refine v_int F (h22) ?_
  refine v_icmp_geN (a := (tA b z i) + k) (b := tN b z i) (tgt := 35) (q := 13) F dX8_isLetter_10 rfl rfl (by omega) (by omega) (fun c1 => ?_) (fun c1 => ?_)
  · skip
    refine v_iload_n F 2 dX8_isLetter_35 rfl rfl rfl ?_
    refine v_if_ne (tgt := 43) (q := 39) F dX8_isLetter_36 rfl rfl (fun c2 => ?_) (fun c2 => ?_)
    · skip
      refine v_iconst (x := 0) F dX8_isLetter_43 rfl (by decide) ?_
      exact v_retz F dX8_isLetter_44 rfl ((bI_f (by unfold lt8; first | (rw [if_pos (by assumption)]; assumption) | (rw [if_neg (by omega)]; assumption))).symm) (rfl)
    · skip
      refine v_iconst (x := 1) F dX8_isLetter_39 rfl (by decide) ?_
      refine v_goto (tgt := 44) F dX8_isLetter_40 rfl ?_
      exact v_retz F dX8_isLetter_44 rfl ((bI_t (by unfold lt8; first | (rw [if_pos (by assumption)]; assumption) | (rw [if_neg (by omega)]; assumption))).symm) (rfl)
  · skip
    refine v_aload_n F 0 dX8_isLetter_13 rfl rfl rfl ?_
    refine v_aload_n F 0 dX8_isLetter_14 rfl rfl rfl ?_
    refine m_get F G 24 (w := .int (σ 0 24)) (by decide) q1277 rfl dX8_isLetter_15 rfl ?_
    refine v_int F (h24) ?_
    refine v_iload_n F 1 dX8_isLetter_18 rfl rfl rfl ?_
    refine v_iaddN (a := tA b z i) (b := k) F dX8_isLetter_19 rfl ?_
    refine m_calli F G (cm_X8_byteAt G σ ((tA b z i) + k) hT (by omega)) ok_X8_byteAt q1425 is_X8_byteAt rfl rfl dX8_isLetter_20 rfl rfl ?_
    intro u0 hu0; subst u0
    refine v_iload_n F 2 dX8_isLetter_23 rfl rfl rfl ?_
    refine v_icmp_ne (tgt := 31) (q := 27) F dX8_isLetter_24 rfl rfl (fun c3 => ?_) (fun c3 => ?_)
    · skip
      refine v_iconst (x := 0) F dX8_isLetter_31 rfl (by decide) ?_
      refine v_goto (tgt := 44) F dX8_isLetter_32 rfl ?_
      exact v_retz F dX8_isLetter_44 rfl ((bI_f (by unfold lt8; first | (rw [if_pos (by assumption)]; assumption) | (rw [if_neg (by omega)]; assumption))).symm) (rfl)
    · skip
      refine v_iconst (x := 1) F dX8_isLetter_27 rfl (by decide) ?_
      refine v_goto (tgt := 44) F dX8_isLetter_28 rfl ?_
      exact v_retz F dX8_isLetter_44 rfl ((bI_t (by unfold lt8; first | (rw [if_pos (by assumption)]; assumption) | (rw [if_neg (by omega)]; assumption))).symm) (rfl)
theorem ok_X8_isWord : vv_oc yX8_isWord 9 8 (ws_ yX8_isWord cX8_isWord 9 (some .boolean)) := vv_ok.oc (rt := (some .boolean)) ⟨q1436, q133, by decide +kernel, by decide +kernel⟩
theorem is_X8_isWord : Cond.instanceMethod yX8_isWord ∈ lw_all ∧ Cond.selects RX8 yX8_isWord yX8_isWord ∈ lw_all := ⟨q1435, qs55⟩
set_option maxHeartbeats 4000000 in
theorem cm_X8_isWord {l : Launch} {Kf : State → Prop} {D : va_G} {ad : Nat → Nat} {cI cZ : ClassId} {A : Nat → Prop} (G : mG A Kf D cI cZ) {b : Nat → Int32} {z t i : Nat} (σ : mS) (xa : Int32) (xb : Int32) (xc : Int32) (xd : Int32) (xe : Int32) (xf : Int32) (xg : Int32) (xh : Int32) (hT : pTx b z t σ) (hA : pAt b z σ i) (hi : i ≤ z) (hb : σ 0 27 = 0) : vv_Ct l yX8_isWord (ws_ yX8_isWord cX8_isWord 9 (some .boolean)) (rm 2 43) Kf (mWd D ad cI cZ A) A [.ref (ad 0), .int xa, .int xb, .int xc, .int xd, .int xe, .int xf, .int xg, .int xh] σ (vv_i (bI (wd b z i xa xb xc xd xe xf xg xh)) (fun u => u = σ)) := by
  refine vv_of (by decide +kernel) (Nat.le_of_ble_eq_true rfl) ?_
  intro v (F : vv_F v l cX8_isWord 9 RX8 "isWord" (some .boolean) [] (rm 2 43) Kf (mWd D ad cI cZ A) A _)
  show v σ 0 0 0 [(0, .ref (ad 0)), (1, .int xa), (2, .int xb), (3, .int xc), (4, .int xd), (5, .int xe), (6, .int xf), (7, .int xg), (8, .int xh)] []
  have hz := hT.2.1
  have h23 := hA.1
  have h24 := hA.2.1
  have h22 := hA.2.2.1
  have hl := tN_le (b := b) hi
  refine v_aload_n F 0 dX8_isWord_0 rfl rfl rfl ?_
  refine m_get F G 27 (w := .int (σ 0 27)) (by decide) q1280 rfl dX8_isWord_1 rfl ?_
  refine v_if_ne (tgt := 112) (q := 7) F dX8_isWord_4 rfl rfl (fun c1 => ?_) (fun c1 => ?_)
  · skip
    exact absurd hb c1
  · skip
    refine v_aload_n F 0 dX8_isWord_7 rfl rfl rfl ?_
    refine m_get F G 23 (w := .int (σ 0 23)) (by decide) q1276 rfl dX8_isWord_8 rfl ?_
    refine v_iconst (x := 1) F dX8_isWord_11 rfl (by decide) ?_
    refine v_icmp_ne (tgt := 112) (q := 15) F dX8_isWord_12 rfl rfl (fun c2 => ?_) (fun c2 => ?_)
    · skip
      refine v_iconst (x := 0) F dX8_isWord_112 rfl (by decide) ?_
      exact v_retz F dX8_isWord_113 rfl ((bI_f (fun h => c2 (h23.trans h.1))).symm) (rfl)
    · skip
      refine v_aload_n F 0 dX8_isWord_15 rfl rfl rfl ?_
      refine m_get F G 22 (w := .int (σ 0 22)) (by decide) q1275 rfl dX8_isWord_16 rfl ?_
      refine v_int F (h22) ?_
      refine v_aload_n F 0 dX8_isWord_19 rfl rfl rfl ?_
      refine m_get F G 24 (w := .int (σ 0 24)) (by decide) q1277 rfl dX8_isWord_20 rfl ?_
      refine v_int F (h24) ?_
      refine v_bipush (x := 8) F dX8_isWord_23 rfl (by decide) ?_
      refine v_iaddN (a := tA b z i) (b := 8) F dX8_isWord_25 rfl ?_
      refine v_icmp_gtN (a := tN b z i) (b := (tA b z i) + 8) (tgt := 112) (q := 29) F dX8_isWord_26 rfl rfl (by omega) (by omega) (fun c3 => ?_) (fun c3 => ?_)
      · skip
        refine v_iconst (x := 0) F dX8_isWord_112 rfl (by decide) ?_
        exact v_retz F dX8_isWord_113 rfl ((bI_f (fun h => by have := h.2.1; omega)).symm) (rfl)
      · skip
        refine v_aload_n F 0 dX8_isWord_29 rfl rfl rfl ?_
        refine v_iconst (x := 0) F dX8_isWord_30 rfl (by decide) ?_
        refine v_iload_n F 1 dX8_isWord_31 rfl rfl rfl ?_
        refine m_calli F G (cm_X8_isLetter G σ 0 xa hT hA hi (by decide)) ok_X8_isLetter q1437 is_X8_isLetter rfl rfl dX8_isWord_32 rfl rfl ?_
        intro u0 hu0; subst u0
        refine v_if_eqB (p := (lt8 b z i 0 xa)) (tgt := 112) (q := 38) F dX8_isWord_35 rfl rfl (fun c4 => ?_) (fun c4 => ?_)
        · skip
          refine v_iconst (x := 0) F dX8_isWord_112 rfl (by decide) ?_
          exact v_retz F dX8_isWord_113 rfl ((bI_f (fun h => c4 h.2.2.1)).symm) (rfl)
        · skip
          refine v_aload_n F 0 dX8_isWord_38 rfl rfl rfl ?_
          refine v_iconst (x := 1) F dX8_isWord_39 rfl (by decide) ?_
          refine v_iload_n F 2 dX8_isWord_40 rfl rfl rfl ?_
          refine m_calli F G (cm_X8_isLetter G σ 1 xb hT hA hi (by decide)) ok_X8_isLetter q1437 is_X8_isLetter rfl rfl dX8_isWord_41 rfl rfl ?_
          intro u0 hu0; subst u0
          refine v_if_eqB (p := (lt8 b z i 1 xb)) (tgt := 112) (q := 47) F dX8_isWord_44 rfl rfl (fun c5 => ?_) (fun c5 => ?_)
          · skip
            refine v_iconst (x := 0) F dX8_isWord_112 rfl (by decide) ?_
            exact v_retz F dX8_isWord_113 rfl ((bI_f (fun h => c5 h.2.2.2.1)).symm) (rfl)
          · skip
            refine v_aload_n F 0 dX8_isWord_47 rfl rfl rfl ?_
            refine v_iconst (x := 2) F dX8_isWord_48 rfl (by decide) ?_
            refine v_iload_n F 3 dX8_isWord_49 rfl rfl rfl ?_
            refine m_calli F G (cm_X8_isLetter G σ 2 xc hT hA hi (by decide)) ok_X8_isLetter q1437 is_X8_isLetter rfl rfl dX8_isWord_50 rfl rfl ?_
            intro u0 hu0; subst u0
            refine v_if_eqB (p := (lt8 b z i 2 xc)) (tgt := 112) (q := 56) F dX8_isWord_53 rfl rfl (fun c6 => ?_) (fun c6 => ?_)
            · skip
              refine v_iconst (x := 0) F dX8_isWord_112 rfl (by decide) ?_
              exact v_retz F dX8_isWord_113 rfl ((bI_f (fun h => c6 h.2.2.2.2.1)).symm) (rfl)
            · skip
              refine v_aload_n F 0 dX8_isWord_56 rfl rfl rfl ?_
              refine v_iconst (x := 3) F dX8_isWord_57 rfl (by decide) ?_
              refine v_iload F 4 dX8_isWord_58 rfl rfl ?_
              refine m_calli F G (cm_X8_isLetter G σ 3 xd hT hA hi (by decide)) ok_X8_isLetter q1437 is_X8_isLetter rfl rfl dX8_isWord_60 rfl rfl ?_
              intro u0 hu0; subst u0
              refine v_if_eqB (p := (lt8 b z i 3 xd)) (tgt := 112) (q := 66) F dX8_isWord_63 rfl rfl (fun c7 => ?_) (fun c7 => ?_)
              · skip
                refine v_iconst (x := 0) F dX8_isWord_112 rfl (by decide) ?_
                exact v_retz F dX8_isWord_113 rfl ((bI_f (fun h => c7 h.2.2.2.2.2.1)).symm) (rfl)
              · skip
                refine v_aload_n F 0 dX8_isWord_66 rfl rfl rfl ?_
                refine v_iconst (x := 4) F dX8_isWord_67 rfl (by decide) ?_
                refine v_iload F 5 dX8_isWord_68 rfl rfl ?_
                refine m_calli F G (cm_X8_isLetter G σ 4 xe hT hA hi (by decide)) ok_X8_isLetter q1437 is_X8_isLetter rfl rfl dX8_isWord_70 rfl rfl ?_
                intro u0 hu0; subst u0
                refine v_if_eqB (p := (lt8 b z i 4 xe)) (tgt := 112) (q := 76) F dX8_isWord_73 rfl rfl (fun c8 => ?_) (fun c8 => ?_)
                · skip
                  refine v_iconst (x := 0) F dX8_isWord_112 rfl (by decide) ?_
                  exact v_retz F dX8_isWord_113 rfl ((bI_f (fun h => c8 h.2.2.2.2.2.2.1)).symm) (rfl)
                · skip
                  refine v_aload_n F 0 dX8_isWord_76 rfl rfl rfl ?_
                  refine v_iconst (x := 5) F dX8_isWord_77 rfl (by decide) ?_
                  refine v_iload F 6 dX8_isWord_78 rfl rfl ?_
                  refine m_calli F G (cm_X8_isLetter G σ 5 xf hT hA hi (by decide)) ok_X8_isLetter q1437 is_X8_isLetter rfl rfl dX8_isWord_80 rfl rfl ?_
                  intro u0 hu0; subst u0
                  refine v_if_eqB (p := (lt8 b z i 5 xf)) (tgt := 112) (q := 86) F dX8_isWord_83 rfl rfl (fun c9 => ?_) (fun c9 => ?_)
                  · skip
                    refine v_iconst (x := 0) F dX8_isWord_112 rfl (by decide) ?_
                    exact v_retz F dX8_isWord_113 rfl ((bI_f (fun h => c9 h.2.2.2.2.2.2.2.1)).symm) (rfl)
                  · skip
                    refine v_aload_n F 0 dX8_isWord_86 rfl rfl rfl ?_
                    refine v_bipush (x := 6) F dX8_isWord_87 rfl (by decide) ?_
                    refine v_iload F 7 dX8_isWord_89 rfl rfl ?_
                    refine m_calli F G (cm_X8_isLetter G σ 6 xg hT hA hi (by decide)) ok_X8_isLetter q1437 is_X8_isLetter rfl rfl dX8_isWord_91 rfl rfl ?_
                    intro u0 hu0; subst u0
                    refine v_if_eqB (p := (lt8 b z i 6 xg)) (tgt := 112) (q := 97) F dX8_isWord_94 rfl rfl (fun c10 => ?_) (fun c10 => ?_)
                    · skip
                      refine v_iconst (x := 0) F dX8_isWord_112 rfl (by decide) ?_
                      exact v_retz F dX8_isWord_113 rfl ((bI_f (fun h => c10 h.2.2.2.2.2.2.2.2.1)).symm) (rfl)
                    · skip
                      refine v_aload_n F 0 dX8_isWord_97 rfl rfl rfl ?_
                      refine v_bipush (x := 7) F dX8_isWord_98 rfl (by decide) ?_
                      refine v_iload F 8 dX8_isWord_100 rfl rfl ?_
                      refine m_calli F G (cm_X8_isLetter G σ 7 xh hT hA hi (by decide)) ok_X8_isLetter q1437 is_X8_isLetter rfl rfl dX8_isWord_102 rfl rfl ?_
                      intro u0 hu0; subst u0
                      refine v_if_eqB (p := (lt8 b z i 7 xh)) (tgt := 112) (q := 108) F dX8_isWord_105 rfl rfl (fun c11 => ?_) (fun c11 => ?_)
                      · skip
                        refine v_iconst (x := 0) F dX8_isWord_112 rfl (by decide) ?_
                        exact v_retz F dX8_isWord_113 rfl ((bI_f (fun h => c11 h.2.2.2.2.2.2.2.2.2)).symm) (rfl)
                      · skip
                        refine v_iconst (x := 1) F dX8_isWord_108 rfl (by decide) ?_
                        refine v_goto (tgt := 113) F dX8_isWord_109 rfl ?_
                        exact v_retz F dX8_isWord_113 rfl ((bI_t ⟨h23.symm.trans c2, by omega, c4, c5, c6, c7, c8, c9, c10, c11⟩).symm) (rfl)
set_option maxHeartbeats 4000000 in
theorem cm_X8_isWord_b {l : Launch} {Kf : State → Prop} {D : va_G} {ad : Nat → Nat} {cI cZ : ClassId} {A : Nat → Prop} (G : mG A Kf D cI cZ)  (σ : mS) (xa : Int32) (xb : Int32) (xc : Int32) (xd : Int32) (xe : Int32) (xf : Int32) (xg : Int32) (xh : Int32) (hb : σ 0 27 = 1) : vv_Ct l yX8_isWord (ws_ yX8_isWord cX8_isWord 9 (some .boolean)) (rm 2 43) Kf (mWd D ad cI cZ A) A [.ref (ad 0), .int xa, .int xb, .int xc, .int xd, .int xe, .int xf, .int xg, .int xh] σ (vv_i (bI False) (fun u => u = σ)) := by
  refine vv_of (by decide +kernel) (Nat.le_of_ble_eq_true rfl) ?_
  intro v (F : vv_F v l cX8_isWord 9 RX8 "isWord" (some .boolean) [] (rm 2 43) Kf (mWd D ad cI cZ A) A _)
  show v σ 0 0 0 [(0, .ref (ad 0)), (1, .int xa), (2, .int xb), (3, .int xc), (4, .int xd), (5, .int xe), (6, .int xf), (7, .int xg), (8, .int xh)] []
  refine v_aload_n F 0 dX8_isWord_0 rfl rfl rfl ?_
  refine m_get F G 27 (w := .int (σ 0 27)) (by decide) q1280 rfl dX8_isWord_1 rfl ?_
  refine v_if_ne (tgt := 112) (q := 7) F dX8_isWord_4 rfl rfl (fun c1 => ?_) (fun c1 => ?_)
  · skip
    refine v_iconst (x := 0) F dX8_isWord_112 rfl (by decide) ?_
    exact v_retz F dX8_isWord_113 rfl (rfl) (rfl)
  · skip
    exact absurd (hb.symm.trans c1) (by decide)
theorem ok_X8_isSign : vv_oc yX8_isSign 2 1 (ws_ yX8_isSign cX8_isSign 2 (some .boolean)) := vv_ok.oc (rt := (some .boolean)) ⟨q1500, q133, by decide +kernel, by decide +kernel⟩
theorem is_X8_isSign : Cond.instanceMethod yX8_isSign ∈ lw_all ∧ Cond.selects RX8 yX8_isSign yX8_isSign ∈ lw_all := ⟨q1499, qs71⟩
set_option maxHeartbeats 4000000 in
theorem cm_X8_isSign {l : Launch} {Kf : State → Prop} {D : va_G} {ad : Nat → Nat} {cI cZ : ClassId} {A : Nat → Prop} (G : mG A Kf D cI cZ) {b : Nat → Int32} {z i : Nat} (σ : mS) (x : Int32) (hA : pAt b z σ i) (hb : σ 0 27 = 0) : vv_Ct l yX8_isSign (ws_ yX8_isSign cX8_isSign 2 (some .boolean)) (rm 0 0) Kf (mWd D ad cI cZ A) A [.ref (ad 0), .int x] σ (vv_i (bI (sg b z i x)) (fun u => u = σ)) := by
  refine vv_of (by decide +kernel) (Nat.le_of_ble_eq_true rfl) ?_
  intro v (F : vv_F v l cX8_isSign 2 RX8 "isSign" (some .boolean) [] (rm 0 0) Kf (mWd D ad cI cZ A) A _)
  show v σ 0 0 0 [(0, .ref (ad 0)), (1, .int x)] []
  have h23 := hA.1
  have h25 := hA.2.2.2
  refine v_aload_n F 0 dX8_isSign_0 rfl rfl rfl ?_
  refine m_get F G 27 (w := .int (σ 0 27)) (by decide) q1280 rfl dX8_isSign_1 rfl ?_
  refine v_if_ne (tgt := 29) (q := 7) F dX8_isSign_4 rfl rfl (fun c1 => ?_) (fun c1 => ?_)
  · skip
    exact absurd hb c1
  · skip
    refine v_aload_n F 0 dX8_isSign_7 rfl rfl rfl ?_
    refine m_get F G 23 (w := .int (σ 0 23)) (by decide) q1276 rfl dX8_isSign_8 rfl ?_
    refine v_iconst (x := 3) F dX8_isSign_11 rfl (by decide) ?_
    refine v_icmp_ne (tgt := 29) (q := 15) F dX8_isSign_12 rfl rfl (fun c2 => ?_) (fun c2 => ?_)
    · skip
      refine v_iconst (x := 0) F dX8_isSign_29 rfl (by decide) ?_
      exact v_retz F dX8_isSign_30 rfl ((bI_f (fun h => c2 (h23.trans h.1))).symm) (rfl)
    · skip
      refine v_aload_n F 0 dX8_isSign_15 rfl rfl rfl ?_
      refine m_get F G 25 (w := .long (Int32.toInt64 (σ 0 25))) (by decide) q1278 rfl dX8_isSign_16 rfl ?_
      refine v_iload_n F 1 dX8_isSign_19 rfl rfl rfl ?_
      refine v_i2l F dX8_isSign_20 rfl ?_
      refine v_lcmp F dX8_isSign_21 rfl ?_
      refine v_if_neLI (tgt := 29) (q := 25) F dX8_isSign_22 rfl rfl (fun c3 => ?_) (fun c3 => ?_)
      · skip
        refine v_iconst (x := 0) F dX8_isSign_29 rfl (by decide) ?_
        exact v_retz F dX8_isSign_30 rfl ((bI_f (fun h => c3 ((h25 (Or.inr (h23.symm.trans c2))).trans h.2))).symm) (rfl)
      · skip
        refine v_iconst (x := 1) F dX8_isSign_25 rfl (by decide) ?_
        refine v_goto (tgt := 30) F dX8_isSign_26 rfl ?_
        exact v_retz F dX8_isSign_30 rfl ((bI_t ⟨h23.symm.trans c2, (h25 (Or.inr (h23.symm.trans c2))).symm.trans c3⟩).symm) (rfl)
set_option maxHeartbeats 4000000 in
theorem cm_X8_isSign_b {l : Launch} {Kf : State → Prop} {D : va_G} {ad : Nat → Nat} {cI cZ : ClassId} {A : Nat → Prop} (G : mG A Kf D cI cZ)  (σ : mS) (x : Int32) (hb : σ 0 27 = 1) : vv_Ct l yX8_isSign (ws_ yX8_isSign cX8_isSign 2 (some .boolean)) (rm 0 0) Kf (mWd D ad cI cZ A) A [.ref (ad 0), .int x] σ (vv_i (bI False) (fun u => u = σ)) := by
  refine vv_of (by decide +kernel) (Nat.le_of_ble_eq_true rfl) ?_
  intro v (F : vv_F v l cX8_isSign 2 RX8 "isSign" (some .boolean) [] (rm 0 0) Kf (mWd D ad cI cZ A) A _)
  show v σ 0 0 0 [(0, .ref (ad 0)), (1, .int x)] []
  refine v_aload_n F 0 dX8_isSign_0 rfl rfl rfl ?_
  refine m_get F G 27 (w := .int (σ 0 27)) (by decide) q1280 rfl dX8_isSign_1 rfl ?_
  refine v_if_ne (tgt := 29) (q := 7) F dX8_isSign_4 rfl rfl (fun c1 => ?_) (fun c1 => ?_)
  · skip
    refine v_iconst (x := 0) F dX8_isSign_29 rfl (by decide) ?_
    exact v_retz F dX8_isSign_30 rfl (rfl) (rfl)
  · skip
    exact absurd (hb.symm.trans c1) (by decide)
