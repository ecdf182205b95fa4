set_option maxRecDepth 100000
def trV (β : mS) (w : Int32) : Int32 := if w = 0 then allV β else if w = 1 then bloV β else if w = 2 then lefN β (tn (β 0 13)) else heiN β (tn (β 0 13))
theorem tel_tr {β : mS} {k : Nat} (h : k < 4) : trV β (nI k) = telV β k := by
  unfold trV telV
  rw [if_pos h]
  rcases (show k = 0 ∨ k = 1 ∨ k = 2 ∨ k = 3 by omega) with rfl | rfl | rfl | rfl
  · rw [if_pos (by decide), if_pos rfl]
  · rw [if_neg (by decide), if_pos (by decide), if_neg (by decide), if_pos rfl]
  · rw [if_neg (by decide), if_neg (by decide), if_pos (by decide), if_neg (by decide), if_neg (by decide), if_pos rfl]
  · rw [if_neg (by decide), if_neg (by decide), if_neg (by decide), if_neg (by decide), if_neg (by decide), if_neg (by decide)]
section HB
variable {β : mS} {p m : Nat} {x : Int32}
theorem heb_1 (hx : x = heiN β p) (c : x = -1) : nI p = heiN β (p + 1) := by
  show _ = (if heiN β p = -1 ∨ _ then _ else _)
  rw [← hx, if_pos (Or.inl c)]
theorem heb_2 (hx : x = heiN β p) (hm : x = nI m) (h : m < 2 ^ 31) (c : ¬ β 12 (3 * p + 2) ≤ β 12 (3 * m + 2)) : nI p = heiN β (p + 1) := by
  show _ = (if heiN β p = -1 ∨ β 12 (3 * tn (heiN β p) + 2) < β 12 (3 * p + 2) then _ else _)
  rw [← hx, hm, tn_nI h, if_pos (Or.inr (Int32.not_le.mp c))]
theorem heb_3 (hx : x = heiN β p) (hm : x = nI m) (h : m < 2 ^ 31) (c : β 12 (3 * p + 2) ≤ β 12 (3 * m + 2)) : x = heiN β (p + 1) := by
  show _ = (if heiN β p = -1 ∨ β 12 (3 * tn (heiN β p) + 2) < β 12 (3 * p + 2) then _ else _)
  rw [← hx, if_neg]
  rintro (g | g)
  · rw [hm] at g; exact absurd g (nI_m1 h)
  · rw [hm, tn_nI h] at g; exact absurd c (Int32.not_le.mpr g)
theorem lef_s {y : Int32} (hy : y = lefN β p) (c : β 12 (3 * p + 2) ≤ 0) : y + 0 = lefN β (p + 1) := by
  show _ = lefN β p + (if _ then _ else _)
  rw [if_pos c, hy]
theorem lef_f {y : Int32} (hy : y = lefN β p) (c : ¬ β 12 (3 * p + 2) ≤ 0) : y + 1 = lefN β (p + 1) := by
  show _ = lefN β p + (if _ then _ else _)
  rw [if_neg c, hy]
end HB
theorem ok_X0_toldRun : vv_oc yX0_toldRun 8 2 (ws_ yX0_toldRun cX0_toldRun 8 (some .int)) := vv_ok.oc (rt := (some .int)) ⟨q960, q116, by decide +kernel, by decide +kernel⟩
theorem is_X0_toldRun : Cond.instanceMethod yX0_toldRun ∈ lw_all ∧ Cond.selects RX0 yX0_toldRun yX0_toldRun ∈ lw_all := ⟨q959, qs34⟩
set_option maxHeartbeats 4000000 in
theorem cc_X0_toldRun {l : Launch} {Kf : State → Prop} {D : va_G} {K : Nat → ClassId} {fv : List Value × (Nat → Nat)} {A : Nat → Prop} (G : cG A fv cIm Kf D K) {β : mS} (n : mS) (δ : Nat → Nat) (ν : Nat → Option (Mg × Nat)) (m : Nat) (w : Int32) (hok : cOk n) (hm : m ≤ 30) (hβ : yrs (cab n) m = β) (hR : runD (cab n) n m) : vv_Ct l yX0_toldRun (ws_ yX0_toldRun cX0_toldRun 8 (some .int)) (rm 0 0) Kf (cWd D K fv A) A [.ref (δ 0), .int (nI m), .int w] (n, δ, ν) (vv_i (trV β w) (fun u => u = (n, δ, ν))) := by
  refine vv_of (by decide +kernel) (Nat.le_of_ble_eq_true rfl) ?_
  intro v (F : vv_F v l cX0_toldRun 8 RX0 "toldRun" (some .int) [] (rm 0 0) Kf (cWd D K fv A) A _)
  show v (n, δ, ν) 0 0 0 [(0, .ref (δ 0)), (1, .int (nI m)), (2, .int w)] []
  have hM := hok.m
  have h8 := hok.m8
  have hbM : tn (β 0 13) = tn (n 0 13) := by rw [← hβ, yrs_13]; rfl
  have hb51 : n 51 m = bloV β := by rw [← hβ]; exact (hR.1 m (Nat.le_refl _)).1
  have hbb : ∀ p, p < tn (n 0 13) → n (70 + m) p = β 12 (3 * p + 2) := fun p hp => by rw [← hβ]; exact (hR.1 m (Nat.le_refl _)).2.2 p hp
  refine v_iconst (x := 0) F dX0_toldRun_0 rfl (by decide) ?_
  refine v_istore_n (ls' := [(3, .int 0), (0, .ref (δ 0)), (1, .int (nI m)), (2, .int w)]) F dX0_toldRun_1 rfl rfl (by decide) rfl ?_
  refine v_iconst (x := 0) F dX0_toldRun_2 rfl (by decide) ?_
  refine v_istore (ls' := [(4, .int 0), (3, .int 0), (0, .ref (δ 0)), (1, .int (nI m)), (2, .int w)]) F dX0_toldRun_3 rfl (by decide) rfl ?_
  refine v_iconst (x := (-1)) F dX0_toldRun_5 rfl (by decide) ?_
  refine v_istore (ls' := [(5, .int (-1)), (4, .int 0), (3, .int 0), (0, .ref (δ 0)), (1, .int (nI m)), (2, .int w)]) F dX0_toldRun_6 rfl (by decide) rfl ?_
  refine v_iconst (x := 0) F dX0_toldRun_8 rfl (by decide) ?_
  refine v_istore (ls' := [(6, .int 0), (5, .int (-1)), (4, .int 0), (3, .int 0), (0, .ref (δ 0)), (1, .int (nI m)), (2, .int w)]) F dX0_toldRun_9 rfl (by decide) rfl ?_
  have L11 : ∀ (nf : Nat) (p : Nat) (y : Int32) (x : Int32) (hpM : p ≤ tn (n 0 13)) (hy : y = lefN β p) (hx : x = heiN β p) (hxk : x = -1 ∨ ∃ j, j < p ∧ x = nI j) (hnf : tn (n 0 13) - p < nf), v (n, δ, ν) 0 0 11 [(0, .ref (δ 0)), (1, .int (nI m)), (2, .int w), (3, .int (sumN (fun p => β 12 (3 * p + 2)) p)), (4, .int y), (5, .int x), (6, .int (nI p))] [] := by
    intro nf
    induction nf with
    | zero => intro p y x hpM hy hx hxk hnf; exact absurd hnf (Nat.not_lt_zero _)
    | succ nf ih11 =>
      intro p y x hpM hy hx hxk hnf
      refine v_iload F 6 dX0_toldRun_11 rfl rfl ?_
      refine v_aload_n F 0 dX0_toldRun_13 rfl rfl rfl ?_
      refine c_get F G 1 (w := .int (n 0 13)) (by decide) q798 rfl dX0_toldRun_14 rfl ?_
      refine v_int F (hM) ?_
      refine v_icmp_geN (a := p) (b := tn (n 0 13)) (tgt := 86) (q := 20) F dX0_toldRun_17 rfl rfl (by omega) (by omega) (fun c1 => ?_) (fun c1 => ?_)
      · skip
        refine v_iload_n F 2 dX0_toldRun_86 rfl rfl rfl ?_
        refine v_if_ne (tgt := 94) (q := 90) F dX0_toldRun_87 rfl rfl (fun c2 => ?_) (fun c2 => ?_)
        · skip
          refine v_iload_n F 2 dX0_toldRun_94 rfl rfl rfl ?_
          refine v_iconst (x := 1) F dX0_toldRun_95 rfl (by decide) ?_
          refine v_icmp_ne (tgt := 108) (q := 99) F dX0_toldRun_96 rfl rfl (fun c3 => ?_) (fun c3 => ?_)
          · skip
            refine v_iload_n F 2 dX0_toldRun_108 rfl rfl rfl ?_
            refine v_iconst (x := 2) F dX0_toldRun_109 rfl (by decide) ?_
            refine v_icmp_ne (tgt := 118) (q := 113) F dX0_toldRun_110 rfl rfl (fun c4 => ?_) (fun c4 => ?_)
            · skip
              refine v_iload F 5 dX0_toldRun_118 rfl rfl ?_
              exact v_reti F dX0_toldRun_120 rfl (by unfold trV; rw [if_neg c2, if_neg c3, if_neg c4]; rw [hbM, ← show p = tn (n 0 13) by omega]; exact hx) (rfl)
            · skip
              refine v_iload F 4 dX0_toldRun_113 rfl rfl ?_
              refine v_goto (tgt := 120) F dX0_toldRun_115 rfl ?_
              exact v_reti F dX0_toldRun_120 rfl (by unfold trV; rw [if_neg c2, if_neg c3, if_pos c4]; rw [hbM, ← show p = tn (n 0 13) by omega]; exact hy) (rfl)
          · skip
            refine v_aload_n F 0 dX0_toldRun_99 rfl rfl rfl ?_
            refine c_get F G 23 (w := .ref (δ 23)) (by decide) q824 rfl dX0_toldRun_100 rfl ?_
            refine v_iload_n F 1 dX0_toldRun_103 rfl rfl rfl ?_
            refine c_ald (t := m) F G 23 51 31 (fun _ => rfl) (by unfold rowO; omega) (by omega) (by decide) dX0_toldRun_104 rfl ?_
            refine v_int F hb51 ?_
            refine v_goto (tgt := 120) F dX0_toldRun_105 rfl ?_
            exact v_reti F dX0_toldRun_120 rfl (by unfold trV; rw [if_neg c2, if_pos c3]) (rfl)
        · skip
          refine v_iload_n F 3 dX0_toldRun_90 rfl rfl rfl ?_
          refine v_goto (tgt := 120) F dX0_toldRun_91 rfl ?_
          exact v_reti F dX0_toldRun_120 rfl (by unfold trV; rw [if_pos c2]; show _ = sumN _ (tn (β 0 13)); rw [hbM, show p = tn (n 0 13) by omega]) (rfl)
      · skip
        refine v_aload_n F 0 dX0_toldRun_20 rfl rfl rfl ?_
        refine c_get F G 22 (w := .ref (δ 22)) (by decide) q823 rfl dX0_toldRun_21 rfl ?_
        refine v_iload_n F 1 dX0_toldRun_24 rfl rfl rfl ?_
        refine c_behind (t := m) F G (by omega) dX0_toldRun_25 rfl ?_
        refine v_iload F 6 dX0_toldRun_26 rfl rfl ?_
        refine c_bld (t := m) (i := p) F G (by omega) (by omega) dX0_toldRun_28 rfl ?_
        refine v_int F (hbb p (by omega)) ?_
        refine v_istore (ls' := [(7, .int (β 12 (3 * p + 2))), (0, .ref (δ 0)), (1, .int (nI m)), (2, .int w), (3, .int (sumN (fun p => β 12 (3 * p + 2)) p)), (4, .int y), (5, .int x), (6, .int (nI p))]) F dX0_toldRun_29 rfl (by decide) rfl ?_
        refine v_iload_n F 4 dX0_toldRun_31 rfl rfl rfl ?_
        refine v_iload F 0 dX0_toldRun_32 rfl rfl ?_
        refine v_iadd F dX0_toldRun_34 rfl ?_
        refine v_istore_n (ls' := [(3, .int ((sumN (fun p => β 12 (3 * p + 2)) p) + (β 12 (3 * p + 2)))), (7, .int (β 12 (3 * p + 2))), (0, .ref (δ 0)), (1, .int (nI m)), (2, .int w), (4, .int y), (5, .int x), (6, .int (nI p))]) F dX0_toldRun_35 rfl rfl (by decide) rfl ?_
        refine v_iload F 5 dX0_toldRun_36 rfl rfl ?_
        refine v_iload F 1 dX0_toldRun_38 rfl rfl ?_
        refine v_if_le (tgt := 47) (q := 43) F dX0_toldRun_40 rfl rfl (fun c5 => ?_) (fun c5 => ?_)
        · skip
          refine v_iconst (x := 0) F dX0_toldRun_47 rfl (by decide) ?_
          refine v_iadd F dX0_toldRun_48 rfl ?_
          refine v_istore (ls' := [(4, .int (y + 0)), (3, .int ((sumN (fun p => β 12 (3 * p + 2)) p) + (β 12 (3 * p + 2)))), (7, .int (β 12 (3 * p + 2))), (0, .ref (δ 0)), (1, .int (nI m)), (2, .int w), (5, .int x), (6, .int (nI p))]) F dX0_toldRun_49 rfl (by decide) rfl ?_
          refine v_iload F 6 dX0_toldRun_51 rfl rfl ?_
          refine v_iconst (x := (-1)) F dX0_toldRun_53 rfl (by decide) ?_
          refine v_icmp_eq (tgt := 71) (q := 57) F dX0_toldRun_54 rfl rfl (fun c6 => ?_) (fun c6 => ?_)
          · skip
            refine v_iload F 7 dX0_toldRun_71 rfl rfl ?_
            refine v_goto (tgt := 78) F dX0_toldRun_73 rfl ?_
            refine v_istore (ls' := [(5, .int (nI p)), (4, .int (y + 0)), (3, .int ((sumN (fun p => β 12 (3 * p + 2)) p) + (β 12 (3 * p + 2)))), (7, .int (β 12 (3 * p + 2))), (0, .ref (δ 0)), (1, .int (nI m)), (2, .int w), (6, .int (nI p))]) F dX0_toldRun_78 rfl (by decide) rfl ?_
            refine v_iincN (ls' := [(6, .int (nI (p + 1))), (5, .int (nI p)), (4, .int (y + 0)), (3, .int ((sumN (fun p => β 12 (3 * p + 2)) p) + (β 12 (3 * p + 2)))), (7, .int (β 12 (3 * p + 2))), (0, .ref (δ 0)), (1, .int (nI m)), (2, .int w)]) F 7 dX0_toldRun_80 rfl rfl (by decide) rfl ?_
            refine v_goto (tgt := 11) F dX0_toldRun_83 rfl ?_
            refine v_sub (ls' := [(0, .ref (δ 0)), (1, .int (nI m)), (2, .int w), (3, .int ((sumN (fun p => β 12 (3 * p + 2)) p) + (β 12 (3 * p + 2)))), (4, .int (y + 0)), (5, .int (nI p)), (6, .int (nI (p + 1)))]) F [5, 6, 7, 3, 2, 1, 0] rfl ?_
            exact ih11 (p + 1) (y + 0) (nI p) (by omega) (lef_s hy c5) (heb_1 hx c6) (Or.inr ⟨p, by omega, rfl⟩) (by omega)
          · skip
            obtain ⟨j, hj, hxj⟩ := hxk.resolve_left c6
            refine v_iload F 2 dX0_toldRun_57 rfl rfl ?_
            refine v_aload_n F 3 dX0_toldRun_59 rfl rfl rfl ?_
            refine c_get F G 22 (w := .ref (δ 22)) (by decide) q823 rfl dX0_toldRun_60 rfl ?_
            refine v_iload_n F 4 dX0_toldRun_63 rfl rfl rfl ?_
            refine c_behind (t := m) F G (by omega) dX0_toldRun_64 rfl ?_
            refine v_iload F 6 dX0_toldRun_65 rfl rfl ?_
            refine v_int F hxj ?_
            refine c_bld (t := m) (i := j) F G (by omega) (by omega) dX0_toldRun_67 rfl ?_
            refine v_int F (hbb j (by omega)) ?_
            refine v_icmp_le (tgt := 76) (q := 71) F dX0_toldRun_68 rfl rfl (fun c7 => ?_) (fun c7 => ?_)
            · skip
              refine v_iload F 6 dX0_toldRun_76 rfl rfl ?_
              refine v_istore (ls' := [(5, .int x), (4, .int (y + 0)), (3, .int ((sumN (fun p => β 12 (3 * p + 2)) p) + (β 12 (3 * p + 2)))), (7, .int (β 12 (3 * p + 2))), (0, .ref (δ 0)), (1, .int (nI m)), (2, .int w), (6, .int (nI p))]) F dX0_toldRun_78 rfl (by decide) rfl ?_
              refine v_iincN (ls' := [(6, .int (nI (p + 1))), (5, .int x), (4, .int (y + 0)), (3, .int ((sumN (fun p => β 12 (3 * p + 2)) p) + (β 12 (3 * p + 2)))), (7, .int (β 12 (3 * p + 2))), (0, .ref (δ 0)), (1, .int (nI m)), (2, .int w)]) F 7 dX0_toldRun_80 rfl rfl (by decide) rfl ?_
              refine v_goto (tgt := 11) F dX0_toldRun_83 rfl ?_
              refine v_sub (ls' := [(0, .ref (δ 0)), (1, .int (nI m)), (2, .int w), (3, .int ((sumN (fun p => β 12 (3 * p + 2)) p) + (β 12 (3 * p + 2)))), (4, .int (y + 0)), (5, .int x), (6, .int (nI (p + 1)))]) F [5, 6, 7, 3, 2, 1, 0] rfl ?_
              exact ih11 (p + 1) (y + 0) x (by omega) (lef_s hy c5) (heb_3 hx hxj (by omega) c7) (Or.inr ⟨j, by omega, hxj⟩) (by omega)
            · skip
              refine v_iload F 7 dX0_toldRun_71 rfl rfl ?_
              refine v_goto (tgt := 78) F dX0_toldRun_73 rfl ?_
              refine v_istore (ls' := [(5, .int (nI p)), (4, .int (y + 0)), (3, .int ((sumN (fun p => β 12 (3 * p + 2)) p) + (β 12 (3 * p + 2)))), (7, .int (β 12 (3 * p + 2))), (0, .ref (δ 0)), (1, .int (nI m)), (2, .int w), (6, .int (nI p))]) F dX0_toldRun_78 rfl (by decide) rfl ?_
              refine v_iincN (ls' := [(6, .int (nI (p + 1))), (5, .int (nI p)), (4, .int (y + 0)), (3, .int ((sumN (fun p => β 12 (3 * p + 2)) p) + (β 12 (3 * p + 2)))), (7, .int (β 12 (3 * p + 2))), (0, .ref (δ 0)), (1, .int (nI m)), (2, .int w)]) F 7 dX0_toldRun_80 rfl rfl (by decide) rfl ?_
              refine v_goto (tgt := 11) F dX0_toldRun_83 rfl ?_
              refine v_sub (ls' := [(0, .ref (δ 0)), (1, .int (nI m)), (2, .int w), (3, .int ((sumN (fun p => β 12 (3 * p + 2)) p) + (β 12 (3 * p + 2)))), (4, .int (y + 0)), (5, .int (nI p)), (6, .int (nI (p + 1)))]) F [5, 6, 7, 3, 2, 1, 0] rfl ?_
              exact ih11 (p + 1) (y + 0) (nI p) (by omega) (lef_s hy c5) (heb_2 hx hxj (by omega) c7) (Or.inr ⟨p, by omega, rfl⟩) (by omega)
        · skip
          refine v_iconst (x := 1) F dX0_toldRun_43 rfl (by decide) ?_
          refine v_goto (tgt := 48) F dX0_toldRun_44 rfl ?_
          refine v_iadd F dX0_toldRun_48 rfl ?_
          refine v_istore (ls' := [(4, .int (y + 1)), (3, .int ((sumN (fun p => β 12 (3 * p + 2)) p) + (β 12 (3 * p + 2)))), (7, .int (β 12 (3 * p + 2))), (0, .ref (δ 0)), (1, .int (nI m)), (2, .int w), (5, .int x), (6, .int (nI p))]) F dX0_toldRun_49 rfl (by decide) rfl ?_
          refine v_iload F 6 dX0_toldRun_51 rfl rfl ?_
          refine v_iconst (x := (-1)) F dX0_toldRun_53 rfl (by decide) ?_
          refine v_icmp_eq (tgt := 71) (q := 57) F dX0_toldRun_54 rfl rfl (fun c8 => ?_) (fun c8 => ?_)
          · skip
            refine v_iload F 7 dX0_toldRun_71 rfl rfl ?_
            refine v_goto (tgt := 78) F dX0_toldRun_73 rfl ?_
            refine v_istore (ls' := [(5, .int (nI p)), (4, .int (y + 1)), (3, .int ((sumN (fun p => β 12 (3 * p + 2)) p) + (β 12 (3 * p + 2)))), (7, .int (β 12 (3 * p + 2))), (0, .ref (δ 0)), (1, .int (nI m)), (2, .int w), (6, .int (nI p))]) F dX0_toldRun_78 rfl (by decide) rfl ?_
            refine v_iincN (ls' := [(6, .int (nI (p + 1))), (5, .int (nI p)), (4, .int (y + 1)), (3, .int ((sumN (fun p => β 12 (3 * p + 2)) p) + (β 12 (3 * p + 2)))), (7, .int (β 12 (3 * p + 2))), (0, .ref (δ 0)), (1, .int (nI m)), (2, .int w)]) F 7 dX0_toldRun_80 rfl rfl (by decide) rfl ?_
            refine v_goto (tgt := 11) F dX0_toldRun_83 rfl ?_
            refine v_sub (ls' := [(0, .ref (δ 0)), (1, .int (nI m)), (2, .int w), (3, .int ((sumN (fun p => β 12 (3 * p + 2)) p) + (β 12 (3 * p + 2)))), (4, .int (y + 1)), (5, .int (nI p)), (6, .int (nI (p + 1)))]) F [5, 6, 7, 3, 2, 1, 0] rfl ?_
            exact ih11 (p + 1) (y + 1) (nI p) (by omega) (lef_f hy c5) (heb_1 hx c8) (Or.inr ⟨p, by omega, rfl⟩) (by omega)
          · skip
            obtain ⟨j, hj, hxj⟩ := hxk.resolve_left c8
            refine v_iload F 2 dX0_toldRun_57 rfl rfl ?_
            refine v_aload_n F 3 dX0_toldRun_59 rfl rfl rfl ?_
            refine c_get F G 22 (w := .ref (δ 22)) (by decide) q823 rfl dX0_toldRun_60 rfl ?_
            refine v_iload_n F 4 dX0_toldRun_63 rfl rfl rfl ?_
            refine c_behind (t := m) F G (by omega) dX0_toldRun_64 rfl ?_
            refine v_iload F 6 dX0_toldRun_65 rfl rfl ?_
            refine v_int F hxj ?_
            refine c_bld (t := m) (i := j) F G (by omega) (by omega) dX0_toldRun_67 rfl ?_
            refine v_int F (hbb j (by omega)) ?_
            refine v_icmp_le (tgt := 76) (q := 71) F dX0_toldRun_68 rfl rfl (fun c9 => ?_) (fun c9 => ?_)
            · skip
              refine v_iload F 6 dX0_toldRun_76 rfl rfl ?_
              refine v_istore (ls' := [(5, .int x), (4, .int (y + 1)), (3, .int ((sumN (fun p => β 12 (3 * p + 2)) p) + (β 12 (3 * p + 2)))), (7, .int (β 12 (3 * p + 2))), (0, .ref (δ 0)), (1, .int (nI m)), (2, .int w), (6, .int (nI p))]) F dX0_toldRun_78 rfl (by decide) rfl ?_
              refine v_iincN (ls' := [(6, .int (nI (p + 1))), (5, .int x), (4, .int (y + 1)), (3, .int ((sumN (fun p => β 12 (3 * p + 2)) p) + (β 12 (3 * p + 2)))), (7, .int (β 12 (3 * p + 2))), (0, .ref (δ 0)), (1, .int (nI m)), (2, .int w)]) F 7 dX0_toldRun_80 rfl rfl (by decide) rfl ?_
              refine v_goto (tgt := 11) F dX0_toldRun_83 rfl ?_
              refine v_sub (ls' := [(0, .ref (δ 0)), (1, .int (nI m)), (2, .int w), (3, .int ((sumN (fun p => β 12 (3 * p + 2)) p) + (β 12 (3 * p + 2)))), (4, .int (y + 1)), (5, .int x), (6, .int (nI (p + 1)))]) F [5, 6, 7, 3, 2, 1, 0] rfl ?_
              exact ih11 (p + 1) (y + 1) x (by omega) (lef_f hy c5) (heb_3 hx hxj (by omega) c9) (Or.inr ⟨j, by omega, hxj⟩) (by omega)
            · skip
              refine v_iload F 7 dX0_toldRun_71 rfl rfl ?_
              refine v_goto (tgt := 78) F dX0_toldRun_73 rfl ?_
              refine v_istore (ls' := [(5, .int (nI p)), (4, .int (y + 1)), (3, .int ((sumN (fun p => β 12 (3 * p + 2)) p) + (β 12 (3 * p + 2)))), (7, .int (β 12 (3 * p + 2))), (0, .ref (δ 0)), (1, .int (nI m)), (2, .int w), (6, .int (nI p))]) F dX0_toldRun_78 rfl (by decide) rfl ?_
              refine v_iincN (ls' := [(6, .int (nI (p + 1))), (5, .int (nI p)), (4, .int (y + 1)), (3, .int ((sumN (fun p => β 12 (3 * p + 2)) p) + (β 12 (3 * p + 2)))), (7, .int (β 12 (3 * p + 2))), (0, .ref (δ 0)), (1, .int (nI m)), (2, .int w)]) F 7 dX0_toldRun_80 rfl rfl (by decide) rfl ?_
              refine v_goto (tgt := 11) F dX0_toldRun_83 rfl ?_
              refine v_sub (ls' := [(0, .ref (δ 0)), (1, .int (nI m)), (2, .int w), (3, .int ((sumN (fun p => β 12 (3 * p + 2)) p) + (β 12 (3 * p + 2)))), (4, .int (y + 1)), (5, .int (nI p)), (6, .int (nI (p + 1)))]) F [5, 6, 7, 3, 2, 1, 0] rfl ?_
              exact ih11 (p + 1) (y + 1) (nI p) (by omega) (lef_f hy c5) (heb_2 hx hxj (by omega) c9) (Or.inr ⟨p, by omega, rfl⟩) (by omega)
  refine v_sub (ls' := [(0, .ref (δ 0)), (1, .int (nI m)), (2, .int w), (3, .int 0), (4, .int 0), (5, .int (-1)), (6, .int 0)]) F [4, 5, 6, 3, 2, 1, 0] rfl ?_
  exact L11 _ 0 0 (-1) (Nat.zero_le _) rfl rfl (Or.inl rfl) (Nat.lt_succ_self _)
theorem ok_X0_run : vv_oc yX0_run 3 2 (ws_ yX0_run cX0_run 3 (some .int)) := vv_ok.oc (rt := (some .int)) ⟨q931, q116, by decide +kernel, by decide +kernel⟩
theorem is_X0_run : Cond.instanceMethod yX0_run ∈ lw_all ∧ Cond.selects RX0 yX0_run yX0_run ∈ lw_all := ⟨q929, q930⟩
set_option maxHeartbeats 4000000 in
theorem cc_X0_run {l : Launch} {Kf : State → Prop} {D : va_G} {K : Nat → ClassId} {fv : List Value × (Nat → Nat)} {A : Nat → Prop} (G : cG A fv cIm Kf D K)  (n : mS) (δ : Nat → Nat) (ν : Nat → Option (Mg × Nat)) (y : Int32) (w : Int32) (hok : cOk n) : vv_Ct l yX0_run (ws_ yX0_run cX0_run 3 (some .int)) (rm 166 3654) Kf (cWd D K fv A) A [.ref (δ 0), .int y, .int w] (n, δ, ν) (vv_i (runR (cab n) y w) (fun u => ∃ t : mS, u = (t, δ, ν) ∧ cab t = cab n)) := by
  refine vv_of (by decide +kernel) (Nat.le_of_ble_eq_true rfl) ?_
  intro v (F : vv_F v l cX0_run 3 RX0 "run" (some .int) [] (rm 166 3654) Kf (cWd D K fv A) A _)
  show v (n, δ, ν) 0 0 0 [(0, .ref (δ 0)), (1, .int y), (2, .int w)] []
  have hM := hok.m
  have h8 := hok.m8
  refine v_iload_n F 1 dX0_run_0 rfl rfl rfl ?_
  refine s_calli F G.1 (cg_X0_areYears G.1 (n, δ, ν) y ) ok_X0_areYears q932 q933 rfl rfl dX0_run_1 rfl rfl ?_
  intro u0 hu0; subst u0
  refine v_if_eqB (p := (0 ≤ y ∧ y ≤ 30)) (tgt := 44) (q := 7) F dX0_run_4 rfl rfl (fun c1 => ?_) (fun c1 => ?_)
  · skip
    refine v_bipush (x := (-2)) F dX0_run_44 rfl (by decide) ?_
    exact v_reti F dX0_run_46 rfl (by unfold runR; rw [if_neg (show ¬ runOK (cab n) y w from (fun h => c1 h.1))]) (⟨_, rfl, rfl⟩)
  · skip
    refine v_iload_n F 2 dX0_run_7 rfl rfl rfl ?_
    refine v_i2l F dX0_run_8 rfl ?_
    refine v_lconst (x := (0 : Int32).toInt64) F dX0_run_9 rfl (by decide) ?_
    refine v_ldc2 F q259 dX0_run_10 rfl ?_
    refine v_lng (y := (3 : Int32).toInt64) F (by decide) ?_
    refine s_calli F G.1 (cg_X0_in G.1 (n, δ, ν) w 0 3 ) ok_X0_in q151 q152 rfl rfl dX0_run_13 rfl rfl ?_
    intro u0 hu0; subst u0
    refine v_if_neB (p := (0 ≤ w ∧ w ≤ 3)) (tgt := 47) (q := 19) F dX0_run_16 rfl rfl (fun c2 => ?_) (fun c2 => ?_)
    · skip
      obtain ⟨m, hm, hym⟩ := in_of (M := 30) (n := 30) (by decide) c1
      have hty : tn y = m := by rw [hym, tn_nI (by omega)]
      obtain ⟨k, hk, hwk⟩ := in_of (M := 3) (n := 3) (by decide) c2
      have ok9 : runOK (cab n) y w := ⟨c1, Or.inl c2⟩
      have hk29 : k ≤ 29 := by omega
      have htw : tn w = k := by rw [hwk, tn_nI (by omega)]
      refine v_aload_n F 0 dX0_run_47 rfl rfl rfl ?_
      refine v_iload_n F 1 dX0_run_48 rfl rfl rfl ?_
      refine v_int F (hym) ?_
      refine c_calln F G (cc_X0_runs G n δ ν m hok (by omega)) ok_X0_runs q937 is_X0_runs rfl rfl dX0_run_49 rfl rfl ?_
      rintro _ ⟨tr, rfl, hbr, hRtr⟩
      have oktr : cOk tr := cOk.of (show cOk n from hok) hbr
      refine v_iload_n F 2 dX0_run_52 rfl rfl rfl ?_
      refine v_int F (hwk) ?_
      refine v_iconst (x := 4) F dX0_run_53 rfl (by decide) ?_
      refine v_icmp_geN (a := k) (b := 4) (tgt := 66) (q := 57) F dX0_run_54 rfl rfl (by omega) (by omega) (fun c4 => ?_) (fun c4 => ?_)
      · skip
        refine v_iload_n F 2 dX0_run_66 rfl rfl rfl ?_
        refine v_int F (hwk) ?_
        refine v_bipush (x := 20) F dX0_run_67 rfl (by decide) ?_
        refine v_icmp_geN (a := k) (b := 20) (tgt := 86) (q := 72) F dX0_run_69 rfl rfl (by omega) (by omega) (fun c5 => ?_) (fun c5 => ?_)
        · skip
          refine v_aload_n F 0 dX0_run_86 rfl rfl rfl ?_
          refine c_get F G 25 (w := .ref (δ 25)) (by decide) q826 rfl dX0_run_87 rfl ?_
          refine v_iload_n F 2 dX0_run_90 rfl rfl rfl ?_
          refine v_int F (hwk) ?_
          refine v_bipush (x := 10) F dX0_run_91 rfl (by decide) ?_
          refine v_iremN (a := k) (b := 10) F dX0_run_93 rfl (by omega) (by decide) (by decide) ?_
          refine c_ald (t := k % 10) F G 25 53 8 (fun _ => rfl) (by unfold rowO; omega) (by omega) (by decide) dX0_run_94 rfl ?_
          exact v_reti F dX0_run_95 rfl (by exfalso; omega) (⟨_, rfl, hbr⟩)
        · skip
          refine v_aload_n F 0 dX0_run_72 rfl rfl rfl ?_
          refine c_get F G 22 (w := .ref (δ 22)) (by decide) q823 rfl dX0_run_73 rfl ?_
          refine v_iload_n F 1 dX0_run_76 rfl rfl rfl ?_
          refine v_int F (hym) ?_
          refine c_behind (t := m) F G (by omega) dX0_run_77 rfl ?_
          refine v_iload_n F 2 dX0_run_78 rfl rfl rfl ?_
          refine v_int F (hwk) ?_
          refine v_bipush (x := 10) F dX0_run_79 rfl (by decide) ?_
          refine v_iremN (a := k) (b := 10) F dX0_run_81 rfl (by omega) (by decide) (by decide) ?_
          refine c_bld (t := m) (i := k % 10) F G (by omega) (by omega) dX0_run_82 rfl ?_
          refine v_goto (tgt := 95) F dX0_run_83 rfl ?_
          exact v_reti F dX0_run_95 rfl (by exfalso; omega) (⟨_, rfl, hbr⟩)
      · skip
        refine v_aload_n F 0 dX0_run_57 rfl rfl rfl ?_
        refine v_iload_n F 1 dX0_run_58 rfl rfl rfl ?_
        refine v_int F (hym) ?_
        refine v_iload_n F 2 dX0_run_59 rfl rfl rfl ?_
        refine v_int F (hwk) ?_
        refine c_calli F G (cc_X0_toldRun G tr δ ν m (nI k) oktr (by omega) (show yrs (cab tr) m = yrs (cab n) m from by rw [hbr]) (by rw [hbr]; exact hRtr)) ok_X0_toldRun q957 is_X0_toldRun rfl rfl dX0_run_60 rfl rfl ?_
        intro u0 hu0; subst u0
        refine v_goto (tgt := 95) F dX0_run_63 rfl ?_
        exact v_reti F dX0_run_95 rfl (by unfold runR; rw [if_pos ok9, hty, htw]; exact tel_tr (by omega)) (⟨_, rfl, hbr⟩)
    · skip
      refine v_iload_n F 2 dX0_run_19 rfl rfl rfl ?_
      refine v_i2l F dX0_run_20 rfl ?_
      refine v_ldc2 F q260 dX0_run_21 rfl ?_
      refine v_lng (y := (10 : Int32).toInt64) F (by decide) ?_
      refine v_ldc2 F q936 dX0_run_24 rfl ?_
      refine v_lng (y := (29 : Int32).toInt64) F (by decide) ?_
      refine s_calli F G.1 (cg_X0_in G.1 (n, δ, ν) w 10 29 ) ok_X0_in q151 q152 rfl rfl dX0_run_27 rfl rfl ?_
      intro u0 hu0; subst u0
      refine v_if_eqB (p := (10 ≤ w ∧ w ≤ 29)) (tgt := 44) (q := 33) F dX0_run_30 rfl rfl (fun c6 => ?_) (fun c6 => ?_)
      · skip
        refine v_bipush (x := (-2)) F dX0_run_44 rfl (by decide) ?_
        exact v_reti F dX0_run_46 rfl (by unfold runR; rw [if_neg (show ¬ runOK (cab n) y w from (fun h => h.2.elim c2 (fun g => c6 g.1)))]) (⟨_, rfl, rfl⟩)
      · skip
        refine v_aload_n F 0 dX0_run_33 rfl rfl rfl ?_
        refine v_iload_n F 2 dX0_run_34 rfl rfl rfl ?_
        refine v_bipush (x := 10) F dX0_run_35 rfl (by decide) ?_
        refine v_irem F dX0_run_37 rfl (by decide) ?_
        refine c_calli F G (cc_X0_isPlant G n δ ν (w - w / 10 * 10) ) ok_X0_isPlant q250 is_X0_isPlant rfl rfl dX0_run_38 rfl rfl ?_
        intro u0 hu0; subst u0
        refine v_if_neB (p := (0 ≤ (w - w / 10 * 10) ∧ (w - w / 10 * 10) ≤ n 0 13 - 1)) (tgt := 47) (q := 44) F dX0_run_41 rfl rfl (fun c7 => ?_) (fun c7 => ?_)
        · skip
          obtain ⟨m, hm, hym⟩ := in_of (M := 30) (n := 30) (by decide) c1
          have hty : tn y = m := by rw [hym, tn_nI (by omega)]
          obtain ⟨k, hk, hwk⟩ := in_of2 c6
          have hkM : k % 10 < tn (n 0 13) := run_k hM h8 hwk hk c7
          have ok9 : runOK (cab n) y w := ⟨c1, Or.inr ⟨c6, c7⟩⟩
          have hk29 : k ≤ 29 := hk.2
          have htw : tn w = k := by rw [hwk, tn_nI (by omega)]
          refine v_aload_n F 0 dX0_run_47 rfl rfl rfl ?_
          refine v_iload_n F 1 dX0_run_48 rfl rfl rfl ?_
          refine v_int F (hym) ?_
          refine c_calln F G (cc_X0_runs G n δ ν m hok (by omega)) ok_X0_runs q937 is_X0_runs rfl rfl dX0_run_49 rfl rfl ?_
          rintro _ ⟨tr, rfl, hbr, hRtr⟩
          have oktr : cOk tr := cOk.of (show cOk n from hok) hbr
          refine v_iload_n F 2 dX0_run_52 rfl rfl rfl ?_
          refine v_int F (hwk) ?_
          refine v_iconst (x := 4) F dX0_run_53 rfl (by decide) ?_
          refine v_icmp_geN (a := k) (b := 4) (tgt := 66) (q := 57) F dX0_run_54 rfl rfl (by omega) (by omega) (fun c9 => ?_) (fun c9 => ?_)
          · skip
            refine v_iload_n F 2 dX0_run_66 rfl rfl rfl ?_
            refine v_int F (hwk) ?_
            refine v_bipush (x := 20) F dX0_run_67 rfl (by decide) ?_
            refine v_icmp_geN (a := k) (b := 20) (tgt := 86) (q := 72) F dX0_run_69 rfl rfl (by omega) (by omega) (fun c10 => ?_) (fun c10 => ?_)
            · skip
              refine v_aload_n F 0 dX0_run_86 rfl rfl rfl ?_
              refine c_get F G 25 (w := .ref (δ 25)) (by decide) q826 rfl dX0_run_87 rfl ?_
              refine v_iload_n F 2 dX0_run_90 rfl rfl rfl ?_
              refine v_int F (hwk) ?_
              refine v_bipush (x := 10) F dX0_run_91 rfl (by decide) ?_
              refine v_iremN (a := k) (b := 10) F dX0_run_93 rfl (by omega) (by decide) (by decide) ?_
              refine c_ald (t := k % 10) F G 25 53 8 (fun _ => rfl) (by unfold rowO; omega) (by omega) (by decide) dX0_run_94 rfl ?_
              exact v_reti F dX0_run_95 rfl (by unfold runR; rw [if_pos ok9, hty, htw]; unfold telV; rw [if_neg (by omega), if_neg (by omega)]; exact hRtr.2 _ hkM) (⟨_, rfl, hbr⟩)
            · skip
              refine v_aload_n F 0 dX0_run_72 rfl rfl rfl ?_
              refine c_get F G 22 (w := .ref (δ 22)) (by decide) q823 rfl dX0_run_73 rfl ?_
              refine v_iload_n F 1 dX0_run_76 rfl rfl rfl ?_
              refine v_int F (hym) ?_
              refine c_behind (t := m) F G (by omega) dX0_run_77 rfl ?_
              refine v_iload_n F 2 dX0_run_78 rfl rfl rfl ?_
              refine v_int F (hwk) ?_
              refine v_bipush (x := 10) F dX0_run_79 rfl (by decide) ?_
              refine v_iremN (a := k) (b := 10) F dX0_run_81 rfl (by omega) (by decide) (by decide) ?_
              refine c_bld (t := m) (i := k % 10) F G (by omega) (by omega) dX0_run_82 rfl ?_
              refine v_goto (tgt := 95) F dX0_run_83 rfl ?_
              exact v_reti F dX0_run_95 rfl (by unfold runR; rw [if_pos ok9, hty, htw]; unfold telV; rw [if_neg (by omega), if_pos (by omega)]; exact (hRtr.1 m (Nat.le_refl _)).2.2 _ hkM) (⟨_, rfl, hbr⟩)
          · skip
            refine v_aload_n F 0 dX0_run_57 rfl rfl rfl ?_
            refine v_iload_n F 1 dX0_run_58 rfl rfl rfl ?_
            refine v_int F (hym) ?_
            refine v_iload_n F 2 dX0_run_59 rfl rfl rfl ?_
            refine v_int F (hwk) ?_
            refine c_calli F G (cc_X0_toldRun G tr δ ν m (nI k) oktr (by omega) (show yrs (cab tr) m = yrs (cab n) m from by rw [hbr]) (by rw [hbr]; exact hRtr)) ok_X0_toldRun q957 is_X0_toldRun rfl rfl dX0_run_60 rfl rfl ?_
            intro u0 hu0; subst u0
            refine v_goto (tgt := 95) F dX0_run_63 rfl ?_
            exact v_reti F dX0_run_95 rfl (by unfold runR; rw [if_pos ok9, hty, htw]; exact tel_tr (by omega)) (⟨_, rfl, hbr⟩)
        · skip
          refine v_bipush (x := (-2)) F dX0_run_44 rfl (by decide) ?_
          exact v_reti F dX0_run_46 rfl (by unfold runR; rw [if_neg (show ¬ runOK (cab n) y w from (fun h => h.2.elim c2 (fun g => c7 g.2)))]) (⟨_, rfl, rfl⟩)
theorem ok_X0_first : vv_oc yX0_first 4 2 (ws_ yX0_first cX0_first 4 (some .int)) := vv_ok.oc (rt := (some .int)) ⟨q964, q116, by decide +kernel, by decide +kernel⟩
theorem is_X0_first : Cond.instanceMethod yX0_first ∈ lw_all ∧ Cond.selects RX0 yX0_first yX0_first ∈ lw_all := ⟨q962, q963⟩
set_option maxHeartbeats 4000000 in
theorem cc_X0_first {l : Launch} {Kf : State → Prop} {D : va_G} {K : Nat → ClassId} {fv : List Value × (Nat → Nat)} {A : Nat → Prop} (G : cG A fv cIm Kf D K)  (n : mS) (δ : Nat → Nat) (ν : Nat → Option (Mg × Nat)) (y : Int32) (k : Int32) (hok : cOk n) : vv_Ct l yX0_first (ws_ yX0_first cX0_first 4 (some .int)) (rm 166 3654) Kf (cWd D K fv A) A [.ref (δ 0), .int y, .int k] (n, δ, ν) (vv_i (firR (cab n) y k) (fun u => ∃ t : mS, u = (t, δ, ν) ∧ cab t = cab n)) := by
  refine vv_of (by decide +kernel) (Nat.le_of_ble_eq_true rfl) ?_
  intro v (F : vv_F v l cX0_first 4 RX0 "first" (some .int) [] (rm 166 3654) Kf (cWd D K fv A) A _)
  show v (n, δ, ν) 0 0 0 [(0, .ref (δ 0)), (1, .int y), (2, .int k)] []
  have hM := hok.m
  have h8 := hok.m8
  refine v_iload_n F 1 dX0_first_0 rfl rfl rfl ?_
  refine s_calli F G.1 (cg_X0_areYears G.1 (n, δ, ν) y ) ok_X0_areYears q932 q933 rfl rfl dX0_first_1 rfl rfl ?_
  intro u0 hu0; subst u0
  refine v_if_eqB (p := (0 ≤ y ∧ y ≤ 30)) (tgt := 19) (q := 7) F dX0_first_4 rfl rfl (fun c1 => ?_) (fun c1 => ?_)
  · skip
    refine v_bipush (x := (-2)) F dX0_first_19 rfl (by decide) ?_
    exact v_reti F dX0_first_21 rfl (by unfold firR; rw [if_neg (show ¬ ((0 ≤ y ∧ y ≤ 30) ∧ (0 ≤ k ∧ k ≤ 99999)) from (fun h => c1 h.1))]) (⟨_, rfl, rfl⟩)
  · skip
    refine v_iload_n F 2 dX0_first_7 rfl rfl rfl ?_
    refine v_i2l F dX0_first_8 rfl ?_
    refine v_lconst (x := (0 : Int32).toInt64) F dX0_first_9 rfl (by decide) ?_
    refine v_ldc2 F q965 dX0_first_10 rfl ?_
    refine v_lng (y := (99999 : Int32).toInt64) F (by decide) ?_
    refine s_calli F G.1 (cg_X0_in G.1 (n, δ, ν) k 0 99999 ) ok_X0_in q151 q152 rfl rfl dX0_first_13 rfl rfl ?_
    intro u0 hu0; subst u0
    refine v_if_neB (p := (0 ≤ k ∧ k ≤ 99999)) (tgt := 22) (q := 19) F dX0_first_16 rfl rfl (fun c2 => ?_) (fun c2 => ?_)
    · skip
      obtain ⟨m, hm, hym⟩ := in_of (M := 30) (n := 30) (by decide) c1
      have hty : tn y = m := by rw [hym, tn_nI (by omega)]
      refine v_aload_n F 0 dX0_first_22 rfl rfl rfl ?_
      refine v_iload_n F 1 dX0_first_23 rfl rfl rfl ?_
      refine v_int F (hym) ?_
      refine c_calln F G (cc_X0_runs G n δ ν m hok (by omega)) ok_X0_runs q937 is_X0_runs rfl rfl dX0_first_24 rfl rfl ?_
      rintro _ ⟨tr, rfl, hbr, hRtr⟩
      have oktr : cOk tr := cOk.of (show cOk n from hok) hbr
      refine v_iconst (x := 1) F dX0_first_27 rfl (by decide) ?_
      refine v_istore_n (ls' := [(3, .int 1), (0, .ref (δ 0)), (1, .int y), (2, .int k)]) F dX0_first_28 rfl rfl (by decide) rfl ?_
      have L29 : ∀ (nf : Nat) (j : Nat) (hj : j ≤ m) (hx : -1 = firN (cab n) k j) (hnf : m - j < nf), v (tr, δ, ν) 0 0 29 [(0, .ref (δ 0)), (1, .int y), (2, .int k), (3, .int (nI (j + 1)))] [] := by
        intro nf
        induction nf with
        | zero => intro j hj hx hnf; exact absurd hnf (Nat.not_lt_zero _)
        | succ nf ih29 =>
          intro j hj hx hnf
          refine v_iload_n F 3 dX0_first_29 rfl rfl rfl ?_
          refine v_iload_n F 1 dX0_first_30 rfl rfl rfl ?_
          refine v_int F (hym) ?_
          refine v_icmp_gtN (a := j + 1) (b := m) (tgt := 54) (q := 34) F dX0_first_31 rfl rfl (by omega) (by omega) (fun c4 => ?_) (fun c4 => ?_)
          · skip
            refine v_iconst (x := (-1)) F dX0_first_54 rfl (by decide) ?_
            exact v_reti F dX0_first_55 rfl (by unfold firR; rw [if_pos ⟨c1, c2⟩, hty]; exact firN_e hx hj (Or.inl (by omega))) (⟨_, rfl, hbr⟩)
          · skip
            refine v_aload_n F 0 dX0_first_34 rfl rfl rfl ?_
            refine c_get F G 23 (w := .ref (δ 23)) (by decide) q824 rfl dX0_first_35 rfl ?_
            refine v_iload_n F 3 dX0_first_38 rfl rfl rfl ?_
            refine c_ald (t := j + 1) F G 23 51 31 (fun _ => rfl) (by unfold rowO; omega) (by omega) (by decide) dX0_first_39 rfl ?_
            refine v_int F (hRtr.1 (j + 1) (by omega)).1 ?_
            refine v_iload_n F 2 dX0_first_40 rfl rfl rfl ?_
            refine v_icmp_lt (tgt := 48) (q := 44) F dX0_first_41 rfl rfl (fun c5 => ?_) (fun c5 => ?_)
            · skip
              refine v_iincN (ls' := [(3, .int (nI ((j + 1) + 1))), (0, .ref (δ 0)), (1, .int y), (2, .int k)]) F 3 dX0_first_48 rfl rfl (by decide) rfl ?_
              refine v_goto (tgt := 29) F dX0_first_51 rfl ?_
              refine v_sub (ls' := [(0, .ref (δ 0)), (1, .int y), (2, .int k), (3, .int (nI ((j + 1) + 1)))]) F [1, 2, 3, 0] rfl ?_
              exact ih29 (j + 1) (by omega) (firN_s hx rfl c5) (by omega)
            · skip
              refine v_iload_n F 3 dX0_first_44 rfl rfl rfl ?_
              refine v_iconst (x := 1) F dX0_first_45 rfl (by decide) ?_
              refine v_isubN (a := j + 1) (b := 1) F dX0_first_46 rfl (by omega) ?_
              refine v_int F rfl ?_
              exact v_reti F dX0_first_47 rfl (by unfold firR; rw [if_pos ⟨c1, c2⟩, hty]; exact firN_e (firN_f hx rfl c5) (by omega) (Or.inr (nI_m1 (by omega)))) (⟨_, rfl, hbr⟩)
      refine v_sub (ls' := [(0, .ref (δ 0)), (1, .int y), (2, .int k), (3, .int 1)]) F [1, 2, 3, 0] rfl ?_
      exact L29 _ 0 (Nat.zero_le _) rfl (Nat.lt_succ_self _)
    · skip
      refine v_bipush (x := (-2)) F dX0_first_19 rfl (by decide) ?_
      exact v_reti F dX0_first_21 rfl (by unfold firR; rw [if_neg (show ¬ ((0 ≤ y ∧ y ≤ 30) ∧ (0 ≤ k ∧ k ≤ 99999)) from (fun h => c2 h.2))]) (⟨_, rfl, rfl⟩)
theorem ok_X0_notFound : vv_oc yX0_notFound 8 2 (wsW_ yX0_notFound cX0_notFound 8 (some .long) [(12, 46, 54, 0), (54, 56, 54, 0)]) := vv_okW.oc (rt := (some .long)) ⟨q976, q116, by decide +kernel, by decide +kernel⟩
theorem is_X0_notFound : Cond.instanceMethod yX0_notFound ∈ lw_all ∧ Cond.selects RX0 yX0_notFound yX0_notFound ∈ lw_all := ⟨q975, qs35⟩
set_option maxHeartbeats 4000000 in
theorem cc_X0_notFound {l : Launch} {Kf : State → Prop} {D : va_G} {K : Nat → ClassId} {fv : List Value × (Nat → Nat)} {A : Nat → Prop} (G : cG A fv cIm Kf D K)  (n : mS) (δ : Nat → Nat) (ν : Nat → Option (Mg × Nat)) (p : Nat) (m : Nat) (hok : cOk n) (hp : p < tn (n 0 13)) (hm : m ≤ 30) : vv_Ct l yX0_notFound (wsW_ yX0_notFound cX0_notFound 8 (some .long) [(12, 46, 54, 0), (54, 56, 54, 0)]) (rm 165 3630) Kf (cWd D K fv A) A [.ref (δ 0), .int (nI p), .int (nI m)] (n, δ, ν) (vv_j (hidV (cab n) p m) (fun u => ∃ t : mS, u = (t, δ, ν) ∧ cab t = cab n)) := by
  refine vv_ofW (by decide +kernel) (Nat.le_of_ble_eq_true rfl) ?_
  intro v (F : vv_F v l cX0_notFound 8 RX0 "notFound" (some .long) [(12, 46, 54, 0), (54, 56, 54, 0)] (rm 165 3630) Kf (cWd D K fv A) A _)
  show v (n, δ, ν) 0 0 0 [(0, .ref (δ 0)), (1, .int (nI p)), (2, .int (nI m))] []
  have hM := hok.m
  have h8 := hok.m8
  refine v_aload_n F 0 dX0_notFound_0 rfl rfl rfl ?_
  refine c_get F G 2 (w := .int (n 0 7)) (by decide) q800 rfl dX0_notFound_1 rfl ?_
  refine v_istore_n (ls' := [(3, .int (n 0 7)), (0, .ref (δ 0)), (1, .int (nI p)), (2, .int (nI m))]) F dX0_notFound_4 rfl rfl (by decide) rfl ?_
  refine v_lconst (x := (1 : Int32).toInt64) F dX0_notFound_5 rfl (by decide) ?_
  refine v_lstore (ls' := [(4, .long ((1 : Int32).toInt64)), (3, .int (n 0 7)), (0, .ref (δ 0)), (1, .int (nI p)), (2, .int (nI m))]) F dX0_notFound_6 rfl (by decide) rfl ?_
  refine v_aload_n F 2 dX0_notFound_8 rfl rfl rfl ?_
  refine c_calln F G (cc_X0_keeps G n δ ν  hok) ok_X0_keeps q941 is_X0_keeps rfl rfl dX0_notFound_9 rfl rfl ?_
  rintro _ ⟨tk, rfl, hbk, hdtk, hetk⟩
  have oktk : cOk tk := cOk.of (show cOk n from hok) hbk
  have hptk_0 : p < tn (tk 0 13) := by rw [cab_eq hbk 0 13 rfl]; exact hp
  refine v_iconst (x := 0) F dX0_notFound_12 rfl (by decide) ?_
  refine v_istore (ls' := [(6, .int 0), (4, .long ((1 : Int32).toInt64)), (3, .int (n 0 7)), (0, .ref (δ 0)), (1, .int (nI p)), (2, .int (nI m))]) F dX0_notFound_13 rfl (by decide) rfl ?_
  have L15 : ∀ (nf : Nat) (s : mS) (j : Nat) (y : Int64) (hj : j ≤ m) (hs : cab s = yrs (cab n) j) (hks : ∀ q, q < tn (n 0 13) → s 50 q = n 12 (3 * q + 2)) (hy : y = hidV (cab n) p j) (hnf : m - j < nf), v (s, δ, ν) 0 0 15 [(0, .ref (δ 0)), (1, .int (nI p)), (2, .int (nI m)), (3, .int (n 0 7)), (4, .long y), (6, .int (nI j))] [] := by
    intro nf
    induction nf with
    | zero => intro s j y hj hs hks hy hnf; exact absurd hnf (Nat.not_lt_zero _)
    | succ nf ih15 =>
      intro s j y hj hs hks hy hnf
      have oks : cOk s := hok.yrs hs
      have hps : p < tn (s 0 13) := by rw [yrs13 hs]; exact hp
      refine v_iload F 5 dX0_notFound_15 rfl rfl ?_
      refine v_iload_n F 2 dX0_notFound_17 rfl rfl rfl ?_
      refine v_icmp_geN (a := j) (b := m) (tgt := 46) (q := 21) F dX0_notFound_18 rfl rfl (by omega) (by omega) (fun c2 => ?_) (fun c2 => ?_)
      · skip
        refine v_aload_n F 0 dX0_notFound_46 rfl rfl rfl ?_
        refine v_iload_n F 3 dX0_notFound_47 rfl rfl rfl ?_
        refine c_calln F G (cc_X0_laysBack G s δ ν (n 0 7) oks.m oks.m8 (fun q hq => oks.k hq)) ok_X0_laysBack q953 is_X0_laysBack rfl rfl dX0_notFound_48 rfl rfl ?_
        rintro _ ⟨tz, rfl, hb9, hctz⟩
        refine v_goto (tgt := 64) F dX0_notFound_51 rfl ?_
        refine v_lload F 4 dX0_notFound_64 rfl rfl ?_
        exact v_retj F dX0_notFound_66 rfl (by rw [hy, show j = m by omega]) (⟨_, rfl, run_bk (f := s 50) hs hks hb9⟩)
      · skip
        refine v_lload F 4 dX0_notFound_21 rfl rfl ?_
        refine v_bipush (x := 100) F dX0_notFound_23 rfl (by decide) ?_
        refine v_aload_n F 0 dX0_notFound_25 rfl rfl rfl ?_
        refine v_iconst (x := 2) F dX0_notFound_26 rfl (by decide) ?_
        refine v_iload_n F 1 dX0_notFound_27 rfl rfl rfl ?_
        refine c_calli F G (cc_X0_asks G s δ ν 2 p oks hps (by omega)) ok_X0_asks q294 is_X0_asks rfl rfl dX0_notFound_28 rfl rfl ?_
        rintro _ ⟨ta, rfl, hba, hcta⟩
        have okta : cOk ta := cOk.of (show cOk s from oks) hba
        have hpta_0 : p < tn (ta 0 13) := by rw [cab_eq hba 0 13 rfl]; exact hps
        refine v_isub F dX0_notFound_31 rfl ?_
        refine v_i2l F dX0_notFound_32 rfl ?_
        refine v_lmul F dX0_notFound_33 rfl ?_
        refine v_lstore (ls' := [(4, .long (y * (Int32.toInt64 (100 - (sayV (cab s) (nI 2) p))))), (0, .ref (δ 0)), (1, .int (nI p)), (2, .int (nI m)), (3, .int (n 0 7)), (6, .int (nI j))]) F dX0_notFound_34 rfl (by decide) rfl ?_
        refine v_aload_n F 1 dX0_notFound_36 rfl rfl rfl ?_
        refine c_calln F G (cc_X0_yearOf G ta δ ν  okta) ok_X0_yearOf q920 is_X0_yearOf rfl rfl dX0_notFound_37 rfl rfl ?_
        rintro _ ⟨ty, rfl, hbty, hcty⟩
        refine v_iincN (ls' := [(6, .int (nI (j + 1))), (4, .long (y * (Int32.toInt64 (100 - (sayV (cab s) (nI 2) p))))), (0, .ref (δ 0)), (1, .int (nI p)), (2, .int (nI m)), (3, .int (n 0 7))]) F 5 dX0_notFound_40 rfl rfl (by decide) rfl ?_
        refine v_goto (tgt := 15) F dX0_notFound_43 rfl ?_
        refine v_sub (ls' := [(0, .ref (δ 0)), (1, .int (nI p)), (2, .int (nI m)), (3, .int (n 0 7)), (4, .long (y * (Int32.toInt64 (100 - (sayV (cab s) (nI 2) p))))), (6, .int (nI (j + 1)))]) F [2, 3, 4, 5, 1, 0] rfl ?_
        exact ih15 ty (j + 1) (y * (Int32.toInt64 (100 - (sayV (cab s) (nI 2) p)))) (by omega) (by rw [hbty, hba, hs]; rfl) (fun q hq => by rw [hcty 50 q (by omega), hcta 50 q (by omega)]; exact hks q hq) (by rw [hy, hs]; rfl) (by omega)
  refine v_sub (ls' := [(0, .ref (δ 0)), (1, .int (nI p)), (2, .int (nI m)), (3, .int (n 0 7)), (4, .long ((1 : Int32).toInt64)), (6, .int 0)]) F [3, 4, 5, 2, 1, 0] rfl ?_
  exact L15 _ tk 0 ((1 : Int32).toInt64) (Nat.zero_le _) hbk hetk (by show _ = (1 : Int64); decide) (Nat.lt_succ_self _)
theorem ok_X0_lowest : vv_oc yX0_lowest 11 3 (ws_ yX0_lowest cX0_lowest 11 (some .long)) := vv_ok.oc (rt := (some .long)) ⟨q979, q116, by decide +kernel, by decide +kernel⟩
set_option maxHeartbeats 4000000 in
theorem cg_X0_lowest {S : Type} {l : Launch} {Kf : State → Prop} {Wd : S → Heap → Prop} {A : Nat → Prop} (hKm : kM A Kf) (σ : S) (a : Nat) (c : Nat) (k : Int32) (ha : a < 2 ^ 63) (hc : c < 2 ^ 63) (hc0 : 0 < c) : vv_Ct l yX0_lowest (ws_ yX0_lowest cX0_lowest 11 (some .long)) (rm 0 0) Kf Wd A [.long (lN a), .long (lN c), .int k] σ (vv_j (low a c k) (fun u => u = σ)) := by
  refine vv_of (by decide +kernel) (Nat.le_of_ble_eq_true rfl) ?_
  intro v (F : vv_F v l cX0_lowest 11 RX0 "lowest" (some .long) [] (rm 0 0) Kf Wd A _)
  show v σ 0 0 0 [(0, .long (lN a)), (2, .long (lN c)), (4, .int k)] []
  refine v_lload_n F 0 dX0_lowest_0 rfl rfl rfl ?_
  refine v_lstore (ls' := [(5, .long (lN a)), (0, .long (lN a)), (2, .long (lN c)), (4, .int k)]) F dX0_lowest_1 rfl (by decide) rfl ?_
  refine v_lload_n F 2 dX0_lowest_3 rfl rfl rfl ?_
  refine v_lstore (ls' := [(7, .long (lN c)), (5, .long (lN a)), (0, .long (lN a)), (2, .long (lN c)), (4, .int k)]) F dX0_lowest_4 rfl (by decide) rfl ?_
  have L6 : ∀ (nf : Nat) (x : Nat) (y : Nat) (hxb : x < 2 ^ 63) (hyb : y < 2 ^ 63) (hg : Nat.gcd a c = Nat.gcd x y) (hnf : y < nf), v σ 0 0 6 [(0, .long (lN a)), (2, .long (lN c)), (4, .int k), (5, .long (lN x)), (7, .long (lN y))] [] := by
    intro nf
    induction nf with
    | zero => intro x y hxb hyb hg hnf; exact absurd hnf (Nat.not_lt_zero _)
    | succ nf ih6 =>
      intro x y hxb hyb hg hnf
      refine v_lload F 4 dX0_lowest_6 rfl rfl ?_
      refine v_lconst (x := (0 : Int32).toInt64) F dX0_lowest_8 rfl (by decide) ?_
      refine v_lcmp F dX0_lowest_9 rfl ?_
      refine v_if_eqL (tgt := 31) (q := 13) F dX0_lowest_10 rfl rfl (fun c1 => ?_) (fun c1 => ?_)
      · skip
        have hb0 : y = 0 := (pk_lEQ hyb (by decide)).mp (c1.trans (by decide : (0 : Int32).toInt64 = lN 0))
        have hgg : x = Nat.gcd a c := gcd_0 (by rw [hg, hb0])
        have hga : 0 < x := by rw [hgg]; exact Nat.gcd_pos_of_pos_right _ hc0
        refine v_iload F 2 dX0_lowest_31 rfl rfl ?_
        refine v_if_ne (tgt := 40) (q := 36) F dX0_lowest_33 rfl rfl (fun c2 => ?_) (fun c2 => ?_)
        · skip
          refine v_lload_n F 1 dX0_lowest_40 rfl rfl rfl ?_
          refine v_lload F 3 dX0_lowest_41 rfl rfl ?_
          refine v_ldiv F dX0_lowest_43 rfl (fun h => absurd ((pk_lEQ hxb (by decide)).mp (h.trans (by decide : (0 : Int64) = lN 0))) (by omega)) ?_
          exact v_retj F dX0_lowest_44 rfl (by unfold low; rw [← hgg]; rw [if_neg c2]; exact pk_lDiv (by omega) hga hxb) (rfl)
        · skip
          refine v_lload_n F 0 dX0_lowest_36 rfl rfl rfl ?_
          refine v_goto (tgt := 41) F dX0_lowest_37 rfl ?_
          refine v_lload F 3 dX0_lowest_41 rfl rfl ?_
          refine v_ldiv F dX0_lowest_43 rfl (fun h => absurd ((pk_lEQ hxb (by decide)).mp (h.trans (by decide : (0 : Int64) = lN 0))) (by omega)) ?_
          exact v_retj F dX0_lowest_44 rfl (by unfold low; rw [← hgg]; rw [if_pos c2]; exact pk_lDiv (by omega) hga hxb) (rfl)
      · skip
        have hb0 : 0 < y := Nat.pos_of_ne_zero (fun e => c1 (by rw [e]; decide))
        refine v_lload F 3 dX0_lowest_13 rfl rfl ?_
        refine v_lload F 4 dX0_lowest_15 rfl rfl ?_
        refine v_lrem F dX0_lowest_17 rfl (fun h => absurd ((pk_lEQ hyb (by decide)).mp (h.trans (by decide : (0 : Int64) = lN 0))) (by omega)) ?_
        refine v_lng F (pk_lRem hxb hb0 hyb) ?_
        refine v_lstore (ls' := [(9, .long (lN (x % y))), (0, .long (lN a)), (2, .long (lN c)), (4, .int k), (5, .long (lN x)), (7, .long (lN y))]) F dX0_lowest_18 rfl (by decide) rfl ?_
        refine v_lload F 5 dX0_lowest_20 rfl rfl ?_
        refine v_lstore (ls' := [(5, .long (lN y)), (9, .long (lN (x % y))), (0, .long (lN a)), (2, .long (lN c)), (4, .int k), (7, .long (lN y))]) F dX0_lowest_22 rfl (by decide) rfl ?_
        refine v_lload F 1 dX0_lowest_24 rfl rfl ?_
        refine v_lstore (ls' := [(7, .long (lN (x % y))), (5, .long (lN y)), (9, .long (lN (x % y))), (0, .long (lN a)), (2, .long (lN c)), (4, .int k)]) F dX0_lowest_26 rfl (by decide) rfl ?_
        refine v_goto (tgt := 6) F dX0_lowest_28 rfl ?_
        refine v_sub (ls' := [(0, .long (lN a)), (2, .long (lN c)), (4, .int k), (5, .long (lN y)), (7, .long (lN (x % y)))]) F [3, 4, 5, 1, 0] rfl ?_
        exact ih6 y (x % y) hyb (Nat.lt_of_lt_of_le (Nat.mod_lt _ hb0) (by omega)) (hg.trans (gcd_go hb0)) (Nat.lt_of_lt_of_le (Nat.mod_lt x hb0) (by omega))
  refine v_sub (ls' := [(0, .long (lN a)), (2, .long (lN c)), (4, .int k), (5, .long (lN a)), (7, .long (lN c))]) F [2, 3, 4, 1, 0] rfl ?_
  exact L6 _ a c ha hc rfl (Nat.lt_succ_self _)
