set_option maxRecDepth 100000
theorem of_pC {n : mS} {w o : Int32} {k : Nat} (hM : n 0 13 = nI (tn (n 0 13))) (hM8 : tn (n 0 13) ≤ 8) (h : isOfP n w o) (hw : w = nI k) (hk : k ≤ 5) (h2 : 2 ≤ k) : o = nI (tn o) ∧ tn o < 8 := of_p (σ := n) hM hM8 h hw hk h2 (by omega)
theorem of_mC {n : mS} {w o : Int32} {k : Nat} (hM : n 0 13 = nI (tn (n 0 13))) (hM8 : tn (n 0 13) ≤ 8) (h : isOfP n w o) (hw : w = nI k) (hk : k ≤ 5) (h3 : 3 ≤ k) : tn o < tn (n 0 13) := by
  have hw3 : 3 ≤ w := by rw [hw]; exact nI_le (a := 3) (by omega) (by omega)
  obtain ⟨p, hp, e⟩ := pl_of hM hM8 (tol_3 h hw3)
  rw [e, tn_nI (by omega)]; exact hp
theorem ok_X0_set : vv_oc yX0_set 5 3 (ws_ yX0_set cX0_set 5 (some .int)) := vv_ok.oc (rt := (some .int)) ⟨q243, q116, by decide +kernel, by decide +kernel⟩
theorem is_X0_set : Cond.instanceMethod yX0_set ∈ lw_all ∧ Cond.selects RX0 yX0_set yX0_set ∈ lw_all := ⟨q241, q242⟩
set_option maxHeartbeats 4000000 in
theorem cc_X0_set {l : Launch} {Kf : State → Prop} {D : va_G} {K : Nat → ClassId} {fv : List Value × (Nat → Nat)} {A : Nat → Prop} (G : cG A fv cIm Kf D K)  (n : mS) (δ : Nat → Nat) (ν : Nat → Option (Mg × Nat)) (w : Int32) (o : Int32) (x : Int32) (hok : cOk n) : vv_Ct l yX0_set (ws_ yX0_set cX0_set 5 (some .int)) (rm 166 3652) Kf (cWd D K fv A) A [.ref (δ 0), .int w, .int o, .int x] (n, δ, ν) (vv_i (setR (cab n) w o x) (fun u => ∃ t : mS, u = (t, δ, ν) ∧ cab t = setS (cab n) w o x)) := by
  refine vv_of (by decide +kernel) (Nat.le_of_ble_eq_true rfl) ?_
  intro v (F : vv_F v l cX0_set 5 RX0 "set" (some .int) [] (rm 166 3652) Kf (cWd D K fv A) A _)
  show v (n, δ, ν) 0 0 0 [(0, .ref (δ 0)), (1, .int w), (2, .int o), (3, .int x)] []
  have hM := hok.m
  have h8 := hok.m8
  refine v_aload_n F 0 dX0_set_0 rfl rfl rfl ?_
  refine v_iload_n F 1 dX0_set_1 rfl rfl rfl ?_
  refine v_iload_n F 2 dX0_set_2 rfl rfl rfl ?_
  refine v_iload_n F 3 dX0_set_3 rfl rfl rfl ?_
  refine c_calli F G (cc_X0_isSo G n δ ν w o x ) ok_X0_isSo q244 is_X0_isSo rfl rfl dX0_set_4 rfl rfl ?_
  intro u0 hu0; subst u0
  refine v_if_neB (p := (setOK n w o x)) (tgt := 13) (q := 10) F dX0_set_7 rfl rfl (fun c1 => ?_) (fun c1 => ?_)
  · skip
    obtain ⟨k, hk5, hwk⟩ := in_of (M := 5) (n := 5) (by decide) c1.1
    have htw : tn w = k := by rw [hwk, tn_nI (by omega)]
    have hof : 2 ≤ k → o = nI (tn o) ∧ tn o < 8 := fun h2 => of_pC hM h8 c1.2.1 hwk hk5 h2
    have hpm : 3 ≤ k → tn o < tn (n 0 13) := fun h3 => of_mC hM h8 c1.2.1 hwk hk5 h3
    refine v_aload_n F 0 dX0_set_13 rfl rfl rfl ?_
    refine v_iload_n F 2 dX0_set_14 rfl rfl rfl ?_
    refine v_iload_n F 1 dX0_set_15 rfl rfl rfl ?_
    refine c_calli F G (cc_X0_told G n δ ν o w hok) ok_X0_told q255 is_X0_told rfl rfl dX0_set_16 rfl rfl ?_
    rintro _ ⟨t2, rfl, hb2, hct2⟩
    have okt2 : cOk t2 := cOk.of (show cOk n from hok) hb2
    refine v_istore (ls' := [(4, .int (tolV (cab n) o w)), (0, .ref (δ 0)), (1, .int w), (2, .int o), (3, .int x)]) F dX0_set_19 rfl (by decide) rfl ?_
    refine v_aload_n F 1 dX0_set_21 rfl rfl rfl ?_
    refine v_iload_n F 2 dX0_set_22 rfl rfl rfl ?_
    refine v_int F (hwk) ?_
    refine v_iload_n F 3 dX0_set_23 rfl rfl rfl ?_
    refine v_iload_n F 4 dX0_set_24 rfl rfl rfl ?_
    refine c_calln F G (cc_X0_becomes G t2 δ ν k o x hk5 (fun h2 => hof h2) (fun h3 => by rw [cab_eq hb2 0 13 rfl]; exact hpm h3) (fun q hq => okt2.k hq)) ok_X0_becomes q423 is_X0_becomes rfl rfl dX0_set_25 rfl rfl ?_
    rintro _ ⟨t9, rfl, hb9⟩
    refine v_iload F 0 dX0_set_28 rfl rfl ?_
    exact v_reti F dX0_set_30 rfl ((setR_ok (α := cab n) c1).symm) (⟨_, rfl, by rw [hb9, lay_cab, hb2, setS_ok (α := cab n) c1, htw]⟩)
  · skip
    refine v_bipush (x := (-2)) F dX0_set_10 rfl (by decide) ?_
    exact v_reti F dX0_set_12 rfl ((setR_no (α := cab n) c1).symm) (⟨_, rfl, (setS_no (α := cab n) c1).symm⟩)
def tlJ (n s : mS) (i p : Nat) : Prop := s 50 = n 50 ∧ s 51 i = bloV (cab n) ∧ s 52 i = sumN (worV (cab n)) p ∧ (∀ q, q < p → s (70 + i) q = n 12 (3 * q + 2)) ∧ (∀ q, q < p → s 53 q = floV (cab n) q (n 12 (3 * q + 2))) ∧ ∀ j, j ≠ i → s 51 j = n 51 j ∧ s 52 j = n 52 j ∧ ∀ q, s (70 + j) q = n (70 + j) q
theorem tlJ_0 {n : mS} {i : Nat} : tlJ n (up (up n 51 i (bloV (cab n))) 52 i 0) i 0 := by
  refine ⟨rfl, ?_, ?_, fun q h => absurd h (Nat.not_lt_zero _), fun q h => absurd h (Nat.not_lt_zero _), fun j hj => ⟨?_, ?_, fun q => ?_⟩⟩
  · rw [up_ne (by omega), up_eq]
  · rw [up_eq]; rfl
  · rw [up_ne (by omega), up_ne (by omega)]
  · rw [up_ne (by omega), up_ne (by omega)]
  · rw [up_ne (by omega), up_ne (by omega)]
theorem tlJ_s {n s t : mS} {i p : Nat} {x X Y : Int32} (h : tlJ n s i p) (hx : x = n 12 (3 * p + 2)) (ht : cOw (up s (70 + i) p x) t) (hX : X = sumN (worV (cab n)) p + worV (cab n) p) (hY : Y = floV (cab n) p (n 12 (3 * p + 2))) : tlJ n (up (up t 52 i X) 53 p Y) i (p + 1) := by
  obtain ⟨h0, h1, h2, h3, h4, h5⟩ := h
  have e : ∀ k j, 42 ≤ k → ¬ (k = 70 + i ∧ j = p) → t k j = s k j := fun k j hk hn => by rw [ht k j (Or.inl hk), up_ne hn]
  refine ⟨?_, ?_, ?_, ?_, ?_, ?_⟩
  · funext j
    rw [up_ne (by omega), up_ne (by omega), e 50 j (by omega) (by omega), h0]
  · rw [up_ne (by omega), up_ne (by omega), e 51 i (by omega) (by omega), h1]
  · rw [up_ne (by omega), up_eq, hX]; rfl
  · intro q hq
    rw [up_ne (by omega), up_ne (by omega)]
    by_cases c : q = p
    · subst c; rw [ht _ _ (by omega), up_eq]; exact hx
    · rw [e _ _ (by omega) (by omega)]; exact h3 q (by omega)
  · intro q hq
    by_cases c : q = p
    · subst c; rw [up_eq]; exact hY
    · rw [up_ne (by omega), up_ne (by omega), e _ _ (by omega) (by omega)]; exact h4 q (by omega)
  · intro j hj
    obtain ⟨a, b, c⟩ := h5 j hj
    refine ⟨?_, ?_, fun q => ?_⟩
    · rw [up_ne (by omega), up_ne (by omega), e _ _ (by omega) (by omega), a]
    · rw [up_ne (by omega), up_ne (by omega), e _ _ (by omega) (by omega), b]
    · rw [up_ne (by omega), up_ne (by omega), e _ _ (by omega) (by omega), c q]
theorem tlJ_end {n s : mS} {i p : Nat} (h : tlJ n s i p) (hp : p = tn (n 0 13)) : telB (cab n) n s i := by
  subst hp
  obtain ⟨h0, h1, h2, h3, h4, h5⟩ := h
  exact ⟨h1, h2, h3, h4, h0, h5⟩
theorem ok_X0_tellsBehind : vv_oc yX0_tellsBehind 3 1 (ws_ yX0_tellsBehind cX0_tellsBehind 3 none) := vv_ok.oc (rt := none) ⟨q948, q116, by decide +kernel, by decide +kernel⟩
theorem is_X0_tellsBehind : Cond.instanceMethod yX0_tellsBehind ∈ lw_all ∧ Cond.selects RX0 yX0_tellsBehind yX0_tellsBehind ∈ lw_all := ⟨q947, qs31⟩
set_option maxHeartbeats 4000000 in
theorem cc_X0_tellsBehind {l : Launch} {Kf : State → Prop} {D : va_G} {K : Nat → ClassId} {fv : List Value × (Nat → Nat)} {A : Nat → Prop} (G : cG A fv cIm Kf D K)  (n : mS) (δ : Nat → Nat) (ν : Nat → Option (Mg × Nat)) (i : Nat) (hok : cOk n) (hi : i ≤ 30) : vv_Ct l yX0_tellsBehind (ws_ yX0_tellsBehind cX0_tellsBehind 3 none) (rm 164 3607) Kf (cWd D K fv A) A [.ref (δ 0), .int (nI i)] (n, δ, ν) (vv_n (fun u => ∃ t : mS, u = (t, δ, ν) ∧ cab t = cab n ∧ telB (cab n) n t i)) := by
  refine vv_of (by decide +kernel) (Nat.le_of_ble_eq_true rfl) ?_
  intro v (F : vv_F v l cX0_tellsBehind 3 RX0 "tellsBehind" none [] (rm 164 3607) Kf (cWd D K fv A) A _)
  show v (n, δ, ν) 0 0 0 [(0, .ref (δ 0)), (1, .int (nI i))] []
  have hM := hok.m
  have h8 := hok.m8
  refine v_aload_n F 0 dX0_tellsBehind_0 rfl rfl rfl ?_
  refine c_get F G 23 (w := .ref (δ 23)) (by decide) q824 rfl dX0_tellsBehind_1 rfl ?_
  refine v_iload_n F 1 dX0_tellsBehind_4 rfl rfl rfl ?_
  refine v_aload_n F 0 dX0_tellsBehind_5 rfl rfl rfl ?_
  refine c_calli F G (cc_X0_bloom G n δ ν  hok) ok_X0_bloom q949 is_X0_bloom rfl rfl dX0_tellsBehind_6 rfl rfl ?_
  intro u0 hu0; subst u0
  refine c_ast (t := i) F G 23 51 31 (fun _ => rfl) rfl (by unfold rowO; omega) (by unfold frc; omega) (by decide) (by decide) (by decide) (by omega) (by decide) dX0_tellsBehind_9 rfl ?_
  refine v_aload_n F 0 dX0_tellsBehind_10 rfl rfl rfl ?_
  refine c_get F G 24 (w := .ref (δ 24)) (by decide) q825 rfl dX0_tellsBehind_11 rfl ?_
  refine v_iload_n F 1 dX0_tellsBehind_14 rfl rfl rfl ?_
  refine v_iconst (x := 0) F dX0_tellsBehind_15 rfl (by decide) ?_
  refine c_ast (t := i) F G 24 52 31 (fun _ => rfl) rfl (by unfold rowO; omega) (by unfold frc; omega) (by decide) (by decide) (by decide) (by omega) (by decide) dX0_tellsBehind_16 rfl ?_
  refine v_iconst (x := 0) F dX0_tellsBehind_17 rfl (by decide) ?_
  refine v_istore_n (ls' := [(2, .int 0), (0, .ref (δ 0)), (1, .int (nI i))]) F dX0_tellsBehind_18 rfl rfl (by decide) rfl ?_
  have L19 : ∀ (nf : Nat) (s : mS) (p : Nat) (hpM : p ≤ tn (n 0 13)) (hs : cab s = cab n) (hJ : tlJ n s i p) (hnf : tn (n 0 13) - p < nf), v (s, δ, ν) 0 0 19 [(0, .ref (δ 0)), (1, .int (nI i)), (2, .int (nI p))] [] := by
    intro nf
    induction nf with
    | zero => intro s p hpM hs hJ hnf; exact absurd hnf (Nat.not_lt_zero _)
    | succ nf ih19 =>
      intro s p hpM hs hJ hnf
      have oks : cOk s := hok.of hs
      have h13 : s 0 13 = nI (tn (n 0 13)) := (cab_eq hs 0 13 rfl).trans hM
      have h13t : tn (s 0 13) = tn (n 0 13) := by rw [cab_eq hs 0 13 rfl]
      refine v_iload_n F 2 dX0_tellsBehind_19 rfl rfl rfl ?_
      refine v_aload_n F 0 dX0_tellsBehind_20 rfl rfl rfl ?_
      refine c_get F G 1 (w := .int (s 0 13)) (by decide) q798 rfl dX0_tellsBehind_21 rfl ?_
      refine v_int F (y := n 0 13) (cab_eq hs 0 13 rfl) ?_
      refine v_int F (hM) ?_
      refine v_icmp_geN (a := p) (b := tn (n 0 13)) (tgt := 79) (q := 27) F dX0_tellsBehind_24 rfl rfl (by omega) (by omega) (fun c1 => ?_) (fun c1 => ?_)
      · skip
        exact v_retn F dX0_tellsBehind_79 rfl (⟨_, rfl, hs, tlJ_end hJ (by omega)⟩)
      · skip
        refine v_aload_n F 0 dX0_tellsBehind_27 rfl rfl rfl ?_
        refine c_get F G 22 (w := .ref (δ 22)) (by decide) q823 rfl dX0_tellsBehind_28 rfl ?_
        refine v_iload_n F 1 dX0_tellsBehind_31 rfl rfl rfl ?_
        refine c_behind (t := i) F G (by omega) dX0_tellsBehind_32 rfl ?_
        refine v_iload_n F 2 dX0_tellsBehind_33 rfl rfl rfl ?_
        refine v_aload_n F 0 dX0_tellsBehind_34 rfl rfl rfl ?_
        refine c_get F G 0 (w := .ref (δ 1)) (by decide) q797 rfl dX0_tellsBehind_35 rfl ?_
        refine v_iload_n F 2 dX0_tellsBehind_38 rfl rfl rfl ?_
        refine c_plant (s := p) F G (oks.lv (by omega)) (by omega) dX0_tellsBehind_39 rfl ?_
        refine c_bget F G p 2 (oks.lv (by omega)) (oks.k (by omega)) (by decide) q185 (refO_9 2) dX0_tellsBehind_40 rfl ?_
        refine v_int F (y := n 12 (3 * p + 2)) (cab_eq hs 12 (3 * p + 2) rfl) ?_
        refine c_bst (t := i) (i := p) F G (by omega) (by omega) dX0_tellsBehind_43 rfl ?_
        obtain ⟨s1, hs1⟩ : ∃ s1, s1 = up s (70 + i) p (n 12 (3 * p + 2)) := ⟨_, rfl⟩
        refine v_st F (σ2 := (s1, δ, ν)) (by rw [hs1]) ?_
        have hab1 : cab s1 = cab n := by rw [hs1, cab_us (cow_70 i p)]; exact hs
        have oks1 : cOk s1 := hok.of hab1
        have hp1 : p < tn (s1 0 13) := by rw [cab_eq hab1 0 13 rfl]; omega
        have h52 : s1 52 i = sumN (worV (cab n)) p := by rw [hs1, up_ne (by omega)]; exact hJ.2.2.1
        refine v_aload_n F 0 dX0_tellsBehind_44 rfl rfl rfl ?_
        refine c_get F G 24 (w := .ref (δ 24)) (by decide) q825 rfl dX0_tellsBehind_45 rfl ?_
        refine v_iload_n F 1 dX0_tellsBehind_48 rfl rfl rfl ?_
        refine v_dup2 F dX0_tellsBehind_49 rfl rfl rfl ?_
        refine c_ald (t := i) F G 24 52 31 (fun _ => rfl) (by unfold rowO; omega) (by omega) (by decide) dX0_tellsBehind_50 rfl ?_
        refine v_int F h52 ?_
        refine v_aload_n F 0 dX0_tellsBehind_51 rfl rfl rfl ?_
        refine v_iload_n F 2 dX0_tellsBehind_52 rfl rfl rfl ?_
        refine c_calli F G (cc_X0_worthOf G s1 δ ν p oks1 hp1) ok_X0_worthOf q911 is_X0_worthOf rfl rfl dX0_tellsBehind_53 rfl rfl ?_
        rintro _ ⟨t2, rfl, hb2, hct2⟩
        have okt2 : cOk t2 := cOk.of (show cOk s1 from oks1) hb2
        have hpt2_0 : p < tn (t2 0 13) := by rw [cab_eq hb2 0 13 rfl]; exact hp1
        refine v_iadd F dX0_tellsBehind_56 rfl ?_
        refine c_ast (t := i) F G 24 52 31 (fun _ => rfl) rfl (by unfold rowO; omega) (by unfold frc; omega) (by decide) (by decide) (by decide) (by omega) (by decide) dX0_tellsBehind_57 rfl ?_
        have hab2 : cab t2 = cab n := hb2.trans hab1
        refine v_aload_n F 0 dX0_tellsBehind_58 rfl rfl rfl ?_
        refine c_get F G 25 (w := .ref (δ 25)) (by decide) q826 rfl dX0_tellsBehind_59 rfl ?_
        refine v_iload_n F 2 dX0_tellsBehind_62 rfl rfl rfl ?_
        refine v_aload_n F 0 dX0_tellsBehind_63 rfl rfl rfl ?_
        refine c_get F G 0 (w := .ref (δ 1)) (by decide) q797 rfl dX0_tellsBehind_64 rfl ?_
        refine v_iload_n F 2 dX0_tellsBehind_67 rfl rfl rfl ?_
        refine c_plant (s := p) F G (okt2.lv hpt2_0) (by omega) dX0_tellsBehind_68 rfl ?_
        refine c_vcalli F G (As := []) (y := fun _ => yX9_heldFlowers) (ws := fun _ => ws_ yX9_heldFlowers cX9_heldFlowers 1 (some .int)) (mL := fun _ => 1) (okt2.lv hpt2_0) (okt2.k hpt2_0) q391 od_heldFlowers vo_heldFlowers (fun _ _ _ => cc_X9_heldFlowers G (up t2 52 i ((sumN (worV (cab n)) p) + (worV (cab s1) p))) δ ν p  (okt2.lv hpt2_0) (okt2.k hpt2_0) (by show t2 11 p = nI (tn (t2 11 p)); rw [cab_eq hab2 11 p rfl]; exact (hok.2 p (by omega)).1) (by show 0 ≤ t2 12 (3 * p + 2); rw [cab_eq hab2 12 (3 * p + 2) rfl]; exact (hok.1.2.1 p (by omega)).2.1)) rfl rfl dX0_tellsBehind_69 rfl rfl ?_
        intro u0 hu0; subst u0
        have hY : floF ((up t2 52 i ((sumN (worV (cab n)) p) + (worV (cab s1) p))) 11 p) ((up t2 52 i ((sumN (worV (cab n)) p) + (worV (cab s1) p))) 12 (3 * p + 2)) ((up t2 52 i ((sumN (worV (cab n)) p) + (worV (cab s1) p))) 12 (3 * p)) = floV (cab n) p (n 12 (3 * p + 2)) := by show floF (t2 11 p) (t2 12 (3 * p + 2)) (t2 12 (3 * p)) = _; rw [cab_eq hab2 11 p rfl, cab_eq hab2 12 (3 * p + 2) rfl, cab_eq hab2 12 (3 * p) rfl]; rfl
        refine c_ast (t := p) F G 25 53 8 (fun _ => rfl) rfl (by unfold rowO; omega) (by unfold frc; omega) (by decide) (by decide) (by decide) (by omega) (by decide) dX0_tellsBehind_72 rfl ?_
        refine v_iincN (ls' := [(2, .int (nI (p + 1))), (0, .ref (δ 0)), (1, .int (nI i))]) F 2 dX0_tellsBehind_73 rfl rfl (by decide) rfl ?_
        refine v_goto (tgt := 19) F dX0_tellsBehind_76 rfl ?_
        refine v_sub (ls' := [(0, .ref (δ 0)), (1, .int (nI i)), (2, .int (nI (p + 1)))]) F [1, 2, 0] rfl ?_
        exact ih19 (up (up t2 52 i ((sumN (worV (cab n)) p) + (worV (cab s1) p))) 53 p (floF ((up t2 52 i ((sumN (worV (cab n)) p) + (worV (cab s1) p))) 11 p) ((up t2 52 i ((sumN (worV (cab n)) p) + (worV (cab s1) p))) 12 (3 * p + 2)) ((up t2 52 i ((sumN (worV (cab n)) p) + (worV (cab s1) p))) 12 (3 * p)))) (p + 1) (by omega) ((cab_us rfl).trans ((cab_us rfl).trans hab2)) (tlJ_s hJ rfl (by rw [← hs1]; exact hct2) (by rw [hab1]) hY) (by omega)
  refine v_sub (ls' := [(0, .ref (δ 0)), (1, .int (nI i)), (2, .int 0)]) F [1, 2, 0] rfl ?_
  exact L19 _ (up (up n 51 i (bloV (cab n))) 52 i 0) 0 (Nat.zero_le _) ((cab_us rfl).trans (cab_us rfl)) tlJ_0 (Nat.lt_succ_self _)
def rnJ (n s : mS) (i : Nat) : Prop := (∀ q, q < tn (n 0 13) → s 50 q = n 12 (3 * q + 2)) ∧ (∀ j, j < i → s 51 j = bloV (yrs (cab n) j) ∧ s 52 j = wrtV (yrs (cab n) j) ∧ ∀ p, p < tn (n 0 13) → s (70 + j) p = yrs (cab n) j 12 (3 * p + 2)) ∧ (0 < i → ∀ p, p < tn (n 0 13) → s 53 p = floV (yrs (cab n) (i - 1)) p (yrs (cab n) (i - 1) 12 (3 * p + 2)))
theorem rnJ_s {n s t : mS} {i : Nat} (h : rnJ n s i) (hs : cab s = yrs (cab n) i) (ht : telB (cab s) s t i) : rnJ n t (i + 1) := by
  obtain ⟨h0, h1, -⟩ := h
  obtain ⟨t1, t2, t3, t4, t5, t6⟩ := ht
  have hm : tn (cab s 0 13) = tn (n 0 13) := by rw [hs, yrs_13]; rfl
  rw [hm] at t3 t4
  refine ⟨fun q hq => by rw [t5]; exact h0 q hq, fun j hj => ?_, fun _ => ?_⟩
  · by_cases c : j = i
    · subst c
      rw [← hs]; exact ⟨t1, t2, t3⟩
    · obtain ⟨a, b, d⟩ := t6 j c
      obtain ⟨a', b', d'⟩ := h1 j (by omega)
      exact ⟨a.trans a', b.trans b', fun p hp => (d p).trans (d' p hp)⟩
  · rw [Nat.add_sub_cancel, ← hs]; exact t4
theorem rnJ_o {n s t : mS} {i : Nat} (h : rnJ n s i) (ht : cOw s t) : rnJ n t i := by
  obtain ⟨h0, h1, h2⟩ := h
  refine ⟨fun q hq => by rw [ht _ _ (by omega)]; exact h0 q hq, fun j hj => ?_, fun hi p hp => by rw [ht _ _ (by omega)]; exact h2 hi p hp⟩
  obtain ⟨a, b, c⟩ := h1 j hj
  exact ⟨(ht _ _ (by omega)).trans a, (ht _ _ (by omega)).trans b, fun p hp => (ht _ _ (by omega)).trans (c p hp)⟩
theorem rnJ_0 {n s : mS} (h : ∀ q, q < tn (n 0 13) → s 50 q = n 12 (3 * q + 2)) : rnJ n s 0 := ⟨h, fun j hj => absurd hj (Nat.not_lt_zero _), fun h => absurd h (Nat.lt_irrefl _)⟩
theorem rnJ_end {n s t : mS} {i m : Nat} (h : rnJ n s i) (hi : i = m + 1) (ht : cOw s t) : runD (cab n) t m := by
  subst hi
  obtain ⟨-, h1, h2⟩ := rnJ_o h ht
  exact ⟨fun j hj => h1 j (by omega), fun p hp => h2 (by omega) p hp⟩
theorem run_bk {n s t : mS} {m : Nat} {f : Nat → Int32} (hs : cab s = yrs (cab n) m) (hf : ∀ q, q < tn (n 0 13) → f q = n 12 (3 * q + 2)) (ht : cab t = lbk (cab s) f (tn (s 0 13)) (n 0 7)) : cab t = cab n := by
  rw [ht, yrs13 hs, hs]
  exact lbk_r (α := cab n) (yrs_r _ _) hf
theorem yrs_sub {α : mS} {i : Nat} (h : 1 ≤ i) : livS (yrs α (i - 1)) = yrs α i := by cases i with | zero => omega | succ i => rfl
theorem ok_X0_runs : vv_oc yX0_runs 5 1 (wsW_ yX0_runs cX0_runs 5 none [(9, 36, 44, 0), (44, 46, 44, 0)]) := vv_okW.oc (rt := none) ⟨q940, q116, by decide +kernel, by decide +kernel⟩
theorem is_X0_runs : Cond.instanceMethod yX0_runs ∈ lw_all ∧ Cond.selects RX0 yX0_runs yX0_runs ∈ lw_all := ⟨q939, qs29⟩
set_option maxHeartbeats 4000000 in
theorem cc_X0_runs {l : Launch} {Kf : State → Prop} {D : va_G} {K : Nat → ClassId} {fv : List Value × (Nat → Nat)} {A : Nat → Prop} (G : cG A fv cIm Kf D K)  (n : mS) (δ : Nat → Nat) (ν : Nat → Option (Mg × Nat)) (m : Nat) (hok : cOk n) (hm : m ≤ 30) : vv_Ct l yX0_runs (wsW_ yX0_runs cX0_runs 5 none [(9, 36, 44, 0), (44, 46, 44, 0)]) (rm 165 3630) Kf (cWd D K fv A) A [.ref (δ 0), .int (nI m)] (n, δ, ν) (vv_n (fun u => ∃ t : mS, u = (t, δ, ν) ∧ cab t = cab n ∧ runD (cab n) t m)) := by
  refine vv_ofW (by decide +kernel) (Nat.le_of_ble_eq_true rfl) ?_
  intro v (F : vv_F v l cX0_runs 5 RX0 "runs" none [(9, 36, 44, 0), (44, 46, 44, 0)] (rm 165 3630) Kf (cWd D K fv A) A _)
  show v (n, δ, ν) 0 0 0 [(0, .ref (δ 0)), (1, .int (nI m))] []
  have hM := hok.m
  have h8 := hok.m8
  refine v_aload_n F 0 dX0_runs_0 rfl rfl rfl ?_
  refine c_get F G 2 (w := .int (n 0 7)) (by decide) q800 rfl dX0_runs_1 rfl ?_
  refine v_istore_n (ls' := [(2, .int (n 0 7)), (0, .ref (δ 0)), (1, .int (nI m))]) F dX0_runs_4 rfl rfl (by decide) rfl ?_
  refine v_aload_n F 1 dX0_runs_5 rfl rfl rfl ?_
  refine c_calln F G (cc_X0_keeps G n δ ν  hok) ok_X0_keeps q941 is_X0_keeps rfl rfl dX0_runs_6 rfl rfl ?_
  rintro _ ⟨tk, rfl, hbk, hdtk, hetk⟩
  have oktk : cOk tk := cOk.of (show cOk n from hok) hbk
  have hk0 : cab tk = yrs (cab n) 0 := hbk
  have hek := hetk
  refine v_aload_n F 1 dX0_runs_9 rfl rfl rfl ?_
  refine v_iconst (x := 0) F dX0_runs_10 rfl (by decide) ?_
  refine c_calln F G (cc_X0_tellsBehind G tk δ ν 0 oktk (by omega)) ok_X0_tellsBehind q945 is_X0_tellsBehind rfl rfl dX0_runs_11 rfl rfl ?_
  rintro _ ⟨t2, rfl, hb2, hTt2⟩
  have okt2 : cOk t2 := cOk.of (show cOk tk from oktk) hb2
  refine v_iconst (x := 1) F dX0_runs_14 rfl (by decide) ?_
  refine v_istore_n (ls' := [(3, .int 1), (2, .int (n 0 7)), (0, .ref (δ 0)), (1, .int (nI m))]) F dX0_runs_15 rfl rfl (by decide) rfl ?_
  have L16 : ∀ (nf : Nat) (s : mS) (i : Nat) (him : 1 ≤ i ∧ i ≤ m + 1) (hs : cab s = yrs (cab n) (i - 1)) (hJ : rnJ n s i) (hnf : m + 1 - i < nf), v (s, δ, ν) 0 0 16 [(0, .ref (δ 0)), (1, .int (nI m)), (2, .int (n 0 7)), (3, .int (nI i))] [] := by
    intro nf
    induction nf with
    | zero => intro s i him hs hJ hnf; exact absurd hnf (Nat.not_lt_zero _)
    | succ nf ih16 =>
      intro s i him hs hJ hnf
      have hi1 := him.1
      have oks : cOk s := hok.yrs hs
      refine v_iload_n F 3 dX0_runs_16 rfl rfl rfl ?_
      refine v_iload_n F 1 dX0_runs_17 rfl rfl rfl ?_
      refine v_icmp_gtN (a := i) (b := m) (tgt := 36) (q := 21) F dX0_runs_18 rfl rfl (by omega) (by omega) (fun c3 => ?_) (fun c3 => ?_)
      · skip
        refine v_aload_n F 0 dX0_runs_36 rfl rfl rfl ?_
        refine v_iload_n F 2 dX0_runs_37 rfl rfl rfl ?_
        refine c_calln F G (cc_X0_laysBack G s δ ν (n 0 7) oks.m oks.m8 (fun q hq => oks.k hq)) ok_X0_laysBack q953 is_X0_laysBack rfl rfl dX0_runs_38 rfl rfl ?_
        rintro _ ⟨tz, rfl, hb9, hctz⟩
        refine v_goto (tgt := 54) F dX0_runs_41 rfl ?_
        exact v_retn F dX0_runs_54 rfl (⟨_, rfl, run_bk (m := i - 1) (f := s 50) hs hJ.1 hb9, rnJ_end hJ (by omega) hctz⟩)
      · skip
        refine v_aload_n F 0 dX0_runs_21 rfl rfl rfl ?_
        refine c_calln F G (cc_X0_yearOf G s δ ν  oks) ok_X0_yearOf q920 is_X0_yearOf rfl rfl dX0_runs_22 rfl rfl ?_
        rintro _ ⟨ty, rfl, hbty, hcty⟩
        have okty : cOk ty := hok.yrs (m := i) (by rw [hbty, hs]; exact yrs_sub hi1)
        refine v_aload_n F 0 dX0_runs_25 rfl rfl rfl ?_
        refine v_iload_n F 3 dX0_runs_26 rfl rfl rfl ?_
        refine c_calln F G (cc_X0_tellsBehind G ty δ ν i okty (by omega)) ok_X0_tellsBehind q945 is_X0_tellsBehind rfl rfl dX0_runs_27 rfl rfl ?_
        rintro _ ⟨t6, rfl, hb6, hTt6⟩
        have okt6 : cOk t6 := cOk.of (show cOk ty from okty) hb6
        have hbz : cab t6 = yrs (cab n) i := hb6.trans (by rw [hbty, hs]; exact yrs_sub hi1)
        have hJz : rnJ n t6 (i + 1) := rnJ_s (rnJ_o hJ hcty) (by rw [hbty, hs]; exact yrs_sub hi1) hTt6
        refine v_iincN (ls' := [(3, .int (nI (i + 1))), (0, .ref (δ 0)), (1, .int (nI m)), (2, .int (n 0 7))]) F 3 dX0_runs_30 rfl rfl (by decide) rfl ?_
        refine v_goto (tgt := 16) F dX0_runs_33 rfl ?_
        refine v_sub (ls' := [(0, .ref (δ 0)), (1, .int (nI m)), (2, .int (n 0 7)), (3, .int (nI (i + 1)))]) F [1, 2, 3, 0] rfl ?_
        exact ih16 t6 (i + 1) (by omega) hbz hJz (by omega)
  refine v_sub (ls' := [(0, .ref (δ 0)), (1, .int (nI m)), (2, .int (n 0 7)), (3, .int 1)]) F [2, 3, 1, 0] rfl ?_
  exact L16 _ t2 1 (by omega) (hb2.trans hk0) (rnJ_s (s := tk) (rnJ_0 hek) hk0 hTt2) (Nat.lt_succ_self _)
