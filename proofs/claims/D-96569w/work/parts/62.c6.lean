set_option maxRecDepth 100000
def lbk (α : mS) (f : Nat → Int32) (m : Nat) (y : Int32) : mS := fun k j => if k = 12 ∧ j % 3 = 2 ∧ j / 3 < m then f (j / 3) else if k = 0 ∧ j = 7 then y else α k j
def lbN (α : mS) (f : Nat → Int32) (m : Nat) : mS := fun k j => if k = 12 ∧ j % 3 = 2 ∧ j / 3 < m then f (j / 3) else α k j
theorem lbN_0 {α : mS} {f : Nat → Int32} : lbN α f 0 = α := by funext k j; unfold lbN; rw [if_neg (by omega)]
theorem lbN_s {α : mS} {f : Nat → Int32} {p : Nat} : up (lbN α f p) 12 (3 * p + 2) (f p) = lbN α f (p + 1) := by
  funext k j
  unfold lbN
  by_cases h : k = 12 ∧ j = 3 * p + 2
  · obtain ⟨rfl, rfl⟩ := h
    rw [up_eq, if_pos (by omega), show (3 * p + 2) / 3 = p by omega]
  · rw [up_ne h]
    by_cases c : k = 12 ∧ j % 3 = 2 ∧ j / 3 < p
    · rw [if_pos c, if_pos (by omega)]
    · rw [if_neg c, if_neg (by omega)]
theorem lbN_k {α : mS} {f : Nat → Int32} {m : Nat} {y : Int32} : up (lbN α f m) 0 7 y = lbk α f m y := by
  funext k j
  unfold lbk lbN
  by_cases h : k = 0 ∧ j = 7
  · obtain ⟨rfl, rfl⟩ := h
    rw [up_eq, if_neg (by omega), if_pos ⟨rfl, rfl⟩]
  · rw [up_ne h, if_neg h]
theorem lbk_r {α β : mS} {f : Nat → Int32} (h : onlyR α β) (hf : ∀ p, p < tn (α 0 13) → f p = α 12 (3 * p + 2)) : lbk β f (tn (α 0 13)) (α 0 7) = α := by
  funext k j
  unfold lbk
  by_cases c : k = 12 ∧ j % 3 = 2 ∧ j / 3 < tn (α 0 13)
  · obtain ⟨rfl, c2, c3⟩ := c
    rw [if_pos ⟨rfl, c2, c3⟩, hf _ c3, show 3 * (j / 3) + 2 = j by omega]
  · rw [if_neg c]
    by_cases d : k = 0 ∧ j = 7
    · obtain ⟨rfl, rfl⟩ := d; rw [if_pos ⟨rfl, rfl⟩]
    · rw [if_neg d]
      exact h k j (fun ⟨e, p, hp, hj⟩ => c ⟨e, by omega, by omega⟩) d
theorem cab_lbN {n : mS} {f : Nat → Int32} {m : Nat} : cab (lbN n f m) = lbN (cab n) f m := by
  funext k j
  unfold cab lbN
  by_cases c : k = 12 ∧ j % 3 = 2 ∧ j / 3 < m
  · rw [if_pos c, if_pos c, if_neg (by obtain ⟨rfl, _⟩ := c; rw [show cow 12 j = false from rfl]; decide)]
  · rw [if_neg c, if_neg c]
theorem cOk.liv {n s : mS} {p : Nat} (h : cOk n) (hp : p ≤ tn (n 0 13)) (hs : cab s = livN (cab n) p) : cOk s := by
  refine cOk_cab.mp ?_
  rw [hs]
  refine ⟨wf_livN (α := cab n) h.1 p, ?_⟩
  have e : ∀ k j, k ≠ 12 → livN (cab n) p k j = cab n k j := fun k j hk => livN_r (α := cab n) p hp k j (fun g => hk g.1)
  intro q hq
  rw [e 0 13 (by decide)] at hq
  rw [e 11 q (by decide)]
  exact h.2 q hq
theorem cOk.yrs {n s : mS} {m : Nat} (h : cOk n) (hs : cab s = Jvm.Pilot.@@N@@.yrs (cab n) m) : cOk s := by
  refine cOk_cab.mp ?_
  rw [hs]
  refine ⟨wf_yrs (α := cab n) h.1 m, ?_⟩
  have hr := yrs_r (cab n) m
  intro q hq
  rw [hr.M] at hq
  rw [hr 11 q (by omega) (by omega)]
  exact h.2 q hq
theorem liv13 {n s : mS} {p : Nat} (hp : p ≤ tn (n 0 13)) (hs : cab s = livN (cab n) p) : s 0 13 = n 0 13 := by
  rw [← cab_rd (n := s) 0 13 rfl, hs]
  exact livN_r (α := cab n) p hp 0 13 (by omega)
theorem yrs13 {n s : mS} {m : Nat} (hs : cab s = yrs (cab n) m) : s 0 13 = n 0 13 := by
  rw [← cab_rd (n := s) 0 13 rfl, hs]
  exact (yrs_r (cab n) m).M
/-- what runs lays down -/
def runD (α t : mS) (m : Nat) : Prop := (∀ i, i ≤ m → t 51 i = bloV (yrs α i) ∧ t 52 i = wrtV (yrs α i) ∧ ∀ p, p < tn (α 0 13) → t (70 + i) p = yrs α i 12 (3 * p + 2)) ∧ ∀ p, p < tn (α 0 13) → t 53 p = floV (yrs α m) p (yrs α m 12 (3 * p + 2))
/-- what tellsBehind lays down -/
def telB (α n t : mS) (i : Nat) : Prop := t 51 i = bloV α ∧ t 52 i = wrtV α ∧ (∀ p, p < tn (α 0 13) → t (70 + i) p = α 12 (3 * p + 2)) ∧ (∀ p, p < tn (α 0 13) → t 53 p = floV α p (α 12 (3 * p + 2))) ∧ t 50 = n 50 ∧ ∀ j, j ≠ i → t 51 j = n 51 j ∧ t 52 j = n 52 j ∧ ∀ p, t (70 + j) p = n (70 + j) p
theorem ok_X0_all : vv_oc yX0_all 3 0 (ws_ yX0_all cX0_all 3 (some .int)) := vv_ok.oc (rt := (some .int)) ⟨q927, q116, by decide +kernel, by decide +kernel⟩
theorem is_X0_all : Cond.instanceMethod yX0_all ∈ lw_all ∧ Cond.selects RX0 yX0_all yX0_all ∈ lw_all := ⟨q926, qs28⟩
set_option maxHeartbeats 4000000 in
theorem cc_X0_all {l : Launch} {Kf : State → Prop} {D : va_G} {K : Nat → ClassId} {fv : List Value × (Nat → Nat)} {A : Nat → Prop} (G : cG A fv cIm Kf D K)  (n : mS) (δ : Nat → Nat) (ν : Nat → Option (Mg × Nat))  (hok : cOk n) : vv_Ct l yX0_all (ws_ yX0_all cX0_all 3 (some .int)) (rm 0 0) Kf (cWd D K fv A) A [.ref (δ 0)] (n, δ, ν) (vv_i (allV (cab n)) (fun u => u = (n, δ, ν))) := by
  refine vv_of (by decide +kernel) (Nat.le_of_ble_eq_true rfl) ?_
  intro v (F : vv_F v l cX0_all 3 RX0 "all" (some .int) [] (rm 0 0) Kf (cWd D K fv A) A _)
  show v (n, δ, ν) 0 0 0 [(0, .ref (δ 0))] []
  have hM := hok.m
  have h8 := hok.m8
  refine v_iconst (x := 0) F dX0_all_0 rfl (by decide) ?_
  refine v_istore_n (ls' := [(1, .int 0), (0, .ref (δ 0))]) F dX0_all_1 rfl rfl (by decide) rfl ?_
  refine v_iconst (x := 0) F dX0_all_2 rfl (by decide) ?_
  refine v_istore_n (ls' := [(2, .int 0), (1, .int 0), (0, .ref (δ 0))]) F dX0_all_3 rfl rfl (by decide) rfl ?_
  have L4 : ∀ (nf : Nat) (p : Nat) (hpM : p ≤ tn (n 0 13)) (hnf : tn (n 0 13) - p < nf), v (n, δ, ν) 0 0 4 [(0, .ref (δ 0)), (1, .int (sumN (fun p => n 12 (3 * p + 2)) p)), (2, .int (nI p))] [] := by
    intro nf
    induction nf with
    | zero => intro p hpM hnf; exact absurd hnf (Nat.not_lt_zero _)
    | succ nf ih4 =>
      intro p hpM hnf
      refine v_iload_n F 2 dX0_all_4 rfl rfl rfl ?_
      refine v_aload_n F 0 dX0_all_5 rfl rfl rfl ?_
      refine c_get F G 1 (w := .int (n 0 13)) (by decide) q798 rfl dX0_all_6 rfl ?_
      refine v_int F (hM) ?_
      refine v_icmp_geN (a := p) (b := tn (n 0 13)) (tgt := 30) (q := 12) F dX0_all_9 rfl rfl (by omega) (by omega) (fun c1 => ?_) (fun c1 => ?_)
      · skip
        refine v_iload_n F 1 dX0_all_30 rfl rfl rfl ?_
        exact v_reti F dX0_all_31 rfl (by rw [all_end c1 hpM]; rfl) (rfl)
      · skip
        refine v_iload_n F 1 dX0_all_12 rfl rfl rfl ?_
        refine v_aload_n F 0 dX0_all_13 rfl rfl rfl ?_
        refine c_get F G 0 (w := .ref (δ 1)) (by decide) q797 rfl dX0_all_14 rfl ?_
        refine v_iload_n F 2 dX0_all_17 rfl rfl rfl ?_
        refine c_plant (s := p) F G (hok.lv (by omega)) (by omega) dX0_all_18 rfl ?_
        refine c_bget F G p 2 (hok.lv (by omega)) (hok.k (by omega)) (by decide) q185 (refO_9 2) dX0_all_19 rfl ?_
        refine v_iadd F dX0_all_22 rfl ?_
        refine v_istore_n (ls' := [(1, .int ((sumN (fun p => n 12 (3 * p + 2)) p) + (n 12 (3 * p + 2)))), (0, .ref (δ 0)), (2, .int (nI p))]) F dX0_all_23 rfl rfl (by decide) rfl ?_
        refine v_iincN (ls' := [(2, .int (nI (p + 1))), (1, .int ((sumN (fun p => n 12 (3 * p + 2)) p) + (n 12 (3 * p + 2)))), (0, .ref (δ 0))]) F 2 dX0_all_24 rfl rfl (by decide) rfl ?_
        refine v_goto (tgt := 4) F dX0_all_27 rfl ?_
        refine v_sub (ls' := [(0, .ref (δ 0)), (1, .int ((sumN (fun p => n 12 (3 * p + 2)) p) + (n 12 (3 * p + 2)))), (2, .int (nI (p + 1)))]) F [2, 1, 0] rfl ?_
        exact ih4 (p + 1) (by omega) (by omega)
  refine v_sub (ls' := [(0, .ref (δ 0)), (1, .int 0), (2, .int 0)]) F [2, 1, 0] rfl ?_
  exact L4 _ 0 (Nat.zero_le _) (Nat.lt_succ_self _)
theorem ok_X0_bloom : vv_oc yX0_bloom 3 0 (ws_ yX0_bloom cX0_bloom 3 (some .int)) := vv_ok.oc (rt := (some .int)) ⟨q952, q116, by decide +kernel, by decide +kernel⟩
theorem is_X0_bloom : Cond.instanceMethod yX0_bloom ∈ lw_all ∧ Cond.selects RX0 yX0_bloom yX0_bloom ∈ lw_all := ⟨q951, qs32⟩
set_option maxHeartbeats 4000000 in
theorem cc_X0_bloom {l : Launch} {Kf : State → Prop} {D : va_G} {K : Nat → ClassId} {fv : List Value × (Nat → Nat)} {A : Nat → Prop} (G : cG A fv cIm Kf D K)  (n : mS) (δ : Nat → Nat) (ν : Nat → Option (Mg × Nat))  (hok : cOk n) : vv_Ct l yX0_bloom (ws_ yX0_bloom cX0_bloom 3 (some .int)) (rm 5 143) Kf (cWd D K fv A) A [.ref (δ 0)] (n, δ, ν) (vv_i (bloV (cab n)) (fun u => u = (n, δ, ν))) := by
  refine vv_of (by decide +kernel) (Nat.le_of_ble_eq_true rfl) ?_
  intro v (F : vv_F v l cX0_bloom 3 RX0 "bloom" (some .int) [] (rm 5 143) Kf (cWd D K fv A) A _)
  show v (n, δ, ν) 0 0 0 [(0, .ref (δ 0))] []
  have hM := hok.m
  have h8 := hok.m8
  refine v_iconst (x := 0) F dX0_bloom_0 rfl (by decide) ?_
  refine v_istore_n (ls' := [(1, .int 0), (0, .ref (δ 0))]) F dX0_bloom_1 rfl rfl (by decide) rfl ?_
  refine v_iconst (x := 0) F dX0_bloom_2 rfl (by decide) ?_
  refine v_istore_n (ls' := [(2, .int 0), (1, .int 0), (0, .ref (δ 0))]) F dX0_bloom_3 rfl rfl (by decide) rfl ?_
  have L4 : ∀ (nf : Nat) (p : Nat) (hpM : p ≤ tn (n 0 13)) (hnf : tn (n 0 13) - p < nf), v (n, δ, ν) 0 0 4 [(0, .ref (δ 0)), (1, .int (sumN (fun p => floV (cab n) p (n 12 (3 * p + 2))) p)), (2, .int (nI p))] [] := by
    intro nf
    induction nf with
    | zero => intro p hpM hnf; exact absurd hnf (Nat.not_lt_zero _)
    | succ nf ih4 =>
      intro p hpM hnf
      refine v_iload_n F 2 dX0_bloom_4 rfl rfl rfl ?_
      refine v_aload_n F 0 dX0_bloom_5 rfl rfl rfl ?_
      refine c_get F G 1 (w := .int (n 0 13)) (by decide) q798 rfl dX0_bloom_6 rfl ?_
      refine v_int F (hM) ?_
      refine v_icmp_geN (a := p) (b := tn (n 0 13)) (tgt := 30) (q := 12) F dX0_bloom_9 rfl rfl (by omega) (by omega) (fun c1 => ?_) (fun c1 => ?_)
      · skip
        refine v_iload_n F 1 dX0_bloom_30 rfl rfl rfl ?_
        exact v_reti F dX0_bloom_31 rfl (by rw [all_end c1 hpM]; rfl) (rfl)
      · skip
        refine v_iload_n F 1 dX0_bloom_12 rfl rfl rfl ?_
        refine v_aload_n F 0 dX0_bloom_13 rfl rfl rfl ?_
        refine c_get F G 0 (w := .ref (δ 1)) (by decide) q797 rfl dX0_bloom_14 rfl ?_
        refine v_iload_n F 2 dX0_bloom_17 rfl rfl rfl ?_
        refine c_plant (s := p) F G (hok.lv (by omega)) (by omega) dX0_bloom_18 rfl ?_
        refine c_vcalli F G (As := []) (y := fun _ => yX9_heldFlowers) (ws := fun _ => ws_ yX9_heldFlowers cX9_heldFlowers 1 (some .int)) (mL := fun _ => 1) (hok.lv (by omega)) (hok.k (by omega)) q391 od_heldFlowers vo_heldFlowers (fun _ _ _ => cc_X9_heldFlowers G n δ ν p  (hok.lv (by omega)) (hok.k (by omega)) ((hok.2 p (by omega)).1) ((hok.1.2.1 p (by omega)).2.1)) rfl rfl dX0_bloom_19 rfl rfl ?_
        intro u0 hu0; subst u0
        refine v_iadd F dX0_bloom_22 rfl ?_
        refine v_istore_n (ls' := [(1, .int ((sumN (fun p => floV (cab n) p (n 12 (3 * p + 2))) p) + (floF (n 11 p) (n 12 (3 * p + 2)) (n 12 (3 * p))))), (0, .ref (δ 0)), (2, .int (nI p))]) F dX0_bloom_23 rfl rfl (by decide) rfl ?_
        refine v_iincN (ls' := [(2, .int (nI (p + 1))), (1, .int ((sumN (fun p => floV (cab n) p (n 12 (3 * p + 2))) p) + (floF (n 11 p) (n 12 (3 * p + 2)) (n 12 (3 * p))))), (0, .ref (δ 0))]) F 2 dX0_bloom_24 rfl rfl (by decide) rfl ?_
        refine v_goto (tgt := 4) F dX0_bloom_27 rfl ?_
        refine v_sub (ls' := [(0, .ref (δ 0)), (1, .int ((sumN (fun p => floV (cab n) p (n 12 (3 * p + 2))) p) + (floF (n 11 p) (n 12 (3 * p + 2)) (n 12 (3 * p))))), (2, .int (nI (p + 1)))]) F [2, 1, 0] rfl ?_
        exact ih4 (p + 1) (by omega) (by omega)
  refine v_sub (ls' := [(0, .ref (δ 0)), (1, .int 0), (2, .int 0)]) F [2, 1, 0] rfl ?_
  exact L4 _ 0 (Nat.zero_le _) (Nat.lt_succ_self _)
theorem liv_goC {n s t : mS} {p : Nat} {x : Int32} (hs : cab s = livN (cab n) p) (ht : cab t = cab s) (hx : x = groV (cab s) p (s 12 (3 * p + 2) - s 12 (3 * p + 2) * rotV (cab s) p / 100)) : cab (up t 12 (3 * p + 2) x) = livN (cab n) (p + 1) := by
  rw [cab_u rfl, ht, hx]
  show up (cab s) 12 (3 * p + 2) _ = liv1 (livN (cab n) p) p
  unfold liv1
  rw [← hs]; rfl
theorem livS_end {n s : mS} {p : Nat} (hs : cab s = livN (cab n) p) (h1 : tn (n 0 13) ≤ p) (h2 : p ≤ tn (n 0 13)) : cab (up s 0 7 (s 0 7 + 1)) = livS (cab n) := by
  have e : p = tn (n 0 13) := by omega
  subst e
  rw [cab_u rfl, hs]
  unfold livS
  show up _ 0 7 _ = up (livN (cab n) (tn (n 0 13))) 0 7 (livN (cab n) (tn (n 0 13)) 0 7 + 1)
  rw [← hs]; rfl
theorem ok_X0_yearOf : vv_oc yX0_yearOf 4 0 (ws_ yX0_yearOf cX0_yearOf 4 none) := vv_ok.oc (rt := none) ⟨q923, q116, by decide +kernel, by decide +kernel⟩
theorem is_X0_yearOf : Cond.instanceMethod yX0_yearOf ∈ lw_all ∧ Cond.selects RX0 yX0_yearOf yX0_yearOf ∈ lw_all := ⟨q922, qs27⟩
set_option maxHeartbeats 4000000 in
theorem cc_X0_yearOf {l : Launch} {Kf : State → Prop} {D : va_G} {K : Nat → ClassId} {fv : List Value × (Nat → Nat)} {A : Nat → Prop} (G : cG A fv cIm Kf D K)  (n : mS) (δ : Nat → Nat) (ν : Nat → Option (Mg × Nat))  (hok : cOk n) : vv_Ct l yX0_yearOf (ws_ yX0_yearOf cX0_yearOf 4 none) (rm 164 3607) Kf (cWd D K fv A) A [.ref (δ 0)] (n, δ, ν) (vv_n (fun u => ∃ t : mS, u = (t, δ, ν) ∧ cab t = livS (cab n) ∧ cOw n t)) := by
  refine vv_of (by decide +kernel) (Nat.le_of_ble_eq_true rfl) ?_
  intro v (F : vv_F v l cX0_yearOf 4 RX0 "yearOf" none [] (rm 164 3607) Kf (cWd D K fv A) A _)
  show v (n, δ, ν) 0 0 0 [(0, .ref (δ 0))] []
  have hM := hok.m
  have h8 := hok.m8
  refine v_iconst (x := 0) F dX0_yearOf_0 rfl (by decide) ?_
  refine v_istore_n (ls' := [(1, .int 0), (0, .ref (δ 0))]) F dX0_yearOf_1 rfl rfl (by decide) rfl ?_
  have L2 : ∀ (nf : Nat) (s : mS) (p : Nat) (hpM : p ≤ tn (n 0 13)) (hs : cab s = livN (cab n) p) (hcs : cOw n s) (hnf : tn (n 0 13) - p < nf), v (s, δ, ν) 0 0 2 [(0, .ref (δ 0)), (1, .int (nI p))] [] := by
    intro nf
    induction nf with
    | zero => intro s p hpM hs hcs hnf; exact absurd hnf (Nat.not_lt_zero _)
    | succ nf ih2 =>
      intro s p hpM hs hcs hnf
      have oks : cOk s := hok.liv hpM hs
      have h13 : s 0 13 = nI (tn (n 0 13)) := (liv13 hpM hs).trans hM
      have h13t : tn (s 0 13) = tn (n 0 13) := by rw [liv13 hpM hs]
      refine v_iload_n F 1 dX0_yearOf_2 rfl rfl rfl ?_
      refine v_aload_n F 0 dX0_yearOf_3 rfl rfl rfl ?_
      refine c_get F G 1 (w := .int (s 0 13)) (by decide) q798 rfl dX0_yearOf_4 rfl ?_
      refine v_int F (h13) ?_
      refine v_icmp_geN (a := p) (b := tn (n 0 13)) (tgt := 64) (q := 10) F dX0_yearOf_7 rfl rfl (by omega) (by omega) (fun c1 => ?_) (fun c1 => ?_)
      · skip
        refine v_aload_n F 0 dX0_yearOf_64 rfl rfl rfl ?_
        refine v_dup F dX0_yearOf_65 rfl rfl ?_
        refine c_get F G 2 (w := .int (s 0 7)) (by decide) q800 rfl dX0_yearOf_66 rfl ?_
        refine v_iconst (x := 1) F dX0_yearOf_69 rfl (by decide) ?_
        refine v_iadd F dX0_yearOf_70 rfl ?_
        refine c_put F G 2 7 (by decide) (by unfold frc; omega) (fun _ => rfl) q800 rfl (by decide +kernel) dX0_yearOf_71 rfl ?_
        exact v_retn F dX0_yearOf_74 rfl (⟨_, rfl, livS_end hs c1 hpM, hcs.up (by omega)⟩)
      · skip
        refine v_aload_n F 0 dX0_yearOf_10 rfl rfl rfl ?_
        refine c_get F G 0 (w := .ref (δ 1)) (by decide) q797 rfl dX0_yearOf_11 rfl ?_
        refine v_iload_n F 1 dX0_yearOf_14 rfl rfl rfl ?_
        refine c_plant (s := p) F G (oks.lv (by omega)) (by omega) dX0_yearOf_15 rfl ?_
        refine v_astore_n (ls' := [(2, .ref (δ (200 + p))), (0, .ref (δ 0)), (1, .int (nI p))]) F dX0_yearOf_16 rfl rfl (by decide) rfl ?_
        refine v_aload_n F 0 dX0_yearOf_17 rfl rfl rfl ?_
        refine c_bget F G p 2 (oks.lv (by omega)) (oks.k (by omega)) (by decide) q185 (refO_9 2) dX0_yearOf_18 rfl ?_
        refine v_aload_n F 0 dX0_yearOf_21 rfl rfl rfl ?_
        refine c_bget F G p 2 (oks.lv (by omega)) (oks.k (by omega)) (by decide) q185 (refO_9 2) dX0_yearOf_22 rfl ?_
        refine v_aload_n F 1 dX0_yearOf_25 rfl rfl rfl ?_
        refine v_iload_n F 2 dX0_yearOf_26 rfl rfl rfl ?_
        refine c_calli F G (cc_X0_rotsOf G s δ ν p oks (by omega)) ok_X0_rotsOf q290 is_X0_rotsOf rfl rfl dX0_yearOf_27 rfl rfl ?_
        rintro _ ⟨t2, rfl, hb2, hct2⟩
        have okt2 : cOk t2 := cOk.of (show cOk s from oks) hb2
        have hpt2_0 : p < tn (t2 0 13) := by rw [cab_eq hb2 0 13 rfl]; exact (by omega)
        refine v_imul F dX0_yearOf_30 rfl ?_
        refine v_bipush (x := 100) F dX0_yearOf_31 rfl (by decide) ?_
        refine v_idiv F dX0_yearOf_33 rfl (by decide) ?_
        refine v_isub F dX0_yearOf_34 rfl ?_
        refine v_istore_n (ls' := [(3, .int ((s 12 (3 * p + 2)) - (((s 12 (3 * p + 2)) * (rotV (cab s) p)) / 100))), (2, .ref (δ (200 + p))), (0, .ref (δ 0)), (1, .int (nI p))]) F dX0_yearOf_35 rfl rfl (by decide) rfl ?_
        have hg := (oks.1.2.1 p (by omega)).1
        have hg7 := hg.2
        refine v_aload_n F 1 dX0_yearOf_36 rfl rfl rfl ?_
        refine v_aload_n F 1 dX0_yearOf_37 rfl rfl rfl ?_
        refine v_iload_n F 0 dX0_yearOf_38 rfl rfl rfl ?_
        refine v_aload_n F 2 dX0_yearOf_39 rfl rfl rfl ?_
        refine c_get F G 5 (w := .ref (δ 5)) (by decide) q805 rfl dX0_yearOf_40 rfl ?_
        refine v_aload_n F 1 dX0_yearOf_43 rfl rfl rfl ?_
        refine c_bget F G p 1 (okt2.lv hpt2_0) (okt2.k hpt2_0) (by decide) q182 (refO_9 1) dX0_yearOf_44 rfl ?_
        refine v_int F (y := s 12 (3 * p + 1)) (cab_eq hb2 12 (3 * p + 1) rfl) ?_
        refine v_int F (hg.1) ?_
        refine c_ald (t := tn (s 12 (3 * p + 1))) F G 5 10 8 (fun _ => rfl) (by unfold rowO; omega) (by omega) (by decide) dX0_yearOf_47 rfl ?_
        refine v_int F (y := s 10 (tn (s 12 (3 * p + 1)))) (cab_eq hb2 10 (tn (s 12 (3 * p + 1))) rfl) ?_
        refine v_aload_n F 2 dX0_yearOf_48 rfl rfl rfl ?_
        refine c_get F G 2 (w := .int (t2 0 7)) (by decide) q800 rfl dX0_yearOf_49 rfl ?_
        refine v_int F (y := s 0 7) (cab_eq hb2 0 7 rfl) ?_
        refine c_vcalli F G (As := [.int ((s 12 (3 * p + 2)) - (((s 12 (3 * p + 2)) * (rotV (cab s) p)) / 100)), .int (s 10 (tn (s 12 (3 * p + 1)))), .int (s 0 7)]) (y := fun _ => yX9_heldGrows) (ws := fun _ => ws_ yX9_heldGrows cX9_heldGrows 4 (some .int)) (mL := fun _ => 4) (okt2.lv hpt2_0) (okt2.k hpt2_0) q358 od_heldGrows vo_heldGrows (fun _ _ _ => cc_X9_heldGrows G t2 δ ν p ((s 12 (3 * p + 2)) - (((s 12 (3 * p + 2)) * (rotV (cab s) p)) / 100)) (s 10 (tn (s 12 (3 * p + 1)))) (s 0 7) (okt2.lv hpt2_0) (okt2.k hpt2_0) (by rw [cab_eq hb2 11 p rfl]; exact (oks.2 p (by omega)).1)) rfl rfl dX0_yearOf_52 rfl rfl ?_
        intro u0 hu0; subst u0
        have hxt2 : groF (t2 11 p) ((s 12 (3 * p + 2)) - (((s 12 (3 * p + 2)) * (rotV (cab s) p)) / 100)) (s 10 (tn (s 12 (3 * p + 1)))) (t2 12 (3 * p)) (s 0 7) = groV (cab s) p (s 12 (3 * p + 2) - s 12 (3 * p + 2) * rotV (cab s) p / 100) := by rw [cab_eq hb2 11 p rfl, cab_eq hb2 12 (3 * p) rfl]; rfl
        refine c_bput F G p 2 (okt2.lv hpt2_0) (okt2.k hpt2_0) (by decide) q185 (refO_9 2) rfl (by decide +kernel) dX0_yearOf_55 rfl ?_
        refine v_iincN (ls' := [(1, .int (nI (p + 1))), (3, .int ((s 12 (3 * p + 2)) - (((s 12 (3 * p + 2)) * (rotV (cab s) p)) / 100))), (2, .ref (δ (200 + p))), (0, .ref (δ 0))]) F 3 dX0_yearOf_58 rfl rfl (by decide) rfl ?_
        refine v_goto (tgt := 2) F dX0_yearOf_61 rfl ?_
        refine v_sub (ls' := [(0, .ref (δ 0)), (1, .int (nI (p + 1)))]) F [3, 0] rfl ?_
        exact ih2 (up t2 12 (3 * p + 2) (groF (t2 11 p) ((s 12 (3 * p + 2)) - (((s 12 (3 * p + 2)) * (rotV (cab s) p)) / 100)) (s 10 (tn (s 12 (3 * p + 1)))) (t2 12 (3 * p)) (s 0 7))) (p + 1) (by omega) (liv_goC hs hb2 hxt2) ((hcs.tr hct2).up (by omega)) (by omega)
  refine v_sub (ls' := [(0, .ref (δ 0)), (1, .int 0)]) F [1, 0] rfl ?_
  exact L2 _ n 0 (Nat.zero_le _) rfl cOw.rf (Nat.lt_succ_self _)
theorem kp_go {n s : mS} {p : Nat} (hs : ∀ q, q < p → s 50 q = n 12 (3 * q + 2)) {x : Int32} (hx : x = n 12 (3 * p + 2)) : ∀ q, q < p + 1 → up s 50 p x 50 q = n 12 (3 * q + 2) := by
  intro q hq
  by_cases c : q = p
  · subst c; rw [up_eq]; exact hx
  · rw [up_ne (by omega)]; exact hs q (by omega)
theorem ok_X0_keeps : vv_oc yX0_keeps 2 0 (ws_ yX0_keeps cX0_keeps 2 none) := vv_ok.oc (rt := none) ⟨q944, q116, by decide +kernel, by decide +kernel⟩
theorem is_X0_keeps : Cond.instanceMethod yX0_keeps ∈ lw_all ∧ Cond.selects RX0 yX0_keeps yX0_keeps ∈ lw_all := ⟨q943, qs30⟩
set_option maxHeartbeats 4000000 in
theorem cc_X0_keeps {l : Launch} {Kf : State → Prop} {D : va_G} {K : Nat → ClassId} {fv : List Value × (Nat → Nat)} {A : Nat → Prop} (G : cG A fv cIm Kf D K)  (n : mS) (δ : Nat → Nat) (ν : Nat → Option (Mg × Nat))  (hok : cOk n) : vv_Ct l yX0_keeps (ws_ yX0_keeps cX0_keeps 2 none) (rm 0 0) Kf (cWd D K fv A) A [.ref (δ 0)] (n, δ, ν) (vv_n (fun u => ∃ t : mS, u = (t, δ, ν) ∧ cab t = cab n ∧ (∀ k j, 42 ≤ k → k ≠ 50 → t k j = n k j) ∧ ∀ q, q < tn (n 0 13) → t 50 q = n 12 (3 * q + 2))) := by
  refine vv_of (by decide +kernel) (Nat.le_of_ble_eq_true rfl) ?_
  intro v (F : vv_F v l cX0_keeps 2 RX0 "keeps" none [] (rm 0 0) Kf (cWd D K fv A) A _)
  show v (n, δ, ν) 0 0 0 [(0, .ref (δ 0))] []
  have hM := hok.m
  have h8 := hok.m8
  refine v_iconst (x := 0) F dX0_keeps_0 rfl (by decide) ?_
  refine v_istore_n (ls' := [(1, .int 0), (0, .ref (δ 0))]) F dX0_keeps_1 rfl rfl (by decide) rfl ?_
  have L2 : ∀ (nf : Nat) (s : mS) (p : Nat) (hpM : p ≤ tn (n 0 13)) (hs : cab s = cab n) (hcs : ∀ k j, 42 ≤ k → k ≠ 50 → s k j = n k j) (hks : ∀ q, q < p → s 50 q = n 12 (3 * q + 2)) (hnf : tn (n 0 13) - p < nf), v (s, δ, ν) 0 0 2 [(0, .ref (δ 0)), (1, .int (nI p))] [] := by
    intro nf
    induction nf with
    | zero => intro s p hpM hs hcs hks hnf; exact absurd hnf (Nat.not_lt_zero _)
    | succ nf ih2 =>
      intro s p hpM hs hcs hks hnf
      have oks : cOk s := hok.of hs
      have h13 : s 0 13 = nI (tn (n 0 13)) := (cab_eq hs 0 13 rfl).trans hM
      have h13t : tn (s 0 13) = tn (n 0 13) := by rw [cab_eq hs 0 13 rfl]
      refine v_iload_n F 1 dX0_keeps_2 rfl rfl rfl ?_
      refine v_aload_n F 0 dX0_keeps_3 rfl rfl rfl ?_
      refine c_get F G 1 (w := .int (s 0 13)) (by decide) q798 rfl dX0_keeps_4 rfl ?_
      refine v_int F (h13) ?_
      refine v_icmp_geN (a := p) (b := tn (n 0 13)) (tgt := 31) (q := 10) F dX0_keeps_7 rfl rfl (by omega) (by omega) (fun c1 => ?_) (fun c1 => ?_)
      · skip
        exact v_retn F dX0_keeps_31 rfl (⟨_, rfl, hs, hcs, fun q hq => hks q (by omega)⟩)
      · skip
        refine v_aload_n F 0 dX0_keeps_10 rfl rfl rfl ?_
        refine c_get F G 21 (w := .ref (δ 21)) (by decide) q822 rfl dX0_keeps_11 rfl ?_
        refine v_iload_n F 1 dX0_keeps_14 rfl rfl rfl ?_
        refine v_aload_n F 0 dX0_keeps_15 rfl rfl rfl ?_
        refine c_get F G 0 (w := .ref (δ 1)) (by decide) q797 rfl dX0_keeps_16 rfl ?_
        refine v_iload_n F 1 dX0_keeps_19 rfl rfl rfl ?_
        refine c_plant (s := p) F G (oks.lv (by omega)) (by omega) dX0_keeps_20 rfl ?_
        refine c_bget F G p 2 (oks.lv (by omega)) (oks.k (by omega)) (by decide) q185 (refO_9 2) dX0_keeps_21 rfl ?_
        refine c_ast (t := p) F G 21 50 8 (fun _ => rfl) rfl (by unfold rowO; omega) (by unfold frc; omega) (by decide) (by decide) (by decide) (by omega) (by decide) dX0_keeps_24 rfl ?_
        refine v_iincN (ls' := [(1, .int (nI (p + 1))), (0, .ref (δ 0))]) F 1 dX0_keeps_25 rfl rfl (by decide) rfl ?_
        refine v_goto (tgt := 2) F dX0_keeps_28 rfl ?_
        refine v_sub (ls' := [(0, .ref (δ 0)), (1, .int (nI (p + 1)))]) F [1, 0] rfl ?_
        exact ih2 (up s 50 p (s 12 (3 * p + 2))) (p + 1) (by omega) ((cab_us rfl).trans hs) (fun k j h1 h2 => by rw [up_ne (by omega)]; exact hcs k j h1 h2) (kp_go hks (cab_eq hs 12 (3 * p + 2) rfl)) (by omega)
  refine v_sub (ls' := [(0, .ref (δ 0)), (1, .int 0)]) F [1, 0] rfl ?_
  exact L2 _ n 0 (Nat.zero_le _) rfl (fun _ _ _ _ => rfl) (fun _ h => absurd h (Nat.not_lt_zero _)) (Nat.lt_succ_self _)
theorem ok_X0_laysBack : vv_oc yX0_laysBack 3 1 (ws_ yX0_laysBack cX0_laysBack 3 none) := vv_ok.oc (rt := none) ⟨q956, q116, by decide +kernel, by decide +kernel⟩
theorem is_X0_laysBack : Cond.instanceMethod yX0_laysBack ∈ lw_all ∧ Cond.selects RX0 yX0_laysBack yX0_laysBack ∈ lw_all := ⟨q955, qs33⟩
set_option maxHeartbeats 4000000 in
theorem cc_X0_laysBack {l : Launch} {Kf : State → Prop} {D : va_G} {K : Nat → ClassId} {fv : List Value × (Nat → Nat)} {A : Nat → Prop} (G : cG A fv cIm Kf D K)  (n : mS) (δ : Nat → Nat) (ν : Nat → Option (Mg × Nat)) (y : Int32) (hM : n 0 13 = nI (tn (n 0 13))) (h8 : tn (n 0 13) ≤ 8) (hkd : ∀ q, q < tn (n 0 13) → tn (n 11 q) ≤ 5) : vv_Ct l yX0_laysBack (ws_ yX0_laysBack cX0_laysBack 3 none) (rm 0 0) Kf (cWd D K fv A) A [.ref (δ 0), .int y] (n, δ, ν) (vv_n (fun u => ∃ t : mS, u = (t, δ, ν) ∧ cab t = lbk (cab n) (n 50) (tn (n 0 13)) y ∧ cOw n t)) := by
  refine vv_of (by decide +kernel) (Nat.le_of_ble_eq_true rfl) ?_
  intro v (F : vv_F v l cX0_laysBack 3 RX0 "laysBack" none [] (rm 0 0) Kf (cWd D K fv A) A _)
  show v (n, δ, ν) 0 0 0 [(0, .ref (δ 0)), (1, .int y)] []
  refine v_iconst (x := 0) F dX0_laysBack_0 rfl (by decide) ?_
  refine v_istore_n (ls' := [(2, .int 0), (0, .ref (δ 0)), (1, .int y)]) F dX0_laysBack_1 rfl rfl (by decide) rfl ?_
  have L2 : ∀ (nf : Nat) (s : mS) (p : Nat) (hpM : p ≤ tn (n 0 13)) (hs : cab s = lbN (cab n) (n 50) p) (hcs : cOw n s) (hnf : tn (n 0 13) - p < nf), v (s, δ, ν) 0 0 2 [(0, .ref (δ 0)), (1, .int y), (2, .int (nI p))] [] := by
    intro nf
    induction nf with
    | zero => intro s p hpM hs hcs hnf; exact absurd hnf (Nat.not_lt_zero _)
    | succ nf ih2 =>
      intro s p hpM hs hcs hnf
      have h13e : s 0 13 = n 0 13 := by rw [← cab_rd (n := s) 0 13 rfl, hs]; exact if_neg (by omega)
      have h11e : ∀ q, s 11 q = n 11 q := fun q => by rw [← cab_rd (n := s) 11 q rfl, hs]; exact if_neg (by omega)
      have h13 : s 0 13 = nI (tn (n 0 13)) := h13e.trans hM
      have h13t : tn (s 0 13) = tn (n 0 13) := by rw [h13e]
      refine v_iload_n F 2 dX0_laysBack_2 rfl rfl rfl ?_
      refine v_aload_n F 0 dX0_laysBack_3 rfl rfl rfl ?_
      refine c_get F G 1 (w := .int (s 0 13)) (by decide) q798 rfl dX0_laysBack_4 rfl ?_
      refine v_int F (h13) ?_
      refine v_icmp_geN (a := p) (b := tn (n 0 13)) (tgt := 31) (q := 10) F dX0_laysBack_7 rfl rfl (by omega) (by omega) (fun c1 => ?_) (fun c1 => ?_)
      · skip
        refine v_aload_n F 0 dX0_laysBack_31 rfl rfl rfl ?_
        refine v_iload_n F 1 dX0_laysBack_32 rfl rfl rfl ?_
        refine c_put F G 2 7 (by decide) (by unfold frc; omega) (fun _ => rfl) q800 rfl (by decide +kernel) dX0_laysBack_33 rfl ?_
        exact v_retn F dX0_laysBack_36 rfl (⟨_, rfl, by rw [cab_u rfl, hs, show p = tn (n 0 13) by omega]; exact lbN_k, hcs.up (by omega)⟩)
      · skip
        refine v_aload_n F 0 dX0_laysBack_10 rfl rfl rfl ?_
        refine c_get F G 0 (w := .ref (δ 1)) (by decide) q797 rfl dX0_laysBack_11 rfl ?_
        refine v_iload_n F 2 dX0_laysBack_14 rfl rfl rfl ?_
        refine c_plant (s := p) F G (⟨by omega, by omega⟩) (by omega) dX0_laysBack_15 rfl ?_
        refine v_aload_n F 0 dX0_laysBack_16 rfl rfl rfl ?_
        refine c_get F G 21 (w := .ref (δ 21)) (by decide) q822 rfl dX0_laysBack_17 rfl ?_
        refine v_iload_n F 2 dX0_laysBack_20 rfl rfl rfl ?_
        refine c_ald (t := p) F G 21 50 8 (fun _ => rfl) (by unfold rowO; omega) (by omega) (by decide) dX0_laysBack_21 rfl ?_
        refine c_bput F G p 2 (⟨by omega, by omega⟩) (by rw [h11e]; exact hkd p (by omega)) (by decide) q185 (refO_9 2) rfl (by decide +kernel) dX0_laysBack_22 rfl ?_
        refine v_iincN (ls' := [(2, .int (nI (p + 1))), (0, .ref (δ 0)), (1, .int y)]) F 2 dX0_laysBack_25 rfl rfl (by decide) rfl ?_
        refine v_goto (tgt := 2) F dX0_laysBack_28 rfl ?_
        refine v_sub (ls' := [(0, .ref (δ 0)), (1, .int y), (2, .int (nI (p + 1)))]) F [1, 2, 0] rfl ?_
        exact ih2 (up s 12 (3 * p + 2) (s 50 p)) (p + 1) (by omega) (by rw [cab_u rfl, hs, show s 50 p = n 50 p from hcs 50 p (by omega)]; exact lbN_s) (hcs.up (by omega)) (by omega)
  refine v_sub (ls' := [(0, .ref (δ 0)), (1, .int y), (2, .int 0)]) F [1, 2, 0] rfl ?_
  exact L2 _ n 0 (Nat.zero_le _) lbN_0.symm cOw.rf (Nat.lt_succ_self _)
