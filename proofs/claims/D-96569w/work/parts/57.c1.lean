set_option maxRecDepth 100000
theorem ok_X0_in : vv_oc yX0_in 6 3 (ws_ yX0_in cX0_in 6 (some .boolean)) := vv_ok.oc (rt := (some .boolean)) ⟨q153, q116, by decide +kernel, by decide +kernel⟩
set_option maxHeartbeats 4000000 in
theorem cg_X0_in {S : Type} {l : Launch} {Kf : State → Prop} {Wd : S → Heap → Prop} {A : Nat → Prop} (hKm : kM A Kf) (σ : S) (x : Int32) (lo : Int32) (hi : Int32)  : vv_Ct l yX0_in (ws_ yX0_in cX0_in 6 (some .boolean)) (rm 0 0) Kf Wd A [.long (Int32.toInt64 x), .long (Int32.toInt64 lo), .long (Int32.toInt64 hi)] σ (vv_i (bI (lo ≤ x ∧ x ≤ hi)) (fun u => u = σ)) := by
  refine vv_of (by decide +kernel) (Nat.le_of_ble_eq_true rfl) ?_
  intro v (F : vv_F v l cX0_in 6 RX0 "in" (some .boolean) [] (rm 0 0) Kf Wd A _)
  show v σ 0 0 0 [(0, .long (Int32.toInt64 x)), (2, .long (Int32.toInt64 lo)), (4, .long (Int32.toInt64 hi))] []
  refine v_lload_n F 0 dX0_in_0 rfl rfl rfl ?_
  refine v_lload_n F 1 dX0_in_1 rfl rfl rfl ?_
  refine v_lcmp F dX0_in_2 rfl ?_
  refine v_if_ltLI (tgt := 17) (q := 6) F dX0_in_3 rfl rfl (fun c1 => ?_) (fun c1 => ?_)
  · skip
    refine v_iconst (x := 0) F dX0_in_17 rfl (by decide) ?_
    exact v_retz F dX0_in_18 rfl (by first | rfl | grind [bI]) (rfl)
  · skip
    refine v_lload_n F 0 dX0_in_6 rfl rfl rfl ?_
    refine v_lload F 2 dX0_in_7 rfl rfl ?_
    refine v_lcmp F dX0_in_9 rfl ?_
    refine v_if_gtLI (tgt := 17) (q := 13) F dX0_in_10 rfl rfl (fun c2 => ?_) (fun c2 => ?_)
    · skip
      refine v_iconst (x := 0) F dX0_in_17 rfl (by decide) ?_
      exact v_retz F dX0_in_18 rfl (by first | rfl | grind [bI]) (rfl)
    · skip
      refine v_iconst (x := 1) F dX0_in_13 rfl (by decide) ?_
      refine v_goto (tgt := 18) F dX0_in_14 rfl ?_
      exact v_retz F dX0_in_18 rfl (by first | rfl | grind [bI]) (rfl)
theorem ok_X0_isGarden : vv_oc yX0_isGarden 1 1 (ws_ yX0_isGarden cX0_isGarden 1 (some .boolean)) := vv_ok.oc (rt := (some .boolean)) ⟨q157, q116, by decide +kernel, by decide +kernel⟩
set_option maxHeartbeats 4000000 in
theorem cg_X0_isGarden {S : Type} {l : Launch} {Kf : State → Prop} {Wd : S → Heap → Prop} {A : Nat → Prop} (hKm : kM A Kf) (σ : S) (g : Int32)  : vv_Ct l yX0_isGarden (ws_ yX0_isGarden cX0_isGarden 1 (some .boolean)) (rm 1 25) Kf Wd A [.int g] σ (vv_i (bI (0 ≤ g ∧ g ≤ 7)) (fun u => u = σ)) := by
  refine vv_of (by decide +kernel) (Nat.le_of_ble_eq_true rfl) ?_
  intro v (F : vv_F v l cX0_isGarden 1 RX0 "isGarden" (some .boolean) [] (rm 1 25) Kf Wd A _)
  show v σ 0 0 0 [(0, .int g)] []
  refine v_iload_n F 0 dX0_isGarden_0 rfl rfl rfl ?_
  refine v_i2l F dX0_isGarden_1 rfl ?_
  refine v_lconst (x := (0 : Int32).toInt64) F dX0_isGarden_2 rfl (by decide) ?_
  refine v_ldc2 F q158 dX0_isGarden_3 rfl ?_
  refine v_lng (y := (7 : Int32).toInt64) F (by decide) ?_
  refine s_calli F hKm (cg_X0_in hKm σ g 0 7 ) ok_X0_in q151 q152 rfl rfl dX0_isGarden_6 rfl rfl ?_
  intro u0 hu0; subst u0
  exact v_retz F dX0_isGarden_9 rfl (by first | rfl | grind [bI]) (rfl)
theorem ok_X0_isSheet : vv_oc yX0_isSheet 1 1 (ws_ yX0_isSheet cX0_isSheet 1 (some .boolean)) := vv_ok.oc (rt := (some .boolean)) ⟨q1019, q116, by decide +kernel, by decide +kernel⟩
set_option maxHeartbeats 4000000 in
theorem cg_X0_isSheet {S : Type} {l : Launch} {Kf : State → Prop} {Wd : S → Heap → Prop} {A : Nat → Prop} (hKm : kM A Kf) (σ : S) (g : Int32)  : vv_Ct l yX0_isSheet (ws_ yX0_isSheet cX0_isSheet 1 (some .boolean)) (rm 1 25) Kf Wd A [.int g] σ (vv_i (bI (0 ≤ g ∧ g ≤ 3)) (fun u => u = σ)) := by
  refine vv_of (by decide +kernel) (Nat.le_of_ble_eq_true rfl) ?_
  intro v (F : vv_F v l cX0_isSheet 1 RX0 "isSheet" (some .boolean) [] (rm 1 25) Kf Wd A _)
  show v σ 0 0 0 [(0, .int g)] []
  refine v_iload_n F 0 dX0_isSheet_0 rfl rfl rfl ?_
  refine v_i2l F dX0_isSheet_1 rfl ?_
  refine v_lconst (x := (0 : Int32).toInt64) F dX0_isSheet_2 rfl (by decide) ?_
  refine v_ldc2 F q259 dX0_isSheet_3 rfl ?_
  refine v_lng (y := (3 : Int32).toInt64) F (by decide) ?_
  refine s_calli F hKm (cg_X0_in hKm σ g 0 3 ) ok_X0_in q151 q152 rfl rfl dX0_isSheet_6 rfl rfl ?_
  intro u0 hu0; subst u0
  exact v_retz F dX0_isSheet_9 rfl (by first | rfl | grind [bI]) (rfl)
theorem ok_X0_areYears : vv_oc yX0_areYears 1 1 (ws_ yX0_areYears cX0_areYears 1 (some .boolean)) := vv_ok.oc (rt := (some .boolean)) ⟨q934, q116, by decide +kernel, by decide +kernel⟩
set_option maxHeartbeats 4000000 in
theorem cg_X0_areYears {S : Type} {l : Launch} {Kf : State → Prop} {Wd : S → Heap → Prop} {A : Nat → Prop} (hKm : kM A Kf) (σ : S) (g : Int32)  : vv_Ct l yX0_areYears (ws_ yX0_areYears cX0_areYears 1 (some .boolean)) (rm 1 25) Kf Wd A [.int g] σ (vv_i (bI (0 ≤ g ∧ g ≤ 30)) (fun u => u = σ)) := by
  refine vv_of (by decide +kernel) (Nat.le_of_ble_eq_true rfl) ?_
  intro v (F : vv_F v l cX0_areYears 1 RX0 "areYears" (some .boolean) [] (rm 1 25) Kf Wd A _)
  show v σ 0 0 0 [(0, .int g)] []
  refine v_iload_n F 0 dX0_areYears_0 rfl rfl rfl ?_
  refine v_i2l F dX0_areYears_1 rfl ?_
  refine v_lconst (x := (0 : Int32).toInt64) F dX0_areYears_2 rfl (by decide) ?_
  refine v_ldc2 F q935 dX0_areYears_3 rfl ?_
  refine v_lng (y := (30 : Int32).toInt64) F (by decide) ?_
  refine s_calli F hKm (cg_X0_in hKm σ g 0 30 ) ok_X0_in q151 q152 rfl rfl dX0_areYears_6 rfl rfl ?_
  intro u0 hu0; subst u0
  exact v_retz F dX0_areYears_9 rfl (by first | rfl | grind [bI]) (rfl)
theorem ok_X0_isLetter : vv_oc yX0_isLetter 1 1 (ws_ yX0_isLetter cX0_isLetter 1 (some .boolean)) := vv_ok.oc (rt := (some .boolean)) ⟨q454, q116, by decide +kernel, by decide +kernel⟩
set_option maxHeartbeats 4000000 in
theorem cg_X0_isLetter {S : Type} {l : Launch} {Kf : State → Prop} {Wd : S → Heap → Prop} {A : Nat → Prop} (hKm : kM A Kf) (σ : S) (g : Int32)  : vv_Ct l yX0_isLetter (ws_ yX0_isLetter cX0_isLetter 1 (some .boolean)) (rm 1 25) Kf Wd A [.int g] σ (vv_i (bI (97 ≤ g ∧ g ≤ 122)) (fun u => u = σ)) := by
  refine vv_of (by decide +kernel) (Nat.le_of_ble_eq_true rfl) ?_
  intro v (F : vv_F v l cX0_isLetter 1 RX0 "isLetter" (some .boolean) [] (rm 1 25) Kf Wd A _)
  show v σ 0 0 0 [(0, .int g)] []
  refine v_iload_n F 0 dX0_isLetter_0 rfl rfl rfl ?_
  refine v_i2l F dX0_isLetter_1 rfl ?_
  refine v_ldc2 F q455 dX0_isLetter_2 rfl ?_
  refine v_lng (y := (97 : Int32).toInt64) F (by decide) ?_
  refine v_ldc2 F q456 dX0_isLetter_5 rfl ?_
  refine v_lng (y := (122 : Int32).toInt64) F (by decide) ?_
  refine s_calli F hKm (cg_X0_in hKm σ g 97 122 ) ok_X0_in q151 q152 rfl rfl dX0_isLetter_8 rfl rfl ?_
  intro u0 hu0; subst u0
  exact v_retz F dX0_isLetter_11 rfl (by first | rfl | grind [bI]) (rfl)
theorem ok_X0_isDigit : vv_oc yX0_isDigit 1 1 (ws_ yX0_isDigit cX0_isDigit 1 (some .boolean)) := vv_ok.oc (rt := (some .boolean)) ⟨q515, q116, by decide +kernel, by decide +kernel⟩
set_option maxHeartbeats 4000000 in
theorem cg_X0_isDigit {S : Type} {l : Launch} {Kf : State → Prop} {Wd : S → Heap → Prop} {A : Nat → Prop} (hKm : kM A Kf) (σ : S) (g : Int32)  : vv_Ct l yX0_isDigit (ws_ yX0_isDigit cX0_isDigit 1 (some .boolean)) (rm 1 25) Kf Wd A [.int g] σ (vv_i (bI (48 ≤ g ∧ g ≤ 57)) (fun u => u = σ)) := by
  refine vv_of (by decide +kernel) (Nat.le_of_ble_eq_true rfl) ?_
  intro v (F : vv_F v l cX0_isDigit 1 RX0 "isDigit" (some .boolean) [] (rm 1 25) Kf Wd A _)
  show v σ 0 0 0 [(0, .int g)] []
  refine v_iload_n F 0 dX0_isDigit_0 rfl rfl rfl ?_
  refine v_i2l F dX0_isDigit_1 rfl ?_
  refine v_ldc2 F q516 dX0_isDigit_2 rfl ?_
  refine v_lng (y := (48 : Int32).toInt64) F (by decide) ?_
  refine v_ldc2 F q517 dX0_isDigit_5 rfl ?_
  refine v_lng (y := (57 : Int32).toInt64) F (by decide) ?_
  refine s_calli F hKm (cg_X0_in hKm σ g 48 57 ) ok_X0_in q151 q152 rfl rfl dX0_isDigit_8 rfl rfl ?_
  intro u0 hu0; subst u0
  exact v_retz F dX0_isDigit_11 rfl (by first | rfl | grind [bI]) (rfl)
theorem ok_J7_min : vv_oc yJ7_min 2 2 (ws_ yJ7_min cJ7_min 2 (some .int)) := vv_ok.oc (rt := (some .int)) ⟨q320, q126, by decide +kernel, by decide +kernel⟩
set_option maxHeartbeats 4000000 in
theorem cg_J7_min {S : Type} {l : Launch} {Kf : State → Prop} {Wd : S → Heap → Prop} {A : Nat → Prop} (hKm : kM A Kf) (σ : S) (a : Int32) (b : Int32)  : vv_Ct l yJ7_min (ws_ yJ7_min cJ7_min 2 (some .int)) (rm 0 0) Kf Wd A [.int a, .int b] σ (vv_i (if a ≤ b then a else b) (fun u => u = σ)) := by
  refine vv_ofF (by decide +kernel) (Nat.le_of_ble_eq_true rfl) ?_
  intro v (F : vv_F v l cJ7_min 2 RJ7 "min" (some .int) [] (rm 0 0) Kf Wd A _)
  show v σ 0 0 0 [(0, .int a), (1, .int b)] []
  refine v_iload_n F 0 dJ7_min_0 rfl rfl rfl ?_
  refine v_iload_n F 1 dJ7_min_1 rfl rfl rfl ?_
  refine v_icmp_gt (tgt := 9) (q := 5) F dJ7_min_2 rfl rfl (fun c1 => ?_) (fun c1 => ?_)
  · skip
    refine v_iload_n F 1 dJ7_min_9 rfl rfl rfl ?_
    exact v_reti F dJ7_min_10 rfl (by grind) (rfl)
  · skip
    refine v_iload_n F 0 dJ7_min_5 rfl rfl rfl ?_
    refine v_goto (tgt := 10) F dJ7_min_6 rfl ?_
    exact v_reti F dJ7_min_10 rfl (by grind) (rfl)
theorem ok_J7_max : vv_oc yJ7_max 2 2 (ws_ yJ7_max cJ7_max 2 (some .int)) := vv_ok.oc (rt := (some .int)) ⟨q323, q126, by decide +kernel, by decide +kernel⟩
set_option maxHeartbeats 4000000 in
theorem cg_J7_max {S : Type} {l : Launch} {Kf : State → Prop} {Wd : S → Heap → Prop} {A : Nat → Prop} (hKm : kM A Kf) (σ : S) (a : Int32) (b : Int32)  : vv_Ct l yJ7_max (ws_ yJ7_max cJ7_max 2 (some .int)) (rm 0 0) Kf Wd A [.int a, .int b] σ (vv_i (if b ≤ a then a else b) (fun u => u = σ)) := by
  refine vv_ofF (by decide +kernel) (Nat.le_of_ble_eq_true rfl) ?_
  intro v (F : vv_F v l cJ7_max 2 RJ7 "max" (some .int) [] (rm 0 0) Kf Wd A _)
  show v σ 0 0 0 [(0, .int a), (1, .int b)] []
  refine v_iload_n F 0 dJ7_max_0 rfl rfl rfl ?_
  refine v_iload_n F 1 dJ7_max_1 rfl rfl rfl ?_
  refine v_icmp_lt (tgt := 9) (q := 5) F dJ7_max_2 rfl rfl (fun c1 => ?_) (fun c1 => ?_)
  · skip
    refine v_iload_n F 1 dJ7_max_9 rfl rfl rfl ?_
    exact v_reti F dJ7_max_10 rfl (by grind) (rfl)
  · skip
    refine v_iload_n F 0 dJ7_max_5 rfl rfl rfl ?_
    refine v_goto (tgt := 10) F dJ7_max_6 rfl ?_
    exact v_reti F dJ7_max_10 rfl (by grind) (rfl)
theorem ok_J7_max_2 : vv_oc yJ7_max_2 4 2 (ws_ yJ7_max_2 cJ7_max_2 4 (some .long)) := vv_ok.oc (rt := (some .long)) ⟨q1004, q126, by decide +kernel, by decide +kernel⟩
set_option maxHeartbeats 4000000 in
theorem cg_J7_max_2 {S : Type} {l : Launch} {Kf : State → Prop} {Wd : S → Heap → Prop} {A : Nat → Prop} (hKm : kM A Kf) (σ : S) (a : Int64) (b : Int64)  : vv_Ct l yJ7_max_2 (ws_ yJ7_max_2 cJ7_max_2 4 (some .long)) (rm 0 0) Kf Wd A [.long a, .long b] σ (vv_j (if b ≤ a then a else b) (fun u => u = σ)) := by
  refine vv_ofF (by decide +kernel) (Nat.le_of_ble_eq_true rfl) ?_
  intro v (F : vv_F v l cJ7_max_2 4 RJ7 "max" (some .long) [] (rm 0 0) Kf Wd A _)
  show v σ 0 0 0 [(0, .long a), (2, .long b)] []
  refine v_lload_n F 0 dJ7_max_2_0 rfl rfl rfl ?_
  refine v_lload_n F 1 dJ7_max_2_1 rfl rfl rfl ?_
  refine v_lcmp F dJ7_max_2_2 rfl ?_
  refine v_if_ltL (tgt := 10) (q := 6) F dJ7_max_2_3 rfl rfl (fun c1 => ?_) (fun c1 => ?_)
  · skip
    refine v_lload_n F 1 dJ7_max_2_10 rfl rfl rfl ?_
    exact v_retj F dJ7_max_2_11 rfl (by grind) (rfl)
  · skip
    refine v_lload_n F 0 dJ7_max_2_6 rfl rfl rfl ?_
    refine v_goto (tgt := 11) F dJ7_max_2_7 rfl ?_
    exact v_retj F dJ7_max_2_11 rfl (by grind) (rfl)
theorem ok_X0_held : vv_oc yX0_held 3 3 (ws_ yX0_held cX0_held 3 (some .int)) := vv_ok.oc (rt := (some .int)) ⟨q317, q116, by decide +kernel, by decide +kernel⟩
set_option maxHeartbeats 4000000 in
theorem cg_X0_held {S : Type} {l : Launch} {Kf : State → Prop} {Wd : S → Heap → Prop} {A : Nat → Prop} (hKm : kM A Kf) (σ : S) (x : Int32) (lo : Int32) (hi : Int32) (hlh : lo ≤ hi) : vv_Ct l yX0_held (ws_ yX0_held cX0_held 3 (some .int)) (rm 1 21) Kf Wd A [.int x, .int lo, .int hi] σ (vv_i (cl x lo hi) (fun u => u = σ)) := by
  refine vv_of (by decide +kernel) (Nat.le_of_ble_eq_true rfl) ?_
  intro v (F : vv_F v l cX0_held 3 RX0 "held" (some .int) [] (rm 1 21) Kf Wd A _)
  show v σ 0 0 0 [(0, .int x), (1, .int lo), (2, .int hi)] []
  refine v_iload_n F 1 dX0_held_0 rfl rfl rfl ?_
  refine v_iload_n F 2 dX0_held_1 rfl rfl rfl ?_
  refine v_iload_n F 0 dX0_held_2 rfl rfl rfl ?_
  refine s_calli F hKm (cg_J7_min hKm σ hi x ) ok_J7_min q318 q319 rfl rfl dX0_held_3 rfl rfl ?_
  intro u0 hu0; subst u0
  refine s_calli F hKm (cg_J7_max hKm σ lo (if hi ≤ x then hi else x) ) ok_J7_max q321 q322 rfl rfl dX0_held_6 rfl rfl ?_
  intro u0 hu0; subst u0
  exact v_reti F dX0_held_9 rfl (by unfold cl; grind) (rfl)
