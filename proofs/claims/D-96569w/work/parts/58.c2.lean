set_option maxRecDepth 100000
theorem ok_X9_kind : vv_oc yX9_kind 1 0 (ws_ yX9_kind cX9_kind 1 (some .int)) := vv_ok.oc (rt := (some .int)) ⟨q289, q134, by decide +kernel, by decide +kernel⟩
set_option maxHeartbeats 4000000 in
theorem cc_X9_kind {l : Launch} {Kf : State → Prop} {D : va_G} {K : Nat → ClassId} {fv : List Value × (Nat → Nat)} {A : Nat → Prop} (G : cG A fv cIm Kf D K)  (n : mS) (δ : Nat → Nat) (ν : Nat → Option (Mg × Nat)) (s : Nat)  (hlv : cLv n s) (hkk : tn (n 11 s) ≤ 5) : vv_Ct l yX9_kind (ws_ yX9_kind cX9_kind 1 (some .int)) (rm 0 0) Kf (cWd D K fv A) A [.ref (δ (200 + s))] (n, δ, ν) (vv_i 0 (fun u => u = (n, δ, ν))) := by
  refine vv_of (by decide +kernel) (Nat.le_of_ble_eq_true rfl) ?_
  intro v (F : vv_F v l cX9_kind 1 RX9 "kind" (some .int) [] (rm 0 0) Kf (cWd D K fv A) A _)
  show v (n, δ, ν) 0 0 0 [(0, .ref (δ (200 + s)))] []
  refine v_iconst (x := 0) F dX9_kind_0 rfl (by decide) ?_
  exact v_reti F dX9_kind_1 rfl (by first | rfl | grind [bI]) (rfl)
set_option maxHeartbeats 4000000 in
theorem cd_X9_kind {l : Launch} {Kf : State → Prop} {D : va_G} {K : Nat → ClassId} {fv : List Value × (Nat → Nat)} {A : Nat → Prop} (G : cG A fv cIm Kf D K)  (n : mS) (δ : Nat → Nat) (ν : Nat → Option (Mg × Nat)) (s : Nat)  (hlv : cLv n s) (hkk : tn (n 11 s) ≤ 5) : vv_Ct l yX9_kind (ws_ yX9_kind cX9_kind 1 (some .int)) (rm 2 60) Kf (cWd D K fv A) A [.ref (δ (200 + s))] (n, δ, ν) (vv_i 0 (fun u => u = (n, δ, ν))) := by
  refine vv_of (by decide +kernel) (Nat.le_of_ble_eq_true rfl) ?_
  intro v (F : vv_F v l cX9_kind 1 RX9 "kind" (some .int) [] (rm 2 60) Kf (cWd D K fv A) A _)
  show v (n, δ, ν) 0 0 0 [(0, .ref (δ (200 + s)))] []
  refine v_iconst (x := 0) F dX9_kind_0 rfl (by decide) ?_
  exact v_reti F dX9_kind_1 rfl (by first | rfl | grind [bI]) (rfl)
theorem ok_X9_rots : vv_oc yX9_rots 3 2 (ws_ yX9_rots cX9_rots 3 (some .int)) := vv_ok.oc (rt := (some .int)) ⟨q356, q134, by decide +kernel, by decide +kernel⟩
set_option maxHeartbeats 4000000 in
theorem cc_X9_rots {l : Launch} {Kf : State → Prop} {D : va_G} {K : Nat → ClassId} {fv : List Value × (Nat → Nat)} {A : Nat → Prop} (G : cG A fv cIm Kf D K)  (n : mS) (δ : Nat → Nat) (ν : Nat → Option (Mg × Nat)) (s : Nat) (a : Int32) (so : Int32) (hlv : cLv n s) (hkk : tn (n 11 s) ≤ 5) : vv_Ct l yX9_rots (ws_ yX9_rots cX9_rots 3 (some .int)) (rm 0 0) Kf (cWd D K fv A) A [.ref (δ (200 + s)), .int a, .int so] (n, δ, ν) (vv_i a (fun u => u = (n, δ, ν))) := by
  refine vv_of (by decide +kernel) (Nat.le_of_ble_eq_true rfl) ?_
  intro v (F : vv_F v l cX9_rots 3 RX9 "rots" (some .int) [] (rm 0 0) Kf (cWd D K fv A) A _)
  show v (n, δ, ν) 0 0 0 [(0, .ref (δ (200 + s))), (1, .int a), (2, .int so)] []
  refine v_iload_n F 1 dX9_rots_0 rfl rfl rfl ?_
  exact v_reti F dX9_rots_1 rfl (by first | rfl | grind [bI]) (rfl)
set_option maxHeartbeats 4000000 in
theorem cd_X9_rots {l : Launch} {Kf : State → Prop} {D : va_G} {K : Nat → ClassId} {fv : List Value × (Nat → Nat)} {A : Nat → Prop} (G : cG A fv cIm Kf D K)  (n : mS) (δ : Nat → Nat) (ν : Nat → Option (Mg × Nat)) (s : Nat) (a : Int32) (so : Int32) (hlv : cLv n s) (hkk : tn (n 11 s) ≤ 5) : vv_Ct l yX9_rots (ws_ yX9_rots cX9_rots 3 (some .int)) (rm 2 60) Kf (cWd D K fv A) A [.ref (δ (200 + s)), .int a, .int so] (n, δ, ν) (vv_i a (fun u => u = (n, δ, ν))) := by
  refine vv_of (by decide +kernel) (Nat.le_of_ble_eq_true rfl) ?_
  intro v (F : vv_F v l cX9_rots 3 RX9 "rots" (some .int) [] (rm 2 60) Kf (cWd D K fv A) A _)
  show v (n, δ, ν) 0 0 0 [(0, .ref (δ (200 + s))), (1, .int a), (2, .int so)] []
  refine v_iload_n F 1 dX9_rots_0 rfl rfl rfl ?_
  exact v_reti F dX9_rots_1 rfl (by first | rfl | grind [bI]) (rfl)
theorem ok_X9_grows : vv_oc yX9_grows 4 3 (ws_ yX9_grows cX9_grows 4 (some .int)) := vv_ok.oc (rt := (some .int)) ⟨q390, q134, by decide +kernel, by decide +kernel⟩
set_option maxHeartbeats 4000000 in
theorem cc_X9_grows {l : Launch} {Kf : State → Prop} {D : va_G} {K : Nat → ClassId} {fv : List Value × (Nat → Nat)} {A : Nat → Prop} (G : cG A fv cIm Kf D K)  (n : mS) (δ : Nat → Nat) (ν : Nat → Option (Mg × Nat)) (s : Nat) (a : Int32) (so : Int32) (y : Int32) (hlv : cLv n s) (hkk : tn (n 11 s) ≤ 5) : vv_Ct l yX9_grows (ws_ yX9_grows cX9_grows 4 (some .int)) (rm 0 0) Kf (cWd D K fv A) A [.ref (δ (200 + s)), .int a, .int so, .int y] (n, δ, ν) (vv_i (if 3 < so then 2 * a else a) (fun u => u = (n, δ, ν))) := by
  refine vv_of (by decide +kernel) (Nat.le_of_ble_eq_true rfl) ?_
  intro v (F : vv_F v l cX9_grows 4 RX9 "grows" (some .int) [] (rm 0 0) Kf (cWd D K fv A) A _)
  show v (n, δ, ν) 0 0 0 [(0, .ref (δ (200 + s))), (1, .int a), (2, .int so), (3, .int y)] []
  refine v_iload_n F 2 dX9_grows_0 rfl rfl rfl ?_
  refine v_iconst (x := 3) F dX9_grows_1 rfl (by decide) ?_
  refine v_icmp_le (tgt := 11) (q := 5) F dX9_grows_2 rfl rfl (fun c1 => ?_) (fun c1 => ?_)
  · skip
    refine v_iload_n F 1 dX9_grows_11 rfl rfl rfl ?_
    exact v_reti F dX9_grows_12 rfl (by grind) (rfl)
  · skip
    refine v_iconst (x := 2) F dX9_grows_5 rfl (by decide) ?_
    refine v_iload_n F 1 dX9_grows_6 rfl rfl rfl ?_
    refine v_imul F dX9_grows_7 rfl ?_
    refine v_goto (tgt := 12) F dX9_grows_8 rfl ?_
    exact v_reti F dX9_grows_12 rfl (by grind) (rfl)
set_option maxHeartbeats 4000000 in
theorem cd_X9_grows {l : Launch} {Kf : State → Prop} {D : va_G} {K : Nat → ClassId} {fv : List Value × (Nat → Nat)} {A : Nat → Prop} (G : cG A fv cIm Kf D K)  (n : mS) (δ : Nat → Nat) (ν : Nat → Option (Mg × Nat)) (s : Nat) (a : Int32) (so : Int32) (y : Int32) (hlv : cLv n s) (hkk : tn (n 11 s) ≤ 5) : vv_Ct l yX9_grows (ws_ yX9_grows cX9_grows 4 (some .int)) (rm 2 60) Kf (cWd D K fv A) A [.ref (δ (200 + s)), .int a, .int so, .int y] (n, δ, ν) (vv_i (if 3 < so then 2 * a else a) (fun u => u = (n, δ, ν))) := by
  refine vv_of (by decide +kernel) (Nat.le_of_ble_eq_true rfl) ?_
  intro v (F : vv_F v l cX9_grows 4 RX9 "grows" (some .int) [] (rm 2 60) Kf (cWd D K fv A) A _)
  show v (n, δ, ν) 0 0 0 [(0, .ref (δ (200 + s))), (1, .int a), (2, .int so), (3, .int y)] []
  refine v_iload_n F 2 dX9_grows_0 rfl rfl rfl ?_
  refine v_iconst (x := 3) F dX9_grows_1 rfl (by decide) ?_
  refine v_icmp_le (tgt := 11) (q := 5) F dX9_grows_2 rfl rfl (fun c1 => ?_) (fun c1 => ?_)
  · skip
    refine v_iload_n F 1 dX9_grows_11 rfl rfl rfl ?_
    exact v_reti F dX9_grows_12 rfl (by grind) (rfl)
  · skip
    refine v_iconst (x := 2) F dX9_grows_5 rfl (by decide) ?_
    refine v_iload_n F 1 dX9_grows_6 rfl rfl rfl ?_
    refine v_imul F dX9_grows_7 rfl ?_
    refine v_goto (tgt := 12) F dX9_grows_8 rfl ?_
    exact v_reti F dX9_grows_12 rfl (by grind) (rfl)
theorem ok_X9_flowers : vv_oc yX9_flowers 2 1 (ws_ yX9_flowers cX9_flowers 2 (some .int)) := vv_ok.oc (rt := (some .int)) ⟨q421, q134, by decide +kernel, by decide +kernel⟩
set_option maxHeartbeats 4000000 in
theorem cc_X9_flowers {l : Launch} {Kf : State → Prop} {D : va_G} {K : Nat → ClassId} {fv : List Value × (Nat → Nat)} {A : Nat → Prop} (G : cG A fv cIm Kf D K)  (n : mS) (δ : Nat → Nat) (ν : Nat → Option (Mg × Nat)) (s : Nat) (a : Int32) (hlv : cLv n s) (hkk : tn (n 11 s) ≤ 5) : vv_Ct l yX9_flowers (ws_ yX9_flowers cX9_flowers 2 (some .int)) (rm 0 0) Kf (cWd D K fv A) A [.ref (δ (200 + s)), .int a] (n, δ, ν) (vv_i a (fun u => u = (n, δ, ν))) := by
  refine vv_of (by decide +kernel) (Nat.le_of_ble_eq_true rfl) ?_
  intro v (F : vv_F v l cX9_flowers 2 RX9 "flowers" (some .int) [] (rm 0 0) Kf (cWd D K fv A) A _)
  show v (n, δ, ν) 0 0 0 [(0, .ref (δ (200 + s))), (1, .int a)] []
  refine v_iload_n F 1 dX9_flowers_0 rfl rfl rfl ?_
  exact v_reti F dX9_flowers_1 rfl (by first | rfl | grind [bI]) (rfl)
set_option maxHeartbeats 4000000 in
theorem cd_X9_flowers {l : Launch} {Kf : State → Prop} {D : va_G} {K : Nat → ClassId} {fv : List Value × (Nat → Nat)} {A : Nat → Prop} (G : cG A fv cIm Kf D K)  (n : mS) (δ : Nat → Nat) (ν : Nat → Option (Mg × Nat)) (s : Nat) (a : Int32) (hlv : cLv n s) (hkk : tn (n 11 s) ≤ 5) : vv_Ct l yX9_flowers (ws_ yX9_flowers cX9_flowers 2 (some .int)) (rm 2 60) Kf (cWd D K fv A) A [.ref (δ (200 + s)), .int a] (n, δ, ν) (vv_i a (fun u => u = (n, δ, ν))) := by
  refine vv_of (by decide +kernel) (Nat.le_of_ble_eq_true rfl) ?_
  intro v (F : vv_F v l cX9_flowers 2 RX9 "flowers" (some .int) [] (rm 2 60) Kf (cWd D K fv A) A _)
  show v (n, δ, ν) 0 0 0 [(0, .ref (δ (200 + s))), (1, .int a)] []
  refine v_iload_n F 1 dX9_flowers_0 rfl rfl rfl ?_
  exact v_reti F dX9_flowers_1 rfl (by first | rfl | grind [bI]) (rfl)
theorem ok_X10_kind : vv_oc yX10_kind 1 0 (ws_ yX10_kind cX10_kind 1 (some .int)) := vv_ok.oc (rt := (some .int)) ⟨q285, q135, by decide +kernel, by decide +kernel⟩
set_option maxHeartbeats 4000000 in
theorem cc_X10_kind {l : Launch} {Kf : State → Prop} {D : va_G} {K : Nat → ClassId} {fv : List Value × (Nat → Nat)} {A : Nat → Prop} (G : cG A fv cIm Kf D K)  (n : mS) (δ : Nat → Nat) (ν : Nat → Option (Mg × Nat)) (s : Nat)  (hlv : cLv n s) (hkk : tn (n 11 s) ≤ 5) : vv_Ct l yX10_kind (ws_ yX10_kind cX10_kind 1 (some .int)) (rm 1 20) Kf (cWd D K fv A) A [.ref (δ (200 + s))] (n, δ, ν) (vv_i (0 + 1) (fun u => u = (n, δ, ν))) := by
  refine vv_of (by decide +kernel) (Nat.le_of_ble_eq_true rfl) ?_
  intro v (F : vv_F v l cX10_kind 1 RX10 "kind" (some .int) [] (rm 1 20) Kf (cWd D K fv A) A _)
  show v (n, δ, ν) 0 0 0 [(0, .ref (δ (200 + s)))] []
  refine v_aload_n F 0 dX10_kind_0 rfl rfl rfl ?_
  refine c_scalli F G hlv hkk (cc_X9_kind G n δ ν s  hlv hkk) ok_X9_kind q286 q266 q289 q268 q192 (by decide) rfl rfl dX10_kind_1 rfl rfl ?_
  intro u0 hu0; subst u0
  refine v_iconst (x := 1) F dX10_kind_4 rfl (by decide) ?_
  refine v_iadd F dX10_kind_5 rfl ?_
  exact v_reti F dX10_kind_6 rfl (by first | rfl | grind [bI]) (rfl)
set_option maxHeartbeats 4000000 in
theorem cd_X10_kind {l : Launch} {Kf : State → Prop} {D : va_G} {K : Nat → ClassId} {fv : List Value × (Nat → Nat)} {A : Nat → Prop} (G : cG A fv cIm Kf D K)  (n : mS) (δ : Nat → Nat) (ν : Nat → Option (Mg × Nat)) (s : Nat)  (hlv : cLv n s) (hkk : tn (n 11 s) ≤ 5) : vv_Ct l yX10_kind (ws_ yX10_kind cX10_kind 1 (some .int)) (rm 2 60) Kf (cWd D K fv A) A [.ref (δ (200 + s))] (n, δ, ν) (vv_i (0 + 1) (fun u => u = (n, δ, ν))) := by
  refine vv_of (by decide +kernel) (Nat.le_of_ble_eq_true rfl) ?_
  intro v (F : vv_F v l cX10_kind 1 RX10 "kind" (some .int) [] (rm 2 60) Kf (cWd D K fv A) A _)
  show v (n, δ, ν) 0 0 0 [(0, .ref (δ (200 + s)))] []
  refine v_aload_n F 0 dX10_kind_0 rfl rfl rfl ?_
  refine c_scalli F G hlv hkk (cc_X9_kind G n δ ν s  hlv hkk) ok_X9_kind q286 q266 q289 q268 q192 (by decide) rfl rfl dX10_kind_1 rfl rfl ?_
  intro u0 hu0; subst u0
  refine v_iconst (x := 1) F dX10_kind_4 rfl (by decide) ?_
  refine v_iadd F dX10_kind_5 rfl ?_
  exact v_reti F dX10_kind_6 rfl (by first | rfl | grind [bI]) (rfl)
theorem ok_X10_rots : vv_oc yX10_rots 3 2 (ws_ yX10_rots cX10_rots 3 (some .int)) := vv_ok.oc (rt := (some .int)) ⟨q352, q135, by decide +kernel, by decide +kernel⟩
set_option maxHeartbeats 4000000 in
theorem cc_X10_rots {l : Launch} {Kf : State → Prop} {D : va_G} {K : Nat → ClassId} {fv : List Value × (Nat → Nat)} {A : Nat → Prop} (G : cG A fv cIm Kf D K)  (n : mS) (δ : Nat → Nat) (ν : Nat → Option (Mg × Nat)) (s : Nat) (a : Int32) (so : Int32) (hlv : cLv n s) (hkk : tn (n 11 s) ≤ 5) : vv_Ct l yX10_rots (ws_ yX10_rots cX10_rots 3 (some .int)) (rm 1 22) Kf (cWd D K fv A) A [.ref (δ (200 + s)), .int a, .int so] (n, δ, ν) (vv_i (a + 10) (fun u => u = (n, δ, ν))) := by
  refine vv_of (by decide +kernel) (Nat.le_of_ble_eq_true rfl) ?_
  intro v (F : vv_F v l cX10_rots 3 RX10 "rots" (some .int) [] (rm 1 22) Kf (cWd D K fv A) A _)
  show v (n, δ, ν) 0 0 0 [(0, .ref (δ (200 + s))), (1, .int a), (2, .int so)] []
  refine v_aload_n F 0 dX10_rots_0 rfl rfl rfl ?_
  refine v_iload_n F 1 dX10_rots_1 rfl rfl rfl ?_
  refine v_iload_n F 2 dX10_rots_2 rfl rfl rfl ?_
  refine c_scalli F G hlv hkk (cc_X9_rots G n δ ν s a so hlv hkk) ok_X9_rots q353 q335 q356 q337 q192 (by decide) rfl rfl dX10_rots_3 rfl rfl ?_
  intro u0 hu0; subst u0
  refine v_bipush (x := 10) F dX10_rots_6 rfl (by decide) ?_
  refine v_iadd F dX10_rots_8 rfl ?_
  exact v_reti F dX10_rots_9 rfl (by first | rfl | grind [bI]) (rfl)
set_option maxHeartbeats 4000000 in
theorem cd_X10_rots {l : Launch} {Kf : State → Prop} {D : va_G} {K : Nat → ClassId} {fv : List Value × (Nat → Nat)} {A : Nat → Prop} (G : cG A fv cIm Kf D K)  (n : mS) (δ : Nat → Nat) (ν : Nat → Option (Mg × Nat)) (s : Nat) (a : Int32) (so : Int32) (hlv : cLv n s) (hkk : tn (n 11 s) ≤ 5) : vv_Ct l yX10_rots (ws_ yX10_rots cX10_rots 3 (some .int)) (rm 2 60) Kf (cWd D K fv A) A [.ref (δ (200 + s)), .int a, .int so] (n, δ, ν) (vv_i (a + 10) (fun u => u = (n, δ, ν))) := by
  refine vv_of (by decide +kernel) (Nat.le_of_ble_eq_true rfl) ?_
  intro v (F : vv_F v l cX10_rots 3 RX10 "rots" (some .int) [] (rm 2 60) Kf (cWd D K fv A) A _)
  show v (n, δ, ν) 0 0 0 [(0, .ref (δ (200 + s))), (1, .int a), (2, .int so)] []
  refine v_aload_n F 0 dX10_rots_0 rfl rfl rfl ?_
  refine v_iload_n F 1 dX10_rots_1 rfl rfl rfl ?_
  refine v_iload_n F 2 dX10_rots_2 rfl rfl rfl ?_
  refine c_scalli F G hlv hkk (cc_X9_rots G n δ ν s a so hlv hkk) ok_X9_rots q353 q335 q356 q337 q192 (by decide) rfl rfl dX10_rots_3 rfl rfl ?_
  intro u0 hu0; subst u0
  refine v_bipush (x := 10) F dX10_rots_6 rfl (by decide) ?_
  refine v_iadd F dX10_rots_8 rfl ?_
  exact v_reti F dX10_rots_9 rfl (by first | rfl | grind [bI]) (rfl)
theorem ok_X10_flowers : vv_oc yX10_flowers 2 1 (ws_ yX10_flowers cX10_flowers 2 (some .int)) := vv_ok.oc (rt := (some .int)) ⟨q414, q135, by decide +kernel, by decide +kernel⟩
set_option maxHeartbeats 4000000 in
theorem cc_X10_flowers {l : Launch} {Kf : State → Prop} {D : va_G} {K : Nat → ClassId} {fv : List Value × (Nat → Nat)} {A : Nat → Prop} (G : cG A fv cIm Kf D K)  (n : mS) (δ : Nat → Nat) (ν : Nat → Option (Mg × Nat)) (s : Nat) (a : Int32) (hlv : cLv n s) (hkk : tn (n 11 s) ≤ 5) : vv_Ct l yX10_flowers (ws_ yX10_flowers cX10_flowers 2 (some .int)) (rm 1 21) Kf (cWd D K fv A) A [.ref (δ (200 + s)), .int a] (n, δ, ν) (vv_i (2 * a) (fun u => u = (n, δ, ν))) := by
  refine vv_of (by decide +kernel) (Nat.le_of_ble_eq_true rfl) ?_
  intro v (F : vv_F v l cX10_flowers 2 RX10 "flowers" (some .int) [] (rm 1 21) Kf (cWd D K fv A) A _)
  show v (n, δ, ν) 0 0 0 [(0, .ref (δ (200 + s))), (1, .int a)] []
  refine v_iconst (x := 2) F dX10_flowers_0 rfl (by decide) ?_
  refine v_aload_n F 0 dX10_flowers_1 rfl rfl rfl ?_
  refine v_iload_n F 1 dX10_flowers_2 rfl rfl rfl ?_
  refine c_scalli F G hlv hkk (cc_X9_flowers G n δ ν s a hlv hkk) ok_X9_flowers q415 q402 q421 q404 q192 (by decide) rfl rfl dX10_flowers_3 rfl rfl ?_
  intro u0 hu0; subst u0
  refine v_imul F dX10_flowers_6 rfl ?_
  exact v_reti F dX10_flowers_7 rfl (by first | rfl | grind [bI]) (rfl)
set_option maxHeartbeats 4000000 in
theorem cd_X10_flowers {l : Launch} {Kf : State → Prop} {D : va_G} {K : Nat → ClassId} {fv : List Value × (Nat → Nat)} {A : Nat → Prop} (G : cG A fv cIm Kf D K)  (n : mS) (δ : Nat → Nat) (ν : Nat → Option (Mg × Nat)) (s : Nat) (a : Int32) (hlv : cLv n s) (hkk : tn (n 11 s) ≤ 5) : vv_Ct l yX10_flowers (ws_ yX10_flowers cX10_flowers 2 (some .int)) (rm 2 60) Kf (cWd D K fv A) A [.ref (δ (200 + s)), .int a] (n, δ, ν) (vv_i (2 * a) (fun u => u = (n, δ, ν))) := by
  refine vv_of (by decide +kernel) (Nat.le_of_ble_eq_true rfl) ?_
  intro v (F : vv_F v l cX10_flowers 2 RX10 "flowers" (some .int) [] (rm 2 60) Kf (cWd D K fv A) A _)
  show v (n, δ, ν) 0 0 0 [(0, .ref (δ (200 + s))), (1, .int a)] []
  refine v_iconst (x := 2) F dX10_flowers_0 rfl (by decide) ?_
  refine v_aload_n F 0 dX10_flowers_1 rfl rfl rfl ?_
  refine v_iload_n F 1 dX10_flowers_2 rfl rfl rfl ?_
  refine c_scalli F G hlv hkk (cc_X9_flowers G n δ ν s a hlv hkk) ok_X9_flowers q415 q402 q421 q404 q192 (by decide) rfl rfl dX10_flowers_3 rfl rfl ?_
  intro u0 hu0; subst u0
  refine v_imul F dX10_flowers_6 rfl ?_
  exact v_reti F dX10_flowers_7 rfl (by first | rfl | grind [bI]) (rfl)
theorem ok_X10_grows : vv_oc yX10_grows 4 3 (ws_ yX10_grows cX10_grows 4 (some .int)) := vv_ok.oc (rt := (some .int)) ⟨q386, q135, by decide +kernel, by decide +kernel⟩
set_option maxHeartbeats 4000000 in
theorem cc_X10_grows {l : Launch} {Kf : State → Prop} {D : va_G} {K : Nat → ClassId} {fv : List Value × (Nat → Nat)} {A : Nat → Prop} (G : cG A fv cIm Kf D K)  (n : mS) (δ : Nat → Nat) (ν : Nat → Option (Mg × Nat)) (s : Nat) (a : Int32) (so : Int32) (y : Int32) (hlv : cLv n s) (hkk : tn (n 11 s) ≤ 5) : vv_Ct l yX10_grows (ws_ yX10_grows cX10_grows 4 (some .int)) (rm 1 23) Kf (cWd D K fv A) A [.ref (δ (200 + s)), .int a, .int so, .int y] (n, δ, ν) (vv_i ((if 3 < so then 2 * a else a) + (if 0 < a then n 12 (3 * s + 0) else 0)) (fun u => u = (n, δ, ν))) := by
  refine vv_of (by decide +kernel) (Nat.le_of_ble_eq_true rfl) ?_
  intro v (F : vv_F v l cX10_grows 4 RX10 "grows" (some .int) [] (rm 1 23) Kf (cWd D K fv A) A _)
  show v (n, δ, ν) 0 0 0 [(0, .ref (δ (200 + s))), (1, .int a), (2, .int so), (3, .int y)] []
  refine v_aload_n F 0 dX10_grows_0 rfl rfl rfl ?_
  refine v_iload_n F 1 dX10_grows_1 rfl rfl rfl ?_
  refine v_iload_n F 2 dX10_grows_2 rfl rfl rfl ?_
  refine v_iload_n F 3 dX10_grows_3 rfl rfl rfl ?_
  refine c_scalli F G hlv hkk (cc_X9_grows G n δ ν s a so y hlv hkk) ok_X9_grows q387 q369 q390 q371 q192 (by decide) rfl rfl dX10_grows_4 rfl rfl ?_
  intro u0 hu0; subst u0
  refine v_iload_n F 1 dX10_grows_7 rfl rfl rfl ?_
  refine v_if_le (tgt := 18) (q := 11) F dX10_grows_8 rfl rfl (fun c1 => ?_) (fun c1 => ?_)
  · skip
    refine v_iconst (x := 0) F dX10_grows_18 rfl (by decide) ?_
    refine v_iadd F dX10_grows_19 rfl ?_
    exact v_reti F dX10_grows_20 rfl (by grind) (rfl)
  · skip
    refine v_aload_n F 0 dX10_grows_11 rfl rfl rfl ?_
    refine c_bget F G s 0 (hlv) (hkk) (by decide) q175 (refO_same (k := 0) q176) dX10_grows_12 rfl ?_
    refine v_goto (tgt := 19) F dX10_grows_15 rfl ?_
    refine v_iadd F dX10_grows_19 rfl ?_
    exact v_reti F dX10_grows_20 rfl (by grind) (rfl)
set_option maxHeartbeats 4000000 in
theorem cd_X10_grows {l : Launch} {Kf : State → Prop} {D : va_G} {K : Nat → ClassId} {fv : List Value × (Nat → Nat)} {A : Nat → Prop} (G : cG A fv cIm Kf D K)  (n : mS) (δ : Nat → Nat) (ν : Nat → Option (Mg × Nat)) (s : Nat) (a : Int32) (so : Int32) (y : Int32) (hlv : cLv n s) (hkk : tn (n 11 s) ≤ 5) : vv_Ct l yX10_grows (ws_ yX10_grows cX10_grows 4 (some .int)) (rm 2 60) Kf (cWd D K fv A) A [.ref (δ (200 + s)), .int a, .int so, .int y] (n, δ, ν) (vv_i ((if 3 < so then 2 * a else a) + (if 0 < a then n 12 (3 * s + 0) else 0)) (fun u => u = (n, δ, ν))) := by
  refine vv_of (by decide +kernel) (Nat.le_of_ble_eq_true rfl) ?_
  intro v (F : vv_F v l cX10_grows 4 RX10 "grows" (some .int) [] (rm 2 60) Kf (cWd D K fv A) A _)
  show v (n, δ, ν) 0 0 0 [(0, .ref (δ (200 + s))), (1, .int a), (2, .int so), (3, .int y)] []
  refine v_aload_n F 0 dX10_grows_0 rfl rfl rfl ?_
  refine v_iload_n F 1 dX10_grows_1 rfl rfl rfl ?_
  refine v_iload_n F 2 dX10_grows_2 rfl rfl rfl ?_
  refine v_iload_n F 3 dX10_grows_3 rfl rfl rfl ?_
  refine c_scalli F G hlv hkk (cc_X9_grows G n δ ν s a so y hlv hkk) ok_X9_grows q387 q369 q390 q371 q192 (by decide) rfl rfl dX10_grows_4 rfl rfl ?_
  intro u0 hu0; subst u0
  refine v_iload_n F 1 dX10_grows_7 rfl rfl rfl ?_
  refine v_if_le (tgt := 18) (q := 11) F dX10_grows_8 rfl rfl (fun c1 => ?_) (fun c1 => ?_)
  · skip
    refine v_iconst (x := 0) F dX10_grows_18 rfl (by decide) ?_
    refine v_iadd F dX10_grows_19 rfl ?_
    exact v_reti F dX10_grows_20 rfl (by grind) (rfl)
  · skip
    refine v_aload_n F 0 dX10_grows_11 rfl rfl rfl ?_
    refine c_bget F G s 0 (hlv) (hkk) (by decide) q175 (refO_same (k := 0) q176) dX10_grows_12 rfl ?_
    refine v_goto (tgt := 19) F dX10_grows_15 rfl ?_
    refine v_iadd F dX10_grows_19 rfl ?_
    exact v_reti F dX10_grows_20 rfl (by grind) (rfl)
theorem ok_X11_kind : vv_oc yX11_kind 1 0 (ws_ yX11_kind cX11_kind 1 (some .int)) := vv_ok.oc (rt := (some .int)) ⟨q274, q136, by decide +kernel, by decide +kernel⟩
set_option maxHeartbeats 4000000 in
theorem cc_X11_kind {l : Launch} {Kf : State → Prop} {D : va_G} {K : Nat → ClassId} {fv : List Value × (Nat → Nat)} {A : Nat → Prop} (G : cG A fv cIm Kf D K)  (n : mS) (δ : Nat → Nat) (ν : Nat → Option (Mg × Nat)) (s : Nat)  (hlv : cLv n s) (hkk : tn (n 11 s) ≤ 5) : vv_Ct l yX11_kind (ws_ yX11_kind cX11_kind 1 (some .int)) (rm 1 20) Kf (cWd D K fv A) A [.ref (δ (200 + s))] (n, δ, ν) (vv_i (0 + 2) (fun u => u = (n, δ, ν))) := by
  refine vv_of (by decide +kernel) (Nat.le_of_ble_eq_true rfl) ?_
  intro v (F : vv_F v l cX11_kind 1 RX11 "kind" (some .int) [] (rm 1 20) Kf (cWd D K fv A) A _)
  show v (n, δ, ν) 0 0 0 [(0, .ref (δ (200 + s)))] []
  refine v_aload_n F 0 dX11_kind_0 rfl rfl rfl ?_
  refine c_scalli F G hlv hkk (cc_X9_kind G n δ ν s  hlv hkk) ok_X9_kind q275 q266 q289 q268 q202 (by decide) rfl rfl dX11_kind_1 rfl rfl ?_
  intro u0 hu0; subst u0
  refine v_iconst (x := 2) F dX11_kind_4 rfl (by decide) ?_
  refine v_iadd F dX11_kind_5 rfl ?_
  exact v_reti F dX11_kind_6 rfl (by first | rfl | grind [bI]) (rfl)
set_option maxHeartbeats 4000000 in
theorem cd_X11_kind {l : Launch} {Kf : State → Prop} {D : va_G} {K : Nat → ClassId} {fv : List Value × (Nat → Nat)} {A : Nat → Prop} (G : cG A fv cIm Kf D K)  (n : mS) (δ : Nat → Nat) (ν : Nat → Option (Mg × Nat)) (s : Nat)  (hlv : cLv n s) (hkk : tn (n 11 s) ≤ 5) : vv_Ct l yX11_kind (ws_ yX11_kind cX11_kind 1 (some .int)) (rm 2 60) Kf (cWd D K fv A) A [.ref (δ (200 + s))] (n, δ, ν) (vv_i (0 + 2) (fun u => u = (n, δ, ν))) := by
  refine vv_of (by decide +kernel) (Nat.le_of_ble_eq_true rfl) ?_
  intro v (F : vv_F v l cX11_kind 1 RX11 "kind" (some .int) [] (rm 2 60) Kf (cWd D K fv A) A _)
  show v (n, δ, ν) 0 0 0 [(0, .ref (δ (200 + s)))] []
  refine v_aload_n F 0 dX11_kind_0 rfl rfl rfl ?_
  refine c_scalli F G hlv hkk (cc_X9_kind G n δ ν s  hlv hkk) ok_X9_kind q275 q266 q289 q268 q202 (by decide) rfl rfl dX11_kind_1 rfl rfl ?_
  intro u0 hu0; subst u0
  refine v_iconst (x := 2) F dX11_kind_4 rfl (by decide) ?_
  refine v_iadd F dX11_kind_5 rfl ?_
  exact v_reti F dX11_kind_6 rfl (by first | rfl | grind [bI]) (rfl)
theorem ok_X11_rots : vv_oc yX11_rots 3 2 (ws_ yX11_rots cX11_rots 3 (some .int)) := vv_ok.oc (rt := (some .int)) ⟨q343, q136, by decide +kernel, by decide +kernel⟩
set_option maxHeartbeats 4000000 in
theorem cc_X11_rots {l : Launch} {Kf : State → Prop} {D : va_G} {K : Nat → ClassId} {fv : List Value × (Nat → Nat)} {A : Nat → Prop} (G : cG A fv cIm Kf D K)  (n : mS) (δ : Nat → Nat) (ν : Nat → Option (Mg × Nat)) (s : Nat) (a : Int32) (so : Int32) (hlv : cLv n s) (hkk : tn (n 11 s) ≤ 5) : vv_Ct l yX11_rots (ws_ yX11_rots cX11_rots 3 (some .int)) (rm 1 22) Kf (cWd D K fv A) A [.ref (δ (200 + s)), .int a, .int so] (n, δ, ν) (vv_i (a / 2) (fun u => u = (n, δ, ν))) := by
  refine vv_of (by decide +kernel) (Nat.le_of_ble_eq_true rfl) ?_
  intro v (F : vv_F v l cX11_rots 3 RX11 "rots" (some .int) [] (rm 1 22) Kf (cWd D K fv A) A _)
  show v (n, δ, ν) 0 0 0 [(0, .ref (δ (200 + s))), (1, .int a), (2, .int so)] []
  refine v_aload_n F 0 dX11_rots_0 rfl rfl rfl ?_
  refine v_iload_n F 1 dX11_rots_1 rfl rfl rfl ?_
  refine v_iload_n F 2 dX11_rots_2 rfl rfl rfl ?_
  refine c_scalli F G hlv hkk (cc_X9_rots G n δ ν s a so hlv hkk) ok_X9_rots q344 q335 q356 q337 q202 (by decide) rfl rfl dX11_rots_3 rfl rfl ?_
  intro u0 hu0; subst u0
  refine v_iconst (x := 2) F dX11_rots_6 rfl (by decide) ?_
  refine v_idiv F dX11_rots_7 rfl (by decide) ?_
  exact v_reti F dX11_rots_8 rfl (by first | rfl | grind [bI]) (rfl)
set_option maxHeartbeats 4000000 in
theorem cd_X11_rots {l : Launch} {Kf : State → Prop} {D : va_G} {K : Nat → ClassId} {fv : List Value × (Nat → Nat)} {A : Nat → Prop} (G : cG A fv cIm Kf D K)  (n : mS) (δ : Nat → Nat) (ν : Nat → Option (Mg × Nat)) (s : Nat) (a : Int32) (so : Int32) (hlv : cLv n s) (hkk : tn (n 11 s) ≤ 5) : vv_Ct l yX11_rots (ws_ yX11_rots cX11_rots 3 (some .int)) (rm 2 60) Kf (cWd D K fv A) A [.ref (δ (200 + s)), .int a, .int so] (n, δ, ν) (vv_i (a / 2) (fun u => u = (n, δ, ν))) := by
  refine vv_of (by decide +kernel) (Nat.le_of_ble_eq_true rfl) ?_
  intro v (F : vv_F v l cX11_rots 3 RX11 "rots" (some .int) [] (rm 2 60) Kf (cWd D K fv A) A _)
  show v (n, δ, ν) 0 0 0 [(0, .ref (δ (200 + s))), (1, .int a), (2, .int so)] []
  refine v_aload_n F 0 dX11_rots_0 rfl rfl rfl ?_
  refine v_iload_n F 1 dX11_rots_1 rfl rfl rfl ?_
  refine v_iload_n F 2 dX11_rots_2 rfl rfl rfl ?_
  refine c_scalli F G hlv hkk (cc_X9_rots G n δ ν s a so hlv hkk) ok_X9_rots q344 q335 q356 q337 q202 (by decide) rfl rfl dX11_rots_3 rfl rfl ?_
  intro u0 hu0; subst u0
  refine v_iconst (x := 2) F dX11_rots_6 rfl (by decide) ?_
  refine v_idiv F dX11_rots_7 rfl (by decide) ?_
  exact v_reti F dX11_rots_8 rfl (by first | rfl | grind [bI]) (rfl)
theorem ok_X11_grows : vv_oc yX11_grows 4 3 (ws_ yX11_grows cX11_grows 4 (some .int)) := vv_ok.oc (rt := (some .int)) ⟨q377, q136, by decide +kernel, by decide +kernel⟩
set_option maxHeartbeats 4000000 in
theorem cc_X11_grows {l : Launch} {Kf : State → Prop} {D : va_G} {K : Nat → ClassId} {fv : List Value × (Nat → Nat)} {A : Nat → Prop} (G : cG A fv cIm Kf D K)  (n : mS) (δ : Nat → Nat) (ν : Nat → Option (Mg × Nat)) (s : Nat) (a : Int32) (so : Int32) (y : Int32) (hlv : cLv n s) (hkk : tn (n 11 s) ≤ 5) : vv_Ct l yX11_grows (ws_ yX11_grows cX11_grows 4 (some .int)) (rm 0 0) Kf (cWd D K fv A) A [.ref (δ (200 + s)), .int a, .int so, .int y] (n, δ, ν) (vv_i (a + a / 2) (fun u => u = (n, δ, ν))) := by
  refine vv_of (by decide +kernel) (Nat.le_of_ble_eq_true rfl) ?_
  intro v (F : vv_F v l cX11_grows 4 RX11 "grows" (some .int) [] (rm 0 0) Kf (cWd D K fv A) A _)
  show v (n, δ, ν) 0 0 0 [(0, .ref (δ (200 + s))), (1, .int a), (2, .int so), (3, .int y)] []
  refine v_iload_n F 1 dX11_grows_0 rfl rfl rfl ?_
  refine v_iload_n F 1 dX11_grows_1 rfl rfl rfl ?_
  refine v_iconst (x := 2) F dX11_grows_2 rfl (by decide) ?_
  refine v_idiv F dX11_grows_3 rfl (by decide) ?_
  refine v_iadd F dX11_grows_4 rfl ?_
  exact v_reti F dX11_grows_5 rfl (by first | rfl | grind [bI]) (rfl)
set_option maxHeartbeats 4000000 in
theorem cd_X11_grows {l : Launch} {Kf : State → Prop} {D : va_G} {K : Nat → ClassId} {fv : List Value × (Nat → Nat)} {A : Nat → Prop} (G : cG A fv cIm Kf D K)  (n : mS) (δ : Nat → Nat) (ν : Nat → Option (Mg × Nat)) (s : Nat) (a : Int32) (so : Int32) (y : Int32) (hlv : cLv n s) (hkk : tn (n 11 s) ≤ 5) : vv_Ct l yX11_grows (ws_ yX11_grows cX11_grows 4 (some .int)) (rm 2 60) Kf (cWd D K fv A) A [.ref (δ (200 + s)), .int a, .int so, .int y] (n, δ, ν) (vv_i (a + a / 2) (fun u => u = (n, δ, ν))) := by
  refine vv_of (by decide +kernel) (Nat.le_of_ble_eq_true rfl) ?_
  intro v (F : vv_F v l cX11_grows 4 RX11 "grows" (some .int) [] (rm 2 60) Kf (cWd D K fv A) A _)
  show v (n, δ, ν) 0 0 0 [(0, .ref (δ (200 + s))), (1, .int a), (2, .int so), (3, .int y)] []
  refine v_iload_n F 1 dX11_grows_0 rfl rfl rfl ?_
  refine v_iload_n F 1 dX11_grows_1 rfl rfl rfl ?_
  refine v_iconst (x := 2) F dX11_grows_2 rfl (by decide) ?_
  refine v_idiv F dX11_grows_3 rfl (by decide) ?_
  refine v_iadd F dX11_grows_4 rfl ?_
  exact v_reti F dX11_grows_5 rfl (by first | rfl | grind [bI]) (rfl)
theorem ok_X11_flowers : vv_oc yX11_flowers 2 1 (ws_ yX11_flowers cX11_flowers 2 (some .int)) := vv_ok.oc (rt := (some .int)) ⟨q419, q136, by decide +kernel, by decide +kernel⟩
set_option maxHeartbeats 4000000 in
theorem cc_X11_flowers {l : Launch} {Kf : State → Prop} {D : va_G} {K : Nat → ClassId} {fv : List Value × (Nat → Nat)} {A : Nat → Prop} (G : cG A fv cIm Kf D K)  (n : mS) (δ : Nat → Nat) (ν : Nat → Option (Mg × Nat)) (s : Nat) (a : Int32) (hlv : cLv n s) (hkk : tn (n 11 s) ≤ 5) : vv_Ct l yX11_flowers (ws_ yX11_flowers cX11_flowers 2 (some .int)) (rm 1 21) Kf (cWd D K fv A) A [.ref (δ (200 + s)), .int a] (n, δ, ν) (vv_i (a / 3) (fun u => u = (n, δ, ν))) := by
  refine vv_of (by decide +kernel) (Nat.le_of_ble_eq_true rfl) ?_
  intro v (F : vv_F v l cX11_flowers 2 RX11 "flowers" (some .int) [] (rm 1 21) Kf (cWd D K fv A) A _)
  show v (n, δ, ν) 0 0 0 [(0, .ref (δ (200 + s))), (1, .int a)] []
  refine v_aload_n F 0 dX11_flowers_0 rfl rfl rfl ?_
  refine v_iload_n F 1 dX11_flowers_1 rfl rfl rfl ?_
  refine c_scalli F G hlv hkk (cc_X9_flowers G n δ ν s a hlv hkk) ok_X9_flowers q420 q402 q421 q404 q202 (by decide) rfl rfl dX11_flowers_2 rfl rfl ?_
  intro u0 hu0; subst u0
  refine v_iconst (x := 3) F dX11_flowers_5 rfl (by decide) ?_
  refine v_idiv F dX11_flowers_6 rfl (by decide) ?_
  exact v_reti F dX11_flowers_7 rfl (by first | rfl | grind [bI]) (rfl)
set_option maxHeartbeats 4000000 in
theorem cd_X11_flowers {l : Launch} {Kf : State → Prop} {D : va_G} {K : Nat → ClassId} {fv : List Value × (Nat → Nat)} {A : Nat → Prop} (G : cG A fv cIm Kf D K)  (n : mS) (δ : Nat → Nat) (ν : Nat → Option (Mg × Nat)) (s : Nat) (a : Int32) (hlv : cLv n s) (hkk : tn (n 11 s) ≤ 5) : vv_Ct l yX11_flowers (ws_ yX11_flowers cX11_flowers 2 (some .int)) (rm 2 60) Kf (cWd D K fv A) A [.ref (δ (200 + s)), .int a] (n, δ, ν) (vv_i (a / 3) (fun u => u = (n, δ, ν))) := by
  refine vv_of (by decide +kernel) (Nat.le_of_ble_eq_true rfl) ?_
  intro v (F : vv_F v l cX11_flowers 2 RX11 "flowers" (some .int) [] (rm 2 60) Kf (cWd D K fv A) A _)
  show v (n, δ, ν) 0 0 0 [(0, .ref (δ (200 + s))), (1, .int a)] []
  refine v_aload_n F 0 dX11_flowers_0 rfl rfl rfl ?_
  refine v_iload_n F 1 dX11_flowers_1 rfl rfl rfl ?_
  refine c_scalli F G hlv hkk (cc_X9_flowers G n δ ν s a hlv hkk) ok_X9_flowers q420 q402 q421 q404 q202 (by decide) rfl rfl dX11_flowers_2 rfl rfl ?_
  intro u0 hu0; subst u0
  refine v_iconst (x := 3) F dX11_flowers_5 rfl (by decide) ?_
  refine v_idiv F dX11_flowers_6 rfl (by decide) ?_
  exact v_reti F dX11_flowers_7 rfl (by first | rfl | grind [bI]) (rfl)
theorem ok_X12_kind : vv_oc yX12_kind 1 0 (ws_ yX12_kind cX12_kind 1 (some .int)) := vv_ok.oc (rt := (some .int)) ⟨q282, q137, by decide +kernel, by decide +kernel⟩
set_option maxHeartbeats 4000000 in
theorem cc_X12_kind {l : Launch} {Kf : State → Prop} {D : va_G} {K : Nat → ClassId} {fv : List Value × (Nat → Nat)} {A : Nat → Prop} (G : cG A fv cIm Kf D K)  (n : mS) (δ : Nat → Nat) (ν : Nat → Option (Mg × Nat)) (s : Nat)  (hlv : cLv n s) (hkk : tn (n 11 s) ≤ 5) : vv_Ct l yX12_kind (ws_ yX12_kind cX12_kind 1 (some .int)) (rm 2 40) Kf (cWd D K fv A) A [.ref (δ (200 + s))] (n, δ, ν) (vv_i (0 + 1 + 2) (fun u => u = (n, δ, ν))) := by
  refine vv_of (by decide +kernel) (Nat.le_of_ble_eq_true rfl) ?_
  intro v (F : vv_F v l cX12_kind 1 RX12 "kind" (some .int) [] (rm 2 40) Kf (cWd D K fv A) A _)
  show v (n, δ, ν) 0 0 0 [(0, .ref (δ (200 + s)))] []
  refine v_aload_n F 0 dX12_kind_0 rfl rfl rfl ?_
  refine c_scalli F G hlv hkk (cc_X10_kind G n δ ν s  hlv hkk) ok_X10_kind q283 q284 q285 q1814 q212 (by decide) rfl rfl dX12_kind_1 rfl rfl ?_
  intro u0 hu0; subst u0
  refine v_iconst (x := 2) F dX12_kind_4 rfl (by decide) ?_
  refine v_iadd F dX12_kind_5 rfl ?_
  exact v_reti F dX12_kind_6 rfl (by first | rfl | grind [bI]) (rfl)
set_option maxHeartbeats 4000000 in
theorem cd_X12_kind {l : Launch} {Kf : State → Prop} {D : va_G} {K : Nat → ClassId} {fv : List Value × (Nat → Nat)} {A : Nat → Prop} (G : cG A fv cIm Kf D K)  (n : mS) (δ : Nat → Nat) (ν : Nat → Option (Mg × Nat)) (s : Nat)  (hlv : cLv n s) (hkk : tn (n 11 s) ≤ 5) : vv_Ct l yX12_kind (ws_ yX12_kind cX12_kind 1 (some .int)) (rm 2 60) Kf (cWd D K fv A) A [.ref (δ (200 + s))] (n, δ, ν) (vv_i (0 + 1 + 2) (fun u => u = (n, δ, ν))) := by
  refine vv_of (by decide +kernel) (Nat.le_of_ble_eq_true rfl) ?_
  intro v (F : vv_F v l cX12_kind 1 RX12 "kind" (some .int) [] (rm 2 60) Kf (cWd D K fv A) A _)
  show v (n, δ, ν) 0 0 0 [(0, .ref (δ (200 + s)))] []
  refine v_aload_n F 0 dX12_kind_0 rfl rfl rfl ?_
  refine c_scalli F G hlv hkk (cc_X10_kind G n δ ν s  hlv hkk) ok_X10_kind q283 q284 q285 q1814 q212 (by decide) rfl rfl dX12_kind_1 rfl rfl ?_
  intro u0 hu0; subst u0
  refine v_iconst (x := 2) F dX12_kind_4 rfl (by decide) ?_
  refine v_iadd F dX12_kind_5 rfl ?_
  exact v_reti F dX12_kind_6 rfl (by first | rfl | grind [bI]) (rfl)
theorem ok_X12_grows : vv_oc yX12_grows 4 3 (ws_ yX12_grows cX12_grows 4 (some .int)) := vv_ok.oc (rt := (some .int)) ⟨q383, q137, by decide +kernel, by decide +kernel⟩
set_option maxHeartbeats 4000000 in
theorem cc_X12_grows {l : Launch} {Kf : State → Prop} {D : va_G} {K : Nat → ClassId} {fv : List Value × (Nat → Nat)} {A : Nat → Prop} (G : cG A fv cIm Kf D K)  (n : mS) (δ : Nat → Nat) (ν : Nat → Option (Mg × Nat)) (s : Nat) (a : Int32) (so : Int32) (y : Int32) (hlv : cLv n s) (hkk : tn (n 11 s) ≤ 5) : vv_Ct l yX12_grows (ws_ yX12_grows cX12_grows 4 (some .int)) (rm 2 46) Kf (cWd D K fv A) A [.ref (δ (200 + s)), .int a, .int so, .int y] (n, δ, ν) (vv_i ((if 3 < so then 2 * a else a) + (if 0 < a then n 12 (3 * s + 0) else 0) + a) (fun u => u = (n, δ, ν))) := by
  refine vv_of (by decide +kernel) (Nat.le_of_ble_eq_true rfl) ?_
  intro v (F : vv_F v l cX12_grows 4 RX12 "grows" (some .int) [] (rm 2 46) Kf (cWd D K fv A) A _)
  show v (n, δ, ν) 0 0 0 [(0, .ref (δ (200 + s))), (1, .int a), (2, .int so), (3, .int y)] []
  refine v_aload_n F 0 dX12_grows_0 rfl rfl rfl ?_
  refine v_iload_n F 1 dX12_grows_1 rfl rfl rfl ?_
  refine v_iload_n F 2 dX12_grows_2 rfl rfl rfl ?_
  refine v_iload_n F 3 dX12_grows_3 rfl rfl rfl ?_
  refine c_scalli F G hlv hkk (cc_X10_grows G n δ ν s a so y hlv hkk) ok_X10_grows q384 q385 q386 q1817 q212 (by decide) rfl rfl dX12_grows_4 rfl rfl ?_
  intro u0 hu0; subst u0
  refine v_iload_n F 1 dX12_grows_7 rfl rfl rfl ?_
  refine v_iadd F dX12_grows_8 rfl ?_
  exact v_reti F dX12_grows_9 rfl (by first | rfl | grind [bI]) (rfl)
set_option maxHeartbeats 4000000 in
theorem cd_X12_grows {l : Launch} {Kf : State → Prop} {D : va_G} {K : Nat → ClassId} {fv : List Value × (Nat → Nat)} {A : Nat → Prop} (G : cG A fv cIm Kf D K)  (n : mS) (δ : Nat → Nat) (ν : Nat → Option (Mg × Nat)) (s : Nat) (a : Int32) (so : Int32) (y : Int32) (hlv : cLv n s) (hkk : tn (n 11 s) ≤ 5) : vv_Ct l yX12_grows (ws_ yX12_grows cX12_grows 4 (some .int)) (rm 2 60) Kf (cWd D K fv A) A [.ref (δ (200 + s)), .int a, .int so, .int y] (n, δ, ν) (vv_i ((if 3 < so then 2 * a else a) + (if 0 < a then n 12 (3 * s + 0) else 0) + a) (fun u => u = (n, δ, ν))) := by
  refine vv_of (by decide +kernel) (Nat.le_of_ble_eq_true rfl) ?_
  intro v (F : vv_F v l cX12_grows 4 RX12 "grows" (some .int) [] (rm 2 60) Kf (cWd D K fv A) A _)
  show v (n, δ, ν) 0 0 0 [(0, .ref (δ (200 + s))), (1, .int a), (2, .int so), (3, .int y)] []
  refine v_aload_n F 0 dX12_grows_0 rfl rfl rfl ?_
  refine v_iload_n F 1 dX12_grows_1 rfl rfl rfl ?_
  refine v_iload_n F 2 dX12_grows_2 rfl rfl rfl ?_
  refine v_iload_n F 3 dX12_grows_3 rfl rfl rfl ?_
  refine c_scalli F G hlv hkk (cc_X10_grows G n δ ν s a so y hlv hkk) ok_X10_grows q384 q385 q386 q1817 q212 (by decide) rfl rfl dX12_grows_4 rfl rfl ?_
  intro u0 hu0; subst u0
  refine v_iload_n F 1 dX12_grows_7 rfl rfl rfl ?_
  refine v_iadd F dX12_grows_8 rfl ?_
  exact v_reti F dX12_grows_9 rfl (by first | rfl | grind [bI]) (rfl)
theorem ok_X12_flowers : vv_oc yX12_flowers 2 1 (ws_ yX12_flowers cX12_flowers 2 (some .int)) := vv_ok.oc (rt := (some .int)) ⟨q411, q137, by decide +kernel, by decide +kernel⟩
set_option maxHeartbeats 4000000 in
theorem cc_X12_flowers {l : Launch} {Kf : State → Prop} {D : va_G} {K : Nat → ClassId} {fv : List Value × (Nat → Nat)} {A : Nat → Prop} (G : cG A fv cIm Kf D K)  (n : mS) (δ : Nat → Nat) (ν : Nat → Option (Mg × Nat)) (s : Nat) (a : Int32) (hlv : cLv n s) (hkk : tn (n 11 s) ≤ 5) : vv_Ct l yX12_flowers (ws_ yX12_flowers cX12_flowers 2 (some .int)) (rm 2 42) Kf (cWd D K fv A) A [.ref (δ (200 + s)), .int a] (n, δ, ν) (vv_i (2 * a + (if 0 < a then n 12 (3 * s + 0) else 0)) (fun u => u = (n, δ, ν))) := by
  refine vv_of (by decide +kernel) (Nat.le_of_ble_eq_true rfl) ?_
  intro v (F : vv_F v l cX12_flowers 2 RX12 "flowers" (some .int) [] (rm 2 42) Kf (cWd D K fv A) A _)
  show v (n, δ, ν) 0 0 0 [(0, .ref (δ (200 + s))), (1, .int a)] []
  refine v_aload_n F 0 dX12_flowers_0 rfl rfl rfl ?_
  refine v_iload_n F 1 dX12_flowers_1 rfl rfl rfl ?_
  refine c_scalli F G hlv hkk (cc_X10_flowers G n δ ν s a hlv hkk) ok_X10_flowers q412 q413 q414 q1818 q212 (by decide) rfl rfl dX12_flowers_2 rfl rfl ?_
  intro u0 hu0; subst u0
  refine v_iload_n F 1 dX12_flowers_5 rfl rfl rfl ?_
  refine v_if_le (tgt := 16) (q := 9) F dX12_flowers_6 rfl rfl (fun c1 => ?_) (fun c1 => ?_)
  · skip
    refine v_iconst (x := 0) F dX12_flowers_16 rfl (by decide) ?_
    refine v_iadd F dX12_flowers_17 rfl ?_
    exact v_reti F dX12_flowers_18 rfl (by grind) (rfl)
  · skip
    refine v_aload_n F 0 dX12_flowers_9 rfl rfl rfl ?_
    refine c_bget F G s 0 (hlv) (hkk) (by decide) q177 (refO_same (k := 0) q178) dX12_flowers_10 rfl ?_
    refine v_goto (tgt := 17) F dX12_flowers_13 rfl ?_
    refine v_iadd F dX12_flowers_17 rfl ?_
    exact v_reti F dX12_flowers_18 rfl (by grind) (rfl)
set_option maxHeartbeats 4000000 in
theorem cd_X12_flowers {l : Launch} {Kf : State → Prop} {D : va_G} {K : Nat → ClassId} {fv : List Value × (Nat → Nat)} {A : Nat → Prop} (G : cG A fv cIm Kf D K)  (n : mS) (δ : Nat → Nat) (ν : Nat → Option (Mg × Nat)) (s : Nat) (a : Int32) (hlv : cLv n s) (hkk : tn (n 11 s) ≤ 5) : vv_Ct l yX12_flowers (ws_ yX12_flowers cX12_flowers 2 (some .int)) (rm 2 60) Kf (cWd D K fv A) A [.ref (δ (200 + s)), .int a] (n, δ, ν) (vv_i (2 * a + (if 0 < a then n 12 (3 * s + 0) else 0)) (fun u => u = (n, δ, ν))) := by
  refine vv_of (by decide +kernel) (Nat.le_of_ble_eq_true rfl) ?_
  intro v (F : vv_F v l cX12_flowers 2 RX12 "flowers" (some .int) [] (rm 2 60) Kf (cWd D K fv A) A _)
  show v (n, δ, ν) 0 0 0 [(0, .ref (δ (200 + s))), (1, .int a)] []
  refine v_aload_n F 0 dX12_flowers_0 rfl rfl rfl ?_
  refine v_iload_n F 1 dX12_flowers_1 rfl rfl rfl ?_
  refine c_scalli F G hlv hkk (cc_X10_flowers G n δ ν s a hlv hkk) ok_X10_flowers q412 q413 q414 q1818 q212 (by decide) rfl rfl dX12_flowers_2 rfl rfl ?_
  intro u0 hu0; subst u0
  refine v_iload_n F 1 dX12_flowers_5 rfl rfl rfl ?_
  refine v_if_le (tgt := 16) (q := 9) F dX12_flowers_6 rfl rfl (fun c1 => ?_) (fun c1 => ?_)
  · skip
    refine v_iconst (x := 0) F dX12_flowers_16 rfl (by decide) ?_
    refine v_iadd F dX12_flowers_17 rfl ?_
    exact v_reti F dX12_flowers_18 rfl (by grind) (rfl)
  · skip
    refine v_aload_n F 0 dX12_flowers_9 rfl rfl rfl ?_
    refine c_bget F G s 0 (hlv) (hkk) (by decide) q177 (refO_same (k := 0) q178) dX12_flowers_10 rfl ?_
    refine v_goto (tgt := 17) F dX12_flowers_13 rfl ?_
    refine v_iadd F dX12_flowers_17 rfl ?_
    exact v_reti F dX12_flowers_18 rfl (by grind) (rfl)
theorem ok_X13_kind : vv_oc yX13_kind 1 0 (ws_ yX13_kind cX13_kind 1 (some .int)) := vv_ok.oc (rt := (some .int)) ⟨q271, q138, by decide +kernel, by decide +kernel⟩
set_option maxHeartbeats 4000000 in
theorem cc_X13_kind {l : Launch} {Kf : State → Prop} {D : va_G} {K : Nat → ClassId} {fv : List Value × (Nat → Nat)} {A : Nat → Prop} (G : cG A fv cIm Kf D K)  (n : mS) (δ : Nat → Nat) (ν : Nat → Option (Mg × Nat)) (s : Nat)  (hlv : cLv n s) (hkk : tn (n 11 s) ≤ 5) : vv_Ct l yX13_kind (ws_ yX13_kind cX13_kind 1 (some .int)) (rm 2 40) Kf (cWd D K fv A) A [.ref (δ (200 + s))] (n, δ, ν) (vv_i (0 + 2 + 2) (fun u => u = (n, δ, ν))) := by
  refine vv_of (by decide +kernel) (Nat.le_of_ble_eq_true rfl) ?_
  intro v (F : vv_F v l cX13_kind 1 RX13 "kind" (some .int) [] (rm 2 40) Kf (cWd D K fv A) A _)
  show v (n, δ, ν) 0 0 0 [(0, .ref (δ (200 + s)))] []
  refine v_aload_n F 0 dX13_kind_0 rfl rfl rfl ?_
  refine c_scalli F G hlv hkk (cc_X11_kind G n δ ν s  hlv hkk) ok_X11_kind q272 q273 q274 q1813 q222 (by decide) rfl rfl dX13_kind_1 rfl rfl ?_
  intro u0 hu0; subst u0
  refine v_iconst (x := 2) F dX13_kind_4 rfl (by decide) ?_
  refine v_iadd F dX13_kind_5 rfl ?_
  exact v_reti F dX13_kind_6 rfl (by first | rfl | grind [bI]) (rfl)
set_option maxHeartbeats 4000000 in
theorem cd_X13_kind {l : Launch} {Kf : State → Prop} {D : va_G} {K : Nat → ClassId} {fv : List Value × (Nat → Nat)} {A : Nat → Prop} (G : cG A fv cIm Kf D K)  (n : mS) (δ : Nat → Nat) (ν : Nat → Option (Mg × Nat)) (s : Nat)  (hlv : cLv n s) (hkk : tn (n 11 s) ≤ 5) : vv_Ct l yX13_kind (ws_ yX13_kind cX13_kind 1 (some .int)) (rm 2 60) Kf (cWd D K fv A) A [.ref (δ (200 + s))] (n, δ, ν) (vv_i (0 + 2 + 2) (fun u => u = (n, δ, ν))) := by
  refine vv_of (by decide +kernel) (Nat.le_of_ble_eq_true rfl) ?_
  intro v (F : vv_F v l cX13_kind 1 RX13 "kind" (some .int) [] (rm 2 60) Kf (cWd D K fv A) A _)
  show v (n, δ, ν) 0 0 0 [(0, .ref (δ (200 + s)))] []
  refine v_aload_n F 0 dX13_kind_0 rfl rfl rfl ?_
  refine c_scalli F G hlv hkk (cc_X11_kind G n δ ν s  hlv hkk) ok_X11_kind q272 q273 q274 q1813 q222 (by decide) rfl rfl dX13_kind_1 rfl rfl ?_
  intro u0 hu0; subst u0
  refine v_iconst (x := 2) F dX13_kind_4 rfl (by decide) ?_
  refine v_iadd F dX13_kind_5 rfl ?_
  exact v_reti F dX13_kind_6 rfl (by first | rfl | grind [bI]) (rfl)
theorem ok_X13_rots : vv_oc yX13_rots 3 2 (ws_ yX13_rots cX13_rots 3 (some .int)) := vv_ok.oc (rt := (some .int)) ⟨q340, q138, by decide +kernel, by decide +kernel⟩
set_option maxHeartbeats 4000000 in
theorem cc_X13_rots {l : Launch} {Kf : State → Prop} {D : va_G} {K : Nat → ClassId} {fv : List Value × (Nat → Nat)} {A : Nat → Prop} (G : cG A fv cIm Kf D K)  (n : mS) (δ : Nat → Nat) (ν : Nat → Option (Mg × Nat)) (s : Nat) (a : Int32) (so : Int32) (hlv : cLv n s) (hkk : tn (n 11 s) ≤ 5) : vv_Ct l yX13_rots (ws_ yX13_rots cX13_rots 3 (some .int)) (rm 2 44) Kf (cWd D K fv A) A [.ref (δ (200 + s)), .int a, .int so] (n, δ, ν) (vv_i (a / 2 + so) (fun u => u = (n, δ, ν))) := by
  refine vv_of (by decide +kernel) (Nat.le_of_ble_eq_true rfl) ?_
  intro v (F : vv_F v l cX13_rots 3 RX13 "rots" (some .int) [] (rm 2 44) Kf (cWd D K fv A) A _)
  show v (n, δ, ν) 0 0 0 [(0, .ref (δ (200 + s))), (1, .int a), (2, .int so)] []
  refine v_aload_n F 0 dX13_rots_0 rfl rfl rfl ?_
  refine v_iload_n F 1 dX13_rots_1 rfl rfl rfl ?_
  refine v_iload_n F 2 dX13_rots_2 rfl rfl rfl ?_
  refine c_scalli F G hlv hkk (cc_X11_rots G n δ ν s a so hlv hkk) ok_X11_rots q341 q342 q343 q1815 q222 (by decide) rfl rfl dX13_rots_3 rfl rfl ?_
  intro u0 hu0; subst u0
  refine v_iload_n F 2 dX13_rots_6 rfl rfl rfl ?_
  refine v_iadd F dX13_rots_7 rfl ?_
  exact v_reti F dX13_rots_8 rfl (by first | rfl | grind [bI]) (rfl)
set_option maxHeartbeats 4000000 in
theorem cd_X13_rots {l : Launch} {Kf : State → Prop} {D : va_G} {K : Nat → ClassId} {fv : List Value × (Nat → Nat)} {A : Nat → Prop} (G : cG A fv cIm Kf D K)  (n : mS) (δ : Nat → Nat) (ν : Nat → Option (Mg × Nat)) (s : Nat) (a : Int32) (so : Int32) (hlv : cLv n s) (hkk : tn (n 11 s) ≤ 5) : vv_Ct l yX13_rots (ws_ yX13_rots cX13_rots 3 (some .int)) (rm 2 60) Kf (cWd D K fv A) A [.ref (δ (200 + s)), .int a, .int so] (n, δ, ν) (vv_i (a / 2 + so) (fun u => u = (n, δ, ν))) := by
  refine vv_of (by decide +kernel) (Nat.le_of_ble_eq_true rfl) ?_
  intro v (F : vv_F v l cX13_rots 3 RX13 "rots" (some .int) [] (rm 2 60) Kf (cWd D K fv A) A _)
  show v (n, δ, ν) 0 0 0 [(0, .ref (δ (200 + s))), (1, .int a), (2, .int so)] []
  refine v_aload_n F 0 dX13_rots_0 rfl rfl rfl ?_
  refine v_iload_n F 1 dX13_rots_1 rfl rfl rfl ?_
  refine v_iload_n F 2 dX13_rots_2 rfl rfl rfl ?_
  refine c_scalli F G hlv hkk (cc_X11_rots G n δ ν s a so hlv hkk) ok_X11_rots q341 q342 q343 q1815 q222 (by decide) rfl rfl dX13_rots_3 rfl rfl ?_
  intro u0 hu0; subst u0
  refine v_iload_n F 2 dX13_rots_6 rfl rfl rfl ?_
  refine v_iadd F dX13_rots_7 rfl ?_
  exact v_reti F dX13_rots_8 rfl (by first | rfl | grind [bI]) (rfl)
theorem ok_X13_grows : vv_oc yX13_grows 4 3 (ws_ yX13_grows cX13_grows 4 (some .int)) := vv_ok.oc (rt := (some .int)) ⟨q374, q138, by decide +kernel, by decide +kernel⟩
set_option maxHeartbeats 4000000 in
theorem cc_X13_grows {l : Launch} {Kf : State → Prop} {D : va_G} {K : Nat → ClassId} {fv : List Value × (Nat → Nat)} {A : Nat → Prop} (G : cG A fv cIm Kf D K)  (n : mS) (δ : Nat → Nat) (ν : Nat → Option (Mg × Nat)) (s : Nat) (a : Int32) (so : Int32) (y : Int32) (hlv : cLv n s) (hkk : tn (n 11 s) ≤ 5) : vv_Ct l yX13_grows (ws_ yX13_grows cX13_grows 4 (some .int)) (rm 1 23) Kf (cWd D K fv A) A [.ref (δ (200 + s)), .int a, .int so, .int y] (n, δ, ν) (vv_i (if y - y / 2 * 2 = 1 then a else a + a / 2) (fun u => u = (n, δ, ν))) := by
  refine vv_of (by decide +kernel) (Nat.le_of_ble_eq_true rfl) ?_
  intro v (F : vv_F v l cX13_grows 4 RX13 "grows" (some .int) [] (rm 1 23) Kf (cWd D K fv A) A _)
  show v (n, δ, ν) 0 0 0 [(0, .ref (δ (200 + s))), (1, .int a), (2, .int so), (3, .int y)] []
  refine v_iload_n F 3 dX13_grows_0 rfl rfl rfl ?_
  refine v_iconst (x := 2) F dX13_grows_1 rfl (by decide) ?_
  refine v_irem F dX13_grows_2 rfl (by decide) ?_
  refine v_iconst (x := 1) F dX13_grows_3 rfl (by decide) ?_
  refine v_icmp_ne (tgt := 11) (q := 7) F dX13_grows_4 rfl rfl (fun c1 => ?_) (fun c1 => ?_)
  · skip
    refine v_aload_n F 0 dX13_grows_11 rfl rfl rfl ?_
    refine v_iload_n F 1 dX13_grows_12 rfl rfl rfl ?_
    refine v_iload_n F 2 dX13_grows_13 rfl rfl rfl ?_
    refine v_iload_n F 3 dX13_grows_14 rfl rfl rfl ?_
    refine c_scalli F G hlv hkk (cc_X11_grows G n δ ν s a so y hlv hkk) ok_X11_grows q375 q376 q377 q1816 q222 (by decide) rfl rfl dX13_grows_15 rfl rfl ?_
    intro u0 hu0; subst u0
    exact v_reti F dX13_grows_18 rfl (by grind) (rfl)
  · skip
    refine v_iload_n F 1 dX13_grows_7 rfl rfl rfl ?_
    refine v_goto (tgt := 18) F dX13_grows_8 rfl ?_
    exact v_reti F dX13_grows_18 rfl (by grind) (rfl)
set_option maxHeartbeats 4000000 in
theorem cd_X13_grows {l : Launch} {Kf : State → Prop} {D : va_G} {K : Nat → ClassId} {fv : List Value × (Nat → Nat)} {A : Nat → Prop} (G : cG A fv cIm Kf D K)  (n : mS) (δ : Nat → Nat) (ν : Nat → Option (Mg × Nat)) (s : Nat) (a : Int32) (so : Int32) (y : Int32) (hlv : cLv n s) (hkk : tn (n 11 s) ≤ 5) : vv_Ct l yX13_grows (ws_ yX13_grows cX13_grows 4 (some .int)) (rm 2 60) Kf (cWd D K fv A) A [.ref (δ (200 + s)), .int a, .int so, .int y] (n, δ, ν) (vv_i (if y - y / 2 * 2 = 1 then a else a + a / 2) (fun u => u = (n, δ, ν))) := by
  refine vv_of (by decide +kernel) (Nat.le_of_ble_eq_true rfl) ?_
  intro v (F : vv_F v l cX13_grows 4 RX13 "grows" (some .int) [] (rm 2 60) Kf (cWd D K fv A) A _)
  show v (n, δ, ν) 0 0 0 [(0, .ref (δ (200 + s))), (1, .int a), (2, .int so), (3, .int y)] []
  refine v_iload_n F 3 dX13_grows_0 rfl rfl rfl ?_
  refine v_iconst (x := 2) F dX13_grows_1 rfl (by decide) ?_
  refine v_irem F dX13_grows_2 rfl (by decide) ?_
  refine v_iconst (x := 1) F dX13_grows_3 rfl (by decide) ?_
  refine v_icmp_ne (tgt := 11) (q := 7) F dX13_grows_4 rfl rfl (fun c1 => ?_) (fun c1 => ?_)
  · skip
    refine v_aload_n F 0 dX13_grows_11 rfl rfl rfl ?_
    refine v_iload_n F 1 dX13_grows_12 rfl rfl rfl ?_
    refine v_iload_n F 2 dX13_grows_13 rfl rfl rfl ?_
    refine v_iload_n F 3 dX13_grows_14 rfl rfl rfl ?_
    refine c_scalli F G hlv hkk (cc_X11_grows G n δ ν s a so y hlv hkk) ok_X11_grows q375 q376 q377 q1816 q222 (by decide) rfl rfl dX13_grows_15 rfl rfl ?_
    intro u0 hu0; subst u0
    exact v_reti F dX13_grows_18 rfl (by grind) (rfl)
  · skip
    refine v_iload_n F 1 dX13_grows_7 rfl rfl rfl ?_
    refine v_goto (tgt := 18) F dX13_grows_8 rfl ?_
    exact v_reti F dX13_grows_18 rfl (by grind) (rfl)
theorem ok_X13_flowers : vv_oc yX13_flowers 2 1 (ws_ yX13_flowers cX13_flowers 2 (some .int)) := vv_ok.oc (rt := (some .int)) ⟨q407, q138, by decide +kernel, by decide +kernel⟩
set_option maxHeartbeats 4000000 in
theorem cc_X13_flowers {l : Launch} {Kf : State → Prop} {D : va_G} {K : Nat → ClassId} {fv : List Value × (Nat → Nat)} {A : Nat → Prop} (G : cG A fv cIm Kf D K)  (n : mS) (δ : Nat → Nat) (ν : Nat → Option (Mg × Nat)) (s : Nat) (a : Int32) (hlv : cLv n s) (hkk : tn (n 11 s) ≤ 5) : vv_Ct l yX13_flowers (ws_ yX13_flowers cX13_flowers 2 (some .int)) (rm 0 0) Kf (cWd D K fv A) A [.ref (δ (200 + s)), .int a] (n, δ, ν) (vv_i 0 (fun u => u = (n, δ, ν))) := by
  refine vv_of (by decide +kernel) (Nat.le_of_ble_eq_true rfl) ?_
  intro v (F : vv_F v l cX13_flowers 2 RX13 "flowers" (some .int) [] (rm 0 0) Kf (cWd D K fv A) A _)
  show v (n, δ, ν) 0 0 0 [(0, .ref (δ (200 + s))), (1, .int a)] []
  refine v_iconst (x := 0) F dX13_flowers_0 rfl (by decide) ?_
  exact v_reti F dX13_flowers_1 rfl (by first | rfl | grind [bI]) (rfl)
set_option maxHeartbeats 4000000 in
theorem cd_X13_flowers {l : Launch} {Kf : State → Prop} {D : va_G} {K : Nat → ClassId} {fv : List Value × (Nat → Nat)} {A : Nat → Prop} (G : cG A fv cIm Kf D K)  (n : mS) (δ : Nat → Nat) (ν : Nat → Option (Mg × Nat)) (s : Nat) (a : Int32) (hlv : cLv n s) (hkk : tn (n 11 s) ≤ 5) : vv_Ct l yX13_flowers (ws_ yX13_flowers cX13_flowers 2 (some .int)) (rm 2 60) Kf (cWd D K fv A) A [.ref (δ (200 + s)), .int a] (n, δ, ν) (vv_i 0 (fun u => u = (n, δ, ν))) := by
  refine vv_of (by decide +kernel) (Nat.le_of_ble_eq_true rfl) ?_
  intro v (F : vv_F v l cX13_flowers 2 RX13 "flowers" (some .int) [] (rm 2 60) Kf (cWd D K fv A) A _)
  show v (n, δ, ν) 0 0 0 [(0, .ref (δ (200 + s))), (1, .int a)] []
  refine v_iconst (x := 0) F dX13_flowers_0 rfl (by decide) ?_
  exact v_reti F dX13_flowers_1 rfl (by first | rfl | grind [bI]) (rfl)
theorem ok_X14_kind : vv_oc yX14_kind 1 0 (ws_ yX14_kind cX14_kind 1 (some .int)) := vv_ok.oc (rt := (some .int)) ⟨q278, q139, by decide +kernel, by decide +kernel⟩
set_option maxHeartbeats 4000000 in
theorem cc_X14_kind {l : Launch} {Kf : State → Prop} {D : va_G} {K : Nat → ClassId} {fv : List Value × (Nat → Nat)} {A : Nat → Prop} (G : cG A fv cIm Kf D K)  (n : mS) (δ : Nat → Nat) (ν : Nat → Option (Mg × Nat)) (s : Nat)  (hlv : cLv n s) (hkk : tn (n 11 s) ≤ 5) : vv_Ct l yX14_kind (ws_ yX14_kind cX14_kind 1 (some .int)) (rm 1 20) Kf (cWd D K fv A) A [.ref (δ (200 + s))] (n, δ, ν) (vv_i (0 + 5) (fun u => u = (n, δ, ν))) := by
  refine vv_of (by decide +kernel) (Nat.le_of_ble_eq_true rfl) ?_
  intro v (F : vv_F v l cX14_kind 1 RX14 "kind" (some .int) [] (rm 1 20) Kf (cWd D K fv A) A _)
  show v (n, δ, ν) 0 0 0 [(0, .ref (δ (200 + s)))] []
  refine v_aload_n F 0 dX14_kind_0 rfl rfl rfl ?_
  refine c_scalli F G hlv hkk (cc_X9_kind G n δ ν s  hlv hkk) ok_X9_kind q279 q266 q289 q268 q232 (by decide) rfl rfl dX14_kind_1 rfl rfl ?_
  intro u0 hu0; subst u0
  refine v_iconst (x := 5) F dX14_kind_4 rfl (by decide) ?_
  refine v_iadd F dX14_kind_5 rfl ?_
  exact v_reti F dX14_kind_6 rfl (by first | rfl | grind [bI]) (rfl)
set_option maxHeartbeats 4000000 in
theorem cd_X14_kind {l : Launch} {Kf : State → Prop} {D : va_G} {K : Nat → ClassId} {fv : List Value × (Nat → Nat)} {A : Nat → Prop} (G : cG A fv cIm Kf D K)  (n : mS) (δ : Nat → Nat) (ν : Nat → Option (Mg × Nat)) (s : Nat)  (hlv : cLv n s) (hkk : tn (n 11 s) ≤ 5) : vv_Ct l yX14_kind (ws_ yX14_kind cX14_kind 1 (some .int)) (rm 2 60) Kf (cWd D K fv A) A [.ref (δ (200 + s))] (n, δ, ν) (vv_i (0 + 5) (fun u => u = (n, δ, ν))) := by
  refine vv_of (by decide +kernel) (Nat.le_of_ble_eq_true rfl) ?_
  intro v (F : vv_F v l cX14_kind 1 RX14 "kind" (some .int) [] (rm 2 60) Kf (cWd D K fv A) A _)
  show v (n, δ, ν) 0 0 0 [(0, .ref (δ (200 + s)))] []
  refine v_aload_n F 0 dX14_kind_0 rfl rfl rfl ?_
  refine c_scalli F G hlv hkk (cc_X9_kind G n δ ν s  hlv hkk) ok_X9_kind q279 q266 q289 q268 q232 (by decide) rfl rfl dX14_kind_1 rfl rfl ?_
  intro u0 hu0; subst u0
  refine v_iconst (x := 5) F dX14_kind_4 rfl (by decide) ?_
  refine v_iadd F dX14_kind_5 rfl ?_
  exact v_reti F dX14_kind_6 rfl (by first | rfl | grind [bI]) (rfl)
theorem ok_X14_rots : vv_oc yX14_rots 3 2 (ws_ yX14_rots cX14_rots 3 (some .int)) := vv_ok.oc (rt := (some .int)) ⟨q347, q139, by decide +kernel, by decide +kernel⟩
set_option maxHeartbeats 4000000 in
theorem cc_X14_rots {l : Launch} {Kf : State → Prop} {D : va_G} {K : Nat → ClassId} {fv : List Value × (Nat → Nat)} {A : Nat → Prop} (G : cG A fv cIm Kf D K)  (n : mS) (δ : Nat → Nat) (ν : Nat → Option (Mg × Nat)) (s : Nat) (a : Int32) (so : Int32) (hlv : cLv n s) (hkk : tn (n 11 s) ≤ 5) : vv_Ct l yX14_rots (ws_ yX14_rots cX14_rots 3 (some .int)) (rm 1 22) Kf (cWd D K fv A) A [.ref (δ (200 + s)), .int a, .int so] (n, δ, ν) (vv_i (if a ≤ 50 then 50 else a) (fun u => u = (n, δ, ν))) := by
  refine vv_of (by decide +kernel) (Nat.le_of_ble_eq_true rfl) ?_
  intro v (F : vv_F v l cX14_rots 3 RX14 "rots" (some .int) [] (rm 1 22) Kf (cWd D K fv A) A _)
  show v (n, δ, ν) 0 0 0 [(0, .ref (δ (200 + s))), (1, .int a), (2, .int so)] []
  refine v_bipush (x := 50) F dX14_rots_0 rfl (by decide) ?_
  refine v_aload_n F 0 dX14_rots_2 rfl rfl rfl ?_
  refine v_iload_n F 1 dX14_rots_3 rfl rfl rfl ?_
  refine v_iload_n F 2 dX14_rots_4 rfl rfl rfl ?_
  refine c_scalli F G hlv hkk (cc_X9_rots G n δ ν s a so hlv hkk) ok_X9_rots q348 q335 q356 q337 q232 (by decide) rfl rfl dX14_rots_5 rfl rfl ?_
  intro u0 hu0; subst u0
  refine s_calli F G.1 (cg_J7_max G.1 (n, δ, ν) 50 a ) ok_J7_max q349 q322 rfl rfl dX14_rots_8 rfl rfl ?_
  intro u0 hu0; subst u0
  exact v_reti F dX14_rots_11 rfl (by first | rfl | grind [bI]) (rfl)
set_option maxHeartbeats 4000000 in
theorem cd_X14_rots {l : Launch} {Kf : State → Prop} {D : va_G} {K : Nat → ClassId} {fv : List Value × (Nat → Nat)} {A : Nat → Prop} (G : cG A fv cIm Kf D K)  (n : mS) (δ : Nat → Nat) (ν : Nat → Option (Mg × Nat)) (s : Nat) (a : Int32) (so : Int32) (hlv : cLv n s) (hkk : tn (n 11 s) ≤ 5) : vv_Ct l yX14_rots (ws_ yX14_rots cX14_rots 3 (some .int)) (rm 2 60) Kf (cWd D K fv A) A [.ref (δ (200 + s)), .int a, .int so] (n, δ, ν) (vv_i (if a ≤ 50 then 50 else a) (fun u => u = (n, δ, ν))) := by
  refine vv_of (by decide +kernel) (Nat.le_of_ble_eq_true rfl) ?_
  intro v (F : vv_F v l cX14_rots 3 RX14 "rots" (some .int) [] (rm 2 60) Kf (cWd D K fv A) A _)
  show v (n, δ, ν) 0 0 0 [(0, .ref (δ (200 + s))), (1, .int a), (2, .int so)] []
  refine v_bipush (x := 50) F dX14_rots_0 rfl (by decide) ?_
  refine v_aload_n F 0 dX14_rots_2 rfl rfl rfl ?_
  refine v_iload_n F 1 dX14_rots_3 rfl rfl rfl ?_
  refine v_iload_n F 2 dX14_rots_4 rfl rfl rfl ?_
  refine c_scalli F G hlv hkk (cc_X9_rots G n δ ν s a so hlv hkk) ok_X9_rots q348 q335 q356 q337 q232 (by decide) rfl rfl dX14_rots_5 rfl rfl ?_
  intro u0 hu0; subst u0
  refine s_calli F G.1 (cg_J7_max G.1 (n, δ, ν) 50 a ) ok_J7_max q349 q322 rfl rfl dX14_rots_8 rfl rfl ?_
  intro u0 hu0; subst u0
  exact v_reti F dX14_rots_11 rfl (by first | rfl | grind [bI]) (rfl)
theorem ok_X14_grows : vv_oc yX14_grows 4 3 (ws_ yX14_grows cX14_grows 4 (some .int)) := vv_ok.oc (rt := (some .int)) ⟨q380, q139, by decide +kernel, by decide +kernel⟩
set_option maxHeartbeats 4000000 in
theorem cc_X14_grows {l : Launch} {Kf : State → Prop} {D : va_G} {K : Nat → ClassId} {fv : List Value × (Nat → Nat)} {A : Nat → Prop} (G : cG A fv cIm Kf D K)  (n : mS) (δ : Nat → Nat) (ν : Nat → Option (Mg × Nat)) (s : Nat) (a : Int32) (so : Int32) (y : Int32) (hlv : cLv n s) (hkk : tn (n 11 s) ≤ 5) : vv_Ct l yX14_grows (ws_ yX14_grows cX14_grows 4 (some .int)) (rm 0 0) Kf (cWd D K fv A) A [.ref (δ (200 + s)), .int a, .int so, .int y] (n, δ, ν) (vv_i a (fun u => u = (n, δ, ν))) := by
  refine vv_of (by decide +kernel) (Nat.le_of_ble_eq_true rfl) ?_
  intro v (F : vv_F v l cX14_grows 4 RX14 "grows" (some .int) [] (rm 0 0) Kf (cWd D K fv A) A _)
  show v (n, δ, ν) 0 0 0 [(0, .ref (δ (200 + s))), (1, .int a), (2, .int so), (3, .int y)] []
  refine v_iload_n F 1 dX14_grows_0 rfl rfl rfl ?_
  exact v_reti F dX14_grows_1 rfl (by first | rfl | grind [bI]) (rfl)
set_option maxHeartbeats 4000000 in
theorem cd_X14_grows {l : Launch} {Kf : State → Prop} {D : va_G} {K : Nat → ClassId} {fv : List Value × (Nat → Nat)} {A : Nat → Prop} (G : cG A fv cIm Kf D K)  (n : mS) (δ : Nat → Nat) (ν : Nat → Option (Mg × Nat)) (s : Nat) (a : Int32) (so : Int32) (y : Int32) (hlv : cLv n s) (hkk : tn (n 11 s) ≤ 5) : vv_Ct l yX14_grows (ws_ yX14_grows cX14_grows 4 (some .int)) (rm 2 60) Kf (cWd D K fv A) A [.ref (δ (200 + s)), .int a, .int so, .int y] (n, δ, ν) (vv_i a (fun u => u = (n, δ, ν))) := by
  refine vv_of (by decide +kernel) (Nat.le_of_ble_eq_true rfl) ?_
  intro v (F : vv_F v l cX14_grows 4 RX14 "grows" (some .int) [] (rm 2 60) Kf (cWd D K fv A) A _)
  show v (n, δ, ν) 0 0 0 [(0, .ref (δ (200 + s))), (1, .int a), (2, .int so), (3, .int y)] []
  refine v_iload_n F 1 dX14_grows_0 rfl rfl rfl ?_
  exact v_reti F dX14_grows_1 rfl (by first | rfl | grind [bI]) (rfl)
