set_option maxRecDepth 100000
/-- what <init> lays into the bulb at hand -/
def hi8 (n : mS) (x y : Int32) : mS := up (up (up n 68 26 1) 68 24 x) 68 25 y
theorem hi8_hb8 {n : mS} {k : Nat} {x y : Int32} : hi8 (hb8 n k 0 0 0) x y = hb8 n k x y 1 := by
  funext a b
  unfold hi8 hb8
  by_cases h1 : a = 68 ∧ b = 25
  · obtain ⟨rfl, rfl⟩ := h1; rw [up_eq, up_ne (by omega), up_eq]
  rw [up_ne h1]
  by_cases h2 : a = 68 ∧ b = 24
  · obtain ⟨rfl, rfl⟩ := h2; rw [up_eq, up_ne (by omega), up_ne (by omega), up_eq]
  rw [up_ne h2]
  by_cases h3 : a = 68 ∧ b = 26
  · obtain ⟨rfl, rfl⟩ := h3; rw [up_eq, up_eq]
  rw [up_ne h3, up_ne h3, up_ne h1, up_ne h2, up_ne h3, up_ne h1, up_ne h2]
theorem com_st {n : mS} {k : Nat} {x y z : Int32} : cab (up (up (up (stN (hb8 n k x y z) 8 (tn (n 0 13))) 0 60 1) 0 13 (nI (tn (n 0 13) + 1))) 0 60 0) = comS (cab n) (nI k) x y z := by
  rw [cab_us rfl, cab_u rfl, cab_us rfl]
  unfold stN
  rw [cab_us rfl, cab_u rfl, cab_u rfl, cab_u rfl, cab_u rfl, cab_us rfl, hb8_cab]
  rfl
theorem ok_X9_init : vv_oc yX9_init 3 2 (ws_ yX9_init cX9_init 3 none) := vv_ok.oc (rt := none) ⟨q169, q134, by decide +kernel, by decide +kernel⟩
set_option maxHeartbeats 4000000 in
theorem cc_X9_init {l : Launch} {Kf : State → Prop} {D : va_G} {K : Nat → ClassId} {fv : List Value × (Nat → Nat)} {A : Nat → Prop} (G : cG A fv cIm Kf D K)  (n : mS) (δ : Nat → Nat) (ν : Nat → Option (Mg × Nat)) (x : Int32) (y : Int32) (h56 : n 56 8 = 1) (hk : tn (n 67 8) ≤ 5) : vv_Ct l yX9_init (ws_ yX9_init cX9_init 3 none) (rm 1 20) Kf (cWd D K fv A) A [.ref (δ (200 + 8)), .int x, .int y] (n, δ, ν) (vv_n (fun u => u = (hi8 n x y, δ, ν))) := by
  refine vv_of (by decide +kernel) (Nat.le_of_ble_eq_true rfl) ?_
  intro v (F : vv_F v l cX9_init 3 RX9 "<init>" none [] (rm 1 20) Kf (cWd D K fv A) A _)
  show v (n, δ, ν) 0 0 0 [(0, .ref (δ (200 + 8))), (1, .int x), (2, .int y)] []
  refine v_aload_n F 0 dX9_init_0 rfl rfl rfl ?_
  refine v_objInit F q170 dX9_init_1 rfl (Nat.le_of_ble_eq_true rfl) (Nat.le_of_ble_eq_true rfl) (Nat.le_of_ble_eq_true rfl) ?_
  refine v_aload_n F 0 dX9_init_4 rfl rfl rfl ?_
  refine v_iconst (x := 1) F dX9_init_5 rfl (by decide) ?_
  refine c_hput F G 8 2 (by decide) (h56) (hk) (by decide) q183 (refO_9 2) rfl (by decide +kernel) dX9_init_6 rfl ?_
  refine v_aload_n F 0 dX9_init_9 rfl rfl rfl ?_
  refine v_iload_n F 1 dX9_init_10 rfl rfl rfl ?_
  refine c_hput F G 8 0 (by decide) (h56) (hk) (by decide) q173 (refO_9 0) rfl (by decide +kernel) dX9_init_11 rfl ?_
  refine v_aload_n F 0 dX9_init_14 rfl rfl rfl ?_
  refine v_iload_n F 2 dX9_init_15 rfl rfl rfl ?_
  refine c_hput F G 8 1 (by decide) (h56) (hk) (by decide) q180 (refO_9 1) rfl (by decide +kernel) dX9_init_16 rfl ?_
  exact v_retn F dX9_init_19 rfl (rfl)
theorem ok_X10_init : vv_oc yX10_init 3 2 (ws_ yX10_init cX10_init 3 none) := vv_ok.oc (rt := none) ⟨q166, q135, by decide +kernel, by decide +kernel⟩
set_option maxHeartbeats 4000000 in
theorem cc_X10_init {l : Launch} {Kf : State → Prop} {D : va_G} {K : Nat → ClassId} {fv : List Value × (Nat → Nat)} {A : Nat → Prop} (G : cG A fv cIm Kf D K)  (n : mS) (δ : Nat → Nat) (ν : Nat → Option (Mg × Nat)) (x : Int32) (y : Int32) (h56 : n 56 8 = 1) (hk : tn (n 67 8) ≤ 5) : vv_Ct l yX10_init (ws_ yX10_init cX10_init 3 none) (rm 2 42) Kf (cWd D K fv A) A [.ref (δ (200 + 8)), .int x, .int y] (n, δ, ν) (vv_n (fun u => u = (hi8 n x y, δ, ν))) := by
  refine vv_of (by decide +kernel) (Nat.le_of_ble_eq_true rfl) ?_
  intro v (F : vv_F v l cX10_init 3 RX10 "<init>" none [] (rm 2 42) Kf (cWd D K fv A) A _)
  show v (n, δ, ν) 0 0 0 [(0, .ref (δ (200 + 8))), (1, .int x), (2, .int y)] []
  refine v_aload_n F 0 dX10_init_0 rfl rfl rfl ?_
  refine v_iload_n F 1 dX10_init_1 rfl rfl rfl ?_
  refine v_iload_n F 2 dX10_init_2 rfl rfl rfl ?_
  refine c_hinit F G (cc_X9_init G n δ ν x y (h56) (hk)) ok_X9_init q167 q168 q169 rfl rfl rfl dX10_init_3 rfl rfl ?_
  intro u0 hu0; subst u0
  exact v_retn F dX10_init_6 rfl (rfl)
theorem ok_X11_init : vv_oc yX11_init 3 2 (ws_ yX11_init cX11_init 3 none) := vv_ok.oc (rt := none) ⟨q197, q136, by decide +kernel, by decide +kernel⟩
set_option maxHeartbeats 4000000 in
theorem cc_X11_init {l : Launch} {Kf : State → Prop} {D : va_G} {K : Nat → ClassId} {fv : List Value × (Nat → Nat)} {A : Nat → Prop} (G : cG A fv cIm Kf D K)  (n : mS) (δ : Nat → Nat) (ν : Nat → Option (Mg × Nat)) (x : Int32) (y : Int32) (h56 : n 56 8 = 1) (hk : tn (n 67 8) ≤ 5) : vv_Ct l yX11_init (ws_ yX11_init cX11_init 3 none) (rm 2 42) Kf (cWd D K fv A) A [.ref (δ (200 + 8)), .int x, .int y] (n, δ, ν) (vv_n (fun u => u = (hi8 n x y, δ, ν))) := by
  refine vv_of (by decide +kernel) (Nat.le_of_ble_eq_true rfl) ?_
  intro v (F : vv_F v l cX11_init 3 RX11 "<init>" none [] (rm 2 42) Kf (cWd D K fv A) A _)
  show v (n, δ, ν) 0 0 0 [(0, .ref (δ (200 + 8))), (1, .int x), (2, .int y)] []
  refine v_aload_n F 0 dX11_init_0 rfl rfl rfl ?_
  refine v_iload_n F 1 dX11_init_1 rfl rfl rfl ?_
  refine v_iload_n F 2 dX11_init_2 rfl rfl rfl ?_
  refine c_hinit F G (cc_X9_init G n δ ν x y (h56) (hk)) ok_X9_init q198 q168 q169 rfl rfl rfl dX11_init_3 rfl rfl ?_
  intro u0 hu0; subst u0
  exact v_retn F dX11_init_6 rfl (rfl)
theorem ok_X12_init : vv_oc yX12_init 3 2 (ws_ yX12_init cX12_init 3 none) := vv_ok.oc (rt := none) ⟨q207, q137, by decide +kernel, by decide +kernel⟩
set_option maxHeartbeats 4000000 in
theorem cc_X12_init {l : Launch} {Kf : State → Prop} {D : va_G} {K : Nat → ClassId} {fv : List Value × (Nat → Nat)} {A : Nat → Prop} (G : cG A fv cIm Kf D K)  (n : mS) (δ : Nat → Nat) (ν : Nat → Option (Mg × Nat)) (x : Int32) (y : Int32) (h56 : n 56 8 = 1) (hk : tn (n 67 8) ≤ 5) : vv_Ct l yX12_init (ws_ yX12_init cX12_init 3 none) (rm 3 64) Kf (cWd D K fv A) A [.ref (δ (200 + 8)), .int x, .int y] (n, δ, ν) (vv_n (fun u => u = (hi8 n x y, δ, ν))) := by
  refine vv_of (by decide +kernel) (Nat.le_of_ble_eq_true rfl) ?_
  intro v (F : vv_F v l cX12_init 3 RX12 "<init>" none [] (rm 3 64) Kf (cWd D K fv A) A _)
  show v (n, δ, ν) 0 0 0 [(0, .ref (δ (200 + 8))), (1, .int x), (2, .int y)] []
  refine v_aload_n F 0 dX12_init_0 rfl rfl rfl ?_
  refine v_iload_n F 1 dX12_init_1 rfl rfl rfl ?_
  refine v_iload_n F 2 dX12_init_2 rfl rfl rfl ?_
  refine c_hinit F G (cc_X10_init G n δ ν x y (h56) (hk)) ok_X10_init q208 q165 q166 rfl rfl rfl dX12_init_3 rfl rfl ?_
  intro u0 hu0; subst u0
  exact v_retn F dX12_init_6 rfl (rfl)
theorem ok_X13_init : vv_oc yX13_init 3 2 (ws_ yX13_init cX13_init 3 none) := vv_ok.oc (rt := none) ⟨q217, q138, by decide +kernel, by decide +kernel⟩
set_option maxHeartbeats 4000000 in
theorem cc_X13_init {l : Launch} {Kf : State → Prop} {D : va_G} {K : Nat → ClassId} {fv : List Value × (Nat → Nat)} {A : Nat → Prop} (G : cG A fv cIm Kf D K)  (n : mS) (δ : Nat → Nat) (ν : Nat → Option (Mg × Nat)) (x : Int32) (y : Int32) (h56 : n 56 8 = 1) (hk : tn (n 67 8) ≤ 5) : vv_Ct l yX13_init (ws_ yX13_init cX13_init 3 none) (rm 3 64) Kf (cWd D K fv A) A [.ref (δ (200 + 8)), .int x, .int y] (n, δ, ν) (vv_n (fun u => u = (hi8 n x y, δ, ν))) := by
  refine vv_of (by decide +kernel) (Nat.le_of_ble_eq_true rfl) ?_
  intro v (F : vv_F v l cX13_init 3 RX13 "<init>" none [] (rm 3 64) Kf (cWd D K fv A) A _)
  show v (n, δ, ν) 0 0 0 [(0, .ref (δ (200 + 8))), (1, .int x), (2, .int y)] []
  refine v_aload_n F 0 dX13_init_0 rfl rfl rfl ?_
  refine v_iload_n F 1 dX13_init_1 rfl rfl rfl ?_
  refine v_iload_n F 2 dX13_init_2 rfl rfl rfl ?_
  refine c_hinit F G (cc_X11_init G n δ ν x y (h56) (hk)) ok_X11_init q218 q196 q197 rfl rfl rfl dX13_init_3 rfl rfl ?_
  intro u0 hu0; subst u0
  exact v_retn F dX13_init_6 rfl (rfl)
theorem ok_X14_init : vv_oc yX14_init 3 2 (ws_ yX14_init cX14_init 3 none) := vv_ok.oc (rt := none) ⟨q227, q139, by decide +kernel, by decide +kernel⟩
set_option maxHeartbeats 4000000 in
theorem cc_X14_init {l : Launch} {Kf : State → Prop} {D : va_G} {K : Nat → ClassId} {fv : List Value × (Nat → Nat)} {A : Nat → Prop} (G : cG A fv cIm Kf D K)  (n : mS) (δ : Nat → Nat) (ν : Nat → Option (Mg × Nat)) (x : Int32) (y : Int32) (h56 : n 56 8 = 1) (hk : tn (n 67 8) ≤ 5) : vv_Ct l yX14_init (ws_ yX14_init cX14_init 3 none) (rm 2 42) Kf (cWd D K fv A) A [.ref (δ (200 + 8)), .int x, .int y] (n, δ, ν) (vv_n (fun u => u = (hi8 n x y, δ, ν))) := by
  refine vv_of (by decide +kernel) (Nat.le_of_ble_eq_true rfl) ?_
  intro v (F : vv_F v l cX14_init 3 RX14 "<init>" none [] (rm 2 42) Kf (cWd D K fv A) A _)
  show v (n, δ, ν) 0 0 0 [(0, .ref (δ (200 + 8))), (1, .int x), (2, .int y)] []
  refine v_aload_n F 0 dX14_init_0 rfl rfl rfl ?_
  refine v_iload_n F 1 dX14_init_1 rfl rfl rfl ?_
  refine v_iload_n F 2 dX14_init_2 rfl rfl rfl ?_
  refine c_hinit F G (cc_X9_init G n δ ν x y (h56) (hk)) ok_X9_init q228 q168 q169 rfl rfl rfl dX14_init_3 rfl rfl ?_
  intro u0 hu0; subst u0
  exact v_retn F dX14_init_6 rfl (rfl)
theorem ok_X0_made : vv_oc yX0_made 3 3 (ws_ yX0_made cX0_made 3 (some (.object "BulbInAStaff$Bulb"))) := vv_ok.oc (rt := (some (.object "BulbInAStaff$Bulb"))) ⟨q161, q116, by decide +kernel, by decide +kernel⟩
set_option maxHeartbeats 4000000 in
theorem cc_X0_made {l : Launch} {Kf : State → Prop} {D : va_G} {K : Nat → ClassId} {fv : List Value × (Nat → Nat)} {A : Nat → Prop} (G : cG A fv cIm Kf D K)  (n : mS) (δ : Nat → Nat) (ν : Nat → Option (Mg × Nat)) (k : Nat) (x : Int32) (y : Int32) (hk5 : k ≤ 5) : vv_Ct l yX0_made (ws_ yX0_made cX0_made 3 (some (.object "BulbInAStaff$Bulb"))) (rmc 4 1 3 86) Kf (cWd D K fv A) A [.int (nI k), .int x, .int y] (n, δ, ν) (vv_r (fun a u => ∃ δ2 : Nat → Nat, u = (hb8 n k x y 1, δ2, ν) ∧ a = δ2 (200 + 8) ∧ oth 208 δ δ2)) := by
  refine vv_of (by decide +kernel) (Nat.le_of_ble_eq_true rfl) ?_
  intro v (F : vv_F v l cX0_made 3 RX0 "made" (some (.object "BulbInAStaff$Bulb")) [] (rmc 4 1 3 86) Kf (cWd D K fv A) A _)
  show v (n, δ, ν) 1 3 0 [(0, .int (nI k)), (1, .int x), (2, .int y)] []
  refine v_iload_n F 0 dX0_made_0 rfl rfl rfl ?_
  by_cases k1 : k = 1
  · skip
    refine v_int F (y := 1) (by rw [k1]; rfl) ?_
    refine v_tableIn (x := 1) (tgt := 36) F dX0_made_1 (by decide) (by decide) (off := 35) rfl rfl ?_
    refine c_newb F G 1 (by decide) q162 q163 q135 dX0_made_36 rfl rfl rfl ?_
    intro d2 hd2
    refine v_dup F dX0_made_39 rfl rfl ?_
    refine v_iload_n F 1 dX0_made_40 rfl rfl rfl ?_
    refine v_iload_n F 2 dX0_made_41 rfl rfl rfl ?_
    refine c_hinit F G (cc_X10_init G (hb8 n 1 0 0 0) d2 ν x y (rfl) (show tn (nI 1) ≤ 5 by decide)) ok_X10_init q164 q165 q166 rfl rfl rfl dX0_made_42 rfl rfl ?_
    intro u0 hu0; subst u0
    exact v_retr F dX0_made_45 rfl ⟨d2, by rw [hi8_hb8, k1], rfl, hd2⟩
  by_cases k3 : k = 2
  · skip
    refine v_int F (y := 2) (by rw [k3]; rfl) ?_
    refine v_tableIn (x := 2) (tgt := 46) F dX0_made_1 (by decide) (by decide) (off := 45) rfl rfl ?_
    refine c_newb F G 2 (by decide) q193 q194 q136 dX0_made_46 rfl rfl rfl ?_
    intro d4 hd4
    refine v_dup F dX0_made_49 rfl rfl ?_
    refine v_iload_n F 1 dX0_made_50 rfl rfl rfl ?_
    refine v_iload_n F 2 dX0_made_51 rfl rfl rfl ?_
    refine c_hinit F G (cc_X11_init G (hb8 n 2 0 0 0) d4 ν x y (rfl) (show tn (nI 2) ≤ 5 by decide)) ok_X11_init q195 q196 q197 rfl rfl rfl dX0_made_52 rfl rfl ?_
    intro u0 hu0; subst u0
    exact v_retr F dX0_made_55 rfl ⟨d4, by rw [hi8_hb8, k3], rfl, hd4⟩
  by_cases k5 : k = 3
  · skip
    refine v_int F (y := 3) (by rw [k5]; rfl) ?_
    refine v_tableIn (x := 3) (tgt := 56) F dX0_made_1 (by decide) (by decide) (off := 55) rfl rfl ?_
    refine c_newb F G 3 (by decide) q203 q204 q137 dX0_made_56 rfl rfl rfl ?_
    intro d6 hd6
    refine v_dup F dX0_made_59 rfl rfl ?_
    refine v_iload_n F 1 dX0_made_60 rfl rfl rfl ?_
    refine v_iload_n F 2 dX0_made_61 rfl rfl rfl ?_
    refine c_hinit F G (cc_X12_init G (hb8 n 3 0 0 0) d6 ν x y (rfl) (show tn (nI 3) ≤ 5 by decide)) ok_X12_init q205 q206 q207 rfl rfl rfl dX0_made_62 rfl rfl ?_
    intro u0 hu0; subst u0
    exact v_retr F dX0_made_65 rfl ⟨d6, by rw [hi8_hb8, k5], rfl, hd6⟩
  by_cases k7 : k = 4
  · skip
    refine v_int F (y := 4) (by rw [k7]; rfl) ?_
    refine v_tableIn (x := 4) (tgt := 66) F dX0_made_1 (by decide) (by decide) (off := 65) rfl rfl ?_
    refine c_newb F G 4 (by decide) q213 q214 q138 dX0_made_66 rfl rfl rfl ?_
    intro d8 hd8
    refine v_dup F dX0_made_69 rfl rfl ?_
    refine v_iload_n F 1 dX0_made_70 rfl rfl rfl ?_
    refine v_iload_n F 2 dX0_made_71 rfl rfl rfl ?_
    refine c_hinit F G (cc_X13_init G (hb8 n 4 0 0 0) d8 ν x y (rfl) (show tn (nI 4) ≤ 5 by decide)) ok_X13_init q215 q216 q217 rfl rfl rfl dX0_made_72 rfl rfl ?_
    intro u0 hu0; subst u0
    exact v_retr F dX0_made_75 rfl ⟨d8, by rw [hi8_hb8, k7], rfl, hd8⟩
  by_cases k9 : k = 5
  · skip
    refine v_int F (y := 5) (by rw [k9]; rfl) ?_
    refine v_tableIn (x := 5) (tgt := 76) F dX0_made_1 (by decide) (by decide) (off := 75) rfl rfl ?_
    refine c_newb F G 5 (by decide) q223 q224 q139 dX0_made_76 rfl rfl rfl ?_
    intro d10 hd10
    refine v_dup F dX0_made_79 rfl rfl ?_
    refine v_iload_n F 1 dX0_made_80 rfl rfl rfl ?_
    refine v_iload_n F 2 dX0_made_81 rfl rfl rfl ?_
    refine c_hinit F G (cc_X14_init G (hb8 n 5 0 0 0) d10 ν x y (rfl) (show tn (nI 5) ≤ 5 by decide)) ok_X14_init q225 q226 q227 rfl rfl rfl dX0_made_82 rfl rfl ?_
    intro u0 hu0; subst u0
    exact v_retr F dX0_made_85 rfl ⟨d10, by rw [hi8_hb8, k9], rfl, hd10⟩
  have tout1 : (nI k).toInt < 1 ∨ 5 < (nI k).toInt := by rw [nI_toInt (by omega)]; omega
  refine v_tableOut (tgt := 86) F dX0_made_1 tout1 rfl ?_
  refine c_newb F G 0 (by decide) q233 q234 q134 dX0_made_86 rfl rfl rfl ?_
  intro d11 hd11
  refine v_dup F dX0_made_89 rfl rfl ?_
  refine v_iload_n F 1 dX0_made_90 rfl rfl rfl ?_
  refine v_iload_n F 2 dX0_made_91 rfl rfl rfl ?_
  refine c_hinit F G (cc_X9_init G (hb8 n 0 0 0 0) d11 ν x y (rfl) (show tn (nI 0) ≤ 5 by decide)) ok_X9_init q235 q168 q169 rfl rfl rfl dX0_made_92 rfl rfl ?_
  intro u0 hu0; subst u0
  exact v_retr F dX0_made_95 rfl ⟨d11, by rw [hi8_hb8, (show k = 0 by omega)], rfl, hd11⟩
theorem ok_X0_plant : vv_oc yX0_plant 4 3 (ws_ yX0_plant cX0_plant 4 (some .int)) := vv_ok.oc (rt := (some .int)) ⟨q149, q116, by decide +kernel, by decide +kernel⟩
theorem is_X0_plant : Cond.instanceMethod yX0_plant ∈ lw_all ∧ Cond.selects RX0 yX0_plant yX0_plant ∈ lw_all := ⟨q147, q148⟩
set_option maxHeartbeats 4000000 in
theorem cc_X0_plant {l : Launch} {Kf : State → Prop} {D : va_G} {K : Nat → ClassId} {fv : List Value × (Nat → Nat)} {A : Nat → Prop} (G : cG A fv cIm Kf D K)  (n : mS) (δ : Nat → Nat) (ν : Nat → Option (Mg × Nat)) (k : Int32) (x : Int32) (y : Int32) (hM : n 0 13 = nI (tn (n 0 13))) (h8 : tn (n 0 13) ≤ 8) : vv_Ct l yX0_plant (ws_ yX0_plant cX0_plant 4 (some .int)) (rmc 5 1 3 108) Kf (cWd D K fv A) A [.ref (δ 0), .int k, .int x, .int y] (n, δ, ν) (vv_i (plaR (cab n) k x y) (fun u => ∃ (t : mS) (δ2 : Nat → Nat), u = (t, δ2, ν) ∧ cab t = plaS (cab n) k x y ∧ δ2 0 = δ 0)) := by
  refine vv_of (by decide +kernel) (Nat.le_of_ble_eq_true rfl) ?_
  intro v (F : vv_F v l cX0_plant 4 RX0 "plant" (some .int) [] (rmc 5 1 3 108) Kf (cWd D K fv A) A _)
  show v (n, δ, ν) 1 3 0 [(0, .ref (δ 0)), (1, .int k), (2, .int x), (3, .int y)] []
  refine v_iload_n F 1 dX0_plant_0 rfl rfl rfl ?_
  refine v_i2l F dX0_plant_1 rfl ?_
  refine v_lconst (x := (0 : Int32).toInt64) F dX0_plant_2 rfl (by decide) ?_
  refine v_ldc2 F q150 dX0_plant_3 rfl ?_
  refine v_lng (y := (5 : Int32).toInt64) F (by decide) ?_
  refine s_calli F G.1 (cg_X0_in G.1 (n, δ, ν) k 0 5 ) ok_X0_in q151 q152 rfl rfl dX0_plant_6 rfl rfl ?_
  intro u0 hu0; subst u0
  refine v_if_eqB (p := (0 ≤ k ∧ k ≤ 5)) (tgt := 31) (q := 12) F dX0_plant_9 rfl rfl (fun c1 => ?_) (fun c1 => ?_)
  · skip
    refine v_bipush (x := (-2)) F dX0_plant_31 rfl (by decide) ?_
    exact v_reti F dX0_plant_33 rfl (by unfold plaR; rw [if_pos (show ¬ plOK k x y from (fun h => c1 h.1))]) (⟨_, δ, rfl, by unfold plaS; rw [if_pos (show ¬ plOK k x y from (fun h => c1 h.1))], rfl⟩)
  · skip
    refine v_iload_n F 2 dX0_plant_12 rfl rfl rfl ?_
    refine v_i2l F dX0_plant_13 rfl ?_
    refine v_lconst (x := (0 : Int32).toInt64) F dX0_plant_14 rfl (by decide) ?_
    refine v_ldc2 F q154 dX0_plant_15 rfl ?_
    refine v_lng (y := (9 : Int32).toInt64) F (by decide) ?_
    refine s_calli F G.1 (cg_X0_in G.1 (n, δ, ν) x 0 9 ) ok_X0_in q151 q152 rfl rfl dX0_plant_18 rfl rfl ?_
    intro u0 hu0; subst u0
    refine v_if_eqB (p := (0 ≤ x ∧ x ≤ 9)) (tgt := 31) (q := 24) F dX0_plant_21 rfl rfl (fun c2 => ?_) (fun c2 => ?_)
    · skip
      refine v_bipush (x := (-2)) F dX0_plant_31 rfl (by decide) ?_
      exact v_reti F dX0_plant_33 rfl (by unfold plaR; rw [if_pos (show ¬ plOK k x y from (fun h => c2 h.2.1))]) (⟨_, δ, rfl, by unfold plaS; rw [if_pos (show ¬ plOK k x y from (fun h => c2 h.2.1))], rfl⟩)
    · skip
      refine v_iload_n F 3 dX0_plant_24 rfl rfl rfl ?_
      refine s_calli F G.1 (cg_X0_isGarden G.1 (n, δ, ν) y ) ok_X0_isGarden q155 q156 rfl rfl dX0_plant_25 rfl rfl ?_
      intro u0 hu0; subst u0
      refine v_if_neB (p := (0 ≤ y ∧ y ≤ 7)) (tgt := 34) (q := 31) F dX0_plant_28 rfl rfl (fun c3 => ?_) (fun c3 => ?_)
      · skip
        refine v_aload_n F 0 dX0_plant_34 rfl rfl rfl ?_
        refine c_get F G 1 (w := .int (n 0 13)) (by decide) q798 rfl dX0_plant_35 rfl ?_
        refine v_bipush (x := 8) F dX0_plant_38 rfl (by decide) ?_
        refine v_icmp_ne (tgt := 46) (q := 43) F dX0_plant_40 rfl rfl (fun c4 => ?_) (fun c4 => ?_)
        · skip
          obtain ⟨k9, hk9, hkk⟩ := in_of (M := 5) (n := 5) (by decide) c1
          have hM8 : tn (n 0 13) < 8 := plt8 hM h8 c4
          refine v_aload_n F 0 dX0_plant_46 rfl rfl rfl ?_
          refine c_get F G 0 (w := .ref (δ 1)) (by decide) q797 rfl dX0_plant_47 rfl ?_
          refine v_aload_n F 0 dX0_plant_50 rfl rfl rfl ?_
          refine c_get F G 1 (w := .int (n 0 13)) (by decide) q798 rfl dX0_plant_51 rfl ?_
          refine v_int F (y := nI (tn (n 0 13))) hM ?_
          refine v_iload_n F 1 dX0_plant_54 rfl rfl rfl ?_
          refine v_int F (hkk) ?_
          refine v_iload_n F 2 dX0_plant_55 rfl rfl rfl ?_
          refine v_iload_n F 3 dX0_plant_56 rfl rfl rfl ?_
          refine s_callA (bc' := 0) (bs' := 0) F G.1 (cc_X0_made G n δ ν k9 x y (by omega)) ok_X0_made q159 q160 rfl rfl dX0_plant_57 rfl rfl (rfl) (rfl) ?_
          rintro _ _ ⟨_, rfl, d5, rfl, rfl, hd5⟩
          rw [show δ 1 = d5 1 from (hd5 1 (by omega)).symm, show δ 0 = d5 0 from (hd5 0 (by omega)).symm]
          refine c_store (m := tn (n 0 13)) F G rfl (by omega) rfl (show tn (nI k9) ≤ 5 by rw [tn_nI (by omega)]; omega) dX0_plant_60 rfl ?_
          intro d6 hd6 hd6m
          rw [show d5 0 = d6 0 from (hd6 0 (by omega)).symm]
          refine v_aload_n F 0 dX0_plant_61 rfl rfl rfl ?_
          refine v_dup F dX0_plant_62 rfl rfl ?_
          refine c_get F G 1 (w := .int ((up (stN (hb8 n k9 x y 1) 8 (tn (n 0 13))) 0 60 1) 0 13)) (by decide) q798 rfl dX0_plant_63 rfl ?_
          refine v_int F (y := nI (tn (n 0 13))) hM ?_
          refine v_iconst (x := 1) F dX0_plant_66 rfl (by decide) ?_
          refine v_iaddN (a := tn (n 0 13)) (b := 1) F dX0_plant_67 rfl ?_
          refine c_putM F G (by show tn (nI (tn (n 0 13) + 1)) ≤ tn (n 0 13) + 1; rw [tn_nI (by omega)]; exact Nat.le_refl _) q798 dX0_plant_68 rfl ?_
          refine v_aload_n F 0 dX0_plant_71 rfl rfl rfl ?_
          refine c_get F G 1 (w := .int (nI ((tn (n 0 13)) + 1))) (by decide) q798 rfl dX0_plant_72 rfl ?_
          refine v_int F (y := nI (tn (n 0 13) + 1)) rfl ?_
          refine v_iconst (x := 1) F dX0_plant_75 rfl (by decide) ?_
          refine v_isubN (a := tn (n 0 13) + 1) (b := 1) F dX0_plant_76 rfl (by omega) ?_
          exact v_reti F dX0_plant_77 rfl (by unfold plaR; rw [if_neg (show ¬ ¬ plOK k x y from fun h => h ⟨c1, c2, c3⟩)]; rw [if_neg (show ¬ cab n 0 13 = 8 from c4)]; exact hM.symm) (⟨_, _, rfl, by unfold plaS; rw [if_neg (show ¬ ¬ plOK k x y from fun h => h ⟨c1, c2, c3⟩)]; rw [if_neg (show ¬ cab n 0 13 = 8 from c4)]; rw [com_st, hkk], (hd6 0 (by omega)).trans (hd5 0 (by omega))⟩)
        · skip
          refine v_bipush (x := (-4)) F dX0_plant_43 rfl (by decide) ?_
          exact v_reti F dX0_plant_45 rfl (by unfold plaR; rw [if_neg (show ¬ ¬ plOK k x y from fun h => h ⟨c1, c2, c3⟩)]; rw [if_pos (show cab n 0 13 = 8 from c4)]) (⟨_, δ, rfl, by unfold plaS; rw [if_neg (show ¬ ¬ plOK k x y from fun h => h ⟨c1, c2, c3⟩)]; rw [if_pos (show cab n 0 13 = 8 from c4)], rfl⟩)
      · skip
        refine v_bipush (x := (-2)) F dX0_plant_31 rfl (by decide) ?_
        exact v_reti F dX0_plant_33 rfl (by unfold plaR; rw [if_pos (show ¬ plOK k x y from (fun h => c3 h.2.2))]) (⟨_, δ, rfl, by unfold plaS; rw [if_pos (show ¬ plOK k x y from (fun h => c3 h.2.2))], rfl⟩)
