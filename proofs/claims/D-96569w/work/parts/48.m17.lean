set_option maxRecDepth 100000
/-! the reference is made -/
def txt0 : List Int32 := [114, 111, 116, 115, 32, 50, 48, 32, 59, 32, 112, 97, 121, 115, 32, 57, 32, 59, 32, 102, 105, 110, 100, 115, 32, 103, 117, 97, 114, 100, 115, 32, 59, 32, 32, 32, 32, 32, 32, 32]
def m0 : mS := fun k j => if k = 0 then (if j = 3 then 1 else if j = 8 then 3 else if j = 33 then -1 else 0) else if k = 1 then txt0.getD j 0 else if k = 2 then (if j = 0 then 40 else 0) else if k = 10 then (if j < 8 then 5 else 0) else 0
def m00 : mS := up (up (fun _ _ => 0) 0 8 3) 0 33 (-1)
def i0J (s : mS) (k : Nat) : Prop := ∀ a j, s a j = if a = 10 ∧ j < k then 5 else m00 a j
theorem i0_0 : i0J m00 0 := fun a j => by rw [if_neg (by omega)]
theorem i0_s {s : mS} {k : Nat} (h : i0J s k) : i0J (up s 10 k 5) (k + 1) := by
  intro a j
  by_cases c : a = 10 ∧ j = k
  · obtain ⟨rfl, rfl⟩ := c
    rw [up_eq, if_pos (by omega)]
  · rw [up_ne c, h]
    by_cases e : a = 10 ∧ j < k
    · rw [if_pos e, if_pos (by omega)]
    · rw [if_neg e, if_neg (by omega)]
set_option maxHeartbeats 4000000 in
theorem i0_end {s : mS} {k : Nat} (h : i0J s k) (hk : k = 8) : up (up (up (up (up (up (up (up (up (up (up (up (up (up (up (up (up (up (up (up (up (up (up (up (up (up (up (up (up (up (up (up (up (up (up (up (up (up (up (up (up (up (s) 1 0 114) 1 1 111) 1 2 116) 1 3 115) 1 4 32) 1 5 50) 1 6 48) 1 7 32) 1 8 59) 1 9 32) 1 10 112) 1 11 97) 1 12 121) 1 13 115) 1 14 32) 1 15 57) 1 16 32) 1 17 59) 1 18 32) 1 19 102) 1 20 105) 1 21 110) 1 22 100) 1 23 115) 1 24 32) 1 25 103) 1 26 117) 1 27 97) 1 28 114) 1 29 100) 1 30 115) 1 31 32) 1 32 59) 1 33 32) 1 34 32) 1 35 32) 1 36 32) 1 37 32) 1 38 32) 1 39 32) 2 0 40) 0 3 1 = m0 := by
  subst hk
  funext a j
  by_cases c : a = 1
  · subst c
    by_cases hj : j < 40
    · rcases (show j = 0 ∨ j = 1 ∨ j = 2 ∨ j = 3 ∨ j = 4 ∨ j = 5 ∨ j = 6 ∨ j = 7 ∨ j = 8 ∨ j = 9 ∨ j = 10 ∨ j = 11 ∨ j = 12 ∨ j = 13 ∨ j = 14 ∨ j = 15 ∨ j = 16 ∨ j = 17 ∨ j = 18 ∨ j = 19 ∨ j = 20 ∨ j = 21 ∨ j = 22 ∨ j = 23 ∨ j = 24 ∨ j = 25 ∨ j = 26 ∨ j = 27 ∨ j = 28 ∨ j = 29 ∨ j = 30 ∨ j = 31 ∨ j = 32 ∨ j = 33 ∨ j = 34 ∨ j = 35 ∨ j = 36 ∨ j = 37 ∨ j = 38 ∨ j = 39 by omega) with rfl | rfl | rfl | rfl | rfl | rfl | rfl | rfl | rfl | rfl | rfl | rfl | rfl | rfl | rfl | rfl | rfl | rfl | rfl | rfl | rfl | rfl | rfl | rfl | rfl | rfl | rfl | rfl | rfl | rfl | rfl | rfl | rfl | rfl | rfl | rfl | rfl | rfl | rfl | rfl <;> rfl
    · rw [up_ne (by omega), up_ne (by omega), up_ne (by omega), up_ne (by omega), up_ne (by omega), up_ne (by omega), up_ne (by omega), up_ne (by omega), up_ne (by omega), up_ne (by omega), up_ne (by omega), up_ne (by omega), up_ne (by omega), up_ne (by omega), up_ne (by omega), up_ne (by omega), up_ne (by omega), up_ne (by omega), up_ne (by omega), up_ne (by omega), up_ne (by omega), up_ne (by omega), up_ne (by omega), up_ne (by omega), up_ne (by omega), up_ne (by omega), up_ne (by omega), up_ne (by omega), up_ne (by omega), up_ne (by omega), up_ne (by omega), up_ne (by omega), up_ne (by omega), up_ne (by omega), up_ne (by omega), up_ne (by omega), up_ne (by omega), up_ne (by omega), up_ne (by omega), up_ne (by omega), up_ne (by omega), up_ne (by omega), h, if_neg (by omega)]
      show (0 : Int32) = txt0.getD j 0
      rw [List.getD_eq_getElem?_getD, List.getElem?_eq_none (by show 40 ≤ j; omega)]; rfl
  · by_cases c0 : a = 0 ∧ j = 3
    · obtain ⟨rfl, rfl⟩ := c0; rfl
    · by_cases c2 : a = 2 ∧ j = 0
      · obtain ⟨rfl, rfl⟩ := c2; rfl
      · rw [up_ne (by omega), up_ne (by omega), up_ne (by omega), up_ne (by omega), up_ne (by omega), up_ne (by omega), up_ne (by omega), up_ne (by omega), up_ne (by omega), up_ne (by omega), up_ne (by omega), up_ne (by omega), up_ne (by omega), up_ne (by omega), up_ne (by omega), up_ne (by omega), up_ne (by omega), up_ne (by omega), up_ne (by omega), up_ne (by omega), up_ne (by omega), up_ne (by omega), up_ne (by omega), up_ne (by omega), up_ne (by omega), up_ne (by omega), up_ne (by omega), up_ne (by omega), up_ne (by omega), up_ne (by omega), up_ne (by omega), up_ne (by omega), up_ne (by omega), up_ne (by omega), up_ne (by omega), up_ne (by omega), up_ne (by omega), up_ne (by omega), up_ne (by omega), up_ne (by omega), up_ne (by omega), up_ne (by omega), h]
        unfold m00 m0 up
        by_cases e0 : a = 0
        · subst e0
          rw [if_neg (by omega)]
          have hj : ¬ j = 3 := fun x => c0 ⟨rfl, x⟩
          by_cases e8 : j = 8
          · subst e8; rfl
          · by_cases e33 : j = 33
            · subst e33; rfl
            · simp [hj, e8, e33]
        · by_cases e10 : a = 10
          · subst e10
            by_cases hj : j < 8
            · simp [hj]
            · simp [hj]
          · have e2 : a = 2 → ¬ j = 0 := fun x y => c2 ⟨x, y⟩
            by_cases e22 : a = 2
            · subst e22; simp [e2 rfl]
            · simp [e0, e10, c, e22]
theorem ok_X8_init : vv_oc yX8_init 2 0 (ws_ yX8_init cX8_init 2 none) := vv_ok.oc (rt := none) ⟨q1248, q133, by decide +kernel, by decide +kernel⟩
set_option maxHeartbeats 8000000 in
def x8def : List Value := [.int 0, .null, .null, .int 0, .int 0, .null, .int 0, .int 0, .int 0, .int 0, .null, .null, .null, .int 0, .int 0, .int 0, .int 0, .int 0, .int 0, .int 0, .int 0, .int 0, .int 0, .int 0, .int 0, .long 0, .int 0, .int 0, .int 0, .null, .int 0, .null, .null, .int 0, .int 0, .int 0, .int 0, .int 0, .null, .null, .null, .null]
set_option maxHeartbeats 8000000 in
theorem cm_X8_init {l : Launch} {Kf : State → Prop} {D : va_G} {cI cZ : ClassId} {A : Nat → Prop} (G : mG A Kf D cI cZ) (b : Nat) : vv_Ct l yX8_init (ws_ yX8_init cX8_init 2 none) (rmc 1 13 1394 29) Kf (lWd D A) A [.ref b] [(b, .inr (6, x8def))] (vv_n (fun u => ∃ ad : Nat → Nat, u = mW ad cI cZ m0 ∧ b = ad 0)) := by
  refine vv_of (by decide +kernel) (Nat.le_of_ble_eq_true rfl) ?_
  intro v (F : vv_F v l cX8_init 2 RX8 "<init>" none [] (rmc 1 13 1394 29) Kf (lWd D A) A _)
  show v [(b, .inr (6, x8def))] 13 1394 0 [(0, .ref b)] []
  refine v_aload_n F 0 dX8_init_0 rfl rfl rfl ?_
  refine v_objInit F q1249 dX8_init_1 rfl (Nat.le_of_ble_eq_true rfl) (Nat.le_of_ble_eq_true rfl) (Nat.le_of_ble_eq_true rfl) ?_
  refine v_aload_n F 0 dX8_init_4 rfl rfl rfl ?_
  refine v_sipush (x := 960) F dX8_init_5 rfl (by decide) ?_
  refine l_newa (atype := .int) (N := 960) (a0 := (960, .inl (fun _ => 0))) (bc' := 12) (bs' := 434) F G.2 0 rfl rfl (fun _ _ => rfl) q761 (fun _ => rfl) (by decide) (by decide) (by decide) dX8_init_8 rfl rfl rfl (fun a1 => ?_)
  refine l_putF F G.2 in_X8 tyX8 tyX8_ok nmX8 (ci := 6) rfl 0 rfl 1 (by decide) rfl q1254 rfl rfl (ty := .array .int) (by decide +kernel) rfl rfl rfl dX8_init_10 rfl ?_
  show v [(b, .inr (6, [.int 0, .ref a1, .null, .int 0, .int 0, .null, .int 0, .int 0, .int 0, .int 0, .null, .null, .null, .int 0, .int 0, .int 0, .int 0, .int 0, .int 0, .int 0, .int 0, .int 0, .int 0, .int 0, .int 0, .long 0, .int 0, .int 0, .int 0, .null, .int 0, .null, .null, .int 0, .int 0, .int 0, .int 0, .int 0, .null, .null, .null, .null])), (a1, .inl (cI, 960, .inl (fun _ => 0)))] 12 434 13 [(0, .ref b)] []
  refine v_aload_n F 0 dX8_init_13 rfl rfl rfl ?_
  refine v_bipush (x := 6) F dX8_init_14 rfl (by decide) ?_
  refine l_newa (atype := .int) (N := 6) (a0 := (6, .inl (fun _ => 0))) (bc' := 11) (bs' := 428) F G.2 0 rfl rfl (fun _ _ => rfl) q761 (fun _ => rfl) (by decide) (by decide) (by decide) dX8_init_16 rfl rfl rfl (fun a2 => ?_)
  refine l_putF F G.2 in_X8 tyX8 tyX8_ok nmX8 (ci := 6) rfl 0 rfl 2 (by decide) rfl q1255 rfl rfl (ty := .array .int) (by decide +kernel) rfl rfl rfl dX8_init_18 rfl ?_
  show v [(b, .inr (6, [.int 0, .ref a1, .ref a2, .int 0, .int 0, .null, .int 0, .int 0, .int 0, .int 0, .null, .null, .null, .int 0, .int 0, .int 0, .int 0, .int 0, .int 0, .int 0, .int 0, .int 0, .int 0, .int 0, .int 0, .long 0, .int 0, .int 0, .int 0, .null, .int 0, .null, .null, .int 0, .int 0, .int 0, .int 0, .int 0, .null, .null, .null, .null])), (a1, .inl (cI, 960, .inl (fun _ => 0))), (a2, .inl (cI, 6, .inl (fun _ => 0)))] 11 428 21 [(0, .ref b)] []
  refine v_aload_n F 0 dX8_init_21 rfl rfl rfl ?_
  refine v_sipush (x := 160) F dX8_init_22 rfl (by decide) ?_
  refine l_newa (atype := .int) (N := 160) (a0 := (160, .inl (fun _ => 0))) (bc' := 10) (bs' := 268) F G.2 0 rfl rfl (fun _ _ => rfl) q761 (fun _ => rfl) (by decide) (by decide) (by decide) dX8_init_25 rfl rfl rfl (fun a3 => ?_)
  refine l_putF F G.2 in_X8 tyX8 tyX8_ok nmX8 (ci := 6) rfl 0 rfl 5 (by decide) rfl q1258 rfl rfl (ty := .array .int) (by decide +kernel) rfl rfl rfl dX8_init_27 rfl ?_
  show v [(b, .inr (6, [.int 0, .ref a1, .ref a2, .int 0, .int 0, .ref a3, .int 0, .int 0, .int 0, .int 0, .null, .null, .null, .int 0, .int 0, .int 0, .int 0, .int 0, .int 0, .int 0, .int 0, .int 0, .int 0, .int 0, .int 0, .long 0, .int 0, .int 0, .int 0, .null, .int 0, .null, .null, .int 0, .int 0, .int 0, .int 0, .int 0, .null, .null, .null, .null])), (a1, .inl (cI, 960, .inl (fun _ => 0))), (a2, .inl (cI, 6, .inl (fun _ => 0))), (a3, .inl (cI, 160, .inl (fun _ => 0)))] 10 268 30 [(0, .ref b)] []
  refine v_aload_n F 0 dX8_init_30 rfl rfl rfl ?_
  refine v_iconst (x := 3) F dX8_init_31 rfl (by decide) ?_
  refine l_put F G.2 in_X8 tyX8 tyX8_ok nmX8 (ci := 6) rfl 0 rfl 8 (by decide) rfl q1261 rfl (ty := .int) (by decide +kernel) rfl rfl rfl dX8_init_32 rfl ?_
  show v [(b, .inr (6, [.int 0, .ref a1, .ref a2, .int 0, .int 0, .ref a3, .int 0, .int 0, .int 3, .int 0, .null, .null, .null, .int 0, .int 0, .int 0, .int 0, .int 0, .int 0, .int 0, .int 0, .int 0, .int 0, .int 0, .int 0, .long 0, .int 0, .int 0, .int 0, .null, .int 0, .null, .null, .int 0, .int 0, .int 0, .int 0, .int 0, .null, .null, .null, .null])), (a1, .inl (cI, 960, .inl (fun _ => 0))), (a2, .inl (cI, 6, .inl (fun _ => 0))), (a3, .inl (cI, 160, .inl (fun _ => 0)))] 10 268 35 [(0, .ref b)] []
  refine v_aload_n F 0 dX8_init_35 rfl rfl rfl ?_
  refine v_bipush (x := 8) F dX8_init_36 rfl (by decide) ?_
  refine l_newa (atype := .int) (N := 8) (a0 := (8, .inl (fun _ => 0))) (bc' := 9) (bs' := 260) F G.2 0 rfl rfl (fun _ _ => rfl) q761 (fun _ => rfl) (by decide) (by decide) (by decide) dX8_init_38 rfl rfl rfl (fun a4 => ?_)
  refine l_putF F G.2 in_X8 tyX8 tyX8_ok nmX8 (ci := 6) rfl 0 rfl 10 (by decide) rfl q1263 rfl rfl (ty := .array .int) (by decide +kernel) rfl rfl rfl dX8_init_40 rfl ?_
  show v [(b, .inr (6, [.int 0, .ref a1, .ref a2, .int 0, .int 0, .ref a3, .int 0, .int 0, .int 3, .int 0, .ref a4, .null, .null, .int 0, .int 0, .int 0, .int 0, .int 0, .int 0, .int 0, .int 0, .int 0, .int 0, .int 0, .int 0, .long 0, .int 0, .int 0, .int 0, .null, .int 0, .null, .null, .int 0, .int 0, .int 0, .int 0, .int 0, .null, .null, .null, .null])), (a1, .inl (cI, 960, .inl (fun _ => 0))), (a2, .inl (cI, 6, .inl (fun _ => 0))), (a3, .inl (cI, 160, .inl (fun _ => 0))), (a4, .inl (cI, 8, .inl (fun _ => 0)))] 9 260 43 [(0, .ref b)] []
  refine v_aload_n F 0 dX8_init_43 rfl rfl rfl ?_
  refine v_bipush (x := 8) F dX8_init_44 rfl (by decide) ?_
  refine l_newa (atype := .int) (N := 8) (a0 := (8, .inl (fun _ => 0))) (bc' := 8) (bs' := 252) F G.2 0 rfl rfl (fun _ _ => rfl) q761 (fun _ => rfl) (by decide) (by decide) (by decide) dX8_init_46 rfl rfl rfl (fun a5 => ?_)
  refine l_putF F G.2 in_X8 tyX8 tyX8_ok nmX8 (ci := 6) rfl 0 rfl 11 (by decide) rfl q1264 rfl rfl (ty := .array .int) (by decide +kernel) rfl rfl rfl dX8_init_48 rfl ?_
  show v [(b, .inr (6, [.int 0, .ref a1, .ref a2, .int 0, .int 0, .ref a3, .int 0, .int 0, .int 3, .int 0, .ref a4, .ref a5, .null, .int 0, .int 0, .int 0, .int 0, .int 0, .int 0, .int 0, .int 0, .int 0, .int 0, .int 0, .int 0, .long 0, .int 0, .int 0, .int 0, .null, .int 0, .null, .null, .int 0, .int 0, .int 0, .int 0, .int 0, .null, .null, .null, .null])), (a1, .inl (cI, 960, .inl (fun _ => 0))), (a2, .inl (cI, 6, .inl (fun _ => 0))), (a3, .inl (cI, 160, .inl (fun _ => 0))), (a4, .inl (cI, 8, .inl (fun _ => 0))), (a5, .inl (cI, 8, .inl (fun _ => 0)))] 8 252 51 [(0, .ref b)] []
  refine v_aload_n F 0 dX8_init_51 rfl rfl rfl ?_
  refine v_bipush (x := 24) F dX8_init_52 rfl (by decide) ?_
  refine l_newa (atype := .int) (N := 24) (a0 := (24, .inl (fun _ => 0))) (bc' := 7) (bs' := 228) F G.2 0 rfl rfl (fun _ _ => rfl) q761 (fun _ => rfl) (by decide) (by decide) (by decide) dX8_init_54 rfl rfl rfl (fun a6 => ?_)
  refine l_putF F G.2 in_X8 tyX8 tyX8_ok nmX8 (ci := 6) rfl 0 rfl 12 (by decide) rfl q1265 rfl rfl (ty := .array .int) (by decide +kernel) rfl rfl rfl dX8_init_56 rfl ?_
  show v [(b, .inr (6, [.int 0, .ref a1, .ref a2, .int 0, .int 0, .ref a3, .int 0, .int 0, .int 3, .int 0, .ref a4, .ref a5, .ref a6, .int 0, .int 0, .int 0, .int 0, .int 0, .int 0, .int 0, .int 0, .int 0, .int 0, .int 0, .int 0, .long 0, .int 0, .int 0, .int 0, .null, .int 0, .null, .null, .int 0, .int 0, .int 0, .int 0, .int 0, .null, .null, .null, .null])), (a1, .inl (cI, 960, .inl (fun _ => 0))), (a2, .inl (cI, 6, .inl (fun _ => 0))), (a3, .inl (cI, 160, .inl (fun _ => 0))), (a4, .inl (cI, 8, .inl (fun _ => 0))), (a5, .inl (cI, 8, .inl (fun _ => 0))), (a6, .inl (cI, 24, .inl (fun _ => 0)))] 7 228 59 [(0, .ref b)] []
  refine v_aload_n F 0 dX8_init_59 rfl rfl rfl ?_
  refine v_bipush (x := 24) F dX8_init_60 rfl (by decide) ?_
  refine l_newa (atype := .int) (N := 24) (a0 := (24, .inl (fun _ => 0))) (bc' := 6) (bs' := 204) F G.2 0 rfl rfl (fun _ _ => rfl) q761 (fun _ => rfl) (by decide) (by decide) (by decide) dX8_init_62 rfl rfl rfl (fun a7 => ?_)
  refine l_putF F G.2 in_X8 tyX8 tyX8_ok nmX8 (ci := 6) rfl 0 rfl 29 (by decide) rfl q1282 rfl rfl (ty := .array .int) (by decide +kernel) rfl rfl rfl dX8_init_64 rfl ?_
  show v [(b, .inr (6, [.int 0, .ref a1, .ref a2, .int 0, .int 0, .ref a3, .int 0, .int 0, .int 3, .int 0, .ref a4, .ref a5, .ref a6, .int 0, .int 0, .int 0, .int 0, .int 0, .int 0, .int 0, .int 0, .int 0, .int 0, .int 0, .int 0, .long 0, .int 0, .int 0, .int 0, .ref a7, .int 0, .null, .null, .int 0, .int 0, .int 0, .int 0, .int 0, .null, .null, .null, .null])), (a1, .inl (cI, 960, .inl (fun _ => 0))), (a2, .inl (cI, 6, .inl (fun _ => 0))), (a3, .inl (cI, 160, .inl (fun _ => 0))), (a4, .inl (cI, 8, .inl (fun _ => 0))), (a5, .inl (cI, 8, .inl (fun _ => 0))), (a6, .inl (cI, 24, .inl (fun _ => 0))), (a7, .inl (cI, 24, .inl (fun _ => 0)))] 6 204 67 [(0, .ref b)] []
  refine v_aload_n F 0 dX8_init_67 rfl rfl rfl ?_
  refine v_bipush (x := 8) F dX8_init_68 rfl (by decide) ?_
  refine l_newa (atype := .int) (N := 8) (a0 := (8, .inl (fun _ => 0))) (bc' := 5) (bs' := 196) F G.2 0 rfl rfl (fun _ _ => rfl) q761 (fun _ => rfl) (by decide) (by decide) (by decide) dX8_init_70 rfl rfl rfl (fun a8 => ?_)
  refine l_putF F G.2 in_X8 tyX8 tyX8_ok nmX8 (ci := 6) rfl 0 rfl 31 (by decide) rfl q1284 rfl rfl (ty := .array .int) (by decide +kernel) rfl rfl rfl dX8_init_72 rfl ?_
  show v [(b, .inr (6, [.int 0, .ref a1, .ref a2, .int 0, .int 0, .ref a3, .int 0, .int 0, .int 3, .int 0, .ref a4, .ref a5, .ref a6, .int 0, .int 0, .int 0, .int 0, .int 0, .int 0, .int 0, .int 0, .int 0, .int 0, .int 0, .int 0, .long 0, .int 0, .int 0, .int 0, .ref a7, .int 0, .ref a8, .null, .int 0, .int 0, .int 0, .int 0, .int 0, .null, .null, .null, .null])), (a1, .inl (cI, 960, .inl (fun _ => 0))), (a2, .inl (cI, 6, .inl (fun _ => 0))), (a3, .inl (cI, 160, .inl (fun _ => 0))), (a4, .inl (cI, 8, .inl (fun _ => 0))), (a5, .inl (cI, 8, .inl (fun _ => 0))), (a6, .inl (cI, 24, .inl (fun _ => 0))), (a7, .inl (cI, 24, .inl (fun _ => 0))), (a8, .inl (cI, 8, .inl (fun _ => 0)))] 5 196 75 [(0, .ref b)] []
  refine v_aload_n F 0 dX8_init_75 rfl rfl rfl ?_
  refine v_bipush (x := 24) F dX8_init_76 rfl (by decide) ?_
  refine l_newa (atype := .int) (N := 24) (a0 := (24, .inl (fun _ => 0))) (bc' := 4) (bs' := 172) F G.2 0 rfl rfl (fun _ _ => rfl) q761 (fun _ => rfl) (by decide) (by decide) (by decide) dX8_init_78 rfl rfl rfl (fun a9 => ?_)
  refine l_putF F G.2 in_X8 tyX8 tyX8_ok nmX8 (ci := 6) rfl 0 rfl 32 (by decide) rfl q1285 rfl rfl (ty := .array .int) (by decide +kernel) rfl rfl rfl dX8_init_80 rfl ?_
  show v [(b, .inr (6, [.int 0, .ref a1, .ref a2, .int 0, .int 0, .ref a3, .int 0, .int 0, .int 3, .int 0, .ref a4, .ref a5, .ref a6, .int 0, .int 0, .int 0, .int 0, .int 0, .int 0, .int 0, .int 0, .int 0, .int 0, .int 0, .int 0, .long 0, .int 0, .int 0, .int 0, .ref a7, .int 0, .ref a8, .ref a9, .int 0, .int 0, .int 0, .int 0, .int 0, .null, .null, .null, .null])), (a1, .inl (cI, 960, .inl (fun _ => 0))), (a2, .inl (cI, 6, .inl (fun _ => 0))), (a3, .inl (cI, 160, .inl (fun _ => 0))), (a4, .inl (cI, 8, .inl (fun _ => 0))), (a5, .inl (cI, 8, .inl (fun _ => 0))), (a6, .inl (cI, 24, .inl (fun _ => 0))), (a7, .inl (cI, 24, .inl (fun _ => 0))), (a8, .inl (cI, 8, .inl (fun _ => 0))), (a9, .inl (cI, 24, .inl (fun _ => 0)))] 4 172 83 [(0, .ref b)] []
  refine v_aload_n F 0 dX8_init_83 rfl rfl rfl ?_
  refine v_iconst (x := (-1)) F dX8_init_84 rfl (by decide) ?_
  refine l_put F G.2 in_X8 tyX8 tyX8_ok nmX8 (ci := 6) rfl 0 rfl 33 (by decide) rfl q1286 rfl (ty := .int) (by decide +kernel) rfl rfl rfl dX8_init_85 rfl ?_
  show v [(b, .inr (6, [.int 0, .ref a1, .ref a2, .int 0, .int 0, .ref a3, .int 0, .int 0, .int 3, .int 0, .ref a4, .ref a5, .ref a6, .int 0, .int 0, .int 0, .int 0, .int 0, .int 0, .int 0, .int 0, .int 0, .int 0, .int 0, .int 0, .long 0, .int 0, .int 0, .int 0, .ref a7, .int 0, .ref a8, .ref a9, .int (-1), .int 0, .int 0, .int 0, .int 0, .null, .null, .null, .null])), (a1, .inl (cI, 960, .inl (fun _ => 0))), (a2, .inl (cI, 6, .inl (fun _ => 0))), (a3, .inl (cI, 160, .inl (fun _ => 0))), (a4, .inl (cI, 8, .inl (fun _ => 0))), (a5, .inl (cI, 8, .inl (fun _ => 0))), (a6, .inl (cI, 24, .inl (fun _ => 0))), (a7, .inl (cI, 24, .inl (fun _ => 0))), (a8, .inl (cI, 8, .inl (fun _ => 0))), (a9, .inl (cI, 24, .inl (fun _ => 0)))] 4 172 88 [(0, .ref b)] []
  refine v_aload_n F 0 dX8_init_88 rfl rfl rfl ?_
  refine v_iconst (x := 4) F dX8_init_89 rfl (by decide) ?_
  refine l_newa (atype := .boolean) (N := 4) (a0 := (4, .inl (fun _ => 0))) (bc' := 3) (bs' := 168) F G.2 1 rfl rfl (fun _ _ => rfl) q1380 (fun _ => rfl) (by decide) (by decide) (by decide) dX8_init_90 rfl rfl rfl (fun a10 => ?_)
  refine l_putF F G.2 in_X8 tyX8 tyX8_ok nmX8 (ci := 6) rfl 0 rfl 38 (by decide) rfl q1291 rfl rfl (ty := .array .boolean) (by decide +kernel) rfl rfl rfl dX8_init_92 rfl ?_
  show v [(b, .inr (6, [.int 0, .ref a1, .ref a2, .int 0, .int 0, .ref a3, .int 0, .int 0, .int 3, .int 0, .ref a4, .ref a5, .ref a6, .int 0, .int 0, .int 0, .int 0, .int 0, .int 0, .int 0, .int 0, .int 0, .int 0, .int 0, .int 0, .long 0, .int 0, .int 0, .int 0, .ref a7, .int 0, .ref a8, .ref a9, .int (-1), .int 0, .int 0, .int 0, .int 0, .ref a10, .null, .null, .null])), (a1, .inl (cI, 960, .inl (fun _ => 0))), (a2, .inl (cI, 6, .inl (fun _ => 0))), (a3, .inl (cI, 160, .inl (fun _ => 0))), (a4, .inl (cI, 8, .inl (fun _ => 0))), (a5, .inl (cI, 8, .inl (fun _ => 0))), (a6, .inl (cI, 24, .inl (fun _ => 0))), (a7, .inl (cI, 24, .inl (fun _ => 0))), (a8, .inl (cI, 8, .inl (fun _ => 0))), (a9, .inl (cI, 24, .inl (fun _ => 0))), (a10, .inl (cZ, 4, .inl (fun _ => 0)))] 3 168 95 [(0, .ref b)] []
  refine v_aload_n F 0 dX8_init_95 rfl rfl rfl ?_
  refine v_iconst (x := 4) F dX8_init_96 rfl (by decide) ?_
  refine l_newa (atype := .int) (N := 4) (a0 := (4, .inl (fun _ => 0))) (bc' := 2) (bs' := 164) F G.2 0 rfl rfl (fun _ _ => rfl) q761 (fun _ => rfl) (by decide) (by decide) (by decide) dX8_init_97 rfl rfl rfl (fun a11 => ?_)
  refine l_putF F G.2 in_X8 tyX8 tyX8_ok nmX8 (ci := 6) rfl 0 rfl 39 (by decide) rfl q1292 rfl rfl (ty := .array .int) (by decide +kernel) rfl rfl rfl dX8_init_99 rfl ?_
  show v [(b, .inr (6, [.int 0, .ref a1, .ref a2, .int 0, .int 0, .ref a3, .int 0, .int 0, .int 3, .int 0, .ref a4, .ref a5, .ref a6, .int 0, .int 0, .int 0, .int 0, .int 0, .int 0, .int 0, .int 0, .int 0, .int 0, .int 0, .int 0, .long 0, .int 0, .int 0, .int 0, .ref a7, .int 0, .ref a8, .ref a9, .int (-1), .int 0, .int 0, .int 0, .int 0, .ref a10, .ref a11, .null, .null])), (a1, .inl (cI, 960, .inl (fun _ => 0))), (a2, .inl (cI, 6, .inl (fun _ => 0))), (a3, .inl (cI, 160, .inl (fun _ => 0))), (a4, .inl (cI, 8, .inl (fun _ => 0))), (a5, .inl (cI, 8, .inl (fun _ => 0))), (a6, .inl (cI, 24, .inl (fun _ => 0))), (a7, .inl (cI, 24, .inl (fun _ => 0))), (a8, .inl (cI, 8, .inl (fun _ => 0))), (a9, .inl (cI, 24, .inl (fun _ => 0))), (a10, .inl (cZ, 4, .inl (fun _ => 0))), (a11, .inl (cI, 4, .inl (fun _ => 0)))] 2 164 102 [(0, .ref b)] []
  refine v_aload_n F 0 dX8_init_102 rfl rfl rfl ?_
  refine v_iconst (x := 4) F dX8_init_103 rfl (by decide) ?_
  refine l_newa (atype := .int) (N := 4) (a0 := (4, .inl (fun _ => 0))) (bc' := 1) (bs' := 160) F G.2 0 rfl rfl (fun _ _ => rfl) q761 (fun _ => rfl) (by decide) (by decide) (by decide) dX8_init_104 rfl rfl rfl (fun a12 => ?_)
  refine l_putF F G.2 in_X8 tyX8 tyX8_ok nmX8 (ci := 6) rfl 0 rfl 40 (by decide) rfl q1293 rfl rfl (ty := .array .int) (by decide +kernel) rfl rfl rfl dX8_init_106 rfl ?_
  show v [(b, .inr (6, [.int 0, .ref a1, .ref a2, .int 0, .int 0, .ref a3, .int 0, .int 0, .int 3, .int 0, .ref a4, .ref a5, .ref a6, .int 0, .int 0, .int 0, .int 0, .int 0, .int 0, .int 0, .int 0, .int 0, .int 0, .int 0, .int 0, .long 0, .int 0, .int 0, .int 0, .ref a7, .int 0, .ref a8, .ref a9, .int (-1), .int 0, .int 0, .int 0, .int 0, .ref a10, .ref a11, .ref a12, .null])), (a1, .inl (cI, 960, .inl (fun _ => 0))), (a2, .inl (cI, 6, .inl (fun _ => 0))), (a3, .inl (cI, 160, .inl (fun _ => 0))), (a4, .inl (cI, 8, .inl (fun _ => 0))), (a5, .inl (cI, 8, .inl (fun _ => 0))), (a6, .inl (cI, 24, .inl (fun _ => 0))), (a7, .inl (cI, 24, .inl (fun _ => 0))), (a8, .inl (cI, 8, .inl (fun _ => 0))), (a9, .inl (cI, 24, .inl (fun _ => 0))), (a10, .inl (cZ, 4, .inl (fun _ => 0))), (a11, .inl (cI, 4, .inl (fun _ => 0))), (a12, .inl (cI, 4, .inl (fun _ => 0)))] 1 160 109 [(0, .ref b)] []
  refine v_aload_n F 0 dX8_init_109 rfl rfl rfl ?_
  refine v_sipush (x := 160) F dX8_init_110 rfl (by decide) ?_
  refine l_newa (atype := .int) (N := 160) (a0 := (160, .inl (fun _ => 0))) (bc' := 0) (bs' := 0) F G.2 0 rfl rfl (fun _ _ => rfl) q761 (fun _ => rfl) (by decide) (by decide) (by decide) dX8_init_113 rfl rfl rfl (fun a13 => ?_)
  refine l_putF F G.2 in_X8 tyX8 tyX8_ok nmX8 (ci := 6) rfl 0 rfl 41 (by decide) rfl q1294 rfl rfl (ty := .array .int) (by decide +kernel) rfl rfl rfl dX8_init_115 rfl ?_
  show v [(b, .inr (6, [.int 0, .ref a1, .ref a2, .int 0, .int 0, .ref a3, .int 0, .int 0, .int 3, .int 0, .ref a4, .ref a5, .ref a6, .int 0, .int 0, .int 0, .int 0, .int 0, .int 0, .int 0, .int 0, .int 0, .int 0, .int 0, .int 0, .long 0, .int 0, .int 0, .int 0, .ref a7, .int 0, .ref a8, .ref a9, .int (-1), .int 0, .int 0, .int 0, .int 0, .ref a10, .ref a11, .ref a12, .ref a13])), (a1, .inl (cI, 960, .inl (fun _ => 0))), (a2, .inl (cI, 6, .inl (fun _ => 0))), (a3, .inl (cI, 160, .inl (fun _ => 0))), (a4, .inl (cI, 8, .inl (fun _ => 0))), (a5, .inl (cI, 8, .inl (fun _ => 0))), (a6, .inl (cI, 24, .inl (fun _ => 0))), (a7, .inl (cI, 24, .inl (fun _ => 0))), (a8, .inl (cI, 8, .inl (fun _ => 0))), (a9, .inl (cI, 24, .inl (fun _ => 0))), (a10, .inl (cZ, 4, .inl (fun _ => 0))), (a11, .inl (cI, 4, .inl (fun _ => 0))), (a12, .inl (cI, 4, .inl (fun _ => 0))), (a13, .inl (cI, 160, .inl (fun _ => 0)))] 0 0 118 [(0, .ref b)] []
  obtain ⟨ad, rfl, rfl, rfl, rfl, rfl, rfl, rfl, rfl, rfl, rfl, rfl, rfl, rfl, rfl⟩ : ∃ ad : Nat → Nat, b = ad 0 ∧ a1 = ad 1 ∧ a2 = ad 2 ∧ a3 = ad 5 ∧ a4 = ad 10 ∧ a5 = ad 11 ∧ a6 = ad 12 ∧ a7 = ad 29 ∧ a8 = ad 31 ∧ a9 = ad 32 ∧ a10 = ad 38 ∧ a11 = ad 39 ∧ a12 = ad 40 ∧ a13 = ad 41 := ⟨fun k => match k with | 0 => b | 1 => a1 | 2 => a2 | 5 => a3 | 10 => a4 | 11 => a5 | 12 => a6 | 29 => a7 | 31 => a8 | 32 => a9 | 38 => a10 | 39 => a11 | 40 => a12 | 41 => a13 | _ => 0, rfl, rfl, rfl, rfl, rfl, rfl, rfl, rfl, rfl, rfl, rfl, rfl, rfl, rfl⟩
  refine v_conv (mW ad cI cZ) (σ' := m00) F (fun _ h => h) (fun _ _ h => h) ?_
  intro v (F : vv_F v l cX8_init 2 RX8 "<init>" none [] (rmc 1 13 1394 29) Kf (mWd D ad cI cZ A) A (vv_n (fun u => ∃ ad' : Nat → Nat, mW ad cI cZ u = mW ad' cI cZ m0 ∧ ad 0 = ad' 0)))
  refine v_iconst (x := 0) F dX8_init_118 rfl (by decide) ?_
  refine v_istore_n (ls' := [(1, .int 0), (0, .ref (ad 0))]) F dX8_init_119 rfl rfl (by decide) rfl ?_
  have L120 : ∀ (nf : Nat) (s : mS) (k : Nat) (hk : k ≤ 8) (hs : i0J s k) (hnf : 8 - k < nf), v s 0 0 120 [(0, .ref (ad 0)), (1, .int (nI k))] [] := by
    intro nf
    induction nf with
    | zero => intro s k hk hs hnf; exact absurd hnf (Nat.not_lt_zero _)
    | succ nf ih120 =>
      intro s k hk hs hnf
      refine v_iload_n F 1 dX8_init_120 rfl rfl rfl ?_
      refine v_bipush (x := 8) F dX8_init_121 rfl (by decide) ?_
      refine v_icmp_geN (a := k) (b := 8) (tgt := 139) (q := 126) F dX8_init_123 rfl rfl (by omega) (by omega) (fun c1 => ?_) (fun c1 => ?_)
      · skip
        refine v_aload_n F 0 dX8_init_139 rfl rfl rfl ?_
        refine v_iconst (x := 0) F dX8_init_140 rfl (by decide) ?_
        refine v_bipush (x := 114) F dX8_init_141 rfl (by decide) ?_
        refine v_bipush (x := 111) F dX8_init_143 rfl (by decide) ?_
        refine v_bipush (x := 116) F dX8_init_145 rfl (by decide) ?_
        refine v_bipush (x := 115) F dX8_init_147 rfl (by decide) ?_
        refine v_bipush (x := 32) F dX8_init_149 rfl (by decide) ?_
        refine v_bipush (x := 50) F dX8_init_151 rfl (by decide) ?_
        refine v_bipush (x := 48) F dX8_init_153 rfl (by decide) ?_
        refine v_bipush (x := 32) F dX8_init_155 rfl (by decide) ?_
        refine m_calln F G (cm_X8_spell G s 0 114 111 116 115 32 50 48 32 (by decide)) ok_X8_spell q1250 is_X8_spell rfl rfl dX8_init_157 rfl rfl ?_
        intro u0 hu0; subst u0
        show v (up (up (up (up (up (up (up (up s 1 0 114) 1 1 111) 1 2 116) 1 3 115) 1 4 32) 1 5 50) 1 6 48) 1 7 32) 0 0 160 [(0, .ref (ad 0)), (1, .int (nI k))] []
        refine v_aload_n F 0 dX8_init_160 rfl rfl rfl ?_
        refine v_bipush (x := 8) F dX8_init_161 rfl (by decide) ?_
        refine v_bipush (x := 59) F dX8_init_163 rfl (by decide) ?_
        refine v_bipush (x := 32) F dX8_init_165 rfl (by decide) ?_
        refine v_bipush (x := 112) F dX8_init_167 rfl (by decide) ?_
        refine v_bipush (x := 97) F dX8_init_169 rfl (by decide) ?_
        refine v_bipush (x := 121) F dX8_init_171 rfl (by decide) ?_
        refine v_bipush (x := 115) F dX8_init_173 rfl (by decide) ?_
        refine v_bipush (x := 32) F dX8_init_175 rfl (by decide) ?_
        refine v_bipush (x := 57) F dX8_init_177 rfl (by decide) ?_
        refine m_calln F G (cm_X8_spell G (up (up (up (up (up (up (up (up s 1 0 114) 1 1 111) 1 2 116) 1 3 115) 1 4 32) 1 5 50) 1 6 48) 1 7 32) 8 59 32 112 97 121 115 32 57 (by decide)) ok_X8_spell q1250 is_X8_spell rfl rfl dX8_init_179 rfl rfl ?_
        intro u0 hu0; subst u0
        show v (up (up (up (up (up (up (up (up (up (up (up (up (up (up (up (up s 1 0 114) 1 1 111) 1 2 116) 1 3 115) 1 4 32) 1 5 50) 1 6 48) 1 7 32) 1 8 59) 1 9 32) 1 10 112) 1 11 97) 1 12 121) 1 13 115) 1 14 32) 1 15 57) 0 0 182 [(0, .ref (ad 0)), (1, .int (nI k))] []
        refine v_aload_n F 0 dX8_init_182 rfl rfl rfl ?_
        refine v_bipush (x := 16) F dX8_init_183 rfl (by decide) ?_
        refine v_bipush (x := 32) F dX8_init_185 rfl (by decide) ?_
        refine v_bipush (x := 59) F dX8_init_187 rfl (by decide) ?_
        refine v_bipush (x := 32) F dX8_init_189 rfl (by decide) ?_
        refine v_bipush (x := 102) F dX8_init_191 rfl (by decide) ?_
        refine v_bipush (x := 105) F dX8_init_193 rfl (by decide) ?_
        refine v_bipush (x := 110) F dX8_init_195 rfl (by decide) ?_
        refine v_bipush (x := 100) F dX8_init_197 rfl (by decide) ?_
        refine v_bipush (x := 115) F dX8_init_199 rfl (by decide) ?_
        refine m_calln F G (cm_X8_spell G (up (up (up (up (up (up (up (up (up (up (up (up (up (up (up (up s 1 0 114) 1 1 111) 1 2 116) 1 3 115) 1 4 32) 1 5 50) 1 6 48) 1 7 32) 1 8 59) 1 9 32) 1 10 112) 1 11 97) 1 12 121) 1 13 115) 1 14 32) 1 15 57) 16 32 59 32 102 105 110 100 115 (by decide)) ok_X8_spell q1250 is_X8_spell rfl rfl dX8_init_201 rfl rfl ?_
        intro u0 hu0; subst u0
        show v (up (up (up (up (up (up (up (up (up (up (up (up (up (up (up (up (up (up (up (up (up (up (up (up s 1 0 114) 1 1 111) 1 2 116) 1 3 115) 1 4 32) 1 5 50) 1 6 48) 1 7 32) 1 8 59) 1 9 32) 1 10 112) 1 11 97) 1 12 121) 1 13 115) 1 14 32) 1 15 57) 1 16 32) 1 17 59) 1 18 32) 1 19 102) 1 20 105) 1 21 110) 1 22 100) 1 23 115) 0 0 204 [(0, .ref (ad 0)), (1, .int (nI k))] []
        refine v_aload_n F 0 dX8_init_204 rfl rfl rfl ?_
        refine v_bipush (x := 24) F dX8_init_205 rfl (by decide) ?_
        refine v_bipush (x := 32) F dX8_init_207 rfl (by decide) ?_
        refine v_bipush (x := 103) F dX8_init_209 rfl (by decide) ?_
        refine v_bipush (x := 117) F dX8_init_211 rfl (by decide) ?_
        refine v_bipush (x := 97) F dX8_init_213 rfl (by decide) ?_
        refine v_bipush (x := 114) F dX8_init_215 rfl (by decide) ?_
        refine v_bipush (x := 100) F dX8_init_217 rfl (by decide) ?_
        refine v_bipush (x := 115) F dX8_init_219 rfl (by decide) ?_
        refine v_bipush (x := 32) F dX8_init_221 rfl (by decide) ?_
        refine m_calln F G (cm_X8_spell G (up (up (up (up (up (up (up (up (up (up (up (up (up (up (up (up (up (up (up (up (up (up (up (up s 1 0 114) 1 1 111) 1 2 116) 1 3 115) 1 4 32) 1 5 50) 1 6 48) 1 7 32) 1 8 59) 1 9 32) 1 10 112) 1 11 97) 1 12 121) 1 13 115) 1 14 32) 1 15 57) 1 16 32) 1 17 59) 1 18 32) 1 19 102) 1 20 105) 1 21 110) 1 22 100) 1 23 115) 24 32 103 117 97 114 100 115 32 (by decide)) ok_X8_spell q1250 is_X8_spell rfl rfl dX8_init_223 rfl rfl ?_
        intro u0 hu0; subst u0
        show v (up (up (up (up (up (up (up (up (up (up (up (up (up (up (up (up (up (up (up (up (up (up (up (up (up (up (up (up (up (up (up (up s 1 0 114) 1 1 111) 1 2 116) 1 3 115) 1 4 32) 1 5 50) 1 6 48) 1 7 32) 1 8 59) 1 9 32) 1 10 112) 1 11 97) 1 12 121) 1 13 115) 1 14 32) 1 15 57) 1 16 32) 1 17 59) 1 18 32) 1 19 102) 1 20 105) 1 21 110) 1 22 100) 1 23 115) 1 24 32) 1 25 103) 1 26 117) 1 27 97) 1 28 114) 1 29 100) 1 30 115) 1 31 32) 0 0 226 [(0, .ref (ad 0)), (1, .int (nI k))] []
        refine v_aload_n F 0 dX8_init_226 rfl rfl rfl ?_
        refine v_bipush (x := 32) F dX8_init_227 rfl (by decide) ?_
        refine v_bipush (x := 59) F dX8_init_229 rfl (by decide) ?_
        refine v_bipush (x := 32) F dX8_init_231 rfl (by decide) ?_
        refine v_bipush (x := 32) F dX8_init_233 rfl (by decide) ?_
        refine v_bipush (x := 32) F dX8_init_235 rfl (by decide) ?_
        refine v_bipush (x := 32) F dX8_init_237 rfl (by decide) ?_
        refine v_bipush (x := 32) F dX8_init_239 rfl (by decide) ?_
        refine v_bipush (x := 32) F dX8_init_241 rfl (by decide) ?_
        refine v_bipush (x := 32) F dX8_init_243 rfl (by decide) ?_
        refine m_calln F G (cm_X8_spell G (up (up (up (up (up (up (up (up (up (up (up (up (up (up (up (up (up (up (up (up (up (up (up (up (up (up (up (up (up (up (up (up s 1 0 114) 1 1 111) 1 2 116) 1 3 115) 1 4 32) 1 5 50) 1 6 48) 1 7 32) 1 8 59) 1 9 32) 1 10 112) 1 11 97) 1 12 121) 1 13 115) 1 14 32) 1 15 57) 1 16 32) 1 17 59) 1 18 32) 1 19 102) 1 20 105) 1 21 110) 1 22 100) 1 23 115) 1 24 32) 1 25 103) 1 26 117) 1 27 97) 1 28 114) 1 29 100) 1 30 115) 1 31 32) 32 59 32 32 32 32 32 32 32 (by decide)) ok_X8_spell q1250 is_X8_spell rfl rfl dX8_init_245 rfl rfl ?_
        intro u0 hu0; subst u0
        show v (up (up (up (up (up (up (up (up (up (up (up (up (up (up (up (up (up (up (up (up (up (up (up (up (up (up (up (up (up (up (up (up (up (up (up (up (up (up (up (up s 1 0 114) 1 1 111) 1 2 116) 1 3 115) 1 4 32) 1 5 50) 1 6 48) 1 7 32) 1 8 59) 1 9 32) 1 10 112) 1 11 97) 1 12 121) 1 13 115) 1 14 32) 1 15 57) 1 16 32) 1 17 59) 1 18 32) 1 19 102) 1 20 105) 1 21 110) 1 22 100) 1 23 115) 1 24 32) 1 25 103) 1 26 117) 1 27 97) 1 28 114) 1 29 100) 1 30 115) 1 31 32) 1 32 59) 1 33 32) 1 34 32) 1 35 32) 1 36 32) 1 37 32) 1 38 32) 1 39 32) 0 0 248 [(0, .ref (ad 0)), (1, .int (nI k))] []
        refine v_aload_n F 0 dX8_init_248 rfl rfl rfl ?_
        refine m_get F G 2 (w := .ref (ad 2)) (by decide) q1255 rfl dX8_init_249 rfl ?_
        refine v_iconst (x := 0) F dX8_init_252 rfl (by decide) ?_
        refine v_bipush (x := 40) F dX8_init_253 rfl (by decide) ?_
        refine m_ast2 (t := 0) F G (by omega) dX8_init_255 rfl ?_
        refine v_aload_n F 0 dX8_init_256 rfl rfl rfl ?_
        refine v_iconst (x := 1) F dX8_init_257 rfl (by decide) ?_
        refine m_put3 F G q1256 dX8_init_258 rfl ?_
        exact v_retn F dX8_init_261 rfl (⟨ad, congrArg _ (i0_end hs (by omega)), rfl⟩)
      · skip
        refine v_aload_n F 0 dX8_init_126 rfl rfl rfl ?_
        refine m_get F G 10 (w := .ref (ad 10)) (by decide) q1263 rfl dX8_init_127 rfl ?_
        refine v_iload_n F 1 dX8_init_130 rfl rfl rfl ?_
        refine v_iconst (x := 5) F dX8_init_131 rfl (by decide) ?_
        refine m_ast10 (t := k) F G (by omega) dX8_init_132 rfl ?_
        refine v_iincN (ls' := [(1, .int (nI (k + 1))), (0, .ref (ad 0))]) F 1 dX8_init_133 rfl rfl (by decide) rfl ?_
        refine v_goto (tgt := 120) F dX8_init_136 rfl ?_
        refine v_sub (ls' := [(0, .ref (ad 0)), (1, .int (nI (k + 1)))]) F [1, 0] rfl ?_
        exact ih120 (up s 10 k 5) (k + 1) (by omega) (i0_s hs) (by omega)
  refine v_sub (ls' := [(0, .ref (ad 0)), (1, .int 0)]) F [1, 0] rfl ?_
  exact L120 _ m00 0 (Nat.zero_le _) i0_0 (Nat.lt_succ_self _)
