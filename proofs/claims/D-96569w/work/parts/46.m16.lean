set_option maxRecDepth 100000
theorem ok_X8_spell : vv_oc yX8_spell 10 9 (ws_ yX8_spell cX8_spell 10 none) := vv_ok.oc (rt := none) ⟨q1253, q133, by decide +kernel, by decide +kernel⟩
theorem is_X8_spell : Cond.instanceMethod yX8_spell ∈ lw_all ∧ Cond.selects RX8 yX8_spell yX8_spell ∈ lw_all := ⟨q1252, qs47⟩
set_option maxHeartbeats 4000000 in
theorem cm_X8_spell {l : Launch} {Kf : State → Prop} {D : va_G} {ad : Nat → Nat} {cI cZ : ClassId} {A : Nat → Prop} (G : mG A Kf D cI cZ)  (σ : mS) (n : Nat) (c : Int32) (d : Int32) (e : Int32) (f : Int32) (g : Int32) (h : Int32) (i : Int32) (j : Int32) (hn : n ≤ 952) : vv_Ct l yX8_spell (ws_ yX8_spell cX8_spell 10 none) (rm 0 0) Kf (mWd D ad cI cZ A) A [.ref (ad 0), .int (nI n), .int c, .int d, .int e, .int f, .int g, .int h, .int i, .int j] σ (vv_n (fun u => u = up (up (up (up (up (up (up (up σ 1 n c) 1 (n + 1) d) 1 (n + 2) e) 1 (n + 3) f) 1 (n + 4) g) 1 (n + 5) h) 1 (n + 6) i) 1 (n + 7) j)) := by
  refine vv_of (by decide +kernel) (Nat.le_of_ble_eq_true rfl) ?_
  intro v (F : vv_F v l cX8_spell 10 RX8 "spell" none [] (rm 0 0) Kf (mWd D ad cI cZ A) A _)
  show v σ 0 0 0 [(0, .ref (ad 0)), (1, .int (nI n)), (2, .int c), (3, .int d), (4, .int e), (5, .int f), (6, .int g), (7, .int h), (8, .int i), (9, .int j)] []
  refine v_aload_n F 0 dX8_spell_0 rfl rfl rfl ?_
  refine m_get F G 1 (w := .ref (ad 1)) (by decide) q1254 rfl dX8_spell_1 rfl ?_
  refine v_iload_n F 1 dX8_spell_4 rfl rfl rfl ?_
  refine v_iload_n F 2 dX8_spell_5 rfl rfl rfl ?_
  refine m_ast1 (t := n) F G (by omega) dX8_spell_6 rfl ?_
  refine v_aload_n F 0 dX8_spell_7 rfl rfl rfl ?_
  refine m_get F G 1 (w := .ref (ad 1)) (by decide) q1254 rfl dX8_spell_8 rfl ?_
  refine v_iload_n F 1 dX8_spell_11 rfl rfl rfl ?_
  refine v_iconst (x := 1) F dX8_spell_12 rfl (by decide) ?_
  refine v_iaddN (a := n) (b := 1) F dX8_spell_13 rfl ?_
  refine v_iload_n F 3 dX8_spell_14 rfl rfl rfl ?_
  refine m_ast1 (t := n + 1) F G (by omega) dX8_spell_15 rfl ?_
  refine v_aload_n F 0 dX8_spell_16 rfl rfl rfl ?_
  refine m_get F G 1 (w := .ref (ad 1)) (by decide) q1254 rfl dX8_spell_17 rfl ?_
  refine v_iload_n F 1 dX8_spell_20 rfl rfl rfl ?_
  refine v_iconst (x := 2) F dX8_spell_21 rfl (by decide) ?_
  refine v_iaddN (a := n) (b := 2) F dX8_spell_22 rfl ?_
  refine v_iload F 4 dX8_spell_23 rfl rfl ?_
  refine m_ast1 (t := n + 2) F G (by omega) dX8_spell_25 rfl ?_
  refine v_aload_n F 0 dX8_spell_26 rfl rfl rfl ?_
  refine m_get F G 1 (w := .ref (ad 1)) (by decide) q1254 rfl dX8_spell_27 rfl ?_
  refine v_iload_n F 1 dX8_spell_30 rfl rfl rfl ?_
  refine v_iconst (x := 3) F dX8_spell_31 rfl (by decide) ?_
  refine v_iaddN (a := n) (b := 3) F dX8_spell_32 rfl ?_
  refine v_iload F 5 dX8_spell_33 rfl rfl ?_
  refine m_ast1 (t := n + 3) F G (by omega) dX8_spell_35 rfl ?_
  refine v_aload_n F 0 dX8_spell_36 rfl rfl rfl ?_
  refine m_get F G 1 (w := .ref (ad 1)) (by decide) q1254 rfl dX8_spell_37 rfl ?_
  refine v_iload_n F 1 dX8_spell_40 rfl rfl rfl ?_
  refine v_iconst (x := 4) F dX8_spell_41 rfl (by decide) ?_
  refine v_iaddN (a := n) (b := 4) F dX8_spell_42 rfl ?_
  refine v_iload F 6 dX8_spell_43 rfl rfl ?_
  refine m_ast1 (t := n + 4) F G (by omega) dX8_spell_45 rfl ?_
  refine v_aload_n F 0 dX8_spell_46 rfl rfl rfl ?_
  refine m_get F G 1 (w := .ref (ad 1)) (by decide) q1254 rfl dX8_spell_47 rfl ?_
  refine v_iload_n F 1 dX8_spell_50 rfl rfl rfl ?_
  refine v_iconst (x := 5) F dX8_spell_51 rfl (by decide) ?_
  refine v_iaddN (a := n) (b := 5) F dX8_spell_52 rfl ?_
  refine v_iload F 7 dX8_spell_53 rfl rfl ?_
  refine m_ast1 (t := n + 5) F G (by omega) dX8_spell_55 rfl ?_
  refine v_aload_n F 0 dX8_spell_56 rfl rfl rfl ?_
  refine m_get F G 1 (w := .ref (ad 1)) (by decide) q1254 rfl dX8_spell_57 rfl ?_
  refine v_iload_n F 1 dX8_spell_60 rfl rfl rfl ?_
  refine v_bipush (x := 6) F dX8_spell_61 rfl (by decide) ?_
  refine v_iaddN (a := n) (b := 6) F dX8_spell_63 rfl ?_
  refine v_iload F 8 dX8_spell_64 rfl rfl ?_
  refine m_ast1 (t := n + 6) F G (by omega) dX8_spell_66 rfl ?_
  refine v_aload_n F 0 dX8_spell_67 rfl rfl rfl ?_
  refine m_get F G 1 (w := .ref (ad 1)) (by decide) q1254 rfl dX8_spell_68 rfl ?_
  refine v_iload_n F 1 dX8_spell_71 rfl rfl rfl ?_
  refine v_bipush (x := 7) F dX8_spell_72 rfl (by decide) ?_
  refine v_iaddN (a := n) (b := 7) F dX8_spell_74 rfl ?_
  refine v_iload F 9 dX8_spell_75 rfl rfl ?_
  refine m_ast1 (t := n + 7) F G (by omega) dX8_spell_77 rfl ?_
  exact v_retn F dX8_spell_78 rfl (rfl)
