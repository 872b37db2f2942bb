/-! the reference: its constructor -/
set_option maxRecDepth 100000
set_option maxHeartbeats 800000 in
theorem mt_init {la : Launch} {X : XE} {G0 : Gh} {mh : Nat} (h : G0 mh = some (10, .inl (2, [.int (iI 0), .null, .int (iI 0), .null, .null, .int (iI 0), .int (iI 0), .int (iI 0), .null, .null, .null, .null, .null, .int (iI 0), .null, .int (iI 0), .null, .int (iI 0), .int (iI 0), .null, .int (iI 0), .null, .int (iI 0), .int (iI 0), .int (iI 0), .int (iI 0), .int (iI 0), .int (iI 0), .int (iI 0), .int (iI 0), .int (iI 0), .int (iI 0), .int (iI 0), .long (lI 0), .long (lI 0)]))) : MG la X yX2_init cX2_init 1 none (rmk 1 12 7546 20) [.ref mh] (fun G => G = G0) (fun v G => v = none ∧ ∃ mad, MOD mh mad G0 st0 G) := by
  refine MG.of (by decide +kernel) (Nat.le_of_ble_eq_true rfl) ?_
  intro Z C hX hL hQ
  subst hX; subst hL
  change WW Z 1 (fun G => G = G0) 0 0 0 [some (.ref mh)] []
  refine r_aload_n (pc := 0) C dX2_init_0 rfl rfl ?_
  refine r_objInit (pc := 1) (own := "") C dX2_init_1 q1171 q109 q110 (Nat.le_of_ble_eq_true rfl) (Nat.le_of_ble_eq_true rfl) ?_
  refine ww_to (Γ' := MB mh G0 [] [] [.int (iI 0), .null, .int (iI 0), .null, .null, .int (iI 0), .int (iI 0), .int (iI 0), .null, .null, .null, .null, .null, .int (iI 0), .null, .int (iI 0), .null, .int (iI 0), .int (iI 0), .null, .int (iI 0), .null, .int (iI 0), .int (iI 0), .int (iI 0), .int (iI 0), .int (iI 0), .int (iI 0), .int (iI 0), .int (iI 0), .int (iI 0), .int (iI 0), .int (iI 0), .long (lI 0), .long (lI 0)]) (fun G hG => by rw [hG]; exact MB.of h) ?_
  refine r_aload_n (pc := 4) C dX2_init_4 rfl rfl ?_
  refine r_bipushZ (pc := 5) C dX2_init_5 (by decide) ?_
  refine r_newaM (pc := 7) (N := 20) C dX2_init_7 q1278 (by decide) (by decide) (Nat.le_of_ble_eq_true rfl) (Nat.le_of_ble_eq_true rfl) (fun a7 => ?_)
  refine r_putF (pc := 9) (k := 1) (ci := 2) (ty := .array .int) C dX2_init_9 (fun G hG => ⟨_, (by decide), hG.1, hG.put⟩) (show vwC[2]? = some (RX2, TX2, 35) from rfl) in_X2 tyX2 tyX2_ok nmX2 (by decide) (C.t _ q1173) (fun _ h => h) rfl rfl rfl (by decide +kernel) rfl rfl (Nat.le_of_ble_eq_true rfl) ?_
  refine r_aload_n (pc := 12) C dX2_init_12 rfl rfl ?_
  refine r_bipushZ (pc := 13) C dX2_init_13 (by decide) ?_
  refine r_newaM (pc := 15) (N := 6) C dX2_init_15 q1278 (by decide) (by decide) (Nat.le_of_ble_eq_true rfl) (Nat.le_of_ble_eq_true rfl) (fun a15 => ?_)
  refine r_putF (pc := 17) (k := 3) (ci := 2) (ty := .array .int) C dX2_init_17 (fun G hG => ⟨_, (by decide), hG.1, hG.put⟩) (show vwC[2]? = some (RX2, TX2, 35) from rfl) in_X2 tyX2 tyX2_ok nmX2 (by decide) (C.t _ q1175) (fun _ h => h) rfl rfl rfl (by decide +kernel) rfl rfl (Nat.le_of_ble_eq_true rfl) ?_
  refine r_aload_n (pc := 20) C dX2_init_20 rfl rfl ?_
  refine r_bipushZ (pc := 21) C dX2_init_21 (by decide) ?_
  refine r_newaM (pc := 23) (N := 120) C dX2_init_23 q1278 (by decide) (by decide) (Nat.le_of_ble_eq_true rfl) (Nat.le_of_ble_eq_true rfl) (fun a23 => ?_)
  refine r_putF (pc := 25) (k := 4) (ci := 2) (ty := .array .int) C dX2_init_25 (fun G hG => ⟨_, (by decide), hG.1, hG.put⟩) (show vwC[2]? = some (RX2, TX2, 35) from rfl) in_X2 tyX2 tyX2_ok nmX2 (by decide) (C.t _ q1176) (fun _ h => h) rfl rfl rfl (by decide +kernel) rfl rfl (Nat.le_of_ble_eq_true rfl) ?_
  refine r_aload_n (pc := 28) C dX2_init_28 rfl rfl ?_
  refine r_sipushZ (pc := 29) C dX2_init_29 (by decide) ?_
  refine r_newaM (pc := 32) (N := 1200) C dX2_init_32 q1278 (by decide) (by decide) (Nat.le_of_ble_eq_true rfl) (Nat.le_of_ble_eq_true rfl) (fun a32 => ?_)
  refine r_putF (pc := 34) (k := 8) (ci := 2) (ty := .array .int) C dX2_init_34 (fun G hG => ⟨_, (by decide), hG.1, hG.put⟩) (show vwC[2]? = some (RX2, TX2, 35) from rfl) in_X2 tyX2 tyX2_ok nmX2 (by decide) (C.t _ q1180) (fun _ h => h) rfl rfl rfl (by decide +kernel) rfl rfl (Nat.le_of_ble_eq_true rfl) ?_
  refine r_aload_n (pc := 37) C dX2_init_37 rfl rfl ?_
  refine r_sipushZ (pc := 38) C dX2_init_38 (by decide) ?_
  refine r_newaM (pc := 41) (N := 1200) C dX2_init_41 q1278 (by decide) (by decide) (Nat.le_of_ble_eq_true rfl) (Nat.le_of_ble_eq_true rfl) (fun a41 => ?_)
  refine r_putF (pc := 43) (k := 9) (ci := 2) (ty := .array .int) C dX2_init_43 (fun G hG => ⟨_, (by decide), hG.1, hG.put⟩) (show vwC[2]? = some (RX2, TX2, 35) from rfl) in_X2 tyX2 tyX2_ok nmX2 (by decide) (C.t _ q1181) (fun _ h => h) rfl rfl rfl (by decide +kernel) rfl rfl (Nat.le_of_ble_eq_true rfl) ?_
  refine r_aload_n (pc := 46) C dX2_init_46 rfl rfl ?_
  refine r_sipushZ (pc := 47) C dX2_init_47 (by decide) ?_
  refine r_newaM (pc := 50) (N := 1200) C dX2_init_50 q1278 (by decide) (by decide) (Nat.le_of_ble_eq_true rfl) (Nat.le_of_ble_eq_true rfl) (fun a50 => ?_)
  refine r_putF (pc := 52) (k := 10) (ci := 2) (ty := .array .int) C dX2_init_52 (fun G hG => ⟨_, (by decide), hG.1, hG.put⟩) (show vwC[2]? = some (RX2, TX2, 35) from rfl) in_X2 tyX2 tyX2_ok nmX2 (by decide) (C.t _ q1182) (fun _ h => h) rfl rfl rfl (by decide +kernel) rfl rfl (Nat.le_of_ble_eq_true rfl) ?_
  refine r_aload_n (pc := 55) C dX2_init_55 rfl rfl ?_
  refine r_sipushZ (pc := 56) C dX2_init_56 (by decide) ?_
  refine r_newaM (pc := 59) (N := 1200) C dX2_init_59 q1278 (by decide) (by decide) (Nat.le_of_ble_eq_true rfl) (Nat.le_of_ble_eq_true rfl) (fun a59 => ?_)
  refine r_putF (pc := 61) (k := 11) (ci := 2) (ty := .array .int) C dX2_init_61 (fun G hG => ⟨_, (by decide), hG.1, hG.put⟩) (show vwC[2]? = some (RX2, TX2, 35) from rfl) in_X2 tyX2 tyX2_ok nmX2 (by decide) (C.t _ q1183) (fun _ h => h) rfl rfl rfl (by decide +kernel) rfl rfl (Nat.le_of_ble_eq_true rfl) ?_
  refine r_aload_n (pc := 64) C dX2_init_64 rfl rfl ?_
  refine r_sipushZ (pc := 65) C dX2_init_65 (by decide) ?_
  refine r_newaM (pc := 68) (N := 1200) C dX2_init_68 q1278 (by decide) (by decide) (Nat.le_of_ble_eq_true rfl) (Nat.le_of_ble_eq_true rfl) (fun a68 => ?_)
  refine r_putF (pc := 70) (k := 12) (ci := 2) (ty := .array .int) C dX2_init_70 (fun G hG => ⟨_, (by decide), hG.1, hG.put⟩) (show vwC[2]? = some (RX2, TX2, 35) from rfl) in_X2 tyX2 tyX2_ok nmX2 (by decide) (C.t _ q1184) (fun _ h => h) rfl rfl rfl (by decide +kernel) rfl rfl (Nat.le_of_ble_eq_true rfl) ?_
  refine r_aload_n (pc := 73) C dX2_init_73 rfl rfl ?_
  refine r_sipushZ (pc := 74) C dX2_init_74 (by decide) ?_
  refine r_newaM (pc := 77) (N := 1200) C dX2_init_77 q1278 (by decide) (by decide) (Nat.le_of_ble_eq_true rfl) (Nat.le_of_ble_eq_true rfl) (fun a77 => ?_)
  refine r_putF (pc := 79) (k := 14) (ci := 2) (ty := .array .int) C dX2_init_79 (fun G hG => ⟨_, (by decide), hG.1, hG.put⟩) (show vwC[2]? = some (RX2, TX2, 35) from rfl) in_X2 tyX2 tyX2_ok nmX2 (by decide) (C.t _ q1186) (fun _ h => h) rfl rfl rfl (by decide +kernel) rfl rfl (Nat.le_of_ble_eq_true rfl) ?_
  refine r_aload_n (pc := 82) C dX2_init_82 rfl rfl ?_
  refine r_bipushZ (pc := 83) C dX2_init_83 (by decide) ?_
  refine r_newaM (pc := 85) (N := 20) C dX2_init_85 q1278 (by decide) (by decide) (Nat.le_of_ble_eq_true rfl) (Nat.le_of_ble_eq_true rfl) (fun a85 => ?_)
  refine r_putF (pc := 87) (k := 16) (ci := 2) (ty := .array .int) C dX2_init_87 (fun G hG => ⟨_, (by decide), hG.1, hG.put⟩) (show vwC[2]? = some (RX2, TX2, 35) from rfl) in_X2 tyX2 tyX2_ok nmX2 (by decide) (C.t _ q1188) (fun _ h => h) rfl rfl rfl (by decide +kernel) rfl rfl (Nat.le_of_ble_eq_true rfl) ?_
  refine r_aload_n (pc := 90) C dX2_init_90 rfl rfl ?_
  refine r_bipushZ (pc := 91) C dX2_init_91 (by decide) ?_
  refine r_newaM (pc := 93) (N := 20) C dX2_init_93 q1278 (by decide) (by decide) (Nat.le_of_ble_eq_true rfl) (Nat.le_of_ble_eq_true rfl) (fun a93 => ?_)
  refine r_putF (pc := 95) (k := 19) (ci := 2) (ty := .array .int) C dX2_init_95 (fun G hG => ⟨_, (by decide), hG.1, hG.put⟩) (show vwC[2]? = some (RX2, TX2, 35) from rfl) in_X2 tyX2 tyX2_ok nmX2 (by decide) (C.t _ q1191) (fun _ h => h) rfl rfl rfl (by decide +kernel) rfl rfl (Nat.le_of_ble_eq_true rfl) ?_
  refine r_aload_n (pc := 98) C dX2_init_98 rfl rfl ?_
  refine r_bipushZ (pc := 99) C dX2_init_99 (by decide) ?_
  refine r_newaM (pc := 101) (N := 20) C dX2_init_101 q1278 (by decide) (by decide) (Nat.le_of_ble_eq_true rfl) (Nat.le_of_ble_eq_true rfl) (fun a101 => ?_)
  refine r_putF (pc := 103) (k := 21) (ci := 2) (ty := .array .int) C dX2_init_103 (fun G hG => ⟨_, (by decide), hG.1, hG.put⟩) (show vwC[2]? = some (RX2, TX2, 35) from rfl) in_X2 tyX2 tyX2_ok nmX2 (by decide) (C.t _ q1193) (fun _ h => h) rfl rfl rfl (by decide +kernel) rfl rfl (Nat.le_of_ble_eq_true rfl) ?_
  exact r_vret (pc := 106) C hQ dX2_init_106 (by first | exact Nat.le_of_ble_eq_true rfl | (dsimp only [rmk]; omega) | omega) (by first | exact Nat.le_of_ble_eq_true rfl | (dsimp only [rmk]; omega) | omega) (fun G hG => ⟨rfl, _, MB.mod (as := [a7, a15, a23, a32, a41, a50, a59, a68, a77, a85, a93, a101]) hG rfl⟩)

