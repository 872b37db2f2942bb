/-! the component: its constructor -/
set_option maxRecDepth 100000
set_option maxHeartbeats 800000 in
theorem xt_of0 {la : Launch} {X : XE} {G0 : Gh} (K : KON X G0) : MG la X yX1_of cX1_of 3 (some (.object "RiverWords$Table")) (rmk 2 1 4 44) [.ref (X.2.2 0)] (fun G => G = G0) (fun v G => ∃ e, v = some (.ref e) ∧ TAB G e (1, 0, 0, 1) ∧ FR [] G0 G) := by
  refine MG.of (by decide +kernel) (Nat.le_of_ble_eq_true rfl) ?_
  intro Z C hX hL hQ
  subst hX; subst hL
  change WW Z 3 (fun G => G = G0) 0 0 0 [some (.ref ((zX Z).2.2 0)), none, none] []
  have T0 := K.1.str
  obtain ⟨-, -, b0, f0, k0, -⟩ := K.1
  refine r_aload_n (pc := 0) C dX1_of_0 rfl rfl ?_
  refine r_astore_n (pc := 1) C dX1_of_1 rfl (by decide) ?_
  refine r_iconstZ (pc := 2) C dX1_of_2 ?_
  refine r_istore_n (pc := 3) C dX1_of_3 rfl (by decide) ?_
  refine r_aload_n (pc := 4) C dX1_of_4 rfl rfl ?_
  refine r_invV (pc := 5) (ci := 7) 0 C dX1_of_5 (js_hash 0 1 k0 (by unfold i32; omega) (by unfold i32; omega) (Or.inr (by decide))) (gS T0) (show vwC[7]? = some (RJ0, TJ0, 4) from rfl) rfl (lw_V q115 q116 q117 q83 q118) (by decide +kernel) rfl rfl ⟨Nat.le_of_ble_eq_true rfl, Nat.le_of_ble_eq_true rfl⟩ (Nat.le_of_ble_eq_true rfl) ⟨(by first | exact Nat.le_of_ble_eq_true rfl | (dsimp only [rmk]; omega) | omega), (by first | exact Nat.le_of_ble_eq_true rfl | (dsimp only [rmk]; omega) | omega)⟩ (rd_k ?_)
  refine r_lookup (pc := 8) (off := 53) (tgt := 61) C dX1_of_8 (by decide) (by decide) (by decide) ?_
  refine r_iload_n (pc := 61) C dX1_of_61 rfl rfl ?_
  refine r_lookup (pc := 62) (off := 54) (tgt := 116) C dX1_of_62 (by decide) (by decide) (by decide) ?_
  refine r_newE (pc := 116) (ci := 1) (fs := [.int (iI 0), .int (iI 0), .int (iI 0), .int (iI 0)]) 9 C dX1_of_116 (show vwC[1]? = some (RX1, TX1, 4) from rfl) in_X1 tyX1 tyX1_ok q192 q193 q82 (by decide +kernel) (by first | exact Nat.le_of_ble_eq_true rfl | (dsimp only [rmk]; omega) | omega) (by first | exact Nat.le_of_ble_eq_true rfl | (dsimp only [rmk]; omega) | omega) (fun a116 n116 => ?_)
  refine r_dup (pc := 119) C dX1_of_119 rfl ?_
  refine r_iconstZ (pc := 120) C dX1_of_120 ?_
  refine r_iconstZ (pc := 121) C dX1_of_121 ?_
  refine r_iconstZ (pc := 122) C dX1_of_122 ?_
  refine r_iconstZ (pc := 123) C dX1_of_123 ?_
  refine r_invI (pc := 124) 4 C dX1_of_124 (xt_init _ _ _ _ (gup_eq _ _ _) (by decide)) rfl (lw_meth q196) q82 q194 q195 rfl (by decide +kernel) rfl rfl ⟨Nat.le_of_ble_eq_true rfl, Nat.le_of_ble_eq_true rfl⟩ (Nat.le_of_ble_eq_true rfl) ⟨(by first | exact Nat.le_of_ble_eq_true rfl | (dsimp only [rmk]; omega) | omega), (by first | exact Nat.le_of_ble_eq_true rfl | (dsimp only [rmk]; omega) | omega)⟩ (fun v124 G124 h124 => ?_)
  obtain ⟨rfl, q1⟩ := h124
  refine ww_retag (Γ' := fun G => TAB G a116 (1, 0, 0, 1) ∧ FR [] G0 G) (fun G hG => by rw [hG]; obtain ⟨G', ⟨z1, z2, -⟩, z3⟩ := frz1 n116 q1.1 (FR.made n116 q1); refine ⟨G', ⟨?_, z2⟩, z3⟩; unfold TAB; rw [z1]) ?_
  exact r_aret (pc := 127) C hQ dX1_of_127 (by first | exact Or.inl ⟨_, rfl⟩ | exact Or.inr ⟨_, rfl⟩) (by first | exact Or.inr ⟨_, rfl⟩ | exact Or.inl rfl) (by first | exact Nat.le_of_ble_eq_true rfl | (dsimp only [rmk]; omega) | omega) (by first | exact Nat.le_of_ble_eq_true rfl | (dsimp only [rmk]; omega) | omega) (fun G hG => ⟨a116, rfl, hG.1, hG.2⟩)
set_option maxHeartbeats 800000 in
theorem xt_ofL {la : Launch} {X : XE} {G0 : Gh} (K : KON X G0) : MG la X yX1_of cX1_of 3 (some (.object "RiverWords$Table")) (rmk 2 1 4 44) [.ref (X.2.2 2)] (fun G => G = G0) (fun v G => ∃ e, v = some (.ref e) ∧ TAB G e (1, 0, 1, 1) ∧ FR [] G0 G) := by
  refine MG.of (by decide +kernel) (Nat.le_of_ble_eq_true rfl) ?_
  intro Z C hX hL hQ
  subst hX; subst hL
  change WW Z 3 (fun G => G = G0) 0 0 0 [some (.ref ((zX Z).2.2 2)), none, none] []
  have T0 := K.2.1.str
  obtain ⟨-, -, b0, f0, k0, -⟩ := K.2.1
  refine r_aload_n (pc := 0) C dX1_of_0 rfl rfl ?_
  refine r_astore_n (pc := 1) C dX1_of_1 rfl (by decide) ?_
  refine r_iconstZ (pc := 2) C dX1_of_2 ?_
  refine r_istore_n (pc := 3) C dX1_of_3 rfl (by decide) ?_
  refine r_aload_n (pc := 4) C dX1_of_4 rfl rfl ?_
  refine r_invV (pc := 5) (ci := 7) 0 C dX1_of_5 (js_hash 76 0 k0 (by unfold i32; omega) (by unfold i32; omega) (Or.inl (by decide))) (gS T0) (show vwC[7]? = some (RJ0, TJ0, 4) from rfl) rfl (lw_V q115 q116 q117 q83 q118) (by decide +kernel) rfl rfl ⟨Nat.le_of_ble_eq_true rfl, Nat.le_of_ble_eq_true rfl⟩ (Nat.le_of_ble_eq_true rfl) ⟨(by first | exact Nat.le_of_ble_eq_true rfl | (dsimp only [rmk]; omega) | omega), (by first | exact Nat.le_of_ble_eq_true rfl | (dsimp only [rmk]; omega) | omega)⟩ (rd_k ?_)
  refine r_lookup (pc := 8) (off := 28) (tgt := 36) C dX1_of_8 (by decide) (by decide) (by decide) ?_
  refine r_aload_n (pc := 36) C dX1_of_36 rfl rfl ?_
  refine r_ldcS (pc := 37) C dX1_of_37 rfl (by decide +kernel : (_, _, "L", 2) ∈ skL) ?_
  refine r_invV (pc := 39) (ci := 7) 1 C dX1_of_39 (js_equals T0 T0) (gS T0) (show vwC[7]? = some (RJ0, TJ0, 4) from rfl) rfl (lw_V q183 q184 q185 q83 q186) (by decide +kernel) rfl rfl ⟨Nat.le_of_ble_eq_true rfl, Nat.le_of_ble_eq_true rfl⟩ (Nat.le_of_ble_eq_true rfl) ⟨(by first | exact Nat.le_of_ble_eq_true rfl | (dsimp only [rmk]; omega) | omega), (by first | exact Nat.le_of_ble_eq_true rfl | (dsimp only [rmk]; omega) | omega)⟩ (rd_k ?_)
  rw [show b2 (([76] : Tx) = [76]) = 1 from rfl]
  refine r_if_eqZ (pc := 42) (tgt := 61) C dX1_of_42 (by decide) (by unfold i32; omega) (fun h42 => absurd h42 (by omega)) (fun h42 => ?_)
  refine r_iconstZ (pc := 45) C dX1_of_45 ?_
  refine r_istore_n (pc := 46) C dX1_of_46 rfl (by decide) ?_
  refine r_goto (pc := 47) (tgt := 61) C dX1_of_47 (by decide) ?_
  refine r_iload_n (pc := 61) C dX1_of_61 rfl rfl ?_
  refine r_lookup (pc := 62) (off := 26) (tgt := 88) C dX1_of_62 (by decide) (by decide) (by decide) ?_
  refine r_newE (pc := 88) (ci := 1) (fs := [.int (iI 0), .int (iI 0), .int (iI 0), .int (iI 0)]) 9 C dX1_of_88 (show vwC[1]? = some (RX1, TX1, 4) from rfl) in_X1 tyX1 tyX1_ok q192 q193 q82 (by decide +kernel) (by first | exact Nat.le_of_ble_eq_true rfl | (dsimp only [rmk]; omega) | omega) (by first | exact Nat.le_of_ble_eq_true rfl | (dsimp only [rmk]; omega) | omega) (fun a88 n88 => ?_)
  refine r_dup (pc := 91) C dX1_of_91 rfl ?_
  refine r_iconstZ (pc := 92) C dX1_of_92 ?_
  refine r_iconstZ (pc := 93) C dX1_of_93 ?_
  refine r_iconstZ (pc := 94) C dX1_of_94 ?_
  refine r_iconstZ (pc := 95) C dX1_of_95 ?_
  refine r_invI (pc := 96) 4 C dX1_of_96 (xt_init _ _ _ _ (gup_eq _ _ _) (by decide)) rfl (lw_meth q196) q82 q194 q195 rfl (by decide +kernel) rfl rfl ⟨Nat.le_of_ble_eq_true rfl, Nat.le_of_ble_eq_true rfl⟩ (Nat.le_of_ble_eq_true rfl) ⟨(by first | exact Nat.le_of_ble_eq_true rfl | (dsimp only [rmk]; omega) | omega), (by first | exact Nat.le_of_ble_eq_true rfl | (dsimp only [rmk]; omega) | omega)⟩ (fun v96 G96 h96 => ?_)
  obtain ⟨rfl, q1⟩ := h96
  refine r_goto (pc := 99) (tgt := 127) C dX1_of_99 (by decide) ?_
  refine ww_retag (Γ' := fun G => TAB G a88 (1, 0, 1, 1) ∧ FR [] G0 G) (fun G hG => by rw [hG]; obtain ⟨G', ⟨z1, z2, -⟩, z3⟩ := frz1 n88 q1.1 (FR.made n88 q1); refine ⟨G', ⟨?_, z2⟩, z3⟩; unfold TAB; rw [z1]) ?_
  exact r_aret (pc := 127) C hQ dX1_of_127 (by first | exact Or.inl ⟨_, rfl⟩ | exact Or.inr ⟨_, rfl⟩) (by first | exact Or.inr ⟨_, rfl⟩ | exact Or.inl rfl) (by first | exact Nat.le_of_ble_eq_true rfl | (dsimp only [rmk]; omega) | omega) (by first | exact Nat.le_of_ble_eq_true rfl | (dsimp only [rmk]; omega) | omega) (fun G hG => ⟨a88, rfl, hG.1, hG.2⟩)
set_option maxHeartbeats 800000 in
theorem xt_ofR {la : Launch} {X : XE} {G0 : Gh} (K : KON X G0) : MG la X yX1_of cX1_of 3 (some (.object "RiverWords$Table")) (rmk 2 1 4 44) [.ref (X.2.2 4)] (fun G => G = G0) (fun v G => ∃ e, v = some (.ref e) ∧ TAB G e (1, 1, 0, 1) ∧ FR [] G0 G) := by
  refine MG.of (by decide +kernel) (Nat.le_of_ble_eq_true rfl) ?_
  intro Z C hX hL hQ
  subst hX; subst hL
  change WW Z 3 (fun G => G = G0) 0 0 0 [some (.ref ((zX Z).2.2 4)), none, none] []
  have T0 := K.2.2.1.str
  obtain ⟨-, -, b0, f0, k0, -⟩ := K.2.2.1
  refine r_aload_n (pc := 0) C dX1_of_0 rfl rfl ?_
  refine r_astore_n (pc := 1) C dX1_of_1 rfl (by decide) ?_
  refine r_iconstZ (pc := 2) C dX1_of_2 ?_
  refine r_istore_n (pc := 3) C dX1_of_3 rfl (by decide) ?_
  refine r_aload_n (pc := 4) C dX1_of_4 rfl rfl ?_
  refine r_invV (pc := 5) (ci := 7) 0 C dX1_of_5 (js_hash 82 0 k0 (by unfold i32; omega) (by unfold i32; omega) (Or.inl (by decide))) (gS T0) (show vwC[7]? = some (RJ0, TJ0, 4) from rfl) rfl (lw_V q115 q116 q117 q83 q118) (by decide +kernel) rfl rfl ⟨Nat.le_of_ble_eq_true rfl, Nat.le_of_ble_eq_true rfl⟩ (Nat.le_of_ble_eq_true rfl) ⟨(by first | exact Nat.le_of_ble_eq_true rfl | (dsimp only [rmk]; omega) | omega), (by first | exact Nat.le_of_ble_eq_true rfl | (dsimp only [rmk]; omega) | omega)⟩ (rd_k ?_)
  refine r_lookup (pc := 8) (off := 42) (tgt := 50) C dX1_of_8 (by decide) (by decide) (by decide) ?_
  refine r_aload_n (pc := 50) C dX1_of_50 rfl rfl ?_
  refine r_ldcS (pc := 51) C dX1_of_51 rfl (by decide +kernel : (_, _, "R", 4) ∈ skL) ?_
  refine r_invV (pc := 53) (ci := 7) 1 C dX1_of_53 (js_equals T0 T0) (gS T0) (show vwC[7]? = some (RJ0, TJ0, 4) from rfl) rfl (lw_V q183 q184 q185 q83 q186) (by decide +kernel) rfl rfl ⟨Nat.le_of_ble_eq_true rfl, Nat.le_of_ble_eq_true rfl⟩ (Nat.le_of_ble_eq_true rfl) ⟨(by first | exact Nat.le_of_ble_eq_true rfl | (dsimp only [rmk]; omega) | omega), (by first | exact Nat.le_of_ble_eq_true rfl | (dsimp only [rmk]; omega) | omega)⟩ (rd_k ?_)
  rw [show b2 (([82] : Tx) = [82]) = 1 from rfl]
  refine r_if_eqZ (pc := 56) (tgt := 61) C dX1_of_56 (by decide) (by unfold i32; omega) (fun h56 => absurd h56 (by omega)) (fun h56 => ?_)
  refine r_iconstZ (pc := 59) C dX1_of_59 ?_
  refine r_istore_n (pc := 60) C dX1_of_60 rfl (by decide) ?_
  refine r_iload_n (pc := 61) C dX1_of_61 rfl rfl ?_
  refine r_lookup (pc := 62) (off := 40) (tgt := 102) C dX1_of_62 (by decide) (by decide) (by decide) ?_
  refine r_newE (pc := 102) (ci := 1) (fs := [.int (iI 0), .int (iI 0), .int (iI 0), .int (iI 0)]) 9 C dX1_of_102 (show vwC[1]? = some (RX1, TX1, 4) from rfl) in_X1 tyX1 tyX1_ok q192 q193 q82 (by decide +kernel) (by first | exact Nat.le_of_ble_eq_true rfl | (dsimp only [rmk]; omega) | omega) (by first | exact Nat.le_of_ble_eq_true rfl | (dsimp only [rmk]; omega) | omega) (fun a102 n102 => ?_)
  refine r_dup (pc := 105) C dX1_of_105 rfl ?_
  refine r_iconstZ (pc := 106) C dX1_of_106 ?_
  refine r_iconstZ (pc := 107) C dX1_of_107 ?_
  refine r_iconstZ (pc := 108) C dX1_of_108 ?_
  refine r_iconstZ (pc := 109) C dX1_of_109 ?_
  refine r_invI (pc := 110) 4 C dX1_of_110 (xt_init _ _ _ _ (gup_eq _ _ _) (by decide)) rfl (lw_meth q196) q82 q194 q195 rfl (by decide +kernel) rfl rfl ⟨Nat.le_of_ble_eq_true rfl, Nat.le_of_ble_eq_true rfl⟩ (Nat.le_of_ble_eq_true rfl) ⟨(by first | exact Nat.le_of_ble_eq_true rfl | (dsimp only [rmk]; omega) | omega), (by first | exact Nat.le_of_ble_eq_true rfl | (dsimp only [rmk]; omega) | omega)⟩ (fun v110 G110 h110 => ?_)
  obtain ⟨rfl, q1⟩ := h110
  refine r_goto (pc := 113) (tgt := 127) C dX1_of_113 (by decide) ?_
  refine ww_retag (Γ' := fun G => TAB G a102 (1, 1, 0, 1) ∧ FR [] G0 G) (fun G hG => by rw [hG]; obtain ⟨G', ⟨z1, z2, -⟩, z3⟩ := frz1 n102 q1.1 (FR.made n102 q1); refine ⟨G', ⟨?_, z2⟩, z3⟩; unfold TAB; rw [z1]) ?_
  exact r_aret (pc := 127) C hQ dX1_of_127 (by first | exact Or.inl ⟨_, rfl⟩ | exact Or.inr ⟨_, rfl⟩) (by first | exact Or.inr ⟨_, rfl⟩ | exact Or.inl rfl) (by first | exact Nat.le_of_ble_eq_true rfl | (dsimp only [rmk]; omega) | omega) (by first | exact Nat.le_of_ble_eq_true rfl | (dsimp only [rmk]; omega) | omega) (fun G hG => ⟨a102, rfl, hG.1, hG.2⟩)
set_option maxHeartbeats 800000 in
theorem xo_init {la : Launch} {X : XE} {G0 : Gh} {xh : Nat} (K : KON X G0) (h : G0 xh = some (1, .inl (0, [.null, .null, .null, .null, .int (iI 0), .null, .int (iI 0), .null, .null, .long (lI 0)]))) : MG la X yX0_init cX0_init 1 none (rmk 4 8 60 80) [.ref xh] (fun G => G = G0) (fun v G => v = none ∧ COMP X G xh ([], [], 0, 0) ∧ FR cT G0 G) := by
  refine MG.of (by decide +kernel) (Nat.le_of_ble_eq_true rfl) ?_
  intro Z C hX hL hQ
  subst hX; subst hL
  change WW Z 1 (fun G => G = G0) 0 0 0 [some (.ref xh)] []
  obtain ⟨zf, z0⟩ := K.2.2.2
  refine r_aload_n (pc := 0) C dX0_init_0 rfl rfl ?_
  refine r_objInit (pc := 1) (own := "") C dX0_init_1 q108 q109 q110 (Nat.le_of_ble_eq_true rfl) (Nat.le_of_ble_eq_true rfl) ?_
  refine r_aload_n (pc := 4) C dX0_init_4 rfl rfl ?_
  refine r_ldcS (pc := 5) C dX0_init_5 rfl (by decide +kernel : (_, _, "", 0) ∈ skL) ?_
  refine r_invS (pc := 7) 1 C dX0_init_7 (xt_of0 K) rfl (lw_S q112 q113 q82 q114) (by decide +kernel) rfl rfl ⟨Nat.le_of_ble_eq_true rfl, Nat.le_of_ble_eq_true rfl⟩ (Nat.le_of_ble_eq_true rfl) ⟨(by first | exact Nat.le_of_ble_eq_true rfl | (dsimp only [rmk]; omega) | omega), (by first | exact Nat.le_of_ble_eq_true rfl | (dsimp only [rmk]; omega) | omega)⟩ (fun v7 G7 h7 => ?_)
  obtain ⟨e0, rfl, t0, f0⟩ := h7
  have o0 := f0 _ _ h (by simp)
  have r0a : FR cT G0 G7 := (f0.wk (us := cT) (by simp))
  refine ww_to (Γ' := P1 xh 1 0 [.null, .null, .null, .null, .int (iI 0), .null, .int (iI 0), .null, .null, .long (lI 0)] G7) (fun G hG => by rw [hG]; exact P1.rf o0) ?_
  refine r_putF (pc := 10) (k := 0) (ci := 0) (ty := .object "RiverWords$Table") C dX0_init_10 (fun G hG => ⟨_, (by decide), hG.1, hG.put⟩) (show vwC[0]? = some (RX0, TX0, 10) from rfl) in_X0 tyX0 tyX0_ok nmX0 (by decide) (C.t _ q275) (fun _ h => h) rfl rfl rfl (by decide +kernel) rfl rfl (Nat.le_of_ble_eq_true rfl) ?_
  refine ww_all (fun G0x hG0x => ?_)
  have p0 : FR [1] G7 G0x := hG0x.fr o0 (by simp)
  have r0 : FR cT G0 G0x := r0a.tr (p0.wk (by simp))
  have K0 := K.fr r0 (by simp)
  replace t0 := t0.fr p0 (by simp)
  refine r_aload_n (pc := 13) C dX0_init_13 rfl rfl ?_
  refine r_ldcS (pc := 14) C dX0_init_14 rfl (by decide +kernel : (_, _, "L", 2) ∈ skL) ?_
  refine r_invS (pc := 16) 1 C dX0_init_16 (xt_ofL K0) rfl (lw_S q112 q113 q82 q114) (by decide +kernel) rfl rfl ⟨Nat.le_of_ble_eq_true rfl, Nat.le_of_ble_eq_true rfl⟩ (Nat.le_of_ble_eq_true rfl) ⟨(by first | exact Nat.le_of_ble_eq_true rfl | (dsimp only [rmk]; omega) | omega), (by first | exact Nat.le_of_ble_eq_true rfl | (dsimp only [rmk]; omega) | omega)⟩ (fun v16 G16 h16 => ?_)
  obtain ⟨e1, rfl, t1, f1⟩ := h16
  have o1 := f1 _ _ hG0x.1 (by simp)
  have r1a : FR cT G0 G16 := r0.tr (f1.wk (us := cT) (by simp))
  replace t0 := t0.fr f1 (by simp)
  refine ww_to (Γ' := P1 xh 1 0 [.ref e0, .null, .null, .null, .int (iI 0), .null, .int (iI 0), .null, .null, .long (lI 0)] G16) (fun G hG => by rw [hG]; exact P1.rf o1) ?_
  refine r_putF (pc := 19) (k := 1) (ci := 0) (ty := .object "RiverWords$Table") C dX0_init_19 (fun G hG => ⟨_, (by decide), hG.1, hG.put⟩) (show vwC[0]? = some (RX0, TX0, 10) from rfl) in_X0 tyX0 tyX0_ok nmX0 (by decide) (C.t _ q276) (fun _ h => h) rfl rfl rfl (by decide +kernel) rfl rfl (Nat.le_of_ble_eq_true rfl) ?_
  refine ww_all (fun G1x hG1x => ?_)
  have p1 : FR [1] G16 G1x := hG1x.fr o1 (by simp)
  have r1 : FR cT G0 G1x := r1a.tr (p1.wk (by simp))
  have K1 := K.fr r1 (by simp)
  replace t0 := t0.fr p1 (by simp)
  replace t1 := t1.fr p1 (by simp)
  refine r_aload_n (pc := 22) C dX0_init_22 rfl rfl ?_
  refine r_ldcS (pc := 23) C dX0_init_23 rfl (by decide +kernel : (_, _, "R", 4) ∈ skL) ?_
  refine r_invS (pc := 25) 1 C dX0_init_25 (xt_ofR K1) rfl (lw_S q112 q113 q82 q114) (by decide +kernel) rfl rfl ⟨Nat.le_of_ble_eq_true rfl, Nat.le_of_ble_eq_true rfl⟩ (Nat.le_of_ble_eq_true rfl) ⟨(by first | exact Nat.le_of_ble_eq_true rfl | (dsimp only [rmk]; omega) | omega), (by first | exact Nat.le_of_ble_eq_true rfl | (dsimp only [rmk]; omega) | omega)⟩ (fun v25 G25 h25 => ?_)
  obtain ⟨e2, rfl, t2, f2⟩ := h25
  have o2 := f2 _ _ hG1x.1 (by simp)
  have r2a : FR cT G0 G25 := r1.tr (f2.wk (us := cT) (by simp))
  replace t0 := t0.fr f2 (by simp)
  replace t1 := t1.fr f2 (by simp)
  refine ww_to (Γ' := P1 xh 1 0 [.ref e0, .ref e1, .null, .null, .int (iI 0), .null, .int (iI 0), .null, .null, .long (lI 0)] G25) (fun G hG => by rw [hG]; exact P1.rf o2) ?_
  refine r_putF (pc := 28) (k := 2) (ci := 0) (ty := .object "RiverWords$Table") C dX0_init_28 (fun G hG => ⟨_, (by decide), hG.1, hG.put⟩) (show vwC[0]? = some (RX0, TX0, 10) from rfl) in_X0 tyX0 tyX0_ok nmX0 (by decide) (C.t _ q277) (fun _ h => h) rfl rfl rfl (by decide +kernel) rfl rfl (Nat.le_of_ble_eq_true rfl) ?_
  refine ww_all (fun G2x hG2x => ?_)
  have p2 : FR [1] G25 G2x := hG2x.fr o2 (by simp)
  have r2 : FR cT G0 G2x := r2a.tr (p2.wk (by simp))
  have K2 := K.fr r2 (by simp)
  replace t0 := t0.fr p2 (by simp)
  replace t1 := t1.fr p2 (by simp)
  replace t2 := t2.fr p2 (by simp)
  refine r_aload_n (pc := 31) C dX0_init_31 rfl rfl ?_
  refine r_newE (pc := 32) (ci := 8) (fs := [.int (iI 0), .null, .int (iI 0)]) 2 C dX0_init_32 (show vwC[8]? = some (RJ6, TJ6, 3) from rfl) in_J6 tyJ6 tyJ6_ok q218 q219 q89 (by decide +kernel) (by first | exact Nat.le_of_ble_eq_true rfl | (dsimp only [rmk]; omega) | omega) (by first | exact Nat.le_of_ble_eq_true rfl | (dsimp only [rmk]; omega) | omega) (fun a32 n32 => ?_)
  refine r_dup (pc := 35) C dX0_init_35 rfl ?_
  refine r_invI (pc := 36) 0 C dX0_init_36 (jl_init (gup_eq _ _ _) (by decide) (FR.new (ts := [2]) n32 _ _ (r2 _ _ z0 (by simp)) (by simp))) rfl (lw_meth q222) q89 q220 q221 rfl (by decide +kernel) rfl rfl ⟨Nat.le_of_ble_eq_true rfl, Nat.le_of_ble_eq_true rfl⟩ (Nat.le_of_ble_eq_true rfl) ⟨(by first | exact Nat.le_of_ble_eq_true rfl | (dsimp only [rmk]; omega) | omega), (by first | exact Nat.le_of_ble_eq_true rfl | (dsimp only [rmk]; omega) | omega)⟩ (fun v36 G36 h36 => ?_)
  obtain ⟨rfl, l3, g3⟩ := h36
  have f3 := (FR.new (ts := [2]) n32).tr g3
  have o3 := f3 _ _ hG2x.1 (by simp)
  have r3a : FR cT G0 G36 := r2.tr (f3.wk (by simp))
  replace t0 := t0.fr f3 (by simp)
  replace t1 := t1.fr f3 (by simp)
  replace t2 := t2.fr f3 (by simp)
  refine ww_to (Γ' := P1 xh 1 0 [.ref e0, .ref e1, .ref e2, .null, .int (iI 0), .null, .int (iI 0), .null, .null, .long (lI 0)] G36) (fun G hG => by rw [hG]; exact P1.rf o3) ?_
  refine r_putF (pc := 39) (k := 3) (ci := 0) (ty := .object "java/util/ArrayList") C dX0_init_39 (fun G hG => ⟨_, (by decide), hG.1, hG.put⟩) (show vwC[0]? = some (RX0, TX0, 10) from rfl) in_X0 tyX0 tyX0_ok nmX0 (by decide) (C.t _ q278) (fun _ h => h) rfl rfl rfl (by decide +kernel) rfl rfl (Nat.le_of_ble_eq_true rfl) ?_
  refine ww_all (fun G3x hG3x => ?_)
  have p3 : FR [1] G36 G3x := hG3x.fr o3 (by simp)
  have r3 : FR cT G0 G3x := r3a.tr (p3.wk (by simp))
  replace t0 := t0.fr p3 (by simp)
  replace t1 := t1.fr p3 (by simp)
  replace t2 := t2.fr p3 (by simp)
  replace l3 := l3.fr p3 (by simp) (by simp)
  refine r_aload_n (pc := 42) C dX0_init_42 rfl rfl ?_
  refine r_newE (pc := 43) (ci := 9) (fs := [.null, .int (iI 0), .int (iI 0), .int (iI 0)]) 4 C dX0_init_43 (show vwC[9]? = some (RJ8, TJ8, 4) from rfl) in_J8 tyJ8 tyJ8_ok q244 q245 q91 (by decide +kernel) (by first | exact Nat.le_of_ble_eq_true rfl | (dsimp only [rmk]; omega) | omega) (by first | exact Nat.le_of_ble_eq_true rfl | (dsimp only [rmk]; omega) | omega) (fun a43 n43 => ?_)
  refine r_dup (pc := 46) C dX0_init_46 rfl ?_
  refine r_bipushZ (pc := 47) C dX0_init_47 (by decide) ?_
  refine r_invI (pc := 49) 1 C dX0_init_49 (jb_init 20 (gup_eq _ _ _) (by decide) (by decide)) rfl (lw_meth q248) q91 q246 q247 rfl (by decide +kernel) rfl rfl ⟨Nat.le_of_ble_eq_true rfl, Nat.le_of_ble_eq_true rfl⟩ (Nat.le_of_ble_eq_true rfl) ⟨(by first | exact Nat.le_of_ble_eq_true rfl | (dsimp only [rmk]; omega) | omega), (by first | exact Nat.le_of_ble_eq_true rfl | (dsimp only [rmk]; omega) | omega)⟩ (fun v49 G49 h49 => ?_)
  obtain ⟨rfl, l5, g5⟩ := h49
  have f5 := (FR.new (ts := [4]) n43).tr g5
  have o5 := f5 _ _ hG3x.1 (by simp)
  have r5a : FR cT G0 G49 := r3.tr (f5.wk (by simp))
  replace t0 := t0.fr f5 (by simp)
  replace t1 := t1.fr f5 (by simp)
  replace t2 := t2.fr f5 (by simp)
  replace l3 := l3.fr f5 (by simp) (by simp)
  refine ww_to (Γ' := P1 xh 1 0 [.ref e0, .ref e1, .ref e2, .ref a32, .int (iI 0), .null, .int (iI 0), .null, .null, .long (lI 0)] G49) (fun G hG => by rw [hG]; exact P1.rf o5) ?_
  refine r_putF (pc := 52) (k := 5) (ci := 0) (ty := .object "java/lang/StringBuilder") C dX0_init_52 (fun G hG => ⟨_, (by decide), hG.1, hG.put⟩) (show vwC[0]? = some (RX0, TX0, 10) from rfl) in_X0 tyX0 tyX0_ok nmX0 (by decide) (C.t _ q280) (fun _ h => h) rfl rfl rfl (by decide +kernel) rfl rfl (Nat.le_of_ble_eq_true rfl) ?_
  refine ww_all (fun G5x hG5x => ?_)
  have p5 : FR [1] G49 G5x := hG5x.fr o5 (by simp)
  have r5 : FR cT G0 G5x := r5a.tr (p5.wk (by simp))
  replace t0 := t0.fr p5 (by simp)
  replace t1 := t1.fr p5 (by simp)
  replace t2 := t2.fr p5 (by simp)
  replace l3 := l3.fr p5 (by simp) (by simp)
  replace l5 := l5.fr p5 (by simp)
  refine r_aload_n (pc := 55) C dX0_init_55 rfl rfl ?_
  refine r_newE (pc := 56) (ci := 8) (fs := [.int (iI 0), .null, .int (iI 0)]) 5 C dX0_init_56 (show vwC[8]? = some (RJ6, TJ6, 3) from rfl) in_J6 tyJ6 tyJ6_ok q218 q219 q89 (by decide +kernel) (by first | exact Nat.le_of_ble_eq_true rfl | (dsimp only [rmk]; omega) | omega) (by first | exact Nat.le_of_ble_eq_true rfl | (dsimp only [rmk]; omega) | omega) (fun a56 n56 => ?_)
  refine r_dup (pc := 59) C dX0_init_59 rfl ?_
  refine r_invI (pc := 60) 0 C dX0_init_60 (jl_init (gup_eq _ _ _) (by decide) (FR.new (ts := [5]) n56 _ _ (r5 _ _ z0 (by simp)) (by simp))) rfl (lw_meth q222) q89 q220 q221 rfl (by decide +kernel) rfl rfl ⟨Nat.le_of_ble_eq_true rfl, Nat.le_of_ble_eq_true rfl⟩ (Nat.le_of_ble_eq_true rfl) ⟨(by first | exact Nat.le_of_ble_eq_true rfl | (dsimp only [rmk]; omega) | omega), (by first | exact Nat.le_of_ble_eq_true rfl | (dsimp only [rmk]; omega) | omega)⟩ (fun v60 G60 h60 => ?_)
  obtain ⟨rfl, l7, g7⟩ := h60
  have f7 := (FR.new (ts := [5]) n56).tr g7
  have o7 := f7 _ _ hG5x.1 (by simp)
  have r7a : FR cT G0 G60 := r5.tr (f7.wk (by simp))
  replace t0 := t0.fr f7 (by simp)
  replace t1 := t1.fr f7 (by simp)
  replace t2 := t2.fr f7 (by simp)
  replace l3 := l3.fr f7 (by simp) (by simp)
  replace l5 := l5.fr f7 (by simp)
  refine ww_to (Γ' := P1 xh 1 0 [.ref e0, .ref e1, .ref e2, .ref a32, .int (iI 0), .ref a43, .int (iI 0), .null, .null, .long (lI 0)] G60) (fun G hG => by rw [hG]; exact P1.rf o7) ?_
  refine r_putF (pc := 63) (k := 7) (ci := 0) (ty := .object "java/util/ArrayList") C dX0_init_63 (fun G hG => ⟨_, (by decide), hG.1, hG.put⟩) (show vwC[0]? = some (RX0, TX0, 10) from rfl) in_X0 tyX0 tyX0_ok nmX0 (by decide) (C.t _ q283) (fun _ h => h) rfl rfl rfl (by decide +kernel) rfl rfl (Nat.le_of_ble_eq_true rfl) ?_
  refine ww_all (fun G7x hG7x => ?_)
  have p7 : FR [1] G60 G7x := hG7x.fr o7 (by simp)
  have r7 : FR cT G0 G7x := r7a.tr (p7.wk (by simp))
  replace t0 := t0.fr p7 (by simp)
  replace t1 := t1.fr p7 (by simp)
  replace t2 := t2.fr p7 (by simp)
  replace l3 := l3.fr p7 (by simp) (by simp)
  replace l5 := l5.fr p7 (by simp)
  replace l7 := l7.fr p7 (by simp) (by simp)
  refine r_aload_n (pc := 66) C dX0_init_66 rfl rfl ?_
  refine r_newE (pc := 67) (ci := 8) (fs := [.int (iI 0), .null, .int (iI 0)]) 7 C dX0_init_67 (show vwC[8]? = some (RJ6, TJ6, 3) from rfl) in_J6 tyJ6 tyJ6_ok q218 q219 q89 (by decide +kernel) (by first | exact Nat.le_of_ble_eq_true rfl | (dsimp only [rmk]; omega) | omega) (by first | exact Nat.le_of_ble_eq_true rfl | (dsimp only [rmk]; omega) | omega) (fun a67 n67 => ?_)
  refine r_dup (pc := 70) C dX0_init_70 rfl ?_
  refine r_invI (pc := 71) 0 C dX0_init_71 (jl_init (gup_eq _ _ _) (by decide) (FR.new (ts := [7]) n67 _ _ (r7 _ _ z0 (by simp)) (by simp))) rfl (lw_meth q222) q89 q220 q221 rfl (by decide +kernel) rfl rfl ⟨Nat.le_of_ble_eq_true rfl, Nat.le_of_ble_eq_true rfl⟩ (Nat.le_of_ble_eq_true rfl) ⟨(by first | exact Nat.le_of_ble_eq_true rfl | (dsimp only [rmk]; omega) | omega), (by first | exact Nat.le_of_ble_eq_true rfl | (dsimp only [rmk]; omega) | omega)⟩ (fun v71 G71 h71 => ?_)
  obtain ⟨rfl, l8, g8⟩ := h71
  have f8 := (FR.new (ts := [7]) n67).tr g8
  have o8 := f8 _ _ hG7x.1 (by simp)
  have r8a : FR cT G0 G71 := r7.tr (f8.wk (by simp))
  replace t0 := t0.fr f8 (by simp)
  replace t1 := t1.fr f8 (by simp)
  replace t2 := t2.fr f8 (by simp)
  replace l3 := l3.fr f8 (by simp) (by simp)
  replace l5 := l5.fr f8 (by simp)
  replace l7 := l7.fr f8 (by simp) (by simp)
  refine ww_to (Γ' := P1 xh 1 0 [.ref e0, .ref e1, .ref e2, .ref a32, .int (iI 0), .ref a43, .int (iI 0), .ref a56, .null, .long (lI 0)] G71) (fun G hG => by rw [hG]; exact P1.rf o8) ?_
  refine r_putF (pc := 74) (k := 8) (ci := 0) (ty := .object "java/util/ArrayList") C dX0_init_74 (fun G hG => ⟨_, (by decide), hG.1, hG.put⟩) (show vwC[0]? = some (RX0, TX0, 10) from rfl) in_X0 tyX0 tyX0_ok nmX0 (by decide) (C.t _ q284) (fun _ h => h) rfl rfl rfl (by decide +kernel) rfl rfl (Nat.le_of_ble_eq_true rfl) ?_
  refine ww_all (fun G8x hG8x => ?_)
  have p8 : FR [1] G71 G8x := hG8x.fr o8 (by simp)
  have r8 : FR cT G0 G8x := r8a.tr (p8.wk (by simp))
  replace t0 := t0.fr p8 (by simp)
  replace t1 := t1.fr p8 (by simp)
  replace t2 := t2.fr p8 (by simp)
  replace l3 := l3.fr p8 (by simp) (by simp)
  replace l5 := l5.fr p8 (by simp)
  replace l7 := l7.fr p8 (by simp) (by simp)
  replace l8 := l8.fr p8 (by simp) (by simp)
  exact r_vret (pc := 77) C hQ dX0_init_77 (by first | exact Nat.le_of_ble_eq_true rfl | (dsimp only [rmk]; omega) | omega) (by first | exact Nat.le_of_ble_eq_true rfl | (dsimp only [rmk]; omega) | omega) (fun G hG => (by cases hG; refine ⟨rfl, ⟨(fun j => [e0, e1, e2, a32, 0, a43, 0, a56, a67].getD j 0), 0, [], 0, [], 0, [], 0, ⟨hG8x.1, t0, t1, t2⟩, K.fr r8 (by simp), ⟨l3, Or.inl rfl, ⟨rfl, (fun k hk => absurd hk (Nat.not_lt_zero _)), (fun i j hi => absurd hi (Nat.not_lt_zero _))⟩, Nat.zero_le _, (fun k hk => absurd hk (Nat.not_lt_zero _))⟩, ⟨l5, fun c hc => absurd hc (List.not_mem_nil)⟩, ⟨l7, Nat.zero_le _, ?_⟩, ⟨l8, Nat.zero_le _, ?_⟩, Or.inl rfl⟩, r8⟩; exact ⟨rfl, (fun k hk => absurd hk (Nat.not_lt_zero _)), (fun i j hi => absurd hi (Nat.not_lt_zero _))⟩; exact ⟨rfl, (fun k hk => absurd hk (Nat.not_lt_zero _))⟩))

