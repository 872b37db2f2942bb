/-! the component: roads are told -/
set_option maxRecDepth 100000
set_option maxHeartbeats 800000 in
theorem xo_isRoad {la : Launch} {X : XE} {G0 : Gh} {xh : Nat} {x : AS} {A : Nat → Nat} {dr : Int} {rls : List Nat} {rm : Nat} {fls : List Nat} {fm : Nat} {cls : List Nat} {cm : Nat} (h : CW X G0 xh x A dr rls rm fls fm cls cm) (r : Int) (hr : i32 r) : MG la X yX0_isRoad cX0_isRoad 2 (some .boolean) (rmk 1 0 0 22) [.ref xh, .int (iI r)] (fun G => G = G0) (fun zv G => zv = some (.int (iI (b2 (0 ≤ r ∧ r ≤ (x.ws.length : Int) - 1)))) ∧ G = G0) := by
  refine MG.of (by decide +kernel) (Nat.le_of_ble_eq_true rfl) ?_
  intro Z C hX hL hQ
  subst hX; subst hL
  change WW Z 2 (fun G => G = G0) 0 0 0 [some (.ref xh), some (.int (iI r))] []
  refine r_iload_n (pc := 0) C dX0_isRoad_0 rfl rfl ?_
  refine r_iconstZ (pc := 1) C dX0_isRoad_1 ?_
  refine r_aload_n (pc := 2) C dX0_isRoad_2 rfl rfl ?_
  refine r_get (pc := 3) (k := 3) (ci := 0) C dX0_isRoad_3 (g1 h.ob) (show vwC[0]? = some (RX0, TX0, 10) from rfl) in_X0 (by decide) (C.t _ q278) (fun _ h => h) rfl ?_
  refine r_invV (pc := 6) (ci := 8) 0 C dX0_isRoad_6 (jl_size h.rl) (gLs h.rl) (show vwC[8]? = some (RJ6, TJ6, 3) from rfl) rfl (lw_V q580 q581 q582 q89 q583) (by decide +kernel) rfl rfl ⟨Nat.le_of_ble_eq_true rfl, Nat.le_of_ble_eq_true rfl⟩ (Nat.le_of_ble_eq_true rfl) ⟨Nat.le_of_ble_eq_true rfl, Nat.le_of_ble_eq_true rfl⟩ (rd_k ?_)
  rw [h.rn]
  refine r_iconstZ (pc := 9) C dX0_isRoad_9 ?_
  refine r_isubZ (pc := 10) C dX0_isRoad_10 ?_
  refine r_invP (pc := 11) 3 C dX0_isRoad_11 (xf_in r 0 ((x.ws.length : Int) - 1) hr i32_0 (by have := h.rk.1; unfold i32; omega)) rfl (lw_S q311 q312 q81 q313) (by decide +kernel) rfl rfl ⟨Nat.le_of_ble_eq_true rfl, Nat.le_of_ble_eq_true rfl⟩ (Nat.le_of_ble_eq_true rfl) ⟨Nat.le_of_ble_eq_true rfl, Nat.le_of_ble_eq_true rfl⟩ ?_
  exact r_zret (pc := 14) C hQ dX0_isRoad_14 (by first | exact b2_nar _ | decide) (Nat.le_of_ble_eq_true rfl) (Nat.le_of_ble_eq_true rfl) (fun G hG => ⟨rfl, hG⟩)
set_option maxHeartbeats 800000 in
theorem xo_roadTold {la : Launch} {X : XE} {G0 : Gh} {xh a t : Nat} {w : List Bool} (k : Int) (hR : ROAD G0 xh a t w) (hw : 0 < w.length ∧ w.length ≤ 20) (hk : 0 ≤ k ∧ k ≤ 9) : MG la X yX0_roadTold cX0_roadTold 3 (some .int) (rmk 9 16 192 215) [.ref xh, .ref a, .int (iI k)] (fun G => G = G0) (fun v G => v = some (.int (iI (wTold w k))) ∧ FR [9] G0 G) := by
  refine MG.of (by decide +kernel) (Nat.le_of_ble_eq_true rfl) ?_
  intro Z C hX hL hQ
  subst hX; subst hL
  change WW Z 3 (fun G => G = G0) 0 0 0 [some (.ref xh), some (.ref a), some (.int (iI k))] []
  obtain ⟨s, tb, k1, k2, k3⟩ := id hR
  refine r_iload_n (pc := 0) C dX0_roadTold_0 rfl rfl ?_
  refine r_tcase 0 (fun h1 => ?_) (fun h1_0 => ?_)
  · refine r_tableInZ (pc := 1) (off := 51) (tgt := 52) C dX0_roadTold_1 (by unfold i32; omega) (by omega) (by omega) (by rw [h1]; rfl) (by decide) ?_
    refine r_aload_n (pc := 52) C dX0_roadTold_52 rfl rfl ?_
    refine r_invD (pc := 53) (ci := 4) (owner := "RiverWords$Worded") (x2 := ⟨"RiverWords$Road", "length", "()I"⟩) 0 C dX0_roadTold_53 (xr_length hR) (g2 k1) (show vwC[4]? = some (RX4, TX4, 3) from rfl) rfl (lw_meth q690) q100 q688 (by decide +kernel) (by decide +kernel) (by decide +kernel) (by decide +kernel) (by decide +kernel) rfl rfl ⟨Nat.le_of_ble_eq_true rfl, Nat.le_of_ble_eq_true rfl⟩ (Nat.le_of_ble_eq_true rfl) ⟨(by first | exact Nat.le_of_ble_eq_true rfl | (dsimp only [rmk]; omega) | omega), (by first | exact Nat.le_of_ble_eq_true rfl | (dsimp only [rmk]; omega) | omega)⟩ (rd_k ?_)
    refine r_goto (pc := 56) (tgt := 174) C dX0_roadTold_56 (by decide) ?_
    try rw [← bi_b2]
    exact r_iret (pc := 174) C hQ dX0_roadTold_174 (by first | exact Nat.le_of_ble_eq_true rfl | (dsimp only [rmk]; omega) | omega) (by first | exact Nat.le_of_ble_eq_true rfl | (dsimp only [rmk]; omega) | omega) (fun G hG => (by cases hG; refine ⟨?_, by first | exact FR.rf | exact q2.tr q3 | exact (q2.tr q4).tr q5⟩; unfold wTold; first | (rw [if_pos h1]; done) | (rw [if_neg (by omega), if_pos h1]; done) | (rw [if_neg (by omega), if_neg (by omega), if_pos h1]; done) | (rw [if_neg (by omega), if_neg (by omega), if_neg (by omega), if_pos h1]; done) | (rw [if_neg (by omega), if_neg (by omega), if_neg (by omega), if_neg (by omega), if_pos h1]; done) | (rw [if_neg (by omega), if_neg (by omega), if_neg (by omega), if_neg (by omega), if_neg (by omega), if_pos h1]; rfl) | (rw [if_neg (by omega), if_neg (by omega), if_neg (by omega), if_neg (by omega), if_neg (by omega), if_neg (by omega), if_pos h1]; done) | (rw [if_neg (by omega), if_neg (by omega), if_neg (by omega), if_neg (by omega), if_neg (by omega), if_neg (by omega), if_neg (by omega), if_pos h1]; done) | (rw [if_neg (by omega), if_neg (by omega), if_neg (by omega), if_neg (by omega), if_neg (by omega), if_neg (by omega), if_neg (by omega), if_neg (by omega), if_pos h1]; done) | (rw [if_neg (by omega), if_neg (by omega), if_neg (by omega), if_neg (by omega), if_neg (by omega), if_neg (by omega), if_neg (by omega), if_neg (by omega), if_neg (by omega)]; done)))
  refine r_tcase 1 (fun h1 => ?_) (fun h1_1 => ?_)
  · refine r_tableInZ (pc := 1) (off := 58) (tgt := 59) C dX0_roadTold_1 (by unfold i32; omega) (by omega) (by omega) (by rw [h1]; rfl) (by decide) ?_
    refine r_aload_n (pc := 59) C dX0_roadTold_59 rfl rfl ?_
    refine r_bipushZ (pc := 60) C dX0_roadTold_60 (by decide) ?_
    rw [show (76 : Int) = codeB false from rfl]
    refine r_invD (pc := 62) (ci := 4) (owner := "RiverWords$Worded") (x2 := ⟨"RiverWords$Road", "many", "(C)I"⟩) 1 C dX0_roadTold_62 (xr_many false hR (by omega)) (g2 k1) (show vwC[4]? = some (RX4, TX4, 3) from rfl) rfl (lw_meth q713) q100 q711 (by decide +kernel) (by decide +kernel) (by decide +kernel) (by decide +kernel) (by decide +kernel) rfl rfl ⟨Nat.le_of_ble_eq_true rfl, Nat.le_of_ble_eq_true rfl⟩ (Nat.le_of_ble_eq_true rfl) ⟨(by first | exact Nat.le_of_ble_eq_true rfl | (dsimp only [rmk]; omega) | omega), (by first | exact Nat.le_of_ble_eq_true rfl | (dsimp only [rmk]; omega) | omega)⟩ (rd_k ?_)
    rw [many_L]
    refine r_goto (pc := 65) (tgt := 174) C dX0_roadTold_65 (by decide) ?_
    try rw [← bi_b2]
    exact r_iret (pc := 174) C hQ dX0_roadTold_174 (by first | exact Nat.le_of_ble_eq_true rfl | (dsimp only [rmk]; omega) | omega) (by first | exact Nat.le_of_ble_eq_true rfl | (dsimp only [rmk]; omega) | omega) (fun G hG => (by cases hG; refine ⟨?_, by first | exact FR.rf | exact q2.tr q3 | exact (q2.tr q4).tr q5⟩; unfold wTold; first | (rw [if_pos h1]; done) | (rw [if_neg (by omega), if_pos h1]; done) | (rw [if_neg (by omega), if_neg (by omega), if_pos h1]; done) | (rw [if_neg (by omega), if_neg (by omega), if_neg (by omega), if_pos h1]; done) | (rw [if_neg (by omega), if_neg (by omega), if_neg (by omega), if_neg (by omega), if_pos h1]; done) | (rw [if_neg (by omega), if_neg (by omega), if_neg (by omega), if_neg (by omega), if_neg (by omega), if_pos h1]; rfl) | (rw [if_neg (by omega), if_neg (by omega), if_neg (by omega), if_neg (by omega), if_neg (by omega), if_neg (by omega), if_pos h1]; done) | (rw [if_neg (by omega), if_neg (by omega), if_neg (by omega), if_neg (by omega), if_neg (by omega), if_neg (by omega), if_neg (by omega), if_pos h1]; done) | (rw [if_neg (by omega), if_neg (by omega), if_neg (by omega), if_neg (by omega), if_neg (by omega), if_neg (by omega), if_neg (by omega), if_neg (by omega), if_pos h1]; done) | (rw [if_neg (by omega), if_neg (by omega), if_neg (by omega), if_neg (by omega), if_neg (by omega), if_neg (by omega), if_neg (by omega), if_neg (by omega), if_neg (by omega)]; done)))
  refine r_tcase 2 (fun h1 => ?_) (fun h1_2 => ?_)
  · refine r_tableInZ (pc := 1) (off := 67) (tgt := 68) C dX0_roadTold_1 (by unfold i32; omega) (by omega) (by omega) (by rw [h1]; rfl) (by decide) ?_
    refine r_aload_n (pc := 68) C dX0_roadTold_68 rfl rfl ?_
    refine r_bipushZ (pc := 69) C dX0_roadTold_69 (by decide) ?_
    rw [show (82 : Int) = codeB true from rfl]
    refine r_invD (pc := 71) (ci := 4) (owner := "RiverWords$Worded") (x2 := ⟨"RiverWords$Road", "many", "(C)I"⟩) 1 C dX0_roadTold_71 (xr_many true hR (by omega)) (g2 k1) (show vwC[4]? = some (RX4, TX4, 3) from rfl) rfl (lw_meth q713) q100 q711 (by decide +kernel) (by decide +kernel) (by decide +kernel) (by decide +kernel) (by decide +kernel) rfl rfl ⟨Nat.le_of_ble_eq_true rfl, Nat.le_of_ble_eq_true rfl⟩ (Nat.le_of_ble_eq_true rfl) ⟨(by first | exact Nat.le_of_ble_eq_true rfl | (dsimp only [rmk]; omega) | omega), (by first | exact Nat.le_of_ble_eq_true rfl | (dsimp only [rmk]; omega) | omega)⟩ (rd_k ?_)
    rw [many_R]
    refine r_goto (pc := 74) (tgt := 174) C dX0_roadTold_74 (by decide) ?_
    try rw [← bi_b2]
    exact r_iret (pc := 174) C hQ dX0_roadTold_174 (by first | exact Nat.le_of_ble_eq_true rfl | (dsimp only [rmk]; omega) | omega) (by first | exact Nat.le_of_ble_eq_true rfl | (dsimp only [rmk]; omega) | omega) (fun G hG => (by cases hG; refine ⟨?_, by first | exact FR.rf | exact q2.tr q3 | exact (q2.tr q4).tr q5⟩; unfold wTold; first | (rw [if_pos h1]; done) | (rw [if_neg (by omega), if_pos h1]; done) | (rw [if_neg (by omega), if_neg (by omega), if_pos h1]; done) | (rw [if_neg (by omega), if_neg (by omega), if_neg (by omega), if_pos h1]; done) | (rw [if_neg (by omega), if_neg (by omega), if_neg (by omega), if_neg (by omega), if_pos h1]; done) | (rw [if_neg (by omega), if_neg (by omega), if_neg (by omega), if_neg (by omega), if_neg (by omega), if_pos h1]; rfl) | (rw [if_neg (by omega), if_neg (by omega), if_neg (by omega), if_neg (by omega), if_neg (by omega), if_neg (by omega), if_pos h1]; done) | (rw [if_neg (by omega), if_neg (by omega), if_neg (by omega), if_neg (by omega), if_neg (by omega), if_neg (by omega), if_neg (by omega), if_pos h1]; done) | (rw [if_neg (by omega), if_neg (by omega), if_neg (by omega), if_neg (by omega), if_neg (by omega), if_neg (by omega), if_neg (by omega), if_neg (by omega), if_pos h1]; done) | (rw [if_neg (by omega), if_neg (by omega), if_neg (by omega), if_neg (by omega), if_neg (by omega), if_neg (by omega), if_neg (by omega), if_neg (by omega), if_neg (by omega)]; done)))
  refine r_tcase 3 (fun h1 => ?_) (fun h1_3 => ?_)
  · refine r_tableInZ (pc := 1) (off := 76) (tgt := 77) C dX0_roadTold_1 (by unfold i32; omega) (by omega) (by omega) (by rw [h1]; rfl) (by decide) ?_
    refine r_aload_n (pc := 77) C dX0_roadTold_77 rfl rfl ?_
    refine r_invV (pc := 78) (ci := 4) 0 C dX0_roadTold_78 (xr_period hR hw) (g2 k1) (show vwC[4]? = some (RX4, TX4, 3) from rfl) rfl (lw_V q729 q730 q731 q98 q732) (by decide +kernel) rfl rfl ⟨Nat.le_of_ble_eq_true rfl, Nat.le_of_ble_eq_true rfl⟩ (Nat.le_of_ble_eq_true rfl) ⟨(by first | exact Nat.le_of_ble_eq_true rfl | (dsimp only [rmk]; omega) | omega), (by first | exact Nat.le_of_ble_eq_true rfl | (dsimp only [rmk]; omega) | omega)⟩ (rd_k ?_)
    refine r_goto (pc := 81) (tgt := 174) C dX0_roadTold_81 (by decide) ?_
    try rw [← bi_b2]
    exact r_iret (pc := 174) C hQ dX0_roadTold_174 (by first | exact Nat.le_of_ble_eq_true rfl | (dsimp only [rmk]; omega) | omega) (by first | exact Nat.le_of_ble_eq_true rfl | (dsimp only [rmk]; omega) | omega) (fun G hG => (by cases hG; refine ⟨?_, by first | exact FR.rf | exact q2.tr q3 | exact (q2.tr q4).tr q5⟩; unfold wTold; first | (rw [if_pos h1]; done) | (rw [if_neg (by omega), if_pos h1]; done) | (rw [if_neg (by omega), if_neg (by omega), if_pos h1]; done) | (rw [if_neg (by omega), if_neg (by omega), if_neg (by omega), if_pos h1]; done) | (rw [if_neg (by omega), if_neg (by omega), if_neg (by omega), if_neg (by omega), if_pos h1]; done) | (rw [if_neg (by omega), if_neg (by omega), if_neg (by omega), if_neg (by omega), if_neg (by omega), if_pos h1]; rfl) | (rw [if_neg (by omega), if_neg (by omega), if_neg (by omega), if_neg (by omega), if_neg (by omega), if_neg (by omega), if_pos h1]; done) | (rw [if_neg (by omega), if_neg (by omega), if_neg (by omega), if_neg (by omega), if_neg (by omega), if_neg (by omega), if_neg (by omega), if_pos h1]; done) | (rw [if_neg (by omega), if_neg (by omega), if_neg (by omega), if_neg (by omega), if_neg (by omega), if_neg (by omega), if_neg (by omega), if_neg (by omega), if_pos h1]; done) | (rw [if_neg (by omega), if_neg (by omega), if_neg (by omega), if_neg (by omega), if_neg (by omega), if_neg (by omega), if_neg (by omega), if_neg (by omega), if_neg (by omega)]; done)))
  refine r_tcase 4 (fun h1 => ?_) (fun h1_4 => ?_)
  · refine r_tableInZ (pc := 1) (off := 83) (tgt := 84) C dX0_roadTold_1 (by unfold i32; omega) (by omega) (by omega) (by rw [h1]; rfl) (by decide) ?_
    refine r_aload_n (pc := 84) C dX0_roadTold_84 rfl rfl ?_
    refine r_getN (pc := 85) (k := 0) (ci := 4) C dX0_roadTold_85 (g1 k1) (show vwC[4]? = some (RX4, TX4, 3) from rfl) in_X4 (by decide) (C.nf (h1 := "RiverWords") (by decide +kernel)) (fun _ h => h) rfl ?_
    refine r_invS (pc := 88) 1 C dX0_roadTold_88 (xw_least k2 hw) rfl (lw_S q737 q738 q100 q739) (by decide +kernel) rfl rfl ⟨Nat.le_of_ble_eq_true rfl, Nat.le_of_ble_eq_true rfl⟩ (Nat.le_of_ble_eq_true rfl) ⟨(by first | exact Nat.le_of_ble_eq_true rfl | (dsimp only [rmk]; omega) | omega), (by first | exact Nat.le_of_ble_eq_true rfl | (dsimp only [rmk]; omega) | omega)⟩ (rd_k ?_)
    refine r_goto (pc := 91) (tgt := 174) C dX0_roadTold_91 (by decide) ?_
    try rw [← bi_b2]
    exact r_iret (pc := 174) C hQ dX0_roadTold_174 (by first | exact Nat.le_of_ble_eq_true rfl | (dsimp only [rmk]; omega) | omega) (by first | exact Nat.le_of_ble_eq_true rfl | (dsimp only [rmk]; omega) | omega) (fun G hG => (by cases hG; refine ⟨?_, by first | exact FR.rf | exact q2.tr q3 | exact (q2.tr q4).tr q5⟩; unfold wTold; first | (rw [if_pos h1]; done) | (rw [if_neg (by omega), if_pos h1]; done) | (rw [if_neg (by omega), if_neg (by omega), if_pos h1]; done) | (rw [if_neg (by omega), if_neg (by omega), if_neg (by omega), if_pos h1]; done) | (rw [if_neg (by omega), if_neg (by omega), if_neg (by omega), if_neg (by omega), if_pos h1]; done) | (rw [if_neg (by omega), if_neg (by omega), if_neg (by omega), if_neg (by omega), if_neg (by omega), if_pos h1]; rfl) | (rw [if_neg (by omega), if_neg (by omega), if_neg (by omega), if_neg (by omega), if_neg (by omega), if_neg (by omega), if_pos h1]; done) | (rw [if_neg (by omega), if_neg (by omega), if_neg (by omega), if_neg (by omega), if_neg (by omega), if_neg (by omega), if_neg (by omega), if_pos h1]; done) | (rw [if_neg (by omega), if_neg (by omega), if_neg (by omega), if_neg (by omega), if_neg (by omega), if_neg (by omega), if_neg (by omega), if_neg (by omega), if_pos h1]; done) | (rw [if_neg (by omega), if_neg (by omega), if_neg (by omega), if_neg (by omega), if_neg (by omega), if_neg (by omega), if_neg (by omega), if_neg (by omega), if_neg (by omega)]; done)))
  refine r_tcase 5 (fun h1 => ?_) (fun h1_5 => ?_)
  · refine r_tableInZ (pc := 1) (off := 93) (tgt := 94) C dX0_roadTold_1 (by unfold i32; omega) (by omega) (by omega) (by rw [h1]; rfl) (by decide) ?_
    refine r_aload_n (pc := 94) C dX0_roadTold_94 rfl rfl ?_
    refine r_getN (pc := 95) (k := 1) (ci := 4) C dX0_roadTold_95 (g1 k1) (show vwC[4]? = some (RX4, TX4, 3) from rfl) in_X4 (by decide) (C.nf (h1 := "RiverWords") (by decide +kernel)) (fun _ h => h) rfl ?_
    refine r_invV (pc := 98) (ci := 1) 0 C dX0_roadTold_98 (xt_trace k3) (g2 k3) (show vwC[1]? = some (RX1, TX1, 4) from rfl) rfl (lw_V q741 q742 q743 q82 q744) (by decide +kernel) rfl rfl ⟨Nat.le_of_ble_eq_true rfl, Nat.le_of_ble_eq_true rfl⟩ (Nat.le_of_ble_eq_true rfl) ⟨(by first | exact Nat.le_of_ble_eq_true rfl | (dsimp only [rmk]; omega) | omega), (by first | exact Nat.le_of_ble_eq_true rfl | (dsimp only [rmk]; omega) | omega)⟩ (rd_k ?_)
    refine r_goto (pc := 101) (tgt := 174) C dX0_roadTold_101 (by decide) ?_
    try rw [← bi_b2]
    exact r_iret (pc := 174) C hQ dX0_roadTold_174 (by first | exact Nat.le_of_ble_eq_true rfl | (dsimp only [rmk]; omega) | omega) (by first | exact Nat.le_of_ble_eq_true rfl | (dsimp only [rmk]; omega) | omega) (fun G hG => (by cases hG; refine ⟨?_, by first | exact FR.rf | exact q2.tr q3 | exact (q2.tr q4).tr q5⟩; unfold wTold; first | (rw [if_pos h1]; done) | (rw [if_neg (by omega), if_pos h1]; done) | (rw [if_neg (by omega), if_neg (by omega), if_pos h1]; done) | (rw [if_neg (by omega), if_neg (by omega), if_neg (by omega), if_pos h1]; done) | (rw [if_neg (by omega), if_neg (by omega), if_neg (by omega), if_neg (by omega), if_pos h1]; done) | (rw [if_neg (by omega), if_neg (by omega), if_neg (by omega), if_neg (by omega), if_neg (by omega), if_pos h1]; rfl) | (rw [if_neg (by omega), if_neg (by omega), if_neg (by omega), if_neg (by omega), if_neg (by omega), if_neg (by omega), if_pos h1]; done) | (rw [if_neg (by omega), if_neg (by omega), if_neg (by omega), if_neg (by omega), if_neg (by omega), if_neg (by omega), if_neg (by omega), if_pos h1]; done) | (rw [if_neg (by omega), if_neg (by omega), if_neg (by omega), if_neg (by omega), if_neg (by omega), if_neg (by omega), if_neg (by omega), if_neg (by omega), if_pos h1]; done) | (rw [if_neg (by omega), if_neg (by omega), if_neg (by omega), if_neg (by omega), if_neg (by omega), if_neg (by omega), if_neg (by omega), if_neg (by omega), if_neg (by omega)]; done)))
  refine r_tcase 6 (fun h1 => ?_) (fun h1_6 => ?_)
  · refine r_tableInZ (pc := 1) (off := 103) (tgt := 104) C dX0_roadTold_1 (by unfold i32; omega) (by omega) (by omega) (by rw [h1]; rfl) (by decide) ?_
    refine r_aload_n (pc := 104) C dX0_roadTold_104 rfl rfl ?_
    refine r_invD (pc := 105) (ci := 4) (owner := "RiverWords$Worded") (x2 := ⟨"RiverWords$Road", "isClosed", "()Z"⟩) 0 C dX0_roadTold_105 (xr_isClosed hR hw.2) (g2 k1) (show vwC[4]? = some (RX4, TX4, 3) from rfl) rfl (lw_meth q749) q100 q747 (by decide +kernel) (by decide +kernel) (by decide +kernel) (by decide +kernel) (by decide +kernel) rfl rfl ⟨Nat.le_of_ble_eq_true rfl, Nat.le_of_ble_eq_true rfl⟩ (Nat.le_of_ble_eq_true rfl) ⟨(by first | exact Nat.le_of_ble_eq_true rfl | (dsimp only [rmk]; omega) | omega), (by first | exact Nat.le_of_ble_eq_true rfl | (dsimp only [rmk]; omega) | omega)⟩ (rd_k ?_)
    rw [bi_b2]
    refine r_invP (pc := 108) 1 C dX0_roadTold_108 (xf_truth (wClosed w = true)) rfl (lw_S q754 q755 q81 q756) (by decide +kernel) rfl rfl ⟨Nat.le_of_ble_eq_true rfl, Nat.le_of_ble_eq_true rfl⟩ (Nat.le_of_ble_eq_true rfl) ⟨(by first | exact Nat.le_of_ble_eq_true rfl | (dsimp only [rmk]; omega) | omega), (by first | exact Nat.le_of_ble_eq_true rfl | (dsimp only [rmk]; omega) | omega)⟩ ?_
    rw [← bi_b2]
    refine r_goto (pc := 111) (tgt := 174) C dX0_roadTold_111 (by decide) ?_
    try rw [← bi_b2]
    exact r_iret (pc := 174) C hQ dX0_roadTold_174 (by first | exact Nat.le_of_ble_eq_true rfl | (dsimp only [rmk]; omega) | omega) (by first | exact Nat.le_of_ble_eq_true rfl | (dsimp only [rmk]; omega) | omega) (fun G hG => (by cases hG; refine ⟨?_, by first | exact FR.rf | exact q2.tr q3 | exact (q2.tr q4).tr q5⟩; unfold wTold; first | (rw [if_pos h1]; done) | (rw [if_neg (by omega), if_pos h1]; done) | (rw [if_neg (by omega), if_neg (by omega), if_pos h1]; done) | (rw [if_neg (by omega), if_neg (by omega), if_neg (by omega), if_pos h1]; done) | (rw [if_neg (by omega), if_neg (by omega), if_neg (by omega), if_neg (by omega), if_pos h1]; done) | (rw [if_neg (by omega), if_neg (by omega), if_neg (by omega), if_neg (by omega), if_neg (by omega), if_pos h1]; rfl) | (rw [if_neg (by omega), if_neg (by omega), if_neg (by omega), if_neg (by omega), if_neg (by omega), if_neg (by omega), if_pos h1]; done) | (rw [if_neg (by omega), if_neg (by omega), if_neg (by omega), if_neg (by omega), if_neg (by omega), if_neg (by omega), if_neg (by omega), if_pos h1]; done) | (rw [if_neg (by omega), if_neg (by omega), if_neg (by omega), if_neg (by omega), if_neg (by omega), if_neg (by omega), if_neg (by omega), if_neg (by omega), if_pos h1]; done) | (rw [if_neg (by omega), if_neg (by omega), if_neg (by omega), if_neg (by omega), if_neg (by omega), if_neg (by omega), if_neg (by omega), if_neg (by omega), if_neg (by omega)]; done)))
  refine r_tcase 7 (fun h1 => ?_) (fun h1_7 => ?_)
  · refine r_tableInZ (pc := 1) (off := 113) (tgt := 114) C dX0_roadTold_1 (by unfold i32; omega) (by omega) (by omega) (by rw [h1]; rfl) (by decide) ?_
    refine r_aload_n (pc := 114) C dX0_roadTold_114 rfl rfl ?_
    refine r_getN (pc := 115) (k := 0) (ci := 4) C dX0_roadTold_115 (g1 k1) (show vwC[4]? = some (RX4, TX4, 3) from rfl) in_X4 (by decide) (C.nf (h1 := "RiverWords") (by decide +kernel)) (fun _ h => h) rfl ?_
    refine r_aload_n (pc := 118) C dX0_roadTold_118 rfl rfl ?_
    refine r_getN (pc := 119) (k := 0) (ci := 4) C dX0_roadTold_119 (g1 k1) (show vwC[4]? = some (RX4, TX4, 3) from rfl) in_X4 (by decide) (C.nf (h1 := "RiverWords") (by decide +kernel)) (fun _ h => h) rfl ?_
    refine r_invS (pc := 122) 1 C dX0_roadTold_122 (xw_back k2 hw) rfl (lw_S q757 q758 q100 q759) (by decide +kernel) rfl rfl ⟨Nat.le_of_ble_eq_true rfl, Nat.le_of_ble_eq_true rfl⟩ (Nat.le_of_ble_eq_true rfl) ⟨(by first | exact Nat.le_of_ble_eq_true rfl | (dsimp only [rmk]; omega) | omega), (by first | exact Nat.le_of_ble_eq_true rfl | (dsimp only [rmk]; omega) | omega)⟩ (fun v122 G122 h122 => ?_)
    obtain ⟨y, rfl, q1, q2⟩ := h122
    refine r_invS (pc := 125) 2 C dX0_roadTold_125 (xw_isAlike (k2.fr q2 (by decide)) q1 hw (by rw [wOther_len]; exact hw)) rfl (lw_S q764 q765 q100 q766) (by decide +kernel) rfl rfl ⟨Nat.le_of_ble_eq_true rfl, Nat.le_of_ble_eq_true rfl⟩ (Nat.le_of_ble_eq_true rfl) ⟨(by first | exact Nat.le_of_ble_eq_true rfl | (dsimp only [rmk]; omega) | omega), (by first | exact Nat.le_of_ble_eq_true rfl | (dsimp only [rmk]; omega) | omega)⟩ (fun v125 G125 h125 => ?_)
    obtain ⟨rfl, q3⟩ := h125
    rw [bi_b2]
    refine r_invP (pc := 128) 1 C dX0_roadTold_128 (xf_truth (wAlike w (wOther w true false) = true)) rfl (lw_S q754 q755 q81 q756) (by decide +kernel) rfl rfl ⟨Nat.le_of_ble_eq_true rfl, Nat.le_of_ble_eq_true rfl⟩ (Nat.le_of_ble_eq_true rfl) ⟨(by first | exact Nat.le_of_ble_eq_true rfl | (dsimp only [rmk]; omega) | omega), (by first | exact Nat.le_of_ble_eq_true rfl | (dsimp only [rmk]; omega) | omega)⟩ ?_
    rw [← bi_b2]
    refine r_goto (pc := 131) (tgt := 174) C dX0_roadTold_131 (by decide) ?_
    try rw [← bi_b2]
    exact r_iret (pc := 174) C hQ dX0_roadTold_174 (by first | exact Nat.le_of_ble_eq_true rfl | (dsimp only [rmk]; omega) | omega) (by first | exact Nat.le_of_ble_eq_true rfl | (dsimp only [rmk]; omega) | omega) (fun G hG => (by cases hG; refine ⟨?_, by first | exact FR.rf | exact q2.tr q3 | exact (q2.tr q4).tr q5⟩; unfold wTold; first | (rw [if_pos h1]; done) | (rw [if_neg (by omega), if_pos h1]; done) | (rw [if_neg (by omega), if_neg (by omega), if_pos h1]; done) | (rw [if_neg (by omega), if_neg (by omega), if_neg (by omega), if_pos h1]; done) | (rw [if_neg (by omega), if_neg (by omega), if_neg (by omega), if_neg (by omega), if_pos h1]; done) | (rw [if_neg (by omega), if_neg (by omega), if_neg (by omega), if_neg (by omega), if_neg (by omega), if_pos h1]; rfl) | (rw [if_neg (by omega), if_neg (by omega), if_neg (by omega), if_neg (by omega), if_neg (by omega), if_neg (by omega), if_pos h1]; done) | (rw [if_neg (by omega), if_neg (by omega), if_neg (by omega), if_neg (by omega), if_neg (by omega), if_neg (by omega), if_neg (by omega), if_pos h1]; done) | (rw [if_neg (by omega), if_neg (by omega), if_neg (by omega), if_neg (by omega), if_neg (by omega), if_neg (by omega), if_neg (by omega), if_neg (by omega), if_pos h1]; done) | (rw [if_neg (by omega), if_neg (by omega), if_neg (by omega), if_neg (by omega), if_neg (by omega), if_neg (by omega), if_neg (by omega), if_neg (by omega), if_neg (by omega)]; done)))
  refine r_tcase 8 (fun h1 => ?_) (fun h1_8 => ?_)
  · refine r_tableInZ (pc := 1) (off := 133) (tgt := 134) C dX0_roadTold_1 (by unfold i32; omega) (by omega) (by omega) (by rw [h1]; rfl) (by decide) ?_
    refine r_aload_n (pc := 134) C dX0_roadTold_134 rfl rfl ?_
    refine r_getN (pc := 135) (k := 0) (ci := 4) C dX0_roadTold_135 (g1 k1) (show vwC[4]? = some (RX4, TX4, 3) from rfl) in_X4 (by decide) (C.nf (h1 := "RiverWords") (by decide +kernel)) (fun _ h => h) rfl ?_
    refine r_aload_n (pc := 138) C dX0_roadTold_138 rfl rfl ?_
    refine r_getN (pc := 139) (k := 0) (ci := 4) C dX0_roadTold_139 (g1 k1) (show vwC[4]? = some (RX4, TX4, 3) from rfl) in_X4 (by decide) (C.nf (h1 := "RiverWords") (by decide +kernel)) (fun _ h => h) rfl ?_
    refine r_invS (pc := 142) 1 C dX0_roadTold_142 (xw_mirror k2 hw) rfl (lw_S q775 q776 q100 q777) (by decide +kernel) rfl rfl ⟨Nat.le_of_ble_eq_true rfl, Nat.le_of_ble_eq_true rfl⟩ (Nat.le_of_ble_eq_true rfl) ⟨(by first | exact Nat.le_of_ble_eq_true rfl | (dsimp only [rmk]; omega) | omega), (by first | exact Nat.le_of_ble_eq_true rfl | (dsimp only [rmk]; omega) | omega)⟩ (fun v142 G142 h142 => ?_)
    obtain ⟨y, rfl, q1, q2⟩ := h142
    refine r_invS (pc := 145) 2 C dX0_roadTold_145 (xw_isAlike (k2.fr q2 (by decide)) q1 hw (by rw [wOther_len]; exact hw)) rfl (lw_S q764 q765 q100 q766) (by decide +kernel) rfl rfl ⟨Nat.le_of_ble_eq_true rfl, Nat.le_of_ble_eq_true rfl⟩ (Nat.le_of_ble_eq_true rfl) ⟨(by first | exact Nat.le_of_ble_eq_true rfl | (dsimp only [rmk]; omega) | omega), (by first | exact Nat.le_of_ble_eq_true rfl | (dsimp only [rmk]; omega) | omega)⟩ (fun v145 G145 h145 => ?_)
    obtain ⟨rfl, q3⟩ := h145
    rw [bi_b2]
    refine r_invP (pc := 148) 1 C dX0_roadTold_148 (xf_truth (wAlike w (wOther w false true) = true)) rfl (lw_S q754 q755 q81 q756) (by decide +kernel) rfl rfl ⟨Nat.le_of_ble_eq_true rfl, Nat.le_of_ble_eq_true rfl⟩ (Nat.le_of_ble_eq_true rfl) ⟨(by first | exact Nat.le_of_ble_eq_true rfl | (dsimp only [rmk]; omega) | omega), (by first | exact Nat.le_of_ble_eq_true rfl | (dsimp only [rmk]; omega) | omega)⟩ ?_
    rw [← bi_b2]
    refine r_goto (pc := 151) (tgt := 174) C dX0_roadTold_151 (by decide) ?_
    try rw [← bi_b2]
    exact r_iret (pc := 174) C hQ dX0_roadTold_174 (by first | exact Nat.le_of_ble_eq_true rfl | (dsimp only [rmk]; omega) | omega) (by first | exact Nat.le_of_ble_eq_true rfl | (dsimp only [rmk]; omega) | omega) (fun G hG => (by cases hG; refine ⟨?_, by first | exact FR.rf | exact q2.tr q3 | exact (q2.tr q4).tr q5⟩; unfold wTold; first | (rw [if_pos h1]; done) | (rw [if_neg (by omega), if_pos h1]; done) | (rw [if_neg (by omega), if_neg (by omega), if_pos h1]; done) | (rw [if_neg (by omega), if_neg (by omega), if_neg (by omega), if_pos h1]; done) | (rw [if_neg (by omega), if_neg (by omega), if_neg (by omega), if_neg (by omega), if_pos h1]; done) | (rw [if_neg (by omega), if_neg (by omega), if_neg (by omega), if_neg (by omega), if_neg (by omega), if_pos h1]; rfl) | (rw [if_neg (by omega), if_neg (by omega), if_neg (by omega), if_neg (by omega), if_neg (by omega), if_neg (by omega), if_pos h1]; done) | (rw [if_neg (by omega), if_neg (by omega), if_neg (by omega), if_neg (by omega), if_neg (by omega), if_neg (by omega), if_neg (by omega), if_pos h1]; done) | (rw [if_neg (by omega), if_neg (by omega), if_neg (by omega), if_neg (by omega), if_neg (by omega), if_neg (by omega), if_neg (by omega), if_neg (by omega), if_pos h1]; done) | (rw [if_neg (by omega), if_neg (by omega), if_neg (by omega), if_neg (by omega), if_neg (by omega), if_neg (by omega), if_neg (by omega), if_neg (by omega), if_neg (by omega)]; done)))
  refine r_tableOutZ (pc := 1) (tgt := 154) C dX0_roadTold_1 (by unfold i32; omega) (by omega) (by decide) ?_
  refine r_aload_n (pc := 154) C dX0_roadTold_154 rfl rfl ?_
  refine r_getN (pc := 155) (k := 0) (ci := 4) C dX0_roadTold_155 (g1 k1) (show vwC[4]? = some (RX4, TX4, 3) from rfl) in_X4 (by decide) (C.nf (h1 := "RiverWords") (by decide +kernel)) (fun _ h => h) rfl ?_
  refine r_aload_n (pc := 158) C dX0_roadTold_158 rfl rfl ?_
  refine r_getN (pc := 159) (k := 0) (ci := 4) C dX0_roadTold_159 (g1 k1) (show vwC[4]? = some (RX4, TX4, 3) from rfl) in_X4 (by decide) (C.nf (h1 := "RiverWords") (by decide +kernel)) (fun _ h => h) rfl ?_
  refine r_invS (pc := 162) 1 C dX0_roadTold_162 (xw_mirror k2 hw) rfl (lw_S q775 q776 q100 q777) (by decide +kernel) rfl rfl ⟨Nat.le_of_ble_eq_true rfl, Nat.le_of_ble_eq_true rfl⟩ (Nat.le_of_ble_eq_true rfl) ⟨(by first | exact Nat.le_of_ble_eq_true rfl | (dsimp only [rmk]; omega) | omega), (by first | exact Nat.le_of_ble_eq_true rfl | (dsimp only [rmk]; omega) | omega)⟩ (fun v162 G162 h162 => ?_)
  obtain ⟨y, rfl, q1, q2⟩ := h162
  refine r_invS (pc := 165) 1 C dX0_roadTold_165 (xw_back q1 (by rw [wOther_len]; exact hw)) rfl (lw_S q757 q758 q100 q759) (by decide +kernel) rfl rfl ⟨Nat.le_of_ble_eq_true rfl, Nat.le_of_ble_eq_true rfl⟩ (Nat.le_of_ble_eq_true rfl) ⟨(by first | exact Nat.le_of_ble_eq_true rfl | (dsimp only [rmk]; omega) | omega), (by first | exact Nat.le_of_ble_eq_true rfl | (dsimp only [rmk]; omega) | omega)⟩ (fun v165 G165 h165 => ?_)
  obtain ⟨y', rfl, q3, q4⟩ := h165
  rw [show wOther (wOther w false true) true false = wOther w true true by simp [wOther, List.map_reverse]] at q3
  refine r_invS (pc := 168) 2 C dX0_roadTold_168 (xw_isAlike ((k2.fr q2 (by decide)).fr q4 (by decide)) q3 hw (by rw [wOther_len]; exact hw)) rfl (lw_S q764 q765 q100 q766) (by decide +kernel) rfl rfl ⟨Nat.le_of_ble_eq_true rfl, Nat.le_of_ble_eq_true rfl⟩ (Nat.le_of_ble_eq_true rfl) ⟨(by first | exact Nat.le_of_ble_eq_true rfl | (dsimp only [rmk]; omega) | omega), (by first | exact Nat.le_of_ble_eq_true rfl | (dsimp only [rmk]; omega) | omega)⟩ (fun v168 G168 h168 => ?_)
  obtain ⟨rfl, q5⟩ := h168
  rw [bi_b2]
  refine r_invP (pc := 171) 1 C dX0_roadTold_171 (xf_truth (wAlike w (wOther w true true) = true)) rfl (lw_S q754 q755 q81 q756) (by decide +kernel) rfl rfl ⟨Nat.le_of_ble_eq_true rfl, Nat.le_of_ble_eq_true rfl⟩ (Nat.le_of_ble_eq_true rfl) ⟨(by first | exact Nat.le_of_ble_eq_true rfl | (dsimp only [rmk]; omega) | omega), (by first | exact Nat.le_of_ble_eq_true rfl | (dsimp only [rmk]; omega) | omega)⟩ ?_
  try rw [← bi_b2]
  exact r_iret (pc := 174) C hQ dX0_roadTold_174 (by first | exact Nat.le_of_ble_eq_true rfl | (dsimp only [rmk]; omega) | omega) (by first | exact Nat.le_of_ble_eq_true rfl | (dsimp only [rmk]; omega) | omega) (fun G hG => (by cases hG; refine ⟨?_, by first | exact FR.rf | exact q2.tr q3 | exact (q2.tr q4).tr q5⟩; unfold wTold; first | (rw [if_pos h1]; done) | (rw [if_neg (by omega), if_pos h1]; done) | (rw [if_neg (by omega), if_neg (by omega), if_pos h1]; done) | (rw [if_neg (by omega), if_neg (by omega), if_neg (by omega), if_pos h1]; done) | (rw [if_neg (by omega), if_neg (by omega), if_neg (by omega), if_neg (by omega), if_pos h1]; done) | (rw [if_neg (by omega), if_neg (by omega), if_neg (by omega), if_neg (by omega), if_neg (by omega), if_pos h1]; rfl) | (rw [if_neg (by omega), if_neg (by omega), if_neg (by omega), if_neg (by omega), if_neg (by omega), if_neg (by omega), if_pos h1]; done) | (rw [if_neg (by omega), if_neg (by omega), if_neg (by omega), if_neg (by omega), if_neg (by omega), if_neg (by omega), if_neg (by omega), if_pos h1]; done) | (rw [if_neg (by omega), if_neg (by omega), if_neg (by omega), if_neg (by omega), if_neg (by omega), if_neg (by omega), if_neg (by omega), if_neg (by omega), if_pos h1]; done) | (rw [if_neg (by omega), if_neg (by omega), if_neg (by omega), if_neg (by omega), if_neg (by omega), if_neg (by omega), if_neg (by omega), if_neg (by omega), if_neg (by omega)]; done)))
set_option maxHeartbeats 800000 in
theorem xo_road {la : Launch} {X : XE} {G0 : Gh} {xh : Nat} {x : AS} {A : Nat → Nat} {dr : Int} {rls : List Nat} {rm : Nat} {fls : List Nat} {fm : Nat} {cls : List Nat} {cm : Nat} (h : CW X G0 xh x A dr rls rm fls fm cls cm) (r k : Int) (hr : i32 r) (hk : i32 k) : MG la X yX0_road cX0_road 3 (some .int) (rmk 10 16 192 237) [.ref xh, .int (iI r), .int (iI k)] (fun G => G = G0) (fun v G => v = some (.int (iI (sRoad x.ws r k))) ∧ FR [9] G0 G) := by
  refine MG.of (by decide +kernel) (Nat.le_of_ble_eq_true rfl) ?_
  intro Z C hX hL hQ
  subst hX; subst hL
  change WW Z 3 (fun G => G = G0) 0 0 0 [some (.ref xh), some (.int (iI r)), some (.int (iI k))] []
  refine r_aload_n (pc := 0) C dX0_road_0 rfl rfl ?_
  refine r_iload_n (pc := 1) C dX0_road_1 rfl rfl ?_
  refine r_invV (pc := 2) (ci := 0) 1 C dX0_road_2 (xo_isRoad h r hr) (g2 h.ob) (show vwC[0]? = some (RX0, TX0, 10) from rfl) rfl (lw_V q665 q667 qs8 q81 q668) (by decide +kernel) rfl rfl ⟨Nat.le_of_ble_eq_true rfl, Nat.le_of_ble_eq_true rfl⟩ (Nat.le_of_ble_eq_true rfl) ⟨(by first | exact Nat.le_of_ble_eq_true rfl | (dsimp only [rmk]; omega) | omega), (by first | exact Nat.le_of_ble_eq_true rfl | (dsimp only [rmk]; omega) | omega)⟩ (rd_k ?_)
  refine r_if_neB (pc := 5) (tgt := 11) C dX0_road_5 (by decide)  (fun h5 => ?_) (fun h5 => ?_)
  · refine r_iload_n (pc := 11) C dX0_road_11 rfl rfl ?_
    refine r_iconstZ (pc := 12) C dX0_road_12 ?_
    refine r_bipushZ (pc := 13) C dX0_road_13 (by decide) ?_
    refine r_invP (pc := 15) 3 C dX0_road_15 (xf_in k 0 9 hk i32_0 (by unfold i32; omega)) rfl (lw_S q311 q312 q81 q313) (by decide +kernel) rfl rfl ⟨Nat.le_of_ble_eq_true rfl, Nat.le_of_ble_eq_true rfl⟩ (Nat.le_of_ble_eq_true rfl) ⟨(by first | exact Nat.le_of_ble_eq_true rfl | (dsimp only [rmk]; omega) | omega), (by first | exact Nat.le_of_ble_eq_true rfl | (dsimp only [rmk]; omega) | omega)⟩ ?_
    refine r_if_eqB (pc := 18) (tgt := 40) C dX0_road_18 (by decide)  (fun h18 => ?_) (fun h18 => ?_)
    · refine r_ldcZ (pc := 40) (a := -2000000102) C dX0_road_40 rfl q314 (by decide) ?_
      exact r_iret (pc := 42) C hQ dX0_road_42 (by first | exact Nat.le_of_ble_eq_true rfl | (dsimp only [rmk]; omega) | omega) (by first | exact Nat.le_of_ble_eq_true rfl | (dsimp only [rmk]; omega) | omega) (fun G hG => (by cases hG; unfold sRoad; first | (rw [if_neg h5]; exact ⟨rfl, FR.rf⟩) | (rw [if_pos h5, if_neg h18]; exact ⟨rfl, FR.rf⟩) | (rw [if_pos h5, if_pos h18]; exact ⟨rfl, q1⟩)))
    · refine r_aload_n (pc := 21) C dX0_road_21 rfl rfl ?_
      refine r_aload_n (pc := 22) C dX0_road_22 rfl rfl ?_
      refine r_get (pc := 23) (k := 3) (ci := 0) C dX0_road_23 (g1 h.ob) (show vwC[0]? = some (RX0, TX0, 10) from rfl) in_X0 (by decide) (C.t _ q278) (fun _ h => h) rfl ?_
      refine r_iload_n (pc := 26) C dX0_road_26 rfl rfl ?_
      refine r_invV (pc := 27) (ci := 8) 1 C dX0_road_27 (jl_get r h.rl (h.rix h5)) (gLs h.rl) (show vwC[8]? = some (RJ6, TJ6, 3) from rfl) rfl (lw_V q670 q671 q672 q89 q673) (by decide +kernel) rfl rfl ⟨Nat.le_of_ble_eq_true rfl, Nat.le_of_ble_eq_true rfl⟩ (Nat.le_of_ble_eq_true rfl) ⟨(by first | exact Nat.le_of_ble_eq_true rfl | (dsimp only [rmk]; omega) | omega), (by first | exact Nat.le_of_ble_eq_true rfl | (dsimp only [rmk]; omega) | omega)⟩ (rd_k ?_)
      refine r_castO (pc := 30) (ci := 4) C dX0_road_30 (gRd (h.road h5)) (show vwC[4]? = some (RX4, TX4, 3) from rfl) q584 ?_
      refine r_iload_n (pc := 33) C dX0_road_33 rfl rfl ?_
      refine r_invV (pc := 34) (ci := 0) 2 C dX0_road_34 (xo_roadTold k (h.road h5) (h.rk.at h5) h18) (g2 h.ob) (show vwC[0]? = some (RX0, TX0, 10) from rfl) rfl (lw_V q682 q684 qs9 q81 q685) (by decide +kernel) rfl rfl ⟨Nat.le_of_ble_eq_true rfl, Nat.le_of_ble_eq_true rfl⟩ (Nat.le_of_ble_eq_true rfl) ⟨(by first | exact Nat.le_of_ble_eq_true rfl | (dsimp only [rmk]; omega) | omega), (by first | exact Nat.le_of_ble_eq_true rfl | (dsimp only [rmk]; omega) | omega)⟩ (fun v34 G34 h34 => ?_)
      obtain ⟨rfl, q1⟩ := h34
      refine r_goto (pc := 37) (tgt := 42) C dX0_road_37 (by decide) ?_
      exact r_iret (pc := 42) C hQ dX0_road_42 (by first | exact Nat.le_of_ble_eq_true rfl | (dsimp only [rmk]; omega) | omega) (by first | exact Nat.le_of_ble_eq_true rfl | (dsimp only [rmk]; omega) | omega) (fun G hG => (by cases hG; unfold sRoad; first | (rw [if_neg h5]; exact ⟨rfl, FR.rf⟩) | (rw [if_pos h5, if_neg h18]; exact ⟨rfl, FR.rf⟩) | (rw [if_pos h5, if_pos h18]; exact ⟨rfl, q1⟩)))
  · refine r_ldcZ (pc := 8) (a := -2000000101) C dX0_road_8 rfl q669 (by decide) ?_
    exact r_iret (pc := 10) C hQ dX0_road_10 (by first | exact Nat.le_of_ble_eq_true rfl | (dsimp only [rmk]; omega) | omega) (by first | exact Nat.le_of_ble_eq_true rfl | (dsimp only [rmk]; omega) | omega) (fun G hG => (by cases hG; unfold sRoad; first | (rw [if_neg h5]; exact ⟨rfl, FR.rf⟩) | (rw [if_pos h5, if_neg h18]; exact ⟨rfl, FR.rf⟩) | (rw [if_pos h5, if_pos h18]; exact ⟨rfl, q1⟩)))
set_option maxHeartbeats 800000 in
theorem xo_sign {la : Launch} {X : XE} {G0 : Gh} {xh : Nat} {x : AS} {A : Nat → Nat} {dr : Int} {rls : List Nat} {rm : Nat} {fls : List Nat} {fm : Nat} {cls : List Nat} {cm : Nat} (h : CW X G0 xh x A dr rls rm fls fm cls cm) (r k : Int) (hr : i32 r) (hk : i32 k) : MG la X yX0_sign cX0_sign 3 (some .int) (rmk 5 0 0 106) [.ref xh, .int (iI r), .int (iI k)] (fun G => G = G0) (fun zv G => zv = some (.int (iI (sSign x.ws r k))) ∧ G = G0) := by
  refine MG.of (by decide +kernel) (Nat.le_of_ble_eq_true rfl) ?_
  intro Z C hX hL hQ
  subst hX; subst hL
  change WW Z 3 (fun G => G = G0) 0 0 0 [some (.ref xh), some (.int (iI r)), some (.int (iI k))] []
  refine r_aload_n (pc := 0) C dX0_sign_0 rfl rfl ?_
  refine r_iload_n (pc := 1) C dX0_sign_1 rfl rfl ?_
  refine r_invV (pc := 2) (ci := 0) 1 C dX0_sign_2 (xo_isRoad h r hr) (g2 h.ob) (show vwC[0]? = some (RX0, TX0, 10) from rfl) rfl (lw_V q665 q667 qs8 q81 q668) (by decide +kernel) rfl rfl ⟨Nat.le_of_ble_eq_true rfl, Nat.le_of_ble_eq_true rfl⟩ (Nat.le_of_ble_eq_true rfl) ⟨Nat.le_of_ble_eq_true rfl, Nat.le_of_ble_eq_true rfl⟩ (rd_k ?_)
  refine r_if_eqB (pc := 5) (tgt := 50) C dX0_sign_5 (by decide)  (fun h5 => ?_) (fun h5 => ?_)
  · refine r_ldcZ (pc := 50) (a := -2000000101) C dX0_sign_50 rfl q669 (by decide) ?_
    exact r_iret (pc := 52) C hQ dX0_sign_52 (Nat.le_of_ble_eq_true rfl) (Nat.le_of_ble_eq_true rfl) (fun G hG => ⟨(by unfold sSign; first | (rw [if_neg h5]; done) | (rw [if_pos h5, if_neg h29]; done) | (rw [if_pos h5, if_pos h29]; rfl)), hG⟩)
  · refine r_iload_n (pc := 8) C dX0_sign_8 rfl rfl ?_
    refine r_iconstZ (pc := 9) C dX0_sign_9 ?_
    refine r_aload_n (pc := 10) C dX0_sign_10 rfl rfl ?_
    refine r_get (pc := 11) (k := 3) (ci := 0) C dX0_sign_11 (g1 h.ob) (show vwC[0]? = some (RX0, TX0, 10) from rfl) in_X0 (by decide) (C.t _ q278) (fun _ h => h) rfl ?_
    refine r_iload_n (pc := 14) C dX0_sign_14 rfl rfl ?_
    refine r_invV (pc := 15) (ci := 8) 1 C dX0_sign_15 (jl_get r h.rl (h.rix h5)) (gLs h.rl) (show vwC[8]? = some (RJ6, TJ6, 3) from rfl) rfl (lw_V q670 q671 q672 q89 q673) (by decide +kernel) rfl rfl ⟨Nat.le_of_ble_eq_true rfl, Nat.le_of_ble_eq_true rfl⟩ (Nat.le_of_ble_eq_true rfl) ⟨Nat.le_of_ble_eq_true rfl, Nat.le_of_ble_eq_true rfl⟩ (rd_k ?_)
    refine r_castO (pc := 18) (ci := 4) C dX0_sign_18 (gRd (h.road h5)) (show vwC[4]? = some (RX4, TX4, 3) from rfl) q584 ?_
    refine r_invD (pc := 21) (ci := 4) (owner := "RiverWords$Worded") (x2 := ⟨"RiverWords$Road", "length", "()I"⟩) 0 C dX0_sign_21 (xr_length (h.road h5)) (gRd (h.road h5)) (show vwC[4]? = some (RX4, TX4, 3) from rfl) rfl (lw_meth q690) q100 q688 (by decide +kernel) (by decide +kernel) (by decide +kernel) (by decide +kernel) (by decide +kernel) rfl rfl ⟨Nat.le_of_ble_eq_true rfl, Nat.le_of_ble_eq_true rfl⟩ (Nat.le_of_ble_eq_true rfl) ⟨Nat.le_of_ble_eq_true rfl, Nat.le_of_ble_eq_true rfl⟩ (rd_k ?_)
    refine r_iconstZ (pc := 24) C dX0_sign_24 ?_
    refine r_isubZ (pc := 25) C dX0_sign_25 ?_
    refine r_invP (pc := 26) 3 C dX0_sign_26 (xf_in k 0 (((wsat x.ws r).length : Nat) - 1) hk i32_0 (by have := (h.rk.at h5).2; unfold i32; omega)) rfl (lw_S q311 q312 q81 q313) (by decide +kernel) rfl rfl ⟨Nat.le_of_ble_eq_true rfl, Nat.le_of_ble_eq_true rfl⟩ (Nat.le_of_ble_eq_true rfl) ⟨Nat.le_of_ble_eq_true rfl, Nat.le_of_ble_eq_true rfl⟩ ?_
    refine r_if_eqB (pc := 29) (tgt := 50) C dX0_sign_29 (by decide)  (fun h29 => ?_) (fun h29 => ?_)
    · refine r_ldcZ (pc := 50) (a := -2000000101) C dX0_sign_50 rfl q669 (by decide) ?_
      exact r_iret (pc := 52) C hQ dX0_sign_52 (Nat.le_of_ble_eq_true rfl) (Nat.le_of_ble_eq_true rfl) (fun G hG => ⟨(by unfold sSign; first | (rw [if_neg h5]; done) | (rw [if_pos h5, if_neg h29]; done) | (rw [if_pos h5, if_pos h29]; rfl)), hG⟩)
    · refine r_aload_n (pc := 32) C dX0_sign_32 rfl rfl ?_
      refine r_get (pc := 33) (k := 3) (ci := 0) C dX0_sign_33 (g1 h.ob) (show vwC[0]? = some (RX0, TX0, 10) from rfl) in_X0 (by decide) (C.t _ q278) (fun _ h => h) rfl ?_
      refine r_iload_n (pc := 36) C dX0_sign_36 rfl rfl ?_
      refine r_invV (pc := 37) (ci := 8) 1 C dX0_sign_37 (jl_get r h.rl (h.rix h5)) (gLs h.rl) (show vwC[8]? = some (RJ6, TJ6, 3) from rfl) rfl (lw_V q670 q671 q672 q89 q673) (by decide +kernel) rfl rfl ⟨Nat.le_of_ble_eq_true rfl, Nat.le_of_ble_eq_true rfl⟩ (Nat.le_of_ble_eq_true rfl) ⟨Nat.le_of_ble_eq_true rfl, Nat.le_of_ble_eq_true rfl⟩ (rd_k ?_)
      refine r_castO (pc := 40) (ci := 4) C dX0_sign_40 (gRd (h.road h5)) (show vwC[4]? = some (RX4, TX4, 3) from rfl) q584 ?_
      refine r_iload_n (pc := 43) C dX0_sign_43 rfl rfl ?_
      refine r_invD (pc := 44) (ci := 4) (owner := "RiverWords$Worded") (x2 := ⟨"RiverWords$Road", "sign", "(I)C"⟩) 1 C dX0_sign_44 (xr_sign k (h.road h5) ⟨h29.1, by have := h29.2; omega⟩) (gRd (h.road h5)) (show vwC[4]? = some (RX4, TX4, 3) from rfl) rfl (lw_meth q725) q100 q723 (by decide +kernel) (by decide +kernel) (by decide +kernel) (by decide +kernel) (by decide +kernel) rfl rfl ⟨Nat.le_of_ble_eq_true rfl, Nat.le_of_ble_eq_true rfl⟩ (Nat.le_of_ble_eq_true rfl) ⟨Nat.le_of_ble_eq_true rfl, Nat.le_of_ble_eq_true rfl⟩ (rd_k ?_)
      refine r_goto (pc := 47) (tgt := 52) C dX0_sign_47 (by decide) ?_
      exact r_iret (pc := 52) C hQ dX0_sign_52 (Nat.le_of_ble_eq_true rfl) (Nat.le_of_ble_eq_true rfl) (fun G hG => ⟨(by unfold sSign; first | (rw [if_neg h5]; done) | (rw [if_pos h5, if_neg h29]; done) | (rw [if_pos h5, if_pos h29]; rfl)), hG⟩)
set_option maxHeartbeats 800000 in
theorem xo_table {la : Launch} {X : XE} {G0 : Gh} {xh : Nat} {x : AS} {A : Nat → Nat} {dr : Int} {rls : List Nat} {rm : Nat} {fls : List Nat} {fm : Nat} {cls : List Nat} {cm : Nat} (h : CW X G0 xh x A dr rls rm fls fm cls cm) (r k : Int) (hr : i32 r) (hk : i32 k) : MG la X yX0_table cX0_table 3 (some .int) (rmk 3 0 0 64) [.ref xh, .int (iI r), .int (iI k)] (fun G => G = G0) (fun zv G => zv = some (.int (iI (sTable x.ws r k))) ∧ G = G0) := by
  refine MG.of (by decide +kernel) (Nat.le_of_ble_eq_true rfl) ?_
  intro Z C hX hL hQ
  subst hX; subst hL
  change WW Z 3 (fun G => G = G0) 0 0 0 [some (.ref xh), some (.int (iI r)), some (.int (iI k))] []
  refine r_aload_n (pc := 0) C dX0_table_0 rfl rfl ?_
  refine r_iload_n (pc := 1) C dX0_table_1 rfl rfl ?_
  refine r_invV (pc := 2) (ci := 0) 1 C dX0_table_2 (xo_isRoad h r hr) (g2 h.ob) (show vwC[0]? = some (RX0, TX0, 10) from rfl) rfl (lw_V q665 q667 qs8 q81 q668) (by decide +kernel) rfl rfl ⟨Nat.le_of_ble_eq_true rfl, Nat.le_of_ble_eq_true rfl⟩ (Nat.le_of_ble_eq_true rfl) ⟨Nat.le_of_ble_eq_true rfl, Nat.le_of_ble_eq_true rfl⟩ (rd_k ?_)
  refine r_if_neB (pc := 5) (tgt := 11) C dX0_table_5 (by decide)  (fun h5 => ?_) (fun h5 => ?_)
  · refine r_iload_n (pc := 11) C dX0_table_11 rfl rfl ?_
    refine r_iconstZ (pc := 12) C dX0_table_12 ?_
    refine r_iconstZ (pc := 13) C dX0_table_13 ?_
    refine r_invP (pc := 14) 3 C dX0_table_14 (xf_in k 0 3 hk i32_0 (by unfold i32; omega)) rfl (lw_S q311 q312 q81 q313) (by decide +kernel) rfl rfl ⟨Nat.le_of_ble_eq_true rfl, Nat.le_of_ble_eq_true rfl⟩ (Nat.le_of_ble_eq_true rfl) ⟨Nat.le_of_ble_eq_true rfl, Nat.le_of_ble_eq_true rfl⟩ ?_
    refine r_if_eqB (pc := 17) (tgt := 41) C dX0_table_17 (by decide)  (fun h17 => ?_) (fun h17 => ?_)
    · refine r_ldcZ (pc := 41) (a := -2000000102) C dX0_table_41 rfl q314 (by decide) ?_
      exact r_iret (pc := 43) C hQ dX0_table_43 (Nat.le_of_ble_eq_true rfl) (Nat.le_of_ble_eq_true rfl) (fun G hG => ⟨(by unfold sTable; first | (rw [if_neg h5]; done) | (rw [if_pos h5, if_neg h17]; done) | (rw [if_pos h5, if_pos h17]; done)), hG⟩)
    · refine r_aload_n (pc := 20) C dX0_table_20 rfl rfl ?_
      refine r_get (pc := 21) (k := 3) (ci := 0) C dX0_table_21 (g1 h.ob) (show vwC[0]? = some (RX0, TX0, 10) from rfl) in_X0 (by decide) (C.t _ q278) (fun _ h => h) rfl ?_
      refine r_iload_n (pc := 24) C dX0_table_24 rfl rfl ?_
      refine r_invV (pc := 25) (ci := 8) 1 C dX0_table_25 (jl_get r h.rl (h.rix h5)) (gLs h.rl) (show vwC[8]? = some (RJ6, TJ6, 3) from rfl) rfl (lw_V q670 q671 q672 q89 q673) (by decide +kernel) rfl rfl ⟨Nat.le_of_ble_eq_true rfl, Nat.le_of_ble_eq_true rfl⟩ (Nat.le_of_ble_eq_true rfl) ⟨Nat.le_of_ble_eq_true rfl, Nat.le_of_ble_eq_true rfl⟩ (rd_k ?_)
      refine r_castO (pc := 28) (ci := 4) C dX0_table_28 (gRd (h.road h5)) (show vwC[4]? = some (RX4, TX4, 3) from rfl) q584 ?_
      obtain ⟨s, tb, k1, k2, k3⟩ := h.road h5
      refine r_getN (pc := 31) (k := 1) (ci := 4) C dX0_table_31 (g1 k1) (show vwC[4]? = some (RX4, TX4, 3) from rfl) in_X4 (by decide) (C.nf (h1 := "RiverWords") (by decide +kernel)) (fun _ h => h) rfl ?_
      refine r_iload_n (pc := 34) C dX0_table_34 rfl rfl ?_
      refine r_invV (pc := 35) (ci := 1) 1 C dX0_table_35 (xt_told k k3 hk) (g2 k3) (show vwC[1]? = some (RX1, TX1, 4) from rfl) rfl (lw_V q786 q787 q788 q82 q789) (by decide +kernel) rfl rfl ⟨Nat.le_of_ble_eq_true rfl, Nat.le_of_ble_eq_true rfl⟩ (Nat.le_of_ble_eq_true rfl) ⟨Nat.le_of_ble_eq_true rfl, Nat.le_of_ble_eq_true rfl⟩ (rd_k ?_)
      refine r_goto (pc := 38) (tgt := 43) C dX0_table_38 (by decide) ?_
      exact r_iret (pc := 43) C hQ dX0_table_43 (Nat.le_of_ble_eq_true rfl) (Nat.le_of_ble_eq_true rfl) (fun G hG => ⟨(by unfold sTable; first | (rw [if_neg h5]; done) | (rw [if_pos h5, if_neg h17]; done) | (rw [if_pos h5, if_pos h17]; done)), hG⟩)
  · refine r_ldcZ (pc := 8) (a := -2000000101) C dX0_table_8 rfl q669 (by decide) ?_
    exact r_iret (pc := 10) C hQ dX0_table_10 (Nat.le_of_ble_eq_true rfl) (Nat.le_of_ble_eq_true rfl) (fun G hG => ⟨(by unfold sTable; first | (rw [if_neg h5]; done) | (rw [if_pos h5, if_neg h17]; done) | (rw [if_pos h5, if_pos h17]; done)), hG⟩)
set_option maxHeartbeats 800000 in
theorem xo_form {la : Launch} {X : XE} {G0 : Gh} {xh : Nat} {x : AS} {A : Nat → Nat} {dr : Int} {rls : List Nat} {rm : Nat} {fls : List Nat} {fm : Nat} {cls : List Nat} {cm : Nat} (h : CW X G0 xh x A dr rls rm fls fm cls cm) (r k : Int) (hr : i32 r) (hk : i32 k) : MG la X yX0_form cX0_form 3 (some .int) (rmk 7 1 7 149) [.ref xh, .int (iI r), .int (iI k)] (fun G => G = G0) (fun v G => v = some (.int (iI (sForm x.ws r k))) ∧ FR [9] G0 G) := by
  refine MG.of (by decide +kernel) (Nat.le_of_ble_eq_true rfl) ?_
  intro Z C hX hL hQ
  subst hX; subst hL
  change WW Z 3 (fun G => G = G0) 0 0 0 [some (.ref xh), some (.int (iI r)), some (.int (iI k))] []
  refine r_aload_n (pc := 0) C dX0_form_0 rfl rfl ?_
  refine r_iload_n (pc := 1) C dX0_form_1 rfl rfl ?_
  refine r_invV (pc := 2) (ci := 0) 1 C dX0_form_2 (xo_isRoad h r hr) (g2 h.ob) (show vwC[0]? = some (RX0, TX0, 10) from rfl) rfl (lw_V q665 q667 qs8 q81 q668) (by decide +kernel) rfl rfl ⟨Nat.le_of_ble_eq_true rfl, Nat.le_of_ble_eq_true rfl⟩ (Nat.le_of_ble_eq_true rfl) ⟨(by first | exact Nat.le_of_ble_eq_true rfl | (dsimp only [rmk]; omega) | omega), (by first | exact Nat.le_of_ble_eq_true rfl | (dsimp only [rmk]; omega) | omega)⟩ (rd_k ?_)
  refine r_if_neB (pc := 5) (tgt := 11) C dX0_form_5 (by decide)  (fun h5 => ?_) (fun h5 => ?_)
  · refine r_iload_n (pc := 11) C dX0_form_11 rfl rfl ?_
    refine r_iconstZ (pc := 12) C dX0_form_12 ?_
    refine r_iconstZ (pc := 13) C dX0_form_13 ?_
    refine r_invP (pc := 14) 3 C dX0_form_14 (xf_in k 0 4 hk i32_0 (by unfold i32; omega)) rfl (lw_S q311 q312 q81 q313) (by decide +kernel) rfl rfl ⟨Nat.le_of_ble_eq_true rfl, Nat.le_of_ble_eq_true rfl⟩ (Nat.le_of_ble_eq_true rfl) ⟨(by first | exact Nat.le_of_ble_eq_true rfl | (dsimp only [rmk]; omega) | omega), (by first | exact Nat.le_of_ble_eq_true rfl | (dsimp only [rmk]; omega) | omega)⟩ ?_
    refine r_if_neB (pc := 17) (tgt := 23) C dX0_form_17 (by decide)  (fun h17 => ?_) (fun h17 => ?_)
    · refine r_aload_n (pc := 23) C dX0_form_23 rfl rfl ?_
      refine r_get (pc := 24) (k := 3) (ci := 0) C dX0_form_24 (g1 h.ob) (show vwC[0]? = some (RX0, TX0, 10) from rfl) in_X0 (by decide) (C.t _ q278) (fun _ h => h) rfl ?_
      refine r_iload_n (pc := 27) C dX0_form_27 rfl rfl ?_
      refine r_invV (pc := 28) (ci := 8) 1 C dX0_form_28 (jl_get r h.rl (h.rix h5)) (gLs h.rl) (show vwC[8]? = some (RJ6, TJ6, 3) from rfl) rfl (lw_V q670 q671 q672 q89 q673) (by decide +kernel) rfl rfl ⟨Nat.le_of_ble_eq_true rfl, Nat.le_of_ble_eq_true rfl⟩ (Nat.le_of_ble_eq_true rfl) ⟨(by first | exact Nat.le_of_ble_eq_true rfl | (dsimp only [rmk]; omega) | omega), (by first | exact Nat.le_of_ble_eq_true rfl | (dsimp only [rmk]; omega) | omega)⟩ (rd_k ?_)
      refine r_castO (pc := 31) (ci := 4) C dX0_form_31 (gRd (h.road h5)) (show vwC[4]? = some (RX4, TX4, 3) from rfl) q584 ?_
      refine r_invD (pc := 34) (ci := 4) (owner := "RiverWords$Worded") (x2 := ⟨"RiverWords$Road", "isClosed", "()Z"⟩) 0 C dX0_form_34 (xr_isClosed (h.road h5) (h.rk.at h5).2) (gRd (h.road h5)) (show vwC[4]? = some (RX4, TX4, 3) from rfl) rfl (lw_meth q749) q100 q747 (by decide +kernel) (by decide +kernel) (by decide +kernel) (by decide +kernel) (by decide +kernel) rfl rfl ⟨Nat.le_of_ble_eq_true rfl, Nat.le_of_ble_eq_true rfl⟩ (Nat.le_of_ble_eq_true rfl) ⟨(by first | exact Nat.le_of_ble_eq_true rfl | (dsimp only [rmk]; omega) | omega), (by first | exact Nat.le_of_ble_eq_true rfl | (dsimp only [rmk]; omega) | omega)⟩ (rd_k ?_)
      refine r_if_eqZ (pc := 37) (tgt := 61) C dX0_form_37 (by decide) (bi_i _) (fun h37 => ?_) (fun h37 => ?_)
      · refine r_ldcZ (pc := 61) (a := -2000000103) C dX0_form_61 rfl q522 (by decide) ?_
        exact r_iret (pc := 63) C hQ dX0_form_63 (by first | exact Nat.le_of_ble_eq_true rfl | (dsimp only [rmk]; omega) | omega) (by first | exact Nat.le_of_ble_eq_true rfl | (dsimp only [rmk]; omega) | omega) (fun G hG => (by cases hG; unfold sForm; first | (rw [if_neg h5]; exact ⟨rfl, FR.rf⟩) | (rw [if_pos h5, if_neg h17]; exact ⟨rfl, FR.rf⟩) | (rw [if_pos h5, if_pos h17, bi_0.mp h37]; exact ⟨rfl, FR.rf⟩) | (rw [if_pos h5, if_pos h17, bi_n0 h37]; exact ⟨rfl, q1.nil _⟩)))
      · refine r_aload_n (pc := 40) C dX0_form_40 rfl rfl ?_
        refine r_get (pc := 41) (k := 3) (ci := 0) C dX0_form_41 (g1 h.ob) (show vwC[0]? = some (RX0, TX0, 10) from rfl) in_X0 (by decide) (C.t _ q278) (fun _ h => h) rfl ?_
        refine r_iload_n (pc := 44) C dX0_form_44 rfl rfl ?_
        refine r_invV (pc := 45) (ci := 8) 1 C dX0_form_45 (jl_get r h.rl (h.rix h5)) (gLs h.rl) (show vwC[8]? = some (RJ6, TJ6, 3) from rfl) rfl (lw_V q670 q671 q672 q89 q673) (by decide +kernel) rfl rfl ⟨Nat.le_of_ble_eq_true rfl, Nat.le_of_ble_eq_true rfl⟩ (Nat.le_of_ble_eq_true rfl) ⟨(by first | exact Nat.le_of_ble_eq_true rfl | (dsimp only [rmk]; omega) | omega), (by first | exact Nat.le_of_ble_eq_true rfl | (dsimp only [rmk]; omega) | omega)⟩ (rd_k ?_)
        refine r_castO (pc := 48) (ci := 4) C dX0_form_48 (gRd (h.road h5)) (show vwC[4]? = some (RX4, TX4, 3) from rfl) q584 ?_
        obtain ⟨s, tb, k1, k2, k3⟩ := h.road h5
        refine r_getN (pc := 51) (k := 1) (ci := 4) C dX0_form_51 (g1 k1) (show vwC[4]? = some (RX4, TX4, 3) from rfl) in_X4 (by decide) (C.nf (h1 := "RiverWords") (by decide +kernel)) (fun _ h => h) rfl ?_
        refine r_iload_n (pc := 54) C dX0_form_54 rfl rfl ?_
        refine r_invS (pc := 55) 2 C dX0_form_55 (xo_formTold k k3 (h.rk.at h5).2 (bi_n0 h37) h17) rfl (lw_S q794 q795 q81 q796) (by decide +kernel) rfl rfl ⟨Nat.le_of_ble_eq_true rfl, Nat.le_of_ble_eq_true rfl⟩ (Nat.le_of_ble_eq_true rfl) ⟨(by first | exact Nat.le_of_ble_eq_true rfl | (dsimp only [rmk]; omega) | omega), (by first | exact Nat.le_of_ble_eq_true rfl | (dsimp only [rmk]; omega) | omega)⟩ (fun v55 G55 h55 => ?_)
        obtain ⟨rfl, q1⟩ := h55
        refine r_goto (pc := 58) (tgt := 63) C dX0_form_58 (by decide) ?_
        exact r_iret (pc := 63) C hQ dX0_form_63 (by first | exact Nat.le_of_ble_eq_true rfl | (dsimp only [rmk]; omega) | omega) (by first | exact Nat.le_of_ble_eq_true rfl | (dsimp only [rmk]; omega) | omega) (fun G hG => (by cases hG; unfold sForm; first | (rw [if_neg h5]; exact ⟨rfl, FR.rf⟩) | (rw [if_pos h5, if_neg h17]; exact ⟨rfl, FR.rf⟩) | (rw [if_pos h5, if_pos h17, bi_0.mp h37]; exact ⟨rfl, FR.rf⟩) | (rw [if_pos h5, if_pos h17, bi_n0 h37]; exact ⟨rfl, q1.nil _⟩)))
    · refine r_ldcZ (pc := 20) (a := -2000000102) C dX0_form_20 rfl q314 (by decide) ?_
      exact r_iret (pc := 22) C hQ dX0_form_22 (by first | exact Nat.le_of_ble_eq_true rfl | (dsimp only [rmk]; omega) | omega) (by first | exact Nat.le_of_ble_eq_true rfl | (dsimp only [rmk]; omega) | omega) (fun G hG => (by cases hG; unfold sForm; first | (rw [if_neg h5]; exact ⟨rfl, FR.rf⟩) | (rw [if_pos h5, if_neg h17]; exact ⟨rfl, FR.rf⟩) | (rw [if_pos h5, if_pos h17, bi_0.mp h37]; exact ⟨rfl, FR.rf⟩) | (rw [if_pos h5, if_pos h17, bi_n0 h37]; exact ⟨rfl, q1.nil _⟩)))
  · refine r_ldcZ (pc := 8) (a := -2000000101) C dX0_form_8 rfl q669 (by decide) ?_
    exact r_iret (pc := 10) C hQ dX0_form_10 (by first | exact Nat.le_of_ble_eq_true rfl | (dsimp only [rmk]; omega) | omega) (by first | exact Nat.le_of_ble_eq_true rfl | (dsimp only [rmk]; omega) | omega) (fun G hG => (by cases hG; unfold sForm; first | (rw [if_neg h5]; exact ⟨rfl, FR.rf⟩) | (rw [if_pos h5, if_neg h17]; exact ⟨rfl, FR.rf⟩) | (rw [if_pos h5, if_pos h17, bi_0.mp h37]; exact ⟨rfl, FR.rf⟩) | (rw [if_pos h5, if_pos h17, bi_n0 h37]; exact ⟨rfl, q1.nil _⟩)))
set_option maxHeartbeats 800000 in
theorem xo_end {la : Launch} {X : XE} {G0 : Gh} {xh : Nat} {x : AS} {A : Nat → Nat} {dr : Int} {rls : List Nat} {rm : Nat} {fls : List Nat} {fm : Nat} {cls : List Nat} {cm : Nat} (h : CW X G0 xh x A dr rls rm fls fm cls cm) (r k : Int) (hr : i32 r) (hk : i32 k) : MG la X yX0_end cX0_end 3 (some .int) (rmk 3 0 0 64) [.ref xh, .int (iI r), .int (iI k)] (fun G => G = G0) (fun zv G => zv = some (.int (iI (sEnd x.ws r k))) ∧ G = G0) := by
  refine MG.of (by decide +kernel) (Nat.le_of_ble_eq_true rfl) ?_
  intro Z C hX hL hQ
  subst hX; subst hL
  change WW Z 3 (fun G => G = G0) 0 0 0 [some (.ref xh), some (.int (iI r)), some (.int (iI k))] []
  refine r_aload_n (pc := 0) C dX0_end_0 rfl rfl ?_
  refine r_iload_n (pc := 1) C dX0_end_1 rfl rfl ?_
  refine r_invV (pc := 2) (ci := 0) 1 C dX0_end_2 (xo_isRoad h r hr) (g2 h.ob) (show vwC[0]? = some (RX0, TX0, 10) from rfl) rfl (lw_V q665 q667 qs8 q81 q668) (by decide +kernel) rfl rfl ⟨Nat.le_of_ble_eq_true rfl, Nat.le_of_ble_eq_true rfl⟩ (Nat.le_of_ble_eq_true rfl) ⟨Nat.le_of_ble_eq_true rfl, Nat.le_of_ble_eq_true rfl⟩ (rd_k ?_)
  refine r_if_neB (pc := 5) (tgt := 11) C dX0_end_5 (by decide)  (fun h5 => ?_) (fun h5 => ?_)
  · refine r_iload_n (pc := 11) C dX0_end_11 rfl rfl ?_
    refine r_iconstZ (pc := 12) C dX0_end_12 ?_
    refine r_iconstZ (pc := 13) C dX0_end_13 ?_
    refine r_invP (pc := 14) 3 C dX0_end_14 (xf_in k 0 1 hk i32_0 (by unfold i32; omega)) rfl (lw_S q311 q312 q81 q313) (by decide +kernel) rfl rfl ⟨Nat.le_of_ble_eq_true rfl, Nat.le_of_ble_eq_true rfl⟩ (Nat.le_of_ble_eq_true rfl) ⟨Nat.le_of_ble_eq_true rfl, Nat.le_of_ble_eq_true rfl⟩ ?_
    refine r_if_eqB (pc := 17) (tgt := 41) C dX0_end_17 (by decide)  (fun h17 => ?_) (fun h17 => ?_)
    · refine r_ldcZ (pc := 41) (a := -2000000102) C dX0_end_41 rfl q314 (by decide) ?_
      exact r_iret (pc := 43) C hQ dX0_end_43 (Nat.le_of_ble_eq_true rfl) (Nat.le_of_ble_eq_true rfl) (fun G hG => ⟨(by unfold sEnd; first | (rw [if_neg h5]; done) | (rw [if_pos h5, if_neg h17]; done) | (rw [if_pos h5, if_pos h17]; done)), hG⟩)
    · refine r_aload_n (pc := 20) C dX0_end_20 rfl rfl ?_
      refine r_get (pc := 21) (k := 3) (ci := 0) C dX0_end_21 (g1 h.ob) (show vwC[0]? = some (RX0, TX0, 10) from rfl) in_X0 (by decide) (C.t _ q278) (fun _ h => h) rfl ?_
      refine r_iload_n (pc := 24) C dX0_end_24 rfl rfl ?_
      refine r_invV (pc := 25) (ci := 8) 1 C dX0_end_25 (jl_get r h.rl (h.rix h5)) (gLs h.rl) (show vwC[8]? = some (RJ6, TJ6, 3) from rfl) rfl (lw_V q670 q671 q672 q89 q673) (by decide +kernel) rfl rfl ⟨Nat.le_of_ble_eq_true rfl, Nat.le_of_ble_eq_true rfl⟩ (Nat.le_of_ble_eq_true rfl) ⟨Nat.le_of_ble_eq_true rfl, Nat.le_of_ble_eq_true rfl⟩ (rd_k ?_)
      refine r_castO (pc := 28) (ci := 4) C dX0_end_28 (gRd (h.road h5)) (show vwC[4]? = some (RX4, TX4, 3) from rfl) q584 ?_
      obtain ⟨s, tb, k1, k2, k3⟩ := h.road h5
      refine r_getN (pc := 31) (k := 1) (ci := 4) C dX0_end_31 (g1 k1) (show vwC[4]? = some (RX4, TX4, 3) from rfl) in_X4 (by decide) (C.nf (h1 := "RiverWords") (by decide +kernel)) (fun _ h => h) rfl ?_
      refine r_iload_n (pc := 34) C dX0_end_34 rfl rfl ?_
      refine r_invS (pc := 35) 2 C dX0_end_35 (xo_endTold k k3 h17) rfl (lw_S q853 q854 q81 q855) (by decide +kernel) rfl rfl ⟨Nat.le_of_ble_eq_true rfl, Nat.le_of_ble_eq_true rfl⟩ (Nat.le_of_ble_eq_true rfl) ⟨Nat.le_of_ble_eq_true rfl, Nat.le_of_ble_eq_true rfl⟩ (rd_k ?_)
      refine r_goto (pc := 38) (tgt := 43) C dX0_end_38 (by decide) ?_
      exact r_iret (pc := 43) C hQ dX0_end_43 (Nat.le_of_ble_eq_true rfl) (Nat.le_of_ble_eq_true rfl) (fun G hG => ⟨(by unfold sEnd; first | (rw [if_neg h5]; done) | (rw [if_pos h5, if_neg h17]; done) | (rw [if_pos h5, if_pos h17]; done)), hG⟩)
  · refine r_ldcZ (pc := 8) (a := -2000000101) C dX0_end_8 rfl q669 (by decide) ?_
    exact r_iret (pc := 10) C hQ dX0_end_10 (Nat.le_of_ble_eq_true rfl) (Nat.le_of_ble_eq_true rfl) (fun G hG => ⟨(by unfold sEnd; first | (rw [if_neg h5]; done) | (rw [if_pos h5, if_neg h17]; done) | (rw [if_pos h5, if_pos h17]; done)), hG⟩)
set_option maxHeartbeats 800000 in
theorem xo_alike {la : Launch} {X : XE} {G0 : Gh} {xh : Nat} {x : AS} {A : Nat → Nat} {dr : Int} {rls : List Nat} {rm : Nat} {fls : List Nat} {fm : Nat} {cls : List Nat} {cm : Nat} (h : CW X G0 xh x A dr rls rm fls fm cls cm) (r q : Int) (hr : i32 r) (hq : i32 q) : MG la X yX0_alike cX0_alike 3 (some .int) (rmk 6 0 0 131) [.ref xh, .int (iI r), .int (iI q)] (fun G => G = G0) (fun zv G => zv = some (.int (iI (sAlike x.ws r q))) ∧ G = G0) := by
  refine MG.of (by decide +kernel) (Nat.le_of_ble_eq_true rfl) ?_
  intro Z C hX hL hQ
  subst hX; subst hL
  change WW Z 3 (fun G => G = G0) 0 0 0 [some (.ref xh), some (.int (iI r)), some (.int (iI q))] []
  refine r_aload_n (pc := 0) C dX0_alike_0 rfl rfl ?_
  refine r_iload_n (pc := 1) C dX0_alike_1 rfl rfl ?_
  refine r_invV (pc := 2) (ci := 0) 1 C dX0_alike_2 (xo_isRoad h r hr) (g2 h.ob) (show vwC[0]? = some (RX0, TX0, 10) from rfl) rfl (lw_V q665 q667 qs8 q81 q668) (by decide +kernel) rfl rfl ⟨Nat.le_of_ble_eq_true rfl, Nat.le_of_ble_eq_true rfl⟩ (Nat.le_of_ble_eq_true rfl) ⟨Nat.le_of_ble_eq_true rfl, Nat.le_of_ble_eq_true rfl⟩ (rd_k ?_)
  refine r_if_eqB (pc := 5) (tgt := 44) C dX0_alike_5 (by decide)  (fun h5 => ?_) (fun h5 => ?_)
  · refine r_ldcZ (pc := 44) (a := -2000000101) C dX0_alike_44 rfl q669 (by decide) ?_
    exact r_iret (pc := 46) C hQ dX0_alike_46 (Nat.le_of_ble_eq_true rfl) (Nat.le_of_ble_eq_true rfl) (fun G hG => ⟨(by unfold sAlike; first | (rw [if_neg h5]; done) | (rw [if_pos h5, if_neg h13]; done) | (rw [if_pos h5, if_pos h13]; done)), hG⟩)
  · refine r_aload_n (pc := 8) C dX0_alike_8 rfl rfl ?_
    refine r_iload_n (pc := 9) C dX0_alike_9 rfl rfl ?_
    refine r_invV (pc := 10) (ci := 0) 1 C dX0_alike_10 (xo_isRoad h q hq) (g2 h.ob) (show vwC[0]? = some (RX0, TX0, 10) from rfl) rfl (lw_V q665 q667 qs8 q81 q668) (by decide +kernel) rfl rfl ⟨Nat.le_of_ble_eq_true rfl, Nat.le_of_ble_eq_true rfl⟩ (Nat.le_of_ble_eq_true rfl) ⟨Nat.le_of_ble_eq_true rfl, Nat.le_of_ble_eq_true rfl⟩ (rd_k ?_)
    refine r_if_eqB (pc := 13) (tgt := 44) C dX0_alike_13 (by decide)  (fun h13 => ?_) (fun h13 => ?_)
    · refine r_ldcZ (pc := 44) (a := -2000000101) C dX0_alike_44 rfl q669 (by decide) ?_
      exact r_iret (pc := 46) C hQ dX0_alike_46 (Nat.le_of_ble_eq_true rfl) (Nat.le_of_ble_eq_true rfl) (fun G hG => ⟨(by unfold sAlike; first | (rw [if_neg h5]; done) | (rw [if_pos h5, if_neg h13]; done) | (rw [if_pos h5, if_pos h13]; done)), hG⟩)
    · refine r_aload_n (pc := 16) C dX0_alike_16 rfl rfl ?_
      refine r_get (pc := 17) (k := 3) (ci := 0) C dX0_alike_17 (g1 h.ob) (show vwC[0]? = some (RX0, TX0, 10) from rfl) in_X0 (by decide) (C.t _ q278) (fun _ h => h) rfl ?_
      refine r_iload_n (pc := 20) C dX0_alike_20 rfl rfl ?_
      refine r_invV (pc := 21) (ci := 8) 1 C dX0_alike_21 (jl_get r h.rl (h.rix h5)) (gLs h.rl) (show vwC[8]? = some (RJ6, TJ6, 3) from rfl) rfl (lw_V q670 q671 q672 q89 q673) (by decide +kernel) rfl rfl ⟨Nat.le_of_ble_eq_true rfl, Nat.le_of_ble_eq_true rfl⟩ (Nat.le_of_ble_eq_true rfl) ⟨Nat.le_of_ble_eq_true rfl, Nat.le_of_ble_eq_true rfl⟩ (rd_k ?_)
      refine r_castO (pc := 24) (ci := 4) C dX0_alike_24 (gRd (h.road h5)) (show vwC[4]? = some (RX4, TX4, 3) from rfl) q584 ?_
      refine r_aload_n (pc := 27) C dX0_alike_27 rfl rfl ?_
      refine r_get (pc := 28) (k := 3) (ci := 0) C dX0_alike_28 (g1 h.ob) (show vwC[0]? = some (RX0, TX0, 10) from rfl) in_X0 (by decide) (C.t _ q278) (fun _ h => h) rfl ?_
      refine r_iload_n (pc := 31) C dX0_alike_31 rfl rfl ?_
      refine r_invV (pc := 32) (ci := 8) 1 C dX0_alike_32 (jl_get q h.rl (h.rix h13)) (gLs h.rl) (show vwC[8]? = some (RJ6, TJ6, 3) from rfl) rfl (lw_V q670 q671 q672 q89 q673) (by decide +kernel) rfl rfl ⟨Nat.le_of_ble_eq_true rfl, Nat.le_of_ble_eq_true rfl⟩ (Nat.le_of_ble_eq_true rfl) ⟨Nat.le_of_ble_eq_true rfl, Nat.le_of_ble_eq_true rfl⟩ (rd_k ?_)
      refine r_castO (pc := 35) (ci := 4) C dX0_alike_35 (gRd (h.road h13)) (show vwC[4]? = some (RX4, TX4, 3) from rfl) q584 ?_
      refine r_invS (pc := 38) 2 C dX0_alike_38 (xo_alikeTold (h.road h5) (h.road h13) (h.rk.at h5) (h.rk.at h13)) rfl (lw_S q860 q861 q81 q862) (by decide +kernel) rfl rfl ⟨Nat.le_of_ble_eq_true rfl, Nat.le_of_ble_eq_true rfl⟩ (Nat.le_of_ble_eq_true rfl) ⟨Nat.le_of_ble_eq_true rfl, Nat.le_of_ble_eq_true rfl⟩ (rd_k ?_)
      refine r_goto (pc := 41) (tgt := 46) C dX0_alike_41 (by decide) ?_
      exact r_iret (pc := 46) C hQ dX0_alike_46 (Nat.le_of_ble_eq_true rfl) (Nat.le_of_ble_eq_true rfl) (fun G hG => ⟨(by unfold sAlike; first | (rw [if_neg h5]; done) | (rw [if_pos h5, if_neg h13]; done) | (rw [if_pos h5, if_pos h13]; done)), hG⟩)
set_option maxHeartbeats 800000 in
theorem xo_cross {la : Launch} {X : XE} {G0 : Gh} {xh : Nat} {x : AS} {A : Nat → Nat} {dr : Int} {rls : List Nat} {rm : Nat} {fls : List Nat} {fm : Nat} {cls : List Nat} {cm : Nat} (h : CW X G0 xh x A dr rls rm fls fm cls cm) (r q : Int) (hr : i32 r) (hq : i32 q) : MG la X yX0_cross cX0_cross 5 (some .int) (rmk 7 0 0 155) [.ref xh, .int (iI r), .int (iI q)] (fun G => G = G0) (fun zv G => zv = some (.int (iI (sCr x.ws r q))) ∧ G = G0) := by
  refine MG.of (by decide +kernel) (Nat.le_of_ble_eq_true rfl) ?_
  intro Z C hX hL hQ
  subst hX; subst hL
  change WW Z 5 (fun G => G = G0) 0 0 0 [some (.ref xh), some (.int (iI r)), some (.int (iI q)), none, none] []
  refine r_aload_n (pc := 0) C dX0_cross_0 rfl rfl ?_
  refine r_iload_n (pc := 1) C dX0_cross_1 rfl rfl ?_
  refine r_invV (pc := 2) (ci := 0) 1 C dX0_cross_2 (xo_isRoad h r hr) (g2 h.ob) (show vwC[0]? = some (RX0, TX0, 10) from rfl) rfl (lw_V q665 q667 qs8 q81 q668) (by decide +kernel) rfl rfl ⟨Nat.le_of_ble_eq_true rfl, Nat.le_of_ble_eq_true rfl⟩ (Nat.le_of_ble_eq_true rfl) ⟨Nat.le_of_ble_eq_true rfl, Nat.le_of_ble_eq_true rfl⟩ (rd_k ?_)
  refine r_if_eqB (pc := 5) (tgt := 16) C dX0_cross_5 (by decide)  (fun h5 => ?_) (fun h5 => ?_)
  · refine r_ldcZ (pc := 16) (a := -2000000101) C dX0_cross_16 rfl q669 (by decide) ?_
    exact r_iret (pc := 18) C hQ dX0_cross_18 (Nat.le_of_ble_eq_true rfl) (Nat.le_of_ble_eq_true rfl) (fun G hG => ⟨(by unfold sCr; first | (rw [if_neg h5]; done) | (rw [if_pos h5, if_neg h13]; done) | (rw [if_pos h5, if_pos h13, bi_0.mp h48]; rfl) | (rw [if_pos h5, if_pos h13, bi_n0 h48, bi_0.mp h56]; rfl) | (rw [if_pos h5, if_pos h13, bi_n0 h48, bi_n0 h56]; rfl)), hG⟩)
  · refine r_aload_n (pc := 8) C dX0_cross_8 rfl rfl ?_
    refine r_iload_n (pc := 9) C dX0_cross_9 rfl rfl ?_
    refine r_invV (pc := 10) (ci := 0) 1 C dX0_cross_10 (xo_isRoad h q hq) (g2 h.ob) (show vwC[0]? = some (RX0, TX0, 10) from rfl) rfl (lw_V q665 q667 qs8 q81 q668) (by decide +kernel) rfl rfl ⟨Nat.le_of_ble_eq_true rfl, Nat.le_of_ble_eq_true rfl⟩ (Nat.le_of_ble_eq_true rfl) ⟨Nat.le_of_ble_eq_true rfl, Nat.le_of_ble_eq_true rfl⟩ (rd_k ?_)
    refine r_if_neB (pc := 13) (tgt := 19) C dX0_cross_13 (by decide)  (fun h13 => ?_) (fun h13 => ?_)
    · refine r_aload_n (pc := 19) C dX0_cross_19 rfl rfl ?_
      refine r_get (pc := 20) (k := 3) (ci := 0) C dX0_cross_20 (g1 h.ob) (show vwC[0]? = some (RX0, TX0, 10) from rfl) in_X0 (by decide) (C.t _ q278) (fun _ h => h) rfl ?_
      refine r_iload_n (pc := 23) C dX0_cross_23 rfl rfl ?_
      refine r_invV (pc := 24) (ci := 8) 1 C dX0_cross_24 (jl_get r h.rl (h.rix h5)) (gLs h.rl) (show vwC[8]? = some (RJ6, TJ6, 3) from rfl) rfl (lw_V q670 q671 q672 q89 q673) (by decide +kernel) rfl rfl ⟨Nat.le_of_ble_eq_true rfl, Nat.le_of_ble_eq_true rfl⟩ (Nat.le_of_ble_eq_true rfl) ⟨Nat.le_of_ble_eq_true rfl, Nat.le_of_ble_eq_true rfl⟩ (rd_k ?_)
      refine r_castO (pc := 27) (ci := 4) C dX0_cross_27 (gRd (h.road h5)) (show vwC[4]? = some (RX4, TX4, 3) from rfl) q584 ?_
      refine r_astore_n (pc := 30) C dX0_cross_30 rfl (by decide) ?_
      refine r_aload_n (pc := 31) C dX0_cross_31 rfl rfl ?_
      refine r_get (pc := 32) (k := 3) (ci := 0) C dX0_cross_32 (g1 h.ob) (show vwC[0]? = some (RX0, TX0, 10) from rfl) in_X0 (by decide) (C.t _ q278) (fun _ h => h) rfl ?_
      refine r_iload_n (pc := 35) C dX0_cross_35 rfl rfl ?_
      refine r_invV (pc := 36) (ci := 8) 1 C dX0_cross_36 (jl_get q h.rl (h.rix h13)) (gLs h.rl) (show vwC[8]? = some (RJ6, TJ6, 3) from rfl) rfl (lw_V q670 q671 q672 q89 q673) (by decide +kernel) rfl rfl ⟨Nat.le_of_ble_eq_true rfl, Nat.le_of_ble_eq_true rfl⟩ (Nat.le_of_ble_eq_true rfl) ⟨Nat.le_of_ble_eq_true rfl, Nat.le_of_ble_eq_true rfl⟩ (rd_k ?_)
      refine r_castO (pc := 39) (ci := 4) C dX0_cross_39 (gRd (h.road h13)) (show vwC[4]? = some (RX4, TX4, 3) from rfl) q584 ?_
      refine r_astore (pc := 42) C dX0_cross_42 (by decide) ?_
      refine r_aload_n (pc := 44) C dX0_cross_44 rfl rfl ?_
      refine r_invD (pc := 45) (ci := 4) (owner := "RiverWords$Worded") (x2 := ⟨"RiverWords$Road", "isClosed", "()Z"⟩) 0 C dX0_cross_45 (xr_isClosed (h.road h5) (h.rk.at h5).2) (gRd (h.road h5)) (show vwC[4]? = some (RX4, TX4, 3) from rfl) rfl (lw_meth q749) q100 q747 (by decide +kernel) (by decide +kernel) (by decide +kernel) (by decide +kernel) (by decide +kernel) rfl rfl ⟨Nat.le_of_ble_eq_true rfl, Nat.le_of_ble_eq_true rfl⟩ (Nat.le_of_ble_eq_true rfl) ⟨Nat.le_of_ble_eq_true rfl, Nat.le_of_ble_eq_true rfl⟩ (rd_k ?_)
      refine r_if_eqZ (pc := 48) (tgt := 74) C dX0_cross_48 (by decide) (bi_i _) (fun h48 => ?_) (fun h48 => ?_)
      · refine r_ldcZ (pc := 74) (a := -2000000103) C dX0_cross_74 rfl q522 (by decide) ?_
        exact r_iret (pc := 76) C hQ dX0_cross_76 (Nat.le_of_ble_eq_true rfl) (Nat.le_of_ble_eq_true rfl) (fun G hG => ⟨(by unfold sCr; first | (rw [if_neg h5]; done) | (rw [if_pos h5, if_neg h13]; done) | (rw [if_pos h5, if_pos h13, bi_0.mp h48]; rfl) | (rw [if_pos h5, if_pos h13, bi_n0 h48, bi_0.mp h56]; rfl) | (rw [if_pos h5, if_pos h13, bi_n0 h48, bi_n0 h56]; rfl)), hG⟩)
      · refine r_aload (pc := 51) C dX0_cross_51 rfl ?_
        refine r_invD (pc := 53) (ci := 4) (owner := "RiverWords$Worded") (x2 := ⟨"RiverWords$Road", "isClosed", "()Z"⟩) 0 C dX0_cross_53 (xr_isClosed (h.road h13) (h.rk.at h13).2) (gRd (h.road h13)) (show vwC[4]? = some (RX4, TX4, 3) from rfl) rfl (lw_meth q749) q100 q747 (by decide +kernel) (by decide +kernel) (by decide +kernel) (by decide +kernel) (by decide +kernel) rfl rfl ⟨Nat.le_of_ble_eq_true rfl, Nat.le_of_ble_eq_true rfl⟩ (Nat.le_of_ble_eq_true rfl) ⟨Nat.le_of_ble_eq_true rfl, Nat.le_of_ble_eq_true rfl⟩ (rd_k ?_)
        refine r_if_eqZ (pc := 56) (tgt := 74) C dX0_cross_56 (by decide) (bi_i _) (fun h56 => ?_) (fun h56 => ?_)
        · refine r_ldcZ (pc := 74) (a := -2000000103) C dX0_cross_74 rfl q522 (by decide) ?_
          exact r_iret (pc := 76) C hQ dX0_cross_76 (Nat.le_of_ble_eq_true rfl) (Nat.le_of_ble_eq_true rfl) (fun G hG => ⟨(by unfold sCr; first | (rw [if_neg h5]; done) | (rw [if_pos h5, if_neg h13]; done) | (rw [if_pos h5, if_pos h13, bi_0.mp h48]; rfl) | (rw [if_pos h5, if_pos h13, bi_n0 h48, bi_0.mp h56]; rfl) | (rw [if_pos h5, if_pos h13, bi_n0 h48, bi_n0 h56]; rfl)), hG⟩)
        · refine r_aload_n (pc := 59) C dX0_cross_59 rfl rfl ?_
          obtain ⟨s, tb, k1, k2, k3⟩ := h.road h5
          obtain ⟨s', tb', k1', k2', k3'⟩ := h.road h13
          refine r_getN (pc := 60) (k := 0) (ci := 4) C dX0_cross_60 (g1 k1) (show vwC[4]? = some (RX4, TX4, 3) from rfl) in_X4 (by decide) (C.nf (h1 := "RiverWords") (by decide +kernel)) (fun _ h => h) rfl ?_
          refine r_aload (pc := 63) C dX0_cross_63 rfl ?_
          refine r_getN (pc := 65) (k := 0) (ci := 4) C dX0_cross_65 (g1 k1') (show vwC[4]? = some (RX4, TX4, 3) from rfl) in_X4 (by decide) (C.nf (h1 := "RiverWords") (by decide +kernel)) (fun _ h => h) rfl ?_
          refine r_invS (pc := 68) 2 C dX0_cross_68 (xo_crossings k2 k2' (h.rk.at h5) (h.rk.at h13)) rfl (lw_S q868 q869 q81 q870) (by decide +kernel) rfl rfl ⟨Nat.le_of_ble_eq_true rfl, Nat.le_of_ble_eq_true rfl⟩ (Nat.le_of_ble_eq_true rfl) ⟨Nat.le_of_ble_eq_true rfl, Nat.le_of_ble_eq_true rfl⟩ (rd_k ?_)
          refine r_goto (pc := 71) (tgt := 76) C dX0_cross_71 (by decide) ?_
          exact r_iret (pc := 76) C hQ dX0_cross_76 (Nat.le_of_ble_eq_true rfl) (Nat.le_of_ble_eq_true rfl) (fun G hG => ⟨(by unfold sCr; first | (rw [if_neg h5]; done) | (rw [if_pos h5, if_neg h13]; done) | (rw [if_pos h5, if_pos h13, bi_0.mp h48]; rfl) | (rw [if_pos h5, if_pos h13, bi_n0 h48, bi_0.mp h56]; rfl) | (rw [if_pos h5, if_pos h13, bi_n0 h48, bi_n0 h56]; rfl)), hG⟩)
    · refine r_ldcZ (pc := 16) (a := -2000000101) C dX0_cross_16 rfl q669 (by decide) ?_
      exact r_iret (pc := 18) C hQ dX0_cross_18 (Nat.le_of_ble_eq_true rfl) (Nat.le_of_ble_eq_true rfl) (fun G hG => ⟨(by unfold sCr; first | (rw [if_neg h5]; done) | (rw [if_pos h5, if_neg h13]; done) | (rw [if_pos h5, if_pos h13, bi_0.mp h48]; rfl) | (rw [if_pos h5, if_pos h13, bi_n0 h48, bi_0.mp h56]; rfl) | (rw [if_pos h5, if_pos h13, bi_n0 h48, bi_n0 h56]; rfl)), hG⟩)

