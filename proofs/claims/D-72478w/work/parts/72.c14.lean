/-! the component: the digest -/
set_option maxRecDepth 100000
set_option maxHeartbeats 800000 in
theorem xf_mixed (a b : Int) : PF yX0_mixed cX0_mixed 4 (some .long) 0 0 [.long (lI a), .long (lI b)] (some (.long (lI (31 * a + b)))) := by
  intro l X Γ
  refine MG.of (by decide +kernel) (Nat.le_of_ble_eq_true rfl) ?_
  intro Z C hX hL hQ
  subst hX; subst hL
  change WW Z 4 Γ 0 0 0 [some (.long (lI a)), none, some (.long (lI b)), none] []
  refine r_ldc2Z (pc := 0) (a := 31) C dX0_mixed_0 rfl q1155 (by decide) ?_
  refine r_lload_n (pc := 3) C dX0_mixed_3 rfl rfl ?_
  refine r_lmulZ (pc := 4) C dX0_mixed_4 ?_
  refine r_lload_n (pc := 5) C dX0_mixed_5 rfl rfl ?_
  refine r_laddZ (pc := 6) C dX0_mixed_6 ?_
  exact r_lret (pc := 7) C hQ dX0_mixed_7 (Nat.le_of_ble_eq_true rfl) (Nat.le_of_ble_eq_true rfl) (fun G hG => ⟨hG, rfl⟩)
abbrev rr1 (w : List Bool) : List Int := rowL (fun k => wTold w k) 10
abbrev rr2 (w : List Bool) : List Int := rr1 w ++ rowL (fun k => codeB (wl w k)) w.length
abbrev rr3 (w : List Bool) : List Int := rr2 w ++ rowL (fun k => tTold w k) 4
abbrev rr4 (w : List Bool) : List Int := (rr3 w ++ [eTold w 0]) ++ [eTold w 1]
theorem rr_all (w : List Bool) : rr4 w ++ rowL (fun k => fTold w k) (if wClosed w then 5 else 0) = rowRoad w := by
  unfold rowRoad rr4 rr3 rr2 rr1
  simp only [List.append_assoc]
  rfl
set_option maxHeartbeats 800000 in
theorem xo_mixedRoad {la : Launch} {X : XE} {G0 : Gh} {xh a t : Nat} {w : List Bool} (v : Int) {tx : Nat} {fx : List Value} (hx : G0 xh = some (tx, .inl (0, fx))) (htx : tx ≠ 9) (hR : ROAD G0 xh a t w) (ht : t ≠ 9) (hw : 0 < w.length ∧ w.length ≤ 20) : MG la X yX0_mixedRoad cX0_mixedRoad 7 (some .long) (rmk 10 170 2000 237) [.ref xh, .long (lI v), .ref a] (fun G => G = G0) (fun zv G => zv = some (.long (lI (mixL (rowRoad w) v))) ∧ FR [9] G0 G) := by
  refine MG.of (by decide +kernel) (Nat.le_of_ble_eq_true rfl) ?_
  intro Z C hX hL hQ
  subst hX; subst hL
  change WW Z 7 (fun G => G = G0) 0 0 0 [some (.ref xh), some (.long (lI v)), none, some (.ref a), none, none, none] []
  have hR' : ∀ G : Gh, FR [9] G0 G → ROAD G xh a t w := fun G f => hR.fr f (by decide) (by simpa using ht)
  have hX' : ∀ G : Gh, FR [9] G0 G → G xh = some (tx, .inl (0, fx)) := fun G f => f _ _ hx (by simpa using htx)
  have l4 : ∀ k : Nat, k ≤ 5 → WW Z 7 (FR [9] G0) (160 + k) (1920 + 7 * k) 129 [some (.ref xh), some (.long (lI v)), none, some (.ref a), some (.long (lI (mixL (rr4 w ++ rowL (fun k => fTold w k) (if wClosed w then k else 0)) v))), none, some (.int (iI (k : Int)))] [] := by
    refine loopN _ _ (fun k hk ih => ?_)
    refine ww_all (fun G1 f1 => ?_)
    refine r_iload (pc := 129) C dX0_mixedRoad_129 rfl ?_
    refine r_iconstZ (pc := 131) C dX0_mixedRoad_131 ?_
    refine r_icmp_geZ (pc := 132) (tgt := 165) C dX0_mixedRoad_132 (by decide) (by unfold i32; omega) (by unfold i32; omega) (fun h132 => ?_) (fun h132 => ?_)
    · refine r_lload (pc := 165) C dX0_mixedRoad_165 rfl ?_
      exact r_lret (pc := 167) C hQ dX0_mixedRoad_167 (by dsimp only [rmk]; omega) (by dsimp only [rmk]; omega) (fun G hG => (by cases hG; refine ⟨?_, f1⟩; rw [← rr_all]; first | (rw [bi_0.mp h139, if_neg (by decide), if_neg (by decide)]; done) | (rw [show k = 5 by omega]; done)))
    · refine r_aload_n (pc := 135) C dX0_mixedRoad_135 rfl rfl ?_
      refine r_invD (pc := 136) (ci := 4) (owner := "RiverWords$Worded") (x2 := ⟨"RiverWords$Road", "isClosed", "()Z"⟩) 0 C dX0_mixedRoad_136 (xr_isClosed (hR' G1 f1) hw.2) (gRd (hR' G1 f1)) (show vwC[4]? = some (RX4, TX4, 3) from rfl) rfl (lw_meth q749) q100 q747 (by decide +kernel) (by decide +kernel) (by decide +kernel) (by decide +kernel) (by decide +kernel) rfl rfl ⟨Nat.le_of_ble_eq_true rfl, Nat.le_of_ble_eq_true rfl⟩ (Nat.le_of_ble_eq_true rfl) ⟨by dsimp only [rmk]; omega, by dsimp only [rmk]; omega⟩ (rd_k ?_)
      refine r_if_eqZ (pc := 139) (tgt := 165) C dX0_mixedRoad_139 (by decide) (bi_i _) (fun h139 => ?_) (fun h139 => ?_)
      · refine r_lload (pc := 165) C dX0_mixedRoad_165 rfl ?_
        exact r_lret (pc := 167) C hQ dX0_mixedRoad_167 (by dsimp only [rmk]; omega) (by dsimp only [rmk]; omega) (fun G hG => (by cases hG; refine ⟨?_, f1⟩; rw [← rr_all]; first | (rw [bi_0.mp h139, if_neg (by decide), if_neg (by decide)]; done) | (rw [show k = 5 by omega]; done)))
      · refine r_lload (pc := 142) C dX0_mixedRoad_142 rfl ?_
        refine r_aload_n (pc := 144) C dX0_mixedRoad_144 rfl rfl ?_
        have hcl : wClosed w = true := bi_n0 h139
        obtain ⟨s1, t1, m1, m2, m3⟩ := hR' G1 f1
        refine r_getN (pc := 145) (k := 1) (ci := 4) C dX0_mixedRoad_145 (g1 m1) (show vwC[4]? = some (RX4, TX4, 3) from rfl) in_X4 (by decide) (C.nf (h1 := "RiverWords") (by decide +kernel)) (fun _ h => h) rfl ?_
        refine r_iload (pc := 148) C dX0_mixedRoad_148 rfl ?_
        refine r_invS (pc := 150) 2 C dX0_mixedRoad_150 (xo_formTold (k : Int) m3 hw.2 hcl ⟨by omega, by omega⟩) rfl (lw_S q794 q795 q81 q796) (by decide +kernel) rfl rfl ⟨Nat.le_of_ble_eq_true rfl, Nat.le_of_ble_eq_true rfl⟩ (Nat.le_of_ble_eq_true rfl) ⟨by dsimp only [rmk]; omega, by dsimp only [rmk]; omega⟩ (fun v150 G150 h150 => ?_)
        obtain ⟨rfl, q1⟩ := h150
        refine r_i2lW (pc := 153) C dX0_mixedRoad_153 ?_
        refine r_invP (pc := 154) 2 C dX0_mixedRoad_154 (xf_mixed (mixL (rr4 w ++ rowL (fun k => fTold w k) (if wClosed w then k else 0)) v) (w32 (fTold w k))) rfl (lw_S q1152 q1153 q81 q1154) (by decide +kernel) rfl rfl ⟨Nat.le_of_ble_eq_true rfl, Nat.le_of_ble_eq_true rfl⟩ (Nat.le_of_ble_eq_true rfl) ⟨by dsimp only [rmk]; omega, by dsimp only [rmk]; omega⟩ ?_
        refine r_lstore (pc := 157) C dX0_mixedRoad_157 (by decide) ?_
        refine r_iincZ (pc := 159) C dX0_mixedRoad_159 rfl (by decide) ?_
        refine r_goto (pc := 162) (tgt := 129) C dX0_mixedRoad_162 (by decide) ?_
        have L := ih (by omega)
        rw [if_pos hcl] at L ⊢
        rw [mixR] at L
        refine ww_wide (n' := 160 + (k + 1)) (s' := 1920 + 7 * (k + 1)) (by dsimp only [rmk]; omega) (by dsimp only [rmk]; omega) ?_
        exact ww_to (fun G hG => by rw [hG]; exact f1.tr (q1.nil _)) L
  have l3 : ∀ k : Nat, k ≤ 4 → WW Z 7 (FR [9] G0) 160 1920 69 [some (.ref xh), some (.long (lI v)), none, some (.ref a), some (.long (lI (mixL (rr2 w ++ rowL (fun k => tTold w k) k) v))), none, some (.int (iI (k : Int)))] [] := by
    refine loopN _ _ (fun k hk ih => ?_)
    refine ww_all (fun G1 f1 => ?_)
    obtain ⟨s1, t1, m1, m2, m3⟩ := hR' G1 f1
    refine r_iload (pc := 69) C dX0_mixedRoad_69 rfl ?_
    refine r_iconstZ (pc := 71) C dX0_mixedRoad_71 ?_
    refine r_icmp_geZ (pc := 72) (tgt := 98) C dX0_mixedRoad_72 (by decide) (by unfold i32; omega) (by unfold i32; omega) (fun h72 => ?_) (fun h72 => ?_)
    · obtain rfl : k = 4 := (by omega)
      refine r_lload (pc := 98) C dX0_mixedRoad_98 rfl ?_
      refine r_aload_n (pc := 100) C dX0_mixedRoad_100 rfl rfl ?_
      refine r_getN (pc := 101) (k := 1) (ci := 4) C dX0_mixedRoad_101 (g1 m1) (show vwC[4]? = some (RX4, TX4, 3) from rfl) in_X4 (by decide) (C.nf (h1 := "RiverWords") (by decide +kernel)) (fun _ h => h) rfl ?_
      refine r_iconstZ (pc := 104) C dX0_mixedRoad_104 ?_
      refine r_invS (pc := 105) 2 C dX0_mixedRoad_105 (xo_endTold 0 m3 ⟨by omega, by omega⟩) rfl (lw_S q853 q854 q81 q855) (by decide +kernel) rfl rfl ⟨Nat.le_of_ble_eq_true rfl, Nat.le_of_ble_eq_true rfl⟩ (Nat.le_of_ble_eq_true rfl) ⟨(by first | exact Nat.le_of_ble_eq_true rfl | (dsimp only [rmk]; omega) | omega), (by first | exact Nat.le_of_ble_eq_true rfl | (dsimp only [rmk]; omega) | omega)⟩ (rd_k ?_)
      refine r_i2lW (pc := 108) C dX0_mixedRoad_108 ?_
      refine r_invP (pc := 109) 2 C dX0_mixedRoad_109 (xf_mixed (mixL (rr3 w) v) (w32 (eTold w 0))) rfl (lw_S q1152 q1153 q81 q1154) (by decide +kernel) rfl rfl ⟨Nat.le_of_ble_eq_true rfl, Nat.le_of_ble_eq_true rfl⟩ (Nat.le_of_ble_eq_true rfl) ⟨(by first | exact Nat.le_of_ble_eq_true rfl | (dsimp only [rmk]; omega) | omega), (by first | exact Nat.le_of_ble_eq_true rfl | (dsimp only [rmk]; omega) | omega)⟩ ?_
      refine r_aload_n (pc := 112) C dX0_mixedRoad_112 rfl rfl ?_
      refine r_getN (pc := 113) (k := 1) (ci := 4) C dX0_mixedRoad_113 (g1 m1) (show vwC[4]? = some (RX4, TX4, 3) from rfl) in_X4 (by decide) (C.nf (h1 := "RiverWords") (by decide +kernel)) (fun _ h => h) rfl ?_
      refine r_iconstZ (pc := 116) C dX0_mixedRoad_116 ?_
      refine r_invS (pc := 117) 2 C dX0_mixedRoad_117 (xo_endTold 1 m3 ⟨by omega, by omega⟩) rfl (lw_S q853 q854 q81 q855) (by decide +kernel) rfl rfl ⟨Nat.le_of_ble_eq_true rfl, Nat.le_of_ble_eq_true rfl⟩ (Nat.le_of_ble_eq_true rfl) ⟨(by first | exact Nat.le_of_ble_eq_true rfl | (dsimp only [rmk]; omega) | omega), (by first | exact Nat.le_of_ble_eq_true rfl | (dsimp only [rmk]; omega) | omega)⟩ (rd_k ?_)
      refine r_i2lW (pc := 120) C dX0_mixedRoad_120 ?_
      refine r_invP (pc := 121) 2 C dX0_mixedRoad_121 (xf_mixed (31 * mixL (rr3 w) v + w32 (eTold w 0)) (w32 (eTold w 1))) rfl (lw_S q1152 q1153 q81 q1154) (by decide +kernel) rfl rfl ⟨Nat.le_of_ble_eq_true rfl, Nat.le_of_ble_eq_true rfl⟩ (Nat.le_of_ble_eq_true rfl) ⟨(by first | exact Nat.le_of_ble_eq_true rfl | (dsimp only [rmk]; omega) | omega), (by first | exact Nat.le_of_ble_eq_true rfl | (dsimp only [rmk]; omega) | omega)⟩ ?_
      refine r_lstore (pc := 124) C dX0_mixedRoad_124 (by decide) ?_
      refine r_iconstZ (pc := 126) C dX0_mixedRoad_126 ?_
      refine r_istore (pc := 127) C dX0_mixedRoad_127 (by decide) ?_
      have L := l4 0 (Nat.zero_le _)
      rw [show (if wClosed w = true then 0 else 0) = 0 by split <;> rfl, show rowL (fun k => fTold w k) 0 = [] from rfl, List.append_nil, mix1, mix1] at L
      exact ww_to (fun G hG => by rw [hG]; exact f1) L
    · refine r_lload (pc := 75) C dX0_mixedRoad_75 rfl ?_
      refine r_aload_n (pc := 77) C dX0_mixedRoad_77 rfl rfl ?_
      refine r_getN (pc := 78) (k := 1) (ci := 4) C dX0_mixedRoad_78 (g1 m1) (show vwC[4]? = some (RX4, TX4, 3) from rfl) in_X4 (by decide) (C.nf (h1 := "RiverWords") (by decide +kernel)) (fun _ h => h) rfl ?_
      refine r_iload (pc := 81) C dX0_mixedRoad_81 rfl ?_
      refine r_invV (pc := 83) (ci := 1) 1 C dX0_mixedRoad_83 (xt_told (k : Int) m3 (by unfold i32; omega)) (g2 m3) (show vwC[1]? = some (RX1, TX1, 4) from rfl) rfl (lw_V q786 q787 q788 q82 q789) (by decide +kernel) rfl rfl ⟨Nat.le_of_ble_eq_true rfl, Nat.le_of_ble_eq_true rfl⟩ (Nat.le_of_ble_eq_true rfl) ⟨(by first | exact Nat.le_of_ble_eq_true rfl | (dsimp only [rmk]; omega) | omega), (by first | exact Nat.le_of_ble_eq_true rfl | (dsimp only [rmk]; omega) | omega)⟩ (rd_k ?_)
      refine r_i2lW (pc := 86) C dX0_mixedRoad_86 ?_
      refine r_invP (pc := 87) 2 C dX0_mixedRoad_87 (xf_mixed (mixL (rr2 w ++ rowL (fun k => tTold w k) k) v) (w32 (tTold w k))) rfl (lw_S q1152 q1153 q81 q1154) (by decide +kernel) rfl rfl ⟨Nat.le_of_ble_eq_true rfl, Nat.le_of_ble_eq_true rfl⟩ (Nat.le_of_ble_eq_true rfl) ⟨(by first | exact Nat.le_of_ble_eq_true rfl | (dsimp only [rmk]; omega) | omega), (by first | exact Nat.le_of_ble_eq_true rfl | (dsimp only [rmk]; omega) | omega)⟩ ?_
      refine r_lstore (pc := 90) C dX0_mixedRoad_90 (by decide) ?_
      refine r_iincZ (pc := 92) C dX0_mixedRoad_92 rfl (by decide) ?_
      refine r_goto (pc := 95) (tgt := 69) C dX0_mixedRoad_95 (by decide) ?_
      have L := ih (by omega)
      rw [mixR] at L
      exact ww_to (fun G hG => by rw [hG]; exact f1) L
  have l2 : ∀ k : Nat, k ≤ w.length → WW Z 7 (FR [9] G0) 160 1920 37 [some (.ref xh), some (.long (lI v)), none, some (.ref a), some (.long (lI (mixL (rr1 w ++ rowL (fun k => codeB (wl w k)) k) v))), none, some (.int (iI (k : Int)))] [] := by
    refine loopN _ _ (fun k hk ih => ?_)
    refine ww_all (fun G1 f1 => ?_)
    refine r_iload (pc := 37) C dX0_mixedRoad_37 rfl ?_
    refine r_aload_n (pc := 39) C dX0_mixedRoad_39 rfl rfl ?_
    refine r_invD (pc := 40) (ci := 4) (owner := "RiverWords$Worded") (x2 := ⟨"RiverWords$Road", "length", "()I"⟩) 0 C dX0_mixedRoad_40 (xr_length (hR' G1 f1)) (gRd (hR' G1 f1)) (show vwC[4]? = some (RX4, TX4, 3) from rfl) rfl (lw_meth q690) q100 q688 (by decide +kernel) (by decide +kernel) (by decide +kernel) (by decide +kernel) (by decide +kernel) rfl rfl ⟨Nat.le_of_ble_eq_true rfl, Nat.le_of_ble_eq_true rfl⟩ (Nat.le_of_ble_eq_true rfl) ⟨(by first | exact Nat.le_of_ble_eq_true rfl | (dsimp only [rmk]; omega) | omega), (by first | exact Nat.le_of_ble_eq_true rfl | (dsimp only [rmk]; omega) | omega)⟩ (rd_k ?_)
    refine r_icmp_geZ (pc := 43) (tgt := 66) C dX0_mixedRoad_43 (by decide) (by unfold i32; omega) (by unfold i32; omega) (fun h43 => ?_) (fun h43 => ?_)
    · refine r_iconstZ (pc := 66) C dX0_mixedRoad_66 ?_
      refine r_istore (pc := 67) C dX0_mixedRoad_67 (by decide) ?_
      obtain rfl : k = w.length := (by omega)
      have L := l3 0 (Nat.zero_le _)
      rw [show rowL (fun k => tTold w k) 0 = [] from rfl, List.append_nil] at L
      exact ww_to (fun G hG => by rw [hG]; exact f1) L
    · refine r_lload (pc := 46) C dX0_mixedRoad_46 rfl ?_
      refine r_aload_n (pc := 48) C dX0_mixedRoad_48 rfl rfl ?_
      refine r_iload (pc := 49) C dX0_mixedRoad_49 rfl ?_
      refine r_invD (pc := 51) (ci := 4) (owner := "RiverWords$Worded") (x2 := ⟨"RiverWords$Road", "sign", "(I)C"⟩) 1 C dX0_mixedRoad_51 (xr_sign (k : Int) (hR' G1 f1) ⟨by omega, by omega⟩) (gRd (hR' G1 f1)) (show vwC[4]? = some (RX4, TX4, 3) from rfl) rfl (lw_meth q725) q100 q723 (by decide +kernel) (by decide +kernel) (by decide +kernel) (by decide +kernel) (by decide +kernel) rfl rfl ⟨Nat.le_of_ble_eq_true rfl, Nat.le_of_ble_eq_true rfl⟩ (Nat.le_of_ble_eq_true rfl) ⟨(by first | exact Nat.le_of_ble_eq_true rfl | (dsimp only [rmk]; omega) | omega), (by first | exact Nat.le_of_ble_eq_true rfl | (dsimp only [rmk]; omega) | omega)⟩ (rd_k ?_)
      rw [show ((k : Int)).toNat = k from rfl]
      refine r_i2lW (pc := 54) C dX0_mixedRoad_54 ?_
      refine r_invP (pc := 55) 2 C dX0_mixedRoad_55 (xf_mixed (mixL (rr1 w ++ rowL (fun k => codeB (wl w k)) k) v) (w32 (codeB (wl w k)))) rfl (lw_S q1152 q1153 q81 q1154) (by decide +kernel) rfl rfl ⟨Nat.le_of_ble_eq_true rfl, Nat.le_of_ble_eq_true rfl⟩ (Nat.le_of_ble_eq_true rfl) ⟨(by first | exact Nat.le_of_ble_eq_true rfl | (dsimp only [rmk]; omega) | omega), (by first | exact Nat.le_of_ble_eq_true rfl | (dsimp only [rmk]; omega) | omega)⟩ ?_
      refine r_lstore (pc := 58) C dX0_mixedRoad_58 (by decide) ?_
      refine r_iincZ (pc := 60) C dX0_mixedRoad_60 rfl (by decide) ?_
      refine r_goto (pc := 63) (tgt := 37) C dX0_mixedRoad_63 (by decide) ?_
      have L := ih (by omega)
      rw [mixR] at L
      exact ww_to (fun G hG => by rw [hG]; exact f1) L
  have l1 : ∀ k : Nat, k ≤ 10 → WW Z 7 (FR [9] G0) (16 * k) (192 * k) 6 [some (.ref xh), some (.long (lI v)), none, some (.ref a), some (.long (lI (mixL ([] ++ rowL (fun k => wTold w k) k) v))), none, some (.int (iI (k : Int)))] [] := by
    refine loopN _ _ (fun k hk ih => ?_)
    refine ww_all (fun G1 f1 => ?_)
    refine r_iload (pc := 6) C dX0_mixedRoad_6 rfl ?_
    refine r_bipushZ (pc := 8) C dX0_mixedRoad_8 (by decide) ?_
    refine r_icmp_geZ (pc := 10) (tgt := 34) C dX0_mixedRoad_10 (by decide) (by unfold i32; omega) (by unfold i32; omega) (fun h10 => ?_) (fun h10 => ?_)
    · refine r_iconstZ (pc := 34) C dX0_mixedRoad_34 ?_
      refine r_istore (pc := 35) C dX0_mixedRoad_35 (by decide) ?_
      obtain rfl : k = 10 := (by omega)
      have L := l2 0 (Nat.zero_le _)
      rw [show rowL (fun k => codeB (wl w k)) 0 = [] from rfl, List.append_nil] at L
      exact ww_to (fun G hG => by rw [hG]; exact f1) L
    · refine r_lload (pc := 13) C dX0_mixedRoad_13 rfl ?_
      refine r_aload_n (pc := 15) C dX0_mixedRoad_15 rfl rfl ?_
      refine r_aload_n (pc := 16) C dX0_mixedRoad_16 rfl rfl ?_
      refine r_iload (pc := 17) C dX0_mixedRoad_17 rfl ?_
      refine r_invV (pc := 19) (ci := 0) 2 C dX0_mixedRoad_19 (xo_roadTold (k : Int) (hR' G1 f1) hw ⟨by omega, by omega⟩) (g2 (hX' G1 f1)) (show vwC[0]? = some (RX0, TX0, 10) from rfl) rfl (lw_V q682 q684 qs9 q81 q685) (by decide +kernel) rfl rfl ⟨Nat.le_of_ble_eq_true rfl, Nat.le_of_ble_eq_true rfl⟩ (Nat.le_of_ble_eq_true rfl) ⟨by dsimp only [rmk]; omega, by dsimp only [rmk]; omega⟩ (fun v19 G19 h19 => ?_)
      obtain ⟨rfl, q1⟩ := h19
      refine r_i2lW (pc := 22) C dX0_mixedRoad_22 ?_
      refine r_invP (pc := 23) 2 C dX0_mixedRoad_23 (xf_mixed (mixL ([] ++ rowL (fun k => wTold w k) k) v) (w32 (wTold w k))) rfl (lw_S q1152 q1153 q81 q1154) (by decide +kernel) rfl rfl ⟨Nat.le_of_ble_eq_true rfl, Nat.le_of_ble_eq_true rfl⟩ (Nat.le_of_ble_eq_true rfl) ⟨by dsimp only [rmk]; omega, by dsimp only [rmk]; omega⟩ ?_
      refine r_lstore (pc := 26) C dX0_mixedRoad_26 (by decide) ?_
      refine r_iincZ (pc := 28) C dX0_mixedRoad_28 rfl (by decide) ?_
      refine r_goto (pc := 31) (tgt := 6) C dX0_mixedRoad_31 (by decide) ?_
      have L := ih (by omega)
      rw [mixR] at L
      refine ww_wide (n' := 16 * (k + 1)) (s' := 192 * (k + 1)) (by dsimp only [rmk]; omega) (by dsimp only [rmk]; omega) ?_
      exact ww_to (fun G hG => by rw [hG]; exact f1.tr q1) L
  refine r_lload_n (pc := 0) C dX0_mixedRoad_0 rfl rfl ?_
  refine r_lstore (pc := 1) C dX0_mixedRoad_1 (by decide) ?_
  refine r_iconstZ (pc := 3) C dX0_mixedRoad_3 ?_
  refine r_istore (pc := 4) C dX0_mixedRoad_4 (by decide) ?_
  exact ww_to (fun G hG => by rw [hG]; exact FR.rf) (l1 0 (Nat.zero_le _))
set_option maxHeartbeats 800000 in
theorem xo_mixedCrossings {la : Launch} {X : XE} {G0 : Gh} {xh : Nat} {x : AS} {A : Nat → Nat} {dr : Int} {rls : List Nat} {rm : Nat} {fls : List Nat} {fm : Nat} {cls : List Nat} {cm : Nat} (h : CW X G0 xh x A dr rls rm fls fm cls cm) (v : Int) : MG la X yX0_mixedCrossings cX0_mixedCrossings 8 (some .long) (rmk 7 0 0 155) [.ref xh, .long (lI v)] (fun G => G = G0) (fun zv G => zv = some (.long (lI (mixL (rowXs x.ws) v))) ∧ G = G0) := by
  refine MG.of (by decide +kernel) (Nat.le_of_ble_eq_true rfl) ?_
  intro Z C hX hL hQ
  subst hX; subst hL
  change WW Z 8 (fun G => G = G0) 0 0 0 [some (.ref xh), some (.long (lI v)), none, none, none, none, none, none] []
  have hk6 : x.ws.length ≤ 6 := h.rk.1
  have loop : ∀ i : Nat, i ≤ x.ws.length → ∀ v6 v7 : Option Value, WW Z 8 (fun G => G = G0) 0 0 5 [some (.ref xh), some (.long (lI v)), none, some (.long (lI (mixL (catN (fun i => catN (fun j => if i ≤ j then rowCross (x.ws.getD i []) (x.ws.getD j []) else []) x.ws.length) i) v))), none, some (.int (iI (i : Int))), v6, v7] [] := by
    refine loopN _ _ (fun i hi ih v6 v7 => ?_)
    have inner : i < x.ws.length → ∀ j : Nat, j ≤ x.ws.length → i ≤ j → ∀ v7 : Option Value, WW Z 8 (fun G => G = G0) 0 0 21 [some (.ref xh), some (.long (lI v)), none, some (.long (lI (mixL (catN (fun i => catN (fun j => if i ≤ j then rowCross (x.ws.getD i []) (x.ws.getD j []) else []) x.ws.length) i ++ catN (fun j => if i ≤ j then rowCross (x.ws.getD i []) (x.ws.getD j []) else []) j) v))), none, some (.int (iI (i : Int))), some (.int (iI (j : Int))), v7] [] := by
      intro hil
      refine loopN _ _ (fun j hj ihj hij v7 => ?_)
      have e : ∀ l : List Int, (if i ≤ j then rowCross (x.ws.getD i []) (x.ws.getD j []) else []) = l → catN (fun i => catN (fun j => if i ≤ j then rowCross (x.ws.getD i []) (x.ws.getD j []) else []) x.ws.length) i ++ catN (fun j => if i ≤ j then rowCross (x.ws.getD i []) (x.ws.getD j []) else []) (j + 1) = (catN (fun i => catN (fun j => if i ≤ j then rowCross (x.ws.getD i []) (x.ws.getD j []) else []) x.ws.length) i ++ catN (fun j => if i ≤ j then rowCross (x.ws.getD i []) (x.ws.getD j []) else []) j) ++ l := by
        intro l hl
        rw [← hl, List.append_assoc]
        rfl
      have fin : ∀ (b : Bool) (q : Int), j < x.ws.length → q = mixL (catN (fun i => catN (fun j => if i ≤ j then rowCross (x.ws.getD i []) (x.ws.getD j []) else []) x.ws.length) i ++ catN (fun j => if i ≤ j then rowCross (x.ws.getD i []) (x.ws.getD j []) else []) (j + 1)) v → WW Z 8 (fun G => G = G0) 0 0 123 [some (.ref xh), some (.long (lI v)), none, some (.long (lI (mixL (catN (fun i => catN (fun j => if i ≤ j then rowCross (x.ws.getD i []) (x.ws.getD j []) else []) x.ws.length) i ++ catN (fun j => if i ≤ j then rowCross (x.ws.getD i []) (x.ws.getD j []) else []) j) v))), none, some (.int (iI (i : Int))), some (.int (iI (j : Int))), some (.int (iI (bi b)))] [.long (lI q)] := by
        intro b q hjl hq
        subst hq
        refine r_lstore_n (pc := 123) C dX0_mixedCrossings_123 rfl (by decide) ?_
        refine r_iincZ (pc := 124) C dX0_mixedCrossings_124 rfl (by decide) ?_
        refine r_goto (pc := 127) (tgt := 21) C dX0_mixedCrossings_127 (by decide) ?_
        exact ihj hjl (by omega) _
      have yes : j < x.ws.length → wClosed (x.ws.getD i []) = true → wClosed (x.ws.getD j []) = true → WW Z 8 (fun G => G = G0) 0 0 74 [some (.ref xh), some (.long (lI v)), none, some (.long (lI (mixL (catN (fun i => catN (fun j => if i ≤ j then rowCross (x.ws.getD i []) (x.ws.getD j []) else []) x.ws.length) i ++ catN (fun j => if i ≤ j then rowCross (x.ws.getD i []) (x.ws.getD j []) else []) j) v))), none, some (.int (iI (i : Int))), some (.int (iI (j : Int))), v7] [.int (iI 1)] := by
        intro hjl c1 c2
        obtain ⟨s1, t1, m1, m2, m3⟩ := h.rs.2.1 i (by omega)
        obtain ⟨s2, t2, l1, l2, l3⟩ := h.rs.2.1 j (by omega)
        refine r_istore (pc := 74) C dX0_mixedCrossings_74 (by decide) ?_
        refine r_iload (pc := 76) C dX0_mixedCrossings_76 rfl ?_
        refine r_if_eqZ (pc := 78) (tgt := 122) C dX0_mixedCrossings_78 (by decide) (by unfold i32; omega) (fun h78 => absurd h78 (by omega)) (fun h78 => ?_)
        refine r_lload_n (pc := 81) C dX0_mixedCrossings_81 rfl rfl ?_
        refine r_aload_n (pc := 82) C dX0_mixedCrossings_82 rfl rfl ?_
        refine r_get (pc := 83) (k := 3) (ci := 0) C dX0_mixedCrossings_83 (g1 h.ob) (show vwC[0]? = some (RX0, TX0, 10) from rfl) in_X0 (by decide) (C.t _ q278) (fun _ h => h) rfl ?_
        refine r_iload (pc := 86) C dX0_mixedCrossings_86 rfl ?_
        refine r_invV (pc := 88) (ci := 8) 1 C dX0_mixedCrossings_88 (jl_get (i : Int) h.rl ⟨by omega, by rw [h.rn]; omega⟩) (gLs h.rl) (show vwC[8]? = some (RJ6, TJ6, 3) from rfl) rfl (lw_V q670 q671 q672 q89 q673) (by decide +kernel) rfl rfl ⟨Nat.le_of_ble_eq_true rfl, Nat.le_of_ble_eq_true rfl⟩ (Nat.le_of_ble_eq_true rfl) ⟨Nat.le_of_ble_eq_true rfl, Nat.le_of_ble_eq_true rfl⟩ (rd_k ?_)
        rw [show ((i : Int)).toNat = i from rfl]
        refine r_castO (pc := 91) (ci := 4) C dX0_mixedCrossings_91 (g2 m1) (show vwC[4]? = some (RX4, TX4, 3) from rfl) q584 ?_
        refine r_getN (pc := 94) (k := 0) (ci := 4) C dX0_mixedCrossings_94 (g1 m1) (show vwC[4]? = some (RX4, TX4, 3) from rfl) in_X4 (by decide) (C.nf (h1 := "RiverWords") (by decide +kernel)) (fun _ h => h) rfl ?_
        refine r_aload_n (pc := 97) C dX0_mixedCrossings_97 rfl rfl ?_
        refine r_get (pc := 98) (k := 3) (ci := 0) C dX0_mixedCrossings_98 (g1 h.ob) (show vwC[0]? = some (RX0, TX0, 10) from rfl) in_X0 (by decide) (C.t _ q278) (fun _ h => h) rfl ?_
        refine r_iload (pc := 101) C dX0_mixedCrossings_101 rfl ?_
        refine r_invV (pc := 103) (ci := 8) 1 C dX0_mixedCrossings_103 (jl_get (j : Int) h.rl ⟨by omega, by rw [h.rn]; omega⟩) (gLs h.rl) (show vwC[8]? = some (RJ6, TJ6, 3) from rfl) rfl (lw_V q670 q671 q672 q89 q673) (by decide +kernel) rfl rfl ⟨Nat.le_of_ble_eq_true rfl, Nat.le_of_ble_eq_true rfl⟩ (Nat.le_of_ble_eq_true rfl) ⟨Nat.le_of_ble_eq_true rfl, Nat.le_of_ble_eq_true rfl⟩ (rd_k ?_)
        rw [show ((j : Int)).toNat = j from rfl]
        refine r_castO (pc := 106) (ci := 4) C dX0_mixedCrossings_106 (g2 l1) (show vwC[4]? = some (RX4, TX4, 3) from rfl) q584 ?_
        refine r_getN (pc := 109) (k := 0) (ci := 4) C dX0_mixedCrossings_109 (g1 l1) (show vwC[4]? = some (RX4, TX4, 3) from rfl) in_X4 (by decide) (C.nf (h1 := "RiverWords") (by decide +kernel)) (fun _ h => h) rfl ?_
        refine r_invS (pc := 112) 2 C dX0_mixedCrossings_112 (xo_crossings m2 l2 (h.rk.2 i (by omega)) (h.rk.2 j (by omega))) rfl (lw_S q868 q869 q81 q870) (by decide +kernel) rfl rfl ⟨Nat.le_of_ble_eq_true rfl, Nat.le_of_ble_eq_true rfl⟩ (Nat.le_of_ble_eq_true rfl) ⟨Nat.le_of_ble_eq_true rfl, Nat.le_of_ble_eq_true rfl⟩ (rd_k ?_)
        refine r_i2lW (pc := 115) C dX0_mixedCrossings_115 ?_
        refine r_invP (pc := 116) 2 C dX0_mixedCrossings_116 (xf_mixed (mixL (catN (fun i => catN (fun j => if i ≤ j then rowCross (x.ws.getD i []) (x.ws.getD j []) else []) x.ws.length) i ++ catN (fun j => if i ≤ j then rowCross (x.ws.getD i []) (x.ws.getD j []) else []) j) v) (w32 (sCross (x.ws.getD i []) (x.ws.getD j [])))) rfl (lw_S q1152 q1153 q81 q1154) (by decide +kernel) rfl rfl ⟨Nat.le_of_ble_eq_true rfl, Nat.le_of_ble_eq_true rfl⟩ (Nat.le_of_ble_eq_true rfl) ⟨Nat.le_of_ble_eq_true rfl, Nat.le_of_ble_eq_true rfl⟩ ?_
        refine r_goto (pc := 119) (tgt := 123) C dX0_mixedCrossings_119 (by decide) ?_
        exact fin true _ hjl (by rw [e [sCross (x.ws.getD i []) (x.ws.getD j [])] (by rw [if_pos hij]; unfold rowCross; rw [if_pos ⟨c1, c2⟩]), mix1])
      have no : j < x.ws.length → ¬ (wClosed (x.ws.getD i []) = true ∧ wClosed (x.ws.getD j []) = true) → WW Z 8 (fun G => G = G0) 0 0 74 [some (.ref xh), some (.long (lI v)), none, some (.long (lI (mixL (catN (fun i => catN (fun j => if i ≤ j then rowCross (x.ws.getD i []) (x.ws.getD j []) else []) x.ws.length) i ++ catN (fun j => if i ≤ j then rowCross (x.ws.getD i []) (x.ws.getD j []) else []) j) v))), none, some (.int (iI (i : Int))), some (.int (iI (j : Int))), v7] [.int (iI 0)] := by
        intro hjl hn
        refine r_istore (pc := 74) C dX0_mixedCrossings_74 (by decide) ?_
        refine r_iload (pc := 76) C dX0_mixedCrossings_76 rfl ?_
        refine r_if_eqZ (pc := 78) (tgt := 122) C dX0_mixedCrossings_78 (by decide) (by unfold i32; omega) (fun h78 => ?_) (fun h78 => absurd h78 (by omega))
        refine r_lload_n (pc := 122) C dX0_mixedCrossings_122 rfl rfl ?_
        exact fin false _ hjl (by rw [e [] (by rw [if_pos hij]; unfold rowCross; rw [if_neg hn]), List.append_nil])
      refine r_iload (pc := 21) C dX0_mixedCrossings_21 rfl ?_
      refine r_aload_n (pc := 23) C dX0_mixedCrossings_23 rfl rfl ?_
      refine r_get (pc := 24) (k := 3) (ci := 0) C dX0_mixedCrossings_24 (g1 h.ob) (show vwC[0]? = some (RX0, TX0, 10) from rfl) in_X0 (by decide) (C.t _ q278) (fun _ h => h) rfl ?_
      refine r_invV (pc := 27) (ci := 8) 0 C dX0_mixedCrossings_27 (jl_size h.rl) (gLs h.rl) (show vwC[8]? = some (RJ6, TJ6, 3) from rfl) rfl (lw_V q580 q581 q582 q89 q583) (by decide +kernel) rfl rfl ⟨Nat.le_of_ble_eq_true rfl, Nat.le_of_ble_eq_true rfl⟩ (Nat.le_of_ble_eq_true rfl) ⟨Nat.le_of_ble_eq_true rfl, Nat.le_of_ble_eq_true rfl⟩ (rd_k ?_)
      rw [h.rn]
      refine r_icmp_geZ (pc := 30) (tgt := 130) C dX0_mixedCrossings_30 (by decide) (by unfold i32; omega) (by unfold i32; omega) (fun h30 => ?_) (fun h30 => ?_)
      · refine r_iincZ (pc := 130) C dX0_mixedCrossings_130 rfl (by decide) ?_
        refine r_goto (pc := 133) (tgt := 5) C dX0_mixedCrossings_133 (by decide) ?_
        obtain rfl : j = x.ws.length := (by omega)
        exact ih hil _ _
      · refine r_aload_n (pc := 33) C dX0_mixedCrossings_33 rfl rfl ?_
        refine r_get (pc := 34) (k := 3) (ci := 0) C dX0_mixedCrossings_34 (g1 h.ob) (show vwC[0]? = some (RX0, TX0, 10) from rfl) in_X0 (by decide) (C.t _ q278) (fun _ h => h) rfl ?_
        refine r_iload (pc := 37) C dX0_mixedCrossings_37 rfl ?_
        refine r_invV (pc := 39) (ci := 8) 1 C dX0_mixedCrossings_39 (jl_get (i : Int) h.rl ⟨by omega, by rw [h.rn]; omega⟩) (gLs h.rl) (show vwC[8]? = some (RJ6, TJ6, 3) from rfl) rfl (lw_V q670 q671 q672 q89 q673) (by decide +kernel) rfl rfl ⟨Nat.le_of_ble_eq_true rfl, Nat.le_of_ble_eq_true rfl⟩ (Nat.le_of_ble_eq_true rfl) ⟨Nat.le_of_ble_eq_true rfl, Nat.le_of_ble_eq_true rfl⟩ (rd_k ?_)
        rw [show ((i : Int)).toNat = i from rfl]
        refine r_castO (pc := 42) (ci := 4) C dX0_mixedCrossings_42 (gRd (h.rs.2.1 i (by omega))) (show vwC[4]? = some (RX4, TX4, 3) from rfl) q584 ?_
        refine r_invD (pc := 45) (ci := 4) (owner := "RiverWords$Worded") (x2 := ⟨"RiverWords$Road", "isClosed", "()Z"⟩) 0 C dX0_mixedCrossings_45 (xr_isClosed (h.rs.2.1 i (by omega)) (h.rk.2 i (by omega)).2) (gRd (h.rs.2.1 i (by omega))) (show vwC[4]? = some (RX4, TX4, 3) from rfl) rfl (lw_meth q749) q100 q747 (by decide +kernel) (by decide +kernel) (by decide +kernel) (by decide +kernel) (by decide +kernel) rfl rfl ⟨Nat.le_of_ble_eq_true rfl, Nat.le_of_ble_eq_true rfl⟩ (Nat.le_of_ble_eq_true rfl) ⟨Nat.le_of_ble_eq_true rfl, Nat.le_of_ble_eq_true rfl⟩ (rd_k ?_)
        refine r_if_eqZ (pc := 48) (tgt := 73) C dX0_mixedCrossings_48 (by decide) (bi_i _) (fun h48 => ?_) (fun h48 => ?_)
        · refine r_iconstZ (pc := 73) C dX0_mixedCrossings_73 ?_
          first | exact yes (by omega) (bi_n0 h48) (bi_n0 h66) | exact no (by omega) (fun q => by rw [bi_0.mp h66] at q; exact absurd q.2 (by decide)) | exact no (by omega) (fun q => by rw [bi_0.mp h48] at q; exact absurd q.1 (by decide))
        · refine r_aload_n (pc := 51) C dX0_mixedCrossings_51 rfl rfl ?_
          refine r_get (pc := 52) (k := 3) (ci := 0) C dX0_mixedCrossings_52 (g1 h.ob) (show vwC[0]? = some (RX0, TX0, 10) from rfl) in_X0 (by decide) (C.t _ q278) (fun _ h => h) rfl ?_
          refine r_iload (pc := 55) C dX0_mixedCrossings_55 rfl ?_
          refine r_invV (pc := 57) (ci := 8) 1 C dX0_mixedCrossings_57 (jl_get (j : Int) h.rl ⟨by omega, by rw [h.rn]; omega⟩) (gLs h.rl) (show vwC[8]? = some (RJ6, TJ6, 3) from rfl) rfl (lw_V q670 q671 q672 q89 q673) (by decide +kernel) rfl rfl ⟨Nat.le_of_ble_eq_true rfl, Nat.le_of_ble_eq_true rfl⟩ (Nat.le_of_ble_eq_true rfl) ⟨Nat.le_of_ble_eq_true rfl, Nat.le_of_ble_eq_true rfl⟩ (rd_k ?_)
          rw [show ((j : Int)).toNat = j from rfl]
          refine r_castO (pc := 60) (ci := 4) C dX0_mixedCrossings_60 (gRd (h.rs.2.1 j (by omega))) (show vwC[4]? = some (RX4, TX4, 3) from rfl) q584 ?_
          refine r_invD (pc := 63) (ci := 4) (owner := "RiverWords$Worded") (x2 := ⟨"RiverWords$Road", "isClosed", "()Z"⟩) 0 C dX0_mixedCrossings_63 (xr_isClosed (h.rs.2.1 j (by omega)) (h.rk.2 j (by omega)).2) (gRd (h.rs.2.1 j (by omega))) (show vwC[4]? = some (RX4, TX4, 3) from rfl) rfl (lw_meth q749) q100 q747 (by decide +kernel) (by decide +kernel) (by decide +kernel) (by decide +kernel) (by decide +kernel) rfl rfl ⟨Nat.le_of_ble_eq_true rfl, Nat.le_of_ble_eq_true rfl⟩ (Nat.le_of_ble_eq_true rfl) ⟨Nat.le_of_ble_eq_true rfl, Nat.le_of_ble_eq_true rfl⟩ (rd_k ?_)
          refine r_if_eqZ (pc := 66) (tgt := 73) C dX0_mixedCrossings_66 (by decide) (bi_i _) (fun h66 => ?_) (fun h66 => ?_)
          · refine r_iconstZ (pc := 73) C dX0_mixedCrossings_73 ?_
            first | exact yes (by omega) (bi_n0 h48) (bi_n0 h66) | exact no (by omega) (fun q => by rw [bi_0.mp h66] at q; exact absurd q.2 (by decide)) | exact no (by omega) (fun q => by rw [bi_0.mp h48] at q; exact absurd q.1 (by decide))
          · refine r_iconstZ (pc := 69) C dX0_mixedCrossings_69 ?_
            refine r_goto (pc := 70) (tgt := 74) C dX0_mixedCrossings_70 (by decide) ?_
            first | exact yes (by omega) (bi_n0 h48) (bi_n0 h66) | exact no (by omega) (fun q => by rw [bi_0.mp h66] at q; exact absurd q.2 (by decide)) | exact no (by omega) (fun q => by rw [bi_0.mp h48] at q; exact absurd q.1 (by decide))
    refine r_iload (pc := 5) C dX0_mixedCrossings_5 rfl ?_
    refine r_aload_n (pc := 7) C dX0_mixedCrossings_7 rfl rfl ?_
    refine r_get (pc := 8) (k := 3) (ci := 0) C dX0_mixedCrossings_8 (g1 h.ob) (show vwC[0]? = some (RX0, TX0, 10) from rfl) in_X0 (by decide) (C.t _ q278) (fun _ h => h) rfl ?_
    refine r_invV (pc := 11) (ci := 8) 0 C dX0_mixedCrossings_11 (jl_size h.rl) (gLs h.rl) (show vwC[8]? = some (RJ6, TJ6, 3) from rfl) rfl (lw_V q580 q581 q582 q89 q583) (by decide +kernel) rfl rfl ⟨Nat.le_of_ble_eq_true rfl, Nat.le_of_ble_eq_true rfl⟩ (Nat.le_of_ble_eq_true rfl) ⟨Nat.le_of_ble_eq_true rfl, Nat.le_of_ble_eq_true rfl⟩ (rd_k ?_)
    rw [h.rn]
    refine r_icmp_geZ (pc := 14) (tgt := 136) C dX0_mixedCrossings_14 (by decide) (by unfold i32; omega) (by unfold i32; omega) (fun h14 => ?_) (fun h14 => ?_)
    · refine r_lload_n (pc := 136) C dX0_mixedCrossings_136 rfl rfl ?_
      exact r_lret (pc := 137) C hQ dX0_mixedCrossings_137 (Nat.le_of_ble_eq_true rfl) (Nat.le_of_ble_eq_true rfl) (fun G hG => ⟨(by unfold rowXs; rw [show x.ws.length = i by omega]), hG⟩)
    · refine r_iload (pc := 17) C dX0_mixedCrossings_17 rfl ?_
      refine r_istore (pc := 19) C dX0_mixedCrossings_19 (by decide) ?_
      have L := inner (by omega) i hi (Nat.le_refl _) v7
      rw [catN_nil i (fun j hj => if_neg (by omega)), List.append_nil] at L
      exact L
  refine r_lload_n (pc := 0) C dX0_mixedCrossings_0 rfl rfl ?_
  refine r_lstore_n (pc := 1) C dX0_mixedCrossings_1 rfl (by decide) ?_
  refine r_iconstZ (pc := 2) C dX0_mixedCrossings_2 ?_
  refine r_istore (pc := 3) C dX0_mixedCrossings_3 (by decide) ?_
  exact loop 0 (Nat.zero_le _) none none
set_option maxHeartbeats 800000 in
theorem xo_mixedRiver {la : Launch} {X : XE} {G0 : Gh} {xh : Nat} {x : AS} {A : Nat → Nat} {dr : Int} {rls : List Nat} {rm : Nat} {fls : List Nat} {fm : Nat} {cls : List Nat} {cm : Nat} (h : CW X G0 xh x A dr rls rm fls fm cls cm) (v : Int) : MG la X yX0_mixedRiver cX0_mixedRiver 7 (some .long) (rmk 7 0 0 154) [.ref xh, .long (lI v)] (fun G => G = G0) (fun zv G => zv = some (.long (lI (mixL (rowRiver x.d) v))) ∧ G = G0) := by
  refine MG.of (by decide +kernel) (Nat.le_of_ble_eq_true rfl) ?_
  intro Z C hX hL hQ
  subst hX; subst hL
  change WW Z 7 (fun G => G = G0) 0 0 0 [some (.ref xh), some (.long (lI v)), none, none, none, none, none] []
  have hnR := nR_le h.rv
  have hnC := nC_le h.rv
  have loop2 : ∀ c : Nat, c ≤ nC x.d → ∀ v6 : Option Value, WW Z 7 (fun G => G = G0) 0 0 66 [some (.ref xh), some (.long (lI v)), none, some (.long (lI (mixL (catN (fun k => rowL (fun j => sNow x.d k j) 8) (nR x.d) ++ catN (fun c => rowL (fun j => cTold x.d c j) 5 ++ [trW 997 (wC x.d c)]) c) v))), none, some (.int (iI (c : Int))), v6] [] := by
    refine loopN _ _ (fun c hc ih v6 => ?_)
    have inner : c < nC x.d → ∀ j : Nat, j ≤ 5 → WW Z 7 (fun G => G = G0) 0 0 81 [some (.ref xh), some (.long (lI v)), none, some (.long (lI (mixL ((catN (fun k => rowL (fun j => sNow x.d k j) 8) (nR x.d) ++ catN (fun c => rowL (fun j => cTold x.d c j) 5 ++ [trW 997 (wC x.d c)]) c) ++ rowL (fun j => cTold x.d c j) j) v))), none, some (.int (iI (c : Int))), some (.int (iI (j : Int)))] [] := by
      intro hcl
      refine loopN _ _ (fun j hj ihj => ?_)
      refine r_iload (pc := 81) C dX0_mixedRiver_81 rfl ?_
      refine r_iconstZ (pc := 83) C dX0_mixedRiver_83 ?_
      refine r_icmp_geZ (pc := 84) (tgt := 117) C dX0_mixedRiver_84 (by decide) (by unfold i32; omega) (by unfold i32; omega) (fun h84 => ?_) (fun h84 => ?_)
      · refine r_lload_n (pc := 117) C dX0_mixedRiver_117 rfl rfl ?_
        refine r_aload_n (pc := 118) C dX0_mixedRiver_118 rfl rfl ?_
        refine r_iload (pc := 119) C dX0_mixedRiver_119 rfl ?_
        refine r_sipushZ (pc := 121) C dX0_mixedRiver_121 (by decide) ?_
        refine r_invV (pc := 124) (ci := 0) 2 C dX0_mixedRiver_124 (xo_trace h (c : Int) 997 (by unfold i32; omega) (by unfold i32; omega)) (g2 h.ob) (show vwC[0]? = some (RX0, TX0, 10) from rfl) rfl (lw_V q1164 q1068 q1069 q81 q1070) (by decide +kernel) rfl rfl ⟨Nat.le_of_ble_eq_true rfl, Nat.le_of_ble_eq_true rfl⟩ (Nat.le_of_ble_eq_true rfl) ⟨Nat.le_of_ble_eq_true rfl, Nat.le_of_ble_eq_true rfl⟩ (rd_k ?_)
        rw [show sTrace x.d (c : Int) 997 = trW 997 (wC x.d c) by unfold sTrace; rw [if_pos ⟨by omega, by omega⟩, if_pos ⟨by omega, by omega⟩]; rfl]
        obtain rfl : j = 5 := (by omega)
        refine r_i2lW (pc := 127) C dX0_mixedRiver_127 ?_
        refine r_invP (pc := 128) 2 C dX0_mixedRiver_128 (xf_mixed (mixL ((catN (fun k => rowL (fun j => sNow x.d k j) 8) (nR x.d) ++ catN (fun c => rowL (fun j => cTold x.d c j) 5 ++ [trW 997 (wC x.d c)]) c) ++ rowL (fun j => cTold x.d c j) 5) v) (w32 (trW 997 (wC x.d c)))) rfl (lw_S q1152 q1153 q81 q1154) (by decide +kernel) rfl rfl ⟨Nat.le_of_ble_eq_true rfl, Nat.le_of_ble_eq_true rfl⟩ (Nat.le_of_ble_eq_true rfl) ⟨Nat.le_of_ble_eq_true rfl, Nat.le_of_ble_eq_true rfl⟩ ?_
        refine r_lstore_n (pc := 131) C dX0_mixedRiver_131 rfl (by decide) ?_
        refine r_iincZ (pc := 132) C dX0_mixedRiver_132 rfl (by decide) ?_
        refine r_goto (pc := 135) (tgt := 66) C dX0_mixedRiver_135 (by decide) ?_
        have L := ih hcl (some (.int (iI (5 : Nat))))
        rw [show catN (fun c => rowL (fun j => cTold x.d c j) 5 ++ [trW 997 (wC x.d c)]) (c + 1) = catN (fun c => rowL (fun j => cTold x.d c j) 5 ++ [trW 997 (wC x.d c)]) c ++ (rowL (fun j => cTold x.d c j) 5 ++ [trW 997 (wC x.d c)]) from rfl, ← List.append_assoc, ← List.append_assoc, mix1] at L
        exact L
      · refine r_lload_n (pc := 87) C dX0_mixedRiver_87 rfl rfl ?_
        refine r_aload_n (pc := 88) C dX0_mixedRiver_88 rfl rfl ?_
        refine r_aload_n (pc := 89) C dX0_mixedRiver_89 rfl rfl ?_
        refine r_get (pc := 90) (k := 8) (ci := 0) C dX0_mixedRiver_90 (g1 h.ob) (show vwC[0]? = some (RX0, TX0, 10) from rfl) in_X0 (by decide) (C.t _ q284) (fun _ h => h) rfl ?_
        refine r_iload (pc := 93) C dX0_mixedRiver_93 rfl ?_
        refine r_invV (pc := 95) (ci := 8) 1 C dX0_mixedRiver_95 (jl_get (c : Int) h.cl ⟨by omega, by rw [h.cn]; omega⟩) (gLs h.cl) (show vwC[8]? = some (RJ6, TJ6, 3) from rfl) rfl (lw_V q670 q671 q672 q89 q673) (by decide +kernel) rfl rfl ⟨Nat.le_of_ble_eq_true rfl, Nat.le_of_ble_eq_true rfl⟩ (Nat.le_of_ble_eq_true rfl) ⟨Nat.le_of_ble_eq_true rfl, Nat.le_of_ble_eq_true rfl⟩ (rd_k ?_)
        rw [show ((c : Int)).toNat = c from rfl]
        refine r_castO (pc := 98) (ci := 6) C dX0_mixedRiver_98 (gCy (h.cy hcl)) (show vwC[6]? = some (RX7, TX7, 3) from rfl) q1015 ?_
        refine r_iload (pc := 101) C dX0_mixedRiver_101 rfl ?_
        refine r_invV (pc := 103) (ci := 0) 2 C dX0_mixedRiver_103 (xo_cycleTold h c (j : Int) hcl ⟨by omega, by omega⟩) (g2 h.ob) (show vwC[0]? = some (RX0, TX0, 10) from rfl) rfl (lw_V q1059 q1061 qs17 q81 q1062) (by decide +kernel) rfl rfl ⟨Nat.le_of_ble_eq_true rfl, Nat.le_of_ble_eq_true rfl⟩ (Nat.le_of_ble_eq_true rfl) ⟨Nat.le_of_ble_eq_true rfl, Nat.le_of_ble_eq_true rfl⟩ (rd_k ?_)
        refine r_i2lW (pc := 106) C dX0_mixedRiver_106 ?_
        refine r_invP (pc := 107) 2 C dX0_mixedRiver_107 (xf_mixed (mixL ((catN (fun k => rowL (fun j => sNow x.d k j) 8) (nR x.d) ++ catN (fun c => rowL (fun j => cTold x.d c j) 5 ++ [trW 997 (wC x.d c)]) c) ++ rowL (fun j => cTold x.d c j) j) v) (w32 (cTold x.d c j))) rfl (lw_S q1152 q1153 q81 q1154) (by decide +kernel) rfl rfl ⟨Nat.le_of_ble_eq_true rfl, Nat.le_of_ble_eq_true rfl⟩ (Nat.le_of_ble_eq_true rfl) ⟨Nat.le_of_ble_eq_true rfl, Nat.le_of_ble_eq_true rfl⟩ ?_
        refine r_lstore_n (pc := 110) C dX0_mixedRiver_110 rfl (by decide) ?_
        refine r_iincZ (pc := 111) C dX0_mixedRiver_111 rfl (by decide) ?_
        refine r_goto (pc := 114) (tgt := 81) C dX0_mixedRiver_114 (by decide) ?_
        have L := ihj (by omega)
        rw [mixR] at L
        exact L
    refine r_iload (pc := 66) C dX0_mixedRiver_66 rfl ?_
    refine r_aload_n (pc := 68) C dX0_mixedRiver_68 rfl rfl ?_
    refine r_get (pc := 69) (k := 8) (ci := 0) C dX0_mixedRiver_69 (g1 h.ob) (show vwC[0]? = some (RX0, TX0, 10) from rfl) in_X0 (by decide) (C.t _ q284) (fun _ h => h) rfl ?_
    refine r_invV (pc := 72) (ci := 8) 0 C dX0_mixedRiver_72 (jl_size h.cl) (gLs h.cl) (show vwC[8]? = some (RJ6, TJ6, 3) from rfl) rfl (lw_V q580 q581 q582 q89 q583) (by decide +kernel) rfl rfl ⟨Nat.le_of_ble_eq_true rfl, Nat.le_of_ble_eq_true rfl⟩ (Nat.le_of_ble_eq_true rfl) ⟨Nat.le_of_ble_eq_true rfl, Nat.le_of_ble_eq_true rfl⟩ (rd_k ?_)
    rw [h.cn]
    refine r_icmp_geZ (pc := 75) (tgt := 138) C dX0_mixedRiver_75 (by decide) (by unfold i32; omega) (by unfold i32; omega) (fun h75 => ?_) (fun h75 => ?_)
    · refine r_lload_n (pc := 138) C dX0_mixedRiver_138 rfl rfl ?_
      exact r_lret (pc := 139) C hQ dX0_mixedRiver_139 (Nat.le_of_ble_eq_true rfl) (Nat.le_of_ble_eq_true rfl) (fun G hG => ⟨(by unfold rowRiver; rw [show nC x.d = c by omega]), hG⟩)
    · refine r_iconstZ (pc := 78) C dX0_mixedRiver_78 ?_
      refine r_istore (pc := 79) C dX0_mixedRiver_79 (by decide) ?_
      have L := inner (by omega) 0 (Nat.zero_le _)
      rw [show rowL (fun j => cTold x.d c j) 0 = [] from rfl, List.append_nil] at L
      exact L
  have loop1 : ∀ k : Nat, k ≤ nR x.d → ∀ v6 : Option Value, WW Z 7 (fun G => G = G0) 0 0 5 [some (.ref xh), some (.long (lI v)), none, some (.long (lI (mixL (catN (fun k => rowL (fun j => sNow x.d k j) 8) k) v))), none, some (.int (iI (k : Int))), v6] [] := by
    refine loopN _ _ (fun k hk ih v6 => ?_)
    have inner : k < nR x.d → ∀ j : Nat, j ≤ 8 → WW Z 7 (fun G => G = G0) 0 0 20 [some (.ref xh), some (.long (lI v)), none, some (.long (lI (mixL (catN (fun k => rowL (fun j => sNow x.d k j) 8) k ++ rowL (fun j => sNow x.d k j) j) v))), none, some (.int (iI (k : Int))), some (.int (iI (j : Int)))] [] := by
      intro hkl
      refine loopN _ _ (fun j hj ihj => ?_)
      refine r_iload (pc := 20) C dX0_mixedRiver_20 rfl ?_
      refine r_bipushZ (pc := 22) C dX0_mixedRiver_22 (by decide) ?_
      refine r_icmp_geZ (pc := 24) (tgt := 57) C dX0_mixedRiver_24 (by decide) (by unfold i32; omega) (by unfold i32; omega) (fun h24 => ?_) (fun h24 => ?_)
      · refine r_iincZ (pc := 57) C dX0_mixedRiver_57 rfl (by decide) ?_
        refine r_goto (pc := 60) (tgt := 5) C dX0_mixedRiver_60 (by decide) ?_
        obtain rfl : j = 8 := (by omega)
        exact ih hkl _
      · refine r_lload_n (pc := 27) C dX0_mixedRiver_27 rfl rfl ?_
        refine r_aload_n (pc := 28) C dX0_mixedRiver_28 rfl rfl ?_
        refine r_aload_n (pc := 29) C dX0_mixedRiver_29 rfl rfl ?_
        refine r_get (pc := 30) (k := 7) (ci := 0) C dX0_mixedRiver_30 (g1 h.ob) (show vwC[0]? = some (RX0, TX0, 10) from rfl) in_X0 (by decide) (C.t _ q283) (fun _ h => h) rfl ?_
        refine r_iload (pc := 33) C dX0_mixedRiver_33 rfl ?_
        refine r_invV (pc := 35) (ci := 8) 1 C dX0_mixedRiver_35 (jl_get (k : Int) h.fll ⟨by omega, by rw [h.fn]; omega⟩) (gLs h.fll) (show vwC[8]? = some (RJ6, TJ6, 3) from rfl) rfl (lw_V q670 q671 q672 q89 q673) (by decide +kernel) rfl rfl ⟨Nat.le_of_ble_eq_true rfl, Nat.le_of_ble_eq_true rfl⟩ (Nat.le_of_ble_eq_true rfl) ⟨Nat.le_of_ble_eq_true rfl, Nat.le_of_ble_eq_true rfl⟩ (rd_k ?_)
        rw [show ((k : Int)).toNat = k from rfl]
        refine r_castO (pc := 38) (ci := 5) C dX0_mixedRiver_38 (g2 (h.fs.2.1 k hkl)) (show vwC[5]? = some (RX6, TX6, 7) from rfl) q810 ?_
        refine r_iload (pc := 41) C dX0_mixedRiver_41 rfl ?_
        refine r_invV (pc := 43) (ci := 0) 2 C dX0_mixedRiver_43 (xo_simpleTold h k (j : Int) hkl ⟨by omega, by omega⟩) (g2 h.ob) (show vwC[0]? = some (RX0, TX0, 10) from rfl) rfl (lw_V q1047 q1049 qs15 q81 q1050) (by decide +kernel) rfl rfl ⟨Nat.le_of_ble_eq_true rfl, Nat.le_of_ble_eq_true rfl⟩ (Nat.le_of_ble_eq_true rfl) ⟨Nat.le_of_ble_eq_true rfl, Nat.le_of_ble_eq_true rfl⟩ (rd_k ?_)
        refine r_i2lW (pc := 46) C dX0_mixedRiver_46 ?_
        refine r_invP (pc := 47) 2 C dX0_mixedRiver_47 (xf_mixed (mixL (catN (fun k => rowL (fun j => sNow x.d k j) 8) k ++ rowL (fun j => sNow x.d k j) j) v) (w32 (sNow x.d k j))) rfl (lw_S q1152 q1153 q81 q1154) (by decide +kernel) rfl rfl ⟨Nat.le_of_ble_eq_true rfl, Nat.le_of_ble_eq_true rfl⟩ (Nat.le_of_ble_eq_true rfl) ⟨Nat.le_of_ble_eq_true rfl, Nat.le_of_ble_eq_true rfl⟩ ?_
        refine r_lstore_n (pc := 50) C dX0_mixedRiver_50 rfl (by decide) ?_
        refine r_iincZ (pc := 51) C dX0_mixedRiver_51 rfl (by decide) ?_
        refine r_goto (pc := 54) (tgt := 20) C dX0_mixedRiver_54 (by decide) ?_
        have L := ihj (by omega)
        rw [mixR] at L
        exact L
    refine r_iload (pc := 5) C dX0_mixedRiver_5 rfl ?_
    refine r_aload_n (pc := 7) C dX0_mixedRiver_7 rfl rfl ?_
    refine r_get (pc := 8) (k := 7) (ci := 0) C dX0_mixedRiver_8 (g1 h.ob) (show vwC[0]? = some (RX0, TX0, 10) from rfl) in_X0 (by decide) (C.t _ q283) (fun _ h => h) rfl ?_
    refine r_invV (pc := 11) (ci := 8) 0 C dX0_mixedRiver_11 (jl_size h.fll) (gLs h.fll) (show vwC[8]? = some (RJ6, TJ6, 3) from rfl) rfl (lw_V q580 q581 q582 q89 q583) (by decide +kernel) rfl rfl ⟨Nat.le_of_ble_eq_true rfl, Nat.le_of_ble_eq_true rfl⟩ (Nat.le_of_ble_eq_true rfl) ⟨Nat.le_of_ble_eq_true rfl, Nat.le_of_ble_eq_true rfl⟩ (rd_k ?_)
    rw [h.fn]
    refine r_icmp_geZ (pc := 14) (tgt := 63) C dX0_mixedRiver_14 (by decide) (by unfold i32; omega) (by unfold i32; omega) (fun h14 => ?_) (fun h14 => ?_)
    · refine r_iconstZ (pc := 63) C dX0_mixedRiver_63 ?_
      refine r_istore (pc := 64) C dX0_mixedRiver_64 (by decide) ?_
      obtain rfl : k = nR x.d := (by omega)
      have L := loop2 0 (Nat.zero_le _) v6
      rw [show catN (fun c => rowL (fun j => cTold x.d c j) 5 ++ [trW 997 (wC x.d c)]) 0 = [] from rfl, List.append_nil] at L
      exact L
    · refine r_iconstZ (pc := 17) C dX0_mixedRiver_17 ?_
      refine r_istore (pc := 18) C dX0_mixedRiver_18 (by decide) ?_
      have L := inner (by omega) 0 (Nat.zero_le _)
      rw [show rowL (fun j => sNow x.d k j) 0 = [] from rfl, List.append_nil] at L
      exact L
  refine r_lload_n (pc := 0) C dX0_mixedRiver_0 rfl rfl ?_
  refine r_lstore_n (pc := 1) C dX0_mixedRiver_1 rfl (by decide) ?_
  refine r_iconstZ (pc := 2) C dX0_mixedRiver_2 ?_
  refine r_istore (pc := 3) C dX0_mixedRiver_3 (by decide) ?_
  exact loop1 0 (Nat.zero_le _) none
set_option maxHeartbeats 800000 in
theorem xo_digest {la : Launch} {X : XE} {G0 : Gh} {xh : Nat} {x : AS} {A : Nat → Nat} {dr : Int} {rls : List Nat} {rm : Nat} {fls : List Nat} {fm : Nat} {cls : List Nat} {cm : Nat} (h : CW X G0 xh x A dr rls rm fls fm cls cm) : MG la X yX0_digest cX0_digest 4 (some .long) (rmk 11 3200 37000 263) [.ref xh] (fun G => G = G0) (fun v G => v = some (.long (lI (sDigest x))) ∧ FR [9] G0 G) := by
  refine MG.of (by decide +kernel) (Nat.le_of_ble_eq_true rfl) ?_
  intro Z C hX hL hQ
  subst hX; subst hL
  change WW Z 4 (fun G => G = G0) 0 0 0 [some (.ref xh), none, none, none] []
  have hk6 : x.ws.length ≤ 6 := h.rk.1
  have hpl : x.pg.length ≤ 20 := h.pg.2.1
  have l3 : ∀ k : Nat, k ≤ 7 → WW Z 4 (FR [9] G0) (1020 + 300 * k) (12000 + 3500 * k) 85 [some (.ref xh), some (.long (lI (mixL ((catN (fun r => rowRoad (x.ws.getD r [])) x.ws.length ++ rowXs x.ws ++ rowRiver x.d ++ rowL (fun k => (x.pg.getD k 0 : Nat)) x.pg.length) ++ rowL (fun k => sCount x k) k) 1549))), none, some (.int (iI (k : Int)))] [] := by
    refine loopN _ _ (fun k hk ih => ?_)
    refine ww_all (fun G1 f1 => ?_)
    have h1 := h.fr f1 (by simp)
    refine r_iload_n (pc := 85) C dX0_digest_85 rfl rfl ?_
    refine r_bipushZ (pc := 86) C dX0_digest_86 (by decide) ?_
    refine r_icmp_geZ (pc := 88) (tgt := 108) C dX0_digest_88 (by decide) (by unfold i32; omega) (by unfold i32; omega) (fun h88 => ?_) (fun h88 => ?_)
    · refine r_lload_n (pc := 108) C dX0_digest_108 rfl rfl ?_
      exact r_lret (pc := 109) C hQ dX0_digest_109 (by dsimp only [rmk]; omega) (by dsimp only [rmk]; omega) (fun G hG => (by cases hG; refine ⟨?_, f1⟩; unfold sDigest; rw [rowAll_eq, show k = 7 by omega]))
    · refine r_lload_n (pc := 91) C dX0_digest_91 rfl rfl ?_
      refine r_aload_n (pc := 92) C dX0_digest_92 rfl rfl ?_
      refine r_iload_n (pc := 93) C dX0_digest_93 rfl rfl ?_
      refine r_invV (pc := 94) (ci := 0) 1 C dX0_digest_94 (xo_countOf h1 (k : Int) (by unfold i32; omega)) (g2 h1.ob) (show vwC[0]? = some (RX0, TX0, 10) from rfl) rfl (lw_V q1131 q1133 qs21 q81 q1134) (by decide +kernel) rfl rfl ⟨Nat.le_of_ble_eq_true rfl, Nat.le_of_ble_eq_true rfl⟩ (Nat.le_of_ble_eq_true rfl) ⟨by dsimp only [rmk]; omega, by dsimp only [rmk]; omega⟩ (fun v94 G94 h94 => ?_)
      obtain ⟨rfl, q1⟩ := h94
      refine r_i2lW (pc := 97) C dX0_digest_97 ?_
      refine r_invP (pc := 98) 2 C dX0_digest_98 (xf_mixed (mixL ((catN (fun r => rowRoad (x.ws.getD r [])) x.ws.length ++ rowXs x.ws ++ rowRiver x.d ++ rowL (fun k => (x.pg.getD k 0 : Nat)) x.pg.length) ++ rowL (fun k => sCount x k) k) 1549) (w32 (sCount x k))) rfl (lw_S q1152 q1153 q81 q1154) (by decide +kernel) rfl rfl ⟨Nat.le_of_ble_eq_true rfl, Nat.le_of_ble_eq_true rfl⟩ (Nat.le_of_ble_eq_true rfl) ⟨by dsimp only [rmk]; omega, by dsimp only [rmk]; omega⟩ ?_
      refine r_lstore_n (pc := 101) C dX0_digest_101 rfl (by decide) ?_
      refine r_iincZ (pc := 102) C dX0_digest_102 rfl (by decide) ?_
      refine r_goto (pc := 105) (tgt := 85) C dX0_digest_105 (by decide) ?_
      have L := ih (by omega)
      rw [mixR] at L
      refine ww_wide (n' := 1020 + 300 * (k + 1)) (s' := 12000 + 3500 * (k + 1)) (by dsimp only [rmk]; omega) (by dsimp only [rmk]; omega) ?_
      exact ww_to (fun G hG => by rw [hG]; exact f1.tr q1) L
  have l2 : ∀ k : Nat, k ≤ x.pg.length → WW Z 4 (FR [9] G0) 1020 12000 52 [some (.ref xh), some (.long (lI (mixL ((catN (fun r => rowRoad (x.ws.getD r [])) x.ws.length ++ rowXs x.ws ++ rowRiver x.d) ++ rowL (fun k => (x.pg.getD k 0 : Nat)) k) 1549))), none, some (.int (iI (k : Int)))] [] := by
    refine loopN _ _ (fun k hk ih => ?_)
    refine ww_all (fun G1 f1 => ?_)
    have h1 := h.fr f1 (by simp)
    have c1 := tl_i h1.pg.1 k
    refine r_iload_n (pc := 52) C dX0_digest_52 rfl rfl ?_
    refine r_aload_n (pc := 53) C dX0_digest_53 rfl rfl ?_
    refine r_get (pc := 54) (k := 5) (ci := 0) C dX0_digest_54 (g1 h1.ob) (show vwC[0]? = some (RX0, TX0, 10) from rfl) in_X0 (by decide) (C.t _ q280) (fun _ h => h) rfl ?_
    refine r_invV (pc := 57) (ci := 9) 0 C dX0_digest_57 (jb_length h1.pg) (gB h1.pg) (show vwC[9]? = some (RJ8, TJ8, 4) from rfl) rfl (lw_V q315 q316 q317 q91 q318) (by decide +kernel) rfl rfl ⟨Nat.le_of_ble_eq_true rfl, Nat.le_of_ble_eq_true rfl⟩ (Nat.le_of_ble_eq_true rfl) ⟨(by first | exact Nat.le_of_ble_eq_true rfl | (dsimp only [rmk]; omega) | omega), (by first | exact Nat.le_of_ble_eq_true rfl | (dsimp only [rmk]; omega) | omega)⟩ (rd_k ?_)
    refine r_icmp_geZ (pc := 60) (tgt := 83) C dX0_digest_60 (by decide) (by unfold i32; omega) (by unfold i32; omega) (fun h60 => ?_) (fun h60 => ?_)
    · refine r_iconstZ (pc := 83) C dX0_digest_83 ?_
      refine r_istore_n (pc := 84) C dX0_digest_84 rfl (by decide) ?_
      obtain rfl : k = x.pg.length := (by omega)
      have L := l3 0 (Nat.zero_le _)
      rw [show rowL (fun k => sCount x k) 0 = [] from rfl, List.append_nil] at L
      exact ww_to (fun G hG => by rw [hG]; exact f1) L
    · refine r_lload_n (pc := 63) C dX0_digest_63 rfl rfl ?_
      refine r_aload_n (pc := 64) C dX0_digest_64 rfl rfl ?_
      refine r_get (pc := 65) (k := 5) (ci := 0) C dX0_digest_65 (g1 h1.ob) (show vwC[0]? = some (RX0, TX0, 10) from rfl) in_X0 (by decide) (C.t _ q280) (fun _ h => h) rfl ?_
      refine r_iload_n (pc := 68) C dX0_digest_68 rfl rfl ?_
      refine r_invV (pc := 69) (ci := 9) 1 C dX0_digest_69 (jb_charAt (k : Int) h1.pg ⟨by omega, by omega⟩) (gB h1.pg) (show vwC[9]? = some (RJ8, TJ8, 4) from rfl) rfl (lw_V q1165 q481 q1639 q91 q483) (by decide +kernel) rfl rfl ⟨Nat.le_of_ble_eq_true rfl, Nat.le_of_ble_eq_true rfl⟩ (Nat.le_of_ble_eq_true rfl) ⟨(by first | exact Nat.le_of_ble_eq_true rfl | (dsimp only [rmk]; omega) | omega), (by first | exact Nat.le_of_ble_eq_true rfl | (dsimp only [rmk]; omega) | omega)⟩ (rd_k ?_)
      rw [show ((k : Int)).toNat = k from rfl]
      refine r_i2lW (pc := 72) C dX0_digest_72 ?_
      refine r_invP (pc := 73) 2 C dX0_digest_73 (xf_mixed (mixL ((catN (fun r => rowRoad (x.ws.getD r [])) x.ws.length ++ rowXs x.ws ++ rowRiver x.d) ++ rowL (fun k => (x.pg.getD k 0 : Nat)) k) 1549) (w32 (tl x.pg k : Nat))) rfl (lw_S q1152 q1153 q81 q1154) (by decide +kernel) rfl rfl ⟨Nat.le_of_ble_eq_true rfl, Nat.le_of_ble_eq_true rfl⟩ (Nat.le_of_ble_eq_true rfl) ⟨(by first | exact Nat.le_of_ble_eq_true rfl | (dsimp only [rmk]; omega) | omega), (by first | exact Nat.le_of_ble_eq_true rfl | (dsimp only [rmk]; omega) | omega)⟩ ?_
      refine r_lstore_n (pc := 76) C dX0_digest_76 rfl (by decide) ?_
      refine r_iincZ (pc := 77) C dX0_digest_77 rfl (by decide) ?_
      refine r_goto (pc := 80) (tgt := 52) C dX0_digest_80 (by decide) ?_
      have L := ih (by omega)
      rw [mixR] at L
      exact ww_to (fun G hG => by rw [hG]; exact f1) L
  have l1 : ∀ k : Nat, k ≤ x.ws.length → WW Z 4 (FR [9] G0) (170 * k) (2000 * k) 6 [some (.ref xh), some (.long (lI (mixL (catN (fun r => rowRoad (x.ws.getD r [])) k) 1549))), none, some (.int (iI (k : Int)))] [] := by
    refine loopN _ _ (fun k hk ih => ?_)
    refine ww_all (fun G1 f1 => ?_)
    have h1 := h.fr f1 (by simp)
    refine r_iload_n (pc := 6) C dX0_digest_6 rfl rfl ?_
    refine r_aload_n (pc := 7) C dX0_digest_7 rfl rfl ?_
    refine r_get (pc := 8) (k := 3) (ci := 0) C dX0_digest_8 (g1 h1.ob) (show vwC[0]? = some (RX0, TX0, 10) from rfl) in_X0 (by decide) (C.t _ q278) (fun _ h => h) rfl ?_
    refine r_invV (pc := 11) (ci := 8) 0 C dX0_digest_11 (jl_size h1.rl) (gLs h1.rl) (show vwC[8]? = some (RJ6, TJ6, 3) from rfl) rfl (lw_V q580 q581 q582 q89 q583) (by decide +kernel) rfl rfl ⟨Nat.le_of_ble_eq_true rfl, Nat.le_of_ble_eq_true rfl⟩ (Nat.le_of_ble_eq_true rfl) ⟨by dsimp only [rmk]; omega, by dsimp only [rmk]; omega⟩ (rd_k ?_)
    rw [h1.rn]
    refine r_icmp_geZ (pc := 14) (tgt := 40) C dX0_digest_14 (by decide) (by unfold i32; omega) (by unfold i32; omega) (fun h14 => ?_) (fun h14 => ?_)
    · have hk2 : k = x.ws.length := (by omega)
      rw [hk2]
      refine ww_wide (n' := 1020) (s' := 12000) (by omega) (by omega) ?_
      refine r_aload_n (pc := 40) C dX0_digest_40 rfl rfl ?_
      refine r_aload_n (pc := 41) C dX0_digest_41 rfl rfl ?_
      refine r_lload_n (pc := 42) C dX0_digest_42 rfl rfl ?_
      refine r_invV (pc := 43) (ci := 0) 1 C dX0_digest_43 (xo_mixedCrossings h1 (mixL (catN (fun r => rowRoad (x.ws.getD r [])) x.ws.length) 1549)) (g2 h1.ob) (show vwC[0]? = some (RX0, TX0, 10) from rfl) rfl (lw_V q1156 q1158 qs25 q81 q1159) (by decide +kernel) rfl rfl ⟨Nat.le_of_ble_eq_true rfl, Nat.le_of_ble_eq_true rfl⟩ (Nat.le_of_ble_eq_true rfl) ⟨(by first | exact Nat.le_of_ble_eq_true rfl | (dsimp only [rmk]; omega) | omega), (by first | exact Nat.le_of_ble_eq_true rfl | (dsimp only [rmk]; omega) | omega)⟩ (rd_k ?_)
      rw [← mixL_app]
      refine r_invV (pc := 46) (ci := 0) 1 C dX0_digest_46 (xo_mixedRiver h1 (mixL (catN (fun r => rowRoad (x.ws.getD r [])) x.ws.length ++ rowXs x.ws) 1549)) (g2 h1.ob) (show vwC[0]? = some (RX0, TX0, 10) from rfl) rfl (lw_V q1160 q1162 qs26 q81 q1163) (by decide +kernel) rfl rfl ⟨Nat.le_of_ble_eq_true rfl, Nat.le_of_ble_eq_true rfl⟩ (Nat.le_of_ble_eq_true rfl) ⟨(by first | exact Nat.le_of_ble_eq_true rfl | (dsimp only [rmk]; omega) | omega), (by first | exact Nat.le_of_ble_eq_true rfl | (dsimp only [rmk]; omega) | omega)⟩ (rd_k ?_)
      rw [← mixL_app]
      refine r_lstore_n (pc := 49) C dX0_digest_49 rfl (by decide) ?_
      refine r_iconstZ (pc := 50) C dX0_digest_50 ?_
      refine r_istore_n (pc := 51) C dX0_digest_51 rfl (by decide) ?_
      have L := l2 0 (Nat.zero_le _)
      rw [show rowL (fun k => ((x.pg.getD k 0 : Nat) : Int)) 0 = [] from rfl, List.append_nil] at L
      exact ww_to (fun G hG => by rw [hG]; exact f1) L
    · refine r_aload_n (pc := 17) C dX0_digest_17 rfl rfl ?_
      refine r_lload_n (pc := 18) C dX0_digest_18 rfl rfl ?_
      refine r_aload_n (pc := 19) C dX0_digest_19 rfl rfl ?_
      refine r_get (pc := 20) (k := 3) (ci := 0) C dX0_digest_20 (g1 h1.ob) (show vwC[0]? = some (RX0, TX0, 10) from rfl) in_X0 (by decide) (C.t _ q278) (fun _ h => h) rfl ?_
      refine r_iload_n (pc := 23) C dX0_digest_23 rfl rfl ?_
      refine r_invV (pc := 24) (ci := 8) 1 C dX0_digest_24 (jl_get (k : Int) h1.rl ⟨by omega, by rw [h1.rn]; omega⟩) (gLs h1.rl) (show vwC[8]? = some (RJ6, TJ6, 3) from rfl) rfl (lw_V q670 q671 q672 q89 q673) (by decide +kernel) rfl rfl ⟨Nat.le_of_ble_eq_true rfl, Nat.le_of_ble_eq_true rfl⟩ (Nat.le_of_ble_eq_true rfl) ⟨by dsimp only [rmk]; omega, by dsimp only [rmk]; omega⟩ (rd_k ?_)
      rw [show ((k : Int)).toNat = k from rfl]
      refine r_castO (pc := 27) (ci := 4) C dX0_digest_27 (gRd (h1.rs.2.1 k (by omega))) (show vwC[4]? = some (RX4, TX4, 3) from rfl) q584 ?_
      refine r_invV (pc := 30) (ci := 0) 2 C dX0_digest_30 (xo_mixedRoad (mixL (catN (fun r => rowRoad (x.ws.getD r [])) k) 1549) h1.ob (by decide) (h1.rs.2.1 k (by omega)) (by decide) (h1.rk.2 k (by omega))) (g2 h1.ob) (show vwC[0]? = some (RX0, TX0, 10) from rfl) rfl (lw_V q1148 q1150 qs24 q81 q1151) (by decide +kernel) rfl rfl ⟨Nat.le_of_ble_eq_true rfl, Nat.le_of_ble_eq_true rfl⟩ (Nat.le_of_ble_eq_true rfl) ⟨by dsimp only [rmk]; omega, by dsimp only [rmk]; omega⟩ (fun v30 G30 h30 => ?_)
      obtain ⟨rfl, q1⟩ := h30
      refine r_lstore_n (pc := 33) C dX0_digest_33 rfl (by decide) ?_
      refine r_iincZ (pc := 34) C dX0_digest_34 rfl (by decide) ?_
      refine r_goto (pc := 37) (tgt := 6) C dX0_digest_37 (by decide) ?_
      have L := ih (by omega)
      rw [mixL_cat] at L
      refine ww_wide (n' := 170 * (k + 1)) (s' := 2000 * (k + 1)) (by dsimp only [rmk]; omega) (by dsimp only [rmk]; omega) ?_
      exact ww_to (fun G hG => by rw [hG]; exact f1.tr q1) L
  refine r_ldc2Z (pc := 0) (a := 1549) C dX0_digest_0 rfl q1147 (by decide) ?_
  refine r_lstore_n (pc := 3) C dX0_digest_3 rfl (by decide) ?_
  refine r_iconstZ (pc := 4) C dX0_digest_4 ?_
  refine r_istore_n (pc := 5) C dX0_digest_5 rfl (by decide) ?_
  exact ww_to (fun G hG => by rw [hG]; exact FR.rf) (l1 0 (Nat.zero_le _))

