/-! the component: what is drawn, what is told of all -/
set_option maxRecDepth 100000
set_option maxHeartbeats 800000 in
theorem xo_drawnTold {la : Launch} {X : XE} {G0 : Gh} {xh : Nat} {x : AS} {A : Nat → Nat} {dr : Int} {rls : List Nat} {rm : Nat} {fls : List Nat} {fm : Nat} {cls : List Nat} {cm : Nat} (h : CW X G0 xh x A dr rls rm fls fm cls cm) (t : Nat) (s k : Int) (ht : t ≤ 40) (hs : 0 ≤ s ∧ s < 2147483648) (hk : 0 ≤ k ∧ k ≤ 3) : MG la X yX0_drawnTold cX0_drawnTold 10 (some .int) (rmk 7 1050 4400 173) [.ref xh, .int (iI (t : Int)), .int (iI s), .int (iI k)] (fun G => G = G0) (fun v G => v = some (.int (iI (sDraw t s k))) ∧ (∃ dr', CW X G xh x A dr' rls rm fls fm cls cm) ∧ FR [1, 9, 12] G0 G) := by
  refine MG.of (by decide +kernel) (Nat.le_of_ble_eq_true rfl) ?_
  intro Z C hX hL hQ
  subst hX; subst hL
  change WW Z 10 (fun G => G = G0) 0 0 0 [some (.ref xh), some (.int (iI (t : Int))), some (.int (iI s)), some (.int (iI k)), none, none, none, none, none, none] []
  have loop : ∀ n : Nat, n ≤ t → ∀ (wa : Nat) (v9 : Option Value), WW Z 10 (fun G => XOB G xh A x.rdn x.d (lcgN s (8 * n)) ∧ ROAD G xh wa 0 (wW s n) ∧ FR [1, 9, 12] G0 G) (21 + 25 * n) (83 + 107 * n) 30 [some (.ref xh), some (.int (iI (t : Int))), some (.int (iI s)), some (.int (iI k)), some (.int (iI (cnt (fun k => wClosed (wD s k)) n))), some (.int (iI (sumN (fun k => if wClosed (wD s k) then wTrace (wD s k) else 0) n))), some (.int (iI (sumN (crD s) n))), some (.ref wa), some (.int (iI (n : Int))), v9] [] := by
    refine loopN _ _ (fun n hn ih wa v9 => ?_)
    refine ww_all (fun G1 hG1 => ?_)
    obtain ⟨x1, R1, f1⟩ := hG1
    have hlb := lcgN_b hs (8 * n)
    have more : ∀ (G2 : Gh) (na : Nat), XOB G2 xh A x.rdn x.d (lcgN s (8 * n + 8)) → ROAD G2 xh na 0 (wD s n) → ROAD G2 xh wa 0 (wW s n) → FR [1, 9, 12] G0 G2 → n < t → WW Z 10 (fun G => G = G2) (21 + 25 * (n + 1)) (83 + 107 * (n + 1)) 50 [some (.ref xh), some (.int (iI (t : Int))), some (.int (iI s)), some (.int (iI k)), some (.int (iI (cnt (fun k => wClosed (wD s k)) n))), some (.int (iI (sumN (fun k => if wClosed (wD s k) then wTrace (wD s k) else 0) n))), some (.int (iI (sumN (crD s) n))), some (.ref wa), some (.int (iI (n : Int))), some (.ref na)] [] := by
      intro G2 na x4 R9 R7 f7 hnt
      have fin : ∀ (b y z : Int), b = bi (wClosed (wD s n)) → y = (if wClosed (wD s n) then wTrace (wD s n) else 0) → z = crD s n → WW Z 10 (fun G => G = G2) (21 + 25 * (n + 1)) (83 + 107 * (n + 1)) 123 [some (.ref xh), some (.int (iI (t : Int))), some (.int (iI s)), some (.int (iI k)), some (.int (iI (cnt (fun k => wClosed (wD s k)) n + b))), some (.int (iI (sumN (fun k => if wClosed (wD s k) then wTrace (wD s k) else 0) n + y))), some (.int (iI (sumN (crD s) n))), some (.ref wa), some (.int (iI (n : Int))), some (.ref na)] [.int (iI z), .int (iI (sumN (crD s) n))] := by
        intro b y z hb hy hz
        subst hb hy hz
        refine r_iaddZ (pc := 123) C dX0_drawnTold_123 ?_
        refine r_istore (pc := 124) C dX0_drawnTold_124 (by decide) ?_
        refine r_aload (pc := 126) C dX0_drawnTold_126 rfl ?_
        refine r_astore (pc := 128) C dX0_drawnTold_128 (by decide) ?_
        refine r_iincZ (pc := 130) C dX0_drawnTold_130 rfl (by decide) ?_
        refine r_goto (pc := 133) (tgt := 30) C dX0_drawnTold_133 (by decide) ?_
        exact ww_to (fun G hG => by rw [hG]; exact ⟨x4, R9, f7⟩) (ih hnt na (some (.ref na)))
      refine r_iload (pc := 50) C dX0_drawnTold_50 rfl ?_
      refine r_aload (pc := 52) C dX0_drawnTold_52 rfl ?_
      refine r_invD (pc := 54) (ci := 4) (owner := "RiverWords$Worded") (x2 := ⟨"RiverWords$Road", "isClosed", "()Z"⟩) 0 C dX0_drawnTold_54 (xr_isClosed R9 (wD_len s n).2) (gRd R9) (show vwC[4]? = some (RX4, TX4, 3) from rfl) rfl (lw_meth q749) q100 q747 (by decide +kernel) (by decide +kernel) (by decide +kernel) (by decide +kernel) (by decide +kernel) rfl rfl ⟨Nat.le_of_ble_eq_true rfl, Nat.le_of_ble_eq_true rfl⟩ (Nat.le_of_ble_eq_true rfl) ⟨by dsimp only [rmk]; omega, by dsimp only [rmk]; omega⟩ (rd_k ?_)
      rw [bi_b2]
      refine r_invP (pc := 57) 1 C dX0_drawnTold_57 (xf_truth (wClosed (wD s n) = true)) rfl (lw_S q754 q755 q81 q756) (by decide +kernel) rfl rfl ⟨Nat.le_of_ble_eq_true rfl, Nat.le_of_ble_eq_true rfl⟩ (Nat.le_of_ble_eq_true rfl) ⟨by dsimp only [rmk]; omega, by dsimp only [rmk]; omega⟩ ?_
      rw [← bi_b2]
      refine r_iaddZ (pc := 60) C dX0_drawnTold_60 ?_
      refine r_istore (pc := 61) C dX0_drawnTold_61 (by decide) ?_
      refine r_iload (pc := 63) C dX0_drawnTold_63 rfl ?_
      refine r_aload (pc := 65) C dX0_drawnTold_65 rfl ?_
      refine r_invD (pc := 67) (ci := 4) (owner := "RiverWords$Worded") (x2 := ⟨"RiverWords$Road", "isClosed", "()Z"⟩) 0 C dX0_drawnTold_67 (xr_isClosed R9 (wD_len s n).2) (gRd R9) (show vwC[4]? = some (RX4, TX4, 3) from rfl) rfl (lw_meth q749) q100 q747 (by decide +kernel) (by decide +kernel) (by decide +kernel) (by decide +kernel) (by decide +kernel) rfl rfl ⟨Nat.le_of_ble_eq_true rfl, Nat.le_of_ble_eq_true rfl⟩ (Nat.le_of_ble_eq_true rfl) ⟨by dsimp only [rmk]; omega, by dsimp only [rmk]; omega⟩ (rd_k ?_)
      refine r_if_eqZ (pc := 70) (tgt := 84) C dX0_drawnTold_70 (by decide) (bi_i _) (fun h70 => ?_) (fun h70 => ?_)
      · refine r_iconstZ (pc := 84) C dX0_drawnTold_84 ?_
        refine r_iaddZ (pc := 85) C dX0_drawnTold_85 ?_
        refine r_istore (pc := 86) C dX0_drawnTold_86 (by decide) ?_
        refine r_iload (pc := 88) C dX0_drawnTold_88 rfl ?_
        refine r_aload (pc := 90) C dX0_drawnTold_90 rfl ?_
        refine r_invD (pc := 92) (ci := 4) (owner := "RiverWords$Worded") (x2 := ⟨"RiverWords$Road", "isClosed", "()Z"⟩) 0 C dX0_drawnTold_92 (xr_isClosed R9 (wD_len s n).2) (gRd R9) (show vwC[4]? = some (RX4, TX4, 3) from rfl) rfl (lw_meth q749) q100 q747 (by decide +kernel) (by decide +kernel) (by decide +kernel) (by decide +kernel) (by decide +kernel) rfl rfl ⟨Nat.le_of_ble_eq_true rfl, Nat.le_of_ble_eq_true rfl⟩ (Nat.le_of_ble_eq_true rfl) ⟨by dsimp only [rmk]; omega, by dsimp only [rmk]; omega⟩ (rd_k ?_)
        refine r_if_eqZ (pc := 95) (tgt := 122) C dX0_drawnTold_95 (by decide) (bi_i _) (fun h95 => ?_) (fun h95 => ?_)
        · refine r_iconstZ (pc := 122) C dX0_drawnTold_122 ?_
          exact fin _ _ _ rfl (by first | (rw [bi_0.mp h70]; rfl) | (rw [bi_n0 h70]; rfl)) (by rw [crD_eq]; first | (rw [if_neg (fun q => by rw [bi_0.mp h95] at q; exact absurd q.1 (by decide))]; done) | (rw [if_neg (fun q => by rw [bi_0.mp h103] at q; exact absurd q.2 (by decide))]; done) | (rw [if_pos ⟨bi_n0 h95, bi_n0 h103⟩]; done))
        · refine r_aload (pc := 98) C dX0_drawnTold_98 rfl ?_
          refine r_invD (pc := 100) (ci := 4) (owner := "RiverWords$Worded") (x2 := ⟨"RiverWords$Road", "isClosed", "()Z"⟩) 0 C dX0_drawnTold_100 (xr_isClosed R7 (wW_len s n).2) (gRd R7) (show vwC[4]? = some (RX4, TX4, 3) from rfl) rfl (lw_meth q749) q100 q747 (by decide +kernel) (by decide +kernel) (by decide +kernel) (by decide +kernel) (by decide +kernel) rfl rfl ⟨Nat.le_of_ble_eq_true rfl, Nat.le_of_ble_eq_true rfl⟩ (Nat.le_of_ble_eq_true rfl) ⟨by dsimp only [rmk]; omega, by dsimp only [rmk]; omega⟩ (rd_k ?_)
          refine r_if_eqZ (pc := 103) (tgt := 122) C dX0_drawnTold_103 (by decide) (bi_i _) (fun h103 => ?_) (fun h103 => ?_)
          · refine r_iconstZ (pc := 122) C dX0_drawnTold_122 ?_
            exact fin _ _ _ rfl (by first | (rw [bi_0.mp h70]; rfl) | (rw [bi_n0 h70]; rfl)) (by rw [crD_eq]; first | (rw [if_neg (fun q => by rw [bi_0.mp h95] at q; exact absurd q.1 (by decide))]; done) | (rw [if_neg (fun q => by rw [bi_0.mp h103] at q; exact absurd q.2 (by decide))]; done) | (rw [if_pos ⟨bi_n0 h95, bi_n0 h103⟩]; done))
          · refine r_aload (pc := 106) C dX0_drawnTold_106 rfl ?_
            obtain ⟨s9', t9', m1', m2', m3'⟩ := id R9
            obtain ⟨s7, t7, l1, l2, l3⟩ := id R7
            refine r_getN (pc := 108) (k := 0) (ci := 4) C dX0_drawnTold_108 (g1 l1) (show vwC[4]? = some (RX4, TX4, 3) from rfl) in_X4 (by decide) (C.nf (h1 := "RiverWords") (by decide +kernel)) (fun _ h => h) rfl ?_
            refine r_aload (pc := 111) C dX0_drawnTold_111 rfl ?_
            refine r_getN (pc := 113) (k := 0) (ci := 4) C dX0_drawnTold_113 (g1 m1') (show vwC[4]? = some (RX4, TX4, 3) from rfl) in_X4 (by decide) (C.nf (h1 := "RiverWords") (by decide +kernel)) (fun _ h => h) rfl ?_
            refine r_invS (pc := 116) 2 C dX0_drawnTold_116 (xo_crossings l2 m2' (wW_len s n) (wD_len s n)) rfl (lw_S q868 q869 q81 q870) (by decide +kernel) rfl rfl ⟨Nat.le_of_ble_eq_true rfl, Nat.le_of_ble_eq_true rfl⟩ (Nat.le_of_ble_eq_true rfl) ⟨by dsimp only [rmk]; omega, by dsimp only [rmk]; omega⟩ (rd_k ?_)
            refine r_goto (pc := 119) (tgt := 123) C dX0_drawnTold_119 (by decide) ?_
            exact fin _ _ _ rfl (by first | (rw [bi_0.mp h70]; rfl) | (rw [bi_n0 h70]; rfl)) (by rw [crD_eq]; first | (rw [if_neg (fun q => by rw [bi_0.mp h95] at q; exact absurd q.1 (by decide))]; done) | (rw [if_neg (fun q => by rw [bi_0.mp h103] at q; exact absurd q.2 (by decide))]; done) | (rw [if_pos ⟨bi_n0 h95, bi_n0 h103⟩]; done))
      · refine r_aload (pc := 73) C dX0_drawnTold_73 rfl ?_
        obtain ⟨s9, t9, m1, m2, m3⟩ := id R9
        refine r_getN (pc := 75) (k := 1) (ci := 4) C dX0_drawnTold_75 (g1 m1) (show vwC[4]? = some (RX4, TX4, 3) from rfl) in_X4 (by decide) (C.nf (h1 := "RiverWords") (by decide +kernel)) (fun _ h => h) rfl ?_
        refine r_invV (pc := 78) (ci := 1) 0 C dX0_drawnTold_78 (xt_trace m3) (g2 m3) (show vwC[1]? = some (RX1, TX1, 4) from rfl) rfl (lw_V q741 q742 q743 q82 q744) (by decide +kernel) rfl rfl ⟨Nat.le_of_ble_eq_true rfl, Nat.le_of_ble_eq_true rfl⟩ (Nat.le_of_ble_eq_true rfl) ⟨by dsimp only [rmk]; omega, by dsimp only [rmk]; omega⟩ (rd_k ?_)
        refine r_goto (pc := 81) (tgt := 85) C dX0_drawnTold_81 (by decide) ?_
        refine r_iaddZ (pc := 85) C dX0_drawnTold_85 ?_
        refine r_istore (pc := 86) C dX0_drawnTold_86 (by decide) ?_
        refine r_iload (pc := 88) C dX0_drawnTold_88 rfl ?_
        refine r_aload (pc := 90) C dX0_drawnTold_90 rfl ?_
        refine r_invD (pc := 92) (ci := 4) (owner := "RiverWords$Worded") (x2 := ⟨"RiverWords$Road", "isClosed", "()Z"⟩) 0 C dX0_drawnTold_92 (xr_isClosed R9 (wD_len s n).2) (gRd R9) (show vwC[4]? = some (RX4, TX4, 3) from rfl) rfl (lw_meth q749) q100 q747 (by decide +kernel) (by decide +kernel) (by decide +kernel) (by decide +kernel) (by decide +kernel) rfl rfl ⟨Nat.le_of_ble_eq_true rfl, Nat.le_of_ble_eq_true rfl⟩ (Nat.le_of_ble_eq_true rfl) ⟨by dsimp only [rmk]; omega, by dsimp only [rmk]; omega⟩ (rd_k ?_)
        refine r_if_eqZ (pc := 95) (tgt := 122) C dX0_drawnTold_95 (by decide) (bi_i _) (fun h95 => ?_) (fun h95 => ?_)
        · refine r_iconstZ (pc := 122) C dX0_drawnTold_122 ?_
          exact fin _ _ _ rfl (by first | (rw [bi_0.mp h70]; rfl) | (rw [bi_n0 h70]; rfl)) (by rw [crD_eq]; first | (rw [if_neg (fun q => by rw [bi_0.mp h95] at q; exact absurd q.1 (by decide))]; done) | (rw [if_neg (fun q => by rw [bi_0.mp h103] at q; exact absurd q.2 (by decide))]; done) | (rw [if_pos ⟨bi_n0 h95, bi_n0 h103⟩]; done))
        · refine r_aload (pc := 98) C dX0_drawnTold_98 rfl ?_
          refine r_invD (pc := 100) (ci := 4) (owner := "RiverWords$Worded") (x2 := ⟨"RiverWords$Road", "isClosed", "()Z"⟩) 0 C dX0_drawnTold_100 (xr_isClosed R7 (wW_len s n).2) (gRd R7) (show vwC[4]? = some (RX4, TX4, 3) from rfl) rfl (lw_meth q749) q100 q747 (by decide +kernel) (by decide +kernel) (by decide +kernel) (by decide +kernel) (by decide +kernel) rfl rfl ⟨Nat.le_of_ble_eq_true rfl, Nat.le_of_ble_eq_true rfl⟩ (Nat.le_of_ble_eq_true rfl) ⟨by dsimp only [rmk]; omega, by dsimp only [rmk]; omega⟩ (rd_k ?_)
          refine r_if_eqZ (pc := 103) (tgt := 122) C dX0_drawnTold_103 (by decide) (bi_i _) (fun h103 => ?_) (fun h103 => ?_)
          · refine r_iconstZ (pc := 122) C dX0_drawnTold_122 ?_
            exact fin _ _ _ rfl (by first | (rw [bi_0.mp h70]; rfl) | (rw [bi_n0 h70]; rfl)) (by rw [crD_eq]; first | (rw [if_neg (fun q => by rw [bi_0.mp h95] at q; exact absurd q.1 (by decide))]; done) | (rw [if_neg (fun q => by rw [bi_0.mp h103] at q; exact absurd q.2 (by decide))]; done) | (rw [if_pos ⟨bi_n0 h95, bi_n0 h103⟩]; done))
          · refine r_aload (pc := 106) C dX0_drawnTold_106 rfl ?_
            obtain ⟨s9', t9', m1', m2', m3'⟩ := id R9
            obtain ⟨s7, t7, l1, l2, l3⟩ := id R7
            refine r_getN (pc := 108) (k := 0) (ci := 4) C dX0_drawnTold_108 (g1 l1) (show vwC[4]? = some (RX4, TX4, 3) from rfl) in_X4 (by decide) (C.nf (h1 := "RiverWords") (by decide +kernel)) (fun _ h => h) rfl ?_
            refine r_aload (pc := 111) C dX0_drawnTold_111 rfl ?_
            refine r_getN (pc := 113) (k := 0) (ci := 4) C dX0_drawnTold_113 (g1 m1') (show vwC[4]? = some (RX4, TX4, 3) from rfl) in_X4 (by decide) (C.nf (h1 := "RiverWords") (by decide +kernel)) (fun _ h => h) rfl ?_
            refine r_invS (pc := 116) 2 C dX0_drawnTold_116 (xo_crossings l2 m2' (wW_len s n) (wD_len s n)) rfl (lw_S q868 q869 q81 q870) (by decide +kernel) rfl rfl ⟨Nat.le_of_ble_eq_true rfl, Nat.le_of_ble_eq_true rfl⟩ (Nat.le_of_ble_eq_true rfl) ⟨by dsimp only [rmk]; omega, by dsimp only [rmk]; omega⟩ (rd_k ?_)
            refine r_goto (pc := 119) (tgt := 123) C dX0_drawnTold_119 (by decide) ?_
            exact fin _ _ _ rfl (by first | (rw [bi_0.mp h70]; rfl) | (rw [bi_n0 h70]; rfl)) (by rw [crD_eq]; first | (rw [if_neg (fun q => by rw [bi_0.mp h95] at q; exact absurd q.1 (by decide))]; done) | (rw [if_neg (fun q => by rw [bi_0.mp h103] at q; exact absurd q.2 (by decide))]; done) | (rw [if_pos ⟨bi_n0 h95, bi_n0 h103⟩]; done))
    refine r_iload (pc := 30) C dX0_drawnTold_30 rfl ?_
    refine r_iload_n (pc := 32) C dX0_drawnTold_32 rfl rfl ?_
    refine r_icmp_geZ (pc := 33) (tgt := 136) C dX0_drawnTold_33 (by decide) (by unfold i32; omega) (by unfold i32; omega) (fun h33 => ?_) (fun h33 => ?_)
    · refine r_iload_n (pc := 136) C dX0_drawnTold_136 rfl rfl ?_
      refine r_tcase 0 (fun h137 => ?_) (fun h137_0 => ?_)
      · refine r_tableInZ (pc := 137) (off := 27) (tgt := 164) C dX0_drawnTold_137 (by unfold i32; omega) (by omega) (by omega) (by rw [h137]; rfl) (by decide) ?_
        refine r_iload (pc := 164) C dX0_drawnTold_164 rfl ?_
        refine r_goto (pc := 166) (tgt := 184) C dX0_drawnTold_166 (by decide) ?_
        exact r_iret (pc := 184) C hQ dX0_drawnTold_184 (by dsimp only [rmk]; omega) (by dsimp only [rmk]; omega) (fun G hG => (by cases hG; obtain rfl : n = t := (by omega); refine ⟨?_, ⟨_, (setrd_self x) ▸ (h.self f1 (by simp) x1.1)⟩, f1⟩; unfold sDraw; first | (rw [if_pos h137]; done) | (rw [if_neg (by omega), if_pos h137]; done) | (rw [if_neg (by omega), if_neg (by omega), if_pos h137]; done) | (rw [if_neg (by omega), if_neg (by omega), if_neg (by omega)]; done)))
      refine r_tcase 1 (fun h137 => ?_) (fun h137_1 => ?_)
      · refine r_tableInZ (pc := 137) (off := 32) (tgt := 169) C dX0_drawnTold_137 (by unfold i32; omega) (by omega) (by omega) (by rw [h137]; rfl) (by decide) ?_
        refine r_iload (pc := 169) C dX0_drawnTold_169 rfl ?_
        refine r_goto (pc := 171) (tgt := 184) C dX0_drawnTold_171 (by decide) ?_
        exact r_iret (pc := 184) C hQ dX0_drawnTold_184 (by dsimp only [rmk]; omega) (by dsimp only [rmk]; omega) (fun G hG => (by cases hG; obtain rfl : n = t := (by omega); refine ⟨?_, ⟨_, (setrd_self x) ▸ (h.self f1 (by simp) x1.1)⟩, f1⟩; unfold sDraw; first | (rw [if_pos h137]; done) | (rw [if_neg (by omega), if_pos h137]; done) | (rw [if_neg (by omega), if_neg (by omega), if_pos h137]; done) | (rw [if_neg (by omega), if_neg (by omega), if_neg (by omega)]; done)))
      refine r_tcase 2 (fun h137 => ?_) (fun h137_2 => ?_)
      · refine r_tableInZ (pc := 137) (off := 37) (tgt := 174) C dX0_drawnTold_137 (by unfold i32; omega) (by omega) (by omega) (by rw [h137]; rfl) (by decide) ?_
        refine r_iload (pc := 174) C dX0_drawnTold_174 rfl ?_
        refine r_goto (pc := 176) (tgt := 184) C dX0_drawnTold_176 (by decide) ?_
        exact r_iret (pc := 184) C hQ dX0_drawnTold_184 (by dsimp only [rmk]; omega) (by dsimp only [rmk]; omega) (fun G hG => (by cases hG; obtain rfl : n = t := (by omega); refine ⟨?_, ⟨_, (setrd_self x) ▸ (h.self f1 (by simp) x1.1)⟩, f1⟩; unfold sDraw; first | (rw [if_pos h137]; done) | (rw [if_neg (by omega), if_pos h137]; done) | (rw [if_neg (by omega), if_neg (by omega), if_pos h137]; done) | (rw [if_neg (by omega), if_neg (by omega), if_neg (by omega)]; done)))
      refine r_tableOutZ (pc := 137) (tgt := 179) C dX0_drawnTold_137 (by unfold i32; omega) (by omega) (by decide) ?_
      refine r_aload_n (pc := 179) C dX0_drawnTold_179 rfl rfl ?_
      refine r_get (pc := 180) (k := 9) (ci := 0) C dX0_drawnTold_180 (g1 x1.1) (show vwC[0]? = some (RX0, TX0, 10) from rfl) in_X0 (by decide) (C.t _ q285) (fun _ h => h) rfl ?_
      refine r_l2iZ (pc := 183) C dX0_drawnTold_183 ?_
      exact r_iret (pc := 184) C hQ dX0_drawnTold_184 (by dsimp only [rmk]; omega) (by dsimp only [rmk]; omega) (fun G hG => (by cases hG; obtain rfl : n = t := (by omega); refine ⟨?_, ⟨_, (setrd_self x) ▸ (h.self f1 (by simp) x1.1)⟩, f1⟩; unfold sDraw; first | (rw [if_pos h137]; done) | (rw [if_neg (by omega), if_pos h137]; done) | (rw [if_neg (by omega), if_neg (by omega), if_pos h137]; done) | (rw [if_neg (by omega), if_neg (by omega), if_neg (by omega)]; done)))
    · refine r_newE (pc := 36) (ci := 4) (fs := [.null, .null, .null]) 12 C dX0_drawnTold_36 (show vwC[4]? = some (RX4, TX4, 3) from rfl) in_X4 tyX4 tyX4_ok q584 q585 q98 (by decide +kernel) (by dsimp only [rmk]; omega) (by dsimp only [rmk]; omega) (fun a36 n36 => ?_)
      refine r_dup (pc := 39) C dX0_drawnTold_39 rfl ?_
      refine r_aload_n (pc := 40) C dX0_drawnTold_40 rfl rfl ?_
      refine r_aload_n (pc := 41) C dX0_drawnTold_41 rfl rfl ?_
      refine r_invV (pc := 42) (ci := 0) 0 C dX0_drawnTold_42 (xo_draw (x1.fr (FR.new (ts := []) n36) (by decide) (by decide)) hlb) (g2 (x1.fr (FR.new (ts := []) n36) (by decide) (by decide)).1) (show vwC[0]? = some (RX0, TX0, 10) from rfl) rfl (lw_V q1118 q1120 qs20 q81 q1121) (by decide +kernel) rfl rfl ⟨Nat.le_of_ble_eq_true rfl, Nat.le_of_ble_eq_true rfl⟩ (Nat.le_of_ble_eq_true rfl) ⟨by dsimp only [rmk]; omega, by dsimp only [rmk]; omega⟩ (fun v42 G42 h42 => ?_)
      obtain ⟨z, rfl, q1, x2, f2⟩ := h42
      have f3 : FR [1, 9, 12] G1 G42 := (FR.new (ts := [1, 9, 12]) n36).tr (f2.wk (by decide))
      refine r_invI (pc := 45) 2 C dX0_drawnTold_45 (xo_initR (w := wD s n) x2 q1 (wD_len s n).2 (f2 _ _ (gup_eq _ _ _) (by simp)) (by decide)) rfl (lw_meth q588) q98 q586 q587 rfl (by decide +kernel) rfl rfl ⟨Nat.le_of_ble_eq_true rfl, Nat.le_of_ble_eq_true rfl⟩ (Nat.le_of_ble_eq_true rfl) ⟨by dsimp only [rmk]; omega, by dsimp only [rmk]; omega⟩ (fun v45 G45 h45 => ?_)
      obtain ⟨rfl, q2, f4, -⟩ := h45
      have x3 := x2.fr f4 (by decide) (by decide)
      have R3 := (R1.fr f3 (by decide) (by decide)).fr f4 (by decide) (by decide)
      have f5 : FR [1, 9, 12] G0 G45 := (f1.tr f3).tr (f4.wk (by decide))
      refine ww_retag (Γ' := fun G => ROAD G xh a36 0 (wD s n) ∧ FR [12] G45 G) (fun G hG => by rw [hG]; exact q2.frz) ?_
      refine ww_all (fun G2 hG2 => ?_)
      obtain ⟨R9, f6⟩ := hG2
      have x4 := x3.fr f6 (by decide) (by decide)
      have R7 := R3.fr f6 (by decide) (by decide)
      have f7 := f5.tr (f6.wk (us := [1, 9, 12]) (by decide))
      rw [← lcgN_add] at x4
      refine ww_wide (n' := 21 + 25 * (n + 1)) (s' := 83 + 107 * (n + 1)) (by dsimp only [rmk]; omega) (by dsimp only [rmk]; omega) ?_
      refine r_astore (pc := 48) C dX0_drawnTold_48 (by decide) ?_
      exact more G2 a36 x4 R9 R7 f7 (by omega)
  refine r_aload_n (pc := 0) C dX0_drawnTold_0 rfl rfl ?_
  refine r_iload_n (pc := 1) C dX0_drawnTold_1 rfl rfl ?_
  refine r_i2lZ (pc := 2) C dX0_drawnTold_2 (by unfold i32; omega) ?_
  refine r_put (pc := 3) (k := 9) (ci := 0) (ty := .long) C dX0_drawnTold_3 (Γ' := fun G => G = gup G0 xh (1, .inl (0, xfs A x.rdn x.d s))) (fun G hG => ⟨1, by decide, by rw [hG]; exact h.ob, by rw [hG]; rfl⟩) (show vwC[0]? = some (RX0, TX0, 10) from rfl) in_X0 tyX0 tyX0_ok nmX0 (by decide) (C.t _ q285) (fun _ h => h) rfl (by decide +kernel) rfl rfl (Nat.le_of_ble_eq_true rfl) ?_
  have f1 : FR [1] G0 (gup G0 xh (1, .inl (0, xfs A x.rdn x.d s))) := FR.up h.ob (by decide) 1
  have x1 : XOB (gup G0 xh (1, .inl (0, xfs A x.rdn x.d s))) xh A x.rdn x.d s := ⟨gup_eq _ _ _, h.xo.2.1.fr f1 (by decide), h.xo.2.2.1.fr f1 (by decide), h.xo.2.2.2.fr f1 (by decide)⟩
  have ko1 := h.ko.fr f1 (by decide)
  generalize gup G0 xh _ = G1 at f1 x1 ko1 ⊢
  refine r_iconstZ (pc := 6) C dX0_drawnTold_6 ?_
  refine r_istore (pc := 7) C dX0_drawnTold_7 (by decide) ?_
  refine r_iconstZ (pc := 9) C dX0_drawnTold_9 ?_
  refine r_istore (pc := 10) C dX0_drawnTold_10 (by decide) ?_
  refine r_iconstZ (pc := 12) C dX0_drawnTold_12 ?_
  refine r_istore (pc := 13) C dX0_drawnTold_13 (by decide) ?_
  refine r_newE (pc := 15) (ci := 4) (fs := [.null, .null, .null]) 12 C dX0_drawnTold_15 (show vwC[4]? = some (RX4, TX4, 3) from rfl) in_X4 tyX4 tyX4_ok q584 q585 q98 (by decide +kernel) (by first | exact Nat.le_of_ble_eq_true rfl | (dsimp only [rmk]; omega) | omega) (by first | exact Nat.le_of_ble_eq_true rfl | (dsimp only [rmk]; omega) | omega) (fun a15 n15 => ?_)
  refine r_dup (pc := 18) C dX0_drawnTold_18 rfl ?_
  refine r_aload_n (pc := 19) C dX0_drawnTold_19 rfl rfl ?_
  refine r_ldcS (pc := 20) C dX0_drawnTold_20 rfl (by decide +kernel : (_, _, "L", 2) ∈ skL) ?_
  refine r_invI (pc := 22) 2 C dX0_drawnTold_22 (xo_initR (w := [false]) (x1.fr (FR.new (ts := []) n15) (by decide) (by decide)) ((ko1.2.1.str).fr (FR.new (ts := []) n15) (by decide)) (by decide) (gup_eq _ _ _) (by decide)) rfl (lw_meth q588) q98 q586 q587 rfl (by decide +kernel) rfl rfl ⟨Nat.le_of_ble_eq_true rfl, Nat.le_of_ble_eq_true rfl⟩ (Nat.le_of_ble_eq_true rfl) ⟨(by first | exact Nat.le_of_ble_eq_true rfl | (dsimp only [rmk]; omega) | omega), (by first | exact Nat.le_of_ble_eq_true rfl | (dsimp only [rmk]; omega) | omega)⟩ (fun v22 G22 h22 => ?_)
  obtain ⟨rfl, q2, f4, -⟩ := h22
  have f5 : FR [12] G1 G22 := (FR.new (ts := [12]) n15).tr f4
  refine ww_retag (Γ' := fun G => ROAD G xh a15 0 [false] ∧ FR [12] G22 G) (fun G hG => by rw [hG]; exact q2.frz) ?_
  refine ww_all (fun G2 hG2 => ?_)
  obtain ⟨R9, f6⟩ := hG2
  have x4 := (x1.fr f5 (by decide) (by decide)).fr f6 (by decide) (by decide)
  have f7 : FR [1, 9, 12] G0 G2 := ((f1.wk (by decide)).tr (f5.wk (by decide))).tr (f6.wk (by decide))
  refine r_astore (pc := 25) C dX0_drawnTold_25 (by decide) ?_
  refine r_iconstZ (pc := 27) C dX0_drawnTold_27 ?_
  refine r_istore (pc := 28) C dX0_drawnTold_28 (by decide) ?_
  refine ww_wide (n' := 21 + 25 * 0) (s' := 83 + 107 * 0) (by dsimp only [rmk]; omega) (by dsimp only [rmk]; omega) ?_
  exact ww_to (fun G hG => by rw [hG]; exact ⟨x4, R9, f7⟩) (loop 0 (Nat.zero_le _) a15 none)
set_option maxHeartbeats 800000 in
theorem xo_drawn {la : Launch} {X : XE} {G0 : Gh} {xh : Nat} {x : AS} {A : Nat → Nat} {dr : Int} {rls : List Nat} {rm : Nat} {fls : List Nat} {fm : Nat} {cls : List Nat} {cm : Nat} (h : CW X G0 xh x A dr rls rm fls fm cls cm) (t s k : Int) (ht : i32 t) (hs : i32 s) (hk : i32 k) : MG la X yX0_drawn cX0_drawn 4 (some .int) (rmk 8 1050 4400 202) [.ref xh, .int (iI t), .int (iI s), .int (iI k)] (fun G => G = G0) (fun v G => v = some (.int (iI (sDrawn t s k))) ∧ COMP X G xh x ∧ FR cT G0 G) := by
  refine MG.of (by decide +kernel) (Nat.le_of_ble_eq_true rfl) ?_
  intro Z C hX hL hQ
  subst hX; subst hL
  change WW Z 4 (fun G => G = G0) 0 0 0 [some (.ref xh), some (.int (iI t)), some (.int (iI s)), some (.int (iI k))] []
  refine r_iload_n (pc := 0) C dX0_drawn_0 rfl rfl ?_
  refine r_iconstZ (pc := 1) C dX0_drawn_1 ?_
  refine r_bipushZ (pc := 2) C dX0_drawn_2 (by decide) ?_
  refine r_invP (pc := 4) 3 C dX0_drawn_4 (xf_in t 1 40 ht (by unfold i32; omega) (by unfold i32; omega)) rfl (lw_S q311 q312 q81 q313) (by decide +kernel) rfl rfl ⟨Nat.le_of_ble_eq_true rfl, Nat.le_of_ble_eq_true rfl⟩ (Nat.le_of_ble_eq_true rfl) ⟨(by first | exact Nat.le_of_ble_eq_true rfl | (dsimp only [rmk]; omega) | omega), (by first | exact Nat.le_of_ble_eq_true rfl | (dsimp only [rmk]; omega) | omega)⟩ ?_
  refine r_if_eqB (pc := 7) (tgt := 33) C dX0_drawn_7 (by decide)  (fun h7 => ?_) (fun h7 => ?_)
  · refine r_ldcZ (pc := 33) (a := -2000000102) C dX0_drawn_33 rfl q314 (by decide) ?_
    exact r_iret (pc := 35) C hQ dX0_drawn_35 (by first | exact Nat.le_of_ble_eq_true rfl | (dsimp only [rmk]; omega) | omega) (by first | exact Nat.le_of_ble_eq_true rfl | (dsimp only [rmk]; omega) | omega) (fun G hG => (by cases hG; unfold sDrawn; first | (rw [if_neg (fun q => h7 q.1)]; exact ⟨rfl, h.comp, FR.rf⟩) | (rw [if_neg (fun q => by have := q.2.1; omega)]; exact ⟨rfl, h.comp, FR.rf⟩) | (rw [if_neg (fun q => h20 q.2.2)]; exact ⟨rfl, h.comp, FR.rf⟩) | (rw [if_pos ⟨h7, by omega, h20⟩]; exact ⟨rfl, q1.comp, q2.wk (by decide)⟩)))
  · refine r_iload_n (pc := 10) C dX0_drawn_10 rfl rfl ?_
    refine r_if_ltZ (pc := 11) (tgt := 33) C dX0_drawn_11 (by decide) hs (fun h11 => ?_) (fun h11 => ?_)
    · refine r_ldcZ (pc := 33) (a := -2000000102) C dX0_drawn_33 rfl q314 (by decide) ?_
      exact r_iret (pc := 35) C hQ dX0_drawn_35 (by first | exact Nat.le_of_ble_eq_true rfl | (dsimp only [rmk]; omega) | omega) (by first | exact Nat.le_of_ble_eq_true rfl | (dsimp only [rmk]; omega) | omega) (fun G hG => (by cases hG; unfold sDrawn; first | (rw [if_neg (fun q => h7 q.1)]; exact ⟨rfl, h.comp, FR.rf⟩) | (rw [if_neg (fun q => by have := q.2.1; omega)]; exact ⟨rfl, h.comp, FR.rf⟩) | (rw [if_neg (fun q => h20 q.2.2)]; exact ⟨rfl, h.comp, FR.rf⟩) | (rw [if_pos ⟨h7, by omega, h20⟩]; exact ⟨rfl, q1.comp, q2.wk (by decide)⟩)))
    · refine r_iload_n (pc := 14) C dX0_drawn_14 rfl rfl ?_
      refine r_iconstZ (pc := 15) C dX0_drawn_15 ?_
      refine r_iconstZ (pc := 16) C dX0_drawn_16 ?_
      refine r_invP (pc := 17) 3 C dX0_drawn_17 (xf_in k 0 3 hk i32_0 (by unfold i32; omega)) rfl (lw_S q311 q312 q81 q313) (by decide +kernel) rfl rfl ⟨Nat.le_of_ble_eq_true rfl, Nat.le_of_ble_eq_true rfl⟩ (Nat.le_of_ble_eq_true rfl) ⟨(by first | exact Nat.le_of_ble_eq_true rfl | (dsimp only [rmk]; omega) | omega), (by first | exact Nat.le_of_ble_eq_true rfl | (dsimp only [rmk]; omega) | omega)⟩ ?_
      refine r_if_eqB (pc := 20) (tgt := 33) C dX0_drawn_20 (by decide)  (fun h20 => ?_) (fun h20 => ?_)
      · refine r_ldcZ (pc := 33) (a := -2000000102) C dX0_drawn_33 rfl q314 (by decide) ?_
        exact r_iret (pc := 35) C hQ dX0_drawn_35 (by first | exact Nat.le_of_ble_eq_true rfl | (dsimp only [rmk]; omega) | omega) (by first | exact Nat.le_of_ble_eq_true rfl | (dsimp only [rmk]; omega) | omega) (fun G hG => (by cases hG; unfold sDrawn; first | (rw [if_neg (fun q => h7 q.1)]; exact ⟨rfl, h.comp, FR.rf⟩) | (rw [if_neg (fun q => by have := q.2.1; omega)]; exact ⟨rfl, h.comp, FR.rf⟩) | (rw [if_neg (fun q => h20 q.2.2)]; exact ⟨rfl, h.comp, FR.rf⟩) | (rw [if_pos ⟨h7, by omega, h20⟩]; exact ⟨rfl, q1.comp, q2.wk (by decide)⟩)))
      · refine r_aload_n (pc := 23) C dX0_drawn_23 rfl rfl ?_
        refine r_iload_n (pc := 24) C dX0_drawn_24 rfl rfl ?_
        refine r_iload_n (pc := 25) C dX0_drawn_25 rfl rfl ?_
        refine r_iload_n (pc := 26) C dX0_drawn_26 rfl rfl ?_
        rw [show iI t = iI ((t.toNat : Nat) : Int) by rw [Int.toNat_of_nonneg (by omega)]]
        refine r_invV (pc := 27) (ci := 0) 3 C dX0_drawn_27 (xo_drawnTold h t.toNat s k (by omega) (by unfold i32 at hs; omega) h20) (g2 h.ob) (show vwC[0]? = some (RX0, TX0, 10) from rfl) rfl (lw_V q1114 q1116 qs19 q81 q1117) (by decide +kernel) rfl rfl ⟨Nat.le_of_ble_eq_true rfl, Nat.le_of_ble_eq_true rfl⟩ (Nat.le_of_ble_eq_true rfl) ⟨(by first | exact Nat.le_of_ble_eq_true rfl | (dsimp only [rmk]; omega) | omega), (by first | exact Nat.le_of_ble_eq_true rfl | (dsimp only [rmk]; omega) | omega)⟩ (fun v27 G27 h27 => ?_)
        obtain ⟨rfl, ⟨dr', q1⟩, q2⟩ := h27
        refine r_goto (pc := 30) (tgt := 35) C dX0_drawn_30 (by decide) ?_
        exact r_iret (pc := 35) C hQ dX0_drawn_35 (by first | exact Nat.le_of_ble_eq_true rfl | (dsimp only [rmk]; omega) | omega) (by first | exact Nat.le_of_ble_eq_true rfl | (dsimp only [rmk]; omega) | omega) (fun G hG => (by cases hG; unfold sDrawn; first | (rw [if_neg (fun q => h7 q.1)]; exact ⟨rfl, h.comp, FR.rf⟩) | (rw [if_neg (fun q => by have := q.2.1; omega)]; exact ⟨rfl, h.comp, FR.rf⟩) | (rw [if_neg (fun q => h20 q.2.2)]; exact ⟨rfl, h.comp, FR.rf⟩) | (rw [if_pos ⟨h7, by omega, h20⟩]; exact ⟨rfl, q1.comp, q2.wk (by decide)⟩)))
set_option maxHeartbeats 800000 in
theorem xo_closedMany {la : Launch} {X : XE} {G0 : Gh} {xh : Nat} {x : AS} {A : Nat → Nat} {dr : Int} {rls : List Nat} {rm : Nat} {fls : List Nat} {fm : Nat} {cls : List Nat} {cm : Nat} (h : CW X G0 xh x A dr rls rm fls fm cls cm) : MG la X yX0_closedMany cX0_closedMany 3 (some .int) (rmk 7 0 0 149) [.ref xh] (fun G => G = G0) (fun zv G => zv = some (.int (iI (nClosed x.ws))) ∧ G = G0) := by
  refine MG.of (by decide +kernel) (Nat.le_of_ble_eq_true rfl) ?_
  intro Z C hX hL hQ
  subst hX; subst hL
  change WW Z 3 (fun G => G = G0) 0 0 0 [some (.ref xh), none, none] []
  have hk6 := h.rk.1
  have loop : ∀ i : Nat, i ≤ x.ws.length → WW Z 3 (fun G => G = G0) 0 0 4 [some (.ref xh), some (.int (iI (cnt (fun k => wClosed (x.ws.getD k [])) i))), some (.int (iI (i : Int)))] [] := by
    refine loopN _ _ (fun i hi ih => ?_)
    refine r_iload_n (pc := 4) C dX0_closedMany_4 rfl rfl ?_
    refine r_aload_n (pc := 5) C dX0_closedMany_5 rfl rfl ?_
    refine r_get (pc := 6) (k := 3) (ci := 0) C dX0_closedMany_6 (g1 h.ob) (show vwC[0]? = some (RX0, TX0, 10) from rfl) in_X0 (by decide) (C.t _ q278) (fun _ h => h) rfl ?_
    refine r_invV (pc := 9) (ci := 8) 0 C dX0_closedMany_9 (jl_size h.rl) (gLs h.rl) (show vwC[8]? = some (RJ6, TJ6, 3) from rfl) rfl (lw_V q580 q581 q582 q89 q583) (by decide +kernel) rfl rfl ⟨Nat.le_of_ble_eq_true rfl, Nat.le_of_ble_eq_true rfl⟩ (Nat.le_of_ble_eq_true rfl) ⟨Nat.le_of_ble_eq_true rfl, Nat.le_of_ble_eq_true rfl⟩ (rd_k ?_)
    rw [h.rn]
    refine r_icmp_geZ (pc := 12) (tgt := 41) C dX0_closedMany_12 (by decide) (by unfold i32; omega) (by unfold i32; omega) (fun h12 => ?_) (fun h12 => ?_)
    · refine r_iload_n (pc := 41) C dX0_closedMany_41 rfl rfl ?_
      exact r_iret (pc := 42) C hQ dX0_closedMany_42 (Nat.le_of_ble_eq_true rfl) (Nat.le_of_ble_eq_true rfl) (fun G hG => ⟨(by unfold nClosed; rw [show x.ws.length = i by omega]), hG⟩)
    · refine r_iload_n (pc := 15) C dX0_closedMany_15 rfl rfl ?_
      refine r_aload_n (pc := 16) C dX0_closedMany_16 rfl rfl ?_
      refine r_get (pc := 17) (k := 3) (ci := 0) C dX0_closedMany_17 (g1 h.ob) (show vwC[0]? = some (RX0, TX0, 10) from rfl) in_X0 (by decide) (C.t _ q278) (fun _ h => h) rfl ?_
      refine r_iload_n (pc := 20) C dX0_closedMany_20 rfl rfl ?_
      refine r_invV (pc := 21) (ci := 8) 1 C dX0_closedMany_21 (jl_get (i : Int) h.rl ⟨by omega, by rw [h.rn]; omega⟩) (gLs h.rl) (show vwC[8]? = some (RJ6, TJ6, 3) from rfl) rfl (lw_V q670 q671 q672 q89 q673) (by decide +kernel) rfl rfl ⟨Nat.le_of_ble_eq_true rfl, Nat.le_of_ble_eq_true rfl⟩ (Nat.le_of_ble_eq_true rfl) ⟨Nat.le_of_ble_eq_true rfl, Nat.le_of_ble_eq_true rfl⟩ (rd_k ?_)
      rw [show ((i : Int)).toNat = i from rfl]
      refine r_castO (pc := 24) (ci := 4) C dX0_closedMany_24 (gRd (h.rs.2.1 i (by omega))) (show vwC[4]? = some (RX4, TX4, 3) from rfl) q584 ?_
      refine r_invD (pc := 27) (ci := 4) (owner := "RiverWords$Worded") (x2 := ⟨"RiverWords$Road", "isClosed", "()Z"⟩) 0 C dX0_closedMany_27 (xr_isClosed (h.rs.2.1 i (by omega)) (h.rk.2 i (by omega)).2) (gRd (h.rs.2.1 i (by omega))) (show vwC[4]? = some (RX4, TX4, 3) from rfl) rfl (lw_meth q749) q100 q747 (by decide +kernel) (by decide +kernel) (by decide +kernel) (by decide +kernel) (by decide +kernel) rfl rfl ⟨Nat.le_of_ble_eq_true rfl, Nat.le_of_ble_eq_true rfl⟩ (Nat.le_of_ble_eq_true rfl) ⟨Nat.le_of_ble_eq_true rfl, Nat.le_of_ble_eq_true rfl⟩ (rd_k ?_)
      rw [bi_b2]
      refine r_invP (pc := 30) 1 C dX0_closedMany_30 (xf_truth (wClosed (x.ws.getD i []) = true)) rfl (lw_S q754 q755 q81 q756) (by decide +kernel) rfl rfl ⟨Nat.le_of_ble_eq_true rfl, Nat.le_of_ble_eq_true rfl⟩ (Nat.le_of_ble_eq_true rfl) ⟨Nat.le_of_ble_eq_true rfl, Nat.le_of_ble_eq_true rfl⟩ ?_
      rw [← bi_b2]
      refine r_iaddZ (pc := 33) C dX0_closedMany_33 ?_
      refine r_istore_n (pc := 34) C dX0_closedMany_34 rfl (by decide) ?_
      refine r_iincZ (pc := 35) C dX0_closedMany_35 rfl (by decide) ?_
      refine r_goto (pc := 38) (tgt := 4) C dX0_closedMany_38 (by decide) ?_
      have L := ih (by omega)
      rw [cnt_s] at L
      exact L
  refine r_iconstZ (pc := 0) C dX0_closedMany_0 ?_
  refine r_istore_n (pc := 1) C dX0_closedMany_1 rfl (by decide) ?_
  refine r_iconstZ (pc := 2) C dX0_closedMany_2 ?_
  refine r_istore_n (pc := 3) C dX0_closedMany_3 rfl (by decide) ?_
  exact loop 0 (Nat.zero_le _)
set_option maxHeartbeats 800000 in
theorem xo_unlikeMany {la : Launch} {X : XE} {G0 : Gh} {xh : Nat} {x : AS} {A : Nat → Nat} {dr : Int} {rls : List Nat} {rm : Nat} {fls : List Nat} {fm : Nat} {cls : List Nat} {cm : Nat} (h : CW X G0 xh x A dr rls rm fls fm cls cm) : MG la X yX0_unlikeMany cX0_unlikeMany 5 (some .int) (rmk 9 300 3500 215) [.ref xh] (fun G => G = G0) (fun v G => v = some (.int (iI (nNew x.ws))) ∧ FR [9] G0 G) := by
  refine MG.of (by decide +kernel) (Nat.le_of_ble_eq_true rfl) ?_
  intro Z C hX hL hQ
  subst hX; subst hL
  change WW Z 5 (fun G => G = G0) 0 0 0 [some (.ref xh), none, none, none, none] []
  have hk6 : x.ws.length ≤ 6 := h.rk.1
  have loop : ∀ k : Nat, k ≤ x.ws.length → ∀ v3 v4 : Option Value, WW Z 5 (FR [9] G0) (48 * k) (576 * k) 4 [some (.ref xh), some (.int (iI (cnt (isNewW x.ws) k))), some (.int (iI (k : Int))), v3, v4] [] := by
    refine loopN _ _ (fun k hk ih v3 v4 => ?_)
    refine ww_all (fun G1 f1 => ?_)
    have h1 := h.fr f1 (by simp)
    have inner : k < x.ws.length → ∀ e : Nat, e ≤ k → WW Z 5 (FR [9] G0) (48 * k + 8 * e) (576 * k + 96 * e) 20 [some (.ref xh), some (.int (iI (cnt (isNewW x.ws) k))), some (.int (iI (k : Int))), some (.int (iI (bi (allN (fun j => decide (wTurn (x.ws.getD j []) (x.ws.getD k []) = NON)) e)))), some (.int (iI (e : Int)))] [] := by
      intro hkl
      refine loopN _ _ (fun e he ihe => ?_)
      refine ww_all (fun G1 f1 => ?_)
      have h1 := h.fr f1 (by simp)
      have hwk := h.rk.2 k (by omega)
      have nxt' : ∀ b : Bool, decide (wTurn (x.ws.getD e []) (x.ws.getD k []) = NON) = b → ∀ G2 : Gh, FR [9] G0 G2 → e < k → WW Z 5 (fun G => G = G2) (48 * k + 8 * e + 8) (576 * k + 96 * e + 96) 67 [some (.ref xh), some (.int (iI (cnt (isNewW x.ws) k))), some (.int (iI (k : Int))), some (.int (iI (bi (allN (fun j => decide (wTurn (x.ws.getD j []) (x.ws.getD k []) = NON)) e)))), some (.int (iI (e : Int)))] [.int (iI (bi b)), .int (iI (bi (allN (fun j => decide (wTurn (x.ws.getD j []) (x.ws.getD k []) = NON)) e)))] := by
        intro b hb G2 f3 hek
        refine r_andB (pc := 67) C dX0_unlikeMany_67 ?_
        refine r_istore_n (pc := 68) C dX0_unlikeMany_68 rfl (by decide) ?_
        refine r_iincZ (pc := 69) C dX0_unlikeMany_69 rfl (by decide) ?_
        refine r_goto (pc := 72) (tgt := 20) C dX0_unlikeMany_72 (by decide) ?_
        have L := ihe hek
        rw [allN_s, hb] at L
        exact ww_to (fun G hG => by rw [hG]; exact f3) L
      refine r_iload (pc := 20) C dX0_unlikeMany_20 rfl ?_
      refine r_iload_n (pc := 22) C dX0_unlikeMany_22 rfl rfl ?_
      refine r_icmp_geZ (pc := 23) (tgt := 75) C dX0_unlikeMany_23 (by decide) (by unfold i32; omega) (by unfold i32; omega) (fun h23 => ?_) (fun h23 => ?_)
      · refine r_iload_n (pc := 75) C dX0_unlikeMany_75 rfl rfl ?_
        refine r_iload_n (pc := 76) C dX0_unlikeMany_76 rfl rfl ?_
        have he2 : e = k := (by omega)
        rw [he2, bi_b2]
        refine r_invP (pc := 77) 1 C dX0_unlikeMany_77 (xf_truth (allN (fun j => decide (wTurn (x.ws.getD j []) (x.ws.getD k []) = NON)) k = true)) rfl (lw_S q754 q755 q81 q756) (by decide +kernel) rfl rfl ⟨Nat.le_of_ble_eq_true rfl, Nat.le_of_ble_eq_true rfl⟩ (Nat.le_of_ble_eq_true rfl) ⟨by dsimp only [rmk]; omega, by dsimp only [rmk]; omega⟩ ?_
        rw [← bi_b2]
        refine r_iaddZ (pc := 80) C dX0_unlikeMany_80 ?_
        refine r_istore_n (pc := 81) C dX0_unlikeMany_81 rfl (by decide) ?_
        refine r_iincZ (pc := 82) C dX0_unlikeMany_82 rfl (by decide) ?_
        refine r_goto (pc := 85) (tgt := 4) C dX0_unlikeMany_85 (by decide) ?_
        have L := ih hkl (some (.int (iI (bi (allN (fun j => decide (wTurn (x.ws.getD j []) (x.ws.getD k []) = NON)) k))))) (some (.int (iI (k : Int))))
        rw [cnt_s] at L
        refine ww_wide (n' := 48 * (k + 1)) (s' := 576 * (k + 1)) (by omega) (by omega) ?_
        exact ww_to (fun G hG => by rw [hG]; exact f1) L
      · refine r_iload_n (pc := 26) C dX0_unlikeMany_26 rfl rfl ?_
        refine r_aload_n (pc := 27) C dX0_unlikeMany_27 rfl rfl ?_
        refine r_get (pc := 28) (k := 3) (ci := 0) C dX0_unlikeMany_28 (g1 h1.ob) (show vwC[0]? = some (RX0, TX0, 10) from rfl) in_X0 (by decide) (C.t _ q278) (fun _ h => h) rfl ?_
        refine r_iload_n (pc := 31) C dX0_unlikeMany_31 rfl rfl ?_
        refine r_invV (pc := 32) (ci := 8) 1 C dX0_unlikeMany_32 (jl_get (k : Int) h1.rl ⟨by omega, by rw [h1.rn]; omega⟩) (gLs h1.rl) (show vwC[8]? = some (RJ6, TJ6, 3) from rfl) rfl (lw_V q670 q671 q672 q89 q673) (by decide +kernel) rfl rfl ⟨Nat.le_of_ble_eq_true rfl, Nat.le_of_ble_eq_true rfl⟩ (Nat.le_of_ble_eq_true rfl) ⟨by dsimp only [rmk]; omega, by dsimp only [rmk]; omega⟩ (rd_k ?_)
        rw [show ((k : Int)).toNat = k from rfl]
        obtain ⟨s1, t1, m1, m2, m3⟩ := h1.rs.2.1 k (by omega)
        refine r_castO (pc := 35) (ci := 4) C dX0_unlikeMany_35 (g2 m1) (show vwC[4]? = some (RX4, TX4, 3) from rfl) q584 ?_
        refine r_getN (pc := 38) (k := 0) (ci := 4) C dX0_unlikeMany_38 (g1 m1) (show vwC[4]? = some (RX4, TX4, 3) from rfl) in_X4 (by decide) (C.nf (h1 := "RiverWords") (by decide +kernel)) (fun _ h => h) rfl ?_
        refine r_aload_n (pc := 41) C dX0_unlikeMany_41 rfl rfl ?_
        refine r_get (pc := 42) (k := 3) (ci := 0) C dX0_unlikeMany_42 (g1 h1.ob) (show vwC[0]? = some (RX0, TX0, 10) from rfl) in_X0 (by decide) (C.t _ q278) (fun _ h => h) rfl ?_
        refine r_iload (pc := 45) C dX0_unlikeMany_45 rfl ?_
        refine r_invV (pc := 47) (ci := 8) 1 C dX0_unlikeMany_47 (jl_get (e : Int) h1.rl ⟨by omega, by rw [h1.rn]; omega⟩) (gLs h1.rl) (show vwC[8]? = some (RJ6, TJ6, 3) from rfl) rfl (lw_V q670 q671 q672 q89 q673) (by decide +kernel) rfl rfl ⟨Nat.le_of_ble_eq_true rfl, Nat.le_of_ble_eq_true rfl⟩ (Nat.le_of_ble_eq_true rfl) ⟨by dsimp only [rmk]; omega, by dsimp only [rmk]; omega⟩ (rd_k ?_)
        rw [show ((e : Int)).toNat = e from rfl]
        obtain ⟨s2, t2, l1, l2, l3⟩ := h1.rs.2.1 e (by omega)
        have hwe := h.rk.2 e (by omega)
        refine r_castO (pc := 50) (ci := 4) C dX0_unlikeMany_50 (g2 l1) (show vwC[4]? = some (RX4, TX4, 3) from rfl) q584 ?_
        refine r_getN (pc := 53) (k := 0) (ci := 4) C dX0_unlikeMany_53 (g1 l1) (show vwC[4]? = some (RX4, TX4, 3) from rfl) in_X4 (by decide) (C.nf (h1 := "RiverWords") (by decide +kernel)) (fun _ h => h) rfl ?_
        refine r_invS (pc := 56) 2 C dX0_unlikeMany_56 (xw_isAlike m2 l2 hwk hwe) rfl (lw_S q764 q765 q100 q766) (by decide +kernel) rfl rfl ⟨Nat.le_of_ble_eq_true rfl, Nat.le_of_ble_eq_true rfl⟩ (Nat.le_of_ble_eq_true rfl) ⟨by dsimp only [rmk]; omega, by dsimp only [rmk]; omega⟩ (fun v56 G56 h56 => ?_)
        obtain ⟨rfl, f2⟩ := h56
        rw [wAlike_comm hwk.1 hwe.1]
        have hal : ∀ b : Bool, wAlike (x.ws.getD e []) (x.ws.getD k []) = b → decide (wTurn (x.ws.getD e []) (x.ws.getD k []) = NON) = !b := (by intro b hb; subst hb; unfold wAlike; rw [Bool.eq_iff_iff]; simp)
        refine r_if_neZ (pc := 59) (tgt := 66) C dX0_unlikeMany_59 (by decide) (bi_i _) (fun h59 => ?_) (fun h59 => ?_)
        · have hb := hal true (bi_n0 h59)
          refine r_iconstZ (pc := 66) C dX0_unlikeMany_66 ?_
          first | exact nxt' false (by rw [hal true (bi_n0 h59)]; rfl) G56 (f1.tr f2) (by omega) | exact nxt' true (by rw [hal false (bi_0.mp h59)]; rfl) G56 (f1.tr f2) (by omega)
        · have hb := hal false (bi_0.mp h59)
          refine r_iconstZ (pc := 62) C dX0_unlikeMany_62 ?_
          refine r_goto (pc := 63) (tgt := 67) C dX0_unlikeMany_63 (by decide) ?_
          first | exact nxt' false (by rw [hal true (bi_n0 h59)]; rfl) G56 (f1.tr f2) (by omega) | exact nxt' true (by rw [hal false (bi_0.mp h59)]; rfl) G56 (f1.tr f2) (by omega)
    refine r_iload_n (pc := 4) C dX0_unlikeMany_4 rfl rfl ?_
    refine r_aload_n (pc := 5) C dX0_unlikeMany_5 rfl rfl ?_
    refine r_get (pc := 6) (k := 3) (ci := 0) C dX0_unlikeMany_6 (g1 h1.ob) (show vwC[0]? = some (RX0, TX0, 10) from rfl) in_X0 (by decide) (C.t _ q278) (fun _ h => h) rfl ?_
    refine r_invV (pc := 9) (ci := 8) 0 C dX0_unlikeMany_9 (jl_size h1.rl) (gLs h1.rl) (show vwC[8]? = some (RJ6, TJ6, 3) from rfl) rfl (lw_V q580 q581 q582 q89 q583) (by decide +kernel) rfl rfl ⟨Nat.le_of_ble_eq_true rfl, Nat.le_of_ble_eq_true rfl⟩ (Nat.le_of_ble_eq_true rfl) ⟨by dsimp only [rmk]; omega, by dsimp only [rmk]; omega⟩ (rd_k ?_)
    rw [h1.rn]
    refine r_icmp_geZ (pc := 12) (tgt := 88) C dX0_unlikeMany_12 (by decide) (by unfold i32; omega) (by unfold i32; omega) (fun h12 => ?_) (fun h12 => ?_)
    · refine r_iload_n (pc := 88) C dX0_unlikeMany_88 rfl rfl ?_
      exact r_iret (pc := 89) C hQ dX0_unlikeMany_89 (by dsimp only [rmk]; omega) (by dsimp only [rmk]; omega) (fun G hG => (by cases hG; exact ⟨by unfold nNew; rw [show x.ws.length = k by omega], f1⟩))
    · refine r_iconstZ (pc := 15) C dX0_unlikeMany_15 ?_
      refine r_istore_n (pc := 16) C dX0_unlikeMany_16 rfl (by decide) ?_
      refine r_iconstZ (pc := 17) C dX0_unlikeMany_17 ?_
      refine r_istore (pc := 18) C dX0_unlikeMany_18 (by decide) ?_
      exact ww_to (fun G hG => by rw [hG]; exact f1) (inner (by omega) 0 (Nat.zero_le _))
  refine r_iconstZ (pc := 0) C dX0_unlikeMany_0 ?_
  refine r_istore_n (pc := 1) C dX0_unlikeMany_1 rfl (by decide) ?_
  refine r_iconstZ (pc := 2) C dX0_unlikeMany_2 ?_
  refine r_istore_n (pc := 3) C dX0_unlikeMany_3 rfl (by decide) ?_
  exact ww_to (fun G hG => by rw [hG]; exact FR.rf) (loop 0 (Nat.zero_le _) none none)
set_option maxHeartbeats 800000 in
theorem xo_countOf {la : Launch} {X : XE} {G0 : Gh} {xh : Nat} {x : AS} {A : Nat → Nat} {dr : Int} {rls : List Nat} {rm : Nat} {fls : List Nat} {fm : Nat} {cls : List Nat} {cm : Nat} (h : CW X G0 xh x A dr rls rm fls fm cls cm) (k : Int) (hk : i32 k) : MG la X yX0_countOf cX0_countOf 2 (some .int) (rmk 10 300 3500 239) [.ref xh, .int (iI k)] (fun G => G = G0) (fun v G => v = some (.int (iI (sCount x k))) ∧ FR [9] G0 G) := by
  refine MG.of (by decide +kernel) (Nat.le_of_ble_eq_true rfl) ?_
  intro Z C hX hL hQ
  subst hX; subst hL
  change WW Z 2 (fun G => G = G0) 0 0 0 [some (.ref xh), some (.int (iI k))] []
  refine r_iload_n (pc := 0) C dX0_countOf_0 rfl rfl ?_
  refine r_tcase 0 (fun h1 => ?_) (fun h1_0 => ?_)
  · refine r_tableInZ (pc := 1) (off := 43) (tgt := 44) C dX0_countOf_1 hk (by omega) (by omega) (by rw [h1]; rfl) (by decide) ?_
    refine r_aload_n (pc := 44) C dX0_countOf_44 rfl rfl ?_
    refine r_get (pc := 45) (k := 3) (ci := 0) C dX0_countOf_45 (g1 h.ob) (show vwC[0]? = some (RX0, TX0, 10) from rfl) in_X0 (by decide) (C.t _ q278) (fun _ h => h) rfl ?_
    refine r_invV (pc := 48) (ci := 8) 0 C dX0_countOf_48 (jl_size h.rl) (gLs h.rl) (show vwC[8]? = some (RJ6, TJ6, 3) from rfl) rfl (lw_V q580 q581 q582 q89 q583) (by decide +kernel) rfl rfl ⟨Nat.le_of_ble_eq_true rfl, Nat.le_of_ble_eq_true rfl⟩ (Nat.le_of_ble_eq_true rfl) ⟨(by first | exact Nat.le_of_ble_eq_true rfl | (dsimp only [rmk]; omega) | omega), (by first | exact Nat.le_of_ble_eq_true rfl | (dsimp only [rmk]; omega) | omega)⟩ (rd_k ?_)
    refine r_goto (pc := 51) (tgt := 107) C dX0_countOf_51 (by decide) ?_
    exact r_iret (pc := 107) C hQ dX0_countOf_107 (by first | exact Nat.le_of_ble_eq_true rfl | (dsimp only [rmk]; omega) | omega) (by first | exact Nat.le_of_ble_eq_true rfl | (dsimp only [rmk]; omega) | omega) (fun G hG => (by cases hG; refine ⟨?_, by first | exact FR.rf | exact q1⟩; unfold sCount; first | (rw [if_pos h1, h.rn]; done) | (rw [if_neg (by omega), if_pos h1]; done) | (rw [if_neg (by omega), if_neg (by omega), if_pos h1]; done) | (rw [if_neg (by omega), if_neg (by omega), if_neg (by omega), if_pos h1]; done) | (rw [if_neg (by omega), if_neg (by omega), if_neg (by omega), if_neg (by omega), if_pos h1]; done) | (rw [if_neg (by omega), if_neg (by omega), if_neg (by omega), if_neg (by omega), if_neg (by omega), if_pos h1, h.fn]; done) | (rw [if_neg (by omega), if_neg (by omega), if_neg (by omega), if_neg (by omega), if_neg (by omega), if_neg (by omega), if_pos h1, h.cn]; done) | (rw [if_neg (by omega), if_neg (by omega), if_neg (by omega), if_neg (by omega), if_neg (by omega), if_neg (by omega), if_neg (by omega)]; done)))
  refine r_tcase 1 (fun h1 => ?_) (fun h1_1 => ?_)
  · refine r_tableInZ (pc := 1) (off := 53) (tgt := 54) C dX0_countOf_1 hk (by omega) (by omega) (by rw [h1]; rfl) (by decide) ?_
    refine r_aload_n (pc := 54) C dX0_countOf_54 rfl rfl ?_
    refine r_invV (pc := 55) (ci := 0) 0 C dX0_countOf_55 (xo_closedMany h) (g2 h.ob) (show vwC[0]? = some (RX0, TX0, 10) from rfl) rfl (lw_V q1135 q1137 qs22 q81 q1138) (by decide +kernel) rfl rfl ⟨Nat.le_of_ble_eq_true rfl, Nat.le_of_ble_eq_true rfl⟩ (Nat.le_of_ble_eq_true rfl) ⟨(by first | exact Nat.le_of_ble_eq_true rfl | (dsimp only [rmk]; omega) | omega), (by first | exact Nat.le_of_ble_eq_true rfl | (dsimp only [rmk]; omega) | omega)⟩ (rd_k ?_)
    refine r_goto (pc := 58) (tgt := 107) C dX0_countOf_58 (by decide) ?_
    exact r_iret (pc := 107) C hQ dX0_countOf_107 (by first | exact Nat.le_of_ble_eq_true rfl | (dsimp only [rmk]; omega) | omega) (by first | exact Nat.le_of_ble_eq_true rfl | (dsimp only [rmk]; omega) | omega) (fun G hG => (by cases hG; refine ⟨?_, by first | exact FR.rf | exact q1⟩; unfold sCount; first | (rw [if_pos h1, h.rn]; done) | (rw [if_neg (by omega), if_pos h1]; done) | (rw [if_neg (by omega), if_neg (by omega), if_pos h1]; done) | (rw [if_neg (by omega), if_neg (by omega), if_neg (by omega), if_pos h1]; done) | (rw [if_neg (by omega), if_neg (by omega), if_neg (by omega), if_neg (by omega), if_pos h1]; done) | (rw [if_neg (by omega), if_neg (by omega), if_neg (by omega), if_neg (by omega), if_neg (by omega), if_pos h1, h.fn]; done) | (rw [if_neg (by omega), if_neg (by omega), if_neg (by omega), if_neg (by omega), if_neg (by omega), if_neg (by omega), if_pos h1, h.cn]; done) | (rw [if_neg (by omega), if_neg (by omega), if_neg (by omega), if_neg (by omega), if_neg (by omega), if_neg (by omega), if_neg (by omega)]; done)))
  refine r_tcase 2 (fun h1 => ?_) (fun h1_2 => ?_)
  · refine r_tableInZ (pc := 1) (off := 60) (tgt := 61) C dX0_countOf_1 hk (by omega) (by omega) (by rw [h1]; rfl) (by decide) ?_
    refine r_aload_n (pc := 61) C dX0_countOf_61 rfl rfl ?_
    refine r_invV (pc := 62) (ci := 0) 0 C dX0_countOf_62 (xo_unlikeMany h) (g2 h.ob) (show vwC[0]? = some (RX0, TX0, 10) from rfl) rfl (lw_V q1139 q1141 qs23 q81 q1142) (by decide +kernel) rfl rfl ⟨Nat.le_of_ble_eq_true rfl, Nat.le_of_ble_eq_true rfl⟩ (Nat.le_of_ble_eq_true rfl) ⟨(by first | exact Nat.le_of_ble_eq_true rfl | (dsimp only [rmk]; omega) | omega), (by first | exact Nat.le_of_ble_eq_true rfl | (dsimp only [rmk]; omega) | omega)⟩ (fun v62 G62 h62 => ?_)
    obtain ⟨rfl, q1⟩ := h62
    refine r_goto (pc := 65) (tgt := 107) C dX0_countOf_65 (by decide) ?_
    exact r_iret (pc := 107) C hQ dX0_countOf_107 (by first | exact Nat.le_of_ble_eq_true rfl | (dsimp only [rmk]; omega) | omega) (by first | exact Nat.le_of_ble_eq_true rfl | (dsimp only [rmk]; omega) | omega) (fun G hG => (by cases hG; refine ⟨?_, by first | exact FR.rf | exact q1⟩; unfold sCount; first | (rw [if_pos h1, h.rn]; done) | (rw [if_neg (by omega), if_pos h1]; done) | (rw [if_neg (by omega), if_neg (by omega), if_pos h1]; done) | (rw [if_neg (by omega), if_neg (by omega), if_neg (by omega), if_pos h1]; done) | (rw [if_neg (by omega), if_neg (by omega), if_neg (by omega), if_neg (by omega), if_pos h1]; done) | (rw [if_neg (by omega), if_neg (by omega), if_neg (by omega), if_neg (by omega), if_neg (by omega), if_pos h1, h.fn]; done) | (rw [if_neg (by omega), if_neg (by omega), if_neg (by omega), if_neg (by omega), if_neg (by omega), if_neg (by omega), if_pos h1, h.cn]; done) | (rw [if_neg (by omega), if_neg (by omega), if_neg (by omega), if_neg (by omega), if_neg (by omega), if_neg (by omega), if_neg (by omega)]; done)))
  refine r_tcase 3 (fun h1 => ?_) (fun h1_3 => ?_)
  · refine r_tableInZ (pc := 1) (off := 67) (tgt := 68) C dX0_countOf_1 hk (by omega) (by omega) (by rw [h1]; rfl) (by decide) ?_
    refine r_aload_n (pc := 68) C dX0_countOf_68 rfl rfl ?_
    refine r_get (pc := 69) (k := 5) (ci := 0) C dX0_countOf_69 (g1 h.ob) (show vwC[0]? = some (RX0, TX0, 10) from rfl) in_X0 (by decide) (C.t _ q280) (fun _ h => h) rfl ?_
    refine r_invV (pc := 72) (ci := 9) 0 C dX0_countOf_72 (jb_length h.pg) (gB h.pg) (show vwC[9]? = some (RJ8, TJ8, 4) from rfl) rfl (lw_V q315 q316 q317 q91 q318) (by decide +kernel) rfl rfl ⟨Nat.le_of_ble_eq_true rfl, Nat.le_of_ble_eq_true rfl⟩ (Nat.le_of_ble_eq_true rfl) ⟨(by first | exact Nat.le_of_ble_eq_true rfl | (dsimp only [rmk]; omega) | omega), (by first | exact Nat.le_of_ble_eq_true rfl | (dsimp only [rmk]; omega) | omega)⟩ (rd_k ?_)
    refine r_goto (pc := 75) (tgt := 107) C dX0_countOf_75 (by decide) ?_
    exact r_iret (pc := 107) C hQ dX0_countOf_107 (by first | exact Nat.le_of_ble_eq_true rfl | (dsimp only [rmk]; omega) | omega) (by first | exact Nat.le_of_ble_eq_true rfl | (dsimp only [rmk]; omega) | omega) (fun G hG => (by cases hG; refine ⟨?_, by first | exact FR.rf | exact q1⟩; unfold sCount; first | (rw [if_pos h1, h.rn]; done) | (rw [if_neg (by omega), if_pos h1]; done) | (rw [if_neg (by omega), if_neg (by omega), if_pos h1]; done) | (rw [if_neg (by omega), if_neg (by omega), if_neg (by omega), if_pos h1]; done) | (rw [if_neg (by omega), if_neg (by omega), if_neg (by omega), if_neg (by omega), if_pos h1]; done) | (rw [if_neg (by omega), if_neg (by omega), if_neg (by omega), if_neg (by omega), if_neg (by omega), if_pos h1, h.fn]; done) | (rw [if_neg (by omega), if_neg (by omega), if_neg (by omega), if_neg (by omega), if_neg (by omega), if_neg (by omega), if_pos h1, h.cn]; done) | (rw [if_neg (by omega), if_neg (by omega), if_neg (by omega), if_neg (by omega), if_neg (by omega), if_neg (by omega), if_neg (by omega)]; done)))
  refine r_tcase 4 (fun h1 => ?_) (fun h1_4 => ?_)
  · refine r_tableInZ (pc := 1) (off := 77) (tgt := 78) C dX0_countOf_1 hk (by omega) (by omega) (by rw [h1]; rfl) (by decide) ?_
    refine r_aload_n (pc := 78) C dX0_countOf_78 rfl rfl ?_
    refine r_get (pc := 79) (k := 4) (ci := 0) C dX0_countOf_79 (g1 h.ob) (show vwC[0]? = some (RX0, TX0, 10) from rfl) in_X0 (by decide) (C.t _ q279) (fun _ h => h) rfl ?_
    refine r_goto (pc := 82) (tgt := 107) C dX0_countOf_82 (by decide) ?_
    exact r_iret (pc := 107) C hQ dX0_countOf_107 (by first | exact Nat.le_of_ble_eq_true rfl | (dsimp only [rmk]; omega) | omega) (by first | exact Nat.le_of_ble_eq_true rfl | (dsimp only [rmk]; omega) | omega) (fun G hG => (by cases hG; refine ⟨?_, by first | exact FR.rf | exact q1⟩; unfold sCount; first | (rw [if_pos h1, h.rn]; done) | (rw [if_neg (by omega), if_pos h1]; done) | (rw [if_neg (by omega), if_neg (by omega), if_pos h1]; done) | (rw [if_neg (by omega), if_neg (by omega), if_neg (by omega), if_pos h1]; done) | (rw [if_neg (by omega), if_neg (by omega), if_neg (by omega), if_neg (by omega), if_pos h1]; done) | (rw [if_neg (by omega), if_neg (by omega), if_neg (by omega), if_neg (by omega), if_neg (by omega), if_pos h1, h.fn]; done) | (rw [if_neg (by omega), if_neg (by omega), if_neg (by omega), if_neg (by omega), if_neg (by omega), if_neg (by omega), if_pos h1, h.cn]; done) | (rw [if_neg (by omega), if_neg (by omega), if_neg (by omega), if_neg (by omega), if_neg (by omega), if_neg (by omega), if_neg (by omega)]; done)))
  refine r_tcase 5 (fun h1 => ?_) (fun h1_5 => ?_)
  · refine r_tableInZ (pc := 1) (off := 84) (tgt := 85) C dX0_countOf_1 hk (by omega) (by omega) (by rw [h1]; rfl) (by decide) ?_
    refine r_aload_n (pc := 85) C dX0_countOf_85 rfl rfl ?_
    refine r_get (pc := 86) (k := 7) (ci := 0) C dX0_countOf_86 (g1 h.ob) (show vwC[0]? = some (RX0, TX0, 10) from rfl) in_X0 (by decide) (C.t _ q283) (fun _ h => h) rfl ?_
    refine r_invV (pc := 89) (ci := 8) 0 C dX0_countOf_89 (jl_size h.fll) (gLs h.fll) (show vwC[8]? = some (RJ6, TJ6, 3) from rfl) rfl (lw_V q580 q581 q582 q89 q583) (by decide +kernel) rfl rfl ⟨Nat.le_of_ble_eq_true rfl, Nat.le_of_ble_eq_true rfl⟩ (Nat.le_of_ble_eq_true rfl) ⟨(by first | exact Nat.le_of_ble_eq_true rfl | (dsimp only [rmk]; omega) | omega), (by first | exact Nat.le_of_ble_eq_true rfl | (dsimp only [rmk]; omega) | omega)⟩ (rd_k ?_)
    refine r_goto (pc := 92) (tgt := 107) C dX0_countOf_92 (by decide) ?_
    exact r_iret (pc := 107) C hQ dX0_countOf_107 (by first | exact Nat.le_of_ble_eq_true rfl | (dsimp only [rmk]; omega) | omega) (by first | exact Nat.le_of_ble_eq_true rfl | (dsimp only [rmk]; omega) | omega) (fun G hG => (by cases hG; refine ⟨?_, by first | exact FR.rf | exact q1⟩; unfold sCount; first | (rw [if_pos h1, h.rn]; done) | (rw [if_neg (by omega), if_pos h1]; done) | (rw [if_neg (by omega), if_neg (by omega), if_pos h1]; done) | (rw [if_neg (by omega), if_neg (by omega), if_neg (by omega), if_pos h1]; done) | (rw [if_neg (by omega), if_neg (by omega), if_neg (by omega), if_neg (by omega), if_pos h1]; done) | (rw [if_neg (by omega), if_neg (by omega), if_neg (by omega), if_neg (by omega), if_neg (by omega), if_pos h1, h.fn]; done) | (rw [if_neg (by omega), if_neg (by omega), if_neg (by omega), if_neg (by omega), if_neg (by omega), if_neg (by omega), if_pos h1, h.cn]; done) | (rw [if_neg (by omega), if_neg (by omega), if_neg (by omega), if_neg (by omega), if_neg (by omega), if_neg (by omega), if_neg (by omega)]; done)))
  refine r_tcase 6 (fun h1 => ?_) (fun h1_6 => ?_)
  · refine r_tableInZ (pc := 1) (off := 94) (tgt := 95) C dX0_countOf_1 hk (by omega) (by omega) (by rw [h1]; rfl) (by decide) ?_
    refine r_aload_n (pc := 95) C dX0_countOf_95 rfl rfl ?_
    refine r_get (pc := 96) (k := 8) (ci := 0) C dX0_countOf_96 (g1 h.ob) (show vwC[0]? = some (RX0, TX0, 10) from rfl) in_X0 (by decide) (C.t _ q284) (fun _ h => h) rfl ?_
    refine r_invV (pc := 99) (ci := 8) 0 C dX0_countOf_99 (jl_size h.cl) (gLs h.cl) (show vwC[8]? = some (RJ6, TJ6, 3) from rfl) rfl (lw_V q580 q581 q582 q89 q583) (by decide +kernel) rfl rfl ⟨Nat.le_of_ble_eq_true rfl, Nat.le_of_ble_eq_true rfl⟩ (Nat.le_of_ble_eq_true rfl) ⟨(by first | exact Nat.le_of_ble_eq_true rfl | (dsimp only [rmk]; omega) | omega), (by first | exact Nat.le_of_ble_eq_true rfl | (dsimp only [rmk]; omega) | omega)⟩ (rd_k ?_)
    refine r_goto (pc := 102) (tgt := 107) C dX0_countOf_102 (by decide) ?_
    exact r_iret (pc := 107) C hQ dX0_countOf_107 (by first | exact Nat.le_of_ble_eq_true rfl | (dsimp only [rmk]; omega) | omega) (by first | exact Nat.le_of_ble_eq_true rfl | (dsimp only [rmk]; omega) | omega) (fun G hG => (by cases hG; refine ⟨?_, by first | exact FR.rf | exact q1⟩; unfold sCount; first | (rw [if_pos h1, h.rn]; done) | (rw [if_neg (by omega), if_pos h1]; done) | (rw [if_neg (by omega), if_neg (by omega), if_pos h1]; done) | (rw [if_neg (by omega), if_neg (by omega), if_neg (by omega), if_pos h1]; done) | (rw [if_neg (by omega), if_neg (by omega), if_neg (by omega), if_neg (by omega), if_pos h1]; done) | (rw [if_neg (by omega), if_neg (by omega), if_neg (by omega), if_neg (by omega), if_neg (by omega), if_pos h1, h.fn]; done) | (rw [if_neg (by omega), if_neg (by omega), if_neg (by omega), if_neg (by omega), if_neg (by omega), if_neg (by omega), if_pos h1, h.cn]; done) | (rw [if_neg (by omega), if_neg (by omega), if_neg (by omega), if_neg (by omega), if_neg (by omega), if_neg (by omega), if_neg (by omega)]; done)))
  refine r_tableOutZ (pc := 1) (tgt := 105) C dX0_countOf_1 hk (by omega) (by decide) ?_
  refine r_ldcZ (pc := 105) (a := -2000000102) C dX0_countOf_105 rfl q314 (by decide) ?_
  exact r_iret (pc := 107) C hQ dX0_countOf_107 (by first | exact Nat.le_of_ble_eq_true rfl | (dsimp only [rmk]; omega) | omega) (by first | exact Nat.le_of_ble_eq_true rfl | (dsimp only [rmk]; omega) | omega) (fun G hG => (by cases hG; refine ⟨?_, by first | exact FR.rf | exact q1⟩; unfold sCount; first | (rw [if_pos h1, h.rn]; done) | (rw [if_neg (by omega), if_pos h1]; done) | (rw [if_neg (by omega), if_neg (by omega), if_pos h1]; done) | (rw [if_neg (by omega), if_neg (by omega), if_neg (by omega), if_pos h1]; done) | (rw [if_neg (by omega), if_neg (by omega), if_neg (by omega), if_neg (by omega), if_pos h1]; done) | (rw [if_neg (by omega), if_neg (by omega), if_neg (by omega), if_neg (by omega), if_neg (by omega), if_pos h1, h.fn]; done) | (rw [if_neg (by omega), if_neg (by omega), if_neg (by omega), if_neg (by omega), if_neg (by omega), if_neg (by omega), if_pos h1, h.cn]; done) | (rw [if_neg (by omega), if_neg (by omega), if_neg (by omega), if_neg (by omega), if_neg (by omega), if_neg (by omega), if_neg (by omega)]; done)))
set_option maxHeartbeats 800000 in
theorem xo_count {la : Launch} {X : XE} {G0 : Gh} {xh : Nat} {x : AS} {A : Nat → Nat} {dr : Int} {rls : List Nat} {rm : Nat} {fls : List Nat} {fm : Nat} {cls : List Nat} {cm : Nat} (h : CW X G0 xh x A dr rls rm fls fm cls cm) (k : Int) (hk : i32 k) : MG la X yX0_count cX0_count 2 (some .int) (rmk 11 300 3500 260) [.ref xh, .int (iI k)] (fun G => G = G0) (fun v G => v = some (.int (iI (sCount x k))) ∧ FR [9] G0 G) := by
  refine MG.of (by decide +kernel) (Nat.le_of_ble_eq_true rfl) ?_
  intro Z C hX hL hQ
  subst hX; subst hL
  change WW Z 2 (fun G => G = G0) 0 0 0 [some (.ref xh), some (.int (iI k))] []
  refine r_aload_n (pc := 0) C dX0_count_0 rfl rfl ?_
  refine r_iload_n (pc := 1) C dX0_count_1 rfl rfl ?_
  refine r_invV (pc := 2) (ci := 0) 1 C dX0_count_2 (xo_countOf h k hk) (g2 h.ob) (show vwC[0]? = some (RX0, TX0, 10) from rfl) rfl (lw_V q1131 q1133 qs21 q81 q1134) (by decide +kernel) rfl rfl ⟨Nat.le_of_ble_eq_true rfl, Nat.le_of_ble_eq_true rfl⟩ (Nat.le_of_ble_eq_true rfl) ⟨(by first | exact Nat.le_of_ble_eq_true rfl | (dsimp only [rmk]; omega) | omega), (by first | exact Nat.le_of_ble_eq_true rfl | (dsimp only [rmk]; omega) | omega)⟩ (fun v2 G2 h2 => ?_)
  obtain ⟨rfl, q1⟩ := h2
  exact r_iret (pc := 5) C hQ dX0_count_5 (by first | exact Nat.le_of_ble_eq_true rfl | (dsimp only [rmk]; omega) | omega) (by first | exact Nat.le_of_ble_eq_true rfl | (dsimp only [rmk]; omega) | omega) (fun G hG => (by cases hG; exact ⟨rfl, q1⟩))

