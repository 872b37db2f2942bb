/-! the reference's methods: the digest -/
set_option maxRecDepth 100000
set_option maxHeartbeats 800000 in
theorem mt_mixRoad {la : Launch} {X : XE} {mh : Nat} {mad : Nat → Nat} {G0 : Gh} {st : MSt} (r : Int) (w : List Bool) (hr : 0 ≤ r ∧ r < 6) (h : RoadIs st r w) : MM la X mh mad G0 yX2_mixRoad cX2_mixRoad 4 none 4 87 [.int (iI r)] st (fun v st' => v = none ∧ Mix st st' (rowRoad w)) := by
  refine MG.of (by decide +kernel) (Nat.le_of_ble_eq_true rfl) ?_
  intro Z C hX hL hQ
  subst hX; subst hL
  change WW Z 4 (MOD mh mad G0 st) 0 0 0 [some (.ref mh), some (.int (iI r)), none, none] []
  have l4 : ∀ k : Nat, k ≤ 5 → ∀ sti : MSt, Mix st sti ((((rowL (fun k => wTold w k) 10 ++ rowL (fun k => codeB (wl w k)) w.length) ++ rowL (fun k => tTold w k) 4) ++ rowL (fun k => eTold w k) 2) ++ rowL (fun k => fTold w k) (if wClosed w then k else 0)) → WW Z 4 (MOD mh mad G0 sti) 0 0 116 [some (.ref mh), some (.int (iI r)), some (.int (iI (bi (wClosed w)))), some (.int (iI (k : Int)))] [] := by
    refine loopN _ _ (fun k hk ih sti g => ?_)
    refine r_iload_n (pc := 116) C dX2_mixRoad_116 rfl rfl ?_
    refine r_iconstZ (pc := 117) C dX2_mixRoad_117 ?_
    refine r_icmp_geZ (pc := 118) (tgt := 142) C dX2_mixRoad_118 (by decide) (by unfold i32; omega) (by unfold i32; omega) (fun h118 => ?_) (fun h118 => ?_)
    · exact r_vret (pc := 142) C hQ dX2_mixRoad_142 (Nat.le_of_ble_eq_true rfl) (Nat.le_of_ble_eq_true rfl) (fun G hG => ⟨_, hG, ⟨rfl, by have e : (((rowL (fun k => wTold w k) 10 ++ rowL (fun k => codeB (wl w k)) w.length) ++ rowL (fun k => tTold w k) 4) ++ rowL (fun k => eTold w k) 2) ++ rowL (fun k => fTold w k) (if wClosed w then k else 0) = rowRoad w := (by unfold rowRoad; rw [List.append_assoc, List.append_assoc, List.append_assoc]; first | rw [show k = 5 by omega] | rw [bi_0.mp h122, if_neg (by decide), if_neg (by decide)]); rw [e] at g; exact g⟩⟩)
    · refine r_iload_n (pc := 121) C dX2_mixRoad_121 rfl rfl ?_
      refine r_if_eqZ (pc := 122) (tgt := 142) C dX2_mixRoad_122 (by decide) (bi_i _) (fun h122 => ?_) (fun h122 => ?_)
      · exact r_vret (pc := 142) C hQ dX2_mixRoad_142 (Nat.le_of_ble_eq_true rfl) (Nat.le_of_ble_eq_true rfl) (fun G hG => ⟨_, hG, ⟨rfl, by have e : (((rowL (fun k => wTold w k) 10 ++ rowL (fun k => codeB (wl w k)) w.length) ++ rowL (fun k => tTold w k) 4) ++ rowL (fun k => eTold w k) 2) ++ rowL (fun k => fTold w k) (if wClosed w then k else 0) = rowRoad w := (by unfold rowRoad; rw [List.append_assoc, List.append_assoc, List.append_assoc]; first | rw [show k = 5 by omega] | rw [bi_0.mp h122, if_neg (by decide), if_neg (by decide)]); rw [e] at g; exact g⟩⟩)
      · refine r_aload_n (pc := 125) C dX2_mixRoad_125 rfl rfl ?_
        refine r_aload_n (pc := 126) C dX2_mixRoad_126 rfl rfl ?_
        refine r_iload_n (pc := 127) C dX2_mixRoad_127 rfl rfl ?_
        refine r_iload_n (pc := 128) C dX2_mixRoad_128 rfl rfl ?_
        have hcl : wClosed w = true := bi_n0 h122
        refine r_minv (pc := 129) 2 C dX2_mixRoad_129 (mt_formNow r (k : Int) w hr (by omega) (h.mx g) hcl) rfl (lw_V q1394 q1396 qs45 q92 q1397) (by decide +kernel) rfl rfl ⟨Nat.le_of_ble_eq_true rfl, Nat.le_of_ble_eq_true rfl⟩ (Nat.le_of_ble_eq_true rfl) ⟨Nat.le_of_ble_eq_true rfl, Nat.le_of_ble_eq_true rfl⟩ (fun v129 st129 h129 => ?_)
        obtain ⟨rfl, h129⟩ := h129
        refine r_i2lW (pc := 132) C dX2_mixRoad_132 ?_
        refine r_minv (pc := 133) 1 C dX2_mixRoad_133 (mt_mix (w32 (fTold w k))) rfl (lw_V q1619 q1621 qs77 q92 q1622) (by decide +kernel) rfl rfl ⟨Nat.le_of_ble_eq_true rfl, Nat.le_of_ble_eq_true rfl⟩ (Nat.le_of_ble_eq_true rfl) ⟨Nat.le_of_ble_eq_true rfl, Nat.le_of_ble_eq_true rfl⟩ (fun v133 st133 h133 => ?_)
        obtain ⟨rfl, rfl⟩ := h133
        refine r_iincZ (pc := 136) C dX2_mixRoad_136 rfl (by decide) ?_
        refine r_goto (pc := 139) (tgt := 116) C dX2_mixRoad_139 (by decide) ?_
        refine ih (by omega) _ ?_
        rw [if_pos hcl] at g ⊢
        exact g.row h129 (by decide) (by decide) rfl
  have l3 : ∀ k : Nat, k ≤ 4 → ∀ sti : MSt, Mix st sti ((rowL (fun k => wTold w k) 10 ++ rowL (fun k => codeB (wl w k)) w.length) ++ rowL (fun k => tTold w k) k) → WW Z 4 (MOD mh mad G0 sti) 0 0 64 [some (.ref mh), some (.int (iI r)), some (.int (iI (k : Int))), none] [] := by
    refine loopN _ _ (fun k hk ih sti g => ?_)
    refine r_iload_n (pc := 64) C dX2_mixRoad_64 rfl rfl ?_
    refine r_iconstZ (pc := 65) C dX2_mixRoad_65 ?_
    refine r_icmp_geZ (pc := 66) (tgt := 86) C dX2_mixRoad_66 (by decide) (by unfold i32; omega) (by unfold i32; omega) (fun h66 => ?_) (fun h66 => ?_)
    · obtain rfl : k = 4 := (by omega)
      refine r_aload_n (pc := 86) C dX2_mixRoad_86 rfl rfl ?_
      refine r_aload_n (pc := 87) C dX2_mixRoad_87 rfl rfl ?_
      refine r_iload_n (pc := 88) C dX2_mixRoad_88 rfl rfl ?_
      refine r_iconstZ (pc := 89) C dX2_mixRoad_89 ?_
      refine r_minv (pc := 90) 2 C dX2_mixRoad_90 (mt_endNow r 0 w hr (by omega) (h.mx g)) rfl (lw_V q1415 q1417 qs47 q92 q1418) (by decide +kernel) rfl rfl ⟨Nat.le_of_ble_eq_true rfl, Nat.le_of_ble_eq_true rfl⟩ (Nat.le_of_ble_eq_true rfl) ⟨Nat.le_of_ble_eq_true rfl, Nat.le_of_ble_eq_true rfl⟩ (fun v90 st90 h90 => ?_)
      obtain ⟨rfl, h90⟩ := h90
      refine r_i2lW (pc := 93) C dX2_mixRoad_93 ?_
      refine r_minv (pc := 94) 1 C dX2_mixRoad_94 (mt_mix (w32 (eTold w 0))) rfl (lw_V q1619 q1621 qs77 q92 q1622) (by decide +kernel) rfl rfl ⟨Nat.le_of_ble_eq_true rfl, Nat.le_of_ble_eq_true rfl⟩ (Nat.le_of_ble_eq_true rfl) ⟨Nat.le_of_ble_eq_true rfl, Nat.le_of_ble_eq_true rfl⟩ (fun v94 st94 h94 => ?_)
      obtain ⟨rfl, rfl⟩ := h94
      have g1 := g.qone (v := eTold w 0) h90 (by decide) (by decide)
      refine r_aload_n (pc := 97) C dX2_mixRoad_97 rfl rfl ?_
      refine r_aload_n (pc := 98) C dX2_mixRoad_98 rfl rfl ?_
      refine r_iload_n (pc := 99) C dX2_mixRoad_99 rfl rfl ?_
      refine r_iconstZ (pc := 100) C dX2_mixRoad_100 ?_
      refine r_minv (pc := 101) 2 C dX2_mixRoad_101 (mt_endNow r 1 w hr (by omega) (h.mx g1)) rfl (lw_V q1415 q1417 qs47 q92 q1418) (by decide +kernel) rfl rfl ⟨Nat.le_of_ble_eq_true rfl, Nat.le_of_ble_eq_true rfl⟩ (Nat.le_of_ble_eq_true rfl) ⟨Nat.le_of_ble_eq_true rfl, Nat.le_of_ble_eq_true rfl⟩ (fun v101 st101 h101 => ?_)
      obtain ⟨rfl, h101⟩ := h101
      refine r_i2lW (pc := 104) C dX2_mixRoad_104 ?_
      refine r_minv (pc := 105) 1 C dX2_mixRoad_105 (mt_mix (w32 (eTold w 1))) rfl (lw_V q1619 q1621 qs77 q92 q1622) (by decide +kernel) rfl rfl ⟨Nat.le_of_ble_eq_true rfl, Nat.le_of_ble_eq_true rfl⟩ (Nat.le_of_ble_eq_true rfl) ⟨Nat.le_of_ble_eq_true rfl, Nat.le_of_ble_eq_true rfl⟩ (fun v105 st105 h105 => ?_)
      obtain ⟨rfl, rfl⟩ := h105
      have g2 := g1.qone (v := eTold w 1) h101 (by decide) (by decide)
      refine r_aload_n (pc := 108) C dX2_mixRoad_108 rfl rfl ?_
      refine r_iload_n (pc := 109) C dX2_mixRoad_109 rfl rfl ?_
      refine r_minv (pc := 110) 1 C dX2_mixRoad_110 (mt_isClosed r w hr (h.mx g2)) rfl (lw_V q1390 q1392 qs44 q92 q1393) (by decide +kernel) rfl rfl ⟨Nat.le_of_ble_eq_true rfl, Nat.le_of_ble_eq_true rfl⟩ (Nat.le_of_ble_eq_true rfl) ⟨Nat.le_of_ble_eq_true rfl, Nat.le_of_ble_eq_true rfl⟩ (fun v110 st110 h110 => ?_)
      obtain ⟨rfl, -, h110⟩ := h110
      have g3 := g2.q (h110.wk (by decide)) (h110 34 (by decide)).1
      refine r_istore_n (pc := 113) C dX2_mixRoad_113 rfl (by decide) ?_
      refine r_iconstZ (pc := 114) C dX2_mixRoad_114 ?_
      refine r_istore_n (pc := 115) C dX2_mixRoad_115 rfl (by decide) ?_
      refine l4 0 (Nat.zero_le _) _ ?_
      rw [ite_self, List.append_assoc (bs := [eTold w 0])] at *
      exact (show rowL (fun k => fTold w k) 0 = [] from rfl) ▸ (List.append_nil _).symm ▸ g3
    · refine r_aload_n (pc := 69) C dX2_mixRoad_69 rfl rfl ?_
      refine r_aload_n (pc := 70) C dX2_mixRoad_70 rfl rfl ?_
      refine r_iload_n (pc := 71) C dX2_mixRoad_71 rfl rfl ?_
      refine r_iload_n (pc := 72) C dX2_mixRoad_72 rfl rfl ?_
      refine r_minv (pc := 73) 2 C dX2_mixRoad_73 (mt_tableNow r (k : Int) w hr (by omega) (h.mx g)) rfl (lw_V q1382 q1384 qs43 q92 q1385) (by decide +kernel) rfl rfl ⟨Nat.le_of_ble_eq_true rfl, Nat.le_of_ble_eq_true rfl⟩ (Nat.le_of_ble_eq_true rfl) ⟨Nat.le_of_ble_eq_true rfl, Nat.le_of_ble_eq_true rfl⟩ (fun v73 st73 h73 => ?_)
      obtain ⟨rfl, h73⟩ := h73
      refine r_i2lW (pc := 76) C dX2_mixRoad_76 ?_
      refine r_minv (pc := 77) 1 C dX2_mixRoad_77 (mt_mix (w32 (tTold w k))) rfl (lw_V q1619 q1621 qs77 q92 q1622) (by decide +kernel) rfl rfl ⟨Nat.le_of_ble_eq_true rfl, Nat.le_of_ble_eq_true rfl⟩ (Nat.le_of_ble_eq_true rfl) ⟨Nat.le_of_ble_eq_true rfl, Nat.le_of_ble_eq_true rfl⟩ (fun v77 st77 h77 => ?_)
      obtain ⟨rfl, rfl⟩ := h77
      refine r_iincZ (pc := 80) C dX2_mixRoad_80 rfl (by decide) ?_
      refine r_goto (pc := 83) (tgt := 64) C dX2_mixRoad_83 (by decide) ?_
      exact ih (by omega) _ (g.row h73 (by decide) (by decide) rfl)
  have l2 : ∀ k : Nat, k ≤ w.length → ∀ sti : MSt, Mix st sti (rowL (fun k => wTold w k) 10 ++ rowL (fun k => codeB (wl w k)) k) → WW Z 4 (MOD mh mad G0 sti) 0 0 27 [some (.ref mh), some (.int (iI r)), some (.int (iI (k : Int))), none] [] := by
    refine loopN _ _ (fun k hk ih sti g => ?_)
    have hx := h.mx g
    have hl := h.2.1
    refine r_iload_n (pc := 27) C dX2_mixRoad_27 rfl rfl ?_
    refine r_aload_n (pc := 28) C dX2_mixRoad_28 rfl rfl ?_
    refine r_mget (pc := 29) (k := 3) C dX2_mixRoad_29 rfl q1175 (by decide) rfl ?_
    refine r_iload_n (pc := 32) C dX2_mixRoad_32 rfl rfl ?_
    refine r_mald (pc := 33) (L := 6) C dX2_mixRoad_33 (by decide) rfl (by omega) (by omega) ?_
    rw [hx.1]
    refine r_icmp_geZ (pc := 34) (tgt := 62) C dX2_mixRoad_34 (by decide) (by unfold i32; omega) (by unfold i32; omega) (fun h34 => ?_) (fun h34 => ?_)
    · refine r_iconstZ (pc := 62) C dX2_mixRoad_62 ?_
      refine r_istore_n (pc := 63) C dX2_mixRoad_63 rfl (by decide) ?_
      refine l3 0 (Nat.zero_le _) _ ?_
      obtain rfl : k = w.length := (by omega)
      exact (List.append_nil _).symm ▸ g
    · refine r_aload_n (pc := 37) C dX2_mixRoad_37 rfl rfl ?_
      refine r_aload_n (pc := 38) C dX2_mixRoad_38 rfl rfl ?_
      refine r_mget (pc := 39) (k := 4) C dX2_mixRoad_39 rfl q1176 (by decide) rfl ?_
      refine r_bipushZ (pc := 42) C dX2_mixRoad_42 (by decide) ?_
      refine r_iload_n (pc := 44) C dX2_mixRoad_44 rfl rfl ?_
      refine r_imulZ (pc := 45) C dX2_mixRoad_45 ?_
      refine r_iload_n (pc := 46) C dX2_mixRoad_46 rfl rfl ?_
      refine r_iaddZ (pc := 47) C dX2_mixRoad_47 ?_
      refine r_mald (pc := 48) (L := 120) C dX2_mixRoad_48 (by decide) rfl (by omega) (by omega) ?_
      rw [hx.2.2 k (by omega)]
      refine r_invP (pc := 49) 1 C dX2_mixRoad_49 (pf_codeOf (wl w k)) rfl (lw_S q1375 q1376 q92 q1377) (by decide +kernel) rfl rfl ⟨Nat.le_of_ble_eq_true rfl, Nat.le_of_ble_eq_true rfl⟩ (Nat.le_of_ble_eq_true rfl) ⟨Nat.le_of_ble_eq_true rfl, Nat.le_of_ble_eq_true rfl⟩ ?_
      refine r_i2lW (pc := 52) C dX2_mixRoad_52 ?_
      refine r_minv (pc := 53) 1 C dX2_mixRoad_53 (mt_mix (w32 (codeB (wl w k)))) rfl (lw_V q1619 q1621 qs77 q92 q1622) (by decide +kernel) rfl rfl ⟨Nat.le_of_ble_eq_true rfl, Nat.le_of_ble_eq_true rfl⟩ (Nat.le_of_ble_eq_true rfl) ⟨Nat.le_of_ble_eq_true rfl, Nat.le_of_ble_eq_true rfl⟩ (fun v53 st53 h53 => ?_)
      obtain ⟨rfl, rfl⟩ := h53
      refine r_iincZ (pc := 56) C dX2_mixRoad_56 rfl (by decide) ?_
      refine r_goto (pc := 59) (tgt := 27) C dX2_mixRoad_59 (by decide) ?_
      exact ih (by omega) _ (g.row (eqx.rf (ks := [])) (by decide) (by decide) rfl)
  have l1 : ∀ k : Nat, k ≤ 10 → ∀ sti : MSt, Mix st sti ([] ++ rowL (fun k => wTold w k) k) → WW Z 4 (MOD mh mad G0 sti) 0 0 2 [some (.ref mh), some (.int (iI r)), some (.int (iI (k : Int))), none] [] := by
    refine loopN _ _ (fun k hk ih sti g => ?_)
    refine r_iload_n (pc := 2) C dX2_mixRoad_2 rfl rfl ?_
    refine r_bipushZ (pc := 3) C dX2_mixRoad_3 (by decide) ?_
    refine r_icmp_geZ (pc := 5) (tgt := 25) C dX2_mixRoad_5 (by decide) (by unfold i32; omega) (by unfold i32; omega) (fun h5 => ?_) (fun h5 => ?_)
    · refine r_iconstZ (pc := 25) C dX2_mixRoad_25 ?_
      refine r_istore_n (pc := 26) C dX2_mixRoad_26 rfl (by decide) ?_
      refine l2 0 (Nat.zero_le _) _ ?_
      obtain rfl : k = 10 := (by omega)
      exact (List.append_nil _).symm ▸ g
    · refine r_aload_n (pc := 8) C dX2_mixRoad_8 rfl rfl ?_
      refine r_aload_n (pc := 9) C dX2_mixRoad_9 rfl rfl ?_
      refine r_iload_n (pc := 10) C dX2_mixRoad_10 rfl rfl ?_
      refine r_iload_n (pc := 11) C dX2_mixRoad_11 rfl rfl ?_
      refine r_minv (pc := 12) 2 C dX2_mixRoad_12 (mt_roadNow r (k : Int) w hr (by omega) (h.mx g)) rfl (lw_V q1322 q1324 qs31 q92 q1325) (by decide +kernel) rfl rfl ⟨Nat.le_of_ble_eq_true rfl, Nat.le_of_ble_eq_true rfl⟩ (Nat.le_of_ble_eq_true rfl) ⟨Nat.le_of_ble_eq_true rfl, Nat.le_of_ble_eq_true rfl⟩ (fun v12 st12 h12 => ?_)
      obtain ⟨rfl, h12⟩ := h12
      refine r_i2lW (pc := 15) C dX2_mixRoad_15 ?_
      refine r_minv (pc := 16) 1 C dX2_mixRoad_16 (mt_mix (w32 (wTold w k))) rfl (lw_V q1619 q1621 qs77 q92 q1622) (by decide +kernel) rfl rfl ⟨Nat.le_of_ble_eq_true rfl, Nat.le_of_ble_eq_true rfl⟩ (Nat.le_of_ble_eq_true rfl) ⟨Nat.le_of_ble_eq_true rfl, Nat.le_of_ble_eq_true rfl⟩ (fun v16 st16 h16 => ?_)
      obtain ⟨rfl, rfl⟩ := h16
      refine r_iincZ (pc := 19) C dX2_mixRoad_19 rfl (by decide) ?_
      refine r_goto (pc := 22) (tgt := 2) C dX2_mixRoad_22 (by decide) ?_
      exact ih (by omega) _ (g.row h12 (by decide) (by decide) rfl)
  refine r_iconstZ (pc := 0) C dX2_mixRoad_0 ?_
  refine r_istore_n (pc := 1) C dX2_mixRoad_1 rfl (by decide) ?_
  exact l1 0 (Nat.zero_le _) _ (Mix.nil _)

