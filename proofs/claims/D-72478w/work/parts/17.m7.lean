/-! the reference's methods: roads become others, come, go -/
set_option maxRecDepth 100000
set_option maxHeartbeats 800000 in
theorem mt_put {la : Launch} {X : XE} {mh : Nat} {mad : Nat → Nat} {G0 : Gh} {st : MSt} (r : Int) (w : List Bool) (b : Nat) (hr : 0 ≤ r ∧ r < 6) (hb : b ≤ 20) (h : LookAt st w) : MM la X mh mad G0 yX2_put cX2_put 4 none 0 0 [.int (iI r), .int (iI b)] st (fun v st' => v = none ∧ Stored st st' r (wTurned w b)) := by
  refine MG.of (by decide +kernel) (Nat.le_of_ble_eq_true rfl) ?_
  intro Z C hX hL hQ
  subst hX; subst hL
  change WW Z 4 (MOD mh mad G0 st) 0 0 0 [some (.ref mh), some (.int (iI r)), some (.int (iI b)), none] []
  have hh := h
  obtain ⟨h1, h2, h3⟩ := h
  have hlen := wTurned_len w b
  have loop : ∀ i : Nat, i ≤ w.length → ∀ sti : MSt, eqx [4] st sti → (∀ j : Int, (j < 20 * r ∨ 20 * r + 20 ≤ j) → sti.2 4 j = st.2 4 j) → (∀ k : Nat, k < i → sti.2 4 (20 * r + k) = bi (wl (wTurned w b) k)) → WW Z 4 (MOD mh mad G0 (sti)) 0 0 2 [some (.ref mh), some (.int (iI r)), some (.int (iI b)), some (.int (iI i))] [] := by
    refine loopN _ _ (fun i hi ih sti g1 g2 g3 => ?_)
    have hlk := hh.x g1 (by decide) (by decide)
    have hcyc := hlk.cyc h2.1
    refine r_iload_n (pc := 2) C dX2_put_2 rfl rfl ?_
    refine r_aload_n (pc := 3) C dX2_put_3 rfl rfl ?_
    refine r_mget (pc := 4) (k := 18) C dX2_put_4 rfl q1190 (by decide) rfl ?_
    rw [hlk.1]
    refine r_icmp_geZ (pc := 7) (tgt := 40) C dX2_put_7 (by decide) (by unfold i32; omega) (by unfold i32; omega) (fun h7 => ?_) (fun h7 => ?_)
    · exact r_vret (pc := 40) C hQ dX2_put_40 (Nat.le_of_ble_eq_true rfl) (Nat.le_of_ble_eq_true rfl) (fun G hG => ⟨_, hG, ⟨rfl, g1, g2, fun k hk => g3 k (by omega)⟩⟩)
    · refine r_aload_n (pc := 10) C dX2_put_10 rfl rfl ?_
      refine r_mget (pc := 11) (k := 4) C dX2_put_11 rfl q1176 (by decide) rfl ?_
      refine r_bipushZ (pc := 14) C dX2_put_14 (by decide) ?_
      refine r_iload_n (pc := 16) C dX2_put_16 rfl rfl ?_
      refine r_imulZ (pc := 17) C dX2_put_17 ?_
      refine r_iload_n (pc := 18) C dX2_put_18 rfl rfl ?_
      refine r_iaddZ (pc := 19) C dX2_put_19 ?_
      refine r_aload_n (pc := 20) C dX2_put_20 rfl rfl ?_
      refine r_mget (pc := 21) (k := 19) C dX2_put_21 rfl q1191 (by decide) rfl ?_
      refine r_iload_n (pc := 24) C dX2_put_24 rfl rfl ?_
      refine r_iload_n (pc := 25) C dX2_put_25 rfl rfl ?_
      refine r_iaddZ (pc := 26) C dX2_put_26 ?_
      refine r_aload_n (pc := 27) C dX2_put_27 rfl rfl ?_
      refine r_mget (pc := 28) (k := 18) C dX2_put_28 rfl q1190 (by decide) rfl ?_
      rw [hlk.1]
      refine r_iremE (pc := 31) C dX2_put_31 (by unfold i32; omega) (by unfold i32; omega) (by omega) (by omega) ?_
      refine r_mald (pc := 32) (L := 20) C dX2_put_32 (by decide) rfl (Int.emod_nonneg _ (by omega)) (by have := Int.emod_lt_of_pos ((i : Int) + b) (show (0 : Int) < w.length by omega); omega) ?_
      simp only [hcyc]
      refine r_mast (pc := 33) (L := 120) C dX2_put_33 (by decide) rfl (by omega) (by omega) ?_
      refine r_iincZ (pc := 34) C dX2_put_34 rfl (by decide) ?_
      refine r_goto (pc := 37) (tgt := 2) C dX2_put_37 (by decide) ?_
      refine ih (by omega) _ (g1.aput (by decide)) (fun j hj => by rw [aput_nj _ _ _ (by omega)]; exact g2 j hj) (fun k hk => ?_)
      by_cases e : k = i
      · rw [e, aput_eq, wTurned_at w b (by omega)]
      · rw [aput_nj _ _ _ (by omega)]; exact g3 k (by omega)
  refine r_iconstZ (pc := 0) C dX2_put_0 ?_
  refine r_istore_n (pc := 1) C dX2_put_1 rfl (by decide) ?_
  exact loop 0 (Nat.zero_le _) _ eqx.rf (fun _ _ => rfl) (fun k hk => absurd hk (Nat.not_lt_zero _))
set_option maxHeartbeats 800000 in
theorem mt_turn {la : Launch} {X : XE} {mh : Nat} {mad : Nat → Nat} {G0 : Gh} {st : MSt} (ws : Wss) (r b : Int) (hr : i32 r) (hb : i32 b) (h : RoadsAre st ws) : MM la X mh mad G0 yX2_turn cX2_turn 3 (some .int) 2 45 [.int (iI r), .int (iI b)] st (fun v st' => v = some (.int (iI (sTurn ws r b).1)) ∧ RoadsAre st' (sTurn ws r b).2 ∧ eqx (2 :: 3 :: 4 :: tq) st st') := by
  refine MG.of (by decide +kernel) (Nat.le_of_ble_eq_true rfl) ?_
  intro Z C hX hL hQ
  subst hX; subst hL
  change WW Z 3 (MOD mh mad G0 st) 0 0 0 [some (.ref mh), some (.int (iI r)), some (.int (iI b))] []
  refine r_aload_n (pc := 0) C dX2_turn_0 rfl rfl ?_
  refine r_iload_n (pc := 1) C dX2_turn_1 rfl rfl ?_
  refine r_minv (pc := 2) 1 C dX2_turn_2 (mt_isRoad ws r hr h) rfl (lw_V q1317 q1319 qs30 q92 q1320) (by decide +kernel) rfl rfl ⟨Nat.le_of_ble_eq_true rfl, Nat.le_of_ble_eq_true rfl⟩ (Nat.le_of_ble_eq_true rfl) ⟨Nat.le_of_ble_eq_true rfl, Nat.le_of_ble_eq_true rfl⟩ (fun v2 st2 h2 => ?_)
  obtain ⟨rfl, rfl⟩ := h2
  refine r_if_neB (pc := 5) (tgt := 11) C dX2_turn_5 (by decide)  (fun h5 => ?_) (fun h5 => ?_)
  · obtain ⟨hR, hR6⟩ := h.at h5
    refine r_iload_n (pc := 11) C dX2_turn_11 rfl rfl ?_
    refine r_iconstZ (pc := 12) C dX2_turn_12 ?_
    refine r_aload_n (pc := 13) C dX2_turn_13 rfl rfl ?_
    refine r_mget (pc := 14) (k := 3) C dX2_turn_14 rfl q1175 (by decide) rfl ?_
    refine r_iload_n (pc := 17) C dX2_turn_17 rfl rfl ?_
    refine r_mald (pc := 18) (L := 6) C dX2_turn_18 (by decide) rfl (by omega) (by omega) ?_
    rw [hR.1]
    refine r_iconstZ (pc := 19) C dX2_turn_19 ?_
    refine r_isubZ (pc := 20) C dX2_turn_20 ?_
    refine r_invP (pc := 21) 3 C dX2_turn_21 (pf_within b 0 (((wsat ws r).length : Int) - 1) hb i32_0 (by have := hR.2.1; unfold i32; omega)) rfl (lw_S q1283 q1284 q92 q1285) (by decide +kernel) rfl rfl ⟨Nat.le_of_ble_eq_true rfl, Nat.le_of_ble_eq_true rfl⟩ (Nat.le_of_ble_eq_true rfl) ⟨Nat.le_of_ble_eq_true rfl, Nat.le_of_ble_eq_true rfl⟩ ?_
    refine r_if_neB (pc := 24) (tgt := 30) C dX2_turn_24 (by decide)  (fun h24 => ?_) (fun h24 => ?_)
    · refine r_aload_n (pc := 30) C dX2_turn_30 rfl rfl ?_
      refine r_iload_n (pc := 31) C dX2_turn_31 rfl rfl ?_
      refine r_minv (pc := 32) 1 C dX2_turn_32 (mt_look r (wsat ws r) hR6 hR) rfl (lw_V q1326 q1328 qs32 q92 q1329) (by decide +kernel) rfl rfl ⟨Nat.le_of_ble_eq_true rfl, Nat.le_of_ble_eq_true rfl⟩ (Nat.le_of_ble_eq_true rfl) ⟨Nat.le_of_ble_eq_true rfl, Nat.le_of_ble_eq_true rfl⟩ (fun v32 st32 h32 => ?_)
      obtain ⟨rfl, h32a, h32b⟩ := h32
      refine r_aload_n (pc := 35) C dX2_turn_35 rfl rfl ?_
      refine r_iload_n (pc := 36) C dX2_turn_36 rfl rfl ?_
      refine r_iload_n (pc := 37) C dX2_turn_37 rfl rfl ?_
      have hR21 := hR.2.1
      rw [show b = ((b.toNat : Nat) : Int) by omega]
      refine r_minv (pc := 38) 2 C dX2_turn_38 (mt_put r (wsat ws r) b.toNat hR6 (by omega) h32a) rfl (lw_V q1447 q1449 qs52 q92 q1450) (by decide +kernel) rfl rfl ⟨Nat.le_of_ble_eq_true rfl, Nat.le_of_ble_eq_true rfl⟩ (Nat.le_of_ble_eq_true rfl) ⟨Nat.le_of_ble_eq_true rfl, Nat.le_of_ble_eq_true rfl⟩ (fun v38 st38 h38 => ?_)
      obtain ⟨rfl, h38s⟩ := h38
      have h38e := h38s.1
      refine r_aload_n (pc := 41) C dX2_turn_41 rfl rfl ?_
      refine r_minv (pc := 42) 0 C dX2_turn_42 (mt_periodNow (wsat ws r) (h32a.x h38e (by decide) (by decide))) rfl (lw_V q1334 q1336 qs34 q92 q1337) (by decide +kernel) rfl rfl ⟨Nat.le_of_ble_eq_true rfl, Nat.le_of_ble_eq_true rfl⟩ (Nat.le_of_ble_eq_true rfl) ⟨Nat.le_of_ble_eq_true rfl, Nat.le_of_ble_eq_true rfl⟩ (fun v42 st42 h42 => ?_)
      obtain ⟨rfl, rfl⟩ := h42
      exact r_iret (pc := 45) C hQ dX2_turn_45 (Nat.le_of_ble_eq_true rfl) (Nat.le_of_ble_eq_true rfl) (fun G hG => ⟨_, hG, ⟨by unfold sTurn; rw [if_pos h5, if_pos h24], by unfold sTurn; rw [if_pos h5, if_pos h24]; exact (h.x h32b (by decide) (by decide) (by decide)).store h5 (wTurned_len _ _) h38s, (h32b.wk (by decide)).tr (h38e.wk (by decide))⟩⟩)
    · refine r_ldcZ (pc := 27) (a := -2000000102) C dX2_turn_27 rfl q1286 (by decide) ?_
      exact r_iret (pc := 29) C hQ dX2_turn_29 (Nat.le_of_ble_eq_true rfl) (Nat.le_of_ble_eq_true rfl) (fun G hG => ⟨_, hG, ⟨by unfold sTurn; rw [if_pos h5, if_neg h24], by unfold sTurn; rw [if_pos h5, if_neg h24]; exact h, eqx.rf⟩⟩)
  · refine r_ldcZ (pc := 8) (a := -2000000101) C dX2_turn_8 rfl q1321 (by decide) ?_
    exact r_iret (pc := 10) C hQ dX2_turn_10 (Nat.le_of_ble_eq_true rfl) (Nat.le_of_ble_eq_true rfl) (fun G hG => ⟨_, hG, ⟨by unfold sTurn; rw [if_neg h5], by unfold sTurn; rw [if_neg h5]; exact h, eqx.rf⟩⟩)
set_option maxHeartbeats 800000 in
theorem mt_keepNew {la : Launch} {X : XE} {mh : Nat} {mad : Nat → Nat} {G0 : Gh} {st : MSt} (ws : Wss) (w : List Bool) (hl : ws.length < 6) (hw : 0 < w.length) (h : RoadsAre st ws) (hn : NewAt st w) : MM la X mh mad G0 yX2_keepNew cX2_keepNew 2 (some .int) 0 0 [] st (fun v st' => v = some (.int (iI ws.length)) ∧ RoadsAre st' (ws ++ [w]) ∧ eqx [2, 3, 4] st st') := by
  refine MG.of (by decide +kernel) (Nat.le_of_ble_eq_true rfl) ?_
  intro Z C hX hL hQ
  subst hX; subst hL
  change WW Z 2 (MOD mh mad G0 st) 0 0 0 [some (.ref mh), none] []
  have loop : ∀ i : Nat, i ≤ w.length → ∀ sti : MSt, eqx [3, 4] st sti → (∀ j : Int, j ≠ ws.length → sti.2 3 j = st.2 3 j) → sti.2 3 ws.length = w.length → (∀ j : Int, j < 20 * ws.length → sti.2 4 j = st.2 4 j) → (∀ k : Nat, k < i → sti.2 4 (20 * (ws.length : Int) + k) = bi (wl w k)) → WW Z 2 (MOD mh mad G0 (sti)) 0 0 15 [some (.ref mh), some (.int (iI i))] [] := by
    refine loopN _ _ (fun i hi ih sti g1 g2 g3 g4 g5 => ?_)
    have hn2 := hn.x g1 (by decide) (by decide)
    have hlw := hn.2.1
    refine r_iload_n (pc := 15) C dX2_keepNew_15 rfl rfl ?_
    refine r_aload_n (pc := 16) C dX2_keepNew_16 rfl rfl ?_
    refine r_mget (pc := 17) (k := 15) C dX2_keepNew_17 rfl q1187 (by decide) rfl ?_
    rw [hn2.1]
    refine r_icmp_geZ (pc := 20) (tgt := 49) C dX2_keepNew_20 (by decide) (by unfold i32; omega) (by unfold i32; omega) (fun h20 => ?_) (fun h20 => ?_)
    · refine r_aload_n (pc := 49) C dX2_keepNew_49 rfl rfl ?_
      refine r_dup (pc := 50) C dX2_keepNew_50 rfl ?_
      refine r_mget (pc := 51) (k := 2) C dX2_keepNew_51 rfl q1174 (by decide) rfl ?_
      rw [show sti.1 2 = (ws.length : Int) from (g1 2 (by decide)).1.trans h.1]
      refine r_iconstZ (pc := 54) C dX2_keepNew_54 ?_
      refine r_iaddZ (pc := 55) C dX2_keepNew_55 ?_
      refine r_mput (pc := 56) (k := 2) (ty := .int) C dX2_keepNew_56 rfl q1174 (by decide) rfl (by decide +kernel) rfl rfl (ms_2 mad _ _) rfl (Or.inl rfl) ?_
      refine r_aload_n (pc := 59) C dX2_keepNew_59 rfl rfl ?_
      refine r_mget (pc := 60) (k := 2) C dX2_keepNew_60 rfl q1174 (by decide) rfl ?_
      rw [iput_eq]
      refine r_iconstZ (pc := 63) C dX2_keepNew_63 ?_
      refine r_isubZ (pc := 64) C dX2_keepNew_64 ?_
      exact r_iret (pc := 65) C hQ dX2_keepNew_65 (Nat.le_of_ble_eq_true rfl) (Nat.le_of_ble_eq_true rfl) (fun G hG => ⟨_, hG, ⟨by rw [Int.add_sub_cancel], h.push hl ⟨hw, hlw⟩ (iput_eq _ _ _) g2 g3 g4 (fun k hk => g5 k (by omega)), (g1.wk (by decide)).iput (by decide)⟩⟩)
    · refine r_aload_n (pc := 23) C dX2_keepNew_23 rfl rfl ?_
      refine r_mget (pc := 24) (k := 4) C dX2_keepNew_24 rfl q1176 (by decide) rfl ?_
      refine r_bipushZ (pc := 27) C dX2_keepNew_27 (by decide) ?_
      refine r_aload_n (pc := 29) C dX2_keepNew_29 rfl rfl ?_
      refine r_mget (pc := 30) (k := 2) C dX2_keepNew_30 rfl q1174 (by decide) rfl ?_
      rw [show sti.1 2 = (ws.length : Int) from (g1 2 (by decide)).1.trans h.1]
      refine r_imulZ (pc := 33) C dX2_keepNew_33 ?_
      refine r_iload_n (pc := 34) C dX2_keepNew_34 rfl rfl ?_
      refine r_iaddZ (pc := 35) C dX2_keepNew_35 ?_
      refine r_aload_n (pc := 36) C dX2_keepNew_36 rfl rfl ?_
      refine r_mget (pc := 37) (k := 16) C dX2_keepNew_37 rfl q1188 (by decide) rfl ?_
      refine r_iload_n (pc := 40) C dX2_keepNew_40 rfl rfl ?_
      refine r_mald (pc := 41) (L := 20) C dX2_keepNew_41 (by decide) rfl (by omega) (by omega) ?_
      rw [hn2.2.2 i (by omega)]
      refine r_mast (pc := 42) (L := 120) C dX2_keepNew_42 (by decide) rfl (by omega) (by omega) ?_
      refine r_iincZ (pc := 43) C dX2_keepNew_43 rfl (by decide) ?_
      refine r_goto (pc := 46) (tgt := 15) C dX2_keepNew_46 (by decide) ?_
      refine ih (by omega) _ (g1.aput (by decide)) (fun j hj => by rw [aput_nk _ _ _ (by decide)]; exact g2 j hj) (by rw [aput_nk _ _ _ (by decide)]; exact g3) (fun j hj => by rw [aput_nj _ _ _ (by omega)]; exact g4 j hj) (fun k hk => ?_)
      by_cases e : k = i
      · rw [e, aput_eq]
      · rw [aput_nj _ _ _ (by omega)]; exact g5 k (by omega)
  refine r_aload_n (pc := 0) C dX2_keepNew_0 rfl rfl ?_
  refine r_mget (pc := 1) (k := 3) C dX2_keepNew_1 rfl q1175 (by decide) rfl ?_
  refine r_aload_n (pc := 4) C dX2_keepNew_4 rfl rfl ?_
  refine r_mget (pc := 5) (k := 2) C dX2_keepNew_5 rfl q1174 (by decide) rfl ?_
  rw [h.1]
  refine r_aload_n (pc := 8) C dX2_keepNew_8 rfl rfl ?_
  refine r_mget (pc := 9) (k := 15) C dX2_keepNew_9 rfl q1187 (by decide) rfl ?_
  rw [hn.1]
  refine r_mast (pc := 12) (L := 6) C dX2_keepNew_12 (by decide) rfl (by omega) (by omega) ?_
  refine r_iconstZ (pc := 13) C dX2_keepNew_13 ?_
  refine r_istore_n (pc := 14) C dX2_keepNew_14 rfl (by decide) ?_
  exact loop 0 (Nat.zero_le _) _ (eqx.rf.aput (by decide)) (fun j hj => aput_nj _ _ _ hj) (aput_eq _ _ _ _) (fun j hj => by rw [aput_nk _ _ _ (by decide)]) (fun k hk => absurd hk (Nat.not_lt_zero _))
set_option maxHeartbeats 800000 in
theorem mt_addRoad {la : Launch} {X : XE} {mh : Nat} {mad : Nat → Nat} {G0 : Gh} {st : MSt} (r : Int) (w u : List Bool) (hr : 0 ≤ r ∧ r < 6) (hw : RoadIs st r w) (hu : NewAt st u) (hs : u.length + w.length ≤ 20) : MM la X mh mad G0 yX2_addRoad cX2_addRoad 3 none 0 0 [.int (iI r)] st (fun v st' => v = none ∧ NewAt st' (u ++ w) ∧ eqx [15, 16] st st') := by
  refine MG.of (by decide +kernel) (Nat.le_of_ble_eq_true rfl) ?_
  intro Z C hX hL hQ
  subst hX; subst hL
  change WW Z 3 (MOD mh mad G0 st) 0 0 0 [some (.ref mh), some (.int (iI r)), none] []
  have loop : ∀ i : Nat, i ≤ w.length → ∀ sti : MSt, eqx [15, 16] st sti → NewAt sti (u ++ w.take i) → WW Z 3 (MOD mh mad G0 (sti)) 0 0 2 [some (.ref mh), some (.int (iI r)), some (.int (iI i))] [] := by
    refine loopN _ _ (fun i hi ih sti g1 g2 => ?_)
    have hw2 := hw.x g1 (by decide) (by decide)
    have hlen : (u ++ w.take i).length = u.length + i := by rw [List.length_append, List.length_take]; omega
    refine r_iload_n (pc := 2) C dX2_addRoad_2 rfl rfl ?_
    refine r_aload_n (pc := 3) C dX2_addRoad_3 rfl rfl ?_
    refine r_mget (pc := 4) (k := 3) C dX2_addRoad_4 rfl q1175 (by decide) rfl ?_
    refine r_iload_n (pc := 7) C dX2_addRoad_7 rfl rfl ?_
    refine r_mald (pc := 8) (L := 6) C dX2_addRoad_8 (by decide) rfl (by omega) (by omega) ?_
    rw [hw2.1]
    refine r_icmp_geZ (pc := 9) (tgt := 48) C dX2_addRoad_9 (by decide) (by unfold i32; omega) (by unfold i32; omega) (fun h9 => ?_) (fun h9 => ?_)
    · exact r_vret (pc := 48) C hQ dX2_addRoad_48 (Nat.le_of_ble_eq_true rfl) (Nat.le_of_ble_eq_true rfl) (fun G hG => ⟨_, hG, ⟨rfl, by rw [show i = w.length by omega, List.take_length] at g2; exact g2, g1⟩⟩)
    · refine r_aload_n (pc := 12) C dX2_addRoad_12 rfl rfl ?_
      refine r_mget (pc := 13) (k := 16) C dX2_addRoad_13 rfl q1188 (by decide) rfl ?_
      refine r_aload_n (pc := 16) C dX2_addRoad_16 rfl rfl ?_
      refine r_mget (pc := 17) (k := 15) C dX2_addRoad_17 rfl q1187 (by decide) rfl ?_
      rw [g2.1]
      refine r_aload_n (pc := 20) C dX2_addRoad_20 rfl rfl ?_
      refine r_mget (pc := 21) (k := 4) C dX2_addRoad_21 rfl q1176 (by decide) rfl ?_
      refine r_bipushZ (pc := 24) C dX2_addRoad_24 (by decide) ?_
      refine r_iload_n (pc := 26) C dX2_addRoad_26 rfl rfl ?_
      refine r_imulZ (pc := 27) C dX2_addRoad_27 ?_
      refine r_iload_n (pc := 28) C dX2_addRoad_28 rfl rfl ?_
      refine r_iaddZ (pc := 29) C dX2_addRoad_29 ?_
      refine r_mald (pc := 30) (L := 120) C dX2_addRoad_30 (by decide) rfl (by omega) (by omega) ?_
      rw [hw2.2.2 i (by omega)]
      refine r_mast (pc := 31) (L := 20) C dX2_addRoad_31 (by decide) rfl (by omega) (by omega) ?_
      refine r_aload_n (pc := 32) C dX2_addRoad_32 rfl rfl ?_
      refine r_dup (pc := 33) C dX2_addRoad_33 rfl ?_
      refine r_mget (pc := 34) (k := 15) C dX2_addRoad_34 rfl q1187 (by decide) rfl ?_
      rw [show (aput sti 16 ((u ++ w.take i).length : Int) (bi (wl w i))).1 15 = ((u ++ w.take i).length : Int) from g2.1]
      refine r_iconstZ (pc := 37) C dX2_addRoad_37 ?_
      refine r_iaddZ (pc := 38) C dX2_addRoad_38 ?_
      refine r_mput (pc := 39) (k := 15) (ty := .int) C dX2_addRoad_39 rfl q1187 (by decide) rfl (by decide +kernel) rfl rfl (ms_15 mad _ _) rfl (Or.inl rfl) ?_
      refine r_iincZ (pc := 42) C dX2_addRoad_42 rfl (by decide) ?_
      refine r_goto (pc := 45) (tgt := 2) C dX2_addRoad_45 (by decide) ?_
      refine ih (by omega) _ ((g1.aput (by decide)).iput (by decide)) ?_
      have hp := g2.push (by omega) (wl w i)
      rw [List.append_assoc, show w.take i ++ [wl w i] = w.take (i + 1) from by rw [wl_lt (by omega), List.take_append_getElem]] at hp
      exact hp
  refine r_iconstZ (pc := 0) C dX2_addRoad_0 ?_
  refine r_istore_n (pc := 1) C dX2_addRoad_1 rfl (by decide) ?_
  exact loop 0 (Nat.zero_le _) _ eqx.rf (by rw [List.take_zero, List.append_nil]; exact hu)

