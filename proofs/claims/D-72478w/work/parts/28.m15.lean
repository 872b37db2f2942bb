/-! the reference's methods: traces, lays, where -/
set_option maxRecDepth 100000
theorem emod_b (a : Int) {m : Int} (hm : 2 ≤ m) : 0 ≤ a % m ∧ a % m < m := ⟨Int.emod_nonneg _ (by omega), Int.emod_lt_of_pos _ (by omega)⟩
set_option maxHeartbeats 800000 in
theorem mt_traceOf {la : Launch} {X : XE} {mh : Nat} {mad : Nat → Nat} {G0 : Gh} {st : MSt} (d : Int) (c : Nat) (m : Int) (hc : c < nC d) (hm : 2 ≤ m ∧ m ≤ 1000) (h : RivAt st d) : MM la X mh mad G0 yX2_traceOf cX2_traceOf 8 (some .int) 1 21 [.int (iI c), .int (iI m)] st (fun v st' => v = some (.int (iI (trW m (wC d c)))) ∧ st' = st) := by
  refine MG.of (by decide +kernel) (Nat.le_of_ble_eq_true rfl) ?_
  intro Z C hX hL hQ
  subst hX; subst hL
  change WW Z 8 (MOD mh mad G0 st) 0 0 0 [some (.ref mh), some (.int (iI c)), some (.int (iI m)), none, none, none, none, none] []
  have hln := h.len
  have hf := fC_lt h.1 hc
  have hps := per_spec (fl_perm h.1) hf
  have hwl := wC_len d c
  have loop : ∀ i : Nat, i < pC d c → WW Z 8 (MOD mh mad G0 st) 0 0 19 [some (.ref mh), some (.int (iI c)), some (.int (iI m)), some (.int (iI (trN m (wC d c) i).1)), some (.int (iI (trN m (wC d c) i).2.1)), some (.int (iI (trN m (wC d c) i).2.2.1)), some (.int (iI (trN m (wC d c) i).2.2.2)), some (.int (iI ((aC d c i : Nat) : Int)))] [] := by
    have key : ∀ j : Nat, j ≤ pC d c → ∀ i : Nat, i < pC d c → pC d c - i ≤ j → WW Z 8 (MOD mh mad G0 st) 0 0 19 [some (.ref mh), some (.int (iI c)), some (.int (iI m)), some (.int (iI (trN m (wC d c) i).1)), some (.int (iI (trN m (wC d c) i).2.1)), some (.int (iI (trN m (wC d c) i).2.2.1)), some (.int (iI (trN m (wC d c) i).2.2.2)), some (.int (iI ((aC d c i : Nat) : Int)))] [] := by
      intro j
      induction j with
      | zero => intro _ i hi h0; omega
      | succ j ih =>
        intro hj i hi hij
        have hat : aC d c i < nR d := it_lt (fl_perm h.1) hf i
        have hat1 : aC d c (i + 1) < nR d := it_lt (fl_perm h.1) hf (i + 1)
        obtain ⟨⟨b1, b2⟩, ⟨b3, b4⟩, ⟨b5, b6⟩, b7, b8⟩ := trN_b hm.1 (wC d c) i
        have next : ∀ (x1 x2 x3 x4 : Int), trN m (wC d c) (i + 1) = (x1, x2, x3, x4) → WW Z 8 (MOD mh mad G0 st) 0 0 64 [some (.ref mh), some (.int (iI c)), some (.int (iI m)), some (.int (iI x1)), some (.int (iI x2)), some (.int (iI x3)), some (.int (iI x4)), some (.int (iI ((aC d c i : Nat) : Int)))] [] := by
          intro x1 x2 x3 x4 ex
          have bb := trN_b hm.1 (wC d c) (i + 1)
          rw [ex] at bb
          obtain ⟨⟨c1, c2⟩, ⟨c3, c4⟩, ⟨c5, c6⟩, c7, c8⟩ := bb
          dsimp only at c1 c2 c3 c4 c5 c6 c7 c8
          refine r_aload_n (pc := 64) C dX2_traceOf_64 rfl rfl ?_
          refine r_mget (pc := 65) (k := 11) C dX2_traceOf_65 rfl q1183 (by decide) rfl ?_
          refine r_iload (pc := 68) C dX2_traceOf_68 rfl ?_
          refine r_mald (pc := 70) (L := 1200) C dX2_traceOf_70 (by decide) rfl (by omega) (by omega) ?_
          rw [h.nx hat]
          refine r_istore (pc := 71) C dX2_traceOf_71 (by decide) ?_
          refine r_iload (pc := 73) C dX2_traceOf_73 rfl ?_
          refine r_aload_n (pc := 75) C dX2_traceOf_75 rfl rfl ?_
          refine r_mget (pc := 76) (k := 14) C dX2_traceOf_76 rfl q1186 (by decide) rfl ?_
          refine r_iload_n (pc := 79) C dX2_traceOf_79 rfl rfl ?_
          refine r_mald (pc := 80) (L := 1200) C dX2_traceOf_80 (by decide) rfl (by omega) (by omega) ?_
          rw [h.fi hc]
          refine r_icmp_neZ (pc := 81) (tgt := 19) C dX2_traceOf_81 (by decide) (show i32 ((aC d c (i + 1) : Nat) : Int) from by unfold i32; omega) (by unfold i32; omega) (fun h81 => ?_) (fun h81 => ?_)
          · have hne : aC d c (i + 1) ≠ fC d c := (fun e => h81 (by show ((aC d c (i + 1) : Nat) : Int) = _; rw [e]))
            have hlt : i + 1 < pC d c := (by rcases Nat.lt_or_ge (i + 1) (pC d c) with q | q; exact q; exact absurd (show aC d c (i + 1) = fC d c from by rw [show i + 1 = pC d c by omega]; exact hps.2.2.1) hne)
            have I := ih (by omega) (i + 1) hlt (by omega)
            rw [ex] at I
            exact I
          · refine r_iload_n (pc := 84) C dX2_traceOf_84 rfl rfl ?_
            refine r_iload (pc := 85) C dX2_traceOf_85 rfl ?_
            refine r_iaddZ (pc := 87) C dX2_traceOf_87 ?_
            refine r_iload_n (pc := 88) C dX2_traceOf_88 rfl rfl ?_
            refine r_iremE (pc := 89) C dX2_traceOf_89 (by unfold i32; omega) (by unfold i32; omega) (by omega) (by omega) ?_
            exact r_iret (pc := 90) C hQ dX2_traceOf_90 (Nat.le_of_ble_eq_true rfl) (Nat.le_of_ble_eq_true rfl) (fun G hG => ⟨_, hG, ⟨by have hp : pC d c = i + 1 := (by rcases Nat.lt_or_ge (i + 1) (pC d c) with q | q; exact absurd (Int.ofNat_inj.mp h81) (hps.2.2.2 (i + 1) (by omega) q); omega); unfold trW; rw [hwl, hp, ex], rfl⟩⟩)
        refine r_aload_n (pc := 19) C dX2_traceOf_19 rfl rfl ?_
        refine r_iload (pc := 20) C dX2_traceOf_20 rfl ?_
        refine r_minv (pc := 22) 1 C dX2_traceOf_22 (mt_isLeft (fl d) (aC d c i) hat h.2.2.1) rfl (lw_V q1498 q1500 qs58 q92 q1501) (by decide +kernel) rfl rfl ⟨Nat.le_of_ble_eq_true rfl, Nat.le_of_ble_eq_true rfl⟩ (Nat.le_of_ble_eq_true rfl) ⟨Nat.le_of_ble_eq_true rfl, Nat.le_of_ble_eq_true rfl⟩ (fun v22 st22 h22 => ?_)
        obtain ⟨rfl, rfl⟩ := h22
        refine r_if_eqZ (pc := 25) (tgt := 47) C dX2_traceOf_25 (by decide) (bi_i _) (fun h25 => ?_) (fun h25 => ?_)
        · refine r_iload_n (pc := 47) C dX2_traceOf_47 rfl rfl ?_
          refine r_iload (pc := 48) C dX2_traceOf_48 rfl ?_
          refine r_iaddZ (pc := 50) C dX2_traceOf_50 ?_
          refine r_iload_n (pc := 51) C dX2_traceOf_51 rfl rfl ?_
          refine r_iremE (pc := 52) C dX2_traceOf_52 (by unfold i32; omega) (by unfold i32; omega) (by omega) (by omega) ?_
          refine r_istore (pc := 53) C dX2_traceOf_53 (by decide) ?_
          refine r_iload (pc := 55) C dX2_traceOf_55 rfl ?_
          refine r_iload (pc := 57) C dX2_traceOf_57 rfl ?_
          refine r_iaddZ (pc := 59) C dX2_traceOf_59 ?_
          refine r_iload_n (pc := 60) C dX2_traceOf_60 rfl rfl ?_
          refine r_iremE (pc := 61) C dX2_traceOf_61 (by unfold i32; omega) (by unfold i32; omega) (by omega) (by omega) ?_
          refine r_istore (pc := 62) C dX2_traceOf_62 (by decide) ?_
          exact next _ _ _ _ (by show trS m (trN m (wC d c) i) (wl (wC d c) i) = _; rw [wC_at d c hi]; unfold trS; first | (rw [bi_n0 h25]; rfl) | (rw [bi_0.mp h25]; rfl))
        · refine r_iload_n (pc := 28) C dX2_traceOf_28 rfl rfl ?_
          refine r_iload (pc := 29) C dX2_traceOf_29 rfl ?_
          refine r_iaddZ (pc := 31) C dX2_traceOf_31 ?_
          refine r_iload_n (pc := 32) C dX2_traceOf_32 rfl rfl ?_
          refine r_iremE (pc := 33) C dX2_traceOf_33 (by unfold i32; omega) (by unfold i32; omega) (by omega) (by omega) ?_
          refine r_istore_n (pc := 34) C dX2_traceOf_34 rfl (by decide) ?_
          refine r_iload (pc := 35) C dX2_traceOf_35 rfl ?_
          refine r_iload (pc := 37) C dX2_traceOf_37 rfl ?_
          refine r_iaddZ (pc := 39) C dX2_traceOf_39 ?_
          refine r_iload_n (pc := 40) C dX2_traceOf_40 rfl rfl ?_
          refine r_iremE (pc := 41) C dX2_traceOf_41 (by unfold i32; omega) (by unfold i32; omega) (by omega) (by omega) ?_
          refine r_istore (pc := 42) C dX2_traceOf_42 (by decide) ?_
          refine r_goto (pc := 44) (tgt := 64) C dX2_traceOf_44 (by decide) ?_
          exact next _ _ _ _ (by show trS m (trN m (wC d c) i) (wl (wC d c) i) = _; rw [wC_at d c hi]; unfold trS; first | (rw [bi_n0 h25]; rfl) | (rw [bi_0.mp h25]; rfl))
    exact fun i hi => key (pC d c) (Nat.le_refl _) i hi (by omega)
  refine r_iconstZ (pc := 0) C dX2_traceOf_0 ?_
  refine r_istore_n (pc := 1) C dX2_traceOf_1 rfl (by decide) ?_
  refine r_iconstZ (pc := 2) C dX2_traceOf_2 ?_
  refine r_istore (pc := 3) C dX2_traceOf_3 (by decide) ?_
  refine r_iconstZ (pc := 5) C dX2_traceOf_5 ?_
  refine r_istore (pc := 6) C dX2_traceOf_6 (by decide) ?_
  refine r_iconstZ (pc := 8) C dX2_traceOf_8 ?_
  refine r_istore (pc := 9) C dX2_traceOf_9 (by decide) ?_
  refine r_aload_n (pc := 11) C dX2_traceOf_11 rfl rfl ?_
  refine r_mget (pc := 12) (k := 14) C dX2_traceOf_12 rfl q1186 (by decide) rfl ?_
  refine r_iload_n (pc := 15) C dX2_traceOf_15 rfl rfl ?_
  refine r_mald (pc := 16) (L := 1200) C dX2_traceOf_16 (by decide) rfl (by omega) (by omega) ?_
  rw [h.fi hc]
  refine r_istore (pc := 17) C dX2_traceOf_17 (by decide) ?_
  exact loop 0 hps.1
set_option maxHeartbeats 800000 in
theorem mt_trace {la : Launch} {X : XE} {mh : Nat} {mad : Nat → Nat} {G0 : Gh} {st : MSt} (d c m : Int) (hc : i32 c) (hm : i32 m) (h : RivAt st d) : MM la X mh mad G0 yX2_trace cX2_trace 3 (some .int) 2 48 [.int (iI c), .int (iI m)] st (fun v st' => v = some (.int (iI (sTrace d c m))) ∧ st' = st) := by
  refine MG.of (by decide +kernel) (Nat.le_of_ble_eq_true rfl) ?_
  intro Z C hX hL hQ
  subst hX; subst hL
  change WW Z 3 (MOD mh mad G0 st) 0 0 0 [some (.ref mh), some (.int (iI c)), some (.int (iI m))] []
  refine r_aload_n (pc := 0) C dX2_trace_0 rfl rfl ?_
  refine r_iload_n (pc := 1) C dX2_trace_1 rfl rfl ?_
  refine r_minv (pc := 2) 1 C dX2_trace_2 (mt_isCycle d c hc h) rfl (lw_V q1518 q1520 qs61 q92 q1521) (by decide +kernel) rfl rfl ⟨Nat.le_of_ble_eq_true rfl, Nat.le_of_ble_eq_true rfl⟩ (Nat.le_of_ble_eq_true rfl) ⟨Nat.le_of_ble_eq_true rfl, Nat.le_of_ble_eq_true rfl⟩ (fun v2 st2 h2 => ?_)
  obtain ⟨rfl, rfl⟩ := h2
  refine r_if_neB (pc := 5) (tgt := 13) C dX2_trace_5 (by decide)  (fun h5 => ?_) (fun h5 => ?_)
  · refine r_iload_n (pc := 13) C dX2_trace_13 rfl rfl ?_
    refine r_iconstZ (pc := 14) C dX2_trace_14 ?_
    refine r_sipushZ (pc := 15) C dX2_trace_15 (by decide) ?_
    refine r_invP (pc := 18) 3 C dX2_trace_18 (pf_within m 2 1000 hm (by unfold i32; omega) (by unfold i32; omega)) rfl (lw_S q1283 q1284 q92 q1285) (by decide +kernel) rfl rfl ⟨Nat.le_of_ble_eq_true rfl, Nat.le_of_ble_eq_true rfl⟩ (Nat.le_of_ble_eq_true rfl) ⟨Nat.le_of_ble_eq_true rfl, Nat.le_of_ble_eq_true rfl⟩ ?_
    refine r_if_eqB (pc := 21) (tgt := 33) C dX2_trace_21 (by decide)  (fun h21 => ?_) (fun h21 => ?_)
    · refine r_ldcZ (pc := 33) (a := -2000000102) C dX2_trace_33 rfl q1286 (by decide) ?_
      exact r_iret (pc := 35) C hQ dX2_trace_35 (Nat.le_of_ble_eq_true rfl) (Nat.le_of_ble_eq_true rfl) (fun G hG => ⟨_, hG, ⟨by unfold sTrace; first | rw [if_neg h5] | rw [if_pos h5, if_neg h21] | rw [if_pos h5, if_pos h21], rfl⟩⟩)
    · refine r_aload_n (pc := 24) C dX2_trace_24 rfl rfl ?_
      rw [show c = ((c.toNat : Nat) : Int) by omega]
      refine r_iload_n (pc := 25) C dX2_trace_25 rfl rfl ?_
      refine r_iload_n (pc := 26) C dX2_trace_26 rfl rfl ?_
      refine r_minv (pc := 27) 2 C dX2_trace_27 (mt_traceOf d c.toNat m (by omega) h21 h) rfl (lw_V q1546 q1548 qs66 q92 q1549) (by decide +kernel) rfl rfl ⟨Nat.le_of_ble_eq_true rfl, Nat.le_of_ble_eq_true rfl⟩ (Nat.le_of_ble_eq_true rfl) ⟨Nat.le_of_ble_eq_true rfl, Nat.le_of_ble_eq_true rfl⟩ (fun v27 st27 h27 => ?_)
      obtain ⟨rfl, rfl⟩ := h27
      refine r_goto (pc := 30) (tgt := 35) C dX2_trace_30 (by decide) ?_
      exact r_iret (pc := 35) C hQ dX2_trace_35 (Nat.le_of_ble_eq_true rfl) (Nat.le_of_ble_eq_true rfl) (fun G hG => ⟨_, hG, ⟨by unfold sTrace; first | rw [if_neg h5] | rw [if_pos h5, if_neg h21] | rw [if_pos h5, if_pos h21], rfl⟩⟩)
  · refine r_ldcZ (pc := 8) (a := -2000000101) C dX2_trace_8 rfl q1321 (by decide) ?_
    refine r_goto (pc := 10) (tgt := 35) C dX2_trace_10 (by decide) ?_
    exact r_iret (pc := 35) C hQ dX2_trace_35 (Nat.le_of_ble_eq_true rfl) (Nat.le_of_ble_eq_true rfl) (fun G hG => ⟨_, hG, ⟨by unfold sTrace; first | rw [if_neg h5] | rw [if_pos h5, if_neg h21] | rw [if_pos h5, if_pos h21], rfl⟩⟩)
set_option maxHeartbeats 800000 in
theorem mt_whereNow {la : Launch} {X : XE} {mh : Nat} {mad : Nat → Nat} {G0 : Gh} {st : MSt} (d r : Int) (w : List Bool) (hr : 0 ≤ r ∧ r < 6) (hw : RoadIs st r w) (hcl : wClosed w = true) (hd : d ≠ 0) (h : RivAt st d) : MM la X mh mad G0 yX2_whereNow cX2_whereNow 2 (some .int) 3 65 [.int (iI r)] st (fun v st' => v = some (.int (iI (nof (fl d) (wFa w, wFb w, wFc w)))) ∧ eqx [18, 19, 22, 23, 24, 25, 26, 27, 28, 29] st st') := by
  refine MG.of (by decide +kernel) (Nat.le_of_ble_eq_true rfl) ?_
  intro Z C hX hL hQ
  subst hX; subst hL
  change WW Z 2 (MOD mh mad G0 st) 0 0 0 [some (.ref mh), some (.int (iI r))] []
  have hb := wTab_20 hw.2.1.2
  have hg := wG_b hw.2.1.2 hcl
  have hFi : i32 (wFa w) ∧ i32 (wFb w) ∧ i32 (wFc w) := by
    have q : ∀ x : Int, -2097152 ≤ x → x ≤ 2097152 → i32 (x.tdiv (wG w)) := by
      intro x h1 h2
      have h3 : (x.tdiv (wG w)).natAbs ≤ x.natAbs := by
        rw [Int.natAbs_tdiv]
        exact Nat.div_le_self _ _
      unfold i32; omega
    exact ⟨q _ (by omega) (by omega), q _ (by omega) (by omega), q _ (by omega) (by omega)⟩
  refine r_aload_n (pc := 0) C dX2_whereNow_0 rfl rfl ?_
  refine r_iload_n (pc := 1) C dX2_whereNow_1 rfl rfl ?_
  refine r_minv (pc := 2) 1 C dX2_whereNow_2 (mt_layForm r w hr hw hcl) rfl (lw_V q1398 q1400 qs46 q92 q1401) (by decide +kernel) rfl rfl ⟨Nat.le_of_ble_eq_true rfl, Nat.le_of_ble_eq_true rfl⟩ (Nat.le_of_ble_eq_true rfl) ⟨Nat.le_of_ble_eq_true rfl, Nat.le_of_ble_eq_true rfl⟩ (fun v2 st2 h2 => ?_)
  obtain ⟨rfl, ⟨f1, f2, f3, f4⟩, h2b⟩ := h2
  have h2r := h.x h2b (by decide)
  refine r_aload_n (pc := 5) C dX2_whereNow_5 rfl rfl ?_
  refine r_mget (pc := 6) (k := 26) C dX2_whereNow_6 rfl q1198 (by decide) rfl ?_
  rw [f1]
  refine r_aload_n (pc := 9) C dX2_whereNow_9 rfl rfl ?_
  refine r_mget (pc := 10) (k := 27) C dX2_whereNow_10 rfl q1199 (by decide) rfl ?_
  rw [f2]
  refine r_aload_n (pc := 13) C dX2_whereNow_13 rfl rfl ?_
  refine r_mget (pc := 14) (k := 28) C dX2_whereNow_14 rfl q1200 (by decide) rfl ?_
  rw [f3]
  refine r_invP (pc := 17) 3 C dX2_whereNow_17 (pf_discOf _ _ _) rfl (lw_S q1408 q1409 q92 q1410) (by decide +kernel) rfl rfl ⟨Nat.le_of_ble_eq_true rfl, Nat.le_of_ble_eq_true rfl⟩ (Nat.le_of_ble_eq_true rfl) ⟨Nat.le_of_ble_eq_true rfl, Nat.le_of_ble_eq_true rfl⟩ ?_
  refine r_aload_n (pc := 20) C dX2_whereNow_20 rfl rfl ?_
  refine r_mget (pc := 21) (k := 6) C dX2_whereNow_21 rfl q1178 (by decide) rfl ?_
  rw [h2r.2.1]
  refine r_icmp_ne (pc := 24) (tgt := 46) C dX2_whereNow_24 (by decide)  (fun h24 => ?_) (fun h24 => ?_)
  · refine r_ldcZ (pc := 46) (a := -2000000001) C dX2_whereNow_46 rfl q1370 (by decide) ?_
    exact r_iret (pc := 48) C hQ dX2_whereNow_48 (Nat.le_of_ble_eq_true rfl) (Nat.le_of_ble_eq_true rfl) (fun G hG => ⟨_, hG, ⟨by first | rfl | (have hno : ¬ (wFa w, wFb w, wFc w) ∈ fl d := (fun q => h24 (congrArg iI (fl_mem h.1 q).1.2.2.1)); rw [nof_no hno]), h2b⟩⟩)
  · refine r_aload_n (pc := 27) C dX2_whereNow_27 rfl rfl ?_
    refine r_aload_n (pc := 28) C dX2_whereNow_28 rfl rfl ?_
    refine r_mget (pc := 29) (k := 26) C dX2_whereNow_29 rfl q1198 (by decide) rfl ?_
    rw [f1]
    refine r_aload_n (pc := 32) C dX2_whereNow_32 rfl rfl ?_
    refine r_mget (pc := 33) (k := 27) C dX2_whereNow_33 rfl q1199 (by decide) rfl ?_
    rw [f2]
    refine r_aload_n (pc := 36) C dX2_whereNow_36 rfl rfl ?_
    refine r_mget (pc := 37) (k := 28) C dX2_whereNow_37 rfl q1200 (by decide) rfl ?_
    rw [f3]
    refine r_minv (pc := 40) 3 C dX2_whereNow_40 (mt_numberOf (fl d) (wFa w) (wFb w) (wFc w) hFi.1 hFi.2.1 hFi.2.2 h2r.2.2.1) rfl (lw_V q1502 q1504 qs59 q92 q1505) (by decide +kernel) rfl rfl ⟨Nat.le_of_ble_eq_true rfl, Nat.le_of_ble_eq_true rfl⟩ (Nat.le_of_ble_eq_true rfl) ⟨Nat.le_of_ble_eq_true rfl, Nat.le_of_ble_eq_true rfl⟩ (fun v40 st40 h40 => ?_)
    obtain ⟨rfl, rfl⟩ := h40
    refine r_goto (pc := 43) (tgt := 48) C dX2_whereNow_43 (by decide) ?_
    exact r_iret (pc := 48) C hQ dX2_whereNow_48 (Nat.le_of_ble_eq_true rfl) (Nat.le_of_ble_eq_true rfl) (fun G hG => ⟨_, hG, ⟨by first | rfl | (have hno : ¬ (wFa w, wFb w, wFc w) ∈ fl d := (fun q => h24 (congrArg iI (fl_mem h.1 q).1.2.2.1)); rw [nof_no hno]), h2b⟩⟩)
set_option maxHeartbeats 800000 in
theorem mt_where {la : Launch} {X : XE} {mh : Nat} {mad : Nat → Nat} {G0 : Gh} {st : MSt} (ws : Wss) (d r : Int) (hr : i32 r) (hw : RoadsAre st ws) (h : RivAt st d) : MM la X mh mad G0 yX2_where cX2_where 2 (some .int) 4 86 [.int (iI r)] st (fun v st' => v = some (.int (iI (sWhere ws d r))) ∧ eqx tq st st') := by
  refine MG.of (by decide +kernel) (Nat.le_of_ble_eq_true rfl) ?_
  intro Z C hX hL hQ
  subst hX; subst hL
  change WW Z 2 (MOD mh mad G0 st) 0 0 0 [some (.ref mh), some (.int (iI r))] []
  have hdi : i32 d := by rcases h.1 with q | q; rw [q]; exact i32_0; unfold i32; omega
  refine r_aload_n (pc := 0) C dX2_where_0 rfl rfl ?_
  refine r_iload_n (pc := 1) C dX2_where_1 rfl rfl ?_
  refine r_minv (pc := 2) 1 C dX2_where_2 (mt_isRoad ws r hr hw) rfl (lw_V q1317 q1319 qs30 q92 q1320) (by decide +kernel) rfl rfl ⟨Nat.le_of_ble_eq_true rfl, Nat.le_of_ble_eq_true rfl⟩ (Nat.le_of_ble_eq_true rfl) ⟨Nat.le_of_ble_eq_true rfl, Nat.le_of_ble_eq_true rfl⟩ (fun v2 st2 h2 => ?_)
  obtain ⟨rfl, rfl⟩ := h2
  refine r_if_neB (pc := 5) (tgt := 11) C dX2_where_5 (by decide)  (fun h5 => ?_) (fun h5 => ?_)
  · obtain ⟨hR, hR6⟩ := hw.at h5
    refine r_aload_n (pc := 11) C dX2_where_11 rfl rfl ?_
    refine r_iload_n (pc := 12) C dX2_where_12 rfl rfl ?_
    refine r_minv (pc := 13) 1 C dX2_where_13 (mt_isClosed r (wsat ws r) hR6 hR) rfl (lw_V q1390 q1392 qs44 q92 q1393) (by decide +kernel) rfl rfl ⟨Nat.le_of_ble_eq_true rfl, Nat.le_of_ble_eq_true rfl⟩ (Nat.le_of_ble_eq_true rfl) ⟨Nat.le_of_ble_eq_true rfl, Nat.le_of_ble_eq_true rfl⟩ (fun v13 st13 h13 => ?_)
    obtain ⟨rfl, h13a, h13b⟩ := h13
    have h13r := h.x h13b (by decide)
    refine r_if_eqZ (pc := 16) (tgt := 34) C dX2_where_16 (by decide) (bi_i _) (fun h16 => ?_) (fun h16 => ?_)
    · refine r_ldcZ (pc := 34) (a := -2000000103) C dX2_where_34 rfl q1308 (by decide) ?_
      exact r_iret (pc := 36) C hQ dX2_where_36 (Nat.le_of_ble_eq_true rfl) (Nat.le_of_ble_eq_true rfl) (fun G hG => ⟨_, hG, ⟨by unfold sWhere; first | (rw [if_neg h5]; done) | (rw [if_pos h5, if_pos ⟨bi_n0 h16, h23⟩]; done) | (rw [if_pos h5, if_neg (fun q => by rw [bi_0.mp h16] at q; exact absurd q.1 (by decide))]; done) | (rw [if_pos h5, if_neg (fun q => h23 q.2)]; done), by first | exact (h13b.wk (by decide)).tr (h28b.wk (by decide)) | exact h13b.wk (by decide) | exact eqx.rf⟩⟩)
    · refine r_aload_n (pc := 19) C dX2_where_19 rfl rfl ?_
      refine r_minv (pc := 20) 0 C dX2_where_20 (mt_isRiver d hdi h13r.2.1) rfl (lw_V q1554 q1556 qs67 q92 q1557) (by decide +kernel) rfl rfl ⟨Nat.le_of_ble_eq_true rfl, Nat.le_of_ble_eq_true rfl⟩ (Nat.le_of_ble_eq_true rfl) ⟨Nat.le_of_ble_eq_true rfl, Nat.le_of_ble_eq_true rfl⟩ (fun v20 st20 h20 => ?_)
      obtain ⟨rfl, rfl⟩ := h20
      refine r_if_eqB (pc := 23) (tgt := 34) C dX2_where_23 (by decide)  (fun h23 => ?_) (fun h23 => ?_)
      · refine r_ldcZ (pc := 34) (a := -2000000103) C dX2_where_34 rfl q1308 (by decide) ?_
        exact r_iret (pc := 36) C hQ dX2_where_36 (Nat.le_of_ble_eq_true rfl) (Nat.le_of_ble_eq_true rfl) (fun G hG => ⟨_, hG, ⟨by unfold sWhere; first | (rw [if_neg h5]; done) | (rw [if_pos h5, if_pos ⟨bi_n0 h16, h23⟩]; done) | (rw [if_pos h5, if_neg (fun q => by rw [bi_0.mp h16] at q; exact absurd q.1 (by decide))]; done) | (rw [if_pos h5, if_neg (fun q => h23 q.2)]; done), by first | exact (h13b.wk (by decide)).tr (h28b.wk (by decide)) | exact h13b.wk (by decide) | exact eqx.rf⟩⟩)
      · refine r_aload_n (pc := 26) C dX2_where_26 rfl rfl ?_
        refine r_iload_n (pc := 27) C dX2_where_27 rfl rfl ?_
        refine r_minv (pc := 28) 1 C dX2_where_28 (mt_whereNow d r (wsat ws r) hR6 (hR.x h13b (by decide) (by decide)) (bi_n0 h16) (by omega) h13r) rfl (lw_V q1574 q1576 qs70 q92 q1577) (by decide +kernel) rfl rfl ⟨Nat.le_of_ble_eq_true rfl, Nat.le_of_ble_eq_true rfl⟩ (Nat.le_of_ble_eq_true rfl) ⟨Nat.le_of_ble_eq_true rfl, Nat.le_of_ble_eq_true rfl⟩ (fun v28 st28 h28 => ?_)
        obtain ⟨rfl, h28b⟩ := h28
        refine r_goto (pc := 31) (tgt := 36) C dX2_where_31 (by decide) ?_
        exact r_iret (pc := 36) C hQ dX2_where_36 (Nat.le_of_ble_eq_true rfl) (Nat.le_of_ble_eq_true rfl) (fun G hG => ⟨_, hG, ⟨by unfold sWhere; first | (rw [if_neg h5]; done) | (rw [if_pos h5, if_pos ⟨bi_n0 h16, h23⟩]; done) | (rw [if_pos h5, if_neg (fun q => by rw [bi_0.mp h16] at q; exact absurd q.1 (by decide))]; done) | (rw [if_pos h5, if_neg (fun q => h23 q.2)]; done), by first | exact (h13b.wk (by decide)).tr (h28b.wk (by decide)) | exact h13b.wk (by decide) | exact eqx.rf⟩⟩)
  · refine r_ldcZ (pc := 8) (a := -2000000101) C dX2_where_8 rfl q1321 (by decide) ?_
    exact r_iret (pc := 10) C hQ dX2_where_10 (Nat.le_of_ble_eq_true rfl) (Nat.le_of_ble_eq_true rfl) (fun G hG => ⟨_, hG, ⟨by unfold sWhere; first | (rw [if_neg h5]; done) | (rw [if_pos h5, if_pos ⟨bi_n0 h16, h23⟩]; done) | (rw [if_pos h5, if_neg (fun q => by rw [bi_0.mp h16] at q; exact absurd q.1 (by decide))]; done) | (rw [if_pos h5, if_neg (fun q => h23 q.2)]; done), by first | exact (h13b.wk (by decide)).tr (h28b.wk (by decide)) | exact h13b.wk (by decide) | exact eqx.rf⟩⟩)
set_option maxHeartbeats 800000 in
theorem mt_lay {la : Launch} {X : XE} {mh : Nat} {mad : Nat → Nat} {G0 : Gh} {st : MSt} (ws : Wss) (d c : Int) (hc : i32 c) (hw : RoadsAre st ws) (h : RivAt st d) : MM la X mh mad G0 yX2_lay cX2_lay 4 (some .int) 2 43 [.int (iI c)] st (fun v st' => v = some (.int (iI (sLay ws d c).1)) ∧ RoadsAre st' (sLay ws d c).2 ∧ eqx (2 :: 3 :: 4 :: tq) st st') := by
  refine MG.of (by decide +kernel) (Nat.le_of_ble_eq_true rfl) ?_
  intro Z C hX hL hQ
  subst hX; subst hL
  change WW Z 4 (MOD mh mad G0 st) 0 0 0 [some (.ref mh), some (.int (iI c)), none, none] []
  have hln := h.len
  have hl6 := hw.2.1
  have hcc : 0 ≤ c ∧ c ≤ (nC d : Int) - 1 → ((c.toNat : Nat) : Int) = c := fun q => by omega
  have loop : ∀ (h5 : 0 ≤ c ∧ c ≤ (nC d : Int) - 1), (wC d c.toNat).length ≤ 20 → ¬ ws.length = 6 → ∀ k : Nat, k ≤ (wC d c.toNat).length → ∀ sti : MSt, eqx [15, 16] st sti → sti.1 15 = ((wC d c.toNat).length : Int) → (∀ j : Nat, j < k → sti.2 16 j = bi (wl (wC d c.toNat) j)) → WW Z 4 (MOD mh mad G0 sti) 0 0 45 [some (.ref mh), some (.int (iI c)), some (.int (iI ((wC d c.toNat).length : Int))), some (.int (iI k))] [] := by
    intro h5 h20 h6
    have hpb := pC_b h.1 (show c.toNat < nC d by omega)
    have hwl := wC_len d c.toNat
    refine loopN _ _ (fun k hk ih sti g1 g2 g3 => ?_)
    have hr2 := h.x g1 (by decide)
    have hat : aC d c.toNat k < nR d := it_lt (fl_perm h.1) (fC_lt h.1 (by omega)) k
    refine r_iload_n (pc := 45) C dX2_lay_45 rfl rfl ?_
    refine r_iload_n (pc := 46) C dX2_lay_46 rfl rfl ?_
    refine r_icmp_geZ (pc := 47) (tgt := 80) C dX2_lay_47 (by decide) (by unfold i32; omega) (by unfold i32; omega) (fun h47 => ?_) (fun h47 => ?_)
    · refine r_aload_n (pc := 80) C dX2_lay_80 rfl rfl ?_
      refine r_minv (pc := 81) 0 C dX2_lay_81 (mt_keepNew ws (wC d c.toNat) (by omega) (by omega) (hw.x g1 (by decide) (by decide) (by decide)) ⟨g2, h20, fun j hj => g3 j (by omega)⟩) rfl (lw_V q1309 q1311 qs29 q92 q1312) (by decide +kernel) rfl rfl ⟨Nat.le_of_ble_eq_true rfl, Nat.le_of_ble_eq_true rfl⟩ (Nat.le_of_ble_eq_true rfl) ⟨Nat.le_of_ble_eq_true rfl, Nat.le_of_ble_eq_true rfl⟩ (fun v81 st81 h81 => ?_)
      obtain ⟨rfl, h81a, h81b⟩ := h81
      exact r_iret (pc := 84) C hQ dX2_lay_84 (Nat.le_of_ble_eq_true rfl) (Nat.le_of_ble_eq_true rfl) (fun G hG => ⟨_, hG, ⟨by unfold sLay sCome; rw [if_pos h5, if_neg (by omega), if_neg (by omega)], by unfold sLay sCome; rw [if_pos h5, if_neg (by omega), if_neg (by omega)]; exact h81a, (g1.wk (by decide)).tr (h81b.wk (by decide))⟩⟩)
    · refine r_aload_n (pc := 50) C dX2_lay_50 rfl rfl ?_
      refine r_mget (pc := 51) (k := 16) C dX2_lay_51 rfl q1188 (by decide) rfl ?_
      refine r_iload_n (pc := 54) C dX2_lay_54 rfl rfl ?_
      refine r_aload_n (pc := 55) C dX2_lay_55 rfl rfl ?_
      refine r_aload_n (pc := 56) C dX2_lay_56 rfl rfl ?_
      refine r_iload_n (pc := 57) C dX2_lay_57 rfl rfl ?_
      refine r_iload_n (pc := 58) C dX2_lay_58 rfl rfl ?_
      refine r_minv (pc := 59) 2 C dX2_lay_59 ((show MM _ _ _ _ _ yX2_formAt cX2_formAt 5 (some .int) 0 0 [.int (iI c), .int (iI k)] _ (fun v st' => v = some (.int (iI ((aC d c.toNat k : Nat) : Int))) ∧ st' = sti) from (by have q := mt_formAt (la := zl Z) (X := zX Z) (mh := mh) (mad := mad) (G0 := G0) d c.toNat k (by omega) (by omega) hr2; rwa [hcc h5] at q))) rfl (lw_V q1538 q1540 qs65 q92 q1541) (by decide +kernel) rfl rfl ⟨Nat.le_of_ble_eq_true rfl, Nat.le_of_ble_eq_true rfl⟩ (Nat.le_of_ble_eq_true rfl) ⟨Nat.le_of_ble_eq_true rfl, Nat.le_of_ble_eq_true rfl⟩ (fun v59 st59 h59 => ?_)
      obtain ⟨rfl, rfl⟩ := h59
      refine r_minv (pc := 62) 1 C dX2_lay_62 (mt_isLeft (fl d) (aC d c.toNat k) hat hr2.2.2.1) rfl (lw_V q1498 q1500 qs58 q92 q1501) (by decide +kernel) rfl rfl ⟨Nat.le_of_ble_eq_true rfl, Nat.le_of_ble_eq_true rfl⟩ (Nat.le_of_ble_eq_true rfl) ⟨Nat.le_of_ble_eq_true rfl, Nat.le_of_ble_eq_true rfl⟩ (fun v62 st62 h62 => ?_)
      obtain ⟨rfl, rfl⟩ := h62
      refine r_if_eqZ (pc := 65) (tgt := 72) C dX2_lay_65 (by decide) (bi_i _) (fun h65 => ?_) (fun h65 => ?_)
      · refine r_iconstZ (pc := 72) C dX2_lay_72 ?_
        refine r_mast (pc := 73) (L := 20) C dX2_lay_73 (by decide) rfl (by omega) (by omega) ?_
        refine r_iincZ (pc := 74) C dX2_lay_74 rfl (by decide) ?_
        refine r_goto (pc := 77) (tgt := 45) C dX2_lay_77 (by decide) ?_
        refine ih (by omega) _ (g1.aput (by decide)) g2 (fun j hj => ?_)
        by_cases e : j = k
        · subst e; rw [aput_eq, wC_at d c.toNat (by omega)]; first | (rw [bi_n0 h65]; rfl) | (rw [bi_0.mp h65]; rfl)
        · rw [aput_nj _ _ _ (by omega)]; exact g3 j (by omega)
      · refine r_iconstZ (pc := 68) C dX2_lay_68 ?_
        refine r_goto (pc := 69) (tgt := 73) C dX2_lay_69 (by decide) ?_
        refine r_mast (pc := 73) (L := 20) C dX2_lay_73 (by decide) rfl (by omega) (by omega) ?_
        refine r_iincZ (pc := 74) C dX2_lay_74 rfl (by decide) ?_
        refine r_goto (pc := 77) (tgt := 45) C dX2_lay_77 (by decide) ?_
        refine ih (by omega) _ (g1.aput (by decide)) g2 (fun j hj => ?_)
        by_cases e : j = k
        · subst e; rw [aput_eq, wC_at d c.toNat (by omega)]; first | (rw [bi_n0 h65]; rfl) | (rw [bi_0.mp h65]; rfl)
        · rw [aput_nj _ _ _ (by omega)]; exact g3 j (by omega)
  refine r_aload_n (pc := 0) C dX2_lay_0 rfl rfl ?_
  refine r_iload_n (pc := 1) C dX2_lay_1 rfl rfl ?_
  refine r_minv (pc := 2) 1 C dX2_lay_2 (mt_isCycle d c hc h) rfl (lw_V q1518 q1520 qs61 q92 q1521) (by decide +kernel) rfl rfl ⟨Nat.le_of_ble_eq_true rfl, Nat.le_of_ble_eq_true rfl⟩ (Nat.le_of_ble_eq_true rfl) ⟨Nat.le_of_ble_eq_true rfl, Nat.le_of_ble_eq_true rfl⟩ (fun v2 st2 h2 => ?_)
  obtain ⟨rfl, rfl⟩ := h2
  refine r_if_neB (pc := 5) (tgt := 11) C dX2_lay_5 (by decide)  (fun h5 => ?_) (fun h5 => ?_)
  · refine r_aload_n (pc := 11) C dX2_lay_11 rfl rfl ?_
    refine r_iload_n (pc := 12) C dX2_lay_12 rfl rfl ?_
    have hpb := pC_b h.1 (show c.toNat < nC d by omega)
    have hwl := wC_len d c.toNat
    refine r_minv (pc := 13) 1 C dX2_lay_13 ((show MM _ _ _ _ _ yX2_sizeOf cX2_sizeOf 4 (some .int) 0 0 [.int (iI c)] _ (fun v st' => v = some (.int (iI ((wC d c.toNat).length : Int))) ∧ st' = st2) from (by have q := mt_sizeOf (la := zl Z) (X := zX Z) (mh := mh) (mad := mad) (G0 := G0) d c.toNat (by omega) h; rwa [hcc h5] at q))) rfl (lw_V q1526 q1528 qs63 q92 q1529) (by decide +kernel) rfl rfl ⟨Nat.le_of_ble_eq_true rfl, Nat.le_of_ble_eq_true rfl⟩ (Nat.le_of_ble_eq_true rfl) ⟨Nat.le_of_ble_eq_true rfl, Nat.le_of_ble_eq_true rfl⟩ (fun v13 st13 h13 => ?_)
    obtain ⟨rfl, rfl⟩ := h13
    refine r_istore_n (pc := 16) C dX2_lay_16 rfl (by decide) ?_
    refine r_iload_n (pc := 17) C dX2_lay_17 rfl rfl ?_
    refine r_bipushZ (pc := 18) C dX2_lay_18 (by decide) ?_
    refine r_icmp_leZ (pc := 20) (tgt := 26) C dX2_lay_20 (by decide) (by unfold i32; omega) (by unfold i32; omega) (fun h20 => ?_) (fun h20 => ?_)
    · refine r_aload_n (pc := 26) C dX2_lay_26 rfl rfl ?_
      refine r_mget (pc := 27) (k := 2) C dX2_lay_27 rfl q1174 (by decide) rfl ?_
      rw [hw.1]
      refine r_bipushZ (pc := 30) C dX2_lay_30 (by decide) ?_
      refine r_icmp_neZ (pc := 32) (tgt := 38) C dX2_lay_32 (by decide) (by unfold i32; omega) (by unfold i32; omega) (fun h32 => ?_) (fun h32 => ?_)
      · refine r_aload_n (pc := 38) C dX2_lay_38 rfl rfl ?_
        refine r_iload_n (pc := 39) C dX2_lay_39 rfl rfl ?_
        refine r_mput (pc := 40) (k := 15) (ty := .int) C dX2_lay_40 rfl q1187 (by decide) rfl (by decide +kernel) rfl rfl (ms_15 mad _ _) rfl (Or.inl rfl) ?_
        refine r_iconstZ (pc := 43) C dX2_lay_43 ?_
        refine r_istore_n (pc := 44) C dX2_lay_44 rfl (by decide) ?_
        exact loop h5 (by omega) (by omega) 0 (Nat.zero_le _) _ (eqx.rf.iput (by decide)) (iput_eq _ _ _) (fun j hj => absurd hj (Nat.not_lt_zero _))
      · refine r_ldcZ (pc := 35) (a := -2000000104) C dX2_lay_35 rfl q1287 (by decide) ?_
        exact r_iret (pc := 37) C hQ dX2_lay_37 (Nat.le_of_ble_eq_true rfl) (Nat.le_of_ble_eq_true rfl) (fun G hG => ⟨_, hG, ⟨by unfold sLay sCome; rw [if_pos h5, if_neg (by omega), if_pos (by omega)], by unfold sLay sCome; rw [if_pos h5, if_neg (by omega), if_pos (by omega)]; exact hw, eqx.rf⟩⟩)
    · refine r_ldcZ (pc := 23) (a := -2000000103) C dX2_lay_23 rfl q1308 (by decide) ?_
      exact r_iret (pc := 25) C hQ dX2_lay_25 (Nat.le_of_ble_eq_true rfl) (Nat.le_of_ble_eq_true rfl) (fun G hG => ⟨_, hG, ⟨by unfold sLay sCome; rw [if_pos h5, if_pos (by omega)], by unfold sLay sCome; rw [if_pos h5, if_pos (by omega)]; exact hw, eqx.rf⟩⟩)
  · refine r_ldcZ (pc := 8) (a := -2000000101) C dX2_lay_8 rfl q1321 (by decide) ?_
    exact r_iret (pc := 10) C hQ dX2_lay_10 (Nat.le_of_ble_eq_true rfl) (Nat.le_of_ble_eq_true rfl) (fun G hG => ⟨_, hG, ⟨by unfold sLay; rw [if_neg h5], by unfold sLay; rw [if_neg h5]; exact hw, eqx.rf⟩⟩)

