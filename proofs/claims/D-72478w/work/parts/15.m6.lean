/-! the reference's methods: crossings -/
set_option maxRecDepth 100000
theorem stepmod (a n : Int) : (a % n + n - 1) % n = (a - 1) % n := by
  have h := Int.emod_add_mul_ediv a n
  have e : a % n + n - 1 = (a - 1) + n * (1 - a / n) := by rw [Int.mul_sub, Int.mul_one]; omega
  rw [e, Int.add_mul_emod_self_left]
theorem wb_wrap (w : List Bool) {i : Nat} (hi : i < w.length) (k : Nat) : wb w i (w.length * k) = wl w i := by
  unfold wb
  have e : ((i : Int) - ((w.length * k : Nat) : Int)) = (i : Int) + (w.length : Int) * (-(k : Int)) := by
    rw [Int.natCast_mul, Int.mul_neg]; omega
  rw [e, Int.add_mul_emod_self_left, Int.emod_eq_of_lt (by omega) (by omega)]
  simp
theorem crossT_spec {u v : List Bool} {i j : Nat} (hi : i < u.length) (hj : j < v.length) (hne : wl u i ≠ wl v j) {t : Nat} (h1 : ∀ k, k < t → wb u i (k + 1) = wb v j (k + 1)) (h2 : wb u i (t + 1) ≠ wb v j (t + 1)) : crossT u v i j = t + 1 := by
  unfold crossT
  have hp : 0 < u.length * v.length := Nat.mul_pos (by omega) (by omega)
  have ht : t < u.length * v.length := by
    rcases Nat.lt_or_ge t (u.length * v.length) with q | q
    · exact q
    · have h3 := h1 (u.length * v.length - 1) (by omega)
      rw [show u.length * v.length - 1 + 1 = u.length * v.length by omega] at h3
      rw [wb_wrap u hi, Nat.mul_comm, wb_wrap v hj] at h3
      exact absurd h3 hne
  rw [fstN_eq (i := t) (by omega) (fun k hk => by rw [h1 k hk]; simp) (fun _ => by simpa using h2)]
theorem LookAt.bk {st : MSt} {w : List Bool} (h : LookAt st w) (i t : Nat) : st.2 19 (((i : Int) - (t : Int)) % (w.length : Int)) = bi (wb w i t) := by
  have hn := h.2.1.1
  have h0 := Int.emod_nonneg ((i : Int) - (t : Int)) (show (w.length : Int) ≠ 0 by omega)
  have h1 := Int.emod_lt_of_pos ((i : Int) - (t : Int)) (show (0 : Int) < w.length by omega)
  exact h.z _ (by omega) (by omega)
theorem OtherAt.z {st : MSt} {w : List Bool} (h : OtherAt st w) {z : Int} (j : Nat) (hj : j < w.length) (hz : z = (j : Int)) : st.2 21 z = bi (wl w j) := by
  rw [hz]
  exact h.2.2 j hj
theorem OtherAt.bk {st : MSt} {w : List Bool} (h : OtherAt st w) (i t : Nat) : st.2 21 (((i : Int) - (t : Int)) % (w.length : Int)) = bi (wb w i t) := by
  have hn := h.2.1.1
  have h0 := Int.emod_nonneg ((i : Int) - (t : Int)) (show (w.length : Int) ≠ 0 by omega)
  have h1 := Int.emod_lt_of_pos ((i : Int) - (t : Int)) (show (0 : Int) < w.length by omega)
  exact h.z _ (by omega) (by omega)
set_option maxHeartbeats 800000 in
theorem mt_isCross {la : Launch} {X : XE} {mh : Nat} {mad : Nat → Nat} {G0 : Gh} {st : MSt} (u v : List Bool) (i j : Nat) (hi : i < u.length) (hj : j < v.length) (hu : LookAt st u) (hv : OtherAt st v) : MM la X mh mad G0 yX2_isCross cX2_isCross 7 (some .boolean) 0 0 [.int (iI i), .int (iI j)] st (fun z st' => z = some (.int (iI (bi (isX u v i j)))) ∧ st' = st) := by
  refine MG.of (by decide +kernel) (Nat.le_of_ble_eq_true rfl) ?_
  intro Z C hX hL hQ
  subst hX; subst hL
  change WW Z 7 (MOD mh mad G0 st) 0 0 0 [some (.ref mh), some (.int (iI i)), some (.int (iI j)), none, none, none, none] []
  have hun := hu.2.1
  have hvn := hv.2.1
  have bx : ∀ t : Nat, 0 ≤ ((i : Int) - t) % (u.length : Int) ∧ ((i : Int) - t) % (u.length : Int) < u.length := fun t => ⟨Int.emod_nonneg _ (by omega), Int.emod_lt_of_pos _ (by omega)⟩
  have by' : ∀ t : Nat, 0 ≤ ((j : Int) - t) % (v.length : Int) ∧ ((j : Int) - t) % (v.length : Int) < v.length := fun t => ⟨Int.emod_nonneg _ (by omega), Int.emod_lt_of_pos _ (by omega)⟩
  have loop : wl u i ≠ wl v j → ∀ t : Nat, t ≤ u.length * v.length → (∀ k, k < t → wb u i (k + 1) = wb v j (k + 1)) → WW Z 7 (MOD mh mad G0 st) 0 0 29 [some (.ref mh), some (.int (iI i)), some (.int (iI j)), some (.int (iI (bi (wl u i)))), some (.int (iI (bi (wl v j)))), some (.int (iI (((i : Int) - t) % (u.length : Int)))), some (.int (iI (((j : Int) - t) % (v.length : Int))))] [] := by
    intro hne
    refine loopN _ _ (fun t ht ih g => ?_)
    have ht1 : wb u i (t + 1) = wb v j (t + 1) → t < u.length * v.length := by
      intro he
      rcases Nat.lt_or_ge t (u.length * v.length) with q | q
      · exact q
      · have hp : 0 < u.length * v.length := Nat.mul_pos (by omega) (by omega)
        have h3 := g (u.length * v.length - 1) (by omega)
        rw [show u.length * v.length - 1 + 1 = u.length * v.length by omega] at h3
        rw [wb_wrap u hi, Nat.mul_comm, wb_wrap v hj] at h3
        exact absurd h3 hne
    have b1 := bx t
    have b2 := by' t
    have b3 := bx (t + 1)
    have b4 := by' (t + 1)
    have s1 : (((i : Int) - t) % (u.length : Int) + (u.length : Int) - 1) % (u.length : Int) = ((i : Int) - ((t + 1 : Nat) : Int)) % (u.length : Int) := by rw [stepmod]; congr 1; omega
    have s2 : (((j : Int) - t) % (v.length : Int) + (v.length : Int) - 1) % (v.length : Int) = ((j : Int) - ((t + 1 : Nat) : Int)) % (v.length : Int) := by rw [stepmod]; congr 1; omega
    refine r_iload (pc := 29) C dX2_isCross_29 rfl ?_
    refine r_aload_n (pc := 31) C dX2_isCross_31 rfl rfl ?_
    refine r_mget (pc := 32) (k := 18) C dX2_isCross_32 rfl q1190 (by decide) rfl ?_
    rw [hu.1]
    refine r_iaddZ (pc := 35) C dX2_isCross_35 ?_
    refine r_iconstZ (pc := 36) C dX2_isCross_36 ?_
    refine r_isubZ (pc := 37) C dX2_isCross_37 ?_
    refine r_aload_n (pc := 38) C dX2_isCross_38 rfl rfl ?_
    refine r_mget (pc := 39) (k := 18) C dX2_isCross_39 rfl q1190 (by decide) rfl ?_
    rw [hu.1]
    refine r_iremE (pc := 42) C dX2_isCross_42 (by unfold i32; omega) (by unfold i32; omega) (by omega) (by omega) ?_
    rw [s1]
    refine r_istore (pc := 43) C dX2_isCross_43 (by decide) ?_
    refine r_iload (pc := 45) C dX2_isCross_45 rfl ?_
    refine r_aload_n (pc := 47) C dX2_isCross_47 rfl rfl ?_
    refine r_mget (pc := 48) (k := 20) C dX2_isCross_48 rfl q1192 (by decide) rfl ?_
    rw [hv.1]
    refine r_iaddZ (pc := 51) C dX2_isCross_51 ?_
    refine r_iconstZ (pc := 52) C dX2_isCross_52 ?_
    refine r_isubZ (pc := 53) C dX2_isCross_53 ?_
    refine r_aload_n (pc := 54) C dX2_isCross_54 rfl rfl ?_
    refine r_mget (pc := 55) (k := 20) C dX2_isCross_55 rfl q1192 (by decide) rfl ?_
    rw [hv.1]
    refine r_iremE (pc := 58) C dX2_isCross_58 (by unfold i32; omega) (by unfold i32; omega) (by omega) (by omega) ?_
    rw [s2]
    refine r_istore (pc := 59) C dX2_isCross_59 (by decide) ?_
    refine r_aload_n (pc := 61) C dX2_isCross_61 rfl rfl ?_
    refine r_mget (pc := 62) (k := 19) C dX2_isCross_62 rfl q1191 (by decide) rfl ?_
    refine r_iload (pc := 65) C dX2_isCross_65 rfl ?_
    refine r_mald (pc := 67) (L := 20) C dX2_isCross_67 (by decide) rfl (by omega) (by omega) ?_
    rw [hu.bk i (t + 1)]
    refine r_aload_n (pc := 68) C dX2_isCross_68 rfl rfl ?_
    refine r_mget (pc := 69) (k := 21) C dX2_isCross_69 rfl q1193 (by decide) rfl ?_
    refine r_iload (pc := 72) C dX2_isCross_72 rfl ?_
    refine r_mald (pc := 74) (L := 20) C dX2_isCross_74 (by decide) rfl (by omega) (by omega) ?_
    rw [hv.bk j (t + 1)]
    refine r_icmp_eqZ (pc := 75) (tgt := 29) C dX2_isCross_75 (by decide) (bi_i _) (bi_i _) (fun h75 => ?_) (fun h75 => ?_)
    · exact ih (ht1 (bi_inj.mp h75)) (fun k hk => by by_cases e : k = t; rw [e]; exact bi_inj.mp h75; exact g k (by omega))
    · refine r_aload_n (pc := 78) C dX2_isCross_78 rfl rfl ?_
      refine r_mget (pc := 79) (k := 19) C dX2_isCross_79 rfl q1191 (by decide) rfl ?_
      refine r_iload (pc := 82) C dX2_isCross_82 rfl ?_
      refine r_mald (pc := 84) (L := 20) C dX2_isCross_84 (by decide) rfl (by omega) (by omega) ?_
      rw [hu.bk i (t + 1)]
      refine r_iload (pc := 85) C dX2_isCross_85 rfl ?_
      refine r_icmp_neZ (pc := 87) (tgt := 94) C dX2_isCross_87 (by decide) (bi_i _) (bi_i _) (fun h87 => ?_) (fun h87 => ?_)
      · refine r_iconstZ (pc := 94) C dX2_isCross_94 ?_
        exact r_zret (pc := 95) C hQ dX2_isCross_95 (by first | exact b2_nar _ | decide) (Nat.le_of_ble_eq_true rfl) (Nat.le_of_ble_eq_true rfl) (fun G hG => ⟨_, hG, ⟨by unfold isX; rw [crossT_spec hi hj hne g (fun e => h75 (by rw [e]))]; first | (rw [show (wl u i != wl v j) = true from bne_iff_ne.mpr hne, show (wb u i (t + 1) == wl v j) = true from beq_iff_eq.mpr (bi_inj.mp h87)]; rfl) | (rw [show (wb u i (t + 1) == wl v j) = false from beq_eq_false_iff_ne.mpr (fun e => h87 (by rw [e]))]; simp; rfl), rfl⟩⟩)
      · refine r_iconstZ (pc := 90) C dX2_isCross_90 ?_
        refine r_goto (pc := 91) (tgt := 95) C dX2_isCross_91 (by decide) ?_
        exact r_zret (pc := 95) C hQ dX2_isCross_95 (by first | exact b2_nar _ | decide) (Nat.le_of_ble_eq_true rfl) (Nat.le_of_ble_eq_true rfl) (fun G hG => ⟨_, hG, ⟨by unfold isX; rw [crossT_spec hi hj hne g (fun e => h75 (by rw [e]))]; first | (rw [show (wl u i != wl v j) = true from bne_iff_ne.mpr hne, show (wb u i (t + 1) == wl v j) = true from beq_iff_eq.mpr (bi_inj.mp h87)]; rfl) | (rw [show (wb u i (t + 1) == wl v j) = false from beq_eq_false_iff_ne.mpr (fun e => h87 (by rw [e]))]; simp; rfl), rfl⟩⟩)
  refine r_aload_n (pc := 0) C dX2_isCross_0 rfl rfl ?_
  refine r_mget (pc := 1) (k := 19) C dX2_isCross_1 rfl q1191 (by decide) rfl ?_
  refine r_iload_n (pc := 4) C dX2_isCross_4 rfl rfl ?_
  refine r_mald (pc := 5) (L := 20) C dX2_isCross_5 (by decide) rfl (by omega) (by omega) ?_
  rw [hu.2.2 i hi]
  refine r_istore_n (pc := 6) C dX2_isCross_6 rfl (by decide) ?_
  refine r_aload_n (pc := 7) C dX2_isCross_7 rfl rfl ?_
  refine r_mget (pc := 8) (k := 21) C dX2_isCross_8 rfl q1193 (by decide) rfl ?_
  refine r_iload_n (pc := 11) C dX2_isCross_11 rfl rfl ?_
  refine r_mald (pc := 12) (L := 20) C dX2_isCross_12 (by decide) rfl (by omega) (by omega) ?_
  rw [hv.2.2 j hj]
  refine r_istore (pc := 13) C dX2_isCross_13 (by decide) ?_
  refine r_iload_n (pc := 15) C dX2_isCross_15 rfl rfl ?_
  refine r_iload (pc := 16) C dX2_isCross_16 rfl ?_
  refine r_icmp_neZ (pc := 18) (tgt := 23) C dX2_isCross_18 (by decide) (bi_i _) (bi_i _) (fun h18 => ?_) (fun h18 => ?_)
  · refine r_iload_n (pc := 23) C dX2_isCross_23 rfl rfl ?_
    refine r_istore (pc := 24) C dX2_isCross_24 (by decide) ?_
    refine r_iload_n (pc := 26) C dX2_isCross_26 rfl rfl ?_
    refine r_istore (pc := 27) C dX2_isCross_27 (by decide) ?_
    have e1 : (i : Int) = ((i : Int) - (0 : Nat)) % (u.length : Int) := (by rw [Int.natCast_zero, Int.sub_zero, Int.emod_eq_of_lt (by omega) (by omega)])
    have e2 : (j : Int) = ((j : Int) - (0 : Nat)) % (v.length : Int) := (by rw [Int.natCast_zero, Int.sub_zero, Int.emod_eq_of_lt (by omega) (by omega)])
    have L := loop (fun e => h18 (by rw [e])) 0 (Nat.zero_le _) (fun k hk => absurd hk (Nat.not_lt_zero _))
    rw [← e1, ← e2] at L
    exact L
  · refine r_iconstZ (pc := 21) C dX2_isCross_21 ?_
    exact r_zret (pc := 22) C hQ dX2_isCross_22 (by first | exact b2_nar _ | decide) (Nat.le_of_ble_eq_true rfl) (Nat.le_of_ble_eq_true rfl) (fun G hG => ⟨_, hG, ⟨by unfold isX; rw [bi_inj.mp h18]; simp; rfl, rfl⟩⟩)
set_option maxHeartbeats 800000 in
theorem mt_crossNow {la : Launch} {X : XE} {mh : Nat} {mad : Nat → Nat} {G0 : Gh} {st : MSt} (u v : List Bool) (hu : LookAt st u) (hv : OtherAt st v) : MM la X mh mad G0 yX2_crossNow cX2_crossNow 4 (some .int) 1 26 [] st (fun z st' => z = some (.int (iI (sCross u v))) ∧ st' = st) := by
  refine MG.of (by decide +kernel) (Nat.le_of_ble_eq_true rfl) ?_
  intro Z C hX hL hQ
  subst hX; subst hL
  change WW Z 4 (MOD mh mad G0 st) 0 0 0 [some (.ref mh), none, none, none] []
  have hun := hu.2.1
  have hvn := hv.2.1
  have loop : ∀ i : Nat, i ≤ u.length → ∀ v3 : Option Value, WW Z 4 (MOD mh mad G0 st) 0 0 4 [some (.ref mh), some (.int (iI (sumN (fun i => sumN (fun j => bi (isX u v i j)) v.length) i))), some (.int (iI i)), v3] [] := by
    refine loopN _ _ (fun i hi ih v3 => ?_)
    have inner : i < u.length → ∀ j : Nat, j ≤ v.length → WW Z 4 (MOD mh mad G0 st) 0 0 14 [some (.ref mh), some (.int (iI (sumN (fun i => sumN (fun j => bi (isX u v i j)) v.length) i + sumN (fun j => bi (isX u v i j)) j))), some (.int (iI i)), some (.int (iI j))] [] := by
      intro hil
      refine loopN _ _ (fun j hj ihj => ?_)
      refine r_iload_n (pc := 14) C dX2_crossNow_14 rfl rfl ?_
      refine r_aload_n (pc := 15) C dX2_crossNow_15 rfl rfl ?_
      refine r_mget (pc := 16) (k := 20) C dX2_crossNow_16 rfl q1192 (by decide) rfl ?_
      rw [hv.1]
      refine r_icmp_geZ (pc := 19) (tgt := 45) C dX2_crossNow_19 (by decide) (by unfold i32; omega) (by unfold i32; omega) (fun h19 => ?_) (fun h19 => ?_)
      · refine r_iincZ (pc := 45) C dX2_crossNow_45 rfl (by decide) ?_
        refine r_goto (pc := 48) (tgt := 4) C dX2_crossNow_48 (by decide) ?_
        have ih2 := ih hil (some (.int (iI j)))
        rw [show sumN (fun i => sumN (fun j => bi (isX u v i j)) v.length) (i + 1) = sumN (fun i => sumN (fun j => bi (isX u v i j)) v.length) i + sumN (fun j => bi (isX u v i j)) v.length from rfl] at ih2
        rw [show j = v.length by omega] at ih2 ⊢
        exact ih2
      · refine r_iload_n (pc := 22) C dX2_crossNow_22 rfl rfl ?_
        refine r_aload_n (pc := 23) C dX2_crossNow_23 rfl rfl ?_
        refine r_iload_n (pc := 24) C dX2_crossNow_24 rfl rfl ?_
        refine r_iload_n (pc := 25) C dX2_crossNow_25 rfl rfl ?_
        refine r_minv (pc := 26) 2 C dX2_crossNow_26 (mt_isCross u v i j (by omega) (by omega) hu hv) rfl (lw_V q1439 q1441 qs51 q92 q1442) (by decide +kernel) rfl rfl ⟨Nat.le_of_ble_eq_true rfl, Nat.le_of_ble_eq_true rfl⟩ (Nat.le_of_ble_eq_true rfl) ⟨Nat.le_of_ble_eq_true rfl, Nat.le_of_ble_eq_true rfl⟩ (fun v26 st26 h26 => ?_)
        obtain ⟨rfl, rfl⟩ := h26
        refine r_if_eqZ (pc := 29) (tgt := 36) C dX2_crossNow_29 (by decide) (bi_i _) (fun h29 => ?_) (fun h29 => ?_)
        · refine r_iconstZ (pc := 36) C dX2_crossNow_36 ?_
          refine r_iaddZ (pc := 37) C dX2_crossNow_37 ?_
          refine r_istore_n (pc := 38) C dX2_crossNow_38 rfl (by decide) ?_
          refine r_iincZ (pc := 39) C dX2_crossNow_39 rfl (by decide) ?_
          refine r_goto (pc := 42) (tgt := 14) C dX2_crossNow_42 (by decide) ?_
          have ih2 := ihj (by omega)
          rw [show sumN (fun j => bi (isX u v i j)) (j + 1) = sumN (fun j => bi (isX u v i j)) j + bi (isX u v i j) from rfl, ← Int.add_assoc] at ih2
          first | (rw [bi_0.mp h29] at ih2; exact ih2) | (rw [bi_n0 h29] at ih2; exact ih2)
        · refine r_iconstZ (pc := 32) C dX2_crossNow_32 ?_
          refine r_goto (pc := 33) (tgt := 37) C dX2_crossNow_33 (by decide) ?_
          refine r_iaddZ (pc := 37) C dX2_crossNow_37 ?_
          refine r_istore_n (pc := 38) C dX2_crossNow_38 rfl (by decide) ?_
          refine r_iincZ (pc := 39) C dX2_crossNow_39 rfl (by decide) ?_
          refine r_goto (pc := 42) (tgt := 14) C dX2_crossNow_42 (by decide) ?_
          have ih2 := ihj (by omega)
          rw [show sumN (fun j => bi (isX u v i j)) (j + 1) = sumN (fun j => bi (isX u v i j)) j + bi (isX u v i j) from rfl, ← Int.add_assoc] at ih2
          first | (rw [bi_0.mp h29] at ih2; exact ih2) | (rw [bi_n0 h29] at ih2; exact ih2)
    refine r_iload_n (pc := 4) C dX2_crossNow_4 rfl rfl ?_
    refine r_aload_n (pc := 5) C dX2_crossNow_5 rfl rfl ?_
    refine r_mget (pc := 6) (k := 18) C dX2_crossNow_6 rfl q1190 (by decide) rfl ?_
    rw [hu.1]
    refine r_icmp_geZ (pc := 9) (tgt := 51) C dX2_crossNow_9 (by decide) (by unfold i32; omega) (by unfold i32; omega) (fun h9 => ?_) (fun h9 => ?_)
    · refine r_iload_n (pc := 51) C dX2_crossNow_51 rfl rfl ?_
      exact r_iret (pc := 52) C hQ dX2_crossNow_52 (Nat.le_of_ble_eq_true rfl) (Nat.le_of_ble_eq_true rfl) (fun G hG => ⟨_, hG, ⟨by rw [show i = u.length by omega]; rfl, rfl⟩⟩)
    · refine r_iconstZ (pc := 12) C dX2_crossNow_12 ?_
      refine r_istore_n (pc := 13) C dX2_crossNow_13 rfl (by decide) ?_
      have L := inner (by omega) 0 (Nat.zero_le _)
      rw [show sumN (fun j => bi (isX u v i j)) 0 = 0 from rfl, Int.add_zero] at L
      exact L
  refine r_iconstZ (pc := 0) C dX2_crossNow_0 ?_
  refine r_istore_n (pc := 1) C dX2_crossNow_1 rfl (by decide) ?_
  refine r_iconstZ (pc := 2) C dX2_crossNow_2 ?_
  refine r_istore_n (pc := 3) C dX2_crossNow_3 rfl (by decide) ?_
  exact loop 0 (Nat.zero_le _) _
set_option maxHeartbeats 800000 in
theorem mt_crossings {la : Launch} {X : XE} {mh : Nat} {mad : Nat → Nat} {G0 : Gh} {st : MSt} (r q : Int) (u v : List Bool) (hr : 0 ≤ r ∧ r < 6) (hq : 0 ≤ q ∧ q < 6) (hu : RoadIs st r u) (hv : RoadIs st q v) : MM la X mh mad G0 yX2_crossings cX2_crossings 3 (some .int) 2 49 [.int (iI r), .int (iI q)] st (fun z st' => z = some (.int (iI (sCross u v))) ∧ eqx [18, 19, 20, 21] st st') := by
  refine MG.of (by decide +kernel) (Nat.le_of_ble_eq_true rfl) ?_
  intro Z C hX hL hQ
  subst hX; subst hL
  change WW Z 3 (MOD mh mad G0 st) 0 0 0 [some (.ref mh), some (.int (iI r)), some (.int (iI q))] []
  refine r_aload_n (pc := 0) C dX2_crossings_0 rfl rfl ?_
  refine r_iload_n (pc := 1) C dX2_crossings_1 rfl rfl ?_
  refine r_minv (pc := 2) 1 C dX2_crossings_2 (mt_look q v hq hv) rfl (lw_V q1326 q1328 qs32 q92 q1329) (by decide +kernel) rfl rfl ⟨Nat.le_of_ble_eq_true rfl, Nat.le_of_ble_eq_true rfl⟩ (Nat.le_of_ble_eq_true rfl) ⟨Nat.le_of_ble_eq_true rfl, Nat.le_of_ble_eq_true rfl⟩ (fun v2 st2 h2 => ?_)
  obtain ⟨rfl, h2a, h2b⟩ := h2
  refine r_aload_n (pc := 5) C dX2_crossings_5 rfl rfl ?_
  refine r_iconstZ (pc := 6) C dX2_crossings_6 ?_
  refine r_iconstZ (pc := 7) C dX2_crossings_7 ?_
  refine r_minv (pc := 8) 2 C dX2_crossings_8 (mt_layOther v false false h2a) rfl (lw_V q1362 q1364 qs41 q92 q1365) (by decide +kernel) rfl rfl ⟨Nat.le_of_ble_eq_true rfl, Nat.le_of_ble_eq_true rfl⟩ (Nat.le_of_ble_eq_true rfl) ⟨Nat.le_of_ble_eq_true rfl, Nat.le_of_ble_eq_true rfl⟩ (fun v8 st8 h8 => ?_)
  obtain ⟨rfl, h8a, h8b⟩ := h8
  rw [wOther_ff] at h8a
  refine r_aload_n (pc := 11) C dX2_crossings_11 rfl rfl ?_
  refine r_iload_n (pc := 12) C dX2_crossings_12 rfl rfl ?_
  refine r_minv (pc := 13) 1 C dX2_crossings_13 (mt_look r u hr ((hu.x h2b (by decide) (by decide)).x h8b (by decide) (by decide))) rfl (lw_V q1326 q1328 qs32 q92 q1329) (by decide +kernel) rfl rfl ⟨Nat.le_of_ble_eq_true rfl, Nat.le_of_ble_eq_true rfl⟩ (Nat.le_of_ble_eq_true rfl) ⟨Nat.le_of_ble_eq_true rfl, Nat.le_of_ble_eq_true rfl⟩ (fun v13 st13 h13 => ?_)
  obtain ⟨rfl, h13a, h13b⟩ := h13
  refine r_aload_n (pc := 16) C dX2_crossings_16 rfl rfl ?_
  refine r_minv (pc := 17) 0 C dX2_crossings_17 (mt_crossNow u v h13a (h8a.x h13b (by decide) (by decide))) rfl (lw_V q1435 q1437 qs50 q92 q1438) (by decide +kernel) rfl rfl ⟨Nat.le_of_ble_eq_true rfl, Nat.le_of_ble_eq_true rfl⟩ (Nat.le_of_ble_eq_true rfl) ⟨Nat.le_of_ble_eq_true rfl, Nat.le_of_ble_eq_true rfl⟩ (fun v17 st17 h17 => ?_)
  obtain ⟨rfl, rfl⟩ := h17
  exact r_iret (pc := 20) C hQ dX2_crossings_20 (Nat.le_of_ble_eq_true rfl) (Nat.le_of_ble_eq_true rfl) (fun G hG => ⟨_, hG, ⟨rfl, ((h2b.wk (by decide)).tr (h8b.wk (by decide))).tr (h13b.wk (by decide))⟩⟩)
set_option maxHeartbeats 800000 in
theorem mt_cross {la : Launch} {X : XE} {mh : Nat} {mad : Nat → Nat} {G0 : Gh} {st : MSt} (ws : List (List Bool)) (r q : Int) (hr : i32 r) (hq : i32 q) (h : RoadsAre st ws) : MM la X mh mad G0 yX2_cross cX2_cross 3 (some .int) 3 71 [.int (iI r), .int (iI q)] st (fun v st' => v = some (.int (iI (sCr ws r q))) ∧ eqx tq st st') := by
  refine MG.of (by decide +kernel) (Nat.le_of_ble_eq_true rfl) ?_
  intro Z C hX hL hQ
  subst hX; subst hL
  change WW Z 3 (MOD mh mad G0 st) 0 0 0 [some (.ref mh), some (.int (iI r)), some (.int (iI q))] []
  refine r_aload_n (pc := 0) C dX2_cross_0 rfl rfl ?_
  refine r_iload_n (pc := 1) C dX2_cross_1 rfl rfl ?_
  refine r_minv (pc := 2) 1 C dX2_cross_2 (mt_isRoad ws r hr h) rfl (lw_V q1317 q1319 qs30 q92 q1320) (by decide +kernel) rfl rfl ⟨Nat.le_of_ble_eq_true rfl, Nat.le_of_ble_eq_true rfl⟩ (Nat.le_of_ble_eq_true rfl) ⟨Nat.le_of_ble_eq_true rfl, Nat.le_of_ble_eq_true rfl⟩ (fun v2 st2 h2 => ?_)
  obtain ⟨rfl, rfl⟩ := h2
  refine r_if_eqB (pc := 5) (tgt := 16) C dX2_cross_5 (by decide)  (fun h5 => ?_) (fun h5 => ?_)
  · refine r_ldcZ (pc := 16) (a := -2000000101) C dX2_cross_16 rfl q1321 (by decide) ?_
    exact r_iret (pc := 18) C hQ dX2_cross_18 (Nat.le_of_ble_eq_true rfl) (Nat.le_of_ble_eq_true rfl) (fun G hG => ⟨_, hG, ⟨by unfold sCr; first | rw [if_neg h5] | rw [if_pos h5, if_neg h13] | (rw [if_pos h5, if_pos h13, bi_0.mp h24]; rfl) | (rw [if_pos h5, if_pos h13, bi_n0 h24, bi_0.mp h32]; rfl) | (rw [if_pos h5, if_pos h13, bi_n0 h24, bi_n0 h32]; rfl), by first | exact (((h21b.wk (by decide)).tr (h29b.wk (by decide))).tr (h38b.wk (by decide))) | exact (h21b.wk (by decide)).tr (h29b.wk (by decide)) | exact h21b.wk (by decide) | exact eqx.rf⟩⟩)
  · refine r_aload_n (pc := 8) C dX2_cross_8 rfl rfl ?_
    refine r_iload_n (pc := 9) C dX2_cross_9 rfl rfl ?_
    refine r_minv (pc := 10) 1 C dX2_cross_10 (mt_isRoad ws q hq h) rfl (lw_V q1317 q1319 qs30 q92 q1320) (by decide +kernel) rfl rfl ⟨Nat.le_of_ble_eq_true rfl, Nat.le_of_ble_eq_true rfl⟩ (Nat.le_of_ble_eq_true rfl) ⟨Nat.le_of_ble_eq_true rfl, Nat.le_of_ble_eq_true rfl⟩ (fun v10 st10 h10 => ?_)
    obtain ⟨rfl, rfl⟩ := h10
    refine r_if_neB (pc := 13) (tgt := 19) C dX2_cross_13 (by decide)  (fun h13 => ?_) (fun h13 => ?_)
    · refine r_aload_n (pc := 19) C dX2_cross_19 rfl rfl ?_
      refine r_iload_n (pc := 20) C dX2_cross_20 rfl rfl ?_
      refine r_minv (pc := 21) 1 C dX2_cross_21 (mt_isClosed r (wsat ws r) (h.at h5).2 (h.at h5).1) rfl (lw_V q1390 q1392 qs44 q92 q1393) (by decide +kernel) rfl rfl ⟨Nat.le_of_ble_eq_true rfl, Nat.le_of_ble_eq_true rfl⟩ (Nat.le_of_ble_eq_true rfl) ⟨Nat.le_of_ble_eq_true rfl, Nat.le_of_ble_eq_true rfl⟩ (fun v21 st21 h21 => ?_)
      obtain ⟨rfl, h21a, h21b⟩ := h21
      refine r_if_eqZ (pc := 24) (tgt := 44) C dX2_cross_24 (by decide) (bi_i _) (fun h24 => ?_) (fun h24 => ?_)
      · refine r_ldcZ (pc := 44) (a := -2000000103) C dX2_cross_44 rfl q1308 (by decide) ?_
        exact r_iret (pc := 46) C hQ dX2_cross_46 (Nat.le_of_ble_eq_true rfl) (Nat.le_of_ble_eq_true rfl) (fun G hG => ⟨_, hG, ⟨by unfold sCr; first | rw [if_neg h5] | rw [if_pos h5, if_neg h13] | (rw [if_pos h5, if_pos h13, bi_0.mp h24]; rfl) | (rw [if_pos h5, if_pos h13, bi_n0 h24, bi_0.mp h32]; rfl) | (rw [if_pos h5, if_pos h13, bi_n0 h24, bi_n0 h32]; rfl), by first | exact (((h21b.wk (by decide)).tr (h29b.wk (by decide))).tr (h38b.wk (by decide))) | exact (h21b.wk (by decide)).tr (h29b.wk (by decide)) | exact h21b.wk (by decide) | exact eqx.rf⟩⟩)
      · refine r_aload_n (pc := 27) C dX2_cross_27 rfl rfl ?_
        refine r_iload_n (pc := 28) C dX2_cross_28 rfl rfl ?_
        refine r_minv (pc := 29) 1 C dX2_cross_29 (mt_isClosed q (wsat ws q) (h.at h13).2 ((h.at h13).1.x h21b (by decide) (by decide))) rfl (lw_V q1390 q1392 qs44 q92 q1393) (by decide +kernel) rfl rfl ⟨Nat.le_of_ble_eq_true rfl, Nat.le_of_ble_eq_true rfl⟩ (Nat.le_of_ble_eq_true rfl) ⟨Nat.le_of_ble_eq_true rfl, Nat.le_of_ble_eq_true rfl⟩ (fun v29 st29 h29 => ?_)
        obtain ⟨rfl, h29a, h29b⟩ := h29
        refine r_if_eqZ (pc := 32) (tgt := 44) C dX2_cross_32 (by decide) (bi_i _) (fun h32 => ?_) (fun h32 => ?_)
        · refine r_ldcZ (pc := 44) (a := -2000000103) C dX2_cross_44 rfl q1308 (by decide) ?_
          exact r_iret (pc := 46) C hQ dX2_cross_46 (Nat.le_of_ble_eq_true rfl) (Nat.le_of_ble_eq_true rfl) (fun G hG => ⟨_, hG, ⟨by unfold sCr; first | rw [if_neg h5] | rw [if_pos h5, if_neg h13] | (rw [if_pos h5, if_pos h13, bi_0.mp h24]; rfl) | (rw [if_pos h5, if_pos h13, bi_n0 h24, bi_0.mp h32]; rfl) | (rw [if_pos h5, if_pos h13, bi_n0 h24, bi_n0 h32]; rfl), by first | exact (((h21b.wk (by decide)).tr (h29b.wk (by decide))).tr (h38b.wk (by decide))) | exact (h21b.wk (by decide)).tr (h29b.wk (by decide)) | exact h21b.wk (by decide) | exact eqx.rf⟩⟩)
        · refine r_aload_n (pc := 35) C dX2_cross_35 rfl rfl ?_
          refine r_iload_n (pc := 36) C dX2_cross_36 rfl rfl ?_
          refine r_iload_n (pc := 37) C dX2_cross_37 rfl rfl ?_
          refine r_minv (pc := 38) 2 C dX2_cross_38 (mt_crossings r q (wsat ws r) (wsat ws q) (h.at h5).2 (h.at h13).2 (((h.at h5).1.x h21b (by decide) (by decide)).x h29b (by decide) (by decide)) (((h.at h13).1.x h21b (by decide) (by decide)).x h29b (by decide) (by decide))) rfl (lw_V q1431 q1433 qs49 q92 q1434) (by decide +kernel) rfl rfl ⟨Nat.le_of_ble_eq_true rfl, Nat.le_of_ble_eq_true rfl⟩ (Nat.le_of_ble_eq_true rfl) ⟨Nat.le_of_ble_eq_true rfl, Nat.le_of_ble_eq_true rfl⟩ (fun v38 st38 h38 => ?_)
          obtain ⟨rfl, h38b⟩ := h38
          refine r_goto (pc := 41) (tgt := 46) C dX2_cross_41 (by decide) ?_
          exact r_iret (pc := 46) C hQ dX2_cross_46 (Nat.le_of_ble_eq_true rfl) (Nat.le_of_ble_eq_true rfl) (fun G hG => ⟨_, hG, ⟨by unfold sCr; first | rw [if_neg h5] | rw [if_pos h5, if_neg h13] | (rw [if_pos h5, if_pos h13, bi_0.mp h24]; rfl) | (rw [if_pos h5, if_pos h13, bi_n0 h24, bi_0.mp h32]; rfl) | (rw [if_pos h5, if_pos h13, bi_n0 h24, bi_n0 h32]; rfl), by first | exact (((h21b.wk (by decide)).tr (h29b.wk (by decide))).tr (h38b.wk (by decide))) | exact (h21b.wk (by decide)).tr (h29b.wk (by decide)) | exact h21b.wk (by decide) | exact eqx.rf⟩⟩)
    · refine r_ldcZ (pc := 16) (a := -2000000101) C dX2_cross_16 rfl q1321 (by decide) ?_
      exact r_iret (pc := 18) C hQ dX2_cross_18 (Nat.le_of_ble_eq_true rfl) (Nat.le_of_ble_eq_true rfl) (fun G hG => ⟨_, hG, ⟨by unfold sCr; first | rw [if_neg h5] | rw [if_pos h5, if_neg h13] | (rw [if_pos h5, if_pos h13, bi_0.mp h24]; rfl) | (rw [if_pos h5, if_pos h13, bi_n0 h24, bi_0.mp h32]; rfl) | (rw [if_pos h5, if_pos h13, bi_n0 h24, bi_n0 h32]; rfl), by first | exact (((h21b.wk (by decide)).tr (h29b.wk (by decide))).tr (h38b.wk (by decide))) | exact (h21b.wk (by decide)).tr (h29b.wk (by decide)) | exact h21b.wk (by decide) | exact eqx.rf⟩⟩)

