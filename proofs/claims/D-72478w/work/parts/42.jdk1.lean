/-! the JDK's methods: numbers, indices, texts that are read -/
set_option maxRecDepth 100000
set_option maxHeartbeats 800000 in
theorem pf_max (a b : Int) (ha : i32 a) (hb : i32 b) : PF yJ9_max cJ9_max 2 (some .int) 0 0 [.int (iI a), .int (iI b)] (some (.int (iI (if a < b then b else a)))) := by
  intro l X Γ
  refine MG.ofF (by decide +kernel) (Nat.le_of_ble_eq_true rfl) ?_
  intro Z C hX hL hQ
  subst hX; subst hL
  change WW Z 2 Γ 0 0 0 [some (.int (iI a)), some (.int (iI b))] []
  refine r_iload_n (pc := 0) C dJ9_max_0 rfl rfl ?_
  refine r_iload_n (pc := 1) C dJ9_max_1 rfl rfl ?_
  refine r_icmp_ltZ (pc := 2) (tgt := 9) C dJ9_max_2 (by decide) ha hb (fun h2 => ?_) (fun h2 => ?_)
  · refine r_iload_n (pc := 9) C dJ9_max_9 rfl rfl ?_
    exact r_iret (pc := 10) C hQ dJ9_max_10 (Nat.le_of_ble_eq_true rfl) (Nat.le_of_ble_eq_true rfl) (fun G hG => ⟨hG, (by first | (rw [if_pos (by omega)]; done) | (rw [if_neg (by omega)]; done))⟩)
  · refine r_iload_n (pc := 5) C dJ9_max_5 rfl rfl ?_
    refine r_goto (pc := 6) (tgt := 10) C dJ9_max_6 (by decide) ?_
    exact r_iret (pc := 10) C hQ dJ9_max_10 (Nat.le_of_ble_eq_true rfl) (Nat.le_of_ble_eq_true rfl) (fun G hG => ⟨hG, (by first | (rw [if_pos (by omega)]; done) | (rw [if_neg (by omega)]; done))⟩)
set_option maxHeartbeats 800000 in
theorem pf_min (a b : Int) (ha : i32 a) (hb : i32 b) : PF yJ9_min cJ9_min 2 (some .int) 0 0 [.int (iI a), .int (iI b)] (some (.int (iI (if a ≤ b then a else b)))) := by
  intro l X Γ
  refine MG.ofF (by decide +kernel) (Nat.le_of_ble_eq_true rfl) ?_
  intro Z C hX hL hQ
  subst hX; subst hL
  change WW Z 2 Γ 0 0 0 [some (.int (iI a)), some (.int (iI b))] []
  refine r_iload_n (pc := 0) C dJ9_min_0 rfl rfl ?_
  refine r_iload_n (pc := 1) C dJ9_min_1 rfl rfl ?_
  refine r_icmp_gtZ (pc := 2) (tgt := 9) C dJ9_min_2 (by decide) ha hb (fun h2 => ?_) (fun h2 => ?_)
  · refine r_iload_n (pc := 9) C dJ9_min_9 rfl rfl ?_
    exact r_iret (pc := 10) C hQ dJ9_min_10 (Nat.le_of_ble_eq_true rfl) (Nat.le_of_ble_eq_true rfl) (fun G hG => ⟨hG, (by first | (rw [if_pos (by omega)]; done) | (rw [if_neg (by omega)]; done))⟩)
  · refine r_iload_n (pc := 5) C dJ9_min_5 rfl rfl ?_
    refine r_goto (pc := 6) (tgt := 10) C dJ9_min_6 (by decide) ?_
    exact r_iret (pc := 10) C hQ dJ9_min_10 (Nat.le_of_ble_eq_true rfl) (Nat.le_of_ble_eq_true rfl) (fun G hG => ⟨hG, (by first | (rw [if_pos (by omega)]; done) | (rw [if_neg (by omega)]; done))⟩)
set_option maxHeartbeats 800000 in
theorem pf_mabs (a : Int) (ha : i32 a) : PF yJ9_abs cJ9_abs 1 (some .int) 0 0 [.int (iI a)] (some (.int (iI (iabs a)))) := by
  intro l X Γ
  refine MG.ofF (by decide +kernel) (Nat.le_of_ble_eq_true rfl) ?_
  intro Z C hX hL hQ
  subst hX; subst hL
  change WW Z 1 Γ 0 0 0 [some (.int (iI a))] []
  refine r_iload_n (pc := 0) C dJ9_abs_0 rfl rfl ?_
  refine r_if_geZ (pc := 1) (tgt := 9) C dJ9_abs_1 (by decide) ha (fun h1 => ?_) (fun h1 => ?_)
  · refine r_iload_n (pc := 9) C dJ9_abs_9 rfl rfl ?_
    exact r_iret (pc := 10) C hQ dJ9_abs_10 (Nat.le_of_ble_eq_true rfl) (Nat.le_of_ble_eq_true rfl) (fun G hG => ⟨hG, (by unfold iabs; first | (rw [if_pos (by omega)]; done) | (rw [if_neg (by omega)]; done))⟩)
  · refine r_iload_n (pc := 4) C dJ9_abs_4 rfl rfl ?_
    refine r_inegZ (pc := 5) C dJ9_abs_5 ?_
    refine r_goto (pc := 6) (tgt := 10) C dJ9_abs_6 (by decide) ?_
    exact r_iret (pc := 10) C hQ dJ9_abs_10 (Nat.le_of_ble_eq_true rfl) (Nat.le_of_ble_eq_true rfl) (fun G hG => ⟨hG, (by unfold iabs; first | (rw [if_pos (by omega)]; done) | (rw [if_neg (by omega)]; done))⟩)
set_option maxHeartbeats 800000 in
theorem pf_canEncode (c : Nat) (hc : c < 128) : PF yJ1_canEncode cJ1_canEncode 1 (some .boolean) 0 0 [.int (iI c)] (some (.int (iI 1))) := by
  intro l X Γ
  refine MG.ofF (by decide +kernel) (Nat.le_of_ble_eq_true rfl) ?_
  intro Z C hX hL hQ
  subst hX; subst hL
  change WW Z 1 Γ 0 0 0 [some (.int (iI c))] []
  refine r_iload_n (pc := 0) C dJ1_canEncode_0 rfl rfl ?_
  refine r_sipushZ (pc := 1) C dJ1_canEncode_1 (by decide) ?_
  refine r_icmp_gtZ (pc := 4) (tgt := 11) C dJ1_canEncode_4 (by decide) (by unfold i32; omega) (by unfold i32; omega) (fun h4 => absurd h4 (by omega)) (fun h4 => ?_)
  refine r_iconstZ (pc := 7) C dJ1_canEncode_7 ?_
  refine r_goto (pc := 8) (tgt := 12) C dJ1_canEncode_8 (by decide) ?_
  exact r_zret (pc := 12) C hQ dJ1_canEncode_12 (by first | exact b2_nar _ | decide) (Nat.le_of_ble_eq_true rfl) (Nat.le_of_ble_eq_true rfl) (fun G hG => ⟨hG, rfl⟩)
set_option maxHeartbeats 800000 in
theorem pf_newLength (a b c : Int) (ha : 0 ≤ a ∧ a ≤ 200000) (hb : 0 < b ∧ b ≤ 200000) (hc : 0 < c ∧ c ≤ 200000) : PF yJ2_newLength cJ2_newLength 4 (some .int) 1 21 [.int (iI a), .int (iI b), .int (iI c)] (some (.int (iI (a + (if b < c then c else b))))) := by
  intro l X Γ
  refine MG.ofF (by decide +kernel) (Nat.le_of_ble_eq_true rfl) ?_
  intro Z C hX hL hQ
  subst hX; subst hL
  change WW Z 4 Γ 0 0 0 [some (.int (iI a)), some (.int (iI b)), some (.int (iI c)), none] []
  have hm : 0 < (if b < c then c else b) ∧ (if b < c then c else b) ≤ 200000 := by split <;> omega
  generalize he : (if b < c then c else b) = m at hm
  refine r_iload_n (pc := 0) C dJ2_newLength_0 rfl rfl ?_
  refine r_iload_n (pc := 1) C dJ2_newLength_1 rfl rfl ?_
  refine r_iload_n (pc := 2) C dJ2_newLength_2 rfl rfl ?_
  refine r_invP (pc := 3) 2 C dJ2_newLength_3 (pf_max b c (by unfold i32; omega) (by unfold i32; omega)) rfl (lw_S q341 q342 q93 q343) (by decide +kernel) rfl rfl ⟨Nat.le_of_ble_eq_true rfl, Nat.le_of_ble_eq_true rfl⟩ (Nat.le_of_ble_eq_true rfl) ⟨Nat.le_of_ble_eq_true rfl, Nat.le_of_ble_eq_true rfl⟩ ?_
  rw [he]
  refine r_iaddZ (pc := 6) C dJ2_newLength_6 ?_
  refine r_istore_n (pc := 7) C dJ2_newLength_7 rfl (by decide) ?_
  refine r_iconstZ (pc := 8) C dJ2_newLength_8 ?_
  refine r_iload_n (pc := 9) C dJ2_newLength_9 rfl rfl ?_
  refine r_icmp_geZ (pc := 10) (tgt := 21) C dJ2_newLength_10 (by decide) (by unfold i32; omega) (by unfold i32; omega) (fun h10 => absurd h10 (by omega)) (fun h10 => ?_)
  refine r_iload_n (pc := 13) C dJ2_newLength_13 rfl rfl ?_
  refine r_ldcZ (pc := 14) (a := 2147483639) C dJ2_newLength_14 rfl q344 (by decide) ?_
  refine r_icmp_gtZ (pc := 16) (tgt := 21) C dJ2_newLength_16 (by decide) (by unfold i32; omega) (by unfold i32; omega) (fun h16 => absurd h16 (by omega)) (fun h16 => ?_)
  refine r_iload_n (pc := 19) C dJ2_newLength_19 rfl rfl ?_
  exact r_iret (pc := 20) C hQ dJ2_newLength_20 (Nat.le_of_ble_eq_true rfl) (Nat.le_of_ble_eq_true rfl) (fun G hG => ⟨hG, (by rw [he])⟩)

