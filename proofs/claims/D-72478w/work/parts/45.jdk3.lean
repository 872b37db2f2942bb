/-! the JDK's methods: copies of bytes, StringBuilders -/
set_option maxRecDepth 100000
set_option maxHeartbeats 800000 in
theorem pf_checkLength (a b : Int) (ha : i32 a) (hb : i32 b) (h : a ≤ b) : PF yJ10_checkLength cJ10_checkLength 2 none 0 0 [.int (iI a), .int (iI b)] (none) := by
  intro l X Γ
  refine MG.ofF (by decide +kernel) (Nat.le_of_ble_eq_true rfl) ?_
  intro Z C hX hL hQ
  subst hX; subst hL
  change WW Z 2 Γ 0 0 0 [some (.int (iI a)), some (.int (iI b))] []
  refine r_iload_n (pc := 0) C dJ10_checkLength_0 rfl rfl ?_
  refine r_iload_n (pc := 1) C dJ10_checkLength_1 rfl rfl ?_
  refine r_icmp_geZ (pc := 2) (tgt := 37) C dJ10_checkLength_2 (by decide) hb ha (fun h2 => ?_) (fun h2 => absurd h2 (by omega))
  exact r_vret (pc := 37) C hQ dJ10_checkLength_37 (Nat.le_of_ble_eq_true rfl) (Nat.le_of_ble_eq_true rfl) (fun G hG => ⟨hG, rfl⟩)
set_option maxHeartbeats 800000 in
theorem mj_copyOf {la : Launch} {X : XE} {G0 : Gh} {b t N M : Nat} {f : Nat → Value} (t1 : Nat) (h : G0 b = some (t, .inr (1, N, f))) (ht1 : t1 ≠ 0) (hf : ∀ j, j < N → fits .byte (f j) = true) (hNM : N < M) (hM : M ≤ 100000) : MG la X yJ10_copyOf cJ10_copyOf 3 (some (.array .byte)) (rmk 1 1 M 40) [.ref b, .int (iI (M : Int))] (fun G => G = G0) (fun v G => ∃ e, v = some (.ref e) ∧ G0 e = none ∧ G = gup G0 e (t1, .inr (1, M, cpyV f (fun _ => .int (iI 0)) 0 0 N))) := by
  refine MG.ofF (by decide +kernel) (Nat.le_of_ble_eq_true rfl) ?_
  intro Z C hX hL hQ
  subst hX; subst hL
  change WW Z 3 (fun G => G = G0) 0 0 0 [some (.ref b), some (.int (iI (M : Int))), none] []
  refine r_iload_n (pc := 0) C dJ10_copyOf_0 rfl rfl ?_
  refine r_aload_n (pc := 1) C dJ10_copyOf_1 rfl rfl ?_
  refine r_alenZ (pc := 2) C dJ10_copyOf_2 (g1 h) ?_
  refine r_icmp_neZ (pc := 3) (tgt := 14) C dJ10_copyOf_3 (by decide) (by unfold i32; omega) (by unfold i32; omega) (fun h3 => ?_) (fun h3 => absurd h3 (by omega))
  refine r_iload_n (pc := 14) C dJ10_copyOf_14 rfl rfl ?_
  refine r_newaBE (pc := 15) t1 C dJ10_copyOf_15 q215 (N := M) rfl (by omega) (by first | exact Nat.le_of_ble_eq_true rfl | (dsimp only [rmk]; omega) | omega) (by first | exact Nat.le_of_ble_eq_true rfl | (dsimp only [rmk]; omega) | omega) (fun a15 n15 => ?_)
  refine r_astore_n (pc := 17) C dJ10_copyOf_17 rfl (by decide) ?_
  have hb : b ≠ a15 := fun e => by rw [e, n15] at h; cases h
  refine r_aload_n (pc := 18) C dJ10_copyOf_18 rfl rfl ?_
  refine r_iconstZ (pc := 19) C dJ10_copyOf_19 ?_
  refine r_aload_n (pc := 20) C dJ10_copyOf_20 rfl rfl ?_
  refine r_iconstZ (pc := 21) C dJ10_copyOf_21 ?_
  refine r_aload_n (pc := 22) C dJ10_copyOf_22 rfl rfl ?_
  refine r_alenZ (pc := 23) C dJ10_copyOf_23 (fun G hG => ⟨t, by rw [hG, gup_ne _ _ hb]; exact h⟩) ?_
  refine r_iload_n (pc := 24) C dJ10_copyOf_24 rfl rfl ?_
  refine r_invP (pc := 25) 2 C dJ10_copyOf_25 (pf_min N M (by unfold i32; omega) (by unfold i32; omega)) rfl (lw_S q359 q360 q93 q361) (by decide +kernel) rfl rfl ⟨Nat.le_of_ble_eq_true rfl, Nat.le_of_ble_eq_true rfl⟩ (Nat.le_of_ble_eq_true rfl) ⟨(by first | exact Nat.le_of_ble_eq_true rfl | (dsimp only [rmk]; omega) | omega), (by first | exact Nat.le_of_ble_eq_true rfl | (dsimp only [rmk]; omega) | omega)⟩ ?_
  rw [if_pos (show (N : Int) ≤ (M : Int) by omega)]
  refine r_copyBE (pc := 28) C dJ10_copyOf_28 q362 ht1 h n15 (F := cpyV f (fun _ => .int (iI 0)) 0 0 N) rfl (fun i hi => hf _ (by omega)) (by omega) (by omega) (by omega) (by omega) (by omega) (by unfold i32; omega) (by unfold i32; omega) (Nat.le_of_ble_eq_true rfl) (Nat.le_of_ble_eq_true rfl) ?_
  refine r_aload_n (pc := 31) C dJ10_copyOf_31 rfl rfl ?_
  exact r_aret (pc := 32) C hQ dJ10_copyOf_32 (by first | exact Or.inl ⟨_, rfl⟩ | exact Or.inr ⟨_, rfl⟩) (by first | exact Or.inr ⟨_, rfl⟩ | exact Or.inl rfl) (by first | exact Nat.le_of_ble_eq_true rfl | (dsimp only [rmk]; omega) | omega) (by first | exact Nat.le_of_ble_eq_true rfl | (dsimp only [rmk]; omega) | omega) (fun G hG => ⟨a15, rfl, n15, hG⟩)
set_option maxHeartbeats 800000 in
theorem mj_cprb {la : Launch} {X : XE} {G0 : Gh} {b t N M : Nat} {f : Nat → Value} (t1 : Nat) (h : G0 b = some (t, .inr (1, N, f))) (ht1 : t1 ≠ 0) (hf : ∀ j, j < M → fits .byte (f j) = true) (hMN : M ≤ N) (hN : N ≤ 100000) : MG la X yJ10_copyOfRangeByte cJ10_copyOfRangeByte 5 (some (.array .byte)) (rmk 1 1 M 40) [.ref b, .int (iI 0), .int (iI (M : Int))] (fun G => G = G0) (fun v G => ∃ e, v = some (.ref e) ∧ G0 e = none ∧ G = gup G0 e (t1, .inr (1, M, cpyV f (fun _ => .int (iI 0)) 0 0 M))) := by
  refine MG.ofF (by decide +kernel) (Nat.le_of_ble_eq_true rfl) ?_
  intro Z C hX hL hQ
  subst hX; subst hL
  change WW Z 5 (fun G => G = G0) 0 0 0 [some (.ref b), some (.int (iI 0)), some (.int (iI (M : Int))), none, none] []
  refine r_iload_n (pc := 0) C dJ10_copyOfRangeByte_0 rfl rfl ?_
  refine r_iload_n (pc := 1) C dJ10_copyOfRangeByte_1 rfl rfl ?_
  refine r_invP (pc := 2) 2 C dJ10_copyOfRangeByte_2 (pf_checkLength 0 M i32_0 (by unfold i32; omega) (by omega)) rfl (lw_S q549 q550 q94 q551) (by decide +kernel) rfl rfl ⟨Nat.le_of_ble_eq_true rfl, Nat.le_of_ble_eq_true rfl⟩ (Nat.le_of_ble_eq_true rfl) ⟨(by first | exact Nat.le_of_ble_eq_true rfl | (dsimp only [rmk]; omega) | omega), (by first | exact Nat.le_of_ble_eq_true rfl | (dsimp only [rmk]; omega) | omega)⟩ ?_
  refine r_iload_n (pc := 5) C dJ10_copyOfRangeByte_5 rfl rfl ?_
  refine r_iload_n (pc := 6) C dJ10_copyOfRangeByte_6 rfl rfl ?_
  refine r_isubZ (pc := 7) C dJ10_copyOfRangeByte_7 ?_
  rw [Int.sub_zero]
  refine r_istore_n (pc := 8) C dJ10_copyOfRangeByte_8 rfl (by decide) ?_
  refine r_iload_n (pc := 9) C dJ10_copyOfRangeByte_9 rfl rfl ?_
  refine r_newaBE (pc := 10) t1 C dJ10_copyOfRangeByte_10 q215 (N := M) rfl (by omega) (by first | exact Nat.le_of_ble_eq_true rfl | (dsimp only [rmk]; omega) | omega) (by first | exact Nat.le_of_ble_eq_true rfl | (dsimp only [rmk]; omega) | omega) (fun a10 n10 => ?_)
  refine r_astore (pc := 12) C dJ10_copyOfRangeByte_12 (by decide) ?_
  have hb : b ≠ a10 := fun e => by rw [e, n10] at h; cases h
  refine r_aload_n (pc := 14) C dJ10_copyOfRangeByte_14 rfl rfl ?_
  refine r_iload_n (pc := 15) C dJ10_copyOfRangeByte_15 rfl rfl ?_
  refine r_aload (pc := 16) C dJ10_copyOfRangeByte_16 rfl ?_
  refine r_iconstZ (pc := 18) C dJ10_copyOfRangeByte_18 ?_
  refine r_aload_n (pc := 19) C dJ10_copyOfRangeByte_19 rfl rfl ?_
  refine r_alenZ (pc := 20) C dJ10_copyOfRangeByte_20 (fun G hG => ⟨t, by rw [hG, gup_ne _ _ hb]; exact h⟩) ?_
  refine r_iload_n (pc := 21) C dJ10_copyOfRangeByte_21 rfl rfl ?_
  refine r_isubZ (pc := 22) C dJ10_copyOfRangeByte_22 ?_
  rw [Int.sub_zero]
  refine r_iload_n (pc := 23) C dJ10_copyOfRangeByte_23 rfl rfl ?_
  refine r_invP (pc := 24) 2 C dJ10_copyOfRangeByte_24 (pf_min N M (by unfold i32; omega) (by unfold i32; omega)) rfl (lw_S q359 q360 q93 q361) (by decide +kernel) rfl rfl ⟨Nat.le_of_ble_eq_true rfl, Nat.le_of_ble_eq_true rfl⟩ (Nat.le_of_ble_eq_true rfl) ⟨(by first | exact Nat.le_of_ble_eq_true rfl | (dsimp only [rmk]; omega) | omega), (by first | exact Nat.le_of_ble_eq_true rfl | (dsimp only [rmk]; omega) | omega)⟩ ?_
  rw [show (if (N : Int) ≤ (M : Int) then (N : Int) else (M : Int)) = (M : Int) by split <;> omega]
  refine r_copyBE (pc := 27) C dJ10_copyOfRangeByte_27 q362 ht1 h n10 (F := cpyV f (fun _ => .int (iI 0)) 0 0 M) rfl (fun i hi => hf _ (by omega)) (by omega) (by omega) (by omega) (by omega) (by omega) (by unfold i32; omega) (by unfold i32; omega) (Nat.le_of_ble_eq_true rfl) (Nat.le_of_ble_eq_true rfl) ?_
  refine r_aload (pc := 30) C dJ10_copyOfRangeByte_30 rfl ?_
  exact r_aret (pc := 32) C hQ dJ10_copyOfRangeByte_32 (by first | exact Or.inl ⟨_, rfl⟩ | exact Or.inr ⟨_, rfl⟩) (by first | exact Or.inr ⟨_, rfl⟩ | exact Or.inl rfl) (by first | exact Nat.le_of_ble_eq_true rfl | (dsimp only [rmk]; omega) | omega) (by first | exact Nat.le_of_ble_eq_true rfl | (dsimp only [rmk]; omega) | omega) (fun G hG => ⟨a10, rfl, n10, hG⟩)
set_option maxHeartbeats 800000 in
theorem mj_copyOfRange {la : Launch} {X : XE} {G0 : Gh} {b t N M : Nat} {f : Nat → Value} (t1 : Nat) (h : G0 b = some (t, .inr (1, N, f))) (ht : t ≠ 0) (ht1 : t1 ≠ 0) (hf : ∀ j, j < M → fits .byte (f j) = true) (hMN : M ≤ N) (hN : N ≤ 100000) : MG la X yJ10_copyOfRange cJ10_copyOfRange 3 (some (.array .byte)) (rmk 2 1 M 64) [.ref b, .int (iI 0), .int (iI (M : Int))] (fun G => G = G0) (fun v G => ∃ e f', v = some (.ref e) ∧ G0 e = none ∧ G = gup G0 e (t1, .inr (1, M, f')) ∧ ∀ j, j < M → f' j = f j) := by
  refine MG.ofF (by decide +kernel) (Nat.le_of_ble_eq_true rfl) ?_
  intro Z C hX hL hQ
  subst hX; subst hL
  change WW Z 3 (fun G => G = G0) 0 0 0 [some (.ref b), some (.int (iI 0)), some (.int (iI (M : Int)))] []
  refine r_iload_n (pc := 0) C dJ10_copyOfRange_0 rfl rfl ?_
  refine r_if_neZ (pc := 1) (tgt := 10) C dJ10_copyOfRange_1 (by decide) (by unfold i32; omega) (fun h1 => absurd h1 (by omega)) (fun h1 => ?_)
  refine r_iload_n (pc := 4) C dJ10_copyOfRange_4 rfl rfl ?_
  refine r_aload_n (pc := 5) C dJ10_copyOfRange_5 rfl rfl ?_
  refine r_alenZ (pc := 6) C dJ10_copyOfRange_6 (g1 h) ?_
  refine r_icmp_eqZ (pc := 7) (tgt := 17) C dJ10_copyOfRange_7 (by decide) (by unfold i32; omega) (by unfold i32; omega) (fun h7 => ?_) (fun h7 => ?_)
  · have hMN2 : N = M := (by omega)
    subst hMN2
    refine r_aload_n (pc := 17) C dJ10_copyOfRange_17 rfl rfl ?_
    refine r_cloneBE (pc := 18) t1 C dJ10_copyOfRange_18 q352 ht h (by first | exact Nat.le_of_ble_eq_true rfl | (dsimp only [rmk]; omega)) (by first | exact Nat.le_of_ble_eq_true rfl | (dsimp only [rmk]; omega)) (Nat.le_of_ble_eq_true rfl) (Nat.le_of_ble_eq_true rfl) (fun b18 n18 => ?_)
    refine r_castB (pc := 21) C dJ10_copyOfRange_21 ht1 (fun G hG => by rw [hG]; exact gup_eq _ _ _) q358 ?_
    exact r_aret (pc := 24) C hQ dJ10_copyOfRange_24 (by first | exact Or.inl ⟨_, rfl⟩ | exact Or.inr ⟨_, rfl⟩) (by first | exact Or.inr ⟨_, rfl⟩ | exact Or.inl rfl) (by first | exact Nat.le_of_ble_eq_true rfl | (dsimp only [rmk]; omega) | omega) (by first | exact Nat.le_of_ble_eq_true rfl | (dsimp only [rmk]; omega) | omega) (fun G hG => ⟨b18, f, rfl, n18, hG, fun j hj => rfl⟩)
  · refine r_aload_n (pc := 10) C dJ10_copyOfRange_10 rfl rfl ?_
    refine r_iload_n (pc := 11) C dJ10_copyOfRange_11 rfl rfl ?_
    refine r_iload_n (pc := 12) C dJ10_copyOfRange_12 rfl rfl ?_
    refine r_invS (pc := 13) 3 C dJ10_copyOfRange_13 (mj_cprb t1 h ht1 hf hMN hN) rfl (lw_S q546 q547 q94 q548) (by decide +kernel) rfl rfl ⟨Nat.le_of_ble_eq_true rfl, Nat.le_of_ble_eq_true rfl⟩ (Nat.le_of_ble_eq_true rfl) ⟨(by first | exact Nat.le_of_ble_eq_true rfl | (dsimp only [rmk]; omega) | omega), (by first | exact Nat.le_of_ble_eq_true rfl | (dsimp only [rmk]; omega) | omega)⟩ (fun v13 G13 h13 => ?_)
    obtain ⟨e, rfl, k1, rfl⟩ := h13
    exact r_aret (pc := 16) C hQ dJ10_copyOfRange_16 (by first | exact Or.inl ⟨_, rfl⟩ | exact Or.inr ⟨_, rfl⟩) (by first | exact Or.inr ⟨_, rfl⟩ | exact Or.inl rfl) (by first | exact Nat.le_of_ble_eq_true rfl | (dsimp only [rmk]; omega) | omega) (by first | exact Nat.le_of_ble_eq_true rfl | (dsimp only [rmk]; omega) | omega) (fun G hG => ⟨e, _, rfl, k1, hG, fun j hj => by unfold cpyV; rw [if_pos (by omega)]; congr 1; omega⟩)
set_option maxHeartbeats 800000 in
theorem ja_length {la : Launch} {X : XE} {G0 : Gh} {a t m : Nat} {w : Tx} (h : SB G0 a t w m) : MG la X yJ7_length cJ7_length 1 (some .int) (rmk 0 0 0 0) [.ref a] (fun G => G = G0) (fun zv G => zv = some (.int (iI (w.length : Nat))) ∧ G = G0) := by
  refine MG.ofF (by decide +kernel) (Nat.le_of_ble_eq_true rfl) ?_
  intro Z C hX hL hQ
  subst hX; subst hL
  change WW Z 1 (fun G => G = G0) 0 0 0 [some (.ref a)] []
  obtain ⟨ho, hl, hm, b, f, mb, k1, k2, k3⟩ := id h
  refine r_aload_n (pc := 0) C dJ7_length_0 rfl rfl ?_
  refine r_get (pc := 1) (k := 3) (ci := 9) C dJ7_length_1 (g1 k1) (show vwC[9]? = some (RJ8, TJ8, 4) from rfl) in_J8 (by decide) (C.t _ q265) (fun _ h => h) rfl ?_
  exact r_iret (pc := 4) C hQ dJ7_length_4 (Nat.le_of_ble_eq_true rfl) (Nat.le_of_ble_eq_true rfl) (fun G hG => ⟨rfl, hG⟩)
set_option maxHeartbeats 800000 in
theorem ja_latin {la : Launch} {X : XE} {G0 : Gh} {a t m : Nat} {w : Tx} (h : SB G0 a t w m) : MG la X yJ7_isLatin1 cJ7_isLatin1 1 (some .boolean) (rmk 0 0 0 0) [.ref a] (fun G => G = G0) (fun zv G => zv = some (.int (iI 1)) ∧ G = G0) := by
  refine MG.ofF (by decide +kernel) (Nat.le_of_ble_eq_true rfl) ?_
  intro Z C hX hL hQ
  subst hX; subst hL
  change WW Z 1 (fun G => G = G0) 0 0 0 [some (.ref a)] []
  obtain ⟨ho, hl, hm, b, f, mb, k1, k2, k3⟩ := id h
  refine r_compact (pc := 0) C dJ7_isLatin1_0 q253 ?_
  refine r_if_eqZ (pc := 3) (tgt := 17) C dJ7_isLatin1_3 (by decide) (by unfold i32; omega) (fun h3 => absurd h3 (by omega)) (fun h3 => ?_)
  refine r_aload_n (pc := 6) C dJ7_isLatin1_6 rfl rfl ?_
  refine r_get (pc := 7) (k := 1) (ci := 9) C dJ7_isLatin1_7 (g1 k1) (show vwC[9]? = some (RJ8, TJ8, 4) from rfl) in_J8 (by decide) (C.t _ q262) (fun _ h => h) rfl ?_
  refine r_if_neZ (pc := 10) (tgt := 17) C dJ7_isLatin1_10 (by decide) (by unfold i32; omega) (fun h10 => absurd h10 (by omega)) (fun h10 => ?_)
  refine r_iconstZ (pc := 13) C dJ7_isLatin1_13 ?_
  refine r_goto (pc := 14) (tgt := 18) C dJ7_isLatin1_14 (by decide) ?_
  exact r_zret (pc := 18) C hQ dJ7_isLatin1_18 (by decide) (Nat.le_of_ble_eq_true rfl) (Nat.le_of_ble_eq_true rfl) (fun G hG => ⟨rfl, hG⟩)
set_option maxHeartbeats 800000 in
theorem ja_getValue {la : Launch} {X : XE} {G0 : Gh} {a t b : Nat} {c mb n : Value} (k1 : G0 a = some (t, .inl (9, [.ref b, c, mb, n]))) : MG la X yJ7_getValue cJ7_getValue 1 (some (.array .byte)) (rmk 0 0 0 0) [.ref a] (fun G => G = G0) (fun zv G => zv = some (.ref b) ∧ G = G0) := by
  refine MG.ofF (by decide +kernel) (Nat.le_of_ble_eq_true rfl) ?_
  intro Z C hX hL hQ
  subst hX; subst hL
  change WW Z 1 (fun G => G = G0) 0 0 0 [some (.ref a)] []
  refine r_aload_n (pc := 0) C dJ7_getValue_0 rfl rfl ?_
  refine r_get (pc := 1) (k := 0) (ci := 9) C dJ7_getValue_1 (g1 k1) (show vwC[9]? = some (RJ8, TJ8, 4) from rfl) in_J8 (by decide) (C.t _ q261) (fun _ h => h) rfl ?_
  exact r_aret (pc := 4) C hQ dJ7_getValue_4 (by first | exact Or.inl ⟨_, rfl⟩ | exact Or.inr ⟨_, rfl⟩) (by first | exact Or.inr ⟨_, rfl⟩ | exact Or.inl rfl) (Nat.le_of_ble_eq_true rfl) (Nat.le_of_ble_eq_true rfl) (fun G hG => ⟨rfl, hG⟩)
set_option maxHeartbeats 800000 in
theorem ja_charAt {la : Launch} {X : XE} {G0 : Gh} {a t m : Nat} {w : Tx} (k : Int) (h : SB G0 a t w m) (hk : 0 ≤ k ∧ k < w.length) : MG la X yJ7_charAt cJ7_charAt 5 (some .char) (rmk 2 0 0 43) [.ref a, .int (iI k)] (fun G => G = G0) (fun zv G => zv = some (.int (iI (tl w k.toNat : Nat))) ∧ G = G0) := by
  refine MG.ofF (by decide +kernel) (Nat.le_of_ble_eq_true rfl) ?_
  intro Z C hX hL hQ
  subst hX; subst hL
  change WW Z 5 (fun G => G = G0) 0 0 0 [some (.ref a), some (.int (iI k)), none, none, none] []
  obtain ⟨ho, hl, hm, b, f, mb, k1, k2, k3⟩ := id h
  have hc := ho.at (j := k.toNat) (by omega)
  refine r_aload_n (pc := 0) C dJ7_charAt_0 rfl rfl ?_
  refine r_get (pc := 1) (k := 1) (ci := 9) C dJ7_charAt_1 (g1 k1) (show vwC[9]? = some (RJ8, TJ8, 4) from rfl) in_J8 (by decide) (C.t _ q262) (fun _ h => h) rfl ?_
  refine r_istore_n (pc := 4) C dJ7_charAt_4 rfl (by decide) ?_
  refine r_aload_n (pc := 5) C dJ7_charAt_5 rfl rfl ?_
  refine r_get (pc := 6) (k := 0) (ci := 9) C dJ7_charAt_6 (g1 k1) (show vwC[9]? = some (RJ8, TJ8, 4) from rfl) in_J8 (by decide) (C.t _ q261) (fun _ h => h) rfl ?_
  refine r_astore_n (pc := 9) C dJ7_charAt_9 rfl (by decide) ?_
  refine r_aload_n (pc := 10) C dJ7_charAt_10 rfl rfl ?_
  refine r_get (pc := 11) (k := 3) (ci := 9) C dJ7_charAt_11 (g1 k1) (show vwC[9]? = some (RJ8, TJ8, 4) from rfl) in_J8 (by decide) (C.t _ q265) (fun _ h => h) rfl ?_
  refine r_aload_n (pc := 14) C dJ7_charAt_14 rfl rfl ?_
  refine r_alenZ (pc := 15) C dJ7_charAt_15 (g1 k2) ?_
  refine r_iload_n (pc := 16) C dJ7_charAt_16 rfl rfl ?_
  refine r_shr0 (pc := 17) C dJ7_charAt_17 ?_
  refine r_invP (pc := 18) 2 C dJ7_charAt_18 (pf_min (w.length : Nat) (m : Nat) (by unfold i32; omega) (by unfold i32; omega)) rfl (lw_S q487 q360 q93 q361) (by decide +kernel) rfl rfl ⟨Nat.le_of_ble_eq_true rfl, Nat.le_of_ble_eq_true rfl⟩ (Nat.le_of_ble_eq_true rfl) ⟨Nat.le_of_ble_eq_true rfl, Nat.le_of_ble_eq_true rfl⟩ ?_
  rw [if_pos (show ((w.length : Nat) : Int) ≤ (m : Int) by omega)]
  refine r_istore (pc := 21) C dJ7_charAt_21 (by decide) ?_
  refine r_iload_n (pc := 23) C dJ7_charAt_23 rfl rfl ?_
  refine r_iload (pc := 24) C dJ7_charAt_24 rfl ?_
  refine r_invP (pc := 26) 2 C dJ7_charAt_26 (pf_strCheck k (w.length : Nat) hk (by omega)) rfl (lw_S q488 q404 q83 q405) (by decide +kernel) rfl rfl ⟨Nat.le_of_ble_eq_true rfl, Nat.le_of_ble_eq_true rfl⟩ (Nat.le_of_ble_eq_true rfl) ⟨Nat.le_of_ble_eq_true rfl, Nat.le_of_ble_eq_true rfl⟩ ?_
  refine r_iload_n (pc := 29) C dJ7_charAt_29 rfl rfl ?_
  refine r_if_neZ (pc := 30) (tgt := 42) C dJ7_charAt_30 (by decide) (by unfold i32; omega) (fun h30 => absurd h30 (by omega)) (fun h30 => ?_)
  refine r_aload_n (pc := 33) C dJ7_charAt_33 rfl rfl ?_
  refine r_iload_n (pc := 34) C dJ7_charAt_34 rfl rfl ?_
  refine r_baldZ (pc := 35) C dJ7_charAt_35 (g1 k2) (by omega) (by omega) (by unfold i32; omega) (k3 k.toNat (by omega)) ?_
  refine r_sipushZ (pc := 36) C dJ7_charAt_36 (by decide) ?_
  refine r_andFF (pc := 39) C dJ7_charAt_39 (by omega) (by omega) ?_
  refine r_i2cZ (pc := 40) C dJ7_charAt_40 (by omega) (by omega) ?_
  exact r_zret (pc := 41) C hQ dJ7_charAt_41 (nar_c (by omega) (by omega)) (Nat.le_of_ble_eq_true rfl) (Nat.le_of_ble_eq_true rfl) (fun G hG => ⟨rfl, hG⟩)
set_option maxHeartbeats 800000 in
theorem ja_fit {la : Launch} {X : XE} {G0 : Gh} {a t m : Nat} {w : Tx} (k : Int) (h : SB G0 a t w m) (hk : 0 ≤ k ∧ k ≤ m) : MG la X yJ7_ensureCapacityInternal cJ7_ensureCapacityInternal 3 none (rmk 0 0 0 0) [.ref a, .int (iI k)] (fun G => G = G0) (fun zv G => zv = none ∧ G = G0) := by
  refine MG.ofF (by decide +kernel) (Nat.le_of_ble_eq_true rfl) ?_
  intro Z C hX hL hQ
  subst hX; subst hL
  change WW Z 3 (fun G => G = G0) 0 0 0 [some (.ref a), some (.int (iI k)), none] []
  obtain ⟨ho, hl, hm, b, f, mb, k1, k2, k3⟩ := id h
  refine r_aload_n (pc := 0) C dJ7_ensureCapacityInternal_0 rfl rfl ?_
  refine r_get (pc := 1) (k := 0) (ci := 9) C dJ7_ensureCapacityInternal_1 (g1 k1) (show vwC[9]? = some (RJ8, TJ8, 4) from rfl) in_J8 (by decide) (C.t _ q261) (fun _ h => h) rfl ?_
  refine r_alenZ (pc := 4) C dJ7_ensureCapacityInternal_4 (g1 k2) ?_
  refine r_aload_n (pc := 5) C dJ7_ensureCapacityInternal_5 rfl rfl ?_
  refine r_get (pc := 6) (k := 1) (ci := 9) C dJ7_ensureCapacityInternal_6 (g1 k1) (show vwC[9]? = some (RJ8, TJ8, 4) from rfl) in_J8 (by decide) (C.t _ q262) (fun _ h => h) rfl ?_
  refine r_shr0 (pc := 9) C dJ7_ensureCapacityInternal_9 ?_
  refine r_istore_n (pc := 10) C dJ7_ensureCapacityInternal_10 rfl (by decide) ?_
  refine r_iload_n (pc := 11) C dJ7_ensureCapacityInternal_11 rfl rfl ?_
  refine r_iload_n (pc := 12) C dJ7_ensureCapacityInternal_12 rfl rfl ?_
  refine r_isubZ (pc := 13) C dJ7_ensureCapacityInternal_13 ?_
  refine r_if_leZ (pc := 14) (tgt := 38) C dJ7_ensureCapacityInternal_14 (by decide) (by unfold i32; omega) (fun h14 => ?_) (fun h14 => absurd h14 (by omega))
  exact r_vret (pc := 38) C hQ dJ7_ensureCapacityInternal_38 (Nat.le_of_ble_eq_true rfl) (Nat.le_of_ble_eq_true rfl) (fun G hG => ⟨rfl, hG⟩)
set_option maxHeartbeats 800000 in
theorem ja_newCap {la : Launch} {X : XE} {G0 : Gh} {a t m : Nat} {w : Tx} (k x : Int) (h : SB G0 a t w m) (hm0 : 0 ≤ (m : Int) ∧ m ≤ 50000) (hk : m < k ∧ k ≤ 100000) (hx : (if k - (m : Int) < (m : Int) + 2 then (m : Int) + 2 else k - (m : Int)) = x) : MG la X yJ7_newCapacity cJ7_newCapacity 6 (some .int) (rmk 2 0 0 44) [.ref a, .int (iI k)] (fun G => G = G0) (fun zv G => zv = some (.int (iI ((m : Int) + x))) ∧ G = G0) := by
  refine MG.ofF (by decide +kernel) (Nat.le_of_ble_eq_true rfl) ?_
  intro Z C hX hL hQ
  subst hX; subst hL
  change WW Z 6 (fun G => G = G0) 0 0 0 [some (.ref a), some (.int (iI k)), none, none, none, none] []
  have hxb : 0 < x ∧ x ≤ 100000 := by rw [← hx]; split <;> omega
  obtain ⟨ho, hl, hm, b, f, mb, k1, k2, k3⟩ := id h
  refine r_aload_n (pc := 0) C dJ7_newCapacity_0 rfl rfl ?_
  refine r_get (pc := 1) (k := 0) (ci := 9) C dJ7_newCapacity_1 (g1 k1) (show vwC[9]? = some (RJ8, TJ8, 4) from rfl) in_J8 (by decide) (C.t _ q261) (fun _ h => h) rfl ?_
  refine r_alenZ (pc := 4) C dJ7_newCapacity_4 (g1 k2) ?_
  refine r_istore_n (pc := 5) C dJ7_newCapacity_5 rfl (by decide) ?_
  refine r_iload_n (pc := 6) C dJ7_newCapacity_6 rfl rfl ?_
  refine r_aload_n (pc := 7) C dJ7_newCapacity_7 rfl rfl ?_
  refine r_get (pc := 8) (k := 1) (ci := 9) C dJ7_newCapacity_8 (g1 k1) (show vwC[9]? = some (RJ8, TJ8, 4) from rfl) in_J8 (by decide) (C.t _ q262) (fun _ h => h) rfl ?_
  refine r_shl0 (pc := 11) C dJ7_newCapacity_11 ?_
  refine r_istore_n (pc := 12) C dJ7_newCapacity_12 rfl (by decide) ?_
  refine r_iload_n (pc := 13) C dJ7_newCapacity_13 rfl rfl ?_
  refine r_iload_n (pc := 14) C dJ7_newCapacity_14 rfl rfl ?_
  refine r_isubZ (pc := 15) C dJ7_newCapacity_15 ?_
  refine r_istore (pc := 16) C dJ7_newCapacity_16 (by decide) ?_
  refine r_iload_n (pc := 18) C dJ7_newCapacity_18 rfl rfl ?_
  refine r_iload (pc := 19) C dJ7_newCapacity_19 rfl ?_
  refine r_iload_n (pc := 21) C dJ7_newCapacity_21 rfl rfl ?_
  refine r_iconstZ (pc := 22) C dJ7_newCapacity_22 ?_
  refine r_aload_n (pc := 23) C dJ7_newCapacity_23 rfl rfl ?_
  refine r_get (pc := 24) (k := 1) (ci := 9) C dJ7_newCapacity_24 (g1 k1) (show vwC[9]? = some (RJ8, TJ8, 4) from rfl) in_J8 (by decide) (C.t _ q262) (fun _ h => h) rfl ?_
  refine r_shl0 (pc := 27) C dJ7_newCapacity_27 ?_
  refine r_iaddZ (pc := 28) C dJ7_newCapacity_28 ?_
  refine r_invP (pc := 29) 3 C dJ7_newCapacity_29 (pf_newLength m (k - m) (m + 2) (by omega) (by omega) (by omega)) rfl (lw_S q338 q339 q85 q340) (by decide +kernel) rfl rfl ⟨Nat.le_of_ble_eq_true rfl, Nat.le_of_ble_eq_true rfl⟩ (Nat.le_of_ble_eq_true rfl) ⟨Nat.le_of_ble_eq_true rfl, Nat.le_of_ble_eq_true rfl⟩ ?_
  rw [hx]
  refine r_istore (pc := 32) C dJ7_newCapacity_32 (by decide) ?_
  refine r_iload (pc := 34) C dJ7_newCapacity_34 rfl ?_
  refine r_ldcZ (pc := 36) (a := 2147483647) C dJ7_newCapacity_36 rfl q348 (by decide) ?_
  refine r_icmp_neZ (pc := 38) (tgt := 51) C dJ7_newCapacity_38 (by decide) (by unfold i32; omega) (by unfold i32; omega) (fun h38 => ?_) (fun h38 => absurd h38 (by omega))
  refine r_iload (pc := 51) C dJ7_newCapacity_51 rfl ?_
  refine r_aload_n (pc := 53) C dJ7_newCapacity_53 rfl rfl ?_
  refine r_get (pc := 54) (k := 1) (ci := 9) C dJ7_newCapacity_54 (g1 k1) (show vwC[9]? = some (RJ8, TJ8, 4) from rfl) in_J8 (by decide) (C.t _ q262) (fun _ h => h) rfl ?_
  refine r_shr0 (pc := 57) C dJ7_newCapacity_57 ?_
  exact r_iret (pc := 58) C hQ dJ7_newCapacity_58 (Nat.le_of_ble_eq_true rfl) (Nat.le_of_ble_eq_true rfl) (fun G hG => ⟨rfl, hG⟩)
set_option maxHeartbeats 800000 in
theorem ja_grow {la : Launch} {X : XE} {G0 : Gh} {a t m : Nat} {w : Tx} (k x : Nat) (h : SB G0 a t w m) (ht : t ≠ 0) (hm0 : m ≤ 20000) (hk : m < k ∧ k ≤ 30000) (hx : (if (k : Int) - (m : Int) < (m : Int) + 2 then (m : Int) + 2 else (k : Int) - (m : Int)) = (x : Int)) : MG la X yJ7_ensureCapacityInternal cJ7_ensureCapacityInternal 3 none (rmk 3 1 (m+x) 69) [.ref a, .int (iI (k : Int))] (fun G => G = G0) (fun v G => v = none ∧ SB G a t w (m + x) ∧ FR [t] G0 G) := by
  refine MG.ofF (by decide +kernel) (Nat.le_of_ble_eq_true rfl) ?_
  intro Z C hX hL hQ
  subst hX; subst hL
  change WW Z 3 (fun G => G = G0) 0 0 0 [some (.ref a), some (.int (iI (k : Int))), none] []
  have hxb : 0 < x ∧ x ≤ 60000 := by have := hx; split at this <;> omega
  obtain ⟨ho, hl, hm, b, f, mb, k1, k2, k3⟩ := id h
  refine r_aload_n (pc := 0) C dJ7_ensureCapacityInternal_0 rfl rfl ?_
  refine r_get (pc := 1) (k := 0) (ci := 9) C dJ7_ensureCapacityInternal_1 (g1 k1) (show vwC[9]? = some (RJ8, TJ8, 4) from rfl) in_J8 (by decide) (C.t _ q261) (fun _ h => h) rfl ?_
  refine r_alenZ (pc := 4) C dJ7_ensureCapacityInternal_4 (g1 k2) ?_
  refine r_aload_n (pc := 5) C dJ7_ensureCapacityInternal_5 rfl rfl ?_
  refine r_get (pc := 6) (k := 1) (ci := 9) C dJ7_ensureCapacityInternal_6 (g1 k1) (show vwC[9]? = some (RJ8, TJ8, 4) from rfl) in_J8 (by decide) (C.t _ q262) (fun _ h => h) rfl ?_
  refine r_shr0 (pc := 9) C dJ7_ensureCapacityInternal_9 ?_
  refine r_istore_n (pc := 10) C dJ7_ensureCapacityInternal_10 rfl (by decide) ?_
  refine r_iload_n (pc := 11) C dJ7_ensureCapacityInternal_11 rfl rfl ?_
  refine r_iload_n (pc := 12) C dJ7_ensureCapacityInternal_12 rfl rfl ?_
  refine r_isubZ (pc := 13) C dJ7_ensureCapacityInternal_13 ?_
  refine r_if_leZ (pc := 14) (tgt := 38) C dJ7_ensureCapacityInternal_14 (by decide) (by unfold i32; omega) (fun h14 => absurd h14 (by omega)) (fun h14 => ?_)
  refine r_aload_n (pc := 17) C dJ7_ensureCapacityInternal_17 rfl rfl ?_
  refine r_aload_n (pc := 18) C dJ7_ensureCapacityInternal_18 rfl rfl ?_
  refine r_get (pc := 19) (k := 0) (ci := 9) C dJ7_ensureCapacityInternal_19 (g1 k1) (show vwC[9]? = some (RJ8, TJ8, 4) from rfl) in_J8 (by decide) (C.t _ q261) (fun _ h => h) rfl ?_
  refine r_aload_n (pc := 22) C dJ7_ensureCapacityInternal_22 rfl rfl ?_
  refine r_iload_n (pc := 23) C dJ7_ensureCapacityInternal_23 rfl rfl ?_
  refine r_invU (pc := 24) (ci := 9) (owner := "java/lang/AbstractStringBuilder") (x2 := yJ7_newCapacity) 1 C dJ7_ensureCapacityInternal_24 (ja_newCap k x h ⟨by omega, by omega⟩ ⟨by omega, by omega⟩ hx) (g2 k1) (show vwC[9]? = some (RJ8, TJ8, 4) from rfl) rfl (lw_U q334 q1635 (Or.inr (by decide +kernel)) q336 q90 q337) rfl (by decide +kernel) rfl rfl ⟨Nat.le_of_ble_eq_true rfl, Nat.le_of_ble_eq_true rfl⟩ (Nat.le_of_ble_eq_true rfl) ⟨(by first | exact Nat.le_of_ble_eq_true rfl | (dsimp only [rmk]; omega) | omega), (by first | exact Nat.le_of_ble_eq_true rfl | (dsimp only [rmk]; omega) | omega)⟩ (rd_k ?_)
  refine r_aload_n (pc := 27) C dJ7_ensureCapacityInternal_27 rfl rfl ?_
  refine r_get (pc := 28) (k := 1) (ci := 9) C dJ7_ensureCapacityInternal_28 (g1 k1) (show vwC[9]? = some (RJ8, TJ8, 4) from rfl) in_J8 (by decide) (C.t _ q262) (fun _ h => h) rfl ?_
  refine r_shl0 (pc := 31) C dJ7_ensureCapacityInternal_31 ?_
  refine r_fits k2 ht (fun hfit => ?_)
  refine r_invS (pc := 32) 2 C dJ7_ensureCapacityInternal_32 (mj_copyOf t k2 ht hfit (show m < m + x by omega) (by omega)) rfl (lw_S q349 q350 q94 q351) (by decide +kernel) rfl rfl ⟨Nat.le_of_ble_eq_true rfl, Nat.le_of_ble_eq_true rfl⟩ (Nat.le_of_ble_eq_true rfl) ⟨(by first | exact Nat.le_of_ble_eq_true rfl | (dsimp only [rmk]; omega) | omega), (by first | exact Nat.le_of_ble_eq_true rfl | (dsimp only [rmk]; omega) | omega)⟩ (fun v32 G32 h32 => ?_)
  obtain ⟨e, rfl, e1, rfl⟩ := h32
  refine ww_to (Γ' := P2 a t 9 [.ref b, .int (iI 0), .int (iI mb), .int (iI (w.length : Nat))] e t 1 (m + x) (cpyV f (fun _ => .int (iI 0)) 0 0 m) G0) (fun G hG => by rw [hG]; exact P2.new k1 e1) ?_
  refine r_put (pc := 35) (k := 0) (ci := 9) (ty := .array .byte) C dJ7_ensureCapacityInternal_35 (fun G hG => ⟨_, ht, hG.1, hG.put⟩) (show vwC[9]? = some (RJ8, TJ8, 4) from rfl) in_J8 tyJ8 tyJ8_ok nmJ8 (by decide) (C.t _ q261) (fun _ h => h) rfl (by decide +kernel) rfl rfl (Nat.le_of_ble_eq_true rfl) ?_
  exact r_vret (pc := 38) C hQ dJ7_ensureCapacityInternal_38 (by first | exact Nat.le_of_ble_eq_true rfl | (dsimp only [rmk]; omega) | omega) (by first | exact Nat.le_of_ble_eq_true rfl | (dsimp only [rmk]; omega) | omega) (fun G hG => ⟨rfl, by first | exact h.fr (FR.rf) (by simp) | exact hG.sb rfl rfl ho (by omega) (by omega) (fun j hj => by unfold cpyV; rw [if_pos (by omega), ← k3 j hj]; congr 1; omega), hG.frn k1 e1 (by simp)⟩)

