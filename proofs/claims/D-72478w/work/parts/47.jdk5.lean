/-! the JDK's methods: Strings are made -/
set_option maxRecDepth 100000
set_option maxHeartbeats 800000 in
theorem ms_init2 {la : Launch} {X : XE} {G0 : Gh} {a s t m : Nat} {w : Tx} (h : G0 a = some (9, .inl (7, [.null, .int (iI 0), .int (iI 0), .int (iI 0)]))) (hs : SB G0 s t w m) (ht : t ≠ 0) : MG la X yJ0_init_2 cJ0_init_2 5 none (rmk 3 1 w.length 86) [.ref a, .ref s, .null] (fun G => G = G0) (fun v G => v = none ∧ ∃ b f, G0 b = none ∧ G a = some (9, .inl (7, [.ref b, .int (iI 0), .int (iI 0), .int (iI 0)])) ∧ G b = some (9, .inr (1, w.length, f)) ∧ bys w f ∧ ∀ c q, G0 c = some q → c ≠ a → G c = some q) := by
  refine MG.ofF (by decide +kernel) (Nat.le_of_ble_eq_true rfl) ?_
  intro Z C hX hL hQ
  subst hX; subst hL
  change WW Z 5 (fun G => G = G0) 0 0 0 [some (.ref a), some (.ref s), some (.null), none, none] []
  obtain ⟨ho, hl, hm, b, f, mb, k1, k2, k3⟩ := id hs
  have hba : b ≠ a := fun e => by rw [e, h] at k2; cases k2
  refine r_aload_n (pc := 0) C dJ0_init_2_0 rfl rfl ?_
  refine r_objInit (pc := 1) (own := "") C dJ0_init_2_1 q535 q109 q110 (Nat.le_of_ble_eq_true rfl) (Nat.le_of_ble_eq_true rfl) ?_
  refine r_aload_n (pc := 4) C dJ0_init_2_4 rfl rfl ?_
  refine r_invU (pc := 5) (ci := 9) (owner := "java/lang/AbstractStringBuilder") (x2 := yJ7_getValue) 0 C dJ0_init_2_5 (ja_getValue k1) (g2 k1) (show vwC[9]? = some (RJ8, TJ8, 4) from rfl) rfl (lw_U q536 q538 (Or.inl q539) q537 q90 q540) rfl (by decide +kernel) rfl rfl ⟨Nat.le_of_ble_eq_true rfl, Nat.le_of_ble_eq_true rfl⟩ (Nat.le_of_ble_eq_true rfl) ⟨(by first | exact Nat.le_of_ble_eq_true rfl | (dsimp only [rmk]; omega) | omega), (by first | exact Nat.le_of_ble_eq_true rfl | (dsimp only [rmk]; omega) | omega)⟩ (rd_k ?_)
  refine r_astore_n (pc := 8) C dJ0_init_2_8 rfl (by decide) ?_
  refine r_aload_n (pc := 9) C dJ0_init_2_9 rfl rfl ?_
  refine r_invO (pc := 10) (ci := 9) (owner := "java/lang/AbstractStringBuilder") (x2 := yJ7_length) 0 C dJ0_init_2_10 (jb_length hs) (g2 k1) (show vwC[9]? = some (RJ8, TJ8, 4) from rfl) rfl (lw_O q541 q1632 q320 q1640 q316 q91 q318) q321 (by decide +kernel) rfl rfl ⟨Nat.le_of_ble_eq_true rfl, Nat.le_of_ble_eq_true rfl⟩ (Nat.le_of_ble_eq_true rfl) ⟨(by first | exact Nat.le_of_ble_eq_true rfl | (dsimp only [rmk]; omega) | omega), (by first | exact Nat.le_of_ble_eq_true rfl | (dsimp only [rmk]; omega) | omega)⟩ (rd_k ?_)
  refine r_istore (pc := 13) C dJ0_init_2_13 (by decide) ?_
  refine r_aload_n (pc := 15) C dJ0_init_2_15 rfl rfl ?_
  refine r_invU (pc := 16) (ci := 9) (owner := "java/lang/AbstractStringBuilder") (x2 := yJ7_isLatin1) 0 C dJ0_init_2_16 (ja_latin hs) (g2 k1) (show vwC[9]? = some (RJ8, TJ8, 4) from rfl) rfl (lw_U q542 q367 (Or.inl q368) q366 q90 q369) rfl (by decide +kernel) rfl rfl ⟨Nat.le_of_ble_eq_true rfl, Nat.le_of_ble_eq_true rfl⟩ (Nat.le_of_ble_eq_true rfl) ⟨(by first | exact Nat.le_of_ble_eq_true rfl | (dsimp only [rmk]; omega) | omega), (by first | exact Nat.le_of_ble_eq_true rfl | (dsimp only [rmk]; omega) | omega)⟩ (rd_k ?_)
  refine r_if_eqZ (pc := 19) (tgt := 41) C dJ0_init_2_19 (by decide) (by unfold i32; omega) (fun h19 => absurd h19 (by omega)) (fun h19 => ?_)
  refine ww_to (Γ' := P1 a 9 7 [.null, .int (iI 0), .int (iI 0), .int (iI 0)] G0) (fun G hG => by rw [hG]; exact P1.rf h) ?_
  refine r_aload_n (pc := 22) C dJ0_init_2_22 rfl rfl ?_
  refine r_iconstZ (pc := 23) C dJ0_init_2_23 ?_
  refine r_putF (pc := 24) (k := 1) (ci := 7) (ty := .byte) C dJ0_init_2_24 (fun G hG => ⟨_, (by decide), hG.1, hG.put⟩) (show vwC[7]? = some (RJ0, TJ0, 4) from rfl) in_J0 tyJ0 tyJ0_ok nmJ0 (by decide) (C.t _ q563) (fun _ h => h) rfl rfl rfl (by decide +kernel) (by decide) (by decide) (Nat.le_of_ble_eq_true rfl) ?_
  refine r_aload_n (pc := 27) C dJ0_init_2_27 rfl rfl ?_
  refine r_aload_n (pc := 28) C dJ0_init_2_28 rfl rfl ?_
  refine r_iconstZ (pc := 29) C dJ0_init_2_29 ?_
  refine r_iload (pc := 30) C dJ0_init_2_30 rfl ?_
  refine ww_all (fun G1 hG1 => ?_)
  refine r_invS (pc := 32) 3 C dJ0_init_2_32 (mj_copyOfRange 9 (hG1.2 b _ k2 hba) ht (by decide) (fun j hj => bys_fits k3 ho hj) hl hm) rfl (lw_S q543 q544 q94 q545) (by decide +kernel) rfl rfl ⟨Nat.le_of_ble_eq_true rfl, Nat.le_of_ble_eq_true rfl⟩ (Nat.le_of_ble_eq_true rfl) ⟨(by first | exact Nat.le_of_ble_eq_true rfl | (dsimp only [rmk]; omega) | omega), (by first | exact Nat.le_of_ble_eq_true rfl | (dsimp only [rmk]; omega) | omega)⟩ (fun v32 G32 h32 => ?_)
  obtain ⟨e, f', rfl, n1, rfl, k6⟩ := h32
  have hae : a ≠ e := (fun z => by rw [← z, hG1.1] at n1; cases n1)
  refine ww_to (Γ' := P1 a 9 7 [.null, .int (iI 0), .int (iI 0), .int (iI 0)] (gup G1 e (9, .inr (1, w.length, f')))) (fun G hG => by rw [hG]; exact P1.rf (by rw [gup_ne _ _ hae]; exact hG1.1)) ?_
  refine r_putF (pc := 35) (k := 0) (ci := 7) (ty := .array .byte) C dJ0_init_2_35 (fun G hG => ⟨_, (by decide), hG.1, hG.put⟩) (show vwC[7]? = some (RJ0, TJ0, 4) from rfl) in_J0 tyJ0 tyJ0_ok nmJ0 (by decide) (C.t _ q562) (fun _ h => h) rfl rfl rfl (by decide +kernel) rfl rfl (Nat.le_of_ble_eq_true rfl) ?_
  refine r_goto (pc := 38) (tgt := 97) C dJ0_init_2_38 (by decide) ?_
  exact r_vret (pc := 97) C hQ dJ0_init_2_97 (by first | exact Nat.le_of_ble_eq_true rfl | (dsimp only [rmk]; omega) | omega) (by first | exact Nat.le_of_ble_eq_true rfl | (dsimp only [rmk]; omega) | omega) (fun G hG => ⟨rfl, e, f', (hG1.none n1).1, hG.1, hG.2 e _ (gup_eq _ _ _) (Ne.symm hae), fun j hj => by rw [k6 j hj]; exact k3 j hj, fun c q hc hca => hG.2 c q (by rw [gup_ne _ _ (fun z => by have := hG1.2 c q hc hca; rw [z, n1] at this; cases this)]; exact hG1.2 c q hc hca) hca⟩)
set_option maxHeartbeats 800000 in
theorem ms_init {la : Launch} {X : XE} {G0 : Gh} {a s t m : Nat} {w : Tx} (h : G0 a = some (9, .inl (7, [.null, .int (iI 0), .int (iI 0), .int (iI 0)]))) (hs : SB G0 s t w m) (ht : t ≠ 0) : MG la X yJ0_init cJ0_init 2 none (rmk 4 1 w.length 110) [.ref a, .ref s] (fun G => G = G0) (fun v G => v = none ∧ ∃ b f, G0 b = none ∧ G a = some (9, .inl (7, [.ref b, .int (iI 0), .int (iI 0), .int (iI 0)])) ∧ G b = some (9, .inr (1, w.length, f)) ∧ bys w f ∧ ∀ c q, G0 c = some q → c ≠ a → G c = some q) := by
  refine MG.ofF (by decide +kernel) (Nat.le_of_ble_eq_true rfl) ?_
  intro Z C hX hL hQ
  subst hX; subst hL
  change WW Z 2 (fun G => G = G0) 0 0 0 [some (.ref a), some (.ref s)] []
  refine r_aload_n (pc := 0) C dJ0_init_0 rfl rfl ?_
  refine r_aload_n (pc := 1) C dJ0_init_1 rfl rfl ?_
  refine r_null (pc := 2) C dJ0_init_2 ?_
  refine r_invI (pc := 3) 2 C dJ0_init_3 (ms_init2 h hs ht) rfl (lw_meth q534) q83 q532 q533 rfl (by decide +kernel) rfl rfl ⟨Nat.le_of_ble_eq_true rfl, Nat.le_of_ble_eq_true rfl⟩ (Nat.le_of_ble_eq_true rfl) ⟨(by first | exact Nat.le_of_ble_eq_true rfl | (dsimp only [rmk]; omega) | omega), (by first | exact Nat.le_of_ble_eq_true rfl | (dsimp only [rmk]; omega) | omega)⟩ (fun v3 G3 h3 => ?_)
  obtain ⟨rfl, q1⟩ := h3
  exact r_vret (pc := 6) C hQ dJ0_init_6 (by first | exact Nat.le_of_ble_eq_true rfl | (dsimp only [rmk]; omega) | omega) (by first | exact Nat.le_of_ble_eq_true rfl | (dsimp only [rmk]; omega) | omega) (fun G hG => (by cases hG; exact ⟨rfl, q1⟩))
set_option maxHeartbeats 800000 in
theorem jb_toString {la : Launch} {X : XE} {G0 : Gh} {s t m : Nat} {w : Tx} (hs : SB G0 s t w m) (ht : t ≠ 0) : MG la X yJ8_toString cJ8_toString 1 (some (.object "java/lang/String")) (rmk 5 2 (4+w.length) 131) [.ref s] (fun G => G = G0) (fun v G => ∃ a, v = some (.ref a) ∧ STR G a w ∧ FR [] G0 G) := by
  refine MG.ofF (by decide +kernel) (Nat.le_of_ble_eq_true rfl) ?_
  intro Z C hX hL hQ
  subst hX; subst hL
  change WW Z 1 (fun G => G = G0) 0 0 0 [some (.ref s)] []
  refine r_newE (pc := 0) (ci := 7) (fs := [.null, .int (iI 0), .int (iI 0), .int (iI 0)]) 9 C dJ8_toString_0 (show vwC[7]? = some (RJ0, TJ0, 4) from rfl) in_J0 tyJ0 tyJ0_ok q527 q528 q83 (by decide +kernel) (by first | exact Nat.le_of_ble_eq_true rfl | (dsimp only [rmk]; omega) | omega) (by first | exact Nat.le_of_ble_eq_true rfl | (dsimp only [rmk]; omega) | omega) (fun a0 n0 => ?_)
  refine r_dup (pc := 3) C dJ8_toString_3 rfl ?_
  refine r_aload_n (pc := 4) C dJ8_toString_4 rfl rfl ?_
  refine r_invI (pc := 5) 1 C dJ8_toString_5 (ms_init (gup_eq _ _ _) (hs.fr (FR.new n0) (List.not_mem_nil)) ht) rfl (lw_meth q531) q83 q529 q530 rfl (by decide +kernel) rfl rfl ⟨Nat.le_of_ble_eq_true rfl, Nat.le_of_ble_eq_true rfl⟩ (Nat.le_of_ble_eq_true rfl) ⟨(by first | exact Nat.le_of_ble_eq_true rfl | (dsimp only [rmk]; omega) | omega), (by first | exact Nat.le_of_ble_eq_true rfl | (dsimp only [rmk]; omega) | omega)⟩ (fun v5 G5 h5 => ?_)
  obtain ⟨rfl, b, f, k1, k2, k3, k4, k5⟩ := h5
  refine ww_retag (Γ' := fun G => STR G a0 w ∧ FR [] G0 G) (fun G hG => by rw [hG]; exact STR.frz n0 (gup_none k1).1 k2 k3 k4 hs.1 (by have := hs.2.1; have := hs.2.2.1; omega) (fun c q hc => k5 c q (FR.new (ts := []) n0 c q hc (List.not_mem_nil)) (fun z => by rw [z, n0] at hc; cases hc))) ?_
  exact r_aret (pc := 8) C hQ dJ8_toString_8 (by first | exact Or.inl ⟨_, rfl⟩ | exact Or.inr ⟨_, rfl⟩) (by first | exact Or.inr ⟨_, rfl⟩ | exact Or.inl rfl) (by first | exact Nat.le_of_ble_eq_true rfl | (dsimp only [rmk]; omega) | omega) (by first | exact Nat.le_of_ble_eq_true rfl | (dsimp only [rmk]; omega) | omega) (fun G hG => ⟨a0, rfl, hG.1, hG.2⟩)
set_option maxHeartbeats 800000 in
theorem ms_init3 {la : Launch} {X : XE} {G0 : Gh} {a b : Nat} (h : G0 a = some (9, .inl (7, [.null, .int (iI 0), .int (iI 0), .int (iI 0)]))) : MG la X yJ0_init_3 cJ0_init_3 3 none (rmk 1 0 0 20) [.ref a, .ref b, .int (iI 0)] (fun G => G = G0) (fun v G => v = none ∧ G a = some (9, .inl (7, [.ref b, .int (iI 0), .int (iI 0), .int (iI 0)])) ∧ ∀ c q, G0 c = some q → c ≠ a → G c = some q) := by
  refine MG.ofF (by decide +kernel) (Nat.le_of_ble_eq_true rfl) ?_
  intro Z C hX hL hQ
  subst hX; subst hL
  change WW Z 3 (fun G => G = G0) 0 0 0 [some (.ref a), some (.ref b), some (.int (iI 0))] []
  refine r_aload_n (pc := 0) C dJ0_init_3_0 rfl rfl ?_
  refine r_objInit (pc := 1) (own := "") C dJ0_init_3_1 q535 q109 q110 (Nat.le_of_ble_eq_true rfl) (Nat.le_of_ble_eq_true rfl) ?_
  refine ww_to (Γ' := P1 a 9 7 [.null, .int (iI 0), .int (iI 0), .int (iI 0)] G0) (fun G hG => by rw [hG]; exact P1.rf h) ?_
  refine r_aload_n (pc := 4) C dJ0_init_3_4 rfl rfl ?_
  refine r_aload_n (pc := 5) C dJ0_init_3_5 rfl rfl ?_
  refine r_putF (pc := 6) (k := 0) (ci := 7) (ty := .array .byte) C dJ0_init_3_6 (fun G hG => ⟨_, (by decide), hG.1, hG.put⟩) (show vwC[7]? = some (RJ0, TJ0, 4) from rfl) in_J0 tyJ0 tyJ0_ok nmJ0 (by decide) (C.t _ q562) (fun _ h => h) rfl rfl rfl (by decide +kernel) rfl rfl (Nat.le_of_ble_eq_true rfl) ?_
  refine r_aload_n (pc := 9) C dJ0_init_3_9 rfl rfl ?_
  refine r_iload_n (pc := 10) C dJ0_init_3_10 rfl rfl ?_
  refine r_putF (pc := 11) (k := 1) (ci := 7) (ty := .byte) C dJ0_init_3_11 (fun G hG => ⟨_, (by decide), hG.1, hG.put⟩) (show vwC[7]? = some (RJ0, TJ0, 4) from rfl) in_J0 tyJ0 tyJ0_ok nmJ0 (by decide) (C.t _ q563) (fun _ h => h) rfl rfl rfl (by decide +kernel) (by decide) (by decide) (Nat.le_of_ble_eq_true rfl) ?_
  exact r_vret (pc := 14) C hQ dJ0_init_3_14 (by first | exact Nat.le_of_ble_eq_true rfl | (dsimp only [rmk]; omega) | omega) (by first | exact Nat.le_of_ble_eq_true rfl | (dsimp only [rmk]; omega) | omega) (fun G hG => ⟨rfl, hG.1, hG.2⟩)
set_option maxHeartbeats 800000 in
theorem ms_rest {la : Launch} {X : XE} {G0 : Gh} {b M : Nat} {f : Nat → Value} {w : Tx} (hb : G0 b = some (9, .inr (1, M, f))) (ho : okT w) (hw : 0 < w.length) (hM : M ≤ 2000) (hc : w.length ≤ M) (hf : bys w f) : MG la X yJ0_repeatCopyRest cJ0_repeatCopyRest 4 none (rmk 1 0 0 40) [.ref b, .int (iI 0), .int (iI (M : Int)), .int (iI (w.length : Nat))] (fun G => G = G0) (fun v G => v = none ∧ ∃ g, G = gup G0 b (9, .inr (1, M, g)) ∧ ∀ j, j < M → g j = .int (iI (tl w (j % w.length) : Nat))) := by
  refine MG.ofF (by decide +kernel) (Nat.le_of_ble_eq_true rfl) ?_
  intro Z C hX hL hQ
  subst hX; subst hL
  change WW Z 4 (fun G => G = G0) 0 0 0 [some (.ref b), some (.int (iI 0)), some (.int (iI (M : Int))), some (.int (iI (w.length : Nat)))] []
  have fit : ∀ (g : Nat → Value) (k : Nat), (∀ j, j < k → g j = .int (iI (tl w (j % w.length) : Nat))) → ∀ j, j < k → fits .byte (g j) = true := by
    intro g k hg j hj
    rw [hg j hj]
    have := tl_i ho (j % w.length)
    simp only [fits, Bool.and_eq_true, decide_eq_true_eq]
    rw [Int32.le_iff_toInt_le, Int32.le_iff_toInt_le, iI_toInt (by unfold i32; omega)]
    exact ⟨by show (-128 : Int) ≤ _; omega, by show _ ≤ (127 : Int); omega⟩
  have cp : ∀ (g : Nat → Value) (i k m : Nat), k = i * w.length → m ≤ k → (∀ j, j < k → g j = .int (iI (tl w (j % w.length) : Nat))) → ∀ j, j < k + m → cpyV g g 0 k m j = .int (iI (tl w (j % w.length) : Nat)) := by
    intro g i k m hk hm hg j hj
    unfold cpyV
    by_cases e : k ≤ j
    · rw [if_pos ⟨e, hj⟩, Nat.zero_add, hg _ (by omega)]
      have : (j - k) % w.length = j % w.length := by
        have e2 : j = (j - k) + w.length * i := by rw [Nat.mul_comm]; omega
        rw [e2, Nat.add_mul_mod_self_left, ← hk.trans (Nat.mul_comm _ _), Nat.add_sub_cancel]
      rw [this]
    · rw [if_neg (by omega)]
      exact hg j (by omega)
  have loop : ∀ (d k i : Nat) (g : Nat → Value), M - k ≤ d → k = i * w.length → 0 < k → k ≤ M → (∀ j, j < k → g j = .int (iI (tl w (j % w.length) : Nat))) → WW Z 4 (fun G => G = gup G0 b (9, .inr (1, M, g))) 0 0 0 [some (.ref b), some (.int (iI 0)), some (.int (iI (M : Int))), some (.int (iI (k : Int)))] [] := by
    intro d
    induction d with
    | zero =>
      intro k i g h1 h2 h3 h4 h5
      refine r_iload_n (pc := 0) C dJ0_repeatCopyRest_0 rfl rfl ?_
      refine r_iload_n (pc := 1) C dJ0_repeatCopyRest_1 rfl rfl ?_
      refine r_iload_n (pc := 2) C dJ0_repeatCopyRest_2 rfl rfl ?_
      refine r_isubZ (pc := 3) C dJ0_repeatCopyRest_3 ?_
      refine r_icmp_geZ (pc := 4) (tgt := 24) C dJ0_repeatCopyRest_4 (by decide) (by unfold i32; omega) (by unfold i32; omega) (fun h4 => ?_) (fun h4 => absurd h4 (by omega))
      refine r_aload_n (pc := 24) C dJ0_repeatCopyRest_24 rfl rfl ?_
      refine r_iload_n (pc := 25) C dJ0_repeatCopyRest_25 rfl rfl ?_
      refine r_aload_n (pc := 26) C dJ0_repeatCopyRest_26 rfl rfl ?_
      refine r_iload_n (pc := 27) C dJ0_repeatCopyRest_27 rfl rfl ?_
      refine r_iload_n (pc := 28) C dJ0_repeatCopyRest_28 rfl rfl ?_
      refine r_iaddZ (pc := 29) C dJ0_repeatCopyRest_29 ?_
      rw [Int.zero_add]
      refine r_iload_n (pc := 30) C dJ0_repeatCopyRest_30 rfl rfl ?_
      refine r_iload_n (pc := 31) C dJ0_repeatCopyRest_31 rfl rfl ?_
      refine r_isubZ (pc := 32) C dJ0_repeatCopyRest_32 ?_
      refine r_copyBU (pc := 33) (G0 := gup G0 b (9, .inr (1, M, g))) C dJ0_repeatCopyRest_33 q938 (by decide) (gup_eq _ _ _) (gup_eq _ _ _) (F := cpyV g g 0 k (M - k)) (by congr 1; omega) (fun i hi => fit g k h5 _ (by omega)) (by omega) (by omega) (by omega) (by omega) (by omega) (by unfold i32; omega) (by unfold i32; omega) (Nat.le_of_ble_eq_true rfl) (Nat.le_of_ble_eq_true rfl) ?_
      exact r_vret (pc := 36) C hQ dJ0_repeatCopyRest_36 (by first | exact Nat.le_of_ble_eq_true rfl | (dsimp only [rmk]; omega) | omega) (by first | exact Nat.le_of_ble_eq_true rfl | (dsimp only [rmk]; omega) | omega) (fun G hG => ⟨rfl, _, by rw [gup_gup] at hG; exact hG, fun j hj => cp g i k (M - k) h2 (by omega) h5 j (by omega)⟩)
    | succ d ih =>
      intro k i g h1 h2 h3 h4 h5
      refine r_iload_n (pc := 0) C dJ0_repeatCopyRest_0 rfl rfl ?_
      refine r_iload_n (pc := 1) C dJ0_repeatCopyRest_1 rfl rfl ?_
      refine r_iload_n (pc := 2) C dJ0_repeatCopyRest_2 rfl rfl ?_
      refine r_isubZ (pc := 3) C dJ0_repeatCopyRest_3 ?_
      refine r_icmp_geZ (pc := 4) (tgt := 24) C dJ0_repeatCopyRest_4 (by decide) (by unfold i32; omega) (by unfold i32; omega) (fun h4 => ?_) (fun h4 => ?_)
      · refine r_aload_n (pc := 24) C dJ0_repeatCopyRest_24 rfl rfl ?_
        refine r_iload_n (pc := 25) C dJ0_repeatCopyRest_25 rfl rfl ?_
        refine r_aload_n (pc := 26) C dJ0_repeatCopyRest_26 rfl rfl ?_
        refine r_iload_n (pc := 27) C dJ0_repeatCopyRest_27 rfl rfl ?_
        refine r_iload_n (pc := 28) C dJ0_repeatCopyRest_28 rfl rfl ?_
        refine r_iaddZ (pc := 29) C dJ0_repeatCopyRest_29 ?_
        rw [Int.zero_add]
        refine r_iload_n (pc := 30) C dJ0_repeatCopyRest_30 rfl rfl ?_
        refine r_iload_n (pc := 31) C dJ0_repeatCopyRest_31 rfl rfl ?_
        refine r_isubZ (pc := 32) C dJ0_repeatCopyRest_32 ?_
        refine r_copyBU (pc := 33) (G0 := gup G0 b (9, .inr (1, M, g))) C dJ0_repeatCopyRest_33 q938 (by decide) (gup_eq _ _ _) (gup_eq _ _ _) (F := cpyV g g 0 k (M - k)) (by congr 1; omega) (fun i hi => fit g k h5 _ (by omega)) (by omega) (by omega) (by omega) (by omega) (by omega) (by unfold i32; omega) (by unfold i32; omega) (Nat.le_of_ble_eq_true rfl) (Nat.le_of_ble_eq_true rfl) ?_
        exact r_vret (pc := 36) C hQ dJ0_repeatCopyRest_36 (by first | exact Nat.le_of_ble_eq_true rfl | (dsimp only [rmk]; omega) | omega) (by first | exact Nat.le_of_ble_eq_true rfl | (dsimp only [rmk]; omega) | omega) (fun G hG => ⟨rfl, _, by rw [gup_gup] at hG; exact hG, fun j hj => cp g i k (M - k) h2 (by omega) h5 j (by omega)⟩)
      · refine r_aload_n (pc := 7) C dJ0_repeatCopyRest_7 rfl rfl ?_
        refine r_iload_n (pc := 8) C dJ0_repeatCopyRest_8 rfl rfl ?_
        refine r_aload_n (pc := 9) C dJ0_repeatCopyRest_9 rfl rfl ?_
        refine r_iload_n (pc := 10) C dJ0_repeatCopyRest_10 rfl rfl ?_
        refine r_iload_n (pc := 11) C dJ0_repeatCopyRest_11 rfl rfl ?_
        refine r_iaddZ (pc := 12) C dJ0_repeatCopyRest_12 ?_
        rw [Int.zero_add]
        refine r_iload_n (pc := 13) C dJ0_repeatCopyRest_13 rfl rfl ?_
        refine r_copyBU (pc := 14) (G0 := gup G0 b (9, .inr (1, M, g))) C dJ0_repeatCopyRest_14 q938 (by decide) (gup_eq _ _ _) (gup_eq _ _ _) (F := cpyV g g 0 k k) rfl (fun i hi => fit g k h5 _ (by omega)) (by omega) (by omega) (by omega) (by omega) (by omega) (by unfold i32; omega) (by unfold i32; omega) (Nat.le_of_ble_eq_true rfl) (Nat.le_of_ble_eq_true rfl) ?_
        refine r_iload_n (pc := 17) C dJ0_repeatCopyRest_17 rfl rfl ?_
        refine r_iconstZ (pc := 18) C dJ0_repeatCopyRest_18 ?_
        refine r_shl1 (pc := 19) C dJ0_repeatCopyRest_19 (by omega) (by omega) ?_
        refine r_istore_n (pc := 20) C dJ0_repeatCopyRest_20 rfl (by decide) ?_
        refine r_goto (pc := 21) (tgt := 0) C dJ0_repeatCopyRest_21 (by decide) ?_
        rw [gup_gup, show (2 : Int) * (k : Int) = ((2 * k : Nat) : Int) by omega]
        exact ih (2 * k) (2 * i) (cpyV g g 0 k k) (by omega) (by rw [h2, Nat.mul_assoc]) (by omega) (by omega) (fun j hj => cp g i k k h2 (Nat.le_refl _) h5 j (by omega))
  have e0 : gup G0 b (9, .inr (1, M, f)) = G0 := by
    funext c
    unfold gup
    split
    · rename_i e; rw [e, hb]
    · rfl
  have := loop M w.length 1 f (by omega) (by omega) hw hc (fun j hj => by rw [Nat.mod_eq_of_lt hj]; exact hf j hj)
  rw [e0] at this
  exact this
set_option maxHeartbeats 800000 in
theorem mj_fill {la : Launch} {X : XE} {G0 : Gh} {b M : Nat} {f : Nat → Value} (c : Nat) (hb : G0 b = some (9, .inr (1, M, f))) (hc : c < 128) (hM : M ≤ 2000) : MG la X yJ10_fill_2 cJ10_fill_2 4 none (rmk 0 0 0 0) [.ref b, .int (iI (c : Int))] (fun G => G = G0) (fun v G => v = none ∧ ∃ g, G = gup G0 b (9, .inr (1, M, g)) ∧ ∀ j, j < M → g j = .int (iI (c : Int))) := by
  refine MG.ofF (by decide +kernel) (Nat.le_of_ble_eq_true rfl) ?_
  intro Z C hX hL hQ
  subst hX; subst hL
  change WW Z 4 (fun G => G = G0) 0 0 0 [some (.ref b), some (.int (iI (c : Int))), none, none] []
  have loop : ∀ i : Nat, i ≤ M → ∀ g : Nat → Value, (∀ j, j < i → g j = .int (iI (c : Int))) → WW Z 4 (fun G => G = gup G0 b (9, .inr (1, M, g))) 0 0 5 [some (.ref b), some (.int (iI (c : Int))), some (.int (iI (i : Int))), some (.int (iI (M : Int)))] [] := by
    refine loopN _ _ (fun i hi ih g hg => ?_)
    refine r_iload_n (pc := 5) C dJ10_fill_2_5 rfl rfl ?_
    refine r_iload_n (pc := 6) C dJ10_fill_2_6 rfl rfl ?_
    refine r_icmp_geZ (pc := 7) (tgt := 20) C dJ10_fill_2_7 (by decide) (by unfold i32; omega) (by unfold i32; omega) (fun h7 => ?_) (fun h7 => ?_)
    · exact r_vret (pc := 20) C hQ dJ10_fill_2_20 (by first | exact Nat.le_of_ble_eq_true rfl | (dsimp only [rmk]; omega) | omega) (by first | exact Nat.le_of_ble_eq_true rfl | (dsimp only [rmk]; omega) | omega) (fun G hG => ⟨rfl, g, hG, fun j hj => hg j (by omega)⟩)
    · refine r_aload_n (pc := 10) C dJ10_fill_2_10 rfl rfl ?_
      refine r_iload_n (pc := 11) C dJ10_fill_2_11 rfl rfl ?_
      refine r_iload_n (pc := 12) C dJ10_fill_2_12 rfl rfl ?_
      refine r_bastZ (pc := 13) C dJ10_fill_2_13 (Γ' := fun G => G = gup G0 b (9, .inr (1, M, vup g i (.int (iI (c : Int)))))) (fun G hG => ⟨9, by decide, by rw [hG]; exact gup_eq _ _ _, by rw [hG]; show gup (gup G0 b _) b _ = _; rw [gup_gup]; rfl⟩) (by omega) (by omega) (by unfold i32; omega) (by omega) ?_
      refine r_iincZ (pc := 14) C dJ10_fill_2_14 rfl (by decide) ?_
      refine r_goto (pc := 17) (tgt := 5) C dJ10_fill_2_17 (by decide) ?_
      refine ih (by omega) _ (fun j hj => ?_)
      unfold vup
      by_cases e : j = i
      · rw [if_pos e]
      · rw [if_neg e]; exact hg j (by omega)
  have e0 : gup G0 b (9, .inr (1, M, f)) = G0 := by
    funext c
    unfold gup
    split
    · rename_i e; rw [e, hb]
    · rfl
  refine r_iconstZ (pc := 0) C dJ10_fill_2_0 ?_
  refine r_istore_n (pc := 1) C dJ10_fill_2_1 rfl (by decide) ?_
  refine r_aload_n (pc := 2) C dJ10_fill_2_2 rfl rfl ?_
  refine r_alenZ (pc := 3) C dJ10_fill_2_3 (g1 hb) ?_
  refine r_istore_n (pc := 4) C dJ10_fill_2_4 rfl (by decide) ?_
  have := loop 0 (Nat.zero_le _) f (fun j hj => absurd hj (Nat.not_lt_zero _))
  rw [e0] at this
  exact this
set_option maxHeartbeats 800000 in
theorem ms_repeat {la : Launch} {X : XE} {G0 : Gh} {a : Nat} {w : Tx} (n : Nat) (h : STR G0 a w) (hn : 2 ≤ n ∧ n ≤ 5) (hw : 0 < w.length ∧ w.length ≤ 20) : MG la X yJ0_repeat cJ0_repeat 5 (some (.object "java/lang/String")) (rmk 2 2 104 63) [.ref a, .int (iI (n : Int))] (fun G => G = G0) (fun v G => ∃ x, v = some (.ref x) ∧ STR G x (repT w n) ∧ FR [] G0 G) := by
  refine MG.ofF (by decide +kernel) (Nat.le_of_ble_eq_true rfl) ?_
  intro Z C hX hL hQ
  subst hX; subst hL
  change WW Z 5 (fun G => G = G0) 0 0 0 [some (.ref a), some (.int (iI (n : Int))), none, none, none] []
  obtain ⟨ho, hl, b, f, q, z, k1, k2, k3⟩ := id h
  have hq : 1000 ≤ 2147483647 / (n : Int) ∧ 2147483647 / (n : Int) ≤ 2147483647 := by
    have : n = 2 ∨ n = 3 ∨ n = 4 ∨ n = 5 := by omega
    rcases this with rfl | rfl | rfl | rfl <;> decide
  have hL : w.length * n ≤ 100 := Nat.mul_le_mul hw.2 hn.2
  have hL2 : w.length * 2 ≤ w.length * n := Nat.mul_le_mul_left _ hn.1
  have hRL := repT_len w n
  rw [Nat.mul_comm] at hRL
  refine r_iload_n (pc := 0) C dJ0_repeat_0 rfl rfl ?_
  refine r_if_geZ (pc := 1) (tgt := 32) C dJ0_repeat_1 (by decide) (by unfold i32; omega) (fun h1 => ?_) (fun h1 => absurd h1 (by omega))
  refine r_iload_n (pc := 32) C dJ0_repeat_32 rfl rfl ?_
  refine r_iconstZ (pc := 33) C dJ0_repeat_33 ?_
  refine r_icmp_neZ (pc := 34) (tgt := 39) C dJ0_repeat_34 (by decide) (by unfold i32; omega) (by unfold i32; omega) (fun h34 => ?_) (fun h34 => absurd h34 (by omega))
  refine r_aload_n (pc := 39) C dJ0_repeat_39 rfl rfl ?_
  refine r_get (pc := 40) (k := 0) (ci := 7) C dJ0_repeat_40 (g1 k1) (show vwC[7]? = some (RJ0, TJ0, 4) from rfl) in_J0 (by decide) (C.t _ q562) (fun _ h => h) rfl ?_
  refine r_alenZ (pc := 43) C dJ0_repeat_43 (g1 k2) ?_
  refine r_istore_n (pc := 44) C dJ0_repeat_44 rfl (by decide) ?_
  refine r_iload_n (pc := 45) C dJ0_repeat_45 rfl rfl ?_
  refine r_if_eqZ (pc := 46) (tgt := 53) C dJ0_repeat_46 (by decide) (by unfold i32; omega) (fun h46 => absurd h46 (by omega)) (fun h46 => ?_)
  refine r_iload_n (pc := 49) C dJ0_repeat_49 rfl rfl ?_
  refine r_if_neZ (pc := 50) (tgt := 56) C dJ0_repeat_50 (by decide) (by unfold i32; omega) (fun h50 => ?_) (fun h50 => absurd h50 (by omega))
  refine r_ldcwZ (pc := 56) (a := 2147483647) C dJ0_repeat_56 rfl q949 (by decide) ?_
  refine r_iload_n (pc := 59) C dJ0_repeat_59 rfl rfl ?_
  refine r_idivE (pc := 60) C dJ0_repeat_60 (by unfold i32; omega) (by unfold i32; omega) (by omega) (by omega) ?_
  generalize 2147483647 / (n : Int) = qd at hq ⊢
  refine r_iload_n (pc := 61) C dJ0_repeat_61 rfl rfl ?_
  refine r_icmp_geZ (pc := 62) (tgt := 76) C dJ0_repeat_62 (by decide) (by unfold i32; omega) (by unfold i32; omega) (fun h62 => ?_) (fun h62 => absurd h62 (by omega))
  refine r_iload_n (pc := 76) C dJ0_repeat_76 rfl rfl ?_
  refine r_iconstZ (pc := 77) C dJ0_repeat_77 ?_
  refine r_icmp_neZ (pc := 78) (tgt := 108) C dJ0_repeat_78 (by decide) (by unfold i32; omega) (by unfold i32; omega) (fun h78 => ?_) (fun h78 => ?_)
  · refine r_iload_n (pc := 108) C dJ0_repeat_108 rfl rfl ?_
    refine r_iload_n (pc := 109) C dJ0_repeat_109 rfl rfl ?_
    refine r_imulZ (pc := 110) C dJ0_repeat_110 ?_
    rw [show ((w.length : Nat) : Int) * (n : Int) = ((w.length * n : Nat) : Int) from (Int.natCast_mul _ _).symm]
    generalize w.length * n = L at hL hL2 hRL ⊢
    refine r_istore_n (pc := 111) C dJ0_repeat_111 rfl (by decide) ?_
    refine r_iload_n (pc := 112) C dJ0_repeat_112 rfl rfl ?_
    refine r_newaBE (pc := 113) 9 C dJ0_repeat_113 q215 (N := L) rfl (by omega) (by first | exact Nat.le_of_ble_eq_true rfl | (dsimp only [rmk]; omega) | omega) (by first | exact Nat.le_of_ble_eq_true rfl | (dsimp only [rmk]; omega) | omega) (fun a113 n113 => ?_)
    refine r_astore (pc := 115) C dJ0_repeat_115 (by decide) ?_
    refine r_aload_n (pc := 117) C dJ0_repeat_117 rfl rfl ?_
    refine r_get (pc := 118) (k := 0) (ci := 7) C dJ0_repeat_118 (g1 (up0 n113 k1)) (show vwC[7]? = some (RJ0, TJ0, 4) from rfl) in_J0 (by decide) (C.t _ q562) (fun _ h => h) rfl ?_
    refine r_iconstZ (pc := 121) C dJ0_repeat_121 ?_
    refine r_aload (pc := 122) C dJ0_repeat_122 rfl ?_
    refine r_iconstZ (pc := 124) C dJ0_repeat_124 ?_
    refine r_iload_n (pc := 125) C dJ0_repeat_125 rfl rfl ?_
    refine r_copyBE (pc := 126) C dJ0_repeat_126 q938 (by decide) k2 n113 (F := cpyV f (fun _ => .int (iI 0)) 0 0 w.length) rfl (fun i hi => bys_fits k3 ho (by omega)) (by omega) (by omega) (by omega) (by omega) (by omega) (by unfold i32; omega) (by unfold i32; omega) (Nat.le_of_ble_eq_true rfl) (Nat.le_of_ble_eq_true rfl) ?_
    refine r_aload (pc := 129) C dJ0_repeat_129 rfl ?_
    refine r_iconstZ (pc := 131) C dJ0_repeat_131 ?_
    refine r_iload_n (pc := 132) C dJ0_repeat_132 rfl rfl ?_
    refine r_iload_n (pc := 133) C dJ0_repeat_133 rfl rfl ?_
    refine r_invS (pc := 134) 4 C dJ0_repeat_134 (ms_rest (M := L) (gup_eq _ _ _) ho hw.1 (by omega) (by omega) (fun j hj => by unfold cpyV; rw [if_pos (by omega), ← k3 j hj]; congr 1; omega)) rfl (lw_S q956 q957 q83 q958) (by decide +kernel) rfl rfl ⟨Nat.le_of_ble_eq_true rfl, Nat.le_of_ble_eq_true rfl⟩ (Nat.le_of_ble_eq_true rfl) ⟨(by first | exact Nat.le_of_ble_eq_true rfl | (dsimp only [rmk]; omega) | omega), (by first | exact Nat.le_of_ble_eq_true rfl | (dsimp only [rmk]; omega) | omega)⟩ (fun v134 G134 h134 => ?_)
    obtain ⟨rfl, g, rfl, kg⟩ := h134
    rw [gup_gup]
    refine r_newE (pc := 137) (ci := 7) (fs := [.null, .int (iI 0), .int (iI 0), .int (iI 0)]) 9 C dJ0_repeat_137 (show vwC[7]? = some (RJ0, TJ0, 4) from rfl) in_J0 tyJ0 tyJ0_ok q187 q528 q83 (by decide +kernel) (by first | exact Nat.le_of_ble_eq_true rfl | (dsimp only [rmk]; omega) | omega) (by first | exact Nat.le_of_ble_eq_true rfl | (dsimp only [rmk]; omega) | omega) (fun a137 n137 => ?_)
    refine r_dup (pc := 140) C dJ0_repeat_140 rfl ?_
    refine r_aload (pc := 141) C dJ0_repeat_141 rfl ?_
    refine r_aload_n (pc := 143) C dJ0_repeat_143 rfl rfl ?_
    refine r_get (pc := 144) (k := 1) (ci := 7) C dJ0_repeat_144 (g1 (up0 n137 (up0 n113 k1))) (show vwC[7]? = some (RJ0, TJ0, 4) from rfl) in_J0 (by decide) (C.t _ q563) (fun _ h => h) rfl ?_
    refine r_invI (pc := 147) 2 C dJ0_repeat_147 (ms_init3 (gup_eq _ _ _)) rfl (lw_meth q955) q83 q953 q954 rfl (by decide +kernel) rfl rfl ⟨Nat.le_of_ble_eq_true rfl, Nat.le_of_ble_eq_true rfl⟩ (Nat.le_of_ble_eq_true rfl) ⟨(by first | exact Nat.le_of_ble_eq_true rfl | (dsimp only [rmk]; omega) | omega), (by first | exact Nat.le_of_ble_eq_true rfl | (dsimp only [rmk]; omega) | omega)⟩ (fun v147 G147 h147 => ?_)
    obtain ⟨rfl, k5, k6⟩ := h147
    refine ww_retag (Γ' := fun G => STR G a137 (repT w n) ∧ FR [] G0 G) (fun G hG => by rw [hG]; exact STR.frz (b := a113) (f := g) (gup_none n137).1 n113 k5 (by rw [hRL]; exact k6 _ _ (up0 n137 (gup_eq _ _ _)) (Ne.symm (gup_none n137).2)) (fun j hj => by rw [hRL] at hj; rw [kg j hj, repT_at w n j (by rw [← repT_len, hRL]; exact hj)]) (repT_ok ho n) (by omega) (fun c q hc => k6 c q (up0 n137 (up0 n113 hc)) (fun z => by rw [z, (gup_none n137).1] at hc; cases hc))) ?_
    exact r_aret (pc := 150) C hQ dJ0_repeat_150 (by first | exact Or.inl ⟨_, rfl⟩ | exact Or.inr ⟨_, rfl⟩) (by first | exact Or.inr ⟨_, rfl⟩ | exact Or.inl rfl) (by first | exact Nat.le_of_ble_eq_true rfl | (dsimp only [rmk]; omega) | omega) (by first | exact Nat.le_of_ble_eq_true rfl | (dsimp only [rmk]; omega) | omega) (fun G hG => ⟨a137, rfl, hG.1, hG.2⟩)
  · refine r_iload_n (pc := 81) C dJ0_repeat_81 rfl rfl ?_
    refine r_newaBE (pc := 82) 9 C dJ0_repeat_82 q215 (N := n) rfl (by omega) (by first | exact Nat.le_of_ble_eq_true rfl | (dsimp only [rmk]; omega) | omega) (by first | exact Nat.le_of_ble_eq_true rfl | (dsimp only [rmk]; omega) | omega) (fun a82 n82 => ?_)
    refine r_astore_n (pc := 84) C dJ0_repeat_84 rfl (by decide) ?_
    refine r_aload_n (pc := 85) C dJ0_repeat_85 rfl rfl ?_
    refine r_aload_n (pc := 86) C dJ0_repeat_86 rfl rfl ?_
    refine r_get (pc := 87) (k := 0) (ci := 7) C dJ0_repeat_87 (g1 (up0 n82 k1)) (show vwC[7]? = some (RJ0, TJ0, 4) from rfl) in_J0 (by decide) (C.t _ q562) (fun _ h => h) rfl ?_
    refine r_iconstZ (pc := 90) C dJ0_repeat_90 ?_
    refine r_baldZ (pc := 91) C dJ0_repeat_91 (g1 (up0 n82 k2)) (by omega) (by omega) (by unfold i32; omega) (k3 0 (by omega)) ?_
    refine r_invS (pc := 92) 2 C dJ0_repeat_92 (mj_fill (tl w 0) (gup_eq _ _ _) (tl_i ho 0) (by omega)) rfl (lw_S q950 q951 q94 q952) (by decide +kernel) rfl rfl ⟨Nat.le_of_ble_eq_true rfl, Nat.le_of_ble_eq_true rfl⟩ (Nat.le_of_ble_eq_true rfl) ⟨(by first | exact Nat.le_of_ble_eq_true rfl | (dsimp only [rmk]; omega) | omega), (by first | exact Nat.le_of_ble_eq_true rfl | (dsimp only [rmk]; omega) | omega)⟩ (fun v92 G92 h92 => ?_)
    obtain ⟨rfl, g, rfl, kg⟩ := h92
    rw [gup_gup]
    refine r_newE (pc := 95) (ci := 7) (fs := [.null, .int (iI 0), .int (iI 0), .int (iI 0)]) 9 C dJ0_repeat_95 (show vwC[7]? = some (RJ0, TJ0, 4) from rfl) in_J0 tyJ0 tyJ0_ok q187 q528 q83 (by decide +kernel) (by first | exact Nat.le_of_ble_eq_true rfl | (dsimp only [rmk]; omega) | omega) (by first | exact Nat.le_of_ble_eq_true rfl | (dsimp only [rmk]; omega) | omega) (fun a95 n95 => ?_)
    refine r_dup (pc := 98) C dJ0_repeat_98 rfl ?_
    refine r_aload_n (pc := 99) C dJ0_repeat_99 rfl rfl ?_
    refine r_aload_n (pc := 100) C dJ0_repeat_100 rfl rfl ?_
    refine r_get (pc := 101) (k := 1) (ci := 7) C dJ0_repeat_101 (g1 (up0 n95 (up0 n82 k1))) (show vwC[7]? = some (RJ0, TJ0, 4) from rfl) in_J0 (by decide) (C.t _ q563) (fun _ h => h) rfl ?_
    refine r_invI (pc := 104) 2 C dJ0_repeat_104 (ms_init3 (gup_eq _ _ _)) rfl (lw_meth q955) q83 q953 q954 rfl (by decide +kernel) rfl rfl ⟨Nat.le_of_ble_eq_true rfl, Nat.le_of_ble_eq_true rfl⟩ (Nat.le_of_ble_eq_true rfl) ⟨(by first | exact Nat.le_of_ble_eq_true rfl | (dsimp only [rmk]; omega) | omega), (by first | exact Nat.le_of_ble_eq_true rfl | (dsimp only [rmk]; omega) | omega)⟩ (fun v104 G104 h104 => ?_)
    obtain ⟨rfl, k5, k6⟩ := h104
    have hl1 : w.length = 1 := by omega
    refine ww_retag (Γ' := fun G => STR G a95 (repT w n) ∧ FR [] G0 G) (fun G hG => by rw [hG]; exact STR.frz (b := a82) (f := g) (gup_none n95).1 n82 k5 (by rw [hRL, hl1, Nat.one_mul]; exact k6 _ _ (up0 n95 (gup_eq _ _ _)) (Ne.symm (gup_none n95).2)) (fun j hj => by rw [hRL, hl1] at hj; rw [kg j (by omega), repT_at w n j (by rw [hl1]; omega), hl1, Nat.mod_one]) (repT_ok ho n) (by omega) (fun c q hc => k6 c q (up0 n95 (up0 n82 hc)) (fun z => by rw [z, (gup_none n95).1] at hc; cases hc))) ?_
    exact r_aret (pc := 107) C hQ dJ0_repeat_107 (by first | exact Or.inl ⟨_, rfl⟩ | exact Or.inr ⟨_, rfl⟩) (by first | exact Or.inr ⟨_, rfl⟩ | exact Or.inl rfl) (by first | exact Nat.le_of_ble_eq_true rfl | (dsimp only [rmk]; omega) | omega) (by first | exact Nat.le_of_ble_eq_true rfl | (dsimp only [rmk]; omega) | omega) (fun G hG => ⟨a95, rfl, hG.1, hG.2⟩)

