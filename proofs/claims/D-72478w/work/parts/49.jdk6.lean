/-! the JDK's methods: ArrayLists -/
set_option maxRecDepth 100000
set_option maxHeartbeats 800000 in
theorem jl_size {la : Launch} {X : XE} {G0 : Gh} {a t m : Nat} {els : List Nat} (h : LST X G0 a t els m) : MG la X yJ6_size cJ6_size 1 (some .int) (rmk 0 0 0 0) [.ref a] (fun G => G = G0) (fun zv G => zv = some (.int (iI (els.length : Nat))) ∧ G = G0) := by
  refine MG.ofF (by decide +kernel) (Nat.le_of_ble_eq_true rfl) ?_
  intro Z C hX hL hQ
  subst hX; subst hL
  change WW Z 1 (fun G => G = G0) 0 0 0 [some (.ref a)] []
  obtain ⟨e, f, mc, -, -, k1, k2, k3⟩ := h
  refine r_aload_n (pc := 0) C dJ6_size_0 rfl rfl ?_
  refine r_get (pc := 1) (k := 2) (ci := 8) C dJ6_size_1 (g1 k1) (show vwC[8]? = some (RJ6, TJ6, 3) from rfl) in_J6 (by decide) (C.t _ q233) (fun _ h => h) rfl ?_
  exact r_iret (pc := 4) C hQ dJ6_size_4 (Nat.le_of_ble_eq_true rfl) (Nat.le_of_ble_eq_true rfl) (fun G hG => ⟨rfl, hG⟩)
set_option maxHeartbeats 800000 in
theorem jl_isEmpty {la : Launch} {X : XE} {G0 : Gh} {a t m : Nat} {els : List Nat} (h : LST X G0 a t els m) : MG la X yJ6_isEmpty cJ6_isEmpty 1 (some .boolean) (rmk 0 0 0 0) [.ref a] (fun G => G = G0) (fun zv G => zv = some (.int (iI (b2 (els.length = 0)))) ∧ G = G0) := by
  refine MG.ofF (by decide +kernel) (Nat.le_of_ble_eq_true rfl) ?_
  intro Z C hX hL hQ
  subst hX; subst hL
  change WW Z 1 (fun G => G = G0) 0 0 0 [some (.ref a)] []
  obtain ⟨e, f, mc, l1, l2, k1, k2, k3⟩ := h
  refine r_aload_n (pc := 0) C dJ6_isEmpty_0 rfl rfl ?_
  refine r_get (pc := 1) (k := 2) (ci := 8) C dJ6_isEmpty_1 (g1 k1) (show vwC[8]? = some (RJ6, TJ6, 3) from rfl) in_J6 (by decide) (C.t _ q233) (fun _ h => h) rfl ?_
  refine r_if_neZ (pc := 4) (tgt := 11) C dJ6_isEmpty_4 (by decide) (by unfold i32; omega) (fun h4 => ?_) (fun h4 => ?_)
  · refine r_iconstZ (pc := 11) C dJ6_isEmpty_11 ?_
    exact r_zret (pc := 12) C hQ dJ6_isEmpty_12 (by decide) (Nat.le_of_ble_eq_true rfl) (Nat.le_of_ble_eq_true rfl) (fun G hG => ⟨(by first | rw [b2_t (by omega)] | rw [b2_f (by omega)]), hG⟩)
  · refine r_iconstZ (pc := 7) C dJ6_isEmpty_7 ?_
    refine r_goto (pc := 8) (tgt := 12) C dJ6_isEmpty_8 (by decide) ?_
    exact r_zret (pc := 12) C hQ dJ6_isEmpty_12 (by decide) (Nat.le_of_ble_eq_true rfl) (Nat.le_of_ble_eq_true rfl) (fun G hG => ⟨(by first | rw [b2_t (by omega)] | rw [b2_f (by omega)]), hG⟩)
set_option maxHeartbeats 800000 in
theorem jl_elem {la : Launch} {X : XE} {G0 : Gh} {a t m : Nat} {els : List Nat} (k : Int) (h : LST X G0 a t els m) (hk : 0 ≤ k ∧ k < els.length) : MG la X yJ6_elementData cJ6_elementData 2 (some (.object "java/lang/Object")) (rmk 0 0 0 0) [.ref a, .int (iI k)] (fun G => G = G0) (fun zv G => zv = some (.ref (els.getD k.toNat 0)) ∧ G = G0) := by
  refine MG.ofF (by decide +kernel) (Nat.le_of_ble_eq_true rfl) ?_
  intro Z C hX hL hQ
  subst hX; subst hL
  change WW Z 2 (fun G => G = G0) 0 0 0 [some (.ref a), some (.int (iI k))] []
  obtain ⟨e, f, mc, l1, l2, k1, k2, k3⟩ := h
  obtain ⟨l3, k4⟩ : 10 ≤ m ∧ G0 e = some (t, .inr (2, m, f)) := by rcases k3 with k3 | k3; omega; exact k3
  refine r_aload_n (pc := 0) C dJ6_elementData_0 rfl rfl ?_
  refine r_get (pc := 1) (k := 1) (ci := 8) C dJ6_elementData_1 (g1 k1) (show vwC[8]? = some (RJ6, TJ6, 3) from rfl) in_J6 (by decide) (C.t _ q232) (fun _ h => h) rfl ?_
  refine r_iload_n (pc := 4) C dJ6_elementData_4 rfl rfl ?_
  refine r_aaldZ (pc := 5) C dJ6_elementData_5 (g1 k4) (by omega) (by omega) (by unfold i32; omega) (k2 k.toNat (by omega)) ?_
  exact r_aret (pc := 6) C hQ dJ6_elementData_6 (by first | exact Or.inl ⟨_, rfl⟩ | exact Or.inr ⟨_, rfl⟩) (by first | exact Or.inr ⟨_, rfl⟩ | exact Or.inl rfl) (Nat.le_of_ble_eq_true rfl) (Nat.le_of_ble_eq_true rfl) (fun G hG => ⟨rfl, hG⟩)
set_option maxHeartbeats 800000 in
theorem jl_get {la : Launch} {X : XE} {G0 : Gh} {a t m : Nat} {els : List Nat} (k : Int) (h : LST X G0 a t els m) (hk : 0 ≤ k ∧ k < els.length) : MG la X yJ6_get cJ6_get 2 (some (.object "java/lang/Object")) (rmk 2 0 0 43) [.ref a, .int (iI k)] (fun G => G = G0) (fun zv G => zv = some (.ref (els.getD k.toNat 0)) ∧ G = G0) := by
  refine MG.ofF (by decide +kernel) (Nat.le_of_ble_eq_true rfl) ?_
  intro Z C hX hL hQ
  subst hX; subst hL
  change WW Z 2 (fun G => G = G0) 0 0 0 [some (.ref a), some (.int (iI k))] []
  obtain ⟨e, f, mc, l1, l2, k1, k2, k3⟩ := id h
  refine r_iload_n (pc := 0) C dJ6_get_0 rfl rfl ?_
  refine r_aload_n (pc := 1) C dJ6_get_1 rfl rfl ?_
  refine r_get (pc := 2) (k := 2) (ci := 8) C dJ6_get_2 (g1 k1) (show vwC[8]? = some (RJ6, TJ6, 3) from rfl) in_J6 (by decide) (C.t _ q233) (fun _ h => h) rfl ?_
  refine r_invP (pc := 5) 2 C dJ6_get_5 (pf_objCheck k (els.length : Nat) hk (by omega)) rfl (lw_S q674 q675 q99 q676) (by decide +kernel) rfl rfl ⟨Nat.le_of_ble_eq_true rfl, Nat.le_of_ble_eq_true rfl⟩ (Nat.le_of_ble_eq_true rfl) ⟨Nat.le_of_ble_eq_true rfl, Nat.le_of_ble_eq_true rfl⟩ ?_
  refine r_pop (pc := 8) C dJ6_get_8 rfl ?_
  refine r_aload_n (pc := 9) C dJ6_get_9 rfl rfl ?_
  refine r_iload_n (pc := 10) C dJ6_get_10 rfl rfl ?_
  refine r_invV (pc := 11) (ci := 8) 1 C dJ6_get_11 (jl_elem k h hk) (g2 k1) (show vwC[8]? = some (RJ6, TJ6, 3) from rfl) rfl (lw_V q678 q679 q680 q89 q681) (by decide +kernel) rfl rfl ⟨Nat.le_of_ble_eq_true rfl, Nat.le_of_ble_eq_true rfl⟩ (Nat.le_of_ble_eq_true rfl) ⟨Nat.le_of_ble_eq_true rfl, Nat.le_of_ble_eq_true rfl⟩ (rd_k ?_)
  exact r_aret (pc := 14) C hQ dJ6_get_14 (by first | exact Or.inl ⟨_, rfl⟩ | exact Or.inr ⟨_, rfl⟩) (by first | exact Or.inr ⟨_, rfl⟩ | exact Or.inl rfl) (Nat.le_of_ble_eq_true rfl) (Nat.le_of_ble_eq_true rfl) (fun G hG => ⟨rfl, hG⟩)
set_option maxHeartbeats 800000 in
theorem mj_copyO3 {la : Launch} {X : XE} {G0 : Gh} {b t N M : Nat} {f : Nat → Value} (t1 : Nat) (h : G0 b = some (t, .inr (2, N, f))) (ht1 : t1 ≠ 0) (hob : ∀ j, j < N → isObj G0 (f j)) (hNM : N ≤ M) (hM : M ≤ 100000) : MG la X yJ10_copyOf_3 cJ10_copyOf_3 4 (some (.array (.object "java/lang/Object"))) (rmk 1 1 M 40) [.ref b, .int (iI (M : Int)), .ref (X.2.2 7)] (fun G => G = G0) (fun v G => ∃ e, v = some (.ref e) ∧ G0 e = none ∧ G = gup G0 e (t1, .inr (2, M, cpyV f (fun _ => .null) 0 0 N))) := by
  refine MG.ofF (by decide +kernel) (Nat.le_of_ble_eq_true rfl) ?_
  intro Z C hX hL hQ
  subst hX; subst hL
  change WW Z 4 (fun G => G = G0) 0 0 0 [some (.ref b), some (.int (iI (M : Int))), some (.ref ((zX Z).2.2 7)), none] []
  refine r_aload_n (pc := 0) C dJ10_copyOf_3_0 rfl rfl ?_
  refine r_ldcM (pc := 1) C dJ10_copyOf_3_1 q656 ?_
  refine r_acmp_ne (pc := 3) (tgt := 13) (rx := some ((zX Z).2.2 7)) (rw := some ((zX Z).2.2 7)) C dJ10_copyOf_3_3 (by decide) (fun h3 => by first | exact absurd rfl h3 | exact (h3 rfl).elim) (fun h3 => ?_)
  refine r_iload_n (pc := 6) C dJ10_copyOf_3_6 rfl rfl ?_
  refine r_anewE (pc := 7) (N := M) t1 C dJ10_copyOf_3_7 rfl q658 rfl (by omega) (by first | exact Nat.le_of_ble_eq_true rfl | (dsimp only [rmk]; omega)) (by first | exact Nat.le_of_ble_eq_true rfl | (dsimp only [rmk]; omega)) (fun a7 n7 => ?_)
  refine r_goto (pc := 10) (tgt := 24) C dJ10_copyOf_3_10 (by decide) ?_
  refine r_astore_n (pc := 24) C dJ10_copyOf_3_24 rfl (by decide) ?_
  have hb : b ≠ a7 := fun e => by rw [e, n7] at h; cases h
  refine r_aload_n (pc := 25) C dJ10_copyOf_3_25 rfl rfl ?_
  refine r_iconstZ (pc := 26) C dJ10_copyOf_3_26 ?_
  refine r_aload_n (pc := 27) C dJ10_copyOf_3_27 rfl rfl ?_
  refine r_iconstZ (pc := 28) C dJ10_copyOf_3_28 ?_
  refine r_aload_n (pc := 29) C dJ10_copyOf_3_29 rfl rfl ?_
  refine r_alenZ (pc := 30) C dJ10_copyOf_3_30 (fun G hG => ⟨t, by rw [hG, gup_ne _ _ hb]; exact h⟩) ?_
  refine r_iload_n (pc := 31) C dJ10_copyOf_3_31 rfl rfl ?_
  refine r_invP (pc := 32) 2 C dJ10_copyOf_3_32 (pf_min N M (by unfold i32; omega) (by unfold i32; omega)) rfl (lw_S q359 q360 q93 q361) (by decide +kernel) rfl rfl ⟨Nat.le_of_ble_eq_true rfl, Nat.le_of_ble_eq_true rfl⟩ (Nat.le_of_ble_eq_true rfl) ⟨(by first | exact Nat.le_of_ble_eq_true rfl | (dsimp only [rmk]; omega) | omega), (by first | exact Nat.le_of_ble_eq_true rfl | (dsimp only [rmk]; omega) | omega)⟩ ?_
  rw [if_pos (show (N : Int) ≤ (M : Int) by omega)]
  refine r_copyOE (pc := 35) C dJ10_copyOf_3_35 q362 ht1 h n7 (F := cpyV f (fun _ => .null) 0 0 N) rfl (fun i hi => hob _ (by omega)) (by omega) (by omega) (by omega) (by omega) (by omega) (by unfold i32; omega) (by unfold i32; omega) (Nat.le_of_ble_eq_true rfl) (Nat.le_of_ble_eq_true rfl) ?_
  refine r_aload_n (pc := 38) C dJ10_copyOf_3_38 rfl rfl ?_
  exact r_aret (pc := 39) C hQ dJ10_copyOf_3_39 (by first | exact Or.inl ⟨_, rfl⟩ | exact Or.inr ⟨_, rfl⟩) (by first | exact Or.inr ⟨_, rfl⟩ | exact Or.inl rfl) (by first | exact Nat.le_of_ble_eq_true rfl | (dsimp only [rmk]; omega) | omega) (by first | exact Nat.le_of_ble_eq_true rfl | (dsimp only [rmk]; omega) | omega) (fun G hG => ⟨a7, rfl, n7, hG⟩)
set_option maxHeartbeats 800000 in
theorem mj_copyO2 {la : Launch} {X : XE} {G0 : Gh} {b t N M : Nat} {f : Nat → Value} (t1 : Nat) (h : G0 b = some (t, .inr (2, N, f))) (ht1 : t1 ≠ 0) (hob : ∀ j, j < N → isObj G0 (f j)) (hNM : N ≤ M) (hM : M ≤ 100000) : MG la X yJ10_copyOf_2 cJ10_copyOf_2 2 (some (.array (.object "java/lang/Object"))) (rmk 2 1 M 63) [.ref b, .int (iI (M : Int))] (fun G => G = G0) (fun v G => ∃ e, v = some (.ref e) ∧ G0 e = none ∧ G = gup G0 e (t1, .inr (2, M, cpyV f (fun _ => .null) 0 0 N))) := by
  refine MG.ofF (by decide +kernel) (Nat.le_of_ble_eq_true rfl) ?_
  intro Z C hX hL hQ
  subst hX; subst hL
  change WW Z 2 (fun G => G = G0) 0 0 0 [some (.ref b), some (.int (iI (M : Int)))] []
  refine r_aload_n (pc := 0) C dJ10_copyOf_2_0 rfl rfl ?_
  refine r_iload_n (pc := 1) C dJ10_copyOf_2_1 rfl rfl ?_
  refine r_aload_n (pc := 2) C dJ10_copyOf_2_2 rfl rfl ?_
  refine r_getC (pc := 3) C dJ10_copyOf_2_3 rfl q638 q1659 q639 q652 (g3 h) (Nat.le_of_ble_eq_true rfl) (Nat.le_of_ble_eq_true rfl) ?_
  refine r_invS (pc := 6) 3 C dJ10_copyOf_2_6 (mj_copyO3 t1 h ht1 hob hNM hM) rfl (lw_S q653 q654 q94 q655) (by decide +kernel) rfl rfl ⟨Nat.le_of_ble_eq_true rfl, Nat.le_of_ble_eq_true rfl⟩ (Nat.le_of_ble_eq_true rfl) ⟨(by first | exact Nat.le_of_ble_eq_true rfl | (dsimp only [rmk]; omega) | omega), (by first | exact Nat.le_of_ble_eq_true rfl | (dsimp only [rmk]; omega) | omega)⟩ (fun v6 G6 h6 => ?_)
  obtain ⟨e, rfl, q1, rfl⟩ := h6
  exact r_aret (pc := 9) C hQ dJ10_copyOf_2_9 (by first | exact Or.inl ⟨_, rfl⟩ | exact Or.inr ⟨_, rfl⟩) (by first | exact Or.inr ⟨_, rfl⟩ | exact Or.inl rfl) (by first | exact Nat.le_of_ble_eq_true rfl | (dsimp only [rmk]; omega) | omega) (by first | exact Nat.le_of_ble_eq_true rfl | (dsimp only [rmk]; omega) | omega) (fun G hG => ⟨e, rfl, q1, hG⟩)
set_option maxHeartbeats 800000 in
theorem ml_grow2 {la : Launch} {X : XE} {G0 : Gh} {a t m e : Nat} {els : List Nat} {f : Nat → Value} {mc : Int} (h : LSTr X G0 a t els m e f mc) (ht : t ≠ 0) (hfull : els.length = m) (hm : m ≤ 1800) (hob : ∀ j : Nat, j < els.length → isObj G0 (.ref (els.getD j 0))) : MG la X yJ6_grow_2 cJ6_grow_2 4 (some (.array (.object "java/lang/Object"))) (rmk 3 1 (gcap m) 84) [.ref a, .int (iI ((m : Int) + 1))] (fun G => G = G0) (fun v G => ∃ e' f', v = some (.ref e') ∧ LSTr X G a t els (gcap m) e' f' mc ∧ FR [t] G0 G) := by
  refine MG.ofF (by decide +kernel) (Nat.le_of_ble_eq_true rfl) ?_
  intro Z C hX hL hQ
  subst hX; subst hL
  change WW Z 4 (fun G => G = G0) 0 0 0 [some (.ref a), some (.int (iI ((m : Int) + 1))), none, none] []
  obtain ⟨l1, l2, k1, k2, k3⟩ := id h
  rcases k3 with ⟨hm0, he, k4⟩ | ⟨hm10, k4⟩
  · subst hm0
    subst he
    have hg : gcap 0 = 10 := rfl
    refine r_aload_n (pc := 0) C dJ6_grow_2_0 rfl rfl ?_
    refine r_get (pc := 1) (k := 1) (ci := 8) C dJ6_grow_2_1 (g1 k1) (show vwC[8]? = some (RJ6, TJ6, 3) from rfl) in_J6 (by decide) (C.t _ q232) (fun _ h => h) rfl ?_
    refine r_alenZ (pc := 4) C dJ6_grow_2_4 (g1 k4) ?_
    refine r_istore_n (pc := 5) C dJ6_grow_2_5 rfl (by decide) ?_
    refine r_iload_n (pc := 6) C dJ6_grow_2_6 rfl rfl ?_
    refine r_if_gtZ (pc := 7) (tgt := 20) C dJ6_grow_2_7 (by decide) (by unfold i32; omega) (fun h7 => absurd h7 (by omega)) (fun h7 => ?_)
    refine r_aload_n (pc := 10) C dJ6_grow_2_10 rfl rfl ?_
    refine r_get (pc := 11) (k := 1) (ci := 8) C dJ6_grow_2_11 (g1 k1) (show vwC[8]? = some (RJ6, TJ6, 3) from rfl) in_J6 (by decide) (C.t _ q232) (fun _ h => h) rfl ?_
    refine r_emptyA (pc := 14) C dJ6_grow_2_14 q230 ?_
    refine r_acmp_eq (pc := 17) (tgt := 45) (rx := some ((zX Z).2.2 6)) (rw := some ((zX Z).2.2 6)) C dJ6_grow_2_17 (by decide) (fun h17 => ?_) (fun h17 => by first | exact absurd rfl h17 | exact (h17 rfl).elim)
    refine r_aload_n (pc := 45) C dJ6_grow_2_45 rfl rfl ?_
    refine r_bipushZ (pc := 46) C dJ6_grow_2_46 (by decide) ?_
    refine r_iload_n (pc := 48) C dJ6_grow_2_48 rfl rfl ?_
    refine r_invP (pc := 49) 2 C dJ6_grow_2_49 (pf_max 10 ((0 : Nat) + 1 : Int) (by unfold i32; omega) (by unfold i32; omega)) rfl (lw_S q659 q342 q93 q343) (by decide +kernel) rfl rfl ⟨Nat.le_of_ble_eq_true rfl, Nat.le_of_ble_eq_true rfl⟩ (Nat.le_of_ble_eq_true rfl) ⟨(by first | exact Nat.le_of_ble_eq_true rfl | (dsimp only [rmk]; omega) | omega), (by first | exact Nat.le_of_ble_eq_true rfl | (dsimp only [rmk]; omega) | omega)⟩ ?_
    refine r_anewE (pc := 52) (N := 10) t C dJ6_grow_2_52 rfl q660 rfl (by omega) (by dsimp only [rmk]; omega) (by dsimp only [rmk]; omega) (fun a52 n52 => ?_)
    refine r_dup_x1 (pc := 55) C dJ6_grow_2_55 rfl rfl ?_
    refine ww_to (Γ' := P2 a t 8 [.int (iI mc), .ref ((zX Z).2.2 6), .int (iI (els.length : Nat))] a52 t 2 10 (fun _ => .null) G0) (fun G hG => by rw [hG]; exact P2.new k1 n52) ?_
    refine r_put (pc := 56) (k := 1) (ci := 8) (ty := .array (.object "java/lang/Object")) C dJ6_grow_2_56 (fun G hG => ⟨_, ht, hG.1, hG.put⟩) (show vwC[8]? = some (RJ6, TJ6, 3) from rfl) in_J6 tyJ6 tyJ6_ok nmJ6 (by decide) (C.t _ q232) (fun _ h => h) rfl (by decide +kernel) rfl rfl (Nat.le_of_ble_eq_true rfl) ?_
    exact r_aret (pc := 59) C hQ dJ6_grow_2_59 (by first | exact Or.inl ⟨_, rfl⟩ | exact Or.inr ⟨_, rfl⟩) (by first | exact Or.inr ⟨_, rfl⟩ | exact Or.inl rfl) (by first | exact Nat.le_of_ble_eq_true rfl | (dsimp only [rmk]; omega) | omega) (by first | exact Nat.le_of_ble_eq_true rfl | (dsimp only [rmk]; omega) | omega) (fun G hG => ⟨a52, _, rfl, ⟨by omega, by omega, hG.1, fun j hj => absurd hj (by omega), Or.inr ⟨by omega, hG.2.1⟩⟩, hG.frn k1 n52 (by simp)⟩)
  · have hg : gcap m = m + m / 2 := if_neg (by omega)
    refine r_aload_n (pc := 0) C dJ6_grow_2_0 rfl rfl ?_
    refine r_get (pc := 1) (k := 1) (ci := 8) C dJ6_grow_2_1 (g1 k1) (show vwC[8]? = some (RJ6, TJ6, 3) from rfl) in_J6 (by decide) (C.t _ q232) (fun _ h => h) rfl ?_
    refine r_alenZ (pc := 4) C dJ6_grow_2_4 (g1 k4) ?_
    refine r_istore_n (pc := 5) C dJ6_grow_2_5 rfl (by decide) ?_
    refine r_iload_n (pc := 6) C dJ6_grow_2_6 rfl rfl ?_
    refine r_if_gtZ (pc := 7) (tgt := 20) C dJ6_grow_2_7 (by decide) (by unfold i32; omega) (fun h7 => ?_) (fun h7 => absurd h7 (by omega))
    refine r_iload_n (pc := 20) C dJ6_grow_2_20 rfl rfl ?_
    refine r_iload_n (pc := 21) C dJ6_grow_2_21 rfl rfl ?_
    refine r_iload_n (pc := 22) C dJ6_grow_2_22 rfl rfl ?_
    refine r_isubZ (pc := 23) C dJ6_grow_2_23 ?_
    rw [show ((m : Int) + 1 - (m : Int)) = 1 by omega]
    refine r_iload_n (pc := 24) C dJ6_grow_2_24 rfl rfl ?_
    refine r_iconstZ (pc := 25) C dJ6_grow_2_25 ?_
    refine r_shr1 (pc := 26) C dJ6_grow_2_26 (by omega) (by omega) ?_
    refine r_invP (pc := 27) 3 C dJ6_grow_2_27 (pf_newLength m 1 ((m : Int) / 2) (by omega) (by omega) (by omega)) rfl (lw_S q634 q339 q85 q340) (by decide +kernel) rfl rfl ⟨Nat.le_of_ble_eq_true rfl, Nat.le_of_ble_eq_true rfl⟩ (Nat.le_of_ble_eq_true rfl) ⟨(by first | exact Nat.le_of_ble_eq_true rfl | (dsimp only [rmk]; omega) | omega), (by first | exact Nat.le_of_ble_eq_true rfl | (dsimp only [rmk]; omega) | omega)⟩ ?_
    rw [show (m : Int) + (if (1 : Int) < (m : Int) / 2 then (m : Int) / 2 else 1) = ((m + m / 2 : Nat) : Int) by rw [if_pos (by omega)]; omega]
    refine r_istore_n (pc := 30) C dJ6_grow_2_30 rfl (by decide) ?_
    refine r_aload_n (pc := 31) C dJ6_grow_2_31 rfl rfl ?_
    refine r_aload_n (pc := 32) C dJ6_grow_2_32 rfl rfl ?_
    refine r_get (pc := 33) (k := 1) (ci := 8) C dJ6_grow_2_33 (g1 k1) (show vwC[8]? = some (RJ6, TJ6, 3) from rfl) in_J6 (by decide) (C.t _ q232) (fun _ h => h) rfl ?_
    refine r_iload_n (pc := 36) C dJ6_grow_2_36 rfl rfl ?_
    refine r_invS (pc := 37) 2 C dJ6_grow_2_37 (mj_copyO2 t k4 ht (fun j hj => by rw [k2 j (by omega)]; exact hob j (by omega)) (show m ≤ m + m / 2 by omega) (by omega)) rfl (lw_S q635 q636 q94 q637) (by decide +kernel) rfl rfl ⟨Nat.le_of_ble_eq_true rfl, Nat.le_of_ble_eq_true rfl⟩ (Nat.le_of_ble_eq_true rfl) ⟨(by first | exact Nat.le_of_ble_eq_true rfl | (dsimp only [rmk]; omega) | omega), (by first | exact Nat.le_of_ble_eq_true rfl | (dsimp only [rmk]; omega) | omega)⟩ (fun v37 G37 h37 => ?_)
    obtain ⟨e', rfl, n1, rfl⟩ := h37
    refine ww_to (Γ' := P2 a t 8 [.int (iI mc), .ref e, .int (iI (els.length : Nat))] e' t 2 (m + m / 2) (cpyV f (fun _ => .null) 0 0 m) G0) (fun G hG => by rw [hG]; exact P2.new k1 n1) ?_
    refine r_dup_x1 (pc := 40) C dJ6_grow_2_40 rfl rfl ?_
    refine r_put (pc := 41) (k := 1) (ci := 8) (ty := .array (.object "java/lang/Object")) C dJ6_grow_2_41 (fun G hG => ⟨_, ht, hG.1, hG.put⟩) (show vwC[8]? = some (RJ6, TJ6, 3) from rfl) in_J6 tyJ6 tyJ6_ok nmJ6 (by decide) (C.t _ q232) (fun _ h => h) rfl (by decide +kernel) rfl rfl (Nat.le_of_ble_eq_true rfl) ?_
    exact r_aret (pc := 44) C hQ dJ6_grow_2_44 (by first | exact Or.inl ⟨_, rfl⟩ | exact Or.inr ⟨_, rfl⟩) (by first | exact Or.inr ⟨_, rfl⟩ | exact Or.inl rfl) (by first | exact Nat.le_of_ble_eq_true rfl | (dsimp only [rmk]; omega) | omega) (by first | exact Nat.le_of_ble_eq_true rfl | (dsimp only [rmk]; omega) | omega) (fun G hG => ⟨e', cpyV f (fun _ => .null) 0 0 m, rfl, ⟨by omega, by omega, hG.1, fun j hj => by unfold cpyV; rw [if_pos (by omega), ← k2 j hj]; congr 1; omega, Or.inr ⟨by omega, by rw [hg]; exact hG.2.1⟩⟩, hG.frn k1 n1 (by simp)⟩)
set_option maxHeartbeats 800000 in
theorem ml_grow {la : Launch} {X : XE} {G0 : Gh} {a t m e : Nat} {els : List Nat} {f : Nat → Value} {mc : Int} (h : LSTr X G0 a t els m e f mc) (ht : t ≠ 0) (hfull : els.length = m) (hm : m ≤ 1800) (hob : ∀ j : Nat, j < els.length → isObj G0 (.ref (els.getD j 0))) : MG la X yJ6_grow cJ6_grow 1 (some (.array (.object "java/lang/Object"))) (rmk 4 1 (gcap m) 107) [.ref a] (fun G => G = G0) (fun v G => ∃ e' f', v = some (.ref e') ∧ LSTr X G a t els (gcap m) e' f' mc ∧ FR [t] G0 G) := by
  refine MG.ofF (by decide +kernel) (Nat.le_of_ble_eq_true rfl) ?_
  intro Z C hX hL hQ
  subst hX; subst hL
  change WW Z 1 (fun G => G = G0) 0 0 0 [some (.ref a)] []
  obtain ⟨l1, l2, k1, k2, k3⟩ := id h
  refine r_aload_n (pc := 0) C dJ6_grow_0 rfl rfl ?_
  refine r_aload_n (pc := 1) C dJ6_grow_1 rfl rfl ?_
  refine r_get (pc := 2) (k := 2) (ci := 8) C dJ6_grow_2 (g1 k1) (show vwC[8]? = some (RJ6, TJ6, 3) from rfl) in_J6 (by decide) (C.t _ q233) (fun _ h => h) rfl ?_
  refine r_iconstZ (pc := 5) C dJ6_grow_5 ?_
  refine r_iaddZ (pc := 6) C dJ6_grow_6 ?_
  rw [hfull]
  refine r_invV (pc := 7) (ci := 8) 1 C dJ6_grow_7 (ml_grow2 h ht hfull hm hob) (g2 k1) (show vwC[8]? = some (RJ6, TJ6, 3) from rfl) rfl (lw_V q630 q632 qs7 q89 q633) (by decide +kernel) rfl rfl ⟨Nat.le_of_ble_eq_true rfl, Nat.le_of_ble_eq_true rfl⟩ (Nat.le_of_ble_eq_true rfl) ⟨(by first | exact Nat.le_of_ble_eq_true rfl | (dsimp only [rmk]; omega) | omega), (by first | exact Nat.le_of_ble_eq_true rfl | (dsimp only [rmk]; omega) | omega)⟩ (fun v7 G7 h7 => ?_)
  obtain ⟨e', f', rfl, q1, q2⟩ := h7
  exact r_aret (pc := 10) C hQ dJ6_grow_10 (by first | exact Or.inl ⟨_, rfl⟩ | exact Or.inr ⟨_, rfl⟩) (by first | exact Or.inr ⟨_, rfl⟩ | exact Or.inl rfl) (by first | exact Nat.le_of_ble_eq_true rfl | (dsimp only [rmk]; omega) | omega) (by first | exact Nat.le_of_ble_eq_true rfl | (dsimp only [rmk]; omega) | omega) (fun G hG => ⟨e', f', rfl, by rw [hG]; exact q1, by rw [hG]; exact q2⟩)
set_option maxHeartbeats 800000 in
theorem ml_add2 {la : Launch} {X : XE} {G0 : Gh} {a t m e x : Nat} {els : List Nat} {f : Nat → Value} {mc : Int} (h : LSTr X G0 a t els m e f mc) (ht : t ≠ 0) (hfit : els.length < m) (hx : ∃ tx ci fs, tx ≠ t ∧ G0 x = some (tx, .inl (ci, fs))) : MG la X yJ6_add_2 cJ6_add_2 4 none (rmk 0 0 0 0) [.ref a, .ref x, .ref e, .int (iI (els.length : Nat))] (fun G => G = G0) (fun v G => v = none ∧ LST X G a t (els ++ [x]) m ∧ FR [t] G0 G) := by
  refine MG.ofF (by decide +kernel) (Nat.le_of_ble_eq_true rfl) ?_
  intro Z C hX hL hQ
  subst hX; subst hL
  change WW Z 4 (fun G => G = G0) 0 0 0 [some (.ref a), some (.ref x), some (.ref e), some (.int (iI (els.length : Nat)))] []
  obtain ⟨l1, l2, k1, k2, k3⟩ := id h
  obtain ⟨l3, k4⟩ : 10 ≤ m ∧ G0 e = some (t, .inr (2, m, f)) := by rcases k3 with k3 | k3; omega; exact k3
  have hx' : isObj G0 (.ref x) := by obtain ⟨tx, ci, fs, -, hx⟩ := hx; exact Or.inr ⟨x, tx, ci, fs, rfl, hx⟩
  refine r_iload_n (pc := 0) C dJ6_add_2_0 rfl rfl ?_
  refine r_aload_n (pc := 1) C dJ6_add_2_1 rfl rfl ?_
  refine r_alenZ (pc := 2) C dJ6_add_2_2 (g1 k4) ?_
  refine r_icmp_neZ (pc := 3) (tgt := 11) C dJ6_add_2_3 (by decide) (by unfold i32; omega) (by unfold i32; omega) (fun h3 => ?_) (fun h3 => absurd h3 (by omega))
  refine ww_to (Γ' := P2 a t 8 [.int (iI mc), .ref e, .int (iI (els.length : Nat))] e t 2 m f G0) (fun G hG => by rw [hG]; exact P2.rf k1 k4) ?_
  refine r_aload_n (pc := 11) C dJ6_add_2_11 rfl rfl ?_
  refine r_iload_n (pc := 12) C dJ6_add_2_12 rfl rfl ?_
  refine r_aload_n (pc := 13) C dJ6_add_2_13 rfl rfl ?_
  refine r_aastZ (pc := 14) C dJ6_add_2_14 (fun G hG => ⟨hx'.P2 (q := (t, 2, m, f)) hG (Or.inl k4), _, ht, hG.2.1, hG.ast⟩) (by omega) (by omega) (by unfold i32; omega) ?_
  refine r_aload_n (pc := 15) C dJ6_add_2_15 rfl rfl ?_
  refine r_iload_n (pc := 16) C dJ6_add_2_16 rfl rfl ?_
  refine r_iconstZ (pc := 17) C dJ6_add_2_17 ?_
  refine r_iaddZ (pc := 18) C dJ6_add_2_18 ?_
  refine r_put (pc := 19) (k := 2) (ci := 8) (ty := .int) C dJ6_add_2_19 (fun G hG => ⟨_, ht, hG.1, hG.put⟩) (show vwC[8]? = some (RJ6, TJ6, 3) from rfl) in_J6 tyJ6 tyJ6_ok nmJ6 (by decide) (C.t _ q233) (fun _ h => h) rfl (by decide +kernel) rfl rfl (Nat.le_of_ble_eq_true rfl) ?_
  exact r_vret (pc := 22) C hQ dJ6_add_2_22 (by first | exact Nat.le_of_ble_eq_true rfl | (dsimp only [rmk]; omega) | omega) (by first | exact Nat.le_of_ble_eq_true rfl | (dsimp only [rmk]; omega) | omega) (fun G hG => ⟨rfl, ⟨e, _, mc, h.push hfit rfl hG.1 hG.2.1 l3⟩, hG.fr k1 (Or.inl k4) (by simp) (by simp)⟩)
set_option maxHeartbeats 800000 in
theorem ml_add2g {la : Launch} {X : XE} {G0 : Gh} {a t m e x : Nat} {els : List Nat} {f : Nat → Value} {mc : Int} (h : LSTr X G0 a t els m e f mc) (ht : t ≠ 0) (hfull : els.length = m) (hm : m ≤ 1800) (hob : ∀ j : Nat, j < els.length → isObj G0 (.ref (els.getD j 0))) (hx : ∃ tx ci fs, tx ≠ t ∧ G0 x = some (tx, .inl (ci, fs))) : MG la X yJ6_add_2 cJ6_add_2 4 none (rmk 5 1 (gcap m) 127) [.ref a, .ref x, .ref e, .int (iI (els.length : Nat))] (fun G => G = G0) (fun v G => v = none ∧ LST X G a t (els ++ [x]) (gcap m) ∧ FR [t] G0 G) := by
  refine MG.ofF (by decide +kernel) (Nat.le_of_ble_eq_true rfl) ?_
  intro Z C hX hL hQ
  subst hX; subst hL
  change WW Z 4 (fun G => G = G0) 0 0 0 [some (.ref a), some (.ref x), some (.ref e), some (.int (iI (els.length : Nat)))] []
  obtain ⟨l1, l2, k1, k2, k3⟩ := id h
  obtain ⟨u, k4⟩ : ∃ u, G0 e = some (u, .inr (2, m, f)) := by rcases k3 with ⟨z1, z2, z3⟩ | ⟨z1, z3⟩; exact ⟨0, by rw [z1]; exact z3⟩; exact ⟨t, z3⟩
  refine r_iload_n (pc := 0) C dJ6_add_2_0 rfl rfl ?_
  refine r_aload_n (pc := 1) C dJ6_add_2_1 rfl rfl ?_
  refine r_alenZ (pc := 2) C dJ6_add_2_2 (g1 k4) ?_
  refine r_icmp_neZ (pc := 3) (tgt := 11) C dJ6_add_2_3 (by decide) (by unfold i32; omega) (by unfold i32; omega) (fun h3 => absurd h3 (by omega)) (fun h3 => ?_)
  refine r_aload_n (pc := 6) C dJ6_add_2_6 rfl rfl ?_
  refine r_invV (pc := 7) (ci := 8) 0 C dJ6_add_2_7 (ml_grow h ht hfull hm hob) (g2 k1) (show vwC[8]? = some (RJ6, TJ6, 3) from rfl) rfl (lw_V q626 q628 qs6 q89 q629) (by decide +kernel) rfl rfl ⟨Nat.le_of_ble_eq_true rfl, Nat.le_of_ble_eq_true rfl⟩ (Nat.le_of_ble_eq_true rfl) ⟨(by first | exact Nat.le_of_ble_eq_true rfl | (dsimp only [rmk]; omega) | omega), (by first | exact Nat.le_of_ble_eq_true rfl | (dsimp only [rmk]; omega) | omega)⟩ (fun v7 G7 h7 => ?_)
  obtain ⟨e', f', rfl, q1, q2⟩ := h7
  obtain ⟨l1', l2', k1', k2', k3'⟩ := id q1
  have hgc : els.length < gcap m := (by unfold gcap; split <;> omega)
  obtain ⟨l3', k4'⟩ : 10 ≤ gcap m ∧ G7 e' = some (t, .inr (2, gcap m, f')) := (by rcases k3' with k3' | k3'; omega; exact k3')
  have hx' : isObj G7 (.ref x) := (by obtain ⟨tx, ci, fs, hx0, hx⟩ := hx; exact Or.inr ⟨x, tx, ci, fs, rfl, q2 _ _ hx (by simpa using hx0)⟩)
  refine r_astore_n (pc := 10) C dJ6_add_2_10 rfl (by decide) ?_
  refine ww_to (Γ' := P2 a t 8 [.int (iI mc), .ref e', .int (iI (els.length : Nat))] e' t 2 (gcap m) f' G7) (fun G hG => by rw [hG]; exact P2.rf k1' k4') ?_
  refine r_aload_n (pc := 11) C dJ6_add_2_11 rfl rfl ?_
  refine r_iload_n (pc := 12) C dJ6_add_2_12 rfl rfl ?_
  refine r_aload_n (pc := 13) C dJ6_add_2_13 rfl rfl ?_
  refine r_aastZ (pc := 14) C dJ6_add_2_14 (fun G hG => ⟨hx'.P2 (q := (t, 2, gcap m, f')) hG (Or.inl k4'), _, ht, hG.2.1, hG.ast⟩) (by omega) (by omega) (by unfold i32; omega) ?_
  refine r_aload_n (pc := 15) C dJ6_add_2_15 rfl rfl ?_
  refine r_iload_n (pc := 16) C dJ6_add_2_16 rfl rfl ?_
  refine r_iconstZ (pc := 17) C dJ6_add_2_17 ?_
  refine r_iaddZ (pc := 18) C dJ6_add_2_18 ?_
  refine r_put (pc := 19) (k := 2) (ci := 8) (ty := .int) C dJ6_add_2_19 (fun G hG => ⟨_, ht, hG.1, hG.put⟩) (show vwC[8]? = some (RJ6, TJ6, 3) from rfl) in_J6 tyJ6 tyJ6_ok nmJ6 (by decide) (C.t _ q233) (fun _ h => h) rfl (by decide +kernel) rfl rfl (Nat.le_of_ble_eq_true rfl) ?_
  exact r_vret (pc := 22) C hQ dJ6_add_2_22 (by first | exact Nat.le_of_ble_eq_true rfl | (dsimp only [rmk]; omega) | omega) (by first | exact Nat.le_of_ble_eq_true rfl | (dsimp only [rmk]; omega) | omega) (fun G hG => ⟨rfl, ⟨e', _, mc, q1.push hgc rfl hG.1 hG.2.1 l3'⟩, q2.tr (hG.fr k1' (Or.inl k4') (by simp) (by simp))⟩)
set_option maxHeartbeats 800000 in
theorem jl_add {la : Launch} {X : XE} {G0 : Gh} {a t m x : Nat} {els : List Nat} (h : LST X G0 a t els m) (ht : t ≠ 0) (hfit : els.length < m) (hx : ∃ tx ci fs, tx ≠ t ∧ G0 x = some (tx, .inl (ci, fs))) : MG la X yJ6_add cJ6_add 2 (some .boolean) (rmk 1 0 0 23) [.ref a, .ref x] (fun G => G = G0) (fun v G => v = some (.int (iI 1)) ∧ LST X G a t (els ++ [x]) m ∧ FR [t] G0 G) := by
  refine MG.ofF (by decide +kernel) (Nat.le_of_ble_eq_true rfl) ?_
  intro Z C hX hL hQ
  subst hX; subst hL
  change WW Z 2 (fun G => G = G0) 0 0 0 [some (.ref a), some (.ref x)] []
  obtain ⟨e, f, mc, hr⟩ := h
  obtain ⟨l1, l2, k1, k2, k3⟩ := id hr
  refine ww_to (Γ' := P1 a t 8 [.int (iI mc), .ref e, .int (iI (els.length : Nat))] G0) (fun G hG => by rw [hG]; exact P1.rf k1) ?_
  refine r_aload_n (pc := 0) C dJ6_add_0 rfl rfl ?_
  refine r_dup (pc := 1) C dJ6_add_1 rfl ?_
  refine r_get (pc := 2) (k := 0) (ci := 8) C dJ6_add_2 (fun G hG => ⟨_, hG.1⟩) (show vwC[8]? = some (RJ6, TJ6, 3) from rfl) in_J6 (by decide) (C.t _ q235) (u_same (C.t _ q236)) rfl ?_
  refine r_iconstZ (pc := 5) C dJ6_add_5 ?_
  refine r_iaddZ (pc := 6) C dJ6_add_6 ?_
  refine r_put (pc := 7) (k := 0) (ci := 8) (ty := .int) C dJ6_add_7 (fun G hG => ⟨_, ht, hG.1, hG.put⟩) (show vwC[8]? = some (RJ6, TJ6, 3) from rfl) in_J6 tyJ6 tyJ6_ok nmJ6 (by decide) (C.t _ q235) (u_same (C.t _ q236)) rfl (by decide +kernel) rfl rfl (Nat.le_of_ble_eq_true rfl) ?_
  refine r_aload_n (pc := 10) C dJ6_add_10 rfl rfl ?_
  refine r_aload_n (pc := 11) C dJ6_add_11 rfl rfl ?_
  refine r_aload_n (pc := 12) C dJ6_add_12 rfl rfl ?_
  refine r_get (pc := 13) (k := 1) (ci := 8) C dJ6_add_13 (fun G hG => ⟨_, hG.1⟩) (show vwC[8]? = some (RJ6, TJ6, 3) from rfl) in_J6 (by decide) (C.t _ q232) (fun _ h => h) rfl ?_
  refine r_aload_n (pc := 16) C dJ6_add_16 rfl rfl ?_
  refine r_get (pc := 17) (k := 2) (ci := 8) C dJ6_add_17 (fun G hG => ⟨_, hG.1⟩) (show vwC[8]? = some (RJ6, TJ6, 3) from rfl) in_J6 (by decide) (C.t _ q233) (fun _ h => h) rfl ?_
  refine ww_all (fun G1 hG1 => ?_)
  have hr1 := hr.touch hG1
  refine r_invV (pc := 20) (ci := 8) 3 C dJ6_add_20 (ml_add2 hr1 ht hfit (by obtain ⟨tx, ci, fs, z1, z2⟩ := hx; exact ⟨tx, ci, fs, z1, hG1.2 _ _ z2 (fun z => by rw [z, k1] at z2; cases z2; exact z1 rfl)⟩)) (g2 hG1.1) (show vwC[8]? = some (RJ6, TJ6, 3) from rfl) rfl (lw_V q622 q624 qs5 q89 q625) (by decide +kernel) rfl rfl ⟨Nat.le_of_ble_eq_true rfl, Nat.le_of_ble_eq_true rfl⟩ (Nat.le_of_ble_eq_true rfl) ⟨(by first | exact Nat.le_of_ble_eq_true rfl | (dsimp only [rmk]; omega) | omega), (by first | exact Nat.le_of_ble_eq_true rfl | (dsimp only [rmk]; omega) | omega)⟩ (fun v20 G20 h20 => ?_)
  obtain ⟨rfl, q1, q2⟩ := h20
  refine r_iconstZ (pc := 23) C dJ6_add_23 ?_
  exact r_zret (pc := 24) C hQ dJ6_add_24 (by decide) (by first | exact Nat.le_of_ble_eq_true rfl | (dsimp only [rmk]; omega) | omega) (by first | exact Nat.le_of_ble_eq_true rfl | (dsimp only [rmk]; omega) | omega) (fun G hG => (by cases hG; exact ⟨rfl, q1, (hG1.fr k1 (by simp)).tr q2⟩))
set_option maxHeartbeats 800000 in
theorem jl_addg {la : Launch} {X : XE} {G0 : Gh} {a t m x : Nat} {els : List Nat} (h : LST X G0 a t els m) (ht : t ≠ 0) (hfull : els.length = m) (hm : m ≤ 1800) (hob : ∀ j : Nat, j < els.length → isObj G0 (.ref (els.getD j 0))) (hx : ∃ tx ci fs, tx ≠ t ∧ G0 x = some (tx, .inl (ci, fs))) : MG la X yJ6_add cJ6_add 2 (some .boolean) (rmk 6 1 (gcap m) 150) [.ref a, .ref x] (fun G => G = G0) (fun v G => v = some (.int (iI 1)) ∧ LST X G a t (els ++ [x]) (gcap m) ∧ FR [t] G0 G) := by
  refine MG.ofF (by decide +kernel) (Nat.le_of_ble_eq_true rfl) ?_
  intro Z C hX hL hQ
  subst hX; subst hL
  change WW Z 2 (fun G => G = G0) 0 0 0 [some (.ref a), some (.ref x)] []
  obtain ⟨e, f, mc, hr⟩ := h
  obtain ⟨l1, l2, k1, k2, k3⟩ := id hr
  refine ww_to (Γ' := P1 a t 8 [.int (iI mc), .ref e, .int (iI (els.length : Nat))] G0) (fun G hG => by rw [hG]; exact P1.rf k1) ?_
  refine r_aload_n (pc := 0) C dJ6_add_0 rfl rfl ?_
  refine r_dup (pc := 1) C dJ6_add_1 rfl ?_
  refine r_get (pc := 2) (k := 0) (ci := 8) C dJ6_add_2 (fun G hG => ⟨_, hG.1⟩) (show vwC[8]? = some (RJ6, TJ6, 3) from rfl) in_J6 (by decide) (C.t _ q235) (u_same (C.t _ q236)) rfl ?_
  refine r_iconstZ (pc := 5) C dJ6_add_5 ?_
  refine r_iaddZ (pc := 6) C dJ6_add_6 ?_
  refine r_put (pc := 7) (k := 0) (ci := 8) (ty := .int) C dJ6_add_7 (fun G hG => ⟨_, ht, hG.1, hG.put⟩) (show vwC[8]? = some (RJ6, TJ6, 3) from rfl) in_J6 tyJ6 tyJ6_ok nmJ6 (by decide) (C.t _ q235) (u_same (C.t _ q236)) rfl (by decide +kernel) rfl rfl (Nat.le_of_ble_eq_true rfl) ?_
  refine r_aload_n (pc := 10) C dJ6_add_10 rfl rfl ?_
  refine r_aload_n (pc := 11) C dJ6_add_11 rfl rfl ?_
  refine r_aload_n (pc := 12) C dJ6_add_12 rfl rfl ?_
  refine r_get (pc := 13) (k := 1) (ci := 8) C dJ6_add_13 (fun G hG => ⟨_, hG.1⟩) (show vwC[8]? = some (RJ6, TJ6, 3) from rfl) in_J6 (by decide) (C.t _ q232) (fun _ h => h) rfl ?_
  refine r_aload_n (pc := 16) C dJ6_add_16 rfl rfl ?_
  refine r_get (pc := 17) (k := 2) (ci := 8) C dJ6_add_17 (fun G hG => ⟨_, hG.1⟩) (show vwC[8]? = some (RJ6, TJ6, 3) from rfl) in_J6 (by decide) (C.t _ q233) (fun _ h => h) rfl ?_
  refine ww_all (fun G1 hG1 => ?_)
  have hr1 := hr.touch hG1
  refine r_invV (pc := 20) (ci := 8) 3 C dJ6_add_20 (ml_add2g hr1 ht hfull hm (fun j hj => (hob j hj).P1 hG1) (by obtain ⟨tx, ci, fs, z1, z2⟩ := hx; exact ⟨tx, ci, fs, z1, hG1.2 _ _ z2 (fun z => by rw [z, k1] at z2; cases z2; exact z1 rfl)⟩)) (g2 hG1.1) (show vwC[8]? = some (RJ6, TJ6, 3) from rfl) rfl (lw_V q622 q624 qs5 q89 q625) (by decide +kernel) rfl rfl ⟨Nat.le_of_ble_eq_true rfl, Nat.le_of_ble_eq_true rfl⟩ (Nat.le_of_ble_eq_true rfl) ⟨(by first | exact Nat.le_of_ble_eq_true rfl | (dsimp only [rmk]; omega) | omega), (by first | exact Nat.le_of_ble_eq_true rfl | (dsimp only [rmk]; omega) | omega)⟩ (fun v20 G20 h20 => ?_)
  obtain ⟨rfl, q1, q2⟩ := h20
  refine r_iconstZ (pc := 23) C dJ6_add_23 ?_
  exact r_zret (pc := 24) C hQ dJ6_add_24 (by decide) (by first | exact Nat.le_of_ble_eq_true rfl | (dsimp only [rmk]; omega) | omega) (by first | exact Nat.le_of_ble_eq_true rfl | (dsimp only [rmk]; omega) | omega) (fun G hG => (by cases hG; exact ⟨rfl, q1, (hG1.fr k1 (by simp)).tr q2⟩))
set_option maxHeartbeats 800000 in
theorem ml_fastRemove {la : Launch} {X : XE} {G0 : Gh} {a t m e : Nat} {els : List Nat} {f : Nat → Value} {mc : Int} (h : LSTr X G0 a t els m e f mc) (ht : t ≠ 0) (hne : 0 < els.length) : MG la X yJ6_fastRemove cJ6_fastRemove 4 none (rmk 0 0 0 0) [.ref a, .ref e, .int (iI ((els.length : Nat) - 1))] (fun G => G = G0) (fun v G => v = none ∧ LST X G a t els.dropLast m ∧ FR [t] G0 G) := by
  refine MG.ofF (by decide +kernel) (Nat.le_of_ble_eq_true rfl) ?_
  intro Z C hX hL hQ
  subst hX; subst hL
  change WW Z 4 (fun G => G = G0) 0 0 0 [some (.ref a), some (.ref e), some (.int (iI ((els.length : Nat) - 1))), none] []
  obtain ⟨l1, l2, k1, k2, k3⟩ := id h
  obtain ⟨l3, k4⟩ : 10 ≤ m ∧ G0 e = some (t, .inr (2, m, f)) := by rcases k3 with k3 | k3; omega; exact k3
  refine ww_to (Γ' := P2 a t 8 [.int (iI mc), .ref e, .int (iI (els.length : Nat))] e t 2 m f G0) (fun G hG => by rw [hG]; exact P2.rf k1 k4) ?_
  refine r_aload_n (pc := 0) C dJ6_fastRemove_0 rfl rfl ?_
  refine r_dup (pc := 1) C dJ6_fastRemove_1 rfl ?_
  refine r_get (pc := 2) (k := 0) (ci := 8) C dJ6_fastRemove_2 (fun G hG => ⟨_, hG.1⟩) (show vwC[8]? = some (RJ6, TJ6, 3) from rfl) in_J6 (by decide) (C.t _ q235) (u_same (C.t _ q236)) rfl ?_
  refine r_iconstZ (pc := 5) C dJ6_fastRemove_5 ?_
  refine r_iaddZ (pc := 6) C dJ6_fastRemove_6 ?_
  refine r_put (pc := 7) (k := 0) (ci := 8) (ty := .int) C dJ6_fastRemove_7 (fun G hG => ⟨_, ht, hG.1, hG.put⟩) (show vwC[8]? = some (RJ6, TJ6, 3) from rfl) in_J6 tyJ6 tyJ6_ok nmJ6 (by decide) (C.t _ q235) (u_same (C.t _ q236)) rfl (by decide +kernel) rfl rfl (Nat.le_of_ble_eq_true rfl) ?_
  refine r_aload_n (pc := 10) C dJ6_fastRemove_10 rfl rfl ?_
  refine r_get (pc := 11) (k := 2) (ci := 8) C dJ6_fastRemove_11 (fun G hG => ⟨_, hG.1⟩) (show vwC[8]? = some (RJ6, TJ6, 3) from rfl) in_J6 (by decide) (C.t _ q233) (fun _ h => h) rfl ?_
  refine r_iconstZ (pc := 14) C dJ6_fastRemove_14 ?_
  refine r_isubZ (pc := 15) C dJ6_fastRemove_15 ?_
  refine r_dup (pc := 16) C dJ6_fastRemove_16 rfl ?_
  refine r_istore_n (pc := 17) C dJ6_fastRemove_17 rfl (by decide) ?_
  refine r_iload_n (pc := 18) C dJ6_fastRemove_18 rfl rfl ?_
  refine r_icmp_leZ (pc := 19) (tgt := 34) C dJ6_fastRemove_19 (by decide) (by unfold i32; omega) (by unfold i32; omega) (fun h19 => ?_) (fun h19 => absurd h19 (by omega))
  refine r_aload_n (pc := 34) C dJ6_fastRemove_34 rfl rfl ?_
  refine r_aload_n (pc := 35) C dJ6_fastRemove_35 rfl rfl ?_
  refine r_iload_n (pc := 36) C dJ6_fastRemove_36 rfl rfl ?_
  refine r_dup_x1 (pc := 37) C dJ6_fastRemove_37 rfl rfl ?_
  refine r_put (pc := 38) (k := 2) (ci := 8) (ty := .int) C dJ6_fastRemove_38 (fun G hG => ⟨_, ht, hG.1, hG.put⟩) (show vwC[8]? = some (RJ6, TJ6, 3) from rfl) in_J6 tyJ6 tyJ6_ok nmJ6 (by decide) (C.t _ q233) (fun _ h => h) rfl (by decide +kernel) rfl rfl (Nat.le_of_ble_eq_true rfl) ?_
  refine r_null (pc := 41) C dJ6_fastRemove_41 ?_
  refine r_aastZ (pc := 42) C dJ6_fastRemove_42 (fun G hG => ⟨Or.inl rfl, _, ht, hG.2.1, hG.ast⟩) (by omega) (by omega) (by unfold i32; omega) ?_
  exact r_vret (pc := 43) C hQ dJ6_fastRemove_43 (by first | exact Nat.le_of_ble_eq_true rfl | (dsimp only [rmk]; omega) | omega) (by first | exact Nat.le_of_ble_eq_true rfl | (dsimp only [rmk]; omega) | omega) (fun G hG => ⟨rfl, ⟨e, _, mc + 1, h.pop hne rfl hG.1 hG.2.1 l3⟩, hG.fr k1 (Or.inl k4) (by simp) (by simp)⟩)
set_option maxHeartbeats 800000 in
theorem jl_remove {la : Launch} {X : XE} {G0 : Gh} {a t m : Nat} {els : List Nat} (h : LST X G0 a t els m) (ht : t ≠ 0) (hne : 0 < els.length) : MG la X yJ6_remove cJ6_remove 4 (some (.object "java/lang/Object")) (rmk 2 0 0 43) [.ref a, .int (iI ((els.length : Nat) - 1))] (fun G => G = G0) (fun v G => (∃ x, v = some (.ref x)) ∧ LST X G a t els.dropLast m ∧ FR [t] G0 G) := by
  refine MG.ofF (by decide +kernel) (Nat.le_of_ble_eq_true rfl) ?_
  intro Z C hX hL hQ
  subst hX; subst hL
  change WW Z 4 (fun G => G = G0) 0 0 0 [some (.ref a), some (.int (iI ((els.length : Nat) - 1))), none, none] []
  obtain ⟨e, f, mc, hr⟩ := h
  obtain ⟨l1, l2, k1, k2, k3⟩ := id hr
  obtain ⟨l3, k4⟩ : 10 ≤ m ∧ G0 e = some (t, .inr (2, m, f)) := by rcases k3 with k3 | k3; omega; exact k3
  refine r_iload_n (pc := 0) C dJ6_remove_0 rfl rfl ?_
  refine r_aload_n (pc := 1) C dJ6_remove_1 rfl rfl ?_
  refine r_get (pc := 2) (k := 2) (ci := 8) C dJ6_remove_2 (g1 k1) (show vwC[8]? = some (RJ6, TJ6, 3) from rfl) in_J6 (by decide) (C.t _ q233) (fun _ h => h) rfl ?_
  refine r_invP (pc := 5) 2 C dJ6_remove_5 (pf_objCheck ((els.length : Nat) - 1 : Int) (els.length : Nat) ⟨by omega, by omega⟩ (by omega)) rfl (lw_S q674 q675 q99 q676) (by decide +kernel) rfl rfl ⟨Nat.le_of_ble_eq_true rfl, Nat.le_of_ble_eq_true rfl⟩ (Nat.le_of_ble_eq_true rfl) ⟨(by first | exact Nat.le_of_ble_eq_true rfl | (dsimp only [rmk]; omega) | omega), (by first | exact Nat.le_of_ble_eq_true rfl | (dsimp only [rmk]; omega) | omega)⟩ ?_
  refine r_pop (pc := 8) C dJ6_remove_8 rfl ?_
  refine r_aload_n (pc := 9) C dJ6_remove_9 rfl rfl ?_
  refine r_get (pc := 10) (k := 1) (ci := 8) C dJ6_remove_10 (g1 k1) (show vwC[8]? = some (RJ6, TJ6, 3) from rfl) in_J6 (by decide) (C.t _ q232) (fun _ h => h) rfl ?_
  refine r_astore_n (pc := 13) C dJ6_remove_13 rfl (by decide) ?_
  refine r_aload_n (pc := 14) C dJ6_remove_14 rfl rfl ?_
  refine r_iload_n (pc := 15) C dJ6_remove_15 rfl rfl ?_
  refine r_aaldZ (pc := 16) C dJ6_remove_16 (g1 k4) (by omega) (by omega) (by unfold i32; omega) (k2 _ (by omega)) ?_
  refine r_astore_n (pc := 17) C dJ6_remove_17 rfl (by decide) ?_
  refine r_aload_n (pc := 18) C dJ6_remove_18 rfl rfl ?_
  refine r_aload_n (pc := 19) C dJ6_remove_19 rfl rfl ?_
  refine r_iload_n (pc := 20) C dJ6_remove_20 rfl rfl ?_
  refine r_invV (pc := 21) (ci := 8) 2 C dJ6_remove_21 (ml_fastRemove hr ht hne) (g2 k1) (show vwC[8]? = some (RJ6, TJ6, 3) from rfl) rfl (lw_V q979 q981 qs10 q89 q982) (by decide +kernel) rfl rfl ⟨Nat.le_of_ble_eq_true rfl, Nat.le_of_ble_eq_true rfl⟩ (Nat.le_of_ble_eq_true rfl) ⟨(by first | exact Nat.le_of_ble_eq_true rfl | (dsimp only [rmk]; omega) | omega), (by first | exact Nat.le_of_ble_eq_true rfl | (dsimp only [rmk]; omega) | omega)⟩ (fun v21 G21 h21 => ?_)
  obtain ⟨rfl, q1, q2⟩ := h21
  refine r_aload_n (pc := 24) C dJ6_remove_24 rfl rfl ?_
  exact r_aret (pc := 25) C hQ dJ6_remove_25 (by first | exact Or.inl ⟨_, rfl⟩ | exact Or.inr ⟨_, rfl⟩) (by first | exact Or.inr ⟨_, rfl⟩ | exact Or.inl rfl) (by first | exact Nat.le_of_ble_eq_true rfl | (dsimp only [rmk]; omega) | omega) (by first | exact Nat.le_of_ble_eq_true rfl | (dsimp only [rmk]; omega) | omega) (fun G hG => (by cases hG; exact ⟨⟨_, rfl⟩, q1, q2⟩))
set_option maxHeartbeats 800000 in
theorem jl_clear {la : Launch} {X : XE} {G0 : Gh} {a t m : Nat} {els : List Nat} (h : LST X G0 a t els m) (ht : t ≠ 0) : MG la X yJ6_clear cJ6_clear 4 none (rmk 0 0 0 0) [.ref a] (fun G => G = G0) (fun v G => v = none ∧ LST X G a t [] m ∧ FR [t] G0 G) := by
  refine MG.ofF (by decide +kernel) (Nat.le_of_ble_eq_true rfl) ?_
  intro Z C hX hL hQ
  subst hX; subst hL
  change WW Z 4 (fun G => G = G0) 0 0 0 [some (.ref a), none, none, none] []
  obtain ⟨e, f, mc, hr⟩ := h
  obtain ⟨l1, l2, k1, k2, k3⟩ := id hr
  rcases k3 with ⟨hm0, he, k4⟩ | ⟨hm10, k4⟩
  · have hl0 : els.length = 0 := by omega
    rw [hl0] at k1
    refine ww_to (Γ' := P1 a t 8 [.int (iI mc), .ref e, .int (iI (0 : Nat))] G0) (fun G hG => by rw [hG]; exact P1.rf k1) ?_
    refine r_aload_n (pc := 0) C dJ6_clear_0 rfl rfl ?_
    refine r_dup (pc := 1) C dJ6_clear_1 rfl ?_
    refine r_get (pc := 2) (k := 0) (ci := 8) C dJ6_clear_2 (fun G hG => ⟨_, hG.1⟩) (show vwC[8]? = some (RJ6, TJ6, 3) from rfl) in_J6 (by decide) (C.t _ q235) (u_same (C.t _ q236)) rfl ?_
    refine r_iconstZ (pc := 5) C dJ6_clear_5 ?_
    refine r_iaddZ (pc := 6) C dJ6_clear_6 ?_
    refine r_put (pc := 7) (k := 0) (ci := 8) (ty := .int) C dJ6_clear_7 (fun G hG => ⟨_, ht, hG.1, hG.put⟩) (show vwC[8]? = some (RJ6, TJ6, 3) from rfl) in_J6 tyJ6 tyJ6_ok nmJ6 (by decide) (C.t _ q235) (u_same (C.t _ q236)) rfl (by decide +kernel) rfl rfl (Nat.le_of_ble_eq_true rfl) ?_
    refine r_aload_n (pc := 10) C dJ6_clear_10 rfl rfl ?_
    refine r_get (pc := 11) (k := 1) (ci := 8) C dJ6_clear_11 (fun G hG => ⟨_, hG.1⟩) (show vwC[8]? = some (RJ6, TJ6, 3) from rfl) in_J6 (by decide) (C.t _ q232) (fun _ h => h) rfl ?_
    refine r_astore_n (pc := 14) C dJ6_clear_14 rfl (by decide) ?_
    refine r_aload_n (pc := 15) C dJ6_clear_15 rfl rfl ?_
    refine r_get (pc := 16) (k := 2) (ci := 8) C dJ6_clear_16 (fun G hG => ⟨_, hG.1⟩) (show vwC[8]? = some (RJ6, TJ6, 3) from rfl) in_J6 (by decide) (C.t _ q233) (fun _ h => h) rfl ?_
    refine r_istore_n (pc := 19) C dJ6_clear_19 rfl (by decide) ?_
    refine r_aload_n (pc := 20) C dJ6_clear_20 rfl rfl ?_
    refine r_iconstZ (pc := 21) C dJ6_clear_21 ?_
    refine r_dup_x1 (pc := 22) C dJ6_clear_22 rfl rfl ?_
    refine r_put (pc := 23) (k := 2) (ci := 8) (ty := .int) C dJ6_clear_23 (fun G hG => ⟨_, ht, hG.1, hG.put⟩) (show vwC[8]? = some (RJ6, TJ6, 3) from rfl) in_J6 tyJ6 tyJ6_ok nmJ6 (by decide) (C.t _ q233) (fun _ h => h) rfl (by decide +kernel) rfl rfl (Nat.le_of_ble_eq_true rfl) ?_
    refine r_istore_n (pc := 26) C dJ6_clear_26 rfl (by decide) ?_
    refine r_iload_n (pc := 27) C dJ6_clear_27 rfl rfl ?_
    refine r_iload_n (pc := 28) C dJ6_clear_28 rfl rfl ?_
    refine r_icmp_geZ (pc := 29) (tgt := 42) C dJ6_clear_29 (by decide) (by unfold i32; omega) (by unfold i32; omega) (fun h29 => ?_) (fun h29 => absurd h29 (by omega))
    exact r_vret (pc := 42) C hQ dJ6_clear_42 (by first | exact Nat.le_of_ble_eq_true rfl | (dsimp only [rmk]; omega) | omega) (by first | exact Nat.le_of_ble_eq_true rfl | (dsimp only [rmk]; omega) | omega) (fun G hG => ⟨rfl, ⟨e, f, mc + 1, by simp, by omega, hG.1, fun j hj => absurd hj (Nat.not_lt_zero _), Or.inl ⟨hm0, he, hG.2 _ _ k4 (fun z => by rw [z, k1] at k4; cases k4)⟩⟩, hG.fr k1 (by simp)⟩)
  · have loop : ∀ i : Nat, i ≤ els.length → ∀ g : Nat → Value, WW Z 4 (P2 a t 8 [.int (iI (mc + 1)), .ref e, .int (iI 0)] e t 2 m g G0) 0 0 27 [some (.ref a), some (.ref e), some (.int (iI (els.length : Nat))), some (.int (iI (i : Int)))] [] := by
      refine loopN _ _ (fun i hi ih g => ?_)
      refine r_iload_n (pc := 27) C dJ6_clear_27 rfl rfl ?_
      refine r_iload_n (pc := 28) C dJ6_clear_28 rfl rfl ?_
      refine r_icmp_geZ (pc := 29) (tgt := 42) C dJ6_clear_29 (by decide) (by unfold i32; omega) (by unfold i32; omega) (fun h29 => ?_) (fun h29 => ?_)
      · exact r_vret (pc := 42) C hQ dJ6_clear_42 (by first | exact Nat.le_of_ble_eq_true rfl | (dsimp only [rmk]; omega) | omega) (by first | exact Nat.le_of_ble_eq_true rfl | (dsimp only [rmk]; omega) | omega) (fun G hG => ⟨rfl, ⟨e, g, mc + 1, by simp, l2, hG.1, fun j hj => absurd hj (Nat.not_lt_zero _), Or.inr ⟨hm10, hG.2.1⟩⟩, hG.fr k1 (Or.inl k4) (by simp) (by simp)⟩)
      · refine r_aload_n (pc := 32) C dJ6_clear_32 rfl rfl ?_
        refine r_iload_n (pc := 33) C dJ6_clear_33 rfl rfl ?_
        refine r_null (pc := 34) C dJ6_clear_34 ?_
        refine r_aastZ (pc := 35) C dJ6_clear_35 (fun G hG => ⟨Or.inl rfl, _, ht, hG.2.1, hG.ast⟩) (by omega) (by omega) (by unfold i32; omega) ?_
        refine r_iincZ (pc := 36) C dJ6_clear_36 rfl (by decide) ?_
        refine r_goto (pc := 39) (tgt := 27) C dJ6_clear_39 (by decide) ?_
        exact ih (by omega) _
    refine ww_to (Γ' := P2 a t 8 [.int (iI mc), .ref e, .int (iI (els.length : Nat))] e t 2 m f G0) (fun G hG => by rw [hG]; exact P2.rf k1 k4) ?_
    refine r_aload_n (pc := 0) C dJ6_clear_0 rfl rfl ?_
    refine r_dup (pc := 1) C dJ6_clear_1 rfl ?_
    refine r_get (pc := 2) (k := 0) (ci := 8) C dJ6_clear_2 (fun G hG => ⟨_, hG.1⟩) (show vwC[8]? = some (RJ6, TJ6, 3) from rfl) in_J6 (by decide) (C.t _ q235) (u_same (C.t _ q236)) rfl ?_
    refine r_iconstZ (pc := 5) C dJ6_clear_5 ?_
    refine r_iaddZ (pc := 6) C dJ6_clear_6 ?_
    refine r_put (pc := 7) (k := 0) (ci := 8) (ty := .int) C dJ6_clear_7 (fun G hG => ⟨_, ht, hG.1, hG.put⟩) (show vwC[8]? = some (RJ6, TJ6, 3) from rfl) in_J6 tyJ6 tyJ6_ok nmJ6 (by decide) (C.t _ q235) (u_same (C.t _ q236)) rfl (by decide +kernel) rfl rfl (Nat.le_of_ble_eq_true rfl) ?_
    refine r_aload_n (pc := 10) C dJ6_clear_10 rfl rfl ?_
    refine r_get (pc := 11) (k := 1) (ci := 8) C dJ6_clear_11 (fun G hG => ⟨_, hG.1⟩) (show vwC[8]? = some (RJ6, TJ6, 3) from rfl) in_J6 (by decide) (C.t _ q232) (fun _ h => h) rfl ?_
    refine r_astore_n (pc := 14) C dJ6_clear_14 rfl (by decide) ?_
    refine r_aload_n (pc := 15) C dJ6_clear_15 rfl rfl ?_
    refine r_get (pc := 16) (k := 2) (ci := 8) C dJ6_clear_16 (fun G hG => ⟨_, hG.1⟩) (show vwC[8]? = some (RJ6, TJ6, 3) from rfl) in_J6 (by decide) (C.t _ q233) (fun _ h => h) rfl ?_
    refine r_istore_n (pc := 19) C dJ6_clear_19 rfl (by decide) ?_
    refine r_aload_n (pc := 20) C dJ6_clear_20 rfl rfl ?_
    refine r_iconstZ (pc := 21) C dJ6_clear_21 ?_
    refine r_dup_x1 (pc := 22) C dJ6_clear_22 rfl rfl ?_
    refine r_put (pc := 23) (k := 2) (ci := 8) (ty := .int) C dJ6_clear_23 (fun G hG => ⟨_, ht, hG.1, hG.put⟩) (show vwC[8]? = some (RJ6, TJ6, 3) from rfl) in_J6 tyJ6 tyJ6_ok nmJ6 (by decide) (C.t _ q233) (fun _ h => h) rfl (by decide +kernel) rfl rfl (Nat.le_of_ble_eq_true rfl) ?_
    refine r_istore_n (pc := 26) C dJ6_clear_26 rfl (by decide) ?_
    exact loop 0 (Nat.zero_le _) f
set_option maxHeartbeats 800000 in
theorem jl_init4 {la : Launch} {X : XE} {G0 : Gh} {a : Nat} : MG la X yJ4_init cJ4_init 1 none (rmk 1 0 0 20) [.ref a] (fun G => G = G0) (fun v G => v = none ∧ G = G0) := by
  refine MG.ofF (by decide +kernel) (Nat.le_of_ble_eq_true rfl) ?_
  intro Z C hX hL hQ
  subst hX; subst hL
  change WW Z 1 (fun G => G = G0) 0 0 0 [some (.ref a)] []
  refine r_aload_n (pc := 0) C dJ4_init_0 rfl rfl ?_
  refine r_objInit (pc := 1) (own := "") C dJ4_init_1 q229 q109 q110 (Nat.le_of_ble_eq_true rfl) (Nat.le_of_ble_eq_true rfl) ?_
  exact r_vret (pc := 4) C hQ dJ4_init_4 (by first | exact Nat.le_of_ble_eq_true rfl | (dsimp only [rmk]; omega) | omega) (by first | exact Nat.le_of_ble_eq_true rfl | (dsimp only [rmk]; omega) | omega) (fun G hG => ⟨rfl, hG⟩)
set_option maxHeartbeats 800000 in
theorem jl_init5 {la : Launch} {X : XE} {G0 : Gh} {a t : Nat} (h : G0 a = some (t, .inl (8, [.int (iI 0), .null, .int (iI 0)]))) (ht : t ≠ 0) : MG la X yJ5_init cJ5_init 1 none (rmk 2 0 0 40) [.ref a] (fun G => G = G0) (fun v G => v = none ∧ P1 a t 8 [.int (iI 0), .null, .int (iI 0)] G0 G) := by
  refine MG.ofF (by decide +kernel) (Nat.le_of_ble_eq_true rfl) ?_
  intro Z C hX hL hQ
  subst hX; subst hL
  change WW Z 1 (fun G => G = G0) 0 0 0 [some (.ref a)] []
  refine r_aload_n (pc := 0) C dJ5_init_0 rfl rfl ?_
  refine r_invI (pc := 1) 0 C dJ5_init_1 (jl_init4) rfl (lw_meth q228) q87 q226 q227 rfl (by decide +kernel) rfl rfl ⟨Nat.le_of_ble_eq_true rfl, Nat.le_of_ble_eq_true rfl⟩ (Nat.le_of_ble_eq_true rfl) ⟨(by first | exact Nat.le_of_ble_eq_true rfl | (dsimp only [rmk]; omega) | omega), (by first | exact Nat.le_of_ble_eq_true rfl | (dsimp only [rmk]; omega) | omega)⟩ (fun v1 G1 h1 => ?_)
  obtain ⟨rfl, rfl⟩ := h1
  refine ww_to (Γ' := P1 a t 8 [.int (iI 0), .null, .int (iI 0)] G1) (fun G hG => by rw [hG]; exact P1.rf h) ?_
  refine r_aload_n (pc := 4) C dJ5_init_4 rfl rfl ?_
  refine r_iconstZ (pc := 5) C dJ5_init_5 ?_
  refine r_put (pc := 6) (k := 0) (ci := 8) (ty := .int) C dJ5_init_6 (fun G hG => ⟨_, ht, hG.1, hG.put⟩) (show vwC[8]? = some (RJ6, TJ6, 3) from rfl) in_J6 tyJ6 tyJ6_ok nmJ6 (by decide) (C.t _ q234) (fun _ h => h) rfl (by decide +kernel) rfl rfl (Nat.le_of_ble_eq_true rfl) ?_
  exact r_vret (pc := 9) C hQ dJ5_init_9 (by first | exact Nat.le_of_ble_eq_true rfl | (dsimp only [rmk]; omega) | omega) (by first | exact Nat.le_of_ble_eq_true rfl | (dsimp only [rmk]; omega) | omega) (fun G hG => ⟨rfl, hG⟩)
set_option maxHeartbeats 800000 in
theorem jl_init {la : Launch} {X : XE} {G0 : Gh} {a t : Nat} {f : Nat → Value} (h : G0 a = some (t, .inl (8, [.int (iI 0), .null, .int (iI 0)]))) (ht : t ≠ 0) (he : G0 (X.2.2 6) = some (0, .inr (2, 0, f))) : MG la X yJ6_init cJ6_init 1 none (rmk 3 0 0 60) [.ref a] (fun G => G = G0) (fun v G => v = none ∧ LST X G a t [] 0 ∧ FR [t] G0 G) := by
  refine MG.ofF (by decide +kernel) (Nat.le_of_ble_eq_true rfl) ?_
  intro Z C hX hL hQ
  subst hX; subst hL
  change WW Z 1 (fun G => G = G0) 0 0 0 [some (.ref a)] []
  refine r_aload_n (pc := 0) C dJ6_init_0 rfl rfl ?_
  refine r_invI (pc := 1) 0 C dJ6_init_1 (jl_init5 h ht) rfl (lw_meth q225) q88 q223 q224 rfl (by decide +kernel) rfl rfl ⟨Nat.le_of_ble_eq_true rfl, Nat.le_of_ble_eq_true rfl⟩ (Nat.le_of_ble_eq_true rfl) ⟨(by first | exact Nat.le_of_ble_eq_true rfl | (dsimp only [rmk]; omega) | omega), (by first | exact Nat.le_of_ble_eq_true rfl | (dsimp only [rmk]; omega) | omega)⟩ (fun v1 G1 h1 => ?_)
  obtain ⟨rfl, q1⟩ := h1
  refine ww_to (Γ' := P1 a t 8 [.int (iI 0), .null, .int (iI 0)] G0) (fun G hG => by rw [hG]; exact q1) ?_
  refine r_aload_n (pc := 4) C dJ6_init_4 rfl rfl ?_
  refine r_emptyA (pc := 5) C dJ6_init_5 q230 ?_
  refine r_put (pc := 8) (k := 1) (ci := 8) (ty := .array (.object "java/lang/Object")) C dJ6_init_8 (fun G hG => ⟨_, ht, hG.1, hG.put⟩) (show vwC[8]? = some (RJ6, TJ6, 3) from rfl) in_J6 tyJ6 tyJ6_ok nmJ6 (by decide) (C.t _ q232) (fun _ h => h) rfl (by decide +kernel) rfl rfl (Nat.le_of_ble_eq_true rfl) ?_
  exact r_vret (pc := 11) C hQ dJ6_init_11 (by first | exact Nat.le_of_ble_eq_true rfl | (dsimp only [rmk]; omega) | omega) (by first | exact Nat.le_of_ble_eq_true rfl | (dsimp only [rmk]; omega) | omega) (fun G hG => ⟨rfl, ⟨_, f, 0, by simp, by omega, hG.1, fun j hj => absurd hj (Nat.not_lt_zero _), Or.inl ⟨rfl, rfl, hG.2 _ _ he (fun z => by rw [z, h] at he; cases he)⟩⟩, hG.fr h (by simp)⟩)

