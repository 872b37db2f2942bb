/-! the start: the world -/
set_option maxRecDepth 100000
theorem x_oo {X : XE} {H : Heap} {a a' : Nat} {fs fs' : List Value} (h : gobj X H a 0 7 fs) (h' : gobj X H a' 0 7 fs') (hne : fs.getD 2 .null ≠ fs'.getD 2 .null) : a ≠ a' := fun e => by subst e; exact hne (d_oo h h')
theorem x_oa {X : XE} {s : State} {a a' k n : Nat} {fs : List Value} {f : Nat → Value} (hK : u_Kn s RJ0 TJ0 4 (X.1.1 7) (X.1.2 7)) (h : gobj X s.heap a 0 7 fs) (h' : garr s s.heap a' 0 k n f) : a ≠ a' := fun e => by subst e; exact d_oa hK h h'
theorem x_aa {s : State} {a a' k n k' n' : Nat} {f f' : Nat → Value} (h : garr s s.heap a 0 k n f) (h' : garr s s.heap a' 0 k' n' f') (hne : ¬ (aty k = aty k' ∧ nI n = nI n' ∧ (0 < n → 0 < n' → f 0 = f' 0))) : a ≠ a' := fun e => by subst e; exact hne (d_aa h h')
abbrev tf (w : Tx) : Nat → Value := fun j => .int (iI (tl w j : Nat))
set_option maxHeartbeats 2000000 in
theorem law_world {s : State} {b L : Nat} {xs : Nat → Int32} (hL : L ≤ 320) (ht : ∀ w ∈ lw_tbl, w.before #[Value.ref b] s = true) (hX : va_X b L xs s s.heap) (hg : (Cond.and given_1 narrow_1).before #[Value.ref b] s = true) :
    ∃ X : XE, X.2.1 = s.heap.size ∧ EE X s ∧ ∃ G, GH X G s s.heap ∧ KON X G ∧ G b = some (0, .inr (0, L, fun j => .int (iI (xs j).toInt))) := by
  have hf := fl_narrow hg
  have hA : ∀ a : Nat, a < s.heap.size → ¬ (fun q => s.heap.size ≤ q) a := fun a h1 h2 => absurd h2 (Nat.not_le.mpr h1)
  obtain ⟨D, hD⟩ := Classical.axiomOfChoice (ew_kn ht)
  obtain ⟨dd, hdd⟩ : ∃ dd : va_G, dd = (fun c => (D c).1, fun c => (D c).2) := ⟨_, rfl⟩
  have hK : ∀ (c : Nat) (q : vw_C), vwC[c]? = some q → u_Kn s q.1 q.2.1 q.2.2 (dd.1 c) (dd.2 c) := fun c q hq => by rw [hdd]; exact hD c q hq
  have hK7 : u_Kn s RJ0 TJ0 4 (dd.1 7) (dd.2 7) := hK 7 _ rfl
  obtain ⟨a0, b0, e0, g0, r0⟩ := obj_of (X := (dd, 0, fun _ => 0)) (t := (Term.string "RiverWords" 7)) (n := 0) (q := 0) (z := 1) (f := tf []) hK7 (by decide) (hf _ (by decide +kernel)) (hf _ (by decide +kernel)) (hf _ (by decide +kernel)) (hf _ (by decide +kernel)) (fun j hj => absurd hj (Nat.not_lt_zero _)) (hf _ (by decide +kernel)) (hf _ (by decide +kernel))
  have helL : ∀ j : Nat, j < 1 → (Term.elem (Term.field (Term.string "RiverWords$Table" 28) "java/lang/String" "value" "[B") (.int (Int32.ofNat j))).eval #[Value.ref b] s none [] s = some (tf [76] j) := by
    intro j hj
    have e : j = 0 := by omega
    subst e
    exact va_eqt (z := iI 76) (hf (Cond.eq (.elem (Term.field (Term.string "RiverWords$Table" 28) "java/lang/String" "value" "[B") (.int (Int32.ofNat 0))) (.int (iI 76))) (by decide +kernel))
  obtain ⟨aL, bL, eL, gL, rL⟩ := obj_of (X := (dd, 0, fun _ => 0)) (t := (Term.string "RiverWords$Table" 28)) (n := 1) (q := 76) (z := 0) (f := tf [76]) hK7 (by decide) (hf _ (by decide +kernel)) (hf _ (by decide +kernel)) (hf _ (by decide +kernel)) (hf _ (by decide +kernel)) helL (hf _ (by decide +kernel)) (hf _ (by decide +kernel))
  have helR : ∀ j : Nat, j < 1 → (Term.elem (Term.field (Term.string "RiverWords$Table" 34) "java/lang/String" "value" "[B") (.int (Int32.ofNat j))).eval #[Value.ref b] s none [] s = some (tf [82] j) := by
    intro j hj
    have e : j = 0 := by omega
    subst e
    exact va_eqt (z := iI 82) (hf (Cond.eq (.elem (Term.field (Term.string "RiverWords$Table" 34) "java/lang/String" "value" "[B") (.int (Int32.ofNat 0))) (.int (iI 82))) (by decide +kernel))
  obtain ⟨aR, bR, eR, gR, rR⟩ := obj_of (X := (dd, 0, fun _ => 0)) (t := (Term.string "RiverWords$Table" 34)) (n := 1) (q := 82) (z := 0) (f := tf [82]) hK7 (by decide) (hf _ (by decide +kernel)) (hf _ (by decide +kernel)) (hf _ (by decide +kernel)) (hf _ (by decide +kernel)) helR (hf _ (by decide +kernel)) (hf _ (by decide +kernel))
  obtain ⟨aE, eE, tE⟩ := va_Tof (args := #[Value.ref b]) (s := s) (tm := (Term.static "java/util/ArrayList" "DEFAULTCAPACITY_EMPTY_ELEMENTDATA" "[Ljava/lang/Object;")) (ty := .object "java/lang/Object") (N := 0) (f := fun _ => .null) (A := fun q => s.heap.size ≤ q) (by decide) (hf _ (by decide +kernel)) (va_eqt (hf _ (by decide +kernel))) (fun j hj => absurd hj (Nat.not_lt_zero _)) hA
  have rE : garr s s.heap aE 0 2 0 (fun _ => .null) := arr_of (k := 2) tE (fun _ => by
    obtain ⟨a, c, cell, kc, p1, p2, p3, p4, p5, p6, -⟩ := Cond.exactly_spec (args := #[Value.ref b]) (first := s) (o := none) (s := s) (idx := []) (t := (Term.static "java/util/ArrayList" "DEFAULTCAPACITY_EMPTY_ELEMENTDATA" "[Ljava/lang/Object;")) (cls := "[Ljava/lang/Object;") (hf _ (by decide +kernel))
    rw [eE] at p1
    cases p1
    exact ⟨c, cell, p2, p3, p6⟩)
  have rb := scr_of hL hX
  obtain ⟨mi, hmi⟩ := va_Mi.of (args := #[Value.ref b]) (s := s) (C := "[Ljava/lang/Object;") (hf _ (by decide +kernel))
  have n0 : a0 ≠ aL := x_oo g0 gL (show Value.int (iI 0) ≠ Value.int (iI 76) by decide)
  have n1 : a0 ≠ aR := x_oo g0 gR (show Value.int (iI 0) ≠ Value.int (iI 82) by decide)
  have n2 : aL ≠ aR := x_oo gL gR (show Value.int (iI 76) ≠ Value.int (iI 82) by decide)
  have n3 : a0 ≠ b0 := x_oa hK7 g0 r0
  have n4 : a0 ≠ bL := x_oa hK7 g0 rL
  have n5 : a0 ≠ bR := x_oa hK7 g0 rR
  have n6 : a0 ≠ aE := x_oa hK7 g0 rE
  have n7 : a0 ≠ b := x_oa hK7 g0 rb
  have n8 : aL ≠ b0 := x_oa hK7 gL r0
  have n9 : aL ≠ bL := x_oa hK7 gL rL
  have n10 : aL ≠ bR := x_oa hK7 gL rR
  have n11 : aL ≠ aE := x_oa hK7 gL rE
  have n12 : aL ≠ b := x_oa hK7 gL rb
  have n13 : aR ≠ b0 := x_oa hK7 gR r0
  have n14 : aR ≠ bL := x_oa hK7 gR rL
  have n15 : aR ≠ bR := x_oa hK7 gR rR
  have n16 : aR ≠ aE := x_oa hK7 gR rE
  have n17 : aR ≠ b := x_oa hK7 gR rb
  have n18 : b0 ≠ bL := x_aa r0 rL (fun h => absurd h.2.1 (by decide))
  have n19 : b0 ≠ bR := x_aa r0 rR (fun h => absurd h.2.1 (by decide))
  have n20 : b0 ≠ aE := x_aa r0 rE (fun h => absurd h.1 (by decide))
  have n21 : b0 ≠ b := x_aa r0 rb (fun h => absurd h.1 (by decide))
  have n22 : bL ≠ bR := x_aa rL rR (fun h => absurd (h.2.2 (by decide) (by decide)) (by decide))
  have n23 : bL ≠ aE := x_aa rL rE (fun h => absurd h.1 (by decide))
  have n24 : bL ≠ b := x_aa rL rb (fun h => absurd h.1 (by decide))
  have n25 : bR ≠ aE := x_aa rR rE (fun h => absurd h.1 (by decide))
  have n26 : bR ≠ b := x_aa rR rb (fun h => absurd h.1 (by decide))
  have n27 : aE ≠ b := x_aa rE rb (fun h => absurd h.1 (by decide))
  obtain ⟨adr, hadr⟩ : ∃ adr : Nat → Nat, adr 0 = a0 ∧ adr 2 = aL ∧ adr 4 = aR ∧ adr 6 = aE ∧ adr 7 = mi := ⟨fun k => if k = 0 then a0 else if k = 2 then aL else if k = 4 then aR else if k = 6 then aE else mi, rfl, rfl, rfl, rfl, rfl⟩
  obtain ⟨h0, h2, h4, h6, h7⟩ := hadr
  obtain ⟨G, hG, hm⟩ := ghost_of (X := (dd, s.heap.size, adr)) (s := s) (H := s.heap) ([(a0, 0, .inl (7, [.ref b0, .int (iI 0), .int (iI 0), .int (iI 1)])), (b0, 0, .inr (1, 0, tf [])), (aL, 0, .inl (7, [.ref bL, .int (iI 0), .int (iI 76), .int (iI 0)])), (bL, 0, .inr (1, 1, tf [76])), (aR, 0, .inl (7, [.ref bR, .int (iI 0), .int (iI 82), .int (iI 0)])), (bR, 0, .inr (1, 1, tf [82])), (aE, 0, .inr (2, 0, fun _ => .null)), (b, 0, .inr (0, L, fun j => .int (iI (xs j).toInt)))] : List (Nat × (Nat × GE))) (List.forall_mem_cons.mpr ⟨⟨fun h => absurd rfl h, g0⟩, (List.forall_mem_cons.mpr ⟨⟨fun h => absurd rfl h, r0⟩, (List.forall_mem_cons.mpr ⟨⟨fun h => absurd rfl h, gL⟩, (List.forall_mem_cons.mpr ⟨⟨fun h => absurd rfl h, rL⟩, (List.forall_mem_cons.mpr ⟨⟨fun h => absurd rfl h, gR⟩, (List.forall_mem_cons.mpr ⟨⟨fun h => absurd rfl h, rR⟩, (List.forall_mem_cons.mpr ⟨⟨fun h => absurd rfl h, rE⟩, (List.forall_mem_cons.mpr ⟨⟨fun h => absurd rfl h, rb⟩, (List.forall_mem_nil _)⟩)⟩)⟩)⟩)⟩)⟩)⟩)⟩) (by
    intro p hp q hq
    simp only [List.mem_cons, List.not_mem_nil, or_false] at hp hq
    rcases hp with rfl | rfl | rfl | rfl | rfl | rfl | rfl | rfl <;> rcases hq with rfl | rfl | rfl | rfl | rfl | rfl | rfl | rfl <;> first | (intro _; rfl) | (intro e; exact absurd e (by assumption)) | (intro e; exact absurd e.symm (by assumption)))
  refine ⟨(dd, s.heap.size, adr), rfl, ⟨hK, Nat.le_refl _, ew_all ht hg, ⟨?_, ?_⟩, ?_, ?_, ?_⟩, G, hG, ⟨?_, ?_, ?_, ?_⟩, hm _ (.tail _ (.tail _ (.tail _ (.tail _ (.tail _ (.tail _ (.tail _ (.head _))))))))⟩
  · have eL21 := va_eqR (u := .string "RiverWords" 21) (hf (Cond.eq (.string "RiverWords$Table" 28) (.string "RiverWords" 21)) (by decide +kernel)) eL
    have eR26 := va_eqR (u := .string "RiverWords" 26) (hf (Cond.eq (.string "RiverWords$Table" 34) (.string "RiverWords" 26)) (by decide +kernel)) eR
    have e07 := va_eqR (u := .string "java/lang/String" 7) (hf (Cond.eq (.string "RiverWords" 7) (.string "java/lang/String" 7)) (by decide +kernel)) e0
    exact (List.forall_mem_cons.mpr ⟨(by show vk_R "RiverWords" 7 "" (adr 0) s; rw [h0]; exact vk_R.of (A := #[Value.ref b]) (ht _ q111) e0), (List.forall_mem_cons.mpr ⟨(by show vk_R "RiverWords" 21 "L" (adr 2) s; rw [h2]; exact vk_R.of (A := #[Value.ref b]) (ht _ q216) eL21), (List.forall_mem_cons.mpr ⟨(by show vk_R "RiverWords" 26 "R" (adr 4) s; rw [h4]; exact vk_R.of (A := #[Value.ref b]) (ht _ q217) eR26), (List.forall_mem_cons.mpr ⟨(by show vk_R "RiverWords$Table" 28 "L" (adr 2) s; rw [h2]; exact vk_R.of (A := #[Value.ref b]) (ht _ q182) eL), (List.forall_mem_cons.mpr ⟨(by show vk_R "RiverWords$Table" 34 "R" (adr 4) s; rw [h4]; exact vk_R.of (A := #[Value.ref b]) (ht _ q191) eR), (List.forall_mem_cons.mpr ⟨(by show vk_R "java/lang/String" 7 "" (adr 0) s; rw [h0]; exact vk_R.of (A := #[Value.ref b]) (ht _ q948) e07), (List.forall_mem_nil _)⟩)⟩)⟩)⟩)⟩)⟩)
  · show va_Mi "[Ljava/lang/Object;" (adr 7) s
    rw [h7]; exact hmi
  · exact va_Zof (ht _ q124) (ht _ (lw_all_tbl q83)) (va_eqt (hf _ (by decide +kernel))) hA
  · show va_Z _ _ _ (.ref (adr 6)) _ _ _
    rw [h6]; exact va_Zof (ht _ q231) (ht _ (lw_all_tbl q89)) eE hA
  · exact va_Zqof (ht _ q390) (ht _ (lw_all_tbl q96)) (hf _ (by decide +kernel)) hA
  · show STRK G (adr 0) _ _ _
    rw [h0]; exact ⟨(show ∀ c ∈ ([] : List Nat), c < 128 by decide), by decide, b0, tf [], hm _ (.head _), hm _ (.tail _ (.head _)), fun j hj => rfl⟩
  · show STRK G (adr 2) _ _ _
    rw [h2]; exact ⟨(show ∀ c ∈ ([76] : List Nat), c < 128 by decide), by decide, bL, tf [76], hm _ (.tail _ (.tail _ (.head _))), hm _ (.tail _ (.tail _ (.tail _ (.head _)))), fun j hj => rfl⟩
  · show STRK G (adr 4) _ _ _
    rw [h4]; exact ⟨(show ∀ c ∈ ([82] : List Nat), c < 128 by decide), by decide, bR, tf [82], hm _ (.tail _ (.tail _ (.tail _ (.tail _ (.head _))))), hm _ (.tail _ (.tail _ (.tail _ (.tail _ (.tail _ (.head _)))))), fun j hj => rfl⟩
  · show ∃ f, G (adr 6) = _
    rw [h6]; exact ⟨_, hm _ (.tail _ (.tail _ (.tail _ (.tail _ (.tail _ (.tail _ (.head _)))))))⟩
