/-! the start: the ghost heap out of the Statement's premises -/
set_option maxRecDepth 100000
theorem of_slot {A : Nat → Prop} {s : State} {o n d : String} {v : Value} {a i : Nat} {cell : Cell} (h : va_OF o n d v a A s s.heap) (hs : SlotIs s o n d i) (hc : s.heap[a]? = some cell) : cell.slots[i]? = some v ∧ cell.vm ≠ .unknown := by
  obtain ⟨cf, k, fi, f, cell2, h1, h2, h3, h4, h5, -⟩ := h
  obtain ⟨cf', kf', fi', fd', g1, g2⟩ := hs
  rw [h1] at g1
  cases g1
  rw [hc] at h3
  cases h3
  subst g2
  exact ⟨h5, h4⟩
theorem arr_of {A : Nat → Prop} {s : State} {k t N : Nat} {f : Nat → Value} (h : va_T (aty k) t N f A s s.heap) (h2 : k = 2 → ∃ (c : ClassId) (cell : Cell), s.vm.findClass "[Ljava/lang/Object;" = some c ∧ s.heap[t]? = some cell ∧ cell.cls = c) : garr s s.heap t 0 k N f := by
  obtain ⟨cell, g1, g2, g3, g4, g5, g6, -⟩ := h
  refine ⟨cell, g1, g2, g3, g4, g5, g6, fun e => ?_, fun e => absurd rfl e⟩
  obtain ⟨c, cell2, k1, k2, k3⟩ := h2 e
  rw [g1] at k2
  cases k2
  rw [k3]
  exact k1
theorem obj_of {X : XE} {s : State} {args : Array Value} {t : Term} {n : Nat} {q z : Int} {f : Nat → Value} (hK : u_Kn s RJ0 TJ0 4 (X.1.1 7) (X.1.2 7)) (hN : n < 2 ^ 31) (hex : (Cond.exactly t "java/lang/String").before args s = true)
    (hco : (Cond.eq (.field t "java/lang/String" "coder" "B") (.int 0)).before args s = true) (har : (Cond.arrayOf (.field t "java/lang/String" "value" "[B") .byte).before args s = true)
    (hle : (Cond.eq (.length (.field t "java/lang/String" "value" "[B")) (.int (Int32.ofNat n))).before args s = true)
    (hel : ∀ j : Nat, j < n → (Term.elem (.field t "java/lang/String" "value" "[B") (.int (Int32.ofNat j))).eval args s none [] s = some (f j))
    (hh : (Cond.eq (.field t "java/lang/String" "hash" "I") (.int (iI q))).before args s = true) (hz : (Cond.eq (.field t "java/lang/String" "hashIsZero" "Z") (.int (iI z))).before args s = true) :
    ∃ a b : Nat, t.eval args s none [] s = some (.ref a) ∧ gobj X s.heap a 0 7 [.ref b, .int (iI 0), .int (iI q), .int (iI z)] ∧ garr s s.heap b 0 1 n f := by
  have hA : ∀ a : Nat, a < s.heap.size → ¬ (fun q => s.heap.size ≤ q) a := fun a h1 h2 => absurd h2 (Nat.not_le.mpr h1)
  obtain ⟨a, c, cA, kA, q1, q2, q3, q4, q5, q6, -⟩ := Cond.exactly_spec (args := args) (first := s) (o := none) (s := s) (idx := []) hex
  obtain ⟨b, hb, hT⟩ := va_Tof (f := f) (A := fun q => s.heap.size ≤ q) hN har (va_eqt hle) hel hA
  have o0 := of_slot (vk_OFof q1 hb hA) (hK.1 0 (by decide)) q3
  have o1 := of_slot (vk_OFof q1 (va_eqt hco) hA) (hK.1 1 (by decide)) q3
  have o2 := of_slot (vk_OFof q1 (va_eqt hh) hA) (hK.1 2 (by decide)) q3
  have o3 := of_slot (vk_OFof q1 (va_eqt hz) hA) (hK.1 3 (by decide)) q3
  have hc : cA.cls = X.1.1 7 := by
    have := hK.2.1
    rw [show RJ0 = "java/lang/String" from rfl, q2] at this
    rw [q6]
    exact Option.some.inj this
  refine ⟨a, b, q1, ⟨(RJ0, TJ0, 4), cA, rfl, q3, hc, q5, o0.2, fun h => absurd rfl h, fun k hk => ?_⟩, arr_of (k := 1) hT (fun e => by cases e)⟩
  match k, hk with
  | 0, _ => exact o0.1
  | 1, _ => exact o1.1
  | 2, _ => exact o2.1
  | 3, _ => exact o3.1
  | k + 4, h => exact absurd (show k + 4 < 4 from h) (by omega)
theorem d_oo {X : XE} {H : Heap} {a : Nat} {fs fs' : List Value} (h : gobj X H a 0 7 fs) (h' : gobj X H a 0 7 fs') : fs.getD 2 .null = fs'.getD 2 .null := by
  obtain ⟨r, cell, h1, h2, -, -, -, -, h7⟩ := h
  obtain ⟨r', cell', g1, g2, -, -, -, -, g7⟩ := h'
  rw [h2] at g2
  cases g2
  have e : r = (RJ0, TJ0, 4) := Option.some.inj (h1.symm.trans rfl)
  have e' : r' = (RJ0, TJ0, 4) := Option.some.inj (g1.symm.trans rfl)
  subst e; subst e'
  exact Option.some.inj ((h7 2 (by decide)).symm.trans (g7 2 (by decide)))
theorem d_oa {X : XE} {s : State} {a k n : Nat} {fs : List Value} {f : Nat → Value} (hK : u_Kn s RJ0 TJ0 4 (X.1.1 7) (X.1.2 7)) (h : gobj X s.heap a 0 7 fs) (h' : garr s s.heap a 0 k n f) : False := by
  obtain ⟨r, cell, h1, h2, h3, -⟩ := h
  obtain ⟨cell', g2, ⟨-, kc, g3, comp, g4⟩, -⟩ := h'
  rw [h2] at g2
  cases g2
  obtain ⟨-, kC, k1, k2⟩ := hK.2
  rw [h3, k1] at g3
  cases g3
  rw [k2] at g4
  cases g4
theorem d_aa {s : State} {a k n k' n' : Nat} {f f' : Nat → Value} (h : garr s s.heap a 0 k n f) (h' : garr s s.heap a 0 k' n' f') : aty k = aty k' ∧ nI n = nI n' ∧ (0 < n → 0 < n' → f 0 = f' 0) := by
  obtain ⟨cell, h2, ⟨-, kc, h3, comp, h4⟩, -, -, h5, h6, -⟩ := h
  obtain ⟨cell', g2, ⟨-, kc', g3, comp', g4⟩, -, -, g5, g6, -⟩ := h'
  rw [h2] at g2
  cases g2
  rw [h3] at g3
  cases g3
  rw [h4] at g4
  refine ⟨by injection g4, h5.symm.trans g5, fun p p' => Option.some.inj ((h6 0 p).symm.trans (g6 0 p'))⟩
theorem ghost_of {X : XE} {s : State} {H : Heap} (l : List (Nat × (Nat × GE))) (h : ∀ p ∈ l, gat X s H p.1 p.2) (hd : ∀ p ∈ l, ∀ q ∈ l, p.1 = q.1 → p.2 = q.2) : ∃ G, GH X G s H ∧ ∀ p ∈ l, G p.1 = some p.2 := by
  refine ⟨fun a => (l.find? (fun p => p.1 == a)).map (·.2), fun a q hq => ?_, fun p hp => ?_⟩
  · obtain ⟨p, h1, h2⟩ := Option.map_eq_some_iff.mp hq
    have h3 := List.find?_some h1
    have h4 := List.mem_of_find?_eq_some h1
    have h5 : p.1 = a := by simpa using h3
    subst h2; subst h5
    exact h p h4
  · show (l.find? (fun q => q.1 == p.1)).map (·.2) = some p.2
    cases hf : l.find? (fun q => q.1 == p.1) with
    | none => exact absurd (List.find?_eq_none.mp hf p hp) (by simp)
    | some q =>
      have h3 := List.find?_some hf
      have h4 := List.mem_of_find?_eq_some hf
      have h5 : q.1 = p.1 := by simpa using h3
      rw [Option.map_some, hd q h4 p hp h5]
theorem scr_of {s : State} {b L : Nat} {xs : Nat → Int32} (hL : L ≤ 320) (h : va_X b L xs s s.heap) : garr s s.heap b 0 0 L (fun j => .int (iI (xs j).toInt)) := by
  obtain ⟨scr, h1, h2, h3, h4, h5⟩ := h
  refine ⟨scr, h1, h2, h3, by omega, by rw [h4]; rfl, fun j hj => ?_, fun e => (by cases e), fun e => absurd rfl e⟩
  rw [h5 j hj]
  show some (Value.int (xs j)) = some (Value.int (Int32.ofInt (xs j).toInt))
  rw [Int32.ofInt_toInt]
