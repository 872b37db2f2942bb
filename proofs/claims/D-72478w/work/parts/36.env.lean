/-! ROWS for the component and the JDK: statics, constants, casts, copies, the other calls -/
set_option maxRecDepth 100000
/-- a cell's facts with fewer rights -/
theorem gat.retag {X : XE} {s : State} {H : Heap} {a t t' : Nat} {e : GE} (h : gat X s H a (t, e)) (ht : t' ≠ 0 → t ≠ 0) : gat X s H a (t', e) := by
  cases e with
  | inl o =>
    obtain ⟨h1, r, cell, g1, g2, g3, g4, g5, g6, g7⟩ := h
    exact ⟨fun q => h1 (ht q), r, cell, g1, g2, g3, g4, g5, fun q => g6 (ht q), g7⟩
  | inr o =>
    obtain ⟨h1, cell, g1, g2, g3, g4, g5, g6, g7, g8⟩ := h
    exact ⟨fun q => h1 (ht q), cell, g1, g2, g3, g4, g5, g6, g7, fun q => g8 (ht q)⟩
section ENV
variable {Z : ZC} {y : MethodName} {cc : ByteArray} {nL : Nat} {rt : Option FieldType} {R : Room} {Γ Γ' : Gh → Prop} {n s pc : Nat} {lv : List (Option Value)} {st : List Value}
theorem ww_retag (h : ∀ G, Γ G → ∃ G', Γ' G' ∧ ∀ a q, G' a = some q → ∃ t, G a = some (t, q.2) ∧ (q.1 ≠ 0 → t ≠ 0)) (k : WW Z nL Γ' n s pc lv st) : WW Z nL Γ n s pc lv st := by
  intro G H locs ls hG hI hl
  obtain ⟨G', h1, h2⟩ := h G hG
  refine k G' H locs ls h1 ⟨fun a q hq => ?_, hI.2⟩ hl
  obtain ⟨t, g1, g2⟩ := h2 a q hq
  exact (hI.1 a _ g1).retag g2
theorem r_gets {own : String} {n0 d0 : String} {v : Value} {index : Nat} (C : CC Z y cc nL rt R) (d : decode cc pc = .ok (.getstatic index, 3)) (hZ : va_Z own n0 d0 v (fun q => zB Z ≤ q) (zs Z) (zs Z).heap) (hlink : Cond.fieldLink y.cls index own n0 d0 ∈ lw_all) (k : WW Z nL Γ n s (pc + 3) lv (v :: st)) : WW Z nL Γ n s pc lv st :=
  fun G H locs ls hG hI hl => va_gets C.x C.b hZ hI.2 C.o (C.t _ hlink) (fun _ h => h) d (k G H locs ls hG hI hl)
/-- String.COMPACT_STRINGS -/
theorem r_compact {index : Nat} (C : CC Z y cc nL rt R) (d : decode cc pc = .ok (.getstatic index, 3)) (hlink : Cond.fieldLink y.cls index "java/lang/String" "COMPACT_STRINGS" "Z" ∈ lw_all) (k : WW Z nL Γ n s (pc + 3) lv (.int (iI 1) :: st)) : WW Z nL Γ n s pc lv st := r_gets C d C.e.2.2.2.2.1 hlink k
theorem r_emptyA {index : Nat} (C : CC Z y cc nL rt R) (d : decode cc pc = .ok (.getstatic index, 3)) (hlink : Cond.fieldLink y.cls index "java/util/ArrayList" "DEFAULTCAPACITY_EMPTY_ELEMENTDATA" "[Ljava/lang/Object;" ∈ lw_all) (k : WW Z nL Γ n s (pc + 3) lv (.ref ((zX Z).2.2 6) :: st)) : WW Z nL Γ n s pc lv st := r_gets C d C.e.2.2.2.2.2.1 hlink k
theorem r_sioobe {index : Nat} (C : CC Z y cc nL rt R) (d : decode cc pc = .ok (.getstatic index, 3)) (hlink : Cond.fieldLink y.cls index "jdk/internal/util/Preconditions" "SIOOBE_FORMATTER" "Ljava/util/function/BiFunction;" ∈ lw_all) (k : ∀ v, (v = .null ∨ ∃ t, v = .ref t) → WW Z nL Γ n s (pc + 3) lv (v :: st)) : WW Z nL Γ n s pc lv st := by
  rcases C.e.2.2.2.2.2.2 with h | ⟨t, h⟩
  · exact r_gets C d h hlink (k _ (Or.inl rfl))
  · exact r_gets C d h hlink (k _ (Or.inr ⟨t, rfl⟩))
theorem r_ldcS {own tx : String} {index j : Nat} (C : CC Z y cc nL rt R) (d : decode cc pc = .ok (.ldc index, 2)) (ho : y.cls = own) (hq : (own, index, tx, j) ∈ skL) (k : WW Z nL Γ n s (pc + 2) lv (.ref ((zX Z).2.2 j) :: st)) : WW Z nL Γ n s pc lv st := by
  subst ho
  exact fun G H locs ls hG hI hl => va_ldcS C.x C.b C.o (C.e.2.2.2.1.1 _ hq) d (k G H locs ls hG hI hl)
theorem r_ldcM {index : Nat} (C : CC Z y cc nL rt R) (d : decode cc pc = .ok (.ldc index, 2)) (hlink : Cond.classLink y.cls index "[Ljava/lang/Object;" ∈ lw_all) (k : WW Z nL Γ n s (pc + 2) lv (.ref ((zX Z).2.2 7) :: st)) : WW Z nL Γ n s pc lv st :=
  fun G H locs ls hG hI hl => va_ldcM C.x C.b C.o (C.t _ hlink) C.e.2.2.2.1.2 d (k G H locs ls hG hI hl)
theorem gobj_recv {X : XE} {G : Gh} {s0 : State} {H : Heap} {a ci N t : Nat} {T : u_T} {Cn : String} {fs : List Value} (he : EE X s0) (hG : GH X G s0 H) (h : G a = some (t, .inl (ci, fs))) (hc : vwC[ci]? = some (Cn, T, N)) : ∃ cell : Cell, H[a]? = some cell ∧ cell.vm.isStatics = false ∧ s0.vm.findClass Cn = some cell.cls := by
  obtain ⟨-, r, cell, h1, q1, q2, q3, q4, q5, q6⟩ := hG a _ h
  have hr : r = (Cn, T, N) := Option.some.inj (h1.symm.trans hc)
  subst hr
  exact ⟨cell, q1, q3, by rw [q2]; exact (he.1 ci _ hc).2.1⟩
theorem r_castO {ci idx N a : Nat} {T : u_T} {Cn : String} (C : CC Z y cc nL rt R) (d : decode cc pc = .ok (.checkcast idx, 3)) (h : ∀ G, Γ G → ∃ t fs, G a = some (t, .inl (ci, fs))) (hc : vwC[ci]? = some (Cn, T, N)) (hlink : Cond.classLink y.cls idx Cn ∈ lw_all) (k : WW Z nL Γ n s (pc + 3) lv (.ref a :: st)) : WW Z nL Γ n s pc lv (.ref a :: st) := by
  intro G H locs ls hG hI hl
  obtain ⟨t, fs, ht⟩ := h G hG
  exact va_castE C.x C.b C.o (C.t _ hlink) (gobj_recv C.e hI.1 ht hc) d (k G H locs ls hG hI hl)
theorem r_instO {ci idx N a : Nat} {T : u_T} {Cn : String} (C : CC Z y cc nL rt R) (d : decode cc pc = .ok (.instanceof idx, 3)) (h : ∀ G, Γ G → ∃ t fs, G a = some (t, .inl (ci, fs))) (hc : vwC[ci]? = some (Cn, T, N)) (hlink : Cond.classLink y.cls idx Cn ∈ lw_all) (k : WW Z nL Γ n s (pc + 3) lv (.int (iI 1) :: st)) : WW Z nL Γ n s pc lv (.ref a :: st) := by
  intro G H locs ls hG hI hl
  obtain ⟨t, fs, ht⟩ := h G hG
  exact va_instE C.x C.b C.o (C.t _ hlink) (gobj_recv C.e hI.1 ht hc) d (k G H locs ls hG hI hl)
theorem r_ifnonnull {x : Nat} {off : Int} {tgt : Nat} (C : CC Z y cc nL rt R) (d : decode cc pc = .ok (.ifnonnull off, 3)) (ht : (pc : Int) + off = (tgt : Int)) (k : WW Z nL Γ n s tgt lv st) : WW Z nL Γ n s pc lv (.ref x :: st) :=
  fun G H locs ls hG hI hl => lv_ifnonnull C.x C.b d ht (k G H locs ls hG hI hl)
/-! arrays of bytes and of references -/
theorem r_castB {idx a N t : Nat} {f : Nat → Value} (C : CC Z y cc nL rt R) (d : decode cc pc = .ok (.checkcast idx, 3)) (ht0 : t ≠ 0) (h : ∀ G, Γ G → G a = some (t, .inr (1, N, f))) (hlink : Cond.classLink y.cls idx "[B" ∈ lw_all) (k : WW Z nL Γ n s (pc + 3) lv (.ref a :: st)) : WW Z nL Γ n s pc lv (.ref a :: st) := by
  intro G H locs ls hG hI hl
  obtain ⟨-, cell, h1, h2, h3, h4, h5, h6, -, h8⟩ := hI.1 a _ (h G hG)
  exact va_castE C.x C.b C.o (C.t _ hlink) ⟨cell, h1, (by cases hv : cell.vm <;> first | rfl | exact absurd hv (h2.1 _)), (h8 ht0 rfl).2.1⟩ d (k G H locs ls hG hI hl)
end ENV
