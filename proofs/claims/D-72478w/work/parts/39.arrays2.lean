/-! ROWS: arrays of references made and written, class objects -/
set_option maxRecDepth 100000
section ARR2
variable {Z : ZC} {y : MethodName} {cc : ByteArray} {nL : Nat} {rt : Option FieldType} {R : Room} {Γ Γ' : Gh → Prop} {n s pc : Nat} {lv : List (Option Value)} {st : List Value}
theorem r_anew {own : String} {idx N : Nat} {x : Int} (t : Nat) (C : CC Z y cc nL rt R) (d : decode cc pc = .ok (.anewarray idx, 3)) (ho : y.cls = own) (hlink : Cond.classLink own idx "java/lang/Object" ∈ lw_all) (hx : x = (N : Int)) (hN : N ≤ 100000000) (hn : n + 1 ≤ R.cells) (hs : s + N ≤ R.slots)
    (kk : ∀ G a, Γ G → G a = none → WW Z nL (fun z => z = gup G a (t, .inr (2, N, fun _ => .null))) (n + 1) (s + N) (pc + 3) lv (.ref a :: st)) : WW Z nL Γ n s pc lv (.int (iI x) :: st) := by
  subst ho hx
  have i0 : i32 (N : Int) := by unfold i32; omega
  have hcl : (iI (N : Int)).toNatClampNeg = N := by rw [iI_clamp i0]; omega
  intro G H locs ls hG hI hl
  refine W.anew C.x C.b C.o (C.t _ hlink) (va_AO.use C.w.2.2.2.2.2.2.2) rfl d rfl (by rw [show (0 : Int32) = iI 0 from rfl, iI_lt i0 i32_0]; omega) (by rw [hcl]; omega) (by rw [C.rm]; exact hn) (by rw [C.rm, hcl]; exact hs) fun cA kA comp f1 f2 f3 f4 => ?_
  rw [hcl]
  generalize hcx : ({ cls := cA, slots := Array.replicate N .null, vm := .none } : Cell) = cx
  have x1 : cx.cls = cA := by rw [← hcx]
  have x2 : cx.slots = Array.replicate N .null := by rw [← hcx]
  have x3 : cx.vm = .none := by rw [← hcx]
  generalize hH1 : H.push cx = H1
  have z1 : H1.size = H.size + 1 := by rw [← hH1, Array.size_push]
  have q1 : H1[H.size]? = some cx := by rw [← hH1, Array.getElem?_push_size]
  have o1 : ∀ q : Nat, q < H.size → H1[q]? = H[q]? := fun q hq => by rw [← hH1, Array.getElem?_push, if_neg (Nat.ne_of_lt hq)]
  have hnone : G H.size = none := by
    cases hq : G H.size with
    | none => rfl
    | some q => exact absurd (hI.1 _ _ hq).lt (Nat.lt_irrefl _)
  have hga : garr (zs Z) H1 H.size t 2 N (fun _ => .null) := ⟨cx, q1, ⟨(by rw [x3]; exact fun k h => (by cases h)), kA, (by rw [x1]; exact f2), comp, f3⟩, (by rw [x3]; exact fun h => (by cases h)), (by rw [x2, Array.size_replicate]; exact Nat.le_refl _), (by rw [x2, Array.size_replicate]; rfl), (fun j hj => by rw [x2]; simp [hj]), (fun _ => by rw [x1]; exact f1), fun _ h => (by cases h)⟩
  exact kk G H.size hG hnone _ H1 locs ls rfl ⟨hI.1.new ⟨fun _ => Nat.le_trans C.e.2.1 hI.2.1, hga⟩ o1, ⟨Nat.le_trans hI.2.1 (by omega), fun x h1 h2 => (o1 x (Nat.lt_of_lt_of_le h1 hI.2.1)).trans (hI.2.2.1 x h1 h2), hI.2.2.2⟩⟩ hl
theorem r_aast {a N : Nat} {f : Nat → Value} {i : Int32} {v : Value} (C : CC Z y cc nL rt R) (d : decode cc pc = .ok (.aastore, 1)) (h : ∀ G, Γ G → isObj G v ∧ ∃ t, t ≠ 0 ∧ G a = some (t, .inr (2, N, f)) ∧ Γ' (gup G a (t, .inr (2, N, vup f i.toNatClampNeg v)))) (hin : vp_in i N) (kk : WW Z nL Γ' n s (pc + 1) lv st) : WW Z nL Γ n s pc lv (v :: .int i :: .ref a :: st) := by
  intro G H locs ls hG hI hl
  obtain ⟨hv, t, ht0, ht, hΓ⟩ := h G hG
  obtain ⟨cell, h1, h2, h3, h4, h5, h6, h7⟩ := (hI.1 a _ ht).arr
  have hb := (hI.1 a _ ht).1 ht0
  obtain ⟨g1, g2⟩ := garr_rd (s := zs Z) (H := H) (a := a) (k := 2) h4 h6 hin
  obtain ⟨kA, comp, q1, q2, q3⟩ := compO C h7
  have fin : ∀ H' : Heap, H'[a]? = some (cell.setSlot i.toNatClampNeg v) → H'.size = H.size → (∀ q, q ≠ a → H'[q]? = H[q]?) → W (zp Z) (zl Z) (ze Z) (zR Z) (zs Z) (zm Z) (za Z) (zw Z) (zt Z) (zc Z) H' (locs ++ [⟨a, i.toNatClampNeg⟩]) n s (zQ Z) (F0 (zm Z) (pc + 1) ls st) := by
    intro H' e1 e2 e3
    exact kk _ H' _ ls hΓ ⟨hI.1.set ⟨fun _ => hb, garr_st (Nat.not_le.mp fun q => hin (Or.inr q)) h2 h3 h4 h5 h6 h7 (fun h => by cases h) e1⟩ e3, hI.2.put e2 e3 hb⟩ hl
  rcases hv with rfl | ⟨b, t2, ci, fs, rfl, hb2⟩
  · exact va_WaastN C.x C.b (C := "java/lang/Object") h1 h2 h3 g1 rfl rfl d fin
  · obtain ⟨cv, r1, r2, r3, kv, r4⟩ := asgO C hI.1 hb2 q3
    obtain ⟨kE, hkE, -⟩ := Vm.findClass_spec q3
    exact W.aast C.x C.b h1 h2.1 h3 q1 q2 rfl hkE ⟨fun q => g1 (Or.inl q), Nat.not_le.mp fun q => g1 (Or.inr q)⟩ r1 (fun q h => by rw [h] at r2; cases r2) r4 r3 rfl rfl d fin
/-- getClass() of an Object[] -/
theorem r_getC {own : String} {idx a t N : Nat} {f : Nat → Value} (C : CC Z y cc nL rt R) (d : decode cc pc = .ok (.invokevirtual idx, 3)) (ho : y.cls = own) (hlink : Cond.methodLink own idx ⟨"java/lang/Object", "getClass", "()Ljava/lang/Class;"⟩ ∈ lw_all) (hsel : Cond.selects "[Ljava/lang/Object;" ⟨"java/lang/Object", "getClass", "()Ljava/lang/Class;"⟩ ⟨"java/lang/Object", "getClass", "()Ljava/lang/Class;"⟩ ∈ lw_all) (hinst : Cond.instanceMethod ⟨"java/lang/Object", "getClass", "()Ljava/lang/Class;"⟩ ∈ lw_all) (hnat : Cond.native ⟨"java/lang/Object", "getClass", "()Ljava/lang/Class;"⟩ ∈ lw_all)
    (h : ∀ G, Γ G → G a = some (t, .inr (2, N, f))) (hfr : 1 ≤ R.frames) (hlo : (st.map fun v => v.category).sum + 14 ≤ R.locals) (k : WW Z nL Γ n s (pc + 3) lv (.ref ((zX Z).2.2 7) :: st)) : WW Z nL Γ n s pc lv (.ref a :: st) := by
  subst ho
  intro G H locs ls hG hI hl
  obtain ⟨cell, h1, h2, h3, h4, h5, h6, h7⟩ := (hI.1 a _ (h G hG)).arr
  exact va_getC C.x C.b (by rw [C.m]; exact hl.1.symm) C.o (C.t _ hlink) (va_Nw.use rfl (C.w.2.2.2.1 _ (by decide +kernel))) (C.t _ hsel) (C.t _ hinst) (C.t _ hnat) C.e.2.2.2.1.2 ⟨cell, h1, (by cases hv : cell.vm <;> first | rfl | exact absurd hv (h2.1 _)), h7.1 rfl⟩ (by rw [C.rm]; exact hfr) (by rw [C.rm]; exact hlo) d (k G H locs ls hG hI hl)
end ARR2
