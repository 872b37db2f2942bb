/-! ROWS: arrays copied, cloned, of references -/
set_option maxRecDepth 100000
def cpyV (f g : Nat → Value) (sp dp n : Nat) : Nat → Value := fun k => if dp ≤ k ∧ k < dp + n then f (sp + (k - dp)) else g k
theorem nn_toInt {z : Int32} (hz : ¬ z < 0) : z.toInt = (z.toNatClampNeg : Int) := by
  have hz0 : (0 : Int) ≤ z.toInt := by
    have := Int32.not_lt.mp hz
    simpa using Int32.le_iff_toInt_le.mp this
  show z.toInt = ((z.toInt.toNat : Nat) : Int)
  omega
theorem getD_of {xs : Array Value} {i : Nat} {v : Value} (h : xs[i]? = some v) : xs.getD i .null = v := by
  rw [Array.getD_eq_getD_getElem?, h]
  rfl
/-- the copied cell -/
theorem copied_at {cs cd : Cell} {f g : Nat → Value} {n0 n1 sp dp n : Nat} (h0 : ∀ j, j < n0 → cs.slots[j]? = some (f j)) (h1 : ∀ j, j < n1 → cd.slots[j]? = some (g j)) (hs : sp + n ≤ n0) (hd : dp + n ≤ n1) (hz : n1 ≤ cd.slots.size) : ∀ j, j < n1 → (cd.storeRun dp (cs.stretch sp n)).slots[j]? = some (cpyV f g sp dp n j) := by
  intro j hj
  have hlen : (cs.stretch sp n).length = n := by unfold Cell.stretch; rw [List.length_map, List.length_range]
  rw [Cell.storeRun_get _ _ _ _ (by rw [hlen]; omega), hlen]
  unfold cpyV
  by_cases e : dp ≤ j ∧ j < dp + n
  · rw [if_pos e, if_pos e]
    unfold Cell.stretch
    rw [List.getElem?_map, List.getElem?_range (by omega)]
    exact congrArg some (getD_of (h0 _ (by omega)))
  · rw [if_neg e, if_neg e]
    exact h1 j hj
theorem gat.arr {X : XE} {s : State} {H : Heap} {a t k N : Nat} {f : Nat → Value} (h : gat X s H a (t, .inr (k, N, f))) : garr s H a t k N f := h.2
section ARR
variable {Z : ZC} {y : MethodName} {cc : ByteArray} {nL : Nat} {rt : Option FieldType} {R : Room} {Γ Γ' : Gh → Prop} {n s pc : Nat} {lv : List (Option Value)} {st : List Value}
/-- may a value be stored in an Object[] -/
def isObj (G : Gh) (v : Value) : Prop := v = .null ∨ ∃ b t ci fs, v = .ref b ∧ G b = some (t, .inl (ci, fs))
theorem okO : ∀ (c : Nat) (q : vw_C), vwC[c]? = some q → (q.1, "java/lang/Object") ∈ caL := by
  intro c q h
  match c, h with
  | 0, h => cases h; decide +kernel
  | 1, h => cases h; decide +kernel
  | 2, h => cases h; decide +kernel
  | 3, h => cases h; decide +kernel
  | 4, h => cases h; decide +kernel
  | 5, h => cases h; decide +kernel
  | 6, h => cases h; decide +kernel
  | 7, h => cases h; decide +kernel
  | 8, h => cases h; decide +kernel
  | 9, h => cases h; decide +kernel
  | k + 10, h => simp at h
theorem asgO {G : Gh} {H : Heap} {b t ci : Nat} {fs : List Value} {comp : ClassId} (C : CC Z y cc nL rt R) (hG : GH (zX Z) G (zs Z) H) (h : G b = some (t, .inl (ci, fs))) (hc : (zs Z).vm.findClass "java/lang/Object" = some comp) : ∃ cell : Cell, H[b]? = some cell ∧ cell.vm.isStatics = false ∧ (zs Z).vm.assignable cell.cls comp = true ∧ ∃ k, (zs Z).vm.classes[cell.cls]? = some k := by
  obtain ⟨-, r, cell, h1, q1, q2, q3, q4, q5, q6⟩ := hG b _ h
  have hca : va_Nw (.castable r.1 "java/lang/Object") (zs Z) := C.w.2.2.1 (r.1, "java/lang/Object") (okO _ _ h1)
  obtain ⟨c0, t0, f1, f2, f3⟩ := Cond.castable_spec (va_Nw.use (A := za Z) rfl hca)
  obtain ⟨hfc, kB, hkB, -⟩ := (C.e.1 ci _ h1).2
  cases hc.symm.trans f2
  have e : (zX Z).1.1 ci = c0 := Option.some.inj (hfc.symm.trans f1)
  exact ⟨cell, q1, q3, by rw [q2, e]; exact f3, kB, by rw [q2]; exact hkB⟩
theorem isObj.takes {G : Gh} {H : Heap} {v : Value} {comp : ClassId} {vm' : Vm} {T : State} (C : CC Z y cc nL rt R) (hT : T.heap = H) (hG : GH (zX Z) G (zs Z) H) (h : isObj G v) (hc : (zs Z).vm.findClass "java/lang/Object" = some comp) (hal : (zs Z).vm.Alike vm') : fits (.object "java/lang/Object") v = true ∧ (T.setVm vm').takes comp v := by
  rcases h with rfl | ⟨b, t, ci, fs, rfl, hb⟩
  · exact ⟨rfl, trivial⟩
  · obtain ⟨cell, g1, g2, g3, kB, hkB⟩ := asgO C hG hb hc
    obtain ⟨kE, hkE, -⟩ := Vm.findClass_spec hc
    obtain ⟨kC', hkC', -⟩ := hal.2.2 _ _ hkB
    obtain ⟨kE', hkE', -⟩ := hal.2.2 _ _ hkE
    refine ⟨rfl, cell, (show T.heap[b]? = some cell by rw [hT]; exact g1), (fun q h => by rw [h] at g2; cases g2), ⟨kC', hkC'⟩, ⟨kE', hkE'⟩, ?_⟩
    show vm'.assignable _ _ = true
    rw [hal.assignable]
    exact g3
theorem compO {cell : Cell} {N : Nat} {f : Nat → Value} {t : Nat} (C : CC Z y cc nL rt R) (hg : gown (zs Z) cell t 2 N f) : ∃ k comp, (zs Z).vm.classes[cell.cls]? = some k ∧ k.kind = .array comp (.object "java/lang/Object") ∧ (zs Z).vm.findClass "java/lang/Object" = some comp := by
  have hov := va_AO.use (A := za Z) C.w.2.2.2.2.2.2.2
  obtain ⟨comp, c, k, h1, -, h2, h3, h4⟩ := Cond.arrayOver_spec hov
  have e : c = cell.cls := Option.some.inj (h4.symm.trans (hg.1 rfl))
  rw [e] at h2
  exact ⟨k, comp, h2, h3, h1⟩
/-- System.arraycopy, of bytes (κ = 1) and of references (κ = 2) -/
theorem r_copyK {own : String} {idx a0 a t0 t n0 n1 : Nat} {f g : Nat → Value} {sp dp m : Int} (κ : Nat) (C : CC Z y cc nL rt R) (d : decode cc pc = .ok (.invokestatic idx, 3)) (ho : y.cls = own) (hlink : Cond.methodLink own idx arraycopyName ∈ lw_all) (hnat : Cond.native arraycopyName ∈ lw_all) (hstat : Cond.static arraycopyName ∈ lw_all) (hini : Cond.initialized "java/lang/System" ∈ lw_all)
    (ht : t ≠ 0) (h : ∀ G, Γ G → G a0 = some (t0, .inr (κ, n0, f)) ∧ G a = some (t, .inr (κ, n1, g)) ∧ Γ' (gup G a (t, .inr (κ, n1, cpyV f g sp.toNat dp.toNat m.toNat)))) (hty : ((refKind (aty κ) != refKind (aty κ)) || (!refKind (aty κ) && aty κ != aty κ)) = false)
    (hv : ∀ G H, Γ G → GH (zX Z) G (zs Z) H → ∀ (T : State) (vm' : Vm) (comp : ClassId), T.heap = H → (zs Z).vm.Alike vm' → (κ = 2 → (zs Z).vm.findClass "java/lang/Object" = some comp) → ∀ i, i < m.toNat → fits (aty κ) (f (sp.toNat + i)) = true ∧ (T.setVm vm').takes comp (f (sp.toNat + i)))
    (hfit : κ = 1 → ∀ i, i < m.toNat → fits .byte (f (sp.toNat + i)) = true)
    (h1 : 0 ≤ sp) (h2 : 0 ≤ dp) (h3 : 0 ≤ m) (h4 : sp + m ≤ n0) (h5 : dp + m ≤ n1) (hn0 : i32 n0) (hn1 : i32 n1) (hfr : 1 ≤ R.frames) (hlo : (st.map fun v => v.category).sum + (nativeFrameWords "java/lang/System" "arraycopy" 5 + 11) ≤ R.locals)
    (kk : WW Z nL Γ' n s (pc + 3) lv st) : WW Z nL Γ n s pc lv (.int (iI m) :: .int (iI dp) :: .ref a :: .int (iI sp) :: .ref a0 :: st) := by
  subst ho
  intro G H locs ls hG hI hl
  obtain ⟨g0, g1, g2⟩ := h G hG
  obtain ⟨cs, c1, c2, c3, c4, c5, c6, c7⟩ := (hI.1 a0 _ g0).arr
  obtain ⟨cd, e1, e2, e3, e4, e5, e6, e7⟩ := (hI.1 a _ g1).arr
  have hb := (hI.1 a _ g1).1 ht
  obtain ⟨c2s, ks, hks, compS, hkS⟩ := id c2
  obtain ⟨e2s, kd, hkd, compD, hkD⟩ := id e2
  have isp : i32 sp := by unfold i32 at *; omega
  have idp : i32 dp := by unfold i32 at *; omega
  have im : i32 m := by unfold i32 at *; omega
  have nsp : ¬ iI sp < 0 := by rw [show (0 : Int32) = iI 0 from rfl, iI_lt isp i32_0]; omega
  have ndp : ¬ iI dp < 0 := by rw [show (0 : Int32) = iI 0 from rfl, iI_lt idp i32_0]; omega
  have nm : ¬ iI m < 0 := by rw [show (0 : Int32) = iI 0 from rfl, iI_lt im i32_0]; omega
  have hcomp : κ = 2 → (zs Z).vm.findClass "java/lang/Object" = some compD := fun e => by
    subst e
    obtain ⟨k2, comp2, q1, q2, q3⟩ := compO C e7
    cases hkd.symm.trans q1
    cases hkD.symm.trans q2
    exact q3
  intro T hT X
  obtain ⟨vm', X', step⟩ := X.arraycopy C.x C.o (C.t _ hlink) (C.t _ hnat) (C.t _ hstat) (C.t _ hini) (src := a0) (dst := a) (cs := cs) (cd := cd) (srcPos := iI sp) (destPos := iI dp) (n := iI m) (by rw [hT]; exact c1) (by rw [hT]; exact e1)
    c2s e2s c3 e3 hks hkd hkS hkD hty nsp ndp nm
    (by rw [iI_toInt isp, iI_toInt im]; omega)
    (by rw [iI_toInt idp, iI_toInt im]; omega)
    (fun vm₁ hal i hi => by
      rw [iI_clamp im] at hi
      rw [iI_clamp isp, getD_of (c6 (sp.toNat + i) (by omega))]
      exact hv G H hG hI.1 T vm₁ compD hT hal hcomp i hi)
    (g := F0 (zm Z) pc ls (.int (iI m) :: .int (iI dp) :: .ref a :: .int (iI sp) :: .ref a0 :: st)) rfl (by rw [C.m]; exact hl.1) (rest := st) rfl (by rw [C.b]; exact d) (by rw [C.rm]; exact hfr) (by rw [C.rm]; show 2 * 0 + _ + _ ≤ _; omega)
  have hl0 : a < H.size := (Array.getElem?_eq_some_iff.mp e1).1
  have hcf : (copied cs cd (iI sp) (iI dp) (iI m)).cls = cd.cls ∧ (copied cs cd (iI sp) (iI dp) (iI m)).vm = cd.vm ∧ (copied cs cd (iI sp) (iI dp) (iI m)).slots.size = cd.slots.size := by
    have := Cell.storeRun_facts cd (iI dp).toNatClampNeg (cs.stretch (iI sp).toNatClampNeg (iI m).toNatClampNeg)
    exact ⟨this.1, this.2.1, this.2.2.1⟩
  have hcp : ∀ j, j < n1 → (copied cs cd (iI sp) (iI dp) (iI m)).slots[j]? = some (cpyV f g sp.toNat dp.toNat m.toNat j) := by
    have := copied_at (cs := cs) (cd := cd) (sp := sp.toNat) (dp := dp.toNat) (n := m.toNat) c6 e6 (by omega) (by omega) e4
    unfold copied
    rw [iI_clamp isp, iI_clamp idp, iI_clamp im]
    exact this
  generalize copied cs cd (iI sp) (iI dp) (iI m) = cx at X' step hcf hcp
  have hheap : ((T.setVm vm').setCell a cx).heap = H.setIfInBounds a cx := by rw [← hT]; rfl
  have oq : ∀ q : Nat, q ≠ a → (H.setIfInBounds a cx)[q]? = H[q]? := fun q hq => by simp [Array.getElem?_setIfInBounds, Ne.symm hq]
  have oa : (H.setIfInBounds a cx)[a]? = some cx := by simp [Array.getElem?_setIfInBounds, hl0]
  have hga : garr (zs Z) (H.setIfInBounds a cx) a t κ n1 (cpyV f g sp.toNat dp.toNat m.toNat) := by
    refine ⟨cx, oa, ⟨by rw [hcf.2.1]; exact e2s, kd, by rw [hcf.1]; exact hkd, compD, hkD⟩, by rw [hcf.2.1]; exact e3, by rw [hcf.2.2]; exact e4, by rw [hcf.2.2]; exact e5, hcp, fun q => by rw [hcf.1]; exact e7.1 q, fun q1 q2 => ⟨hcf.2.2.trans (e7.2 q1 q2).1, by rw [hcf.1]; exact (e7.2 q1 q2).2.1, fun j hj => ?_⟩⟩
    unfold cpyV
    split
    · next q => exact hfit q2 (j - dp.toNat) (by omega)
    · exact (e7.2 q1 q2).2.2 j hj
  obtain ⟨t2, a2, b2⟩ := kk _ (H.setIfInBounds a cx) _ ls g2 ⟨hI.1.set ⟨fun _ => hb, hga⟩ oq, ⟨by simp; exact hI.2.1, fun q r1 r2 => by
      rw [oq q (fun e => r2 (by rw [e]; exact hb))]
      exact hI.2.2.1 q r1 r2, fun q hq => by
      rcases List.mem_append.mp hq with h | h
      · exact hI.2.2.2 q h
      · obtain ⟨z, -, hz⟩ := List.mem_map.mp h
        rw [← hz]
        exact hb⟩⟩ hl _ hheap X'
  exact ⟨t2, step t2 a2, b2⟩
theorem takes_byte {T : State} {comp : ClassId} {v : Value} (h : fits .byte v = true) : T.takes comp v := by
  cases v <;> first | exact trivial | cases h
theorem r_copyB {own : String} {idx a0 a t0 t n0 n1 : Nat} {f g : Nat → Value} {sp dp m : Int} (C : CC Z y cc nL rt R) (d : decode cc pc = .ok (.invokestatic idx, 3)) (ho : y.cls = own) (hlink : Cond.methodLink own idx arraycopyName ∈ lw_all) (hnat : Cond.native arraycopyName ∈ lw_all) (hstat : Cond.static arraycopyName ∈ lw_all) (hini : Cond.initialized "java/lang/System" ∈ lw_all)
    (ht : t ≠ 0) (h : ∀ G, Γ G → G a0 = some (t0, .inr (1, n0, f)) ∧ G a = some (t, .inr (1, n1, g)) ∧ Γ' (gup G a (t, .inr (1, n1, cpyV f g sp.toNat dp.toNat m.toNat)))) (hfit : ∀ i, i < m.toNat → fits .byte (f (sp.toNat + i)) = true)
    (h1 : 0 ≤ sp) (h2 : 0 ≤ dp) (h3 : 0 ≤ m) (h4 : sp + m ≤ n0) (h5 : dp + m ≤ n1) (hn0 : i32 n0) (hn1 : i32 n1) (hfr : 1 ≤ R.frames) (hlo : (st.map fun v => v.category).sum + (nativeFrameWords "java/lang/System" "arraycopy" 5 + 11) ≤ R.locals)
    (kk : WW Z nL Γ' n s (pc + 3) lv st) : WW Z nL Γ n s pc lv (.int (iI m) :: .int (iI dp) :: .ref a :: .int (iI sp) :: .ref a0 :: st) :=
  r_copyK 1 C d ho hlink hnat hstat hini ht h rfl (fun G H hG hH T vm' comp hT hal hc i hi => ⟨hfit i hi, takes_byte (hfit i hi)⟩) (fun _ => hfit) h1 h2 h3 h4 h5 hn0 hn1 hfr hlo kk
theorem r_copyO {own : String} {idx a0 a t0 t n0 n1 : Nat} {f g : Nat → Value} {sp dp m : Int} (C : CC Z y cc nL rt R) (d : decode cc pc = .ok (.invokestatic idx, 3)) (ho : y.cls = own) (hlink : Cond.methodLink own idx arraycopyName ∈ lw_all) (hnat : Cond.native arraycopyName ∈ lw_all) (hstat : Cond.static arraycopyName ∈ lw_all) (hini : Cond.initialized "java/lang/System" ∈ lw_all)
    (ht : t ≠ 0) (h : ∀ G, Γ G → G a0 = some (t0, .inr (2, n0, f)) ∧ G a = some (t, .inr (2, n1, g)) ∧ (∀ i, i < m.toNat → isObj G (f (sp.toNat + i))) ∧ Γ' (gup G a (t, .inr (2, n1, cpyV f g sp.toNat dp.toNat m.toNat))))
    (h1 : 0 ≤ sp) (h2 : 0 ≤ dp) (h3 : 0 ≤ m) (h4 : sp + m ≤ n0) (h5 : dp + m ≤ n1) (hn0 : i32 n0) (hn1 : i32 n1) (hfr : 1 ≤ R.frames) (hlo : (st.map fun v => v.category).sum + (nativeFrameWords "java/lang/System" "arraycopy" 5 + 11) ≤ R.locals)
    (kk : WW Z nL Γ' n s (pc + 3) lv st) : WW Z nL Γ n s pc lv (.int (iI m) :: .int (iI dp) :: .ref a :: .int (iI sp) :: .ref a0 :: st) :=
  r_copyK 2 C d ho hlink hnat hstat hini ht (fun G hG => ⟨(h G hG).1, (h G hG).2.1, (h G hG).2.2.2⟩) rfl (fun G H hG hH T vm' comp hT hal hc i hi => ((h G hG).2.2.1 i hi).takes C hT hH (hc rfl) hal) (fun e => by cases e) h1 h2 h3 h4 h5 hn0 hn1 hfr hlo kk
/-- byte[].clone() -/
theorem r_cloneB {own : String} {idx a t N : Nat} {f : Nat → Value} (t1 : Nat) (C : CC Z y cc nL rt R) (d : decode cc pc = .ok (.invokevirtual idx, 3)) (ho : y.cls = own)
    (hlink : Cond.methodLink own idx ⟨"[B", "clone", "()Ljava/lang/Object;"⟩ ∈ lw_all) (hsame : Cond.sameMethod "[B" "java/lang/Object" "clone" "()Ljava/lang/Object;" ∈ lw_all) (hnat : Cond.native ⟨"java/lang/Object", "clone", "()Ljava/lang/Object;"⟩ ∈ lw_all) (hinst : Cond.instanceMethod ⟨"java/lang/Object", "clone", "()Ljava/lang/Object;"⟩ ∈ lw_all) (hsel : Cond.selects "[B" ⟨"[B", "clone", "()Ljava/lang/Object;"⟩ ⟨"java/lang/Object", "clone", "()Ljava/lang/Object;"⟩ ∈ lw_all)
    (ht : t ≠ 0) (h : ∀ G, Γ G → G a = some (t, .inr (1, N, f))) (hn : n + 1 ≤ R.cells) (hs : s + N ≤ R.slots) (hfr : 1 ≤ R.frames) (hlo : (st.map fun v => v.category).sum + 14 ≤ R.locals)
    (kk : ∀ G b, Γ G → G b = none → WW Z nL (fun z => z = gup G b (t1, .inr (1, N, f))) (n + 1) (s + N) (pc + 3) lv (.ref b :: st)) : WW Z nL Γ n s pc lv (.ref a :: st) := by
  subst ho
  intro G H locs ls hG hI hl
  have g1 := h G hG
  obtain ⟨cd, e1, e2, e3, e4, e5, e6, e7⟩ := (hI.1 a _ g1).arr
  obtain ⟨e2s, kd, hkd, compD, hkD⟩ := id e2
  obtain ⟨w1, w2, w3⟩ := e7.2 ht rfl
  obtain ⟨c0, t0', f1, f2, f3⟩ := Cond.castable_spec (va_Nw.use (A := za Z) rfl (C.w.2.2.1 ("[B", "java/lang/Cloneable") (by decide +kernel)))
  have hc0 : cd.cls = c0 := Option.some.inj (w2.symm.trans f1)
  intro T hT X
  obtain ⟨vm', X', step⟩ := X.cloneArray C.x C.o (C.t _ hlink) (C.t _ hsame) (C.t _ hnat) (C.t _ hinst) (C.t _ hsel) (a := a) (cell := cd) (by rw [hT]; exact e1) e2s e3 w2 f2 (by rw [hc0]; exact f3)
    (fun i v hv => by
      obtain ⟨k', hk', he⟩ := X.warmed.alike.2.2 _ _ hkd
      have hi : i < N := by have := (Array.getElem?_eq_some_iff.mp hv).1; omega
      have hv2 : v = f i := Option.some.inj (hv.symm.trans (e6 i hi))
      have hft := w3 i hi
      rw [← hv2] at hft
      have hkk : k'.kind = kd.kind := by rw [he]
      simpa [State.fitsSlot, State.slotType?, hk', hkk, hkD, aty] using hft)
    (g := F0 (zm Z) pc ls (.ref a :: st)) rfl (by rw [C.m]; exact hl.1) (rest := st) rfl (by rw [C.b]; exact d) (by rw [C.rm]; exact hfr) (by rw [C.rm]; show 2 * 0 + _ + 14 ≤ _; omega) (by rw [C.rm]; exact hn) (by rw [C.rm, w1]; exact hs) (hloader := Vm.clonesLoader_of_array hkd hkD)
  rw [w1] at X'
  generalize hcx : ({ cls := cd.cls, slots := cd.slots } : Cell) = cx at X' step
  have x1 : cx.cls = cd.cls := by rw [← hcx]
  have x2 : cx.slots = cd.slots := by rw [← hcx]
  have x3 : cx.vm = .none := by rw [← hcx]
  generalize hH1 : H.push cx = H1
  have z1 : H1.size = H.size + 1 := by rw [← hH1, Array.size_push]
  have q1 : H1[H.size]? = some cx := by rw [← hH1, Array.getElem?_push_size]
  have o1 : ∀ q : Nat, q < H.size → H1[q]? = H[q]? := fun q hq => by rw [← hH1, Array.getElem?_push, if_neg (Nat.ne_of_lt hq)]
  have hnone : G H.size = none := by
    cases hq : G H.size with
    | none => rfl
    | some q => exact absurd (hI.1 _ _ hq).lt (Nat.lt_irrefl _)
  have hga : garr (zs Z) H1 H.size t1 1 N f := ⟨cx, q1, ⟨(by rw [x3]; exact fun k h => (by cases h)), kd, (by rw [x1]; exact hkd), compD, hkD⟩, (by rw [x3]; exact fun h => (by cases h)), (by rw [x2]; exact e4), (by rw [x2]; exact e5), (by rw [x2]; exact e6), fun h => (by cases h), fun _ _ => ⟨by rw [x2]; exact w1, by rw [x1]; exact w2, w3⟩⟩
  obtain ⟨t2, a2, b2⟩ := kk G H.size hG hnone _ H1 locs ls rfl ⟨hI.1.new ⟨fun _ => Nat.le_trans C.e.2.1 hI.2.1, hga⟩ o1, ⟨Nat.le_trans hI.2.1 (by omega), fun x h1 h2 => (o1 x (Nat.lt_of_lt_of_le h1 hI.2.1)).trans (hI.2.2.1 x h1 h2), hI.2.2.2⟩⟩ hl ((T.setVm vm').pushCell cx) (by rw [← hH1, ← hT]; rfl) X'
  refine ⟨t2, step t2 ?_, b2⟩
  rw [hT]
  exact a2
end ARR
