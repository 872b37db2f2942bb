/-! ROWS: the other kinds of calls -/
set_option maxRecDepth 100000
theorem goodIn_app {ws : List Cond} (h : GoodIn lw_all ws) : GoodIn (lw_all ++ dwL) ws := fun w hw => ⟨List.mem_append_left _ (h w hw).1, (h w hw).2⟩
section CALLS
variable {Z : ZC} {y : MethodName} {cc : ByteArray} {nL : Nat} {rt : Option FieldType} {R : Room} {Γ Γ' : Gh → Prop} {n s pc : Nat} {lv : List (Option Value)} {st : List Value}
variable {y2 x2 : MethodName} {cc2 : ByteArray} {nL2 idx : Nat} {rt2 : Option FieldType} {R2 : Room} {As rest : List Value} {post2 : Option Value → Gh → Prop}
theorem CC.w (C : CC Z y cc nL rt R) : EW (zs Z) := C.e.2.2.1
theorem CC.tt (C : CC Z y cc nL rt R) : ∀ w ∈ lw_all ++ dwL, w.before (za Z) (zs Z) = true := by
  intro w hw
  rcases List.mem_append.mp hw with h | h
  · exact C.t w h
  · have h2 := dwL_ok w h
    rw [Bool.and_eq_true] at h2
    exact va_any h2.1 (C.w.2.2.2.2.2.2.1 w h)
theorem CC.nf {a b n1 d1 h1 : String} {i : Nat} (C : CC Z y cc nL rt R) (h : (a, i, b, n1, d1, h1) ∈ nfL) : (Cond.fieldLinkNest a i b n1 d1 h1).before (za Z) (zs Z) = true := va_Nw.use rfl (C.w.1 _ h)
/-- behind a call of five bytes -/
theorem r_back5 {X : XE} {mc ms : Nat} {as : Array Value} {post2 : Option Value → Gh → Prop} {st0 rest : List Value} {H : Heap} {locs : List Loc} {ls : Array Slot} (hX : zX Z = X) (hS : va_S (fun q => zB Z ≤ q) (zs Z).heap H locs) (hl : LV ls nL lv)
    (hr : va_Run5 (zp Z) (zl Z) (ze Z) (zR Z) (zs Z) (zm Z) (za Z) (zw Z) (zt Z) (zc Z) H locs n s mc ms (F0 (zm Z) pc ls st0) rest (gQ X post2 as) (fun q => X.2.1 ≤ q))
    (kk : ∀ v G', post2 v G' → WW Z nL (fun x => x = G') (n + mc) (s + ms) (pc + 5) lv (v.toList ++ rest)) : W (zp Z) (zl Z) (ze Z) (zR Z) (zs Z) (zm Z) (za Z) (zw Z) (zt Z) (zc Z) H locs n s (zQ Z) (F0 (zm Z) pc ls st0) := by
  subst hX
  intro T hT X'
  obtain ⟨v, st₀, t, T', L, h0, X', hL, e1, e2, ⟨⟨v', G', hv, hp, hH⟩, hF⟩, stp⟩ := hr T hT X'
  cases hv
  have hal : (zs Z).vm.Alike t.vm := by rw [← e2]; exact X'.warmed.alike
  obtain ⟨t2, a1, b1⟩ := kk v G' hp G' T'.heap (locs ++ L) ls rfl ⟨by rw [e1]; exact hH.moved hal.symm, ⟨Nat.le_trans hS.1 (by rw [e1, ← h0]; exact hF.1), fun q h1 h2 => by rw [e1, hF.2 q (by rw [h0]; exact Nat.lt_of_lt_of_le h1 hS.1) h2, h0]; exact hS.2.1 q h1 h2, fun q hq => by
      rcases List.mem_append.mp hq with h | h
      · exact hS.2.2 q h
      · exact hL q h⟩⟩ hl T' rfl X'
  exact ⟨t2, stp t2 a1, b1⟩
theorem preV_of {ci N b : Nat} {T : u_T} {Cn : String} {H : Heap} {locs : List Loc} {G : Gh} (C : CC Z y cc nL rt R) (hG : Γ G) (hI : GI Z G H locs) (hb : ∀ G, Γ G → ∃ t fs, G b = some (t, .inl (ci, fs))) (hci : vwC[ci]? = some (Cn, T, N)) : PreV (zs Z) H Cn b (va_Pc (.ref b :: As) (fun U => EE (zX Z) U ∧ ∃ G, Γ G ∧ GH (zX Z) G U U.heap)) As := by
  obtain ⟨t, fs, ht⟩ := hb G hG
  have hp := pre_of (As := .ref b :: As) C hG hI
  exact ⟨hp.1, gobj_recv C.e hI.1 ht hci, hp.2⟩
/-- an inherited method -/
theorem r_invU {Cn owner : String} {T : u_T} {own : String} {b ci N : Nat} (k : Nat) (C : CC Z y cc nL rt R) (d : decode cc pc = .ok (.invokevirtual idx, 3)) (hM : MG (zl Z) (zX Z) y2 cc2 nL2 rt2 R2 (.ref b :: As) Γ post2) (hb : ∀ G, Γ G → ∃ t fs, G b = some (t, .inl (ci, fs))) (hci : vwC[ci]? = some (Cn, T, N)) (ho : y.cls = own) (hw : GoodIn (lw_all ++ dwL) (va_wsU own idx Cn owner x2 y2 (ws_ y2 cc2 nL2 rt2))) (hyx : y2 = ⟨owner, x2.name, x2.desc⟩) (hd : owner ≠ "java/lang/invoke/MethodHandle" ∧ owner ≠ "java/lang/invoke/VarHandle" ∧ (parseMethodDescriptor x2.desc).map (fun d => d.parameters.length) = some k) (hk : As.length = k) (hst : st = As.reverse ++ .ref b :: rest) (hR : R2.frames + 1 ≤ R.frames ∧ 8 + (nL2 + 11) + R2.locals ≤ R.locals) (hr : (rest.map fun v => v.category).sum ≤ 8) (hc : n + R2.cells ≤ R.cells ∧ s + R2.slots ≤ R.slots)
    (kk : ∀ v G', post2 v G' → WW Z nL (fun x => x = G') (n + R2.cells) (s + R2.slots) (pc + 3) lv (v.toList ++ rest)) : WW Z nL Γ n s pc lv st := by
  subst ho
  intro G H locs ls hG hI hl
  have hR' := C.rm
  exact r_back rfl hI.2 hl (va_runU (As := As) (rest := rest) C.f hM (va_cwU k C.tt hw rfl rfl rfl hyx hd (by rw [hR']; exact hR)) (preV_of C hG hI hb hci) rfl hk hl.1 hst (lv_room hr) d (by rw [hR']; exact hc)) kk
/-- through an interface -/
theorem r_invF {Cn : String} {T : u_T} {own : String} {b ci N count : Nat} (k : Nat) (C : CC Z y cc nL rt R) (d : decode cc pc = .ok (.invokeinterface idx count, 5)) (hM : MG (zl Z) (zX Z) y2 cc2 nL2 rt2 R2 (.ref b :: As) Γ post2) (hb : ∀ G, Γ G → ∃ t fs, G b = some (t, .inl (ci, fs))) (hci : vwC[ci]? = some (Cn, T, N)) (ho : y.cls = own) (hw : GoodIn lw_all (va_wsF own idx Cn x2 y2 (ws_ y2 cc2 nL2 rt2))) (hF : (Cn, x2, y2) ∈ fwL) (hd : x2.cls ≠ "java/lang/invoke/MethodHandle" ∧ x2.cls ≠ "java/lang/invoke/VarHandle" ∧ (parseMethodDescriptor x2.desc).map (fun d => d.parameters.length) = some k) (hk : As.length = k) (hst : st = As.reverse ++ .ref b :: rest) (hR : R2.frames + 1 ≤ R.frames ∧ 8 + (nL2 + 11) + R2.locals ≤ R.locals) (hr : (rest.map fun v => v.category).sum ≤ 8) (hc : n + R2.cells ≤ R.cells ∧ s + R2.slots ≤ R.slots)
    (kk : ∀ v G', post2 v G' → WW Z nL (fun x => x = G') (n + R2.cells) (s + R2.slots) (pc + 5) lv (v.toList ++ rest)) : WW Z nL Γ n s pc lv st := by
  subst ho
  intro G H locs ls hG hI hl
  have hR' := C.rm
  exact r_back5 rfl hI.2 hl (va_runF (As := As) (rest := rest) (C.e.1 ci _ hci).2 C.f hM (va_cwF k C.t hw rfl rfl rfl (C.w.2.2.2.2.1 _ hF) hd (by rw [hR']; exact hR)) (preV_of C hG hI hb hci) rfl hk hl.1 hst (lv_room hr) d (by rw [hR']; exact hc)) kk
/-- super.m(..) -/
theorem r_invSU {Cn : String} {T : u_T} {own : String} {b ci N : Nat} (k : Nat) (C : CC Z y cc nL rt R) (d : decode cc pc = .ok (.invokespecial idx, 3)) (hM : MG (zl Z) (zX Z) y2 cc2 nL2 rt2 R2 (.ref b :: As) Γ post2) (hb : ∀ G, Γ G → ∃ t fs, G b = some (t, .inl (ci, fs))) (hci : vwC[ci]? = some (Cn, T, N)) (ho : y.cls = own) (hw : GoodIn lw_all (va_wsSU own idx y2 (ws_ y2 cc2 nL2 rt2))) (hd : y2.name ≠ "<init>" ∧ (parseMethodDescriptor y2.desc).map (fun d => d.parameters.length) = some k) (hk : As.length = k) (hst : st = As.reverse ++ .ref b :: rest) (hR : R2.frames + 1 ≤ R.frames ∧ 8 + (nL2 + 11) + R2.locals ≤ R.locals) (hr : (rest.map fun v => v.category).sum ≤ 8) (hc : n + R2.cells ≤ R.cells ∧ s + R2.slots ≤ R.slots)
    (kk : ∀ v G', post2 v G' → WW Z nL (fun x => x = G') (n + R2.cells) (s + R2.slots) (pc + 3) lv (v.toList ++ rest)) : WW Z nL Γ n s pc lv st := by
  subst ho
  intro G H locs ls hG hI hl
  have hR' := C.rm
  exact r_back rfl hI.2 hl (va_runSU (As := As) (rest := rest) (C.e.1 ci _ hci).2 C.f hM (va_cwSU k C.t hw rfl rfl rfl hd (by rw [hR']; exact hR)) (preV_of C hG hI hb hci) rfl hk hl.1 hst (lv_room hr) d (by rw [hR']; exact hc)) kk
/-- a nest mate's static method -/
theorem r_invSN {own host : String} (k : Nat) (C : CC Z y cc nL rt R) (d : decode cc pc = .ok (.invokestatic idx, 3)) (hM : MG (zl Z) (zX Z) y2 cc2 nL2 rt2 R2 As Γ post2) (ho : y.cls = own) (hl1 : (own, idx, y2, host) ∈ nmL) (hw : GoodIn lw_all (ws_ y2 cc2 nL2 rt2)) (hini : Cond.initialized y2.cls ∈ lw_all) (hsta : Cond.static y2 ∈ lw_all) (hd : y2.cls ≠ "java/lang/invoke/MethodHandle" ∧ y2.cls ≠ "java/lang/invoke/VarHandle" ∧ (parseMethodDescriptor y2.desc).map (fun d => d.parameters.length) = some k) (hk : As.length = k) (hst : st = As.reverse ++ rest) (hR : R2.frames + 1 ≤ R.frames ∧ 8 + (nL2 + 11) + R2.locals ≤ R.locals) (hr : (rest.map fun v => v.category).sum ≤ 8) (hc : n + R2.cells ≤ R.cells ∧ s + R2.slots ≤ R.slots)
    (kk : ∀ v G', post2 v G' → WW Z nL (fun x => x = G') (n + R2.cells) (s + R2.slots) (pc + 3) lv (v.toList ++ rest)) : WW Z nL Γ n s pc lv st := by
  subst ho
  intro G H locs ls hG hI hl
  have hR' := C.rm
  exact r_back rfl hI.2 hl (va_runSN (As := As) (rest := rest) C.f hM ⟨va_cnB k C.t hw rfl rfl rfl (C.w.2.1 _ hl1) (C.t _ hini) hd (by rw [hR']; exact hR), C.t _ hsta, trivial⟩ (pre_of C hG hI) rfl hk hl.1 hst (lv_room hr) d (by rw [hR']; exact hc)) kk
/-- a nest mate's private method -/
theorem r_invVN {Cn : String} {T : u_T} {own host : String} {b ci N : Nat} (k : Nat) (C : CC Z y cc nL rt R) (d : decode cc pc = .ok (.invokevirtual idx, 3)) (hM : MG (zl Z) (zX Z) y2 cc2 nL2 rt2 R2 (.ref b :: As) Γ post2) (hb : ∀ G, Γ G → ∃ t fs, G b = some (t, .inl (ci, fs))) (hci : vwC[ci]? = some (Cn, T, N)) (ho : y.cls = own) (hl1 : (own, idx, y2, host) ∈ nmL) (hw : GoodIn lw_all (ws_ y2 cc2 nL2 rt2)) (hini : Cond.initialized y2.cls ∈ lw_all) (hins : Cond.instanceMethod y2 ∈ lw_all) (hsel : Cond.selects Cn y2 y2 ∈ lw_all) (hd : y2.cls ≠ "java/lang/invoke/MethodHandle" ∧ y2.cls ≠ "java/lang/invoke/VarHandle" ∧ (parseMethodDescriptor y2.desc).map (fun d => d.parameters.length) = some k) (hk : As.length = k) (hst : st = As.reverse ++ .ref b :: rest) (hR : R2.frames + 1 ≤ R.frames ∧ 8 + (nL2 + 11) + R2.locals ≤ R.locals) (hr : (rest.map fun v => v.category).sum ≤ 8) (hc : n + R2.cells ≤ R.cells ∧ s + R2.slots ≤ R.slots)
    (kk : ∀ v G', post2 v G' → WW Z nL (fun x => x = G') (n + R2.cells) (s + R2.slots) (pc + 3) lv (v.toList ++ rest)) : WW Z nL Γ n s pc lv st := by
  subst ho
  intro G H locs ls hG hI hl
  have hR' := C.rm
  exact r_back rfl hI.2 hl (va_runVN (As := As) (rest := rest) C.f hM ⟨va_cnB k C.t hw rfl rfl rfl (C.w.2.1 _ hl1) (C.t _ hini) hd (by rw [hR']; exact hR), C.t _ hins, C.t _ hsel⟩ (preV_of C hG hI hb hci) rfl hk hl.1 hst (lv_room hr) d (by rw [hR']; exact hc)) kk
/-- an interface's own method, through a class -/
theorem r_invD {Cn owner : String} {T : u_T} {own : String} {b ci N : Nat} (k : Nat) (C : CC Z y cc nL rt R) (d : decode cc pc = .ok (.invokevirtual idx, 3)) (hM : MG (zl Z) (zX Z) y2 cc2 nL2 rt2 R2 (.ref b :: As) Γ post2) (hb : ∀ G, Γ G → ∃ t fs, G b = some (t, .inl (ci, fs))) (hci : vwC[ci]? = some (Cn, T, N)) (ho : y.cls = own) (hw : GoodIn lw_all (ws_ y2 cc2 nL2 rt2)) (hini : Cond.initialized y2.cls ∈ lw_all) (hins : Cond.instanceMethod y2 ∈ lw_all) (hl1 : Cond.methodLink own idx x2 ∈ dwL) (hl2 : Cond.sameMethod x2.cls owner x2.name x2.desc ∈ dwL) (hl3 : (Cn, x2, y2) ∈ ldL) (hl4 : (⟨owner, x2.name, x2.desc⟩ : MethodName) ∈ deL) (hd : owner ≠ "java/lang/invoke/MethodHandle" ∧ owner ≠ "java/lang/invoke/VarHandle" ∧ (parseMethodDescriptor x2.desc).map (fun d => d.parameters.length) = some k) (hk : As.length = k) (hst : st = As.reverse ++ .ref b :: rest) (hR : R2.frames + 1 ≤ R.frames ∧ 8 + (nL2 + 11) + R2.locals ≤ R.locals) (hr : (rest.map fun v => v.category).sum ≤ 8) (hc : n + R2.cells ≤ R.cells ∧ s + R2.slots ≤ R.slots)
    (kk : ∀ v G', post2 v G' → WW Z nL (fun x => x = G') (n + R2.cells) (s + R2.slots) (pc + 3) lv (v.toList ++ rest)) : WW Z nL Γ n s pc lv st := by
  subst ho
  intro G H locs ls hG hI hl
  have hR' := C.rm
  have hp := preV_of (As := As) C hG hI hb hci
  have hK : Back (zl Z) (zR Z) (zp Z) (ze Z) (zw Z) (zs Z) (za Z) y2 3 8 (PreOf (zR Z) R2.cells R2.slots (va_Pc (.ref b :: As) (fun U => EE (zX Z) U ∧ ∃ G, Γ G ∧ GH (zX Z) G U U.heap))) (PostOf (gQ (zX Z) post2) R2.cells R2.slots (fun q => (zX Z).2.1 ≤ q)) :=
    back_of (bytes := cc2) (maxL := nL2) (ret := rt2) hM hp.1 rfl rfl (by rw [hR']; exact hR.1) (by rw [hR']; exact hR.2) (pay_in C.t hw) List.mem_cons_self (fun a' U hW => word_at hW (Or.inl (by first | rfl | simp [Cond.onTables, Cond.keeps, Cond.steady])) (C.t _ hini))
  refine r_back (as := (Value.ref b :: As).toArray) rfl hI.2 hl ?_ kk
  obtain ⟨-, ⟨cellB, hcB, hoB, hclB⟩, hPc⟩ := hp
  intro T hT X
  have hld : (Cond.landsInDefault Cn x2 y2).before (za Z) (zs Z) = true := C.w.2.2.2.2.2.1 _ hl3
  obtain ⟨v, vm₁, ⟨U', l2, c2, s2⟩, hW₁, X', ⟨g', mk, t, L, e1, e2, hq, h1, hL, h2, h3⟩, stp⟩ := X.virtualBackUpD C.x (C := Cn) (owner := owner) (x := x2) (y := y2) C.o (C.tt _ (List.mem_append_right _ hl1)) (C.tt _ (List.mem_append_right _ hl2)) (va_Nw.use rfl (C.w.2.2.2.1 _ hl4)) ⟨hd.1, hd.2.1⟩ hld (C.t _ hins) hK hclB ⟨cellB, by rw [hT]; exact hcB, rfl, hoB⟩ (g := F0 (zm Z) pc ls st) rfl (hl.1.trans C.m.symm) (Steps.refl _) (argsL := As) (rest := rest) (fun sig h => by have h5 := hd.2.2; rw [h] at h5; exact hk.trans (Option.some.inj h5).symm) hst (lv_room hr) (by rw [C.b]; exact d) (fun vm₁ hW₁ => ⟨by rw [hR']; exact hc.1, by rw [hR']; exact hc.2, hPc (T.setVm vm₁) hT hW₁⟩)
  dsimp only [Pt.U, Pt.locs, Pt.cells, Pt.slots] at X' e1 e2 h1 h2 h3 stp
  subst h1; subst h2; subst h3
  exact ⟨v, (T.setVm vm₁).calling g' mk (Value.ref b :: As).toArray, t, U', L, hT, X', hL, e1, e2, hq, fun target h => stp.trans h⟩
/-- an interface's own method, through the interface -/
theorem r_invFD {Cn : String} {T : u_T} {own : String} {b ci N count : Nat} (k : Nat) (C : CC Z y cc nL rt R) (d : decode cc pc = .ok (.invokeinterface idx count, 5)) (hM : MG (zl Z) (zX Z) y2 cc2 nL2 rt2 R2 (.ref b :: As) Γ post2) (hb : ∀ G, Γ G → ∃ t fs, G b = some (t, .inl (ci, fs))) (hci : vwC[ci]? = some (Cn, T, N)) (ho : y.cls = own) (hw : GoodIn lw_all (ws_ y2 cc2 nL2 rt2)) (hini : Cond.initialized y2.cls ∈ lw_all) (hins : Cond.instanceMethod y2 ∈ lw_all) (hl1 : Cond.methodLink own idx y2 ∈ lw_all) (hl3 : (Cn, y2, y2) ∈ ldL) (hF : (Cn, y2, y2) ∈ fwL) (hd : y2.cls ≠ "java/lang/invoke/MethodHandle" ∧ y2.cls ≠ "java/lang/invoke/VarHandle" ∧ (parseMethodDescriptor y2.desc).map (fun d => d.parameters.length) = some k) (hk : As.length = k) (hst : st = As.reverse ++ .ref b :: rest) (hR : R2.frames + 1 ≤ R.frames ∧ 8 + (nL2 + 11) + R2.locals ≤ R.locals) (hr : (rest.map fun v => v.category).sum ≤ 8) (hc : n + R2.cells ≤ R.cells ∧ s + R2.slots ≤ R.slots)
    (kk : ∀ v G', post2 v G' → WW Z nL (fun x => x = G') (n + R2.cells) (s + R2.slots) (pc + 5) lv (v.toList ++ rest)) : WW Z nL Γ n s pc lv st := by
  subst ho
  intro G H locs ls hG hI hl
  have hR' := C.rm
  have hp := preV_of (As := As) C hG hI hb hci
  have hK : Back (zl Z) (zR Z) (zp Z) (ze Z) (zw Z) (zs Z) (za Z) y2 5 8 (PreOf (zR Z) R2.cells R2.slots (va_Pc (.ref b :: As) (fun U => EE (zX Z) U ∧ ∃ G, Γ G ∧ GH (zX Z) G U U.heap))) (PostOf (gQ (zX Z) post2) R2.cells R2.slots (fun q => (zX Z).2.1 ≤ q)) :=
    back_of (bytes := cc2) (maxL := nL2) (ret := rt2) hM hp.1 rfl rfl (by rw [hR']; exact hR.1) (by rw [hR']; exact hR.2) (pay_in C.t hw) List.mem_cons_self (fun a' U hW => word_at hW (Or.inl (by first | rfl | simp [Cond.onTables, Cond.keeps, Cond.steady])) (C.t _ hini))
  refine r_back5 (as := (Value.ref b :: As).toArray) rfl hI.2 hl ?_ kk
  obtain ⟨-, ⟨cellB, hcB, hoB, hclB⟩, hPc⟩ := hp
  obtain ⟨hfc, kB, hkB, -⟩ := (C.e.1 ci _ hci).2
  have hcc : (zX Z).1.1 ci = cellB.cls := Option.some.inj (hfc.symm.trans hclB)
  rw [hcc] at hkB
  intro T hT X
  have hld : (Cond.landsInDefault Cn y2 y2).before (za Z) (zs Z) = true := C.w.2.2.2.2.2.1 _ hl3
  obtain ⟨f1, f2, f3, f4, f5⟩ := C.w.2.2.2.2.1 _ hF
  obtain ⟨v, vm₁, ⟨U', l2, c2, s2⟩, hW₁, X', ⟨g', mk, t, L, e1, e2, hq, h1, hL, h2, h3⟩, stp⟩ := X.interfaceBackD C.x (C := Cn) (xi := y2) (y := y2) C.o (C.t _ hl1) (va_any rfl f1) (va_any rfl f2) hld (C.t _ hins) (va_any rfl f3) (va_any rfl f5) ⟨hd.1, hd.2.1⟩ hK hclB hkB ⟨cellB, by rw [hT]; exact hcB, rfl, hoB⟩ (g := F0 (zm Z) pc ls st) rfl (hl.1.trans C.m.symm) (Steps.refl _) (argsL := As) (rest := rest) (fun sig h => by have h5 := hd.2.2; rw [h] at h5; exact hk.trans (Option.some.inj h5).symm) hst (lv_room hr) (by rw [C.b]; exact d) (fun vm₁ hW₁ => ⟨by rw [hR']; exact hc.1, by rw [hR']; exact hc.2, hPc (T.setVm vm₁) hT hW₁⟩)
  dsimp only [Pt.U, Pt.locs, Pt.cells, Pt.slots] at X' e1 e2 h1 h2 h3 stp
  subst h1; subst h2; subst h3
  exact ⟨v, (T.setVm vm₁).calling g' mk (Value.ref b :: As).toArray, t, U', L, hT, X', hL, e1, e2, hq, fun target h => stp.trans h⟩
end CALLS
