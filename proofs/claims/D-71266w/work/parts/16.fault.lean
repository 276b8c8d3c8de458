/-! Fault, Reader: makers -/
set_option maxRecDepth 100000
def gRefV (v : Value) : Prop := v = .null ∨ ∃ t, v = .ref t
theorem gRefV_n {v : Value} (h : gRefV v) {C : String} : narrow (.object C) v = v := by rcases h with rfl | ⟨t, rfl⟩ <;> rfl
theorem gRefV_f {v : Value} (h : gRefV v) {C : String} : fits (.object C) v = true := by rcases h with rfl | ⟨t, rfl⟩ <;> rfl
theorem gRefV_na {v : Value} (h : gRefV v) {C : FieldType} : narrow (.array C) v = v := by rcases h with rfl | ⟨t, rfl⟩ <;> rfl
theorem gRefV_fa {v : Value} (h : gRefV v) {C : FieldType} : fits (.array C) v = true := by rcases h with rfl | ⟨t, rfl⟩ <;> rfl
/-- what the makers of a Throwable read: two statics that nobody writes -/
def gZs (A : Nat → Prop) (U : State) (H : Heap) : Prop := va_Zq "java/lang/Throwable" "UNASSIGNED_STACK" "[Ljava/lang/StackTraceElement;" A U H ∧ va_Zq "java/lang/Throwable" "SUPPRESSED_SENTINEL" "Ljava/util/List;" A U H
theorem gZs_down {A B : Nat → Prop} {s U : State} {H : Heap} {locs : List Loc} (hZ : gZs A s s.heap) (hS : va_S A s.heap H locs) (hB : ∀ q, B q → A q) (hU : U.heap = H) (hvm : s.vm.Alike U.vm) : gZs B U U.heap := by
  rw [hU]
  exact ⟨((hZ.1.kept hS.2.1).narrow hB).moved hvm, ((hZ.2.kept hS.2.1).narrow hB).moved hvm⟩
def gBlZ (D : va_G) (dA : Nat → ClassId) (ws : va_W) (sz : Nat) : State → Prop := fun U => gBl D dA ws sz U ∧ gZs (va_A ws sz) U U.heap
theorem gZs_calling {A : Nat → Prop} {U : State} {g : JFrame} {mk : MethodId} {a : Array Value} (h : gZs A U U.heap) : gZs A (U.calling g mk a) (U.calling g mk a).heap :=
  ⟨va_Zq.moved (u := U) (U := U.calling g mk a) (Vm.Alike.refl U.vm) h.1, va_Zq.moved (u := U) (U := U.calling g mk a) (Vm.Alike.refl U.vm) h.2⟩
section GCtor
variable {p : Program} {l : Launch} {e : Env} {s : State} {m : MethodId} {args : Array Value} {below : List Frame} {meth : Method} {c : Code} {D : va_G} {dA : Nat → ClassId} {ad : Nat → Nat}
variable {R : Room} {A : Nat → Prop} {QQ : State → Prop} {cc : ByteArray} {nL kc ks pc : Nat} {rt : Option FieldType} {own : String} {L : List (Nat × Value)} {st rest : List Value} {ws wr wc : va_W} {y : MethodName} {bytes : ByteArray} {maxL idx nn mc ms : Nat} {ret : Option FieldType} {rm : Room} {Qc : Array Value → State → Outcome → State → Prop} {As : List Value} {a : Nat}
theorem at_getsq (C : Cx p s m args meth c D dA cc nL rt own) {Cn n d : String} (hZ : va_Zq Cn n d A s s.heap) (hw : Cond.fieldLink own idx Cn n d ∈ lw_all) (hd : decode cc pc = .ok (.getstatic idx, 3)) (kk : ∀ v, gRefV v → gAt p l e R s m args below meth c D A QQ nL kc ks (pc + 3) L (v :: st) ws) : gAt p l e R s m args below meth c D A QQ nL kc ks pc L st ws := fun H locs ls hP hD hS hl => by
  rcases hZ with hZ | ⟨t, hZ⟩
  · exact va_gets C.1 C.2.1 hZ hS C.2.2.2.2.2.1 (C.2.2.2.2.2.2.1 _ hw) (fun _ h => h) hd (kk .null (Or.inl rfl) H locs ls hP hD hS hl)
  · exact va_gets C.1 C.2.1 hZ hS C.2.2.2.2.2.1 (C.2.2.2.2.2.2.1 _ hw) (fun _ h => h) hd (kk (.ref t) (Or.inr ⟨t, rfl⟩) H locs ls hP hD hS hl)
theorem gm_ofLZ {sz : Nat} (hy : plainName y.cls = true) (hcls : y.cls = own) (hnm : y.name = "<init>") (hlen : (lg_sl As).length ≤ maxL) (hL : lv_args 0 As = L)
    (body : ∀ (p : Program) (e : Env) (s : State) (m : MethodId) (below : List Frame) (meth : Method) (c : Code), Cx p s m As.toArray meth c D dA bytes maxL ret own → meth.name = "<init>" → gZs (va_A wc sz) s s.heap → (∀ q, s.heap.size ≤ q → va_A wc sz q) → gAt p l e rm s m As.toArray below meth c D (va_A wc sz) (MQ below Qc As.toArray s mc ms (va_A wc sz)) maxL 0 0 0 L [] wc) :
    Met l y (ws_ y bytes maxL ret) rm (va_Pc As (gBlZ D dA wc sz)) Qc mc ms (va_A wc sz) := by
  refine Met.ofW (cc := bytes) (maxL := maxL) (ret := ret) hy rfl ?_
  intro p e s m args below meth c s₁ B hml hv
  obtain ⟨rfl, ⟨hsz, hP, hK, hD0⟩, hZ⟩ := hv
  have hts := atoms_spec (ws := ws_ y bytes maxL ret) B.pre
  have hts : ∀ w ∈ lw_all, w.before _ s = true := fun w h => hts w (List.mem_cons_of_mem _ h)
  have hown : s.vm.findClass own = some m.cls := by rw [← hcls]; exact findClass_of_methodNamed B.named
  have hin : meth.name = "<init>" := by rw [← hnm]; exact (name_of_methodNamed B.named B.method).1
  have hl := lv_entry As (n := maxL) hlen
  rw [lg_entry_eq]
  rw [hL] at hl
  exact body p e s m below meth c ⟨B.exec, B.bytes, hml, B.returns, B.notSynchronized, hown, hts, hK⟩ hin hZ (fun q h => Or.inr (by rw [← hsz]; exact h)) s.heap [] _ hP hD0.self va_S.rf hl
theorem gBlZ_blind {av : List Value} {sz : Nat} : FrameBlind (va_Pc av (gBlZ D dA ws sz)) := by
  rintro a U g mk ⟨q0, ⟨qs, qP, qK, qD⟩, qZ⟩
  exact ⟨q0, ⟨qs, qP, gK_calling qK, qD⟩, gZs_calling qZ⟩
theorem run_IZ (C : Cx p s m args meth c D dA cc nL rt own) (hA0 : ∀ q, s.heap.size ≤ q → A q) (hZ : gZs A s s.heap) {Qz : Nat → Array Value → State → Outcome → State → Prop} (hM : ∀ z, Met l y (ws_ y bytes maxL none) rm (va_Pc (.ref a :: As) (gBlZ D dA wc z)) (Qz z) mc ms (va_A wc z)) (h1 : Cond.methodLink own idx y ∈ lw_all) (h2 : Cond.initialized y.cls ∈ lw_all) (h3 : Cond.instanceMethod y ∈ lw_all) (h4 : Cond.code y bytes maxL none ∈ lw_all) (hnm : y.name = "<init>") (hz : rm.cells = mc ∧ rm.slots = ms)
    (hds : y.cls ≠ "java/lang/invoke/MethodHandle" ∧ y.cls ≠ "java/lang/invoke/VarHandle" ∧ (parseMethodDescriptor y.desc).map (fun d => d.parameters.length) = some nn) (hR : rm.frames + 1 ≤ R.frames ∧ 8 + (maxL + 11) + rm.locals ≤ R.locals) (hn : As.length = nn) (hst : st = As.reverse ++ .ref a :: rest) (hW : (rest.map fun v => v.category).sum ≤ 8) (hd : decode cc pc = .ok (.invokespecial idx, 3)) (hf : kc + mc ≤ R.cells ∧ ks + ms ≤ R.slots) :
    ∀ (H : Heap) (locs : List Loc) (ls : Array Slot), va_P D gCl wc H → va_D A wc → va_S A s.heap H locs → ls.size = nL → va_Run p l e R s m args below meth c H locs kc ks mc ms (F0 m pc ls st) rest (Qz H.size (Value.ref a :: As).toArray) (va_A wc H.size) := by
  intro H locs ls hP hD hS hs
  exact va_runI (As := As) (rest := rest) (n := nn) ⟨C.1, C.2.1, C.2.2.1, C.2.2.2.2.2.1, C.2.2.2.2.2.2.1⟩ (hM H.size) (cwI nn C.2.2.2.2.2.2.1 (lw_meth h4) rfl hz.1 hz.2 (C.2.2.2.2.2.2.1 _ h2) (C.2.2.2.2.2.2.1 _ h1) (C.2.2.2.2.2.2.1 _ h3) hnm hds hR) ⟨gBlZ_blind, fun U hU hW => ⟨rfl, ⟨by rw [hU], by rw [hU]; exact hP, gK_warm hW C.2.2.2.2.2.2.2, hD.weaken (fun _ _ _ _ => trivial)⟩, gZs_down hZ hS (va_A_in hD hA0 hS.1) hU hW.alike⟩⟩ rfl hn hs hst (lv_room hW) hd hf

set_option maxHeartbeats 4000000 in
theorem metJ1_init_2 (l : Launch) (D : va_G) (dA : Nat → ClassId) (a sz : Nat) : Met l yJ1_init_2 (ws_ yJ1_init_2 cJ1_init_2 5 none) (gRc 2 0 0) (va_Pc [.ref a, .null, .null, .int 0, .int 0] (gBlZ D dA [(a, .inr (9, [.null, .null, .null, .null, .null, .int 0, .int 0, .int 0]))] sz)) (va_Qv (fun _ => True) (gZl D [(a, .inr (9, [.null, .null, .null, .null, .null, .int 0, .int 0, .int 0]))] sz (fun _ : Unit => [(a, .inr (9, [.null, .null, .null, .null, .null, .int 0, .int 0, .int 0]))])) (va_A [(a, .inr (9, [.null, .null, .null, .null, .null, .int 0, .int 0, .int 0]))] sz)) 0 0 (va_A [(a, .inr (9, [.null, .null, .null, .null, .null, .int 0, .int 0, .int 0]))] sz) := by
  refine gm_ofLZ (L := [(0, .ref a), (1, .null), (2, .null), (3, .int 0), (4, .int 0)]) (own := RJ1) (by decide +kernel) rfl rfl (Nat.le_of_ble_eq_true rfl) rfl (fun p e s m below meth c C hinit hZ hA => ?_)
  refine at_aload_n C dJ1_init_2_0 rfl rfl ?_
  refine at_objInit C q335 q78 q79 (Nat.le_of_ble_eq_true rfl) (Nat.le_of_ble_eq_true rfl) (Nat.le_of_ble_eq_true rfl) dJ1_init_2_1 ?_
  refine at_aload_n C dJ1_init_2_4 rfl rfl ?_
  refine at_aload_n C dJ1_init_2_5 rfl rfl ?_
  refine at_putL (q0 := 0) (k := 0) (ws2 := [(a, .inr (9, [.ref a, .null, .null, .null, .null, .int 0, .int 0, .int 0]))]) C rfl rfl in_X9 (Nat.le_of_ble_eq_true rfl) q364 tyX9 tyX9_ok nmX9 rfl rfl rfl (Nat.le_of_ble_eq_true rfl) rfl dJ1_init_2_6 ?_
  refine at_aload_n C dJ1_init_2_9 rfl rfl ?_
  refine at_getsq C hZ.1 q336 dJ1_init_2_10 (fun v1 hv1 => ?_)
  refine at_putL (q0 := 0) (k := 1) (ws2 := [(a, .inr (9, [.ref a, v1, .null, .null, .null, .int 0, .int 0, .int 0]))]) C rfl rfl in_X9 (Nat.le_of_ble_eq_true rfl) q365 tyX9 tyX9_ok nmX9 rfl (gRefV_na hv1) (gRefV_fa hv1) (Nat.le_of_ble_eq_true rfl) rfl dJ1_init_2_13 ?_
  refine at_aload_n C dJ1_init_2_16 rfl rfl ?_
  refine at_getsq C hZ.2 q338 dJ1_init_2_17 (fun v2 hv2 => ?_)
  refine at_putL (q0 := 0) (k := 2) (ws2 := [(a, .inr (9, [.ref a, v1, v2, .null, .null, .int 0, .int 0, .int 0]))]) C rfl rfl in_X9 (Nat.le_of_ble_eq_true rfl) q366 tyX9 tyX9_ok nmX9 rfl (gRefV_n hv2) (gRefV_f hv2) (Nat.le_of_ble_eq_true rfl) rfl dJ1_init_2_20 ?_
  refine at_iload C dJ1_init_2_23 rfl ?_
  refine at_if_eq (tgt := 36) C dJ1_init_2_25 (by decide) (fun _ => ?_) (fun h => absurd (by decide) h)
  refine at_aload_n C dJ1_init_2_36 rfl rfl ?_
  refine at_null C dJ1_init_2_37 ?_
  refine at_putL (q0 := 0) (k := 1) (ws2 := [(a, .inr (9, [.ref a, .null, v2, .null, .null, .int 0, .int 0, .int 0]))]) C rfl rfl in_X9 (Nat.le_of_ble_eq_true rfl) q365 tyX9 tyX9_ok nmX9 rfl rfl rfl (Nat.le_of_ble_eq_true rfl) rfl dJ1_init_2_38 ?_
  refine at_aload_n C dJ1_init_2_41 rfl rfl ?_
  refine at_aload_nN C dJ1_init_2_42 rfl rfl ?_
  refine at_putL (q0 := 0) (k := 3) (ws2 := [(a, .inr (9, [.ref a, .null, v2, .null, .null, .int 0, .int 0, .int 0]))]) C rfl rfl in_X9 (Nat.le_of_ble_eq_true rfl) q363 tyX9 tyX9_ok nmX9 rfl rfl rfl (Nat.le_of_ble_eq_true rfl) rfl dJ1_init_2_43 ?_
  refine at_aload_n C dJ1_init_2_46 rfl rfl ?_
  refine at_aload_nN C dJ1_init_2_47 rfl rfl ?_
  refine at_putL (q0 := 0) (k := 0) (ws2 := [(a, .inr (9, [.null, .null, v2, .null, .null, .int 0, .int 0, .int 0]))]) C rfl rfl in_X9 (Nat.le_of_ble_eq_true rfl) q364 tyX9 tyX9_ok nmX9 rfl rfl rfl (Nat.le_of_ble_eq_true rfl) rfl dJ1_init_2_48 ?_
  refine at_iload_n C dJ1_init_2_51 rfl rfl ?_
  refine at_if_ne (tgt := 60) C dJ1_init_2_52 (by decide) (fun h => absurd (by decide) h) (fun _ => ?_)
  refine at_aload_n C dJ1_init_2_55 rfl rfl ?_
  refine at_null C dJ1_init_2_56 ?_
  refine at_putL (q0 := 0) (k := 2) (ws2 := [(a, .inr (9, [.null, .null, .null, .null, .null, .int 0, .int 0, .int 0]))]) C rfl rfl in_X9 (Nat.le_of_ble_eq_true rfl) q366 tyX9 tyX9_ok nmX9 rfl rfl rfl (Nat.le_of_ble_eq_true rfl) rfl dJ1_init_2_57 ?_
  exact at_eq rfl (at_vretL (u := ()) (res := fun _ : Unit => [(a, .inr (9, [.null, .null, .null, .null, .null, .int 0, .int 0, .int 0]))]) C rfl trivial dJ1_init_2_60)
set_option maxHeartbeats 4000000 in
theorem metJ2_init (l : Launch) (D : va_G) (dA : Nat → ClassId) (a sz : Nat) : Met l yJ2_init (ws_ yJ2_init cJ2_init 5 none) (gRc 3 0 0) (va_Pc [.ref a, .null, .null, .int 0, .int 0] (gBlZ D dA [(a, .inr (9, [.null, .null, .null, .null, .null, .int 0, .int 0, .int 0]))] sz)) (va_Qv (fun _ => True) (gZl D [(a, .inr (9, [.null, .null, .null, .null, .null, .int 0, .int 0, .int 0]))] sz (fun _ : Unit => [(a, .inr (9, [.null, .null, .null, .null, .null, .int 0, .int 0, .int 0]))])) (va_A [(a, .inr (9, [.null, .null, .null, .null, .null, .int 0, .int 0, .int 0]))] sz)) 0 0 (va_A [(a, .inr (9, [.null, .null, .null, .null, .null, .int 0, .int 0, .int 0]))] sz) := by
  refine gm_ofLZ (L := [(0, .ref a), (1, .null), (2, .null), (3, .int 0), (4, .int 0)]) (own := RJ2) (by decide +kernel) rfl rfl (Nat.le_of_ble_eq_true rfl) rfl (fun p e s m below meth c C hinit hZ hA => ?_)
  refine at_aload_n C dJ2_init_0 rfl rfl ?_
  refine at_aload_nN C dJ2_init_1 rfl rfl ?_
  refine at_aload_nN C dJ2_init_2 rfl rfl ?_
  refine at_iload_n C dJ2_init_3 rfl rfl ?_
  refine at_iload C dJ2_init_4 rfl ?_
  refine at_eq (ws2 := [] ++ [(a, .inr (9, [.null, .null, .null, .null, .null, .int 0, .int 0, .int 0]))]) rfl ?_
  refine at_sufv (rest := []) (res := fun _ : Unit => [(a, .inr (9, [.null, .null, .null, .null, .null, .int 0, .int 0, .int 0]))]) (post := fun _ => True) hA (fun _ _ h => h) (fun _ _ h => h) (run_IZ (wc := [(a, .inr (9, [.null, .null, .null, .null, .null, .int 0, .int 0, .int 0]))]) (As := [.null, .null, .int 0, .int 0]) (rest := []) (nn := 4) C hA hZ (fun z => metJ1_init_2 l D dA a z) q355 q67 q356 q357 rfl ⟨rfl, rfl⟩ ⟨by decide +kernel, by decide +kernel, by decide +kernel⟩ ⟨(Nat.le_of_ble_eq_true rfl), (Nat.le_of_ble_eq_true rfl)⟩ rfl rfl (Nat.le_of_ble_eq_true rfl) dJ2_init_6 ⟨(Nat.le_of_ble_eq_true rfl), (Nat.le_of_ble_eq_true rfl)⟩) (fun _ _ => ?_)
  refine at_eq (ws2 := [(a, .inr (9, [.null, .null, .null, .null, .null, .int 0, .int 0, .int 0]))]) rfl ?_
  exact at_eq rfl (at_vretL (u := ()) (res := fun _ : Unit => [(a, .inr (9, [.null, .null, .null, .null, .null, .int 0, .int 0, .int 0]))]) C rfl trivial dJ2_init_9)
set_option maxHeartbeats 4000000 in
theorem metX9_init (l : Launch) (D : va_G) (dA : Nat → ClassId) (a sz : Nat) (x1 x2 : Int32) : Met l yX9_init (ws_ yX9_init cX9_init 3 none) (gRc 4 0 0) (va_Pc [.ref a, .int x1, .int x2] (gBlZ D dA [(a, .inr (9, [.null, .null, .null, .null, .null, .int 0, .int 0, .int 0]))] sz)) (va_Qv (fun _ => True) (gZl D [(a, .inr (9, [.null, .null, .null, .null, .null, .int 0, .int 0, .int 0]))] sz (fun _ : Unit => [(a, .inr (9, [.null, .null, .null, .null, .null, .int 0, .int x1, .int x2]))])) (va_A [(a, .inr (9, [.null, .null, .null, .null, .null, .int 0, .int 0, .int 0]))] sz)) 0 0 (va_A [(a, .inr (9, [.null, .null, .null, .null, .null, .int 0, .int 0, .int 0]))] sz) := by
  refine gm_ofLZ (L := [(0, .ref a), (1, .int x1), (2, .int x2)]) (own := RX9) (by decide +kernel) rfl rfl (Nat.le_of_ble_eq_true rfl) rfl (fun p e s m below meth c C hinit hZ hA => ?_)
  refine at_aload_n C dX9_init_0 rfl rfl ?_
  refine at_null C dX9_init_1 ?_
  refine at_null C dX9_init_2 ?_
  refine at_iconst C dX9_init_3 ic_0 ?_
  refine at_iconst C dX9_init_4 ic_0 ?_
  refine at_eq (ws2 := [] ++ [(a, .inr (9, [.null, .null, .null, .null, .null, .int 0, .int 0, .int 0]))]) rfl ?_
  refine at_sufv (rest := []) (res := fun _ : Unit => [(a, .inr (9, [.null, .null, .null, .null, .null, .int 0, .int 0, .int 0]))]) (post := fun _ => True) hA (fun _ _ h => h) (fun _ _ h => h) (run_IZ (wc := [(a, .inr (9, [.null, .null, .null, .null, .null, .int 0, .int 0, .int 0]))]) (As := [.null, .null, .int 0, .int 0]) (rest := []) (nn := 4) C hA hZ (fun z => metJ2_init l D dA a z) q352 q68 q353 q354 rfl ⟨rfl, rfl⟩ ⟨by decide +kernel, by decide +kernel, by decide +kernel⟩ ⟨(Nat.le_of_ble_eq_true rfl), (Nat.le_of_ble_eq_true rfl)⟩ rfl rfl (Nat.le_of_ble_eq_true rfl) dX9_init_5 ⟨(Nat.le_of_ble_eq_true rfl), (Nat.le_of_ble_eq_true rfl)⟩) (fun _ _ => ?_)
  refine at_eq (ws2 := [(a, .inr (9, [.null, .null, .null, .null, .null, .int 0, .int 0, .int 0]))]) rfl ?_
  refine at_aload_n C dX9_init_8 rfl rfl ?_
  refine at_iload_n C dX9_init_9 rfl rfl ?_
  refine at_putFL (q0 := 0) (k := 6) (ws2 := [(a, .inr (9, [.null, .null, .null, .null, .null, .int 0, .int x1, .int 0]))]) C hinit rfl rfl in_X9 (Nat.le_of_ble_eq_true rfl) q358 tyX9 tyX9_ok nmX9 rfl rfl rfl rfl (Nat.le_of_ble_eq_true rfl) rfl dX9_init_10 ?_
  refine at_aload_n C dX9_init_13 rfl rfl ?_
  refine at_iload_n C dX9_init_14 rfl rfl ?_
  refine at_putFL (q0 := 0) (k := 7) (ws2 := [(a, .inr (9, [.null, .null, .null, .null, .null, .int 0, .int x1, .int x2]))]) C hinit rfl rfl in_X9 (Nat.le_of_ble_eq_true rfl) q360 tyX9 tyX9_ok nmX9 rfl rfl rfl rfl (Nat.le_of_ble_eq_true rfl) rfl dX9_init_15 ?_
  exact at_eq rfl (at_vretL (u := ()) (res := fun _ : Unit => [(a, .inr (9, [.null, .null, .null, .null, .null, .int 0, .int x1, .int x2]))]) C rfl trivial dX9_init_18)
set_option maxHeartbeats 4000000 in
theorem metX8_init (l : Launch) (D : va_G) (dA : Nat → ClassId) (a sz : Nat) (o1 : Nat) (x2 : Int32) : Met l yX8_init (ws_ yX8_init cX8_init 3 none) (gRc 3 4 32) (va_Pc [.ref a, .ref o1, .int x2] (gBl D dA [(a, .inr (8, [.null, .int 0, .null, .int 0]))] sz)) (va_Qv (fun _ => True) (gZl D [(a, .inr (8, [.null, .int 0, .null, .int 0]))] sz (fun u_ : Nat → Nat => [(a, .inr (8, [.ref o1, .int x2, .ref (u_ 0), .int 0])), ((u_ 0), .inr (1, [.int (-1), .ref (u_ 1), .ref (u_ 2), .ref (u_ 3), .int 0])), ((u_ 1), .inl (dA 0, (9, .inl (fun _ => 0)))), ((u_ 2), .inl (dA 0, (9, .inl (fun _ => 0)))), ((u_ 3), .inl (dA 0, (9, .inl (fun _ => 0))))])) (va_A [(a, .inr (8, [.null, .int 0, .null, .int 0]))] sz)) 4 32 (va_A [(a, .inr (8, [.null, .int 0, .null, .int 0]))] sz) := by
  refine gm_ofL (L := [(0, .ref a), (1, .ref o1), (2, .int x2)]) (own := RX8) (by decide +kernel) rfl rfl (Nat.le_of_ble_eq_true rfl) rfl (fun p e s m below meth c C hinit hA => ?_)
  refine at_aload_n C dX8_init_0 rfl rfl ?_
  refine at_objInit C q281 q78 q79 (Nat.le_of_ble_eq_true rfl) (Nat.le_of_ble_eq_true rfl) (Nat.le_of_ble_eq_true rfl) dX8_init_1 ?_
  refine at_aload_n C dX8_init_4 rfl rfl ?_
  refine at_newL (ci := 1) (fs := [.int 0, .null, .null, .null, .int 0]) C hA rfl in_X1 tyX1 tyX1_ok q282 q83 q57 hfs_1 (Nat.le_of_ble_eq_true rfl) (Nat.le_of_ble_eq_true rfl) dX8_init_5 (fun qq1 => ?_)
  refine at_eq (ws2 := [(a, .inr (8, [.null, .int 0, .null, .int 0])), (qq1, .inr (1, [.int 0, .null, .null, .null, .int 0]))]) rfl ?_
  refine at_dup C dX8_init_8 rfl ?_
  refine at_eq (ws2 := [(a, .inr (8, [.null, .int 0, .null, .int 0]))] ++ [(qq1, .inr (1, [.int 0, .null, .null, .null, .int 0]))]) rfl ?_
  refine at_sufv (rest := [.ref qq1, .ref a]) (res := fun u_ : Nat → Nat => [(qq1, .inr (1, [.int (-1), .ref (u_ 0), .ref (u_ 1), .ref (u_ 2), .int 0])), ((u_ 0), .inl (dA 0, (9, .inl (fun _ => 0)))), ((u_ 1), .inl (dA 0, (9, .inl (fun _ => 0)))), ((u_ 2), .inl (dA 0, (9, .inl (fun _ => 0))))]) (post := fun _ => True) hA (fun _ _ h => h) (fun _ _ h => h) (run_IN (wc := [(qq1, .inr (1, [.int 0, .null, .null, .null, .int 0]))]) (As := []) (rest := [.ref qq1, .ref a]) (nn := 0) C (fun z => metX1_init l D dA qq1 z ) q283 q57 q85 q86 rfl ⟨rfl, rfl⟩ ⟨by decide +kernel, by decide +kernel, by decide +kernel⟩ ⟨(Nat.le_of_ble_eq_true rfl), (Nat.le_of_ble_eq_true rfl)⟩ rfl rfl (Nat.le_of_ble_eq_true rfl) dX8_init_9 ⟨(Nat.le_of_ble_eq_true rfl), (Nat.le_of_ble_eq_true rfl)⟩) (fun u2 _ => ?_)
  obtain ⟨qq3, eqq3⟩ : ∃ z, z = u2 0 := ⟨_, rfl⟩
  obtain ⟨qq4, eqq4⟩ : ∃ z, z = u2 1 := ⟨_, rfl⟩
  obtain ⟨qq5, eqq5⟩ : ∃ z, z = u2 2 := ⟨_, rfl⟩
  refine at_eq (ws2 := [(a, .inr (8, [.null, .int 0, .null, .int 0])), (qq1, .inr (1, [.int (-1), .ref qq3, .ref qq4, .ref qq5, .int 0])), (qq3, .inl (dA 0, (9, .inl (fun _ => 0)))), (qq4, .inl (dA 0, (9, .inl (fun _ => 0)))), (qq5, .inl (dA 0, (9, .inl (fun _ => 0))))]) (by rw [eqq3, eqq4, eqq5]; rfl) ?_
  clear eqq3 eqq4 eqq5
  refine at_putFL (q0 := 0) (k := 2) (ws2 := [(a, .inr (8, [.null, .int 0, .ref qq1, .int 0])), (qq1, .inr (1, [.int (-1), .ref qq3, .ref qq4, .ref qq5, .int 0])), (qq3, .inl (dA 0, (9, .inl (fun _ => 0)))), (qq4, .inl (dA 0, (9, .inl (fun _ => 0)))), (qq5, .inl (dA 0, (9, .inl (fun _ => 0))))]) C hinit rfl rfl in_X8 (Nat.le_of_ble_eq_true rfl) q286 tyX8 tyX8_ok nmX8 rfl rfl rfl rfl (Nat.le_of_ble_eq_true rfl) rfl dX8_init_12 ?_
  refine at_aload_n C dX8_init_15 rfl rfl ?_
  refine at_aload_n C dX8_init_16 rfl rfl ?_
  refine at_putFL (q0 := 0) (k := 0) (ws2 := [(a, .inr (8, [.ref o1, .int 0, .ref qq1, .int 0])), (qq1, .inr (1, [.int (-1), .ref qq3, .ref qq4, .ref qq5, .int 0])), (qq3, .inl (dA 0, (9, .inl (fun _ => 0)))), (qq4, .inl (dA 0, (9, .inl (fun _ => 0)))), (qq5, .inl (dA 0, (9, .inl (fun _ => 0))))]) C hinit rfl rfl in_X8 (Nat.le_of_ble_eq_true rfl) q284 tyX8 tyX8_ok nmX8 rfl rfl rfl rfl (Nat.le_of_ble_eq_true rfl) rfl dX8_init_17 ?_
  refine at_aload_n C dX8_init_20 rfl rfl ?_
  refine at_iload_n C dX8_init_21 rfl rfl ?_
  refine at_putFL (q0 := 0) (k := 1) (ws2 := [(a, .inr (8, [.ref o1, .int x2, .ref qq1, .int 0])), (qq1, .inr (1, [.int (-1), .ref qq3, .ref qq4, .ref qq5, .int 0])), (qq3, .inl (dA 0, (9, .inl (fun _ => 0)))), (qq4, .inl (dA 0, (9, .inl (fun _ => 0)))), (qq5, .inl (dA 0, (9, .inl (fun _ => 0))))]) C hinit rfl rfl in_X8 (Nat.le_of_ble_eq_true rfl) q285 tyX8 tyX8_ok nmX8 rfl rfl rfl rfl (Nat.le_of_ble_eq_true rfl) rfl dX8_init_22 ?_
  exact at_eq rfl (at_vretL (u := (fun k => [qq1, qq3, qq4, qq5].getD k 0)) C rfl trivial dX8_init_25)
end GCtor
