/-! constructors -/
set_option maxRecDepth 100000
def gRc (r mc ms : Nat) : Room := { frames := r, cells := mc, slots := ms, locals := 32 * r }
section GCtor
variable {p : Program} {l : Launch} {e : Env} {s : State} {m : MethodId} {args : Array Value} {below : List Frame} {meth : Method} {c : Code} {D : va_G} {dA : Nat → ClassId} {ad : Nat → Nat}
variable {R : Room} {A : Nat → Prop} {QQ : State → Prop} {cc : ByteArray} {nL kc ks pc : Nat} {rt : Option FieldType} {own : String} {L : List (Nat × Value)} {st rest : List Value} {ws wr wc : va_W} {y : MethodName} {bytes : ByteArray} {maxL idx nn mc ms : Nat} {ret : Option FieldType} {rm : Room} {Qc : Array Value → State → Outcome → State → Prop} {As : List Value} {a : Nat}
theorem at_aload_nN (C : Cx p s m args meth c D dA cc nL rt own) {q : Fin 4} {i : Nat} (hd : decode cc pc = .ok (.aload_n q, 1)) (hi : (q : Nat) = i) (hg : lvg L i = some .null) (kk : gAt p l e R s m args below meth c D A QQ nL kc ks (pc + 1) L (.null :: st) ws) : gAt p l e R s m args below meth c D A QQ nL kc ks pc L st ws := fun H locs ls hP hD hS hl => lv_aload_nN C.1 C.2.1 hd hi (lvg_at hl hg) (kk H locs ls hP hD hS hl)
theorem gm_ofL {sz : Nat} (hy : plainName y.cls = true) (hcls : y.cls = own) (hnm : y.name = "<init>") (hlen : (lg_sl As).length ≤ maxL) (hL : lv_args 0 As = L)
    (body : ∀ (p : Program) (e : Env) (s : State) (m : MethodId) (below : List Frame) (meth : Method) (c : Code), Cx p s m As.toArray meth c D dA bytes maxL ret own → meth.name = "<init>" → (∀ q, s.heap.size ≤ q → va_A wc sz q) → gAt p l e rm s m As.toArray below meth c D (va_A wc sz) (MQ below Qc As.toArray s mc ms (va_A wc sz)) maxL 0 0 0 L [] wc) :
    Met l y (ws_ y bytes maxL ret) rm (va_Pc As (gBl D dA wc sz)) Qc mc ms (va_A wc sz) := by
  refine Met.ofW (cc := bytes) (maxL := maxL) (ret := ret) hy rfl ?_
  intro p e s m args below meth c s₁ B hml hv
  obtain ⟨rfl, hsz, hP, hK, hD0⟩ := hv
  have hts := atoms_spec (ws := ws_ y bytes maxL ret) B.pre
  have hts : ∀ w ∈ lw_all, w.before _ s = true := fun w h => hts w (List.mem_cons_of_mem _ h)
  have hown : s.vm.findClass own = some m.cls := by rw [← hcls]; exact findClass_of_methodNamed B.named
  have hin : meth.name = "<init>" := by rw [← hnm]; exact (name_of_methodNamed B.named B.method).1
  have hl := lv_entry As (n := maxL) hlen
  rw [lg_entry_eq]
  rw [hL] at hl
  exact body p e s m below meth c ⟨B.exec, B.bytes, hml, B.returns, B.notSynchronized, hown, hts, hK⟩ hin (fun q h => Or.inr (by rw [← hsz]; exact h)) s.heap [] _ hP hD0.self va_S.rf hl
theorem at_vretL {sz : Nat} {S : Type} {u : S} {res : S → va_W} (C : Cx p s m args meth c D dA cc nL rt own) {Q : S → Prop} (hr : rt = none) (hq : Q u) (hd : decode cc pc = .ok (.return_, 1)) : gAt p l e R s m args below meth c D (va_A wc sz) (MQ below (va_Qv Q (gZl D wc sz res) (va_A wc sz)) args s kc ks (va_A wc sz)) nL kc ks pc L [] (res u) :=
  fun H locs ls hP hD hS hl => W.vret C.1 C.2.1 (by rw [C.2.2.2.1]; exact hr) (fun t ht _ => ⟨⟨u, rfl, hq, (by rw [ht]; exact hP), hD⟩, hS.F ht⟩) hS.2.2 hd (hlocks := C.2.2.2.2.1)
theorem run_I (C : Cx p s m args meth c D dA cc nL rt own) {Qz : Nat → Array Value → State → Outcome → State → Prop} (hM : ∀ z, Met l y (ws_ y bytes maxL none) rm (va_Pc (.ref a :: As) (gBl D dA wc z)) (Qz z) mc ms (va_A wc z)) (h1 : Cond.methodLink own idx y ∈ lw_all) (h2 : Cond.initialized y.cls ∈ lw_all) (h3 : Cond.instanceMethod y ∈ lw_all) (h4 : Cond.code y bytes maxL none ∈ lw_all) (hnm : y.name = "<init>") (hz : rm.cells = mc ∧ rm.slots = ms)
    (hds : y.cls ≠ "java/lang/invoke/MethodHandle" ∧ y.cls ≠ "java/lang/invoke/VarHandle" ∧ (parseMethodDescriptor y.desc).map (fun d => d.parameters.length) = some nn) (hR : rm.frames + 1 ≤ R.frames ∧ 8 + (maxL + 11) + rm.locals ≤ R.locals) (hn : As.length = nn) (hst : st = As.reverse ++ .ref a :: rest) (hW : (rest.map fun v => v.category).sum ≤ 8) (hd : decode cc pc = .ok (.invokespecial idx, 3)) (hf : kc + mc ≤ R.cells ∧ ks + ms ≤ R.slots) :
    ∀ (H : Heap) (locs : List Loc) (ls : Array Slot), va_P D gCl wc H → va_D A wc → va_S A s.heap H locs → ls.size = nL → va_Run p l e R s m args below meth c H locs kc ks mc ms (F0 m pc ls st) rest (Qz H.size (Value.ref a :: As).toArray) (va_A wc H.size) := by
  intro H locs ls hP hD _ hs
  exact va_runI (As := As) (rest := rest) (n := nn) ⟨C.1, C.2.1, C.2.2.1, C.2.2.2.2.2.1, C.2.2.2.2.2.2.1⟩ (hM H.size) (cwI nn C.2.2.2.2.2.2.1 (lw_meth h4) rfl hz.1 hz.2 (C.2.2.2.2.2.2.1 _ h2) (C.2.2.2.2.2.2.1 _ h1) (C.2.2.2.2.2.2.1 _ h3) hnm hds hR) ⟨gBl_blind, fun U hU hW => ⟨rfl, by rw [hU], by rw [hU]; exact hP, gK_warm hW C.2.2.2.2.2.2.2, hD.weaken (fun _ _ _ _ => trivial)⟩⟩ rfl hn hs hst (lv_room hW) hd hf
theorem run_IN (C : Cx p s m args meth c D dA cc nL rt own) {host : String} {Qz : Nat → Array Value → State → Outcome → State → Prop} (hM : ∀ z, Met l y (ws_ y bytes maxL none) rm (va_Pc (.ref a :: As) (gBl D dA wc z)) (Qz z) mc ms (va_A wc z)) (h1 : Cond.methodLinkNest own idx y host ∈ lw_tbl) (h2 : Cond.initialized y.cls ∈ lw_all) (h3 : Cond.instanceMethod y ∈ lw_all) (h4 : Cond.code y bytes maxL none ∈ lw_all) (hnm : y.name = "<init>") (hz : rm.cells = mc ∧ rm.slots = ms)
    (hds : y.cls ≠ "java/lang/invoke/MethodHandle" ∧ y.cls ≠ "java/lang/invoke/VarHandle" ∧ (parseMethodDescriptor y.desc).map (fun d => d.parameters.length) = some nn) (hR : rm.frames + 1 ≤ R.frames ∧ 8 + (maxL + 11) + rm.locals ≤ R.locals) (hn : As.length = nn) (hst : st = As.reverse ++ .ref a :: rest) (hW : (rest.map fun v => v.category).sum ≤ 8) (hd : decode cc pc = .ok (.invokespecial idx, 3)) (hf : kc + mc ≤ R.cells ∧ ks + ms ≤ R.slots) :
    ∀ (H : Heap) (locs : List Loc) (ls : Array Slot), va_P D gCl wc H → va_D A wc → va_S A s.heap H locs → ls.size = nL → va_Run p l e R s m args below meth c H locs kc ks mc ms (F0 m pc ls st) rest (Qz H.size (Value.ref a :: As).toArray) (va_A wc H.size) := by
  intro H locs ls hP hD _ hs
  exact va_runIN (As := As) (rest := rest) (n := nn) ⟨C.1, C.2.1, C.2.2.1, C.2.2.2.2.2.1, C.2.2.2.2.2.2.1⟩ (hM H.size) ⟨va_cnB nn C.2.2.2.2.2.2.1 (lw_meth h4) rfl hz.1 hz.2 (C.2.2.2.2.2.2.2.2.1 _ (gNw_in h1 rfl)) (C.2.2.2.2.2.2.1 _ h2) hds hR, hnm, C.2.2.2.2.2.2.1 _ h3⟩ ⟨gBl_blind, fun U hU hW => ⟨rfl, by rw [hU], by rw [hU]; exact hP, gK_warm hW C.2.2.2.2.2.2.2, hD.weaken (fun _ _ _ _ => trivial)⟩⟩ rfl hn hs hst (lv_room hW) hd hf
theorem hfs_0 : ∀ j, j < 15 → defaultValue (tyX0 j) = vp_V [.null, .null, .null, .null, .null, .int 0, .null, .null, .int 0, .null, .int 0, .int 0, .null, .null, .null] j := fun j hj => by rcases (show j = 0 ∨ j = 1 ∨ j = 2 ∨ j = 3 ∨ j = 4 ∨ j = 5 ∨ j = 6 ∨ j = 7 ∨ j = 8 ∨ j = 9 ∨ j = 10 ∨ j = 11 ∨ j = 12 ∨ j = 13 ∨ j = 14 by omega) with rfl | rfl | rfl | rfl | rfl | rfl | rfl | rfl | rfl | rfl | rfl | rfl | rfl | rfl | rfl <;> rfl
theorem hfs_1 : ∀ j, j < 5 → defaultValue (tyX1 j) = vp_V [.int 0, .null, .null, .null, .int 0] j := fun j hj => by rcases (show j = 0 ∨ j = 1 ∨ j = 2 ∨ j = 3 ∨ j = 4 by omega) with rfl | rfl | rfl | rfl | rfl <;> rfl
theorem hfs_2 : ∀ j, j < 13 → defaultValue (tyX2 j) = vp_V [.null, .null, .null, .null, .null, .int 0, .int 0, .int 0, .int 0, .int 0, .int 0, .int 0, .null] j := fun j hj => by rcases (show j = 0 ∨ j = 1 ∨ j = 2 ∨ j = 3 ∨ j = 4 ∨ j = 5 ∨ j = 6 ∨ j = 7 ∨ j = 8 ∨ j = 9 ∨ j = 10 ∨ j = 11 ∨ j = 12 by omega) with rfl | rfl | rfl | rfl | rfl | rfl | rfl | rfl | rfl | rfl | rfl | rfl | rfl <;> rfl
theorem hfs_3 : ∀ j, j < 0 → defaultValue (.int) = vp_V [] j := fun j h => absurd h (by omega)
theorem hfs_4 : ∀ j, j < 0 → defaultValue (.int) = vp_V [] j := fun j h => absurd h (by omega)
theorem hfs_5 : ∀ j, j < 0 → defaultValue (.int) = vp_V [] j := fun j h => absurd h (by omega)
theorem hfs_6 : ∀ j, j < 0 → defaultValue (.int) = vp_V [] j := fun j h => absurd h (by omega)
theorem hfs_7 : ∀ j, j < 35 → defaultValue (tyX7 j) = vp_V [.int 0, .null, .int 0, .int 0, .int 0, .int 0, .int 0, .int 0, .int 0, .int 0, .int 0, .int 0, .null, .null, .null, .null, .null, .null, .int 0, .null, .null, .int 0, .null, .null, .null, .null, .int 0, .int 0, .int 0, .null, .null, .null, .null, .null, .null] j := fun j hj => by rcases (show j = 0 ∨ j = 1 ∨ j = 2 ∨ j = 3 ∨ j = 4 ∨ j = 5 ∨ j = 6 ∨ j = 7 ∨ j = 8 ∨ j = 9 ∨ j = 10 ∨ j = 11 ∨ j = 12 ∨ j = 13 ∨ j = 14 ∨ j = 15 ∨ j = 16 ∨ j = 17 ∨ j = 18 ∨ j = 19 ∨ j = 20 ∨ j = 21 ∨ j = 22 ∨ j = 23 ∨ j = 24 ∨ j = 25 ∨ j = 26 ∨ j = 27 ∨ j = 28 ∨ j = 29 ∨ j = 30 ∨ j = 31 ∨ j = 32 ∨ j = 33 ∨ j = 34 by omega) with rfl | rfl | rfl | rfl | rfl | rfl | rfl | rfl | rfl | rfl | rfl | rfl | rfl | rfl | rfl | rfl | rfl | rfl | rfl | rfl | rfl | rfl | rfl | rfl | rfl | rfl | rfl | rfl | rfl | rfl | rfl | rfl | rfl | rfl | rfl <;> rfl
theorem hfs_8 : ∀ j, j < 4 → defaultValue (tyX8 j) = vp_V [.null, .int 0, .null, .int 0] j := fun j hj => by rcases (show j = 0 ∨ j = 1 ∨ j = 2 ∨ j = 3 by omega) with rfl | rfl | rfl | rfl <;> rfl
theorem hfs_9 : ∀ j, j < 8 → defaultValue (tyX9 j) = vp_V [.null, .null, .null, .null, .null, .int 0, .int 0, .int 0] j := fun j hj => by rcases (show j = 0 ∨ j = 1 ∨ j = 2 ∨ j = 3 ∨ j = 4 ∨ j = 5 ∨ j = 6 ∨ j = 7 by omega) with rfl | rfl | rfl | rfl | rfl | rfl | rfl | rfl <;> rfl
theorem bp_98 : (Int8.ofInt 98).toInt32 = 98 := by decide
theorem sp_784 : (Int16.ofInt 784).toInt32 = 784 := by decide
theorem vk_0_4 : vp_in 0 4 := by unfold vp_in; decide
theorem vk_0_16 : vp_in 0 16 := by unfold vp_in; decide
theorem vk_1_4 : vp_in 1 4 := by unfold vp_in; decide
theorem vk_1_16 : vp_in 1 16 := by unfold vp_in; decide
theorem vk_2_4 : vp_in 2 4 := by unfold vp_in; decide
theorem vk_2_16 : vp_in 2 16 := by unfold vp_in; decide
theorem vk_3_4 : vp_in 3 4 := by unfold vp_in; decide
theorem vk_3_16 : vp_in 3 16 := by unfold vp_in; decide
theorem vk_4_16 : vp_in 4 16 := by unfold vp_in; decide
theorem vk_5_16 : vp_in 5 16 := by unfold vp_in; decide
theorem vk_6_16 : vp_in 6 16 := by unfold vp_in; decide
theorem vk_7_16 : vp_in 7 16 := by unfold vp_in; decide
theorem vk_8_16 : vp_in 8 16 := by unfold vp_in; decide
theorem vk_9_16 : vp_in 9 16 := by unfold vp_in; decide
theorem vk_10_16 : vp_in 10 16 := by unfold vp_in; decide
theorem vk_11_16 : vp_in 11 16 := by unfold vp_in; decide
theorem vk_12_16 : vp_in 12 16 := by unfold vp_in; decide
theorem vk_13_16 : vp_in 13 16 := by unfold vp_in; decide
theorem vk_14_16 : vp_in 14 16 := by unfold vp_in; decide
theorem vk_15_16 : vp_in 15 16 := by unfold vp_in; decide
theorem vk_18_49 : vp_in 18 49 := by unfold vp_in; decide
theorem vk_19_49 : vp_in 19 49 := by unfold vp_in; decide
theorem vk_20_49 : vp_in 20 49 := by unfold vp_in; decide
theorem vk_21_49 : vp_in 21 49 := by unfold vp_in; decide
theorem vk_22_49 : vp_in 22 49 := by unfold vp_in; decide
theorem vk_23_49 : vp_in 23 49 := by unfold vp_in; decide
theorem vk_24_49 : vp_in 24 49 := by unfold vp_in; decide
theorem vk_25_49 : vp_in 25 49 := by unfold vp_in; decide
theorem vk_26_49 : vp_in 26 49 := by unfold vp_in; decide
theorem tk_2 : (2 : Int32).toNatClampNeg = 2 := by decide
theorem tk_3 : (3 : Int32).toNatClampNeg = 3 := by decide
theorem tk_4 : (4 : Int32).toNatClampNeg = 4 := by decide
theorem tk_5 : (5 : Int32).toNatClampNeg = 5 := by decide
theorem tk_6 : (6 : Int32).toNatClampNeg = 6 := by decide
theorem tk_7 : (7 : Int32).toNatClampNeg = 7 := by decide
theorem tk_8 : (8 : Int32).toNatClampNeg = 8 := by decide
theorem tk_9 : (9 : Int32).toNatClampNeg = 9 := by decide
theorem tk_10 : (10 : Int32).toNatClampNeg = 10 := by decide
theorem tk_11 : (11 : Int32).toNatClampNeg = 11 := by decide
theorem tk_12 : (12 : Int32).toNatClampNeg = 12 := by decide
theorem tk_13 : (13 : Int32).toNatClampNeg = 13 := by decide
theorem tk_14 : (14 : Int32).toNatClampNeg = 14 := by decide
theorem tk_15 : (15 : Int32).toNatClampNeg = 15 := by decide
theorem tk_16 : (16 : Int32).toNatClampNeg = 16 := by decide
theorem tk_18 : (18 : Int32).toNatClampNeg = 18 := by decide
theorem tk_19 : (19 : Int32).toNatClampNeg = 19 := by decide
theorem tk_20 : (20 : Int32).toNatClampNeg = 20 := by decide
theorem tk_21 : (21 : Int32).toNatClampNeg = 21 := by decide
theorem tk_22 : (22 : Int32).toNatClampNeg = 22 := by decide
theorem tk_23 : (23 : Int32).toNatClampNeg = 23 := by decide
theorem tk_24 : (24 : Int32).toNatClampNeg = 24 := by decide
theorem tk_25 : (25 : Int32).toNatClampNeg = 25 := by decide
theorem tk_26 : (26 : Int32).toNatClampNeg = 26 := by decide
theorem tk_27 : (27 : Int32).toNatClampNeg = 27 := by decide
theorem tk_49 : (49 : Int32).toNatClampNeg = 49 := by decide
theorem tk_98 : (98 : Int32).toNatClampNeg = 98 := by decide
theorem tk_240 : (240 : Int32).toNatClampNeg = 240 := by decide
theorem tk_512 : (512 : Int32).toNatClampNeg = 512 := by decide
theorem tk_784 : (784 : Int32).toNatClampNeg = 784 := by decide
theorem tk_4300 : (4300 : Int32).toNatClampNeg = 4300 := by decide
set_option maxHeartbeats 4000000 in
theorem metX3_init (l : Launch) (D : va_G) (dA : Nat → ClassId) (a sz : Nat) (ci : Nat) : Met l yX3_init (ws_ yX3_init cX3_init 1 none) (gRc 2 0 0) (va_Pc [.ref a] (gBl D dA [(a, .inr (ci, []))] sz)) (va_Qv (fun _ => True) (gZl D [(a, .inr (ci, []))] sz (fun u_ : Nat → Nat => [(a, .inr (ci, []))])) (va_A [(a, .inr (ci, []))] sz)) 0 0 (va_A [(a, .inr (ci, []))] sz) := by
  refine gm_ofL (L := [(0, .ref a)]) (own := RX3) (by decide +kernel) rfl rfl (Nat.le_of_ble_eq_true rfl) rfl (fun p e s m below meth c C hinit hA => ?_)
  refine at_aload_n C dX3_init_0 rfl rfl ?_
  refine at_objInit C q179 q78 q79 (Nat.le_of_ble_eq_true rfl) (Nat.le_of_ble_eq_true rfl) (Nat.le_of_ble_eq_true rfl) dX3_init_1 ?_
  exact at_eq rfl (at_vretL (u := (fun k => [].getD k 0)) C rfl trivial dX3_init_4)
set_option maxHeartbeats 4000000 in
theorem metX4_init (l : Launch) (D : va_G) (dA : Nat → ClassId) (a sz : Nat) : Met l yX4_init (ws_ yX4_init cX4_init 1 none) (gRc 3 0 0) (va_Pc [.ref a] (gBl D dA [(a, .inr (4, []))] sz)) (va_Qv (fun _ => True) (gZl D [(a, .inr (4, []))] sz (fun u_ : Nat → Nat => [(a, .inr (4, []))])) (va_A [(a, .inr (4, []))] sz)) 0 0 (va_A [(a, .inr (4, []))] sz) := by
  refine gm_ofL (L := [(0, .ref a)]) (own := RX4) (by decide +kernel) rfl rfl (Nat.le_of_ble_eq_true rfl) rfl (fun p e s m below meth c C hinit hA => ?_)
  refine at_aload_n C dX4_init_0 rfl rfl ?_
  refine at_eq (ws2 := [] ++ [(a, .inr (4, []))]) rfl ?_
  refine at_sufv (rest := []) (res := fun _ : Nat → Nat => [(a, .inr (4, []))]) (post := fun _ => True) hA (fun _ _ h => h) (fun _ _ h => h) (run_IN (wc := [(a, .inr (4, []))]) (As := []) (rest := []) (nn := 0) C (fun z => metX3_init l D dA a z  4) q188 q59 q177 q178 rfl ⟨rfl, rfl⟩ ⟨by decide +kernel, by decide +kernel, by decide +kernel⟩ ⟨(Nat.le_of_ble_eq_true rfl), (Nat.le_of_ble_eq_true rfl)⟩ rfl rfl (Nat.le_of_ble_eq_true rfl) dX4_init_1 ⟨(Nat.le_of_ble_eq_true rfl), (Nat.le_of_ble_eq_true rfl)⟩) (fun u1 _ => ?_)
  refine at_eq (ws2 := [(a, .inr (4, []))]) (by rfl) ?_
  skip
  exact at_eq rfl (at_vretL (u := (fun k => [].getD k 0)) C rfl trivial dX4_init_4)
set_option maxHeartbeats 4000000 in
theorem metX5_init (l : Launch) (D : va_G) (dA : Nat → ClassId) (a sz : Nat) : Met l yX5_init (ws_ yX5_init cX5_init 1 none) (gRc 3 0 0) (va_Pc [.ref a] (gBl D dA [(a, .inr (5, []))] sz)) (va_Qv (fun _ => True) (gZl D [(a, .inr (5, []))] sz (fun u_ : Nat → Nat => [(a, .inr (5, []))])) (va_A [(a, .inr (5, []))] sz)) 0 0 (va_A [(a, .inr (5, []))] sz) := by
  refine gm_ofL (L := [(0, .ref a)]) (own := RX5) (by decide +kernel) rfl rfl (Nat.le_of_ble_eq_true rfl) rfl (fun p e s m below meth c C hinit hA => ?_)
  refine at_aload_n C dX5_init_0 rfl rfl ?_
  refine at_eq (ws2 := [] ++ [(a, .inr (5, []))]) rfl ?_
  refine at_sufv (rest := []) (res := fun _ : Nat → Nat => [(a, .inr (5, []))]) (post := fun _ => True) hA (fun _ _ h => h) (fun _ _ h => h) (run_IN (wc := [(a, .inr (5, []))]) (As := []) (rest := []) (nn := 0) C (fun z => metX3_init l D dA a z  5) q195 q59 q177 q178 rfl ⟨rfl, rfl⟩ ⟨by decide +kernel, by decide +kernel, by decide +kernel⟩ ⟨(Nat.le_of_ble_eq_true rfl), (Nat.le_of_ble_eq_true rfl)⟩ rfl rfl (Nat.le_of_ble_eq_true rfl) dX5_init_1 ⟨(Nat.le_of_ble_eq_true rfl), (Nat.le_of_ble_eq_true rfl)⟩) (fun u1 _ => ?_)
  refine at_eq (ws2 := [(a, .inr (5, []))]) (by rfl) ?_
  skip
  exact at_eq rfl (at_vretL (u := (fun k => [].getD k 0)) C rfl trivial dX5_init_4)
set_option maxHeartbeats 4000000 in
theorem metX6_init (l : Launch) (D : va_G) (dA : Nat → ClassId) (a sz : Nat) : Met l yX6_init (ws_ yX6_init cX6_init 1 none) (gRc 3 0 0) (va_Pc [.ref a] (gBl D dA [(a, .inr (6, []))] sz)) (va_Qv (fun _ => True) (gZl D [(a, .inr (6, []))] sz (fun u_ : Nat → Nat => [(a, .inr (6, []))])) (va_A [(a, .inr (6, []))] sz)) 0 0 (va_A [(a, .inr (6, []))] sz) := by
  refine gm_ofL (L := [(0, .ref a)]) (own := RX6) (by decide +kernel) rfl rfl (Nat.le_of_ble_eq_true rfl) rfl (fun p e s m below meth c C hinit hA => ?_)
  refine at_aload_n C dX6_init_0 rfl rfl ?_
  refine at_eq (ws2 := [] ++ [(a, .inr (6, []))]) rfl ?_
  refine at_sufv (rest := []) (res := fun _ : Nat → Nat => [(a, .inr (6, []))]) (post := fun _ => True) hA (fun _ _ h => h) (fun _ _ h => h) (run_IN (wc := [(a, .inr (6, []))]) (As := []) (rest := []) (nn := 0) C (fun z => metX3_init l D dA a z  6) q202 q59 q177 q178 rfl ⟨rfl, rfl⟩ ⟨by decide +kernel, by decide +kernel, by decide +kernel⟩ ⟨(Nat.le_of_ble_eq_true rfl), (Nat.le_of_ble_eq_true rfl)⟩ rfl rfl (Nat.le_of_ble_eq_true rfl) dX6_init_1 ⟨(Nat.le_of_ble_eq_true rfl), (Nat.le_of_ble_eq_true rfl)⟩) (fun u1 _ => ?_)
  refine at_eq (ws2 := [(a, .inr (6, []))]) (by rfl) ?_
  skip
  exact at_eq rfl (at_vretL (u := (fun k => [].getD k 0)) C rfl trivial dX6_init_4)
set_option maxHeartbeats 4000000 in
theorem metX1_init (l : Launch) (D : va_G) (dA : Nat → ClassId) (a sz : Nat) : Met l yX1_init (ws_ yX1_init cX1_init 1 none) (gRc 2 3 27) (va_Pc [.ref a] (gBl D dA [(a, .inr (1, [.int 0, .null, .null, .null, .int 0]))] sz)) (va_Qv (fun _ => True) (gZl D [(a, .inr (1, [.int 0, .null, .null, .null, .int 0]))] sz (fun u_ : Nat → Nat => [(a, .inr (1, [.int (-1), .ref (u_ 0), .ref (u_ 1), .ref (u_ 2), .int 0])), ((u_ 0), .inl (dA 0, (9, .inl (fun _ => 0)))), ((u_ 1), .inl (dA 0, (9, .inl (fun _ => 0)))), ((u_ 2), .inl (dA 0, (9, .inl (fun _ => 0))))])) (va_A [(a, .inr (1, [.int 0, .null, .null, .null, .int 0]))] sz)) 3 27 (va_A [(a, .inr (1, [.int 0, .null, .null, .null, .int 0]))] sz) := by
  refine gm_ofL (L := [(0, .ref a)]) (own := RX1) (by decide +kernel) rfl rfl (Nat.le_of_ble_eq_true rfl) rfl (fun p e s m below meth c C hinit hA => ?_)
  refine at_aload_n C dX1_init_0 rfl rfl ?_
  refine at_objInit C q87 q78 q79 (Nat.le_of_ble_eq_true rfl) (Nat.le_of_ble_eq_true rfl) (Nat.le_of_ble_eq_true rfl) dX1_init_1 ?_
  refine at_aload_n C dX1_init_4 rfl rfl ?_
  refine at_iconst C dX1_init_5 ic_m1 ?_
  refine at_putL (q0 := 0) (k := 0) (ws2 := [(a, .inr (1, [.int (-1), .null, .null, .null, .int 0]))]) C rfl rfl in_X1 (Nat.le_of_ble_eq_true rfl) q88 tyX1 tyX1_ok nmX1 rfl rfl rfl (Nat.le_of_ble_eq_true rfl) rfl dX1_init_6 ?_
  refine at_aload_n C dX1_init_9 rfl rfl ?_
  refine at_bipush C dX1_init_10 bp_9 ?_
  refine at_newaL (N' := 9) C hA 0 rfl rfl q116 (fun _ => rfl) (by decide) tk_9 (by decide) (Nat.le_of_ble_eq_true rfl) (Nat.le_of_ble_eq_true rfl) dX1_init_12 (fun qq1 => ?_)
  refine at_eq (ws2 := [(a, .inr (1, [.int (-1), .null, .null, .null, .int 0])), (qq1, .inl (dA 0, (9, .inl (fun _ => 0))))]) rfl ?_
  refine at_putFL (q0 := 0) (k := 1) (ws2 := [(a, .inr (1, [.int (-1), .ref qq1, .null, .null, .int 0])), (qq1, .inl (dA 0, (9, .inl (fun _ => 0))))]) C hinit rfl rfl in_X1 (Nat.le_of_ble_eq_true rfl) q92 tyX1 tyX1_ok nmX1 rfl rfl rfl rfl (Nat.le_of_ble_eq_true rfl) rfl dX1_init_14 ?_
  refine at_aload_n C dX1_init_17 rfl rfl ?_
  refine at_bipush C dX1_init_18 bp_9 ?_
  refine at_newaL (N' := 9) C hA 0 rfl rfl q116 (fun _ => rfl) (by decide) tk_9 (by decide) (Nat.le_of_ble_eq_true rfl) (Nat.le_of_ble_eq_true rfl) dX1_init_20 (fun qq2 => ?_)
  refine at_eq (ws2 := [(a, .inr (1, [.int (-1), .ref qq1, .null, .null, .int 0])), (qq1, .inl (dA 0, (9, .inl (fun _ => 0)))), (qq2, .inl (dA 0, (9, .inl (fun _ => 0))))]) rfl ?_
  refine at_putFL (q0 := 0) (k := 2) (ws2 := [(a, .inr (1, [.int (-1), .ref qq1, .ref qq2, .null, .int 0])), (qq1, .inl (dA 0, (9, .inl (fun _ => 0)))), (qq2, .inl (dA 0, (9, .inl (fun _ => 0))))]) C hinit rfl rfl in_X1 (Nat.le_of_ble_eq_true rfl) q95 tyX1 tyX1_ok nmX1 rfl rfl rfl rfl (Nat.le_of_ble_eq_true rfl) rfl dX1_init_22 ?_
  refine at_aload_n C dX1_init_25 rfl rfl ?_
  refine at_bipush C dX1_init_26 bp_9 ?_
  refine at_newaL (N' := 9) C hA 0 rfl rfl q116 (fun _ => rfl) (by decide) tk_9 (by decide) (Nat.le_of_ble_eq_true rfl) (Nat.le_of_ble_eq_true rfl) dX1_init_28 (fun qq3 => ?_)
  refine at_eq (ws2 := [(a, .inr (1, [.int (-1), .ref qq1, .ref qq2, .null, .int 0])), (qq1, .inl (dA 0, (9, .inl (fun _ => 0)))), (qq2, .inl (dA 0, (9, .inl (fun _ => 0)))), (qq3, .inl (dA 0, (9, .inl (fun _ => 0))))]) rfl ?_
  refine at_putFL (q0 := 0) (k := 3) (ws2 := [(a, .inr (1, [.int (-1), .ref qq1, .ref qq2, .ref qq3, .int 0])), (qq1, .inl (dA 0, (9, .inl (fun _ => 0)))), (qq2, .inl (dA 0, (9, .inl (fun _ => 0)))), (qq3, .inl (dA 0, (9, .inl (fun _ => 0))))]) C hinit rfl rfl in_X1 (Nat.le_of_ble_eq_true rfl) q99 tyX1 tyX1_ok nmX1 rfl rfl rfl rfl (Nat.le_of_ble_eq_true rfl) rfl dX1_init_30 ?_
  exact at_eq rfl (at_vretL (u := (fun k => [qq1, qq2, qq3].getD k 0)) C rfl trivial dX1_init_33)
set_option maxHeartbeats 4000000 in
theorem metX2_init (l : Launch) (D : va_G) (dA : Nat → ClassId) (a sz : Nat) (o1 : Nat) : Met l yX2_init (ws_ yX2_init cX2_init 2 none) (gRc 2 5 45) (va_Pc [.ref a, .ref o1] (gBl D dA [(a, .inr (2, [.null, .null, .null, .null, .null, .int 0, .int 0, .int 0, .int 0, .int 0, .int 0, .int 0, .null]))] sz)) (va_Qv (fun _ => True) (gZl D [(a, .inr (2, [.null, .null, .null, .null, .null, .int 0, .int 0, .int 0, .int 0, .int 0, .int 0, .int 0, .null]))] sz (fun u_ : Nat → Nat => [(a, .inr (2, [.ref (u_ 0), .ref (u_ 1), .ref (u_ 2), .ref (u_ 3), .ref (u_ 4), .int 0, .int 0, .int 0, .int 0, .int 0, .int 0, .int 0, .ref o1])), ((u_ 0), .inl (dA 0, (9, .inl (fun _ => 0)))), ((u_ 1), .inl (dA 0, (9, .inl (fun _ => 0)))), ((u_ 2), .inl (dA 0, (9, .inl (fun _ => 0)))), ((u_ 3), .inl (dA 0, (9, .inl (fun _ => 0)))), ((u_ 4), .inl (dA 0, (9, .inl (fun _ => 0))))])) (va_A [(a, .inr (2, [.null, .null, .null, .null, .null, .int 0, .int 0, .int 0, .int 0, .int 0, .int 0, .int 0, .null]))] sz)) 5 45 (va_A [(a, .inr (2, [.null, .null, .null, .null, .null, .int 0, .int 0, .int 0, .int 0, .int 0, .int 0, .int 0, .null]))] sz) := by
  refine gm_ofL (L := [(0, .ref a), (1, .ref o1)]) (own := RX2) (by decide +kernel) rfl rfl (Nat.le_of_ble_eq_true rfl) rfl (fun p e s m below meth c C hinit hA => ?_)
  refine at_aload_n C dX2_init_0 rfl rfl ?_
  refine at_aload_n C dX2_init_1 rfl rfl ?_
  refine at_putFL (q0 := 0) (k := 12) (ws2 := [(a, .inr (2, [.null, .null, .null, .null, .null, .int 0, .int 0, .int 0, .int 0, .int 0, .int 0, .int 0, .ref o1]))]) C hinit rfl rfl in_X2 (Nat.le_of_ble_eq_true rfl) q146 tyX2 tyX2_ok nmX2 rfl rfl rfl rfl (Nat.le_of_ble_eq_true rfl) rfl dX2_init_2 ?_
  refine at_aload_n C dX2_init_5 rfl rfl ?_
  refine at_objInit C q122 q78 q79 (Nat.le_of_ble_eq_true rfl) (Nat.le_of_ble_eq_true rfl) (Nat.le_of_ble_eq_true rfl) dX2_init_6 ?_
  refine at_aload_n C dX2_init_9 rfl rfl ?_
  refine at_bipush C dX2_init_10 bp_9 ?_
  refine at_newaL (N' := 9) C hA 0 rfl rfl q116 (fun _ => rfl) (by decide) tk_9 (by decide) (Nat.le_of_ble_eq_true rfl) (Nat.le_of_ble_eq_true rfl) dX2_init_12 (fun qq1 => ?_)
  refine at_eq (ws2 := [(a, .inr (2, [.null, .null, .null, .null, .null, .int 0, .int 0, .int 0, .int 0, .int 0, .int 0, .int 0, .ref o1])), (qq1, .inl (dA 0, (9, .inl (fun _ => 0))))]) rfl ?_
  refine at_putFL (q0 := 0) (k := 0) (ws2 := [(a, .inr (2, [.ref qq1, .null, .null, .null, .null, .int 0, .int 0, .int 0, .int 0, .int 0, .int 0, .int 0, .ref o1])), (qq1, .inl (dA 0, (9, .inl (fun _ => 0))))]) C hinit rfl rfl in_X2 (Nat.le_of_ble_eq_true rfl) q123 tyX2 tyX2_ok nmX2 rfl rfl rfl rfl (Nat.le_of_ble_eq_true rfl) rfl dX2_init_14 ?_
  refine at_aload_n C dX2_init_17 rfl rfl ?_
  refine at_bipush C dX2_init_18 bp_9 ?_
  refine at_newaL (N' := 9) C hA 0 rfl rfl q116 (fun _ => rfl) (by decide) tk_9 (by decide) (Nat.le_of_ble_eq_true rfl) (Nat.le_of_ble_eq_true rfl) dX2_init_20 (fun qq2 => ?_)
  refine at_eq (ws2 := [(a, .inr (2, [.ref qq1, .null, .null, .null, .null, .int 0, .int 0, .int 0, .int 0, .int 0, .int 0, .int 0, .ref o1])), (qq1, .inl (dA 0, (9, .inl (fun _ => 0)))), (qq2, .inl (dA 0, (9, .inl (fun _ => 0))))]) rfl ?_
  refine at_putFL (q0 := 0) (k := 1) (ws2 := [(a, .inr (2, [.ref qq1, .ref qq2, .null, .null, .null, .int 0, .int 0, .int 0, .int 0, .int 0, .int 0, .int 0, .ref o1])), (qq1, .inl (dA 0, (9, .inl (fun _ => 0)))), (qq2, .inl (dA 0, (9, .inl (fun _ => 0))))]) C hinit rfl rfl in_X2 (Nat.le_of_ble_eq_true rfl) q125 tyX2 tyX2_ok nmX2 rfl rfl rfl rfl (Nat.le_of_ble_eq_true rfl) rfl dX2_init_22 ?_
  refine at_aload_n C dX2_init_25 rfl rfl ?_
  refine at_bipush C dX2_init_26 bp_9 ?_
  refine at_newaL (N' := 9) C hA 0 rfl rfl q116 (fun _ => rfl) (by decide) tk_9 (by decide) (Nat.le_of_ble_eq_true rfl) (Nat.le_of_ble_eq_true rfl) dX2_init_28 (fun qq3 => ?_)
  refine at_eq (ws2 := [(a, .inr (2, [.ref qq1, .ref qq2, .null, .null, .null, .int 0, .int 0, .int 0, .int 0, .int 0, .int 0, .int 0, .ref o1])), (qq1, .inl (dA 0, (9, .inl (fun _ => 0)))), (qq2, .inl (dA 0, (9, .inl (fun _ => 0)))), (qq3, .inl (dA 0, (9, .inl (fun _ => 0))))]) rfl ?_
  refine at_putFL (q0 := 0) (k := 2) (ws2 := [(a, .inr (2, [.ref qq1, .ref qq2, .ref qq3, .null, .null, .int 0, .int 0, .int 0, .int 0, .int 0, .int 0, .int 0, .ref o1])), (qq1, .inl (dA 0, (9, .inl (fun _ => 0)))), (qq2, .inl (dA 0, (9, .inl (fun _ => 0)))), (qq3, .inl (dA 0, (9, .inl (fun _ => 0))))]) C hinit rfl rfl in_X2 (Nat.le_of_ble_eq_true rfl) q127 tyX2 tyX2_ok nmX2 rfl rfl rfl rfl (Nat.le_of_ble_eq_true rfl) rfl dX2_init_30 ?_
  refine at_aload_n C dX2_init_33 rfl rfl ?_
  refine at_bipush C dX2_init_34 bp_9 ?_
  refine at_newaL (N' := 9) C hA 0 rfl rfl q116 (fun _ => rfl) (by decide) tk_9 (by decide) (Nat.le_of_ble_eq_true rfl) (Nat.le_of_ble_eq_true rfl) dX2_init_36 (fun qq4 => ?_)
  refine at_eq (ws2 := [(a, .inr (2, [.ref qq1, .ref qq2, .ref qq3, .null, .null, .int 0, .int 0, .int 0, .int 0, .int 0, .int 0, .int 0, .ref o1])), (qq1, .inl (dA 0, (9, .inl (fun _ => 0)))), (qq2, .inl (dA 0, (9, .inl (fun _ => 0)))), (qq3, .inl (dA 0, (9, .inl (fun _ => 0)))), (qq4, .inl (dA 0, (9, .inl (fun _ => 0))))]) rfl ?_
  refine at_putFL (q0 := 0) (k := 3) (ws2 := [(a, .inr (2, [.ref qq1, .ref qq2, .ref qq3, .ref qq4, .null, .int 0, .int 0, .int 0, .int 0, .int 0, .int 0, .int 0, .ref o1])), (qq1, .inl (dA 0, (9, .inl (fun _ => 0)))), (qq2, .inl (dA 0, (9, .inl (fun _ => 0)))), (qq3, .inl (dA 0, (9, .inl (fun _ => 0)))), (qq4, .inl (dA 0, (9, .inl (fun _ => 0))))]) C hinit rfl rfl in_X2 (Nat.le_of_ble_eq_true rfl) q129 tyX2 tyX2_ok nmX2 rfl rfl rfl rfl (Nat.le_of_ble_eq_true rfl) rfl dX2_init_38 ?_
  refine at_aload_n C dX2_init_41 rfl rfl ?_
  refine at_bipush C dX2_init_42 bp_9 ?_
  refine at_newaL (N' := 9) C hA 0 rfl rfl q116 (fun _ => rfl) (by decide) tk_9 (by decide) (Nat.le_of_ble_eq_true rfl) (Nat.le_of_ble_eq_true rfl) dX2_init_44 (fun qq5 => ?_)
  refine at_eq (ws2 := [(a, .inr (2, [.ref qq1, .ref qq2, .ref qq3, .ref qq4, .null, .int 0, .int 0, .int 0, .int 0, .int 0, .int 0, .int 0, .ref o1])), (qq1, .inl (dA 0, (9, .inl (fun _ => 0)))), (qq2, .inl (dA 0, (9, .inl (fun _ => 0)))), (qq3, .inl (dA 0, (9, .inl (fun _ => 0)))), (qq4, .inl (dA 0, (9, .inl (fun _ => 0)))), (qq5, .inl (dA 0, (9, .inl (fun _ => 0))))]) rfl ?_
  refine at_putFL (q0 := 0) (k := 4) (ws2 := [(a, .inr (2, [.ref qq1, .ref qq2, .ref qq3, .ref qq4, .ref qq5, .int 0, .int 0, .int 0, .int 0, .int 0, .int 0, .int 0, .ref o1])), (qq1, .inl (dA 0, (9, .inl (fun _ => 0)))), (qq2, .inl (dA 0, (9, .inl (fun _ => 0)))), (qq3, .inl (dA 0, (9, .inl (fun _ => 0)))), (qq4, .inl (dA 0, (9, .inl (fun _ => 0)))), (qq5, .inl (dA 0, (9, .inl (fun _ => 0))))]) C hinit rfl rfl in_X2 (Nat.le_of_ble_eq_true rfl) q131 tyX2 tyX2_ok nmX2 rfl rfl rfl rfl (Nat.le_of_ble_eq_true rfl) rfl dX2_init_46 ?_
  exact at_eq rfl (at_vretL (u := (fun k => [qq1, qq2, qq3, qq4, qq5].getD k 0)) C rfl trivial dX2_init_49)
set_option maxHeartbeats 4000000 in
theorem metX7_init (l : Launch) (D : va_G) (dA : Nat → ClassId) (a sz : Nat) : Met l yX7_init (ws_ yX7_init cX7_init 2 none) (gRc 2 19 2841) (va_Pc [.ref a] (gBl D dA [(a, .inr (7, [.int 0, .null, .int 0, .int 0, .int 0, .int 0, .int 0, .int 0, .int 0, .int 0, .int 0, .int 0, .null, .null, .null, .null, .null, .null, .int 0, .null, .null, .int 0, .null, .null, .null, .null, .int 0, .int 0, .int 0, .null, .null, .null, .null, .null, .null]))] sz)) (va_Qv (fun _ => True) (gZl D [(a, .inr (7, [.int 0, .null, .int 0, .int 0, .int 0, .int 0, .int 0, .int 0, .int 0, .int 0, .int 0, .int 0, .null, .null, .null, .null, .null, .null, .int 0, .null, .null, .int 0, .null, .null, .null, .null, .int 0, .int 0, .int 0, .null, .null, .null, .null, .null, .null]))] sz (fun u_ : Nat → Nat => [(a, .inr (7, [.int 0, .ref (u_ 0), .int 0, .int 0, .int 0, .int 0, .int (-1), .int 0, .int 0, .int 0, .int 0, .int 0, .ref (u_ 1), .ref (u_ 2), .ref (u_ 3), .ref (u_ 4), .ref (u_ 5), .ref (u_ 6), .int 0, .ref (u_ 7), .ref (u_ 8), .int 0, .ref (u_ 9), .ref (u_ 10), .ref (u_ 11), .ref (u_ 12), .int 0, .int 0, .int 0, .ref (u_ 13), .ref (u_ 14), .ref (u_ 15), .ref (u_ 16), .ref (u_ 17), .ref (u_ 18)])), ((u_ 0), .inl (dA 0, (240, .inl (fun _ => 0)))), ((u_ 1), .inl (dA 0, (27, .inl (fun _ => 0)))), ((u_ 2), .inl (dA 0, (9, .inl (fun _ => 0)))), ((u_ 3), .inl (dA 0, (49, .inl (upd (upd (upd (upd (upd (upd (upd (upd (upd (fun _ => 0) 18 (-1)) 19 (-1)) 20 (-1)) 21 (-1)) 22 (-1)) 23 (-1)) 24 (-1)) 25 (-1)) 26 (-1))))), ((u_ 4), .inl (dA 0, (98, .inl (fun _ => 0)))), ((u_ 5), .inl (dA 1, (2, .inl (fun _ => 0)))), ((u_ 6), .inl (dA 0, (784, .inl (fun _ => 0)))), ((u_ 7), .inl (dA 0, (15, .inl (fun _ => 0)))), ((u_ 8), .inl (dA 1, (15, .inl (fun _ => 0)))), ((u_ 9), .inl (dA 0, (9, .inl (fun _ => 0)))), ((u_ 10), .inl (dA 0, (9, .inl (fun _ => 0)))), ((u_ 11), .inl (dA 0, (9, .inl (fun _ => 0)))), ((u_ 12), .inl (dA 0, (9, .inl (fun _ => 0)))), ((u_ 13), .inl (dA 0, (10, .inl (fun _ => 0)))), ((u_ 14), .inl (dA 0, (10, .inl (fun _ => 0)))), ((u_ 15), .inl (dA 0, (10, .inl (fun _ => 0)))), ((u_ 16), .inl (dA 0, (512, .inl (fun _ => 0)))), ((u_ 17), .inl (dA 0, (512, .inl (fun _ => 0)))), ((u_ 18), .inl (dA 0, (512, .inl (fun _ => 0))))])) (va_A [(a, .inr (7, [.int 0, .null, .int 0, .int 0, .int 0, .int 0, .int 0, .int 0, .int 0, .int 0, .int 0, .int 0, .null, .null, .null, .null, .null, .null, .int 0, .null, .null, .int 0, .null, .null, .null, .null, .int 0, .int 0, .int 0, .null, .null, .null, .null, .null, .null]))] sz)) 19 2841 (va_A [(a, .inr (7, [.int 0, .null, .int 0, .int 0, .int 0, .int 0, .int 0, .int 0, .int 0, .int 0, .int 0, .int 0, .null, .null, .null, .null, .null, .null, .int 0, .null, .null, .int 0, .null, .null, .null, .null, .int 0, .int 0, .int 0, .null, .null, .null, .null, .null, .null]))] sz) := by
  refine gm_ofL (L := [(0, .ref a)]) (own := RX7) (by decide +kernel) rfl rfl (Nat.le_of_ble_eq_true rfl) rfl (fun p e s m below meth c C hinit hA => ?_)
  refine at_aload_n C dX7_init_0 rfl rfl ?_
  refine at_objInit C q686 q78 q79 (Nat.le_of_ble_eq_true rfl) (Nat.le_of_ble_eq_true rfl) (Nat.le_of_ble_eq_true rfl) dX7_init_1 ?_
  refine at_aload_n C dX7_init_4 rfl rfl ?_
  refine at_sipush C dX7_init_5 sp_240 ?_
  refine at_newaL (N' := 240) C hA 0 rfl rfl q116 (fun _ => rfl) (by decide) tk_240 (by decide) (Nat.le_of_ble_eq_true rfl) (Nat.le_of_ble_eq_true rfl) dX7_init_8 (fun qq1 => ?_)
  refine at_eq (ws2 := [(a, .inr (7, [.int 0, .null, .int 0, .int 0, .int 0, .int 0, .int 0, .int 0, .int 0, .int 0, .int 0, .int 0, .null, .null, .null, .null, .null, .null, .int 0, .null, .null, .int 0, .null, .null, .null, .null, .int 0, .int 0, .int 0, .null, .null, .null, .null, .null, .null])), (qq1, .inl (dA 0, (240, .inl (fun _ => 0))))]) rfl ?_
  refine at_putFL (q0 := 0) (k := 1) (ws2 := [(a, .inr (7, [.int 0, .ref qq1, .int 0, .int 0, .int 0, .int 0, .int 0, .int 0, .int 0, .int 0, .int 0, .int 0, .null, .null, .null, .null, .null, .null, .int 0, .null, .null, .int 0, .null, .null, .null, .null, .int 0, .int 0, .int 0, .null, .null, .null, .null, .null, .null])), (qq1, .inl (dA 0, (240, .inl (fun _ => 0))))]) C hinit rfl rfl in_X7 (Nat.le_of_ble_eq_true rfl) q688 tyX7 tyX7_ok nmX7 rfl rfl rfl rfl (Nat.le_of_ble_eq_true rfl) rfl dX7_init_10 ?_
  refine at_aload_n C dX7_init_13 rfl rfl ?_
  refine at_bipush C dX7_init_14 bp_27 ?_
  refine at_newaL (N' := 27) C hA 0 rfl rfl q116 (fun _ => rfl) (by decide) tk_27 (by decide) (Nat.le_of_ble_eq_true rfl) (Nat.le_of_ble_eq_true rfl) dX7_init_16 (fun qq2 => ?_)
  refine at_eq (ws2 := [(a, .inr (7, [.int 0, .ref qq1, .int 0, .int 0, .int 0, .int 0, .int 0, .int 0, .int 0, .int 0, .int 0, .int 0, .null, .null, .null, .null, .null, .null, .int 0, .null, .null, .int 0, .null, .null, .null, .null, .int 0, .int 0, .int 0, .null, .null, .null, .null, .null, .null])), (qq1, .inl (dA 0, (240, .inl (fun _ => 0)))), (qq2, .inl (dA 0, (27, .inl (fun _ => 0))))]) rfl ?_
  refine at_putFL (q0 := 0) (k := 12) (ws2 := [(a, .inr (7, [.int 0, .ref qq1, .int 0, .int 0, .int 0, .int 0, .int 0, .int 0, .int 0, .int 0, .int 0, .int 0, .ref qq2, .null, .null, .null, .null, .null, .int 0, .null, .null, .int 0, .null, .null, .null, .null, .int 0, .int 0, .int 0, .null, .null, .null, .null, .null, .null])), (qq1, .inl (dA 0, (240, .inl (fun _ => 0)))), (qq2, .inl (dA 0, (27, .inl (fun _ => 0))))]) C hinit rfl rfl in_X7 (Nat.le_of_ble_eq_true rfl) q699 tyX7 tyX7_ok nmX7 rfl rfl rfl rfl (Nat.le_of_ble_eq_true rfl) rfl dX7_init_18 ?_
  refine at_aload_n C dX7_init_21 rfl rfl ?_
  refine at_bipush C dX7_init_22 bp_9 ?_
  refine at_newaL (N' := 9) C hA 0 rfl rfl q116 (fun _ => rfl) (by decide) tk_9 (by decide) (Nat.le_of_ble_eq_true rfl) (Nat.le_of_ble_eq_true rfl) dX7_init_24 (fun qq3 => ?_)
  refine at_eq (ws2 := [(a, .inr (7, [.int 0, .ref qq1, .int 0, .int 0, .int 0, .int 0, .int 0, .int 0, .int 0, .int 0, .int 0, .int 0, .ref qq2, .null, .null, .null, .null, .null, .int 0, .null, .null, .int 0, .null, .null, .null, .null, .int 0, .int 0, .int 0, .null, .null, .null, .null, .null, .null])), (qq1, .inl (dA 0, (240, .inl (fun _ => 0)))), (qq2, .inl (dA 0, (27, .inl (fun _ => 0)))), (qq3, .inl (dA 0, (9, .inl (fun _ => 0))))]) rfl ?_
  refine at_putFL (q0 := 0) (k := 13) (ws2 := [(a, .inr (7, [.int 0, .ref qq1, .int 0, .int 0, .int 0, .int 0, .int 0, .int 0, .int 0, .int 0, .int 0, .int 0, .ref qq2, .ref qq3, .null, .null, .null, .null, .int 0, .null, .null, .int 0, .null, .null, .null, .null, .int 0, .int 0, .int 0, .null, .null, .null, .null, .null, .null])), (qq1, .inl (dA 0, (240, .inl (fun _ => 0)))), (qq2, .inl (dA 0, (27, .inl (fun _ => 0)))), (qq3, .inl (dA 0, (9, .inl (fun _ => 0))))]) C hinit rfl rfl in_X7 (Nat.le_of_ble_eq_true rfl) q700 tyX7 tyX7_ok nmX7 rfl rfl rfl rfl (Nat.le_of_ble_eq_true rfl) rfl dX7_init_26 ?_
  refine at_aload_n C dX7_init_29 rfl rfl ?_
  refine at_bipush C dX7_init_30 bp_49 ?_
  refine at_newaL (N' := 49) C hA 0 rfl rfl q116 (fun _ => rfl) (by decide) tk_49 (by decide) (Nat.le_of_ble_eq_true rfl) (Nat.le_of_ble_eq_true rfl) dX7_init_32 (fun qq4 => ?_)
  refine at_eq (ws2 := [(a, .inr (7, [.int 0, .ref qq1, .int 0, .int 0, .int 0, .int 0, .int 0, .int 0, .int 0, .int 0, .int 0, .int 0, .ref qq2, .ref qq3, .null, .null, .null, .null, .int 0, .null, .null, .int 0, .null, .null, .null, .null, .int 0, .int 0, .int 0, .null, .null, .null, .null, .null, .null])), (qq1, .inl (dA 0, (240, .inl (fun _ => 0)))), (qq2, .inl (dA 0, (27, .inl (fun _ => 0)))), (qq3, .inl (dA 0, (9, .inl (fun _ => 0)))), (qq4, .inl (dA 0, (49, .inl (fun _ => 0))))]) rfl ?_
  refine at_putFL (q0 := 0) (k := 14) (ws2 := [(a, .inr (7, [.int 0, .ref qq1, .int 0, .int 0, .int 0, .int 0, .int 0, .int 0, .int 0, .int 0, .int 0, .int 0, .ref qq2, .ref qq3, .ref qq4, .null, .null, .null, .int 0, .null, .null, .int 0, .null, .null, .null, .null, .int 0, .int 0, .int 0, .null, .null, .null, .null, .null, .null])), (qq1, .inl (dA 0, (240, .inl (fun _ => 0)))), (qq2, .inl (dA 0, (27, .inl (fun _ => 0)))), (qq3, .inl (dA 0, (9, .inl (fun _ => 0)))), (qq4, .inl (dA 0, (49, .inl (fun _ => 0))))]) C hinit rfl rfl in_X7 (Nat.le_of_ble_eq_true rfl) q701 tyX7 tyX7_ok nmX7 rfl rfl rfl rfl (Nat.le_of_ble_eq_true rfl) rfl dX7_init_34 ?_
  refine at_aload_n C dX7_init_37 rfl rfl ?_
  refine at_bipush C dX7_init_38 bp_98 ?_
  refine at_newaL (N' := 98) C hA 0 rfl rfl q116 (fun _ => rfl) (by decide) tk_98 (by decide) (Nat.le_of_ble_eq_true rfl) (Nat.le_of_ble_eq_true rfl) dX7_init_40 (fun qq5 => ?_)
  refine at_eq (ws2 := [(a, .inr (7, [.int 0, .ref qq1, .int 0, .int 0, .int 0, .int 0, .int 0, .int 0, .int 0, .int 0, .int 0, .int 0, .ref qq2, .ref qq3, .ref qq4, .null, .null, .null, .int 0, .null, .null, .int 0, .null, .null, .null, .null, .int 0, .int 0, .int 0, .null, .null, .null, .null, .null, .null])), (qq1, .inl (dA 0, (240, .inl (fun _ => 0)))), (qq2, .inl (dA 0, (27, .inl (fun _ => 0)))), (qq3, .inl (dA 0, (9, .inl (fun _ => 0)))), (qq4, .inl (dA 0, (49, .inl (fun _ => 0)))), (qq5, .inl (dA 0, (98, .inl (fun _ => 0))))]) rfl ?_
  refine at_putFL (q0 := 0) (k := 15) (ws2 := [(a, .inr (7, [.int 0, .ref qq1, .int 0, .int 0, .int 0, .int 0, .int 0, .int 0, .int 0, .int 0, .int 0, .int 0, .ref qq2, .ref qq3, .ref qq4, .ref qq5, .null, .null, .int 0, .null, .null, .int 0, .null, .null, .null, .null, .int 0, .int 0, .int 0, .null, .null, .null, .null, .null, .null])), (qq1, .inl (dA 0, (240, .inl (fun _ => 0)))), (qq2, .inl (dA 0, (27, .inl (fun _ => 0)))), (qq3, .inl (dA 0, (9, .inl (fun _ => 0)))), (qq4, .inl (dA 0, (49, .inl (fun _ => 0)))), (qq5, .inl (dA 0, (98, .inl (fun _ => 0))))]) C hinit rfl rfl in_X7 (Nat.le_of_ble_eq_true rfl) q702 tyX7 tyX7_ok nmX7 rfl rfl rfl rfl (Nat.le_of_ble_eq_true rfl) rfl dX7_init_42 ?_
  refine at_aload_n C dX7_init_45 rfl rfl ?_
  refine at_iconst C dX7_init_46 ic_2 ?_
  refine at_newaL (N' := 2) C hA 1 rfl rfl q181 (fun _ => rfl) (by decide) tk_2 (by decide) (Nat.le_of_ble_eq_true rfl) (Nat.le_of_ble_eq_true rfl) dX7_init_47 (fun qq6 => ?_)
  refine at_eq (ws2 := [(a, .inr (7, [.int 0, .ref qq1, .int 0, .int 0, .int 0, .int 0, .int 0, .int 0, .int 0, .int 0, .int 0, .int 0, .ref qq2, .ref qq3, .ref qq4, .ref qq5, .null, .null, .int 0, .null, .null, .int 0, .null, .null, .null, .null, .int 0, .int 0, .int 0, .null, .null, .null, .null, .null, .null])), (qq1, .inl (dA 0, (240, .inl (fun _ => 0)))), (qq2, .inl (dA 0, (27, .inl (fun _ => 0)))), (qq3, .inl (dA 0, (9, .inl (fun _ => 0)))), (qq4, .inl (dA 0, (49, .inl (fun _ => 0)))), (qq5, .inl (dA 0, (98, .inl (fun _ => 0)))), (qq6, .inl (dA 1, (2, .inl (fun _ => 0))))]) rfl ?_
  refine at_putFL (q0 := 0) (k := 16) (ws2 := [(a, .inr (7, [.int 0, .ref qq1, .int 0, .int 0, .int 0, .int 0, .int 0, .int 0, .int 0, .int 0, .int 0, .int 0, .ref qq2, .ref qq3, .ref qq4, .ref qq5, .ref qq6, .null, .int 0, .null, .null, .int 0, .null, .null, .null, .null, .int 0, .int 0, .int 0, .null, .null, .null, .null, .null, .null])), (qq1, .inl (dA 0, (240, .inl (fun _ => 0)))), (qq2, .inl (dA 0, (27, .inl (fun _ => 0)))), (qq3, .inl (dA 0, (9, .inl (fun _ => 0)))), (qq4, .inl (dA 0, (49, .inl (fun _ => 0)))), (qq5, .inl (dA 0, (98, .inl (fun _ => 0)))), (qq6, .inl (dA 1, (2, .inl (fun _ => 0))))]) C hinit rfl rfl in_X7 (Nat.le_of_ble_eq_true rfl) q703 tyX7 tyX7_ok nmX7 rfl rfl rfl rfl (Nat.le_of_ble_eq_true rfl) rfl dX7_init_49 ?_
  refine at_aload_n C dX7_init_52 rfl rfl ?_
  refine at_sipush C dX7_init_53 sp_784 ?_
  refine at_newaL (N' := 784) C hA 0 rfl rfl q116 (fun _ => rfl) (by decide) tk_784 (by decide) (Nat.le_of_ble_eq_true rfl) (Nat.le_of_ble_eq_true rfl) dX7_init_56 (fun qq7 => ?_)
  refine at_eq (ws2 := [(a, .inr (7, [.int 0, .ref qq1, .int 0, .int 0, .int 0, .int 0, .int 0, .int 0, .int 0, .int 0, .int 0, .int 0, .ref qq2, .ref qq3, .ref qq4, .ref qq5, .ref qq6, .null, .int 0, .null, .null, .int 0, .null, .null, .null, .null, .int 0, .int 0, .int 0, .null, .null, .null, .null, .null, .null])), (qq1, .inl (dA 0, (240, .inl (fun _ => 0)))), (qq2, .inl (dA 0, (27, .inl (fun _ => 0)))), (qq3, .inl (dA 0, (9, .inl (fun _ => 0)))), (qq4, .inl (dA 0, (49, .inl (fun _ => 0)))), (qq5, .inl (dA 0, (98, .inl (fun _ => 0)))), (qq6, .inl (dA 1, (2, .inl (fun _ => 0)))), (qq7, .inl (dA 0, (784, .inl (fun _ => 0))))]) rfl ?_
  refine at_putFL (q0 := 0) (k := 17) (ws2 := [(a, .inr (7, [.int 0, .ref qq1, .int 0, .int 0, .int 0, .int 0, .int 0, .int 0, .int 0, .int 0, .int 0, .int 0, .ref qq2, .ref qq3, .ref qq4, .ref qq5, .ref qq6, .ref qq7, .int 0, .null, .null, .int 0, .null, .null, .null, .null, .int 0, .int 0, .int 0, .null, .null, .null, .null, .null, .null])), (qq1, .inl (dA 0, (240, .inl (fun _ => 0)))), (qq2, .inl (dA 0, (27, .inl (fun _ => 0)))), (qq3, .inl (dA 0, (9, .inl (fun _ => 0)))), (qq4, .inl (dA 0, (49, .inl (fun _ => 0)))), (qq5, .inl (dA 0, (98, .inl (fun _ => 0)))), (qq6, .inl (dA 1, (2, .inl (fun _ => 0)))), (qq7, .inl (dA 0, (784, .inl (fun _ => 0))))]) C hinit rfl rfl in_X7 (Nat.le_of_ble_eq_true rfl) q704 tyX7 tyX7_ok nmX7 rfl rfl rfl rfl (Nat.le_of_ble_eq_true rfl) rfl dX7_init_58 ?_
  refine at_aload_n C dX7_init_61 rfl rfl ?_
  refine at_bipush C dX7_init_62 bp_15 ?_
  refine at_newaL (N' := 15) C hA 0 rfl rfl q116 (fun _ => rfl) (by decide) tk_15 (by decide) (Nat.le_of_ble_eq_true rfl) (Nat.le_of_ble_eq_true rfl) dX7_init_64 (fun qq8 => ?_)
  refine at_eq (ws2 := [(a, .inr (7, [.int 0, .ref qq1, .int 0, .int 0, .int 0, .int 0, .int 0, .int 0, .int 0, .int 0, .int 0, .int 0, .ref qq2, .ref qq3, .ref qq4, .ref qq5, .ref qq6, .ref qq7, .int 0, .null, .null, .int 0, .null, .null, .null, .null, .int 0, .int 0, .int 0, .null, .null, .null, .null, .null, .null])), (qq1, .inl (dA 0, (240, .inl (fun _ => 0)))), (qq2, .inl (dA 0, (27, .inl (fun _ => 0)))), (qq3, .inl (dA 0, (9, .inl (fun _ => 0)))), (qq4, .inl (dA 0, (49, .inl (fun _ => 0)))), (qq5, .inl (dA 0, (98, .inl (fun _ => 0)))), (qq6, .inl (dA 1, (2, .inl (fun _ => 0)))), (qq7, .inl (dA 0, (784, .inl (fun _ => 0)))), (qq8, .inl (dA 0, (15, .inl (fun _ => 0))))]) rfl ?_
  refine at_putFL (q0 := 0) (k := 19) (ws2 := [(a, .inr (7, [.int 0, .ref qq1, .int 0, .int 0, .int 0, .int 0, .int 0, .int 0, .int 0, .int 0, .int 0, .int 0, .ref qq2, .ref qq3, .ref qq4, .ref qq5, .ref qq6, .ref qq7, .int 0, .ref qq8, .null, .int 0, .null, .null, .null, .null, .int 0, .int 0, .int 0, .null, .null, .null, .null, .null, .null])), (qq1, .inl (dA 0, (240, .inl (fun _ => 0)))), (qq2, .inl (dA 0, (27, .inl (fun _ => 0)))), (qq3, .inl (dA 0, (9, .inl (fun _ => 0)))), (qq4, .inl (dA 0, (49, .inl (fun _ => 0)))), (qq5, .inl (dA 0, (98, .inl (fun _ => 0)))), (qq6, .inl (dA 1, (2, .inl (fun _ => 0)))), (qq7, .inl (dA 0, (784, .inl (fun _ => 0)))), (qq8, .inl (dA 0, (15, .inl (fun _ => 0))))]) C hinit rfl rfl in_X7 (Nat.le_of_ble_eq_true rfl) q706 tyX7 tyX7_ok nmX7 rfl rfl rfl rfl (Nat.le_of_ble_eq_true rfl) rfl dX7_init_66 ?_
  refine at_aload_n C dX7_init_69 rfl rfl ?_
  refine at_bipush C dX7_init_70 bp_15 ?_
  refine at_newaL (N' := 15) C hA 1 rfl rfl q181 (fun _ => rfl) (by decide) tk_15 (by decide) (Nat.le_of_ble_eq_true rfl) (Nat.le_of_ble_eq_true rfl) dX7_init_72 (fun qq9 => ?_)
  refine at_eq (ws2 := [(a, .inr (7, [.int 0, .ref qq1, .int 0, .int 0, .int 0, .int 0, .int 0, .int 0, .int 0, .int 0, .int 0, .int 0, .ref qq2, .ref qq3, .ref qq4, .ref qq5, .ref qq6, .ref qq7, .int 0, .ref qq8, .null, .int 0, .null, .null, .null, .null, .int 0, .int 0, .int 0, .null, .null, .null, .null, .null, .null])), (qq1, .inl (dA 0, (240, .inl (fun _ => 0)))), (qq2, .inl (dA 0, (27, .inl (fun _ => 0)))), (qq3, .inl (dA 0, (9, .inl (fun _ => 0)))), (qq4, .inl (dA 0, (49, .inl (fun _ => 0)))), (qq5, .inl (dA 0, (98, .inl (fun _ => 0)))), (qq6, .inl (dA 1, (2, .inl (fun _ => 0)))), (qq7, .inl (dA 0, (784, .inl (fun _ => 0)))), (qq8, .inl (dA 0, (15, .inl (fun _ => 0)))), (qq9, .inl (dA 1, (15, .inl (fun _ => 0))))]) rfl ?_
  refine at_putFL (q0 := 0) (k := 20) (ws2 := [(a, .inr (7, [.int 0, .ref qq1, .int 0, .int 0, .int 0, .int 0, .int 0, .int 0, .int 0, .int 0, .int 0, .int 0, .ref qq2, .ref qq3, .ref qq4, .ref qq5, .ref qq6, .ref qq7, .int 0, .ref qq8, .ref qq9, .int 0, .null, .null, .null, .null, .int 0, .int 0, .int 0, .null, .null, .null, .null, .null, .null])), (qq1, .inl (dA 0, (240, .inl (fun _ => 0)))), (qq2, .inl (dA 0, (27, .inl (fun _ => 0)))), (qq3, .inl (dA 0, (9, .inl (fun _ => 0)))), (qq4, .inl (dA 0, (49, .inl (fun _ => 0)))), (qq5, .inl (dA 0, (98, .inl (fun _ => 0)))), (qq6, .inl (dA 1, (2, .inl (fun _ => 0)))), (qq7, .inl (dA 0, (784, .inl (fun _ => 0)))), (qq8, .inl (dA 0, (15, .inl (fun _ => 0)))), (qq9, .inl (dA 1, (15, .inl (fun _ => 0))))]) C hinit rfl rfl in_X7 (Nat.le_of_ble_eq_true rfl) q707 tyX7 tyX7_ok nmX7 rfl rfl rfl rfl (Nat.le_of_ble_eq_true rfl) rfl dX7_init_74 ?_
  refine at_aload_n C dX7_init_77 rfl rfl ?_
  refine at_bipush C dX7_init_78 bp_9 ?_
  refine at_newaL (N' := 9) C hA 0 rfl rfl q116 (fun _ => rfl) (by decide) tk_9 (by decide) (Nat.le_of_ble_eq_true rfl) (Nat.le_of_ble_eq_true rfl) dX7_init_80 (fun qq10 => ?_)
  refine at_eq (ws2 := [(a, .inr (7, [.int 0, .ref qq1, .int 0, .int 0, .int 0, .int 0, .int 0, .int 0, .int 0, .int 0, .int 0, .int 0, .ref qq2, .ref qq3, .ref qq4, .ref qq5, .ref qq6, .ref qq7, .int 0, .ref qq8, .ref qq9, .int 0, .null, .null, .null, .null, .int 0, .int 0, .int 0, .null, .null, .null, .null, .null, .null])), (qq1, .inl (dA 0, (240, .inl (fun _ => 0)))), (qq2, .inl (dA 0, (27, .inl (fun _ => 0)))), (qq3, .inl (dA 0, (9, .inl (fun _ => 0)))), (qq4, .inl (dA 0, (49, .inl (fun _ => 0)))), (qq5, .inl (dA 0, (98, .inl (fun _ => 0)))), (qq6, .inl (dA 1, (2, .inl (fun _ => 0)))), (qq7, .inl (dA 0, (784, .inl (fun _ => 0)))), (qq8, .inl (dA 0, (15, .inl (fun _ => 0)))), (qq9, .inl (dA 1, (15, .inl (fun _ => 0)))), (qq10, .inl (dA 0, (9, .inl (fun _ => 0))))]) rfl ?_
  refine at_putFL (q0 := 0) (k := 22) (ws2 := [(a, .inr (7, [.int 0, .ref qq1, .int 0, .int 0, .int 0, .int 0, .int 0, .int 0, .int 0, .int 0, .int 0, .int 0, .ref qq2, .ref qq3, .ref qq4, .ref qq5, .ref qq6, .ref qq7, .int 0, .ref qq8, .ref qq9, .int 0, .ref qq10, .null, .null, .null, .int 0, .int 0, .int 0, .null, .null, .null, .null, .null, .null])), (qq1, .inl (dA 0, (240, .inl (fun _ => 0)))), (qq2, .inl (dA 0, (27, .inl (fun _ => 0)))), (qq3, .inl (dA 0, (9, .inl (fun _ => 0)))), (qq4, .inl (dA 0, (49, .inl (fun _ => 0)))), (qq5, .inl (dA 0, (98, .inl (fun _ => 0)))), (qq6, .inl (dA 1, (2, .inl (fun _ => 0)))), (qq7, .inl (dA 0, (784, .inl (fun _ => 0)))), (qq8, .inl (dA 0, (15, .inl (fun _ => 0)))), (qq9, .inl (dA 1, (15, .inl (fun _ => 0)))), (qq10, .inl (dA 0, (9, .inl (fun _ => 0))))]) C hinit rfl rfl in_X7 (Nat.le_of_ble_eq_true rfl) q709 tyX7 tyX7_ok nmX7 rfl rfl rfl rfl (Nat.le_of_ble_eq_true rfl) rfl dX7_init_82 ?_
  refine at_aload_n C dX7_init_85 rfl rfl ?_
  refine at_bipush C dX7_init_86 bp_9 ?_
  refine at_newaL (N' := 9) C hA 0 rfl rfl q116 (fun _ => rfl) (by decide) tk_9 (by decide) (Nat.le_of_ble_eq_true rfl) (Nat.le_of_ble_eq_true rfl) dX7_init_88 (fun qq11 => ?_)
  refine at_eq (ws2 := [(a, .inr (7, [.int 0, .ref qq1, .int 0, .int 0, .int 0, .int 0, .int 0, .int 0, .int 0, .int 0, .int 0, .int 0, .ref qq2, .ref qq3, .ref qq4, .ref qq5, .ref qq6, .ref qq7, .int 0, .ref qq8, .ref qq9, .int 0, .ref qq10, .null, .null, .null, .int 0, .int 0, .int 0, .null, .null, .null, .null, .null, .null])), (qq1, .inl (dA 0, (240, .inl (fun _ => 0)))), (qq2, .inl (dA 0, (27, .inl (fun _ => 0)))), (qq3, .inl (dA 0, (9, .inl (fun _ => 0)))), (qq4, .inl (dA 0, (49, .inl (fun _ => 0)))), (qq5, .inl (dA 0, (98, .inl (fun _ => 0)))), (qq6, .inl (dA 1, (2, .inl (fun _ => 0)))), (qq7, .inl (dA 0, (784, .inl (fun _ => 0)))), (qq8, .inl (dA 0, (15, .inl (fun _ => 0)))), (qq9, .inl (dA 1, (15, .inl (fun _ => 0)))), (qq10, .inl (dA 0, (9, .inl (fun _ => 0)))), (qq11, .inl (dA 0, (9, .inl (fun _ => 0))))]) rfl ?_
  refine at_putFL (q0 := 0) (k := 23) (ws2 := [(a, .inr (7, [.int 0, .ref qq1, .int 0, .int 0, .int 0, .int 0, .int 0, .int 0, .int 0, .int 0, .int 0, .int 0, .ref qq2, .ref qq3, .ref qq4, .ref qq5, .ref qq6, .ref qq7, .int 0, .ref qq8, .ref qq9, .int 0, .ref qq10, .ref qq11, .null, .null, .int 0, .int 0, .int 0, .null, .null, .null, .null, .null, .null])), (qq1, .inl (dA 0, (240, .inl (fun _ => 0)))), (qq2, .inl (dA 0, (27, .inl (fun _ => 0)))), (qq3, .inl (dA 0, (9, .inl (fun _ => 0)))), (qq4, .inl (dA 0, (49, .inl (fun _ => 0)))), (qq5, .inl (dA 0, (98, .inl (fun _ => 0)))), (qq6, .inl (dA 1, (2, .inl (fun _ => 0)))), (qq7, .inl (dA 0, (784, .inl (fun _ => 0)))), (qq8, .inl (dA 0, (15, .inl (fun _ => 0)))), (qq9, .inl (dA 1, (15, .inl (fun _ => 0)))), (qq10, .inl (dA 0, (9, .inl (fun _ => 0)))), (qq11, .inl (dA 0, (9, .inl (fun _ => 0))))]) C hinit rfl rfl in_X7 (Nat.le_of_ble_eq_true rfl) q710 tyX7 tyX7_ok nmX7 rfl rfl rfl rfl (Nat.le_of_ble_eq_true rfl) rfl dX7_init_90 ?_
  refine at_aload_n C dX7_init_93 rfl rfl ?_
  refine at_bipush C dX7_init_94 bp_9 ?_
  refine at_newaL (N' := 9) C hA 0 rfl rfl q116 (fun _ => rfl) (by decide) tk_9 (by decide) (Nat.le_of_ble_eq_true rfl) (Nat.le_of_ble_eq_true rfl) dX7_init_96 (fun qq12 => ?_)
  refine at_eq (ws2 := [(a, .inr (7, [.int 0, .ref qq1, .int 0, .int 0, .int 0, .int 0, .int 0, .int 0, .int 0, .int 0, .int 0, .int 0, .ref qq2, .ref qq3, .ref qq4, .ref qq5, .ref qq6, .ref qq7, .int 0, .ref qq8, .ref qq9, .int 0, .ref qq10, .ref qq11, .null, .null, .int 0, .int 0, .int 0, .null, .null, .null, .null, .null, .null])), (qq1, .inl (dA 0, (240, .inl (fun _ => 0)))), (qq2, .inl (dA 0, (27, .inl (fun _ => 0)))), (qq3, .inl (dA 0, (9, .inl (fun _ => 0)))), (qq4, .inl (dA 0, (49, .inl (fun _ => 0)))), (qq5, .inl (dA 0, (98, .inl (fun _ => 0)))), (qq6, .inl (dA 1, (2, .inl (fun _ => 0)))), (qq7, .inl (dA 0, (784, .inl (fun _ => 0)))), (qq8, .inl (dA 0, (15, .inl (fun _ => 0)))), (qq9, .inl (dA 1, (15, .inl (fun _ => 0)))), (qq10, .inl (dA 0, (9, .inl (fun _ => 0)))), (qq11, .inl (dA 0, (9, .inl (fun _ => 0)))), (qq12, .inl (dA 0, (9, .inl (fun _ => 0))))]) rfl ?_
  refine at_putFL (q0 := 0) (k := 24) (ws2 := [(a, .inr (7, [.int 0, .ref qq1, .int 0, .int 0, .int 0, .int 0, .int 0, .int 0, .int 0, .int 0, .int 0, .int 0, .ref qq2, .ref qq3, .ref qq4, .ref qq5, .ref qq6, .ref qq7, .int 0, .ref qq8, .ref qq9, .int 0, .ref qq10, .ref qq11, .ref qq12, .null, .int 0, .int 0, .int 0, .null, .null, .null, .null, .null, .null])), (qq1, .inl (dA 0, (240, .inl (fun _ => 0)))), (qq2, .inl (dA 0, (27, .inl (fun _ => 0)))), (qq3, .inl (dA 0, (9, .inl (fun _ => 0)))), (qq4, .inl (dA 0, (49, .inl (fun _ => 0)))), (qq5, .inl (dA 0, (98, .inl (fun _ => 0)))), (qq6, .inl (dA 1, (2, .inl (fun _ => 0)))), (qq7, .inl (dA 0, (784, .inl (fun _ => 0)))), (qq8, .inl (dA 0, (15, .inl (fun _ => 0)))), (qq9, .inl (dA 1, (15, .inl (fun _ => 0)))), (qq10, .inl (dA 0, (9, .inl (fun _ => 0)))), (qq11, .inl (dA 0, (9, .inl (fun _ => 0)))), (qq12, .inl (dA 0, (9, .inl (fun _ => 0))))]) C hinit rfl rfl in_X7 (Nat.le_of_ble_eq_true rfl) q711 tyX7 tyX7_ok nmX7 rfl rfl rfl rfl (Nat.le_of_ble_eq_true rfl) rfl dX7_init_98 ?_
  refine at_aload_n C dX7_init_101 rfl rfl ?_
  refine at_bipush C dX7_init_102 bp_9 ?_
  refine at_newaL (N' := 9) C hA 0 rfl rfl q116 (fun _ => rfl) (by decide) tk_9 (by decide) (Nat.le_of_ble_eq_true rfl) (Nat.le_of_ble_eq_true rfl) dX7_init_104 (fun qq13 => ?_)
  refine at_eq (ws2 := [(a, .inr (7, [.int 0, .ref qq1, .int 0, .int 0, .int 0, .int 0, .int 0, .int 0, .int 0, .int 0, .int 0, .int 0, .ref qq2, .ref qq3, .ref qq4, .ref qq5, .ref qq6, .ref qq7, .int 0, .ref qq8, .ref qq9, .int 0, .ref qq10, .ref qq11, .ref qq12, .null, .int 0, .int 0, .int 0, .null, .null, .null, .null, .null, .null])), (qq1, .inl (dA 0, (240, .inl (fun _ => 0)))), (qq2, .inl (dA 0, (27, .inl (fun _ => 0)))), (qq3, .inl (dA 0, (9, .inl (fun _ => 0)))), (qq4, .inl (dA 0, (49, .inl (fun _ => 0)))), (qq5, .inl (dA 0, (98, .inl (fun _ => 0)))), (qq6, .inl (dA 1, (2, .inl (fun _ => 0)))), (qq7, .inl (dA 0, (784, .inl (fun _ => 0)))), (qq8, .inl (dA 0, (15, .inl (fun _ => 0)))), (qq9, .inl (dA 1, (15, .inl (fun _ => 0)))), (qq10, .inl (dA 0, (9, .inl (fun _ => 0)))), (qq11, .inl (dA 0, (9, .inl (fun _ => 0)))), (qq12, .inl (dA 0, (9, .inl (fun _ => 0)))), (qq13, .inl (dA 0, (9, .inl (fun _ => 0))))]) rfl ?_
  refine at_putFL (q0 := 0) (k := 25) (ws2 := [(a, .inr (7, [.int 0, .ref qq1, .int 0, .int 0, .int 0, .int 0, .int 0, .int 0, .int 0, .int 0, .int 0, .int 0, .ref qq2, .ref qq3, .ref qq4, .ref qq5, .ref qq6, .ref qq7, .int 0, .ref qq8, .ref qq9, .int 0, .ref qq10, .ref qq11, .ref qq12, .ref qq13, .int 0, .int 0, .int 0, .null, .null, .null, .null, .null, .null])), (qq1, .inl (dA 0, (240, .inl (fun _ => 0)))), (qq2, .inl (dA 0, (27, .inl (fun _ => 0)))), (qq3, .inl (dA 0, (9, .inl (fun _ => 0)))), (qq4, .inl (dA 0, (49, .inl (fun _ => 0)))), (qq5, .inl (dA 0, (98, .inl (fun _ => 0)))), (qq6, .inl (dA 1, (2, .inl (fun _ => 0)))), (qq7, .inl (dA 0, (784, .inl (fun _ => 0)))), (qq8, .inl (dA 0, (15, .inl (fun _ => 0)))), (qq9, .inl (dA 1, (15, .inl (fun _ => 0)))), (qq10, .inl (dA 0, (9, .inl (fun _ => 0)))), (qq11, .inl (dA 0, (9, .inl (fun _ => 0)))), (qq12, .inl (dA 0, (9, .inl (fun _ => 0)))), (qq13, .inl (dA 0, (9, .inl (fun _ => 0))))]) C hinit rfl rfl in_X7 (Nat.le_of_ble_eq_true rfl) q712 tyX7 tyX7_ok nmX7 rfl rfl rfl rfl (Nat.le_of_ble_eq_true rfl) rfl dX7_init_106 ?_
  refine at_aload_n C dX7_init_109 rfl rfl ?_
  refine at_bipush C dX7_init_110 bp_10 ?_
  refine at_newaL (N' := 10) C hA 0 rfl rfl q116 (fun _ => rfl) (by decide) tk_10 (by decide) (Nat.le_of_ble_eq_true rfl) (Nat.le_of_ble_eq_true rfl) dX7_init_112 (fun qq14 => ?_)
  refine at_eq (ws2 := [(a, .inr (7, [.int 0, .ref qq1, .int 0, .int 0, .int 0, .int 0, .int 0, .int 0, .int 0, .int 0, .int 0, .int 0, .ref qq2, .ref qq3, .ref qq4, .ref qq5, .ref qq6, .ref qq7, .int 0, .ref qq8, .ref qq9, .int 0, .ref qq10, .ref qq11, .ref qq12, .ref qq13, .int 0, .int 0, .int 0, .null, .null, .null, .null, .null, .null])), (qq1, .inl (dA 0, (240, .inl (fun _ => 0)))), (qq2, .inl (dA 0, (27, .inl (fun _ => 0)))), (qq3, .inl (dA 0, (9, .inl (fun _ => 0)))), (qq4, .inl (dA 0, (49, .inl (fun _ => 0)))), (qq5, .inl (dA 0, (98, .inl (fun _ => 0)))), (qq6, .inl (dA 1, (2, .inl (fun _ => 0)))), (qq7, .inl (dA 0, (784, .inl (fun _ => 0)))), (qq8, .inl (dA 0, (15, .inl (fun _ => 0)))), (qq9, .inl (dA 1, (15, .inl (fun _ => 0)))), (qq10, .inl (dA 0, (9, .inl (fun _ => 0)))), (qq11, .inl (dA 0, (9, .inl (fun _ => 0)))), (qq12, .inl (dA 0, (9, .inl (fun _ => 0)))), (qq13, .inl (dA 0, (9, .inl (fun _ => 0)))), (qq14, .inl (dA 0, (10, .inl (fun _ => 0))))]) rfl ?_
  refine at_putFL (q0 := 0) (k := 29) (ws2 := [(a, .inr (7, [.int 0, .ref qq1, .int 0, .int 0, .int 0, .int 0, .int 0, .int 0, .int 0, .int 0, .int 0, .int 0, .ref qq2, .ref qq3, .ref qq4, .ref qq5, .ref qq6, .ref qq7, .int 0, .ref qq8, .ref qq9, .int 0, .ref qq10, .ref qq11, .ref qq12, .ref qq13, .int 0, .int 0, .int 0, .ref qq14, .null, .null, .null, .null, .null])), (qq1, .inl (dA 0, (240, .inl (fun _ => 0)))), (qq2, .inl (dA 0, (27, .inl (fun _ => 0)))), (qq3, .inl (dA 0, (9, .inl (fun _ => 0)))), (qq4, .inl (dA 0, (49, .inl (fun _ => 0)))), (qq5, .inl (dA 0, (98, .inl (fun _ => 0)))), (qq6, .inl (dA 1, (2, .inl (fun _ => 0)))), (qq7, .inl (dA 0, (784, .inl (fun _ => 0)))), (qq8, .inl (dA 0, (15, .inl (fun _ => 0)))), (qq9, .inl (dA 1, (15, .inl (fun _ => 0)))), (qq10, .inl (dA 0, (9, .inl (fun _ => 0)))), (qq11, .inl (dA 0, (9, .inl (fun _ => 0)))), (qq12, .inl (dA 0, (9, .inl (fun _ => 0)))), (qq13, .inl (dA 0, (9, .inl (fun _ => 0)))), (qq14, .inl (dA 0, (10, .inl (fun _ => 0))))]) C hinit rfl rfl in_X7 (Nat.le_of_ble_eq_true rfl) q716 tyX7 tyX7_ok nmX7 rfl rfl rfl rfl (Nat.le_of_ble_eq_true rfl) rfl dX7_init_114 ?_
  refine at_aload_n C dX7_init_117 rfl rfl ?_
  refine at_bipush C dX7_init_118 bp_10 ?_
  refine at_newaL (N' := 10) C hA 0 rfl rfl q116 (fun _ => rfl) (by decide) tk_10 (by decide) (Nat.le_of_ble_eq_true rfl) (Nat.le_of_ble_eq_true rfl) dX7_init_120 (fun qq15 => ?_)
  refine at_eq (ws2 := [(a, .inr (7, [.int 0, .ref qq1, .int 0, .int 0, .int 0, .int 0, .int 0, .int 0, .int 0, .int 0, .int 0, .int 0, .ref qq2, .ref qq3, .ref qq4, .ref qq5, .ref qq6, .ref qq7, .int 0, .ref qq8, .ref qq9, .int 0, .ref qq10, .ref qq11, .ref qq12, .ref qq13, .int 0, .int 0, .int 0, .ref qq14, .null, .null, .null, .null, .null])), (qq1, .inl (dA 0, (240, .inl (fun _ => 0)))), (qq2, .inl (dA 0, (27, .inl (fun _ => 0)))), (qq3, .inl (dA 0, (9, .inl (fun _ => 0)))), (qq4, .inl (dA 0, (49, .inl (fun _ => 0)))), (qq5, .inl (dA 0, (98, .inl (fun _ => 0)))), (qq6, .inl (dA 1, (2, .inl (fun _ => 0)))), (qq7, .inl (dA 0, (784, .inl (fun _ => 0)))), (qq8, .inl (dA 0, (15, .inl (fun _ => 0)))), (qq9, .inl (dA 1, (15, .inl (fun _ => 0)))), (qq10, .inl (dA 0, (9, .inl (fun _ => 0)))), (qq11, .inl (dA 0, (9, .inl (fun _ => 0)))), (qq12, .inl (dA 0, (9, .inl (fun _ => 0)))), (qq13, .inl (dA 0, (9, .inl (fun _ => 0)))), (qq14, .inl (dA 0, (10, .inl (fun _ => 0)))), (qq15, .inl (dA 0, (10, .inl (fun _ => 0))))]) rfl ?_
  refine at_putFL (q0 := 0) (k := 30) (ws2 := [(a, .inr (7, [.int 0, .ref qq1, .int 0, .int 0, .int 0, .int 0, .int 0, .int 0, .int 0, .int 0, .int 0, .int 0, .ref qq2, .ref qq3, .ref qq4, .ref qq5, .ref qq6, .ref qq7, .int 0, .ref qq8, .ref qq9, .int 0, .ref qq10, .ref qq11, .ref qq12, .ref qq13, .int 0, .int 0, .int 0, .ref qq14, .ref qq15, .null, .null, .null, .null])), (qq1, .inl (dA 0, (240, .inl (fun _ => 0)))), (qq2, .inl (dA 0, (27, .inl (fun _ => 0)))), (qq3, .inl (dA 0, (9, .inl (fun _ => 0)))), (qq4, .inl (dA 0, (49, .inl (fun _ => 0)))), (qq5, .inl (dA 0, (98, .inl (fun _ => 0)))), (qq6, .inl (dA 1, (2, .inl (fun _ => 0)))), (qq7, .inl (dA 0, (784, .inl (fun _ => 0)))), (qq8, .inl (dA 0, (15, .inl (fun _ => 0)))), (qq9, .inl (dA 1, (15, .inl (fun _ => 0)))), (qq10, .inl (dA 0, (9, .inl (fun _ => 0)))), (qq11, .inl (dA 0, (9, .inl (fun _ => 0)))), (qq12, .inl (dA 0, (9, .inl (fun _ => 0)))), (qq13, .inl (dA 0, (9, .inl (fun _ => 0)))), (qq14, .inl (dA 0, (10, .inl (fun _ => 0)))), (qq15, .inl (dA 0, (10, .inl (fun _ => 0))))]) C hinit rfl rfl in_X7 (Nat.le_of_ble_eq_true rfl) q717 tyX7 tyX7_ok nmX7 rfl rfl rfl rfl (Nat.le_of_ble_eq_true rfl) rfl dX7_init_122 ?_
  refine at_aload_n C dX7_init_125 rfl rfl ?_
  refine at_bipush C dX7_init_126 bp_10 ?_
  refine at_newaL (N' := 10) C hA 0 rfl rfl q116 (fun _ => rfl) (by decide) tk_10 (by decide) (Nat.le_of_ble_eq_true rfl) (Nat.le_of_ble_eq_true rfl) dX7_init_128 (fun qq16 => ?_)
  refine at_eq (ws2 := [(a, .inr (7, [.int 0, .ref qq1, .int 0, .int 0, .int 0, .int 0, .int 0, .int 0, .int 0, .int 0, .int 0, .int 0, .ref qq2, .ref qq3, .ref qq4, .ref qq5, .ref qq6, .ref qq7, .int 0, .ref qq8, .ref qq9, .int 0, .ref qq10, .ref qq11, .ref qq12, .ref qq13, .int 0, .int 0, .int 0, .ref qq14, .ref qq15, .null, .null, .null, .null])), (qq1, .inl (dA 0, (240, .inl (fun _ => 0)))), (qq2, .inl (dA 0, (27, .inl (fun _ => 0)))), (qq3, .inl (dA 0, (9, .inl (fun _ => 0)))), (qq4, .inl (dA 0, (49, .inl (fun _ => 0)))), (qq5, .inl (dA 0, (98, .inl (fun _ => 0)))), (qq6, .inl (dA 1, (2, .inl (fun _ => 0)))), (qq7, .inl (dA 0, (784, .inl (fun _ => 0)))), (qq8, .inl (dA 0, (15, .inl (fun _ => 0)))), (qq9, .inl (dA 1, (15, .inl (fun _ => 0)))), (qq10, .inl (dA 0, (9, .inl (fun _ => 0)))), (qq11, .inl (dA 0, (9, .inl (fun _ => 0)))), (qq12, .inl (dA 0, (9, .inl (fun _ => 0)))), (qq13, .inl (dA 0, (9, .inl (fun _ => 0)))), (qq14, .inl (dA 0, (10, .inl (fun _ => 0)))), (qq15, .inl (dA 0, (10, .inl (fun _ => 0)))), (qq16, .inl (dA 0, (10, .inl (fun _ => 0))))]) rfl ?_
  refine at_putFL (q0 := 0) (k := 31) (ws2 := [(a, .inr (7, [.int 0, .ref qq1, .int 0, .int 0, .int 0, .int 0, .int 0, .int 0, .int 0, .int 0, .int 0, .int 0, .ref qq2, .ref qq3, .ref qq4, .ref qq5, .ref qq6, .ref qq7, .int 0, .ref qq8, .ref qq9, .int 0, .ref qq10, .ref qq11, .ref qq12, .ref qq13, .int 0, .int 0, .int 0, .ref qq14, .ref qq15, .ref qq16, .null, .null, .null])), (qq1, .inl (dA 0, (240, .inl (fun _ => 0)))), (qq2, .inl (dA 0, (27, .inl (fun _ => 0)))), (qq3, .inl (dA 0, (9, .inl (fun _ => 0)))), (qq4, .inl (dA 0, (49, .inl (fun _ => 0)))), (qq5, .inl (dA 0, (98, .inl (fun _ => 0)))), (qq6, .inl (dA 1, (2, .inl (fun _ => 0)))), (qq7, .inl (dA 0, (784, .inl (fun _ => 0)))), (qq8, .inl (dA 0, (15, .inl (fun _ => 0)))), (qq9, .inl (dA 1, (15, .inl (fun _ => 0)))), (qq10, .inl (dA 0, (9, .inl (fun _ => 0)))), (qq11, .inl (dA 0, (9, .inl (fun _ => 0)))), (qq12, .inl (dA 0, (9, .inl (fun _ => 0)))), (qq13, .inl (dA 0, (9, .inl (fun _ => 0)))), (qq14, .inl (dA 0, (10, .inl (fun _ => 0)))), (qq15, .inl (dA 0, (10, .inl (fun _ => 0)))), (qq16, .inl (dA 0, (10, .inl (fun _ => 0))))]) C hinit rfl rfl in_X7 (Nat.le_of_ble_eq_true rfl) q718 tyX7 tyX7_ok nmX7 rfl rfl rfl rfl (Nat.le_of_ble_eq_true rfl) rfl dX7_init_130 ?_
  refine at_aload_n C dX7_init_133 rfl rfl ?_
  refine at_sipush C dX7_init_134 sp_512 ?_
  refine at_newaL (N' := 512) C hA 0 rfl rfl q116 (fun _ => rfl) (by decide) tk_512 (by decide) (Nat.le_of_ble_eq_true rfl) (Nat.le_of_ble_eq_true rfl) dX7_init_137 (fun qq17 => ?_)
  refine at_eq (ws2 := [(a, .inr (7, [.int 0, .ref qq1, .int 0, .int 0, .int 0, .int 0, .int 0, .int 0, .int 0, .int 0, .int 0, .int 0, .ref qq2, .ref qq3, .ref qq4, .ref qq5, .ref qq6, .ref qq7, .int 0, .ref qq8, .ref qq9, .int 0, .ref qq10, .ref qq11, .ref qq12, .ref qq13, .int 0, .int 0, .int 0, .ref qq14, .ref qq15, .ref qq16, .null, .null, .null])), (qq1, .inl (dA 0, (240, .inl (fun _ => 0)))), (qq2, .inl (dA 0, (27, .inl (fun _ => 0)))), (qq3, .inl (dA 0, (9, .inl (fun _ => 0)))), (qq4, .inl (dA 0, (49, .inl (fun _ => 0)))), (qq5, .inl (dA 0, (98, .inl (fun _ => 0)))), (qq6, .inl (dA 1, (2, .inl (fun _ => 0)))), (qq7, .inl (dA 0, (784, .inl (fun _ => 0)))), (qq8, .inl (dA 0, (15, .inl (fun _ => 0)))), (qq9, .inl (dA 1, (15, .inl (fun _ => 0)))), (qq10, .inl (dA 0, (9, .inl (fun _ => 0)))), (qq11, .inl (dA 0, (9, .inl (fun _ => 0)))), (qq12, .inl (dA 0, (9, .inl (fun _ => 0)))), (qq13, .inl (dA 0, (9, .inl (fun _ => 0)))), (qq14, .inl (dA 0, (10, .inl (fun _ => 0)))), (qq15, .inl (dA 0, (10, .inl (fun _ => 0)))), (qq16, .inl (dA 0, (10, .inl (fun _ => 0)))), (qq17, .inl (dA 0, (512, .inl (fun _ => 0))))]) rfl ?_
  refine at_putFL (q0 := 0) (k := 32) (ws2 := [(a, .inr (7, [.int 0, .ref qq1, .int 0, .int 0, .int 0, .int 0, .int 0, .int 0, .int 0, .int 0, .int 0, .int 0, .ref qq2, .ref qq3, .ref qq4, .ref qq5, .ref qq6, .ref qq7, .int 0, .ref qq8, .ref qq9, .int 0, .ref qq10, .ref qq11, .ref qq12, .ref qq13, .int 0, .int 0, .int 0, .ref qq14, .ref qq15, .ref qq16, .ref qq17, .null, .null])), (qq1, .inl (dA 0, (240, .inl (fun _ => 0)))), (qq2, .inl (dA 0, (27, .inl (fun _ => 0)))), (qq3, .inl (dA 0, (9, .inl (fun _ => 0)))), (qq4, .inl (dA 0, (49, .inl (fun _ => 0)))), (qq5, .inl (dA 0, (98, .inl (fun _ => 0)))), (qq6, .inl (dA 1, (2, .inl (fun _ => 0)))), (qq7, .inl (dA 0, (784, .inl (fun _ => 0)))), (qq8, .inl (dA 0, (15, .inl (fun _ => 0)))), (qq9, .inl (dA 1, (15, .inl (fun _ => 0)))), (qq10, .inl (dA 0, (9, .inl (fun _ => 0)))), (qq11, .inl (dA 0, (9, .inl (fun _ => 0)))), (qq12, .inl (dA 0, (9, .inl (fun _ => 0)))), (qq13, .inl (dA 0, (9, .inl (fun _ => 0)))), (qq14, .inl (dA 0, (10, .inl (fun _ => 0)))), (qq15, .inl (dA 0, (10, .inl (fun _ => 0)))), (qq16, .inl (dA 0, (10, .inl (fun _ => 0)))), (qq17, .inl (dA 0, (512, .inl (fun _ => 0))))]) C hinit rfl rfl in_X7 (Nat.le_of_ble_eq_true rfl) q719 tyX7 tyX7_ok nmX7 rfl rfl rfl rfl (Nat.le_of_ble_eq_true rfl) rfl dX7_init_139 ?_
  refine at_aload_n C dX7_init_142 rfl rfl ?_
  refine at_sipush C dX7_init_143 sp_512 ?_
  refine at_newaL (N' := 512) C hA 0 rfl rfl q116 (fun _ => rfl) (by decide) tk_512 (by decide) (Nat.le_of_ble_eq_true rfl) (Nat.le_of_ble_eq_true rfl) dX7_init_146 (fun qq18 => ?_)
  refine at_eq (ws2 := [(a, .inr (7, [.int 0, .ref qq1, .int 0, .int 0, .int 0, .int 0, .int 0, .int 0, .int 0, .int 0, .int 0, .int 0, .ref qq2, .ref qq3, .ref qq4, .ref qq5, .ref qq6, .ref qq7, .int 0, .ref qq8, .ref qq9, .int 0, .ref qq10, .ref qq11, .ref qq12, .ref qq13, .int 0, .int 0, .int 0, .ref qq14, .ref qq15, .ref qq16, .ref qq17, .null, .null])), (qq1, .inl (dA 0, (240, .inl (fun _ => 0)))), (qq2, .inl (dA 0, (27, .inl (fun _ => 0)))), (qq3, .inl (dA 0, (9, .inl (fun _ => 0)))), (qq4, .inl (dA 0, (49, .inl (fun _ => 0)))), (qq5, .inl (dA 0, (98, .inl (fun _ => 0)))), (qq6, .inl (dA 1, (2, .inl (fun _ => 0)))), (qq7, .inl (dA 0, (784, .inl (fun _ => 0)))), (qq8, .inl (dA 0, (15, .inl (fun _ => 0)))), (qq9, .inl (dA 1, (15, .inl (fun _ => 0)))), (qq10, .inl (dA 0, (9, .inl (fun _ => 0)))), (qq11, .inl (dA 0, (9, .inl (fun _ => 0)))), (qq12, .inl (dA 0, (9, .inl (fun _ => 0)))), (qq13, .inl (dA 0, (9, .inl (fun _ => 0)))), (qq14, .inl (dA 0, (10, .inl (fun _ => 0)))), (qq15, .inl (dA 0, (10, .inl (fun _ => 0)))), (qq16, .inl (dA 0, (10, .inl (fun _ => 0)))), (qq17, .inl (dA 0, (512, .inl (fun _ => 0)))), (qq18, .inl (dA 0, (512, .inl (fun _ => 0))))]) rfl ?_
  refine at_putFL (q0 := 0) (k := 33) (ws2 := [(a, .inr (7, [.int 0, .ref qq1, .int 0, .int 0, .int 0, .int 0, .int 0, .int 0, .int 0, .int 0, .int 0, .int 0, .ref qq2, .ref qq3, .ref qq4, .ref qq5, .ref qq6, .ref qq7, .int 0, .ref qq8, .ref qq9, .int 0, .ref qq10, .ref qq11, .ref qq12, .ref qq13, .int 0, .int 0, .int 0, .ref qq14, .ref qq15, .ref qq16, .ref qq17, .ref qq18, .null])), (qq1, .inl (dA 0, (240, .inl (fun _ => 0)))), (qq2, .inl (dA 0, (27, .inl (fun _ => 0)))), (qq3, .inl (dA 0, (9, .inl (fun _ => 0)))), (qq4, .inl (dA 0, (49, .inl (fun _ => 0)))), (qq5, .inl (dA 0, (98, .inl (fun _ => 0)))), (qq6, .inl (dA 1, (2, .inl (fun _ => 0)))), (qq7, .inl (dA 0, (784, .inl (fun _ => 0)))), (qq8, .inl (dA 0, (15, .inl (fun _ => 0)))), (qq9, .inl (dA 1, (15, .inl (fun _ => 0)))), (qq10, .inl (dA 0, (9, .inl (fun _ => 0)))), (qq11, .inl (dA 0, (9, .inl (fun _ => 0)))), (qq12, .inl (dA 0, (9, .inl (fun _ => 0)))), (qq13, .inl (dA 0, (9, .inl (fun _ => 0)))), (qq14, .inl (dA 0, (10, .inl (fun _ => 0)))), (qq15, .inl (dA 0, (10, .inl (fun _ => 0)))), (qq16, .inl (dA 0, (10, .inl (fun _ => 0)))), (qq17, .inl (dA 0, (512, .inl (fun _ => 0)))), (qq18, .inl (dA 0, (512, .inl (fun _ => 0))))]) C hinit rfl rfl in_X7 (Nat.le_of_ble_eq_true rfl) q720 tyX7 tyX7_ok nmX7 rfl rfl rfl rfl (Nat.le_of_ble_eq_true rfl) rfl dX7_init_148 ?_
  refine at_aload_n C dX7_init_151 rfl rfl ?_
  refine at_sipush C dX7_init_152 sp_512 ?_
  refine at_newaL (N' := 512) C hA 0 rfl rfl q116 (fun _ => rfl) (by decide) tk_512 (by decide) (Nat.le_of_ble_eq_true rfl) (Nat.le_of_ble_eq_true rfl) dX7_init_155 (fun qq19 => ?_)
  refine at_eq (ws2 := [(a, .inr (7, [.int 0, .ref qq1, .int 0, .int 0, .int 0, .int 0, .int 0, .int 0, .int 0, .int 0, .int 0, .int 0, .ref qq2, .ref qq3, .ref qq4, .ref qq5, .ref qq6, .ref qq7, .int 0, .ref qq8, .ref qq9, .int 0, .ref qq10, .ref qq11, .ref qq12, .ref qq13, .int 0, .int 0, .int 0, .ref qq14, .ref qq15, .ref qq16, .ref qq17, .ref qq18, .null])), (qq1, .inl (dA 0, (240, .inl (fun _ => 0)))), (qq2, .inl (dA 0, (27, .inl (fun _ => 0)))), (qq3, .inl (dA 0, (9, .inl (fun _ => 0)))), (qq4, .inl (dA 0, (49, .inl (fun _ => 0)))), (qq5, .inl (dA 0, (98, .inl (fun _ => 0)))), (qq6, .inl (dA 1, (2, .inl (fun _ => 0)))), (qq7, .inl (dA 0, (784, .inl (fun _ => 0)))), (qq8, .inl (dA 0, (15, .inl (fun _ => 0)))), (qq9, .inl (dA 1, (15, .inl (fun _ => 0)))), (qq10, .inl (dA 0, (9, .inl (fun _ => 0)))), (qq11, .inl (dA 0, (9, .inl (fun _ => 0)))), (qq12, .inl (dA 0, (9, .inl (fun _ => 0)))), (qq13, .inl (dA 0, (9, .inl (fun _ => 0)))), (qq14, .inl (dA 0, (10, .inl (fun _ => 0)))), (qq15, .inl (dA 0, (10, .inl (fun _ => 0)))), (qq16, .inl (dA 0, (10, .inl (fun _ => 0)))), (qq17, .inl (dA 0, (512, .inl (fun _ => 0)))), (qq18, .inl (dA 0, (512, .inl (fun _ => 0)))), (qq19, .inl (dA 0, (512, .inl (fun _ => 0))))]) rfl ?_
  refine at_putFL (q0 := 0) (k := 34) (ws2 := [(a, .inr (7, [.int 0, .ref qq1, .int 0, .int 0, .int 0, .int 0, .int 0, .int 0, .int 0, .int 0, .int 0, .int 0, .ref qq2, .ref qq3, .ref qq4, .ref qq5, .ref qq6, .ref qq7, .int 0, .ref qq8, .ref qq9, .int 0, .ref qq10, .ref qq11, .ref qq12, .ref qq13, .int 0, .int 0, .int 0, .ref qq14, .ref qq15, .ref qq16, .ref qq17, .ref qq18, .ref qq19])), (qq1, .inl (dA 0, (240, .inl (fun _ => 0)))), (qq2, .inl (dA 0, (27, .inl (fun _ => 0)))), (qq3, .inl (dA 0, (9, .inl (fun _ => 0)))), (qq4, .inl (dA 0, (49, .inl (fun _ => 0)))), (qq5, .inl (dA 0, (98, .inl (fun _ => 0)))), (qq6, .inl (dA 1, (2, .inl (fun _ => 0)))), (qq7, .inl (dA 0, (784, .inl (fun _ => 0)))), (qq8, .inl (dA 0, (15, .inl (fun _ => 0)))), (qq9, .inl (dA 1, (15, .inl (fun _ => 0)))), (qq10, .inl (dA 0, (9, .inl (fun _ => 0)))), (qq11, .inl (dA 0, (9, .inl (fun _ => 0)))), (qq12, .inl (dA 0, (9, .inl (fun _ => 0)))), (qq13, .inl (dA 0, (9, .inl (fun _ => 0)))), (qq14, .inl (dA 0, (10, .inl (fun _ => 0)))), (qq15, .inl (dA 0, (10, .inl (fun _ => 0)))), (qq16, .inl (dA 0, (10, .inl (fun _ => 0)))), (qq17, .inl (dA 0, (512, .inl (fun _ => 0)))), (qq18, .inl (dA 0, (512, .inl (fun _ => 0)))), (qq19, .inl (dA 0, (512, .inl (fun _ => 0))))]) C hinit rfl rfl in_X7 (Nat.le_of_ble_eq_true rfl) q721 tyX7 tyX7_ok nmX7 rfl rfl rfl rfl (Nat.le_of_ble_eq_true rfl) rfl dX7_init_157 ?_
  refine at_aload_n C dX7_init_160 rfl rfl ?_
  refine at_iconst C dX7_init_161 ic_m1 ?_
  refine at_putL (q0 := 0) (k := 6) (ws2 := [(a, .inr (7, [.int 0, .ref qq1, .int 0, .int 0, .int 0, .int 0, .int (-1), .int 0, .int 0, .int 0, .int 0, .int 0, .ref qq2, .ref qq3, .ref qq4, .ref qq5, .ref qq6, .ref qq7, .int 0, .ref qq8, .ref qq9, .int 0, .ref qq10, .ref qq11, .ref qq12, .ref qq13, .int 0, .int 0, .int 0, .ref qq14, .ref qq15, .ref qq16, .ref qq17, .ref qq18, .ref qq19])), (qq1, .inl (dA 0, (240, .inl (fun _ => 0)))), (qq2, .inl (dA 0, (27, .inl (fun _ => 0)))), (qq3, .inl (dA 0, (9, .inl (fun _ => 0)))), (qq4, .inl (dA 0, (49, .inl (fun _ => 0)))), (qq5, .inl (dA 0, (98, .inl (fun _ => 0)))), (qq6, .inl (dA 1, (2, .inl (fun _ => 0)))), (qq7, .inl (dA 0, (784, .inl (fun _ => 0)))), (qq8, .inl (dA 0, (15, .inl (fun _ => 0)))), (qq9, .inl (dA 1, (15, .inl (fun _ => 0)))), (qq10, .inl (dA 0, (9, .inl (fun _ => 0)))), (qq11, .inl (dA 0, (9, .inl (fun _ => 0)))), (qq12, .inl (dA 0, (9, .inl (fun _ => 0)))), (qq13, .inl (dA 0, (9, .inl (fun _ => 0)))), (qq14, .inl (dA 0, (10, .inl (fun _ => 0)))), (qq15, .inl (dA 0, (10, .inl (fun _ => 0)))), (qq16, .inl (dA 0, (10, .inl (fun _ => 0)))), (qq17, .inl (dA 0, (512, .inl (fun _ => 0)))), (qq18, .inl (dA 0, (512, .inl (fun _ => 0)))), (qq19, .inl (dA 0, (512, .inl (fun _ => 0))))]) C rfl rfl in_X7 (Nat.le_of_ble_eq_true rfl) q693 tyX7 tyX7_ok nmX7 rfl rfl rfl (Nat.le_of_ble_eq_true rfl) rfl dX7_init_162 ?_
  refine at_iconst C dX7_init_165 ic_0 ?_
  refine at_istore_n (L' := [(0, .ref a), (1, .int 0)]) C dX7_init_166 rfl (Nat.le_of_ble_eq_true rfl) rfl ?_
  refine at_iload_n C dX7_init_167 rfl rfl ?_
  refine at_bipush C dX7_init_168 bp_9 ?_
  refine at_icmp_ge (tgt := 189) C dX7_init_170 (by decide) (fun h => absurd h (by decide)) (fun _ => ?_)
  refine at_aload_n C dX7_init_173 rfl rfl ?_
  refine at_getL (q0 := 0) (k := 14) (v := .ref qq4) C rfl rfl in_X7 (Nat.le_of_ble_eq_true rfl) q701 rfl dX7_init_174 ?_
  refine at_bipush C dX7_init_177 bp_18 ?_
  refine at_iload_n C dX7_init_179 rfl rfl ?_
  refine at_iadd C dX7_init_180 ?_
  refine at_topi (fun z20 hz20 => ?_)
  have hz20 : z20 = 18 := by rw [hz20]; decide
  subst hz20
  refine at_iconst C dX7_init_181 ic_m1 ?_
  refine at_iastL (q0 := 4) (ws2 := [(a, .inr (7, [.int 0, .ref qq1, .int 0, .int 0, .int 0, .int 0, .int (-1), .int 0, .int 0, .int 0, .int 0, .int 0, .ref qq2, .ref qq3, .ref qq4, .ref qq5, .ref qq6, .ref qq7, .int 0, .ref qq8, .ref qq9, .int 0, .ref qq10, .ref qq11, .ref qq12, .ref qq13, .int 0, .int 0, .int 0, .ref qq14, .ref qq15, .ref qq16, .ref qq17, .ref qq18, .ref qq19])), (qq1, .inl (dA 0, (240, .inl (fun _ => 0)))), (qq2, .inl (dA 0, (27, .inl (fun _ => 0)))), (qq3, .inl (dA 0, (9, .inl (fun _ => 0)))), (qq4, .inl (dA 0, (49, .inl (upd (fun _ => 0) 18 (-1))))), (qq5, .inl (dA 0, (98, .inl (fun _ => 0)))), (qq6, .inl (dA 1, (2, .inl (fun _ => 0)))), (qq7, .inl (dA 0, (784, .inl (fun _ => 0)))), (qq8, .inl (dA 0, (15, .inl (fun _ => 0)))), (qq9, .inl (dA 1, (15, .inl (fun _ => 0)))), (qq10, .inl (dA 0, (9, .inl (fun _ => 0)))), (qq11, .inl (dA 0, (9, .inl (fun _ => 0)))), (qq12, .inl (dA 0, (9, .inl (fun _ => 0)))), (qq13, .inl (dA 0, (9, .inl (fun _ => 0)))), (qq14, .inl (dA 0, (10, .inl (fun _ => 0)))), (qq15, .inl (dA 0, (10, .inl (fun _ => 0)))), (qq16, .inl (dA 0, (10, .inl (fun _ => 0)))), (qq17, .inl (dA 0, (512, .inl (fun _ => 0)))), (qq18, .inl (dA 0, (512, .inl (fun _ => 0)))), (qq19, .inl (dA 0, (512, .inl (fun _ => 0))))]) C rfl vk_18_49 tk_18 rfl dX7_init_182 ?_
  refine at_iinc (F := fun z_ => [(0, .ref a), (1, .int z_)]) C dX7_init_183 rfl ic_1 (Nat.le_of_ble_eq_true rfl) (fun _ => rfl) (fun z21 hz21 => ?_)
  have hz21 : z21 = 1 := by rw [hz21]; decide
  subst hz21
  refine at_goto (tgt := 167) C dX7_init_186 (by decide) ?_
  refine at_iload_n C dX7_init_167 rfl rfl ?_
  refine at_bipush C dX7_init_168 bp_9 ?_
  refine at_icmp_ge (tgt := 189) C dX7_init_170 (by decide) (fun h => absurd h (by decide)) (fun _ => ?_)
  refine at_aload_n C dX7_init_173 rfl rfl ?_
  refine at_getL (q0 := 0) (k := 14) (v := .ref qq4) C rfl rfl in_X7 (Nat.le_of_ble_eq_true rfl) q701 rfl dX7_init_174 ?_
  refine at_bipush C dX7_init_177 bp_18 ?_
  refine at_iload_n C dX7_init_179 rfl rfl ?_
  refine at_iadd C dX7_init_180 ?_
  refine at_topi (fun z22 hz22 => ?_)
  have hz22 : z22 = 19 := by rw [hz22]; decide
  subst hz22
  refine at_iconst C dX7_init_181 ic_m1 ?_
  refine at_iastL (q0 := 4) (ws2 := [(a, .inr (7, [.int 0, .ref qq1, .int 0, .int 0, .int 0, .int 0, .int (-1), .int 0, .int 0, .int 0, .int 0, .int 0, .ref qq2, .ref qq3, .ref qq4, .ref qq5, .ref qq6, .ref qq7, .int 0, .ref qq8, .ref qq9, .int 0, .ref qq10, .ref qq11, .ref qq12, .ref qq13, .int 0, .int 0, .int 0, .ref qq14, .ref qq15, .ref qq16, .ref qq17, .ref qq18, .ref qq19])), (qq1, .inl (dA 0, (240, .inl (fun _ => 0)))), (qq2, .inl (dA 0, (27, .inl (fun _ => 0)))), (qq3, .inl (dA 0, (9, .inl (fun _ => 0)))), (qq4, .inl (dA 0, (49, .inl (upd (upd (fun _ => 0) 18 (-1)) 19 (-1))))), (qq5, .inl (dA 0, (98, .inl (fun _ => 0)))), (qq6, .inl (dA 1, (2, .inl (fun _ => 0)))), (qq7, .inl (dA 0, (784, .inl (fun _ => 0)))), (qq8, .inl (dA 0, (15, .inl (fun _ => 0)))), (qq9, .inl (dA 1, (15, .inl (fun _ => 0)))), (qq10, .inl (dA 0, (9, .inl (fun _ => 0)))), (qq11, .inl (dA 0, (9, .inl (fun _ => 0)))), (qq12, .inl (dA 0, (9, .inl (fun _ => 0)))), (qq13, .inl (dA 0, (9, .inl (fun _ => 0)))), (qq14, .inl (dA 0, (10, .inl (fun _ => 0)))), (qq15, .inl (dA 0, (10, .inl (fun _ => 0)))), (qq16, .inl (dA 0, (10, .inl (fun _ => 0)))), (qq17, .inl (dA 0, (512, .inl (fun _ => 0)))), (qq18, .inl (dA 0, (512, .inl (fun _ => 0)))), (qq19, .inl (dA 0, (512, .inl (fun _ => 0))))]) C rfl vk_19_49 tk_19 rfl dX7_init_182 ?_
  refine at_iinc (F := fun z_ => [(0, .ref a), (1, .int z_)]) C dX7_init_183 rfl ic_1 (Nat.le_of_ble_eq_true rfl) (fun _ => rfl) (fun z23 hz23 => ?_)
  have hz23 : z23 = 2 := by rw [hz23]; decide
  subst hz23
  refine at_goto (tgt := 167) C dX7_init_186 (by decide) ?_
  refine at_iload_n C dX7_init_167 rfl rfl ?_
  refine at_bipush C dX7_init_168 bp_9 ?_
  refine at_icmp_ge (tgt := 189) C dX7_init_170 (by decide) (fun h => absurd h (by decide)) (fun _ => ?_)
  refine at_aload_n C dX7_init_173 rfl rfl ?_
  refine at_getL (q0 := 0) (k := 14) (v := .ref qq4) C rfl rfl in_X7 (Nat.le_of_ble_eq_true rfl) q701 rfl dX7_init_174 ?_
  refine at_bipush C dX7_init_177 bp_18 ?_
  refine at_iload_n C dX7_init_179 rfl rfl ?_
  refine at_iadd C dX7_init_180 ?_
  refine at_topi (fun z24 hz24 => ?_)
  have hz24 : z24 = 20 := by rw [hz24]; decide
  subst hz24
  refine at_iconst C dX7_init_181 ic_m1 ?_
  refine at_iastL (q0 := 4) (ws2 := [(a, .inr (7, [.int 0, .ref qq1, .int 0, .int 0, .int 0, .int 0, .int (-1), .int 0, .int 0, .int 0, .int 0, .int 0, .ref qq2, .ref qq3, .ref qq4, .ref qq5, .ref qq6, .ref qq7, .int 0, .ref qq8, .ref qq9, .int 0, .ref qq10, .ref qq11, .ref qq12, .ref qq13, .int 0, .int 0, .int 0, .ref qq14, .ref qq15, .ref qq16, .ref qq17, .ref qq18, .ref qq19])), (qq1, .inl (dA 0, (240, .inl (fun _ => 0)))), (qq2, .inl (dA 0, (27, .inl (fun _ => 0)))), (qq3, .inl (dA 0, (9, .inl (fun _ => 0)))), (qq4, .inl (dA 0, (49, .inl (upd (upd (upd (fun _ => 0) 18 (-1)) 19 (-1)) 20 (-1))))), (qq5, .inl (dA 0, (98, .inl (fun _ => 0)))), (qq6, .inl (dA 1, (2, .inl (fun _ => 0)))), (qq7, .inl (dA 0, (784, .inl (fun _ => 0)))), (qq8, .inl (dA 0, (15, .inl (fun _ => 0)))), (qq9, .inl (dA 1, (15, .inl (fun _ => 0)))), (qq10, .inl (dA 0, (9, .inl (fun _ => 0)))), (qq11, .inl (dA 0, (9, .inl (fun _ => 0)))), (qq12, .inl (dA 0, (9, .inl (fun _ => 0)))), (qq13, .inl (dA 0, (9, .inl (fun _ => 0)))), (qq14, .inl (dA 0, (10, .inl (fun _ => 0)))), (qq15, .inl (dA 0, (10, .inl (fun _ => 0)))), (qq16, .inl (dA 0, (10, .inl (fun _ => 0)))), (qq17, .inl (dA 0, (512, .inl (fun _ => 0)))), (qq18, .inl (dA 0, (512, .inl (fun _ => 0)))), (qq19, .inl (dA 0, (512, .inl (fun _ => 0))))]) C rfl vk_20_49 tk_20 rfl dX7_init_182 ?_
  refine at_iinc (F := fun z_ => [(0, .ref a), (1, .int z_)]) C dX7_init_183 rfl ic_1 (Nat.le_of_ble_eq_true rfl) (fun _ => rfl) (fun z25 hz25 => ?_)
  have hz25 : z25 = 3 := by rw [hz25]; decide
  subst hz25
  refine at_goto (tgt := 167) C dX7_init_186 (by decide) ?_
  refine at_iload_n C dX7_init_167 rfl rfl ?_
  refine at_bipush C dX7_init_168 bp_9 ?_
  refine at_icmp_ge (tgt := 189) C dX7_init_170 (by decide) (fun h => absurd h (by decide)) (fun _ => ?_)
  refine at_aload_n C dX7_init_173 rfl rfl ?_
  refine at_getL (q0 := 0) (k := 14) (v := .ref qq4) C rfl rfl in_X7 (Nat.le_of_ble_eq_true rfl) q701 rfl dX7_init_174 ?_
  refine at_bipush C dX7_init_177 bp_18 ?_
  refine at_iload_n C dX7_init_179 rfl rfl ?_
  refine at_iadd C dX7_init_180 ?_
  refine at_topi (fun z26 hz26 => ?_)
  have hz26 : z26 = 21 := by rw [hz26]; decide
  subst hz26
  refine at_iconst C dX7_init_181 ic_m1 ?_
  refine at_iastL (q0 := 4) (ws2 := [(a, .inr (7, [.int 0, .ref qq1, .int 0, .int 0, .int 0, .int 0, .int (-1), .int 0, .int 0, .int 0, .int 0, .int 0, .ref qq2, .ref qq3, .ref qq4, .ref qq5, .ref qq6, .ref qq7, .int 0, .ref qq8, .ref qq9, .int 0, .ref qq10, .ref qq11, .ref qq12, .ref qq13, .int 0, .int 0, .int 0, .ref qq14, .ref qq15, .ref qq16, .ref qq17, .ref qq18, .ref qq19])), (qq1, .inl (dA 0, (240, .inl (fun _ => 0)))), (qq2, .inl (dA 0, (27, .inl (fun _ => 0)))), (qq3, .inl (dA 0, (9, .inl (fun _ => 0)))), (qq4, .inl (dA 0, (49, .inl (upd (upd (upd (upd (fun _ => 0) 18 (-1)) 19 (-1)) 20 (-1)) 21 (-1))))), (qq5, .inl (dA 0, (98, .inl (fun _ => 0)))), (qq6, .inl (dA 1, (2, .inl (fun _ => 0)))), (qq7, .inl (dA 0, (784, .inl (fun _ => 0)))), (qq8, .inl (dA 0, (15, .inl (fun _ => 0)))), (qq9, .inl (dA 1, (15, .inl (fun _ => 0)))), (qq10, .inl (dA 0, (9, .inl (fun _ => 0)))), (qq11, .inl (dA 0, (9, .inl (fun _ => 0)))), (qq12, .inl (dA 0, (9, .inl (fun _ => 0)))), (qq13, .inl (dA 0, (9, .inl (fun _ => 0)))), (qq14, .inl (dA 0, (10, .inl (fun _ => 0)))), (qq15, .inl (dA 0, (10, .inl (fun _ => 0)))), (qq16, .inl (dA 0, (10, .inl (fun _ => 0)))), (qq17, .inl (dA 0, (512, .inl (fun _ => 0)))), (qq18, .inl (dA 0, (512, .inl (fun _ => 0)))), (qq19, .inl (dA 0, (512, .inl (fun _ => 0))))]) C rfl vk_21_49 tk_21 rfl dX7_init_182 ?_
  refine at_iinc (F := fun z_ => [(0, .ref a), (1, .int z_)]) C dX7_init_183 rfl ic_1 (Nat.le_of_ble_eq_true rfl) (fun _ => rfl) (fun z27 hz27 => ?_)
  have hz27 : z27 = 4 := by rw [hz27]; decide
  subst hz27
  refine at_goto (tgt := 167) C dX7_init_186 (by decide) ?_
  refine at_iload_n C dX7_init_167 rfl rfl ?_
  refine at_bipush C dX7_init_168 bp_9 ?_
  refine at_icmp_ge (tgt := 189) C dX7_init_170 (by decide) (fun h => absurd h (by decide)) (fun _ => ?_)
  refine at_aload_n C dX7_init_173 rfl rfl ?_
  refine at_getL (q0 := 0) (k := 14) (v := .ref qq4) C rfl rfl in_X7 (Nat.le_of_ble_eq_true rfl) q701 rfl dX7_init_174 ?_
  refine at_bipush C dX7_init_177 bp_18 ?_
  refine at_iload_n C dX7_init_179 rfl rfl ?_
  refine at_iadd C dX7_init_180 ?_
  refine at_topi (fun z28 hz28 => ?_)
  have hz28 : z28 = 22 := by rw [hz28]; decide
  subst hz28
  refine at_iconst C dX7_init_181 ic_m1 ?_
  refine at_iastL (q0 := 4) (ws2 := [(a, .inr (7, [.int 0, .ref qq1, .int 0, .int 0, .int 0, .int 0, .int (-1), .int 0, .int 0, .int 0, .int 0, .int 0, .ref qq2, .ref qq3, .ref qq4, .ref qq5, .ref qq6, .ref qq7, .int 0, .ref qq8, .ref qq9, .int 0, .ref qq10, .ref qq11, .ref qq12, .ref qq13, .int 0, .int 0, .int 0, .ref qq14, .ref qq15, .ref qq16, .ref qq17, .ref qq18, .ref qq19])), (qq1, .inl (dA 0, (240, .inl (fun _ => 0)))), (qq2, .inl (dA 0, (27, .inl (fun _ => 0)))), (qq3, .inl (dA 0, (9, .inl (fun _ => 0)))), (qq4, .inl (dA 0, (49, .inl (upd (upd (upd (upd (upd (fun _ => 0) 18 (-1)) 19 (-1)) 20 (-1)) 21 (-1)) 22 (-1))))), (qq5, .inl (dA 0, (98, .inl (fun _ => 0)))), (qq6, .inl (dA 1, (2, .inl (fun _ => 0)))), (qq7, .inl (dA 0, (784, .inl (fun _ => 0)))), (qq8, .inl (dA 0, (15, .inl (fun _ => 0)))), (qq9, .inl (dA 1, (15, .inl (fun _ => 0)))), (qq10, .inl (dA 0, (9, .inl (fun _ => 0)))), (qq11, .inl (dA 0, (9, .inl (fun _ => 0)))), (qq12, .inl (dA 0, (9, .inl (fun _ => 0)))), (qq13, .inl (dA 0, (9, .inl (fun _ => 0)))), (qq14, .inl (dA 0, (10, .inl (fun _ => 0)))), (qq15, .inl (dA 0, (10, .inl (fun _ => 0)))), (qq16, .inl (dA 0, (10, .inl (fun _ => 0)))), (qq17, .inl (dA 0, (512, .inl (fun _ => 0)))), (qq18, .inl (dA 0, (512, .inl (fun _ => 0)))), (qq19, .inl (dA 0, (512, .inl (fun _ => 0))))]) C rfl vk_22_49 tk_22 rfl dX7_init_182 ?_
  refine at_iinc (F := fun z_ => [(0, .ref a), (1, .int z_)]) C dX7_init_183 rfl ic_1 (Nat.le_of_ble_eq_true rfl) (fun _ => rfl) (fun z29 hz29 => ?_)
  have hz29 : z29 = 5 := by rw [hz29]; decide
  subst hz29
  refine at_goto (tgt := 167) C dX7_init_186 (by decide) ?_
  refine at_iload_n C dX7_init_167 rfl rfl ?_
  refine at_bipush C dX7_init_168 bp_9 ?_
  refine at_icmp_ge (tgt := 189) C dX7_init_170 (by decide) (fun h => absurd h (by decide)) (fun _ => ?_)
  refine at_aload_n C dX7_init_173 rfl rfl ?_
  refine at_getL (q0 := 0) (k := 14) (v := .ref qq4) C rfl rfl in_X7 (Nat.le_of_ble_eq_true rfl) q701 rfl dX7_init_174 ?_
  refine at_bipush C dX7_init_177 bp_18 ?_
  refine at_iload_n C dX7_init_179 rfl rfl ?_
  refine at_iadd C dX7_init_180 ?_
  refine at_topi (fun z30 hz30 => ?_)
  have hz30 : z30 = 23 := by rw [hz30]; decide
  subst hz30
  refine at_iconst C dX7_init_181 ic_m1 ?_
  refine at_iastL (q0 := 4) (ws2 := [(a, .inr (7, [.int 0, .ref qq1, .int 0, .int 0, .int 0, .int 0, .int (-1), .int 0, .int 0, .int 0, .int 0, .int 0, .ref qq2, .ref qq3, .ref qq4, .ref qq5, .ref qq6, .ref qq7, .int 0, .ref qq8, .ref qq9, .int 0, .ref qq10, .ref qq11, .ref qq12, .ref qq13, .int 0, .int 0, .int 0, .ref qq14, .ref qq15, .ref qq16, .ref qq17, .ref qq18, .ref qq19])), (qq1, .inl (dA 0, (240, .inl (fun _ => 0)))), (qq2, .inl (dA 0, (27, .inl (fun _ => 0)))), (qq3, .inl (dA 0, (9, .inl (fun _ => 0)))), (qq4, .inl (dA 0, (49, .inl (upd (upd (upd (upd (upd (upd (fun _ => 0) 18 (-1)) 19 (-1)) 20 (-1)) 21 (-1)) 22 (-1)) 23 (-1))))), (qq5, .inl (dA 0, (98, .inl (fun _ => 0)))), (qq6, .inl (dA 1, (2, .inl (fun _ => 0)))), (qq7, .inl (dA 0, (784, .inl (fun _ => 0)))), (qq8, .inl (dA 0, (15, .inl (fun _ => 0)))), (qq9, .inl (dA 1, (15, .inl (fun _ => 0)))), (qq10, .inl (dA 0, (9, .inl (fun _ => 0)))), (qq11, .inl (dA 0, (9, .inl (fun _ => 0)))), (qq12, .inl (dA 0, (9, .inl (fun _ => 0)))), (qq13, .inl (dA 0, (9, .inl (fun _ => 0)))), (qq14, .inl (dA 0, (10, .inl (fun _ => 0)))), (qq15, .inl (dA 0, (10, .inl (fun _ => 0)))), (qq16, .inl (dA 0, (10, .inl (fun _ => 0)))), (qq17, .inl (dA 0, (512, .inl (fun _ => 0)))), (qq18, .inl (dA 0, (512, .inl (fun _ => 0)))), (qq19, .inl (dA 0, (512, .inl (fun _ => 0))))]) C rfl vk_23_49 tk_23 rfl dX7_init_182 ?_
  refine at_iinc (F := fun z_ => [(0, .ref a), (1, .int z_)]) C dX7_init_183 rfl ic_1 (Nat.le_of_ble_eq_true rfl) (fun _ => rfl) (fun z31 hz31 => ?_)
  have hz31 : z31 = 6 := by rw [hz31]; decide
  subst hz31
  refine at_goto (tgt := 167) C dX7_init_186 (by decide) ?_
  refine at_iload_n C dX7_init_167 rfl rfl ?_
  refine at_bipush C dX7_init_168 bp_9 ?_
  refine at_icmp_ge (tgt := 189) C dX7_init_170 (by decide) (fun h => absurd h (by decide)) (fun _ => ?_)
  refine at_aload_n C dX7_init_173 rfl rfl ?_
  refine at_getL (q0 := 0) (k := 14) (v := .ref qq4) C rfl rfl in_X7 (Nat.le_of_ble_eq_true rfl) q701 rfl dX7_init_174 ?_
  refine at_bipush C dX7_init_177 bp_18 ?_
  refine at_iload_n C dX7_init_179 rfl rfl ?_
  refine at_iadd C dX7_init_180 ?_
  refine at_topi (fun z32 hz32 => ?_)
  have hz32 : z32 = 24 := by rw [hz32]; decide
  subst hz32
  refine at_iconst C dX7_init_181 ic_m1 ?_
  refine at_iastL (q0 := 4) (ws2 := [(a, .inr (7, [.int 0, .ref qq1, .int 0, .int 0, .int 0, .int 0, .int (-1), .int 0, .int 0, .int 0, .int 0, .int 0, .ref qq2, .ref qq3, .ref qq4, .ref qq5, .ref qq6, .ref qq7, .int 0, .ref qq8, .ref qq9, .int 0, .ref qq10, .ref qq11, .ref qq12, .ref qq13, .int 0, .int 0, .int 0, .ref qq14, .ref qq15, .ref qq16, .ref qq17, .ref qq18, .ref qq19])), (qq1, .inl (dA 0, (240, .inl (fun _ => 0)))), (qq2, .inl (dA 0, (27, .inl (fun _ => 0)))), (qq3, .inl (dA 0, (9, .inl (fun _ => 0)))), (qq4, .inl (dA 0, (49, .inl (upd (upd (upd (upd (upd (upd (upd (fun _ => 0) 18 (-1)) 19 (-1)) 20 (-1)) 21 (-1)) 22 (-1)) 23 (-1)) 24 (-1))))), (qq5, .inl (dA 0, (98, .inl (fun _ => 0)))), (qq6, .inl (dA 1, (2, .inl (fun _ => 0)))), (qq7, .inl (dA 0, (784, .inl (fun _ => 0)))), (qq8, .inl (dA 0, (15, .inl (fun _ => 0)))), (qq9, .inl (dA 1, (15, .inl (fun _ => 0)))), (qq10, .inl (dA 0, (9, .inl (fun _ => 0)))), (qq11, .inl (dA 0, (9, .inl (fun _ => 0)))), (qq12, .inl (dA 0, (9, .inl (fun _ => 0)))), (qq13, .inl (dA 0, (9, .inl (fun _ => 0)))), (qq14, .inl (dA 0, (10, .inl (fun _ => 0)))), (qq15, .inl (dA 0, (10, .inl (fun _ => 0)))), (qq16, .inl (dA 0, (10, .inl (fun _ => 0)))), (qq17, .inl (dA 0, (512, .inl (fun _ => 0)))), (qq18, .inl (dA 0, (512, .inl (fun _ => 0)))), (qq19, .inl (dA 0, (512, .inl (fun _ => 0))))]) C rfl vk_24_49 tk_24 rfl dX7_init_182 ?_
  refine at_iinc (F := fun z_ => [(0, .ref a), (1, .int z_)]) C dX7_init_183 rfl ic_1 (Nat.le_of_ble_eq_true rfl) (fun _ => rfl) (fun z33 hz33 => ?_)
  have hz33 : z33 = 7 := by rw [hz33]; decide
  subst hz33
  refine at_goto (tgt := 167) C dX7_init_186 (by decide) ?_
  refine at_iload_n C dX7_init_167 rfl rfl ?_
  refine at_bipush C dX7_init_168 bp_9 ?_
  refine at_icmp_ge (tgt := 189) C dX7_init_170 (by decide) (fun h => absurd h (by decide)) (fun _ => ?_)
  refine at_aload_n C dX7_init_173 rfl rfl ?_
  refine at_getL (q0 := 0) (k := 14) (v := .ref qq4) C rfl rfl in_X7 (Nat.le_of_ble_eq_true rfl) q701 rfl dX7_init_174 ?_
  refine at_bipush C dX7_init_177 bp_18 ?_
  refine at_iload_n C dX7_init_179 rfl rfl ?_
  refine at_iadd C dX7_init_180 ?_
  refine at_topi (fun z34 hz34 => ?_)
  have hz34 : z34 = 25 := by rw [hz34]; decide
  subst hz34
  refine at_iconst C dX7_init_181 ic_m1 ?_
  refine at_iastL (q0 := 4) (ws2 := [(a, .inr (7, [.int 0, .ref qq1, .int 0, .int 0, .int 0, .int 0, .int (-1), .int 0, .int 0, .int 0, .int 0, .int 0, .ref qq2, .ref qq3, .ref qq4, .ref qq5, .ref qq6, .ref qq7, .int 0, .ref qq8, .ref qq9, .int 0, .ref qq10, .ref qq11, .ref qq12, .ref qq13, .int 0, .int 0, .int 0, .ref qq14, .ref qq15, .ref qq16, .ref qq17, .ref qq18, .ref qq19])), (qq1, .inl (dA 0, (240, .inl (fun _ => 0)))), (qq2, .inl (dA 0, (27, .inl (fun _ => 0)))), (qq3, .inl (dA 0, (9, .inl (fun _ => 0)))), (qq4, .inl (dA 0, (49, .inl (upd (upd (upd (upd (upd (upd (upd (upd (fun _ => 0) 18 (-1)) 19 (-1)) 20 (-1)) 21 (-1)) 22 (-1)) 23 (-1)) 24 (-1)) 25 (-1))))), (qq5, .inl (dA 0, (98, .inl (fun _ => 0)))), (qq6, .inl (dA 1, (2, .inl (fun _ => 0)))), (qq7, .inl (dA 0, (784, .inl (fun _ => 0)))), (qq8, .inl (dA 0, (15, .inl (fun _ => 0)))), (qq9, .inl (dA 1, (15, .inl (fun _ => 0)))), (qq10, .inl (dA 0, (9, .inl (fun _ => 0)))), (qq11, .inl (dA 0, (9, .inl (fun _ => 0)))), (qq12, .inl (dA 0, (9, .inl (fun _ => 0)))), (qq13, .inl (dA 0, (9, .inl (fun _ => 0)))), (qq14, .inl (dA 0, (10, .inl (fun _ => 0)))), (qq15, .inl (dA 0, (10, .inl (fun _ => 0)))), (qq16, .inl (dA 0, (10, .inl (fun _ => 0)))), (qq17, .inl (dA 0, (512, .inl (fun _ => 0)))), (qq18, .inl (dA 0, (512, .inl (fun _ => 0)))), (qq19, .inl (dA 0, (512, .inl (fun _ => 0))))]) C rfl vk_25_49 tk_25 rfl dX7_init_182 ?_
  refine at_iinc (F := fun z_ => [(0, .ref a), (1, .int z_)]) C dX7_init_183 rfl ic_1 (Nat.le_of_ble_eq_true rfl) (fun _ => rfl) (fun z35 hz35 => ?_)
  have hz35 : z35 = 8 := by rw [hz35]; decide
  subst hz35
  refine at_goto (tgt := 167) C dX7_init_186 (by decide) ?_
  refine at_iload_n C dX7_init_167 rfl rfl ?_
  refine at_bipush C dX7_init_168 bp_9 ?_
  refine at_icmp_ge (tgt := 189) C dX7_init_170 (by decide) (fun h => absurd h (by decide)) (fun _ => ?_)
  refine at_aload_n C dX7_init_173 rfl rfl ?_
  refine at_getL (q0 := 0) (k := 14) (v := .ref qq4) C rfl rfl in_X7 (Nat.le_of_ble_eq_true rfl) q701 rfl dX7_init_174 ?_
  refine at_bipush C dX7_init_177 bp_18 ?_
  refine at_iload_n C dX7_init_179 rfl rfl ?_
  refine at_iadd C dX7_init_180 ?_
  refine at_topi (fun z36 hz36 => ?_)
  have hz36 : z36 = 26 := by rw [hz36]; decide
  subst hz36
  refine at_iconst C dX7_init_181 ic_m1 ?_
  refine at_iastL (q0 := 4) (ws2 := [(a, .inr (7, [.int 0, .ref qq1, .int 0, .int 0, .int 0, .int 0, .int (-1), .int 0, .int 0, .int 0, .int 0, .int 0, .ref qq2, .ref qq3, .ref qq4, .ref qq5, .ref qq6, .ref qq7, .int 0, .ref qq8, .ref qq9, .int 0, .ref qq10, .ref qq11, .ref qq12, .ref qq13, .int 0, .int 0, .int 0, .ref qq14, .ref qq15, .ref qq16, .ref qq17, .ref qq18, .ref qq19])), (qq1, .inl (dA 0, (240, .inl (fun _ => 0)))), (qq2, .inl (dA 0, (27, .inl (fun _ => 0)))), (qq3, .inl (dA 0, (9, .inl (fun _ => 0)))), (qq4, .inl (dA 0, (49, .inl (upd (upd (upd (upd (upd (upd (upd (upd (upd (fun _ => 0) 18 (-1)) 19 (-1)) 20 (-1)) 21 (-1)) 22 (-1)) 23 (-1)) 24 (-1)) 25 (-1)) 26 (-1))))), (qq5, .inl (dA 0, (98, .inl (fun _ => 0)))), (qq6, .inl (dA 1, (2, .inl (fun _ => 0)))), (qq7, .inl (dA 0, (784, .inl (fun _ => 0)))), (qq8, .inl (dA 0, (15, .inl (fun _ => 0)))), (qq9, .inl (dA 1, (15, .inl (fun _ => 0)))), (qq10, .inl (dA 0, (9, .inl (fun _ => 0)))), (qq11, .inl (dA 0, (9, .inl (fun _ => 0)))), (qq12, .inl (dA 0, (9, .inl (fun _ => 0)))), (qq13, .inl (dA 0, (9, .inl (fun _ => 0)))), (qq14, .inl (dA 0, (10, .inl (fun _ => 0)))), (qq15, .inl (dA 0, (10, .inl (fun _ => 0)))), (qq16, .inl (dA 0, (10, .inl (fun _ => 0)))), (qq17, .inl (dA 0, (512, .inl (fun _ => 0)))), (qq18, .inl (dA 0, (512, .inl (fun _ => 0)))), (qq19, .inl (dA 0, (512, .inl (fun _ => 0))))]) C rfl vk_26_49 tk_26 rfl dX7_init_182 ?_
  refine at_iinc (F := fun z_ => [(0, .ref a), (1, .int z_)]) C dX7_init_183 rfl ic_1 (Nat.le_of_ble_eq_true rfl) (fun _ => rfl) (fun z37 hz37 => ?_)
  have hz37 : z37 = 9 := by rw [hz37]; decide
  subst hz37
  refine at_goto (tgt := 167) C dX7_init_186 (by decide) ?_
  refine at_iload_n C dX7_init_167 rfl rfl ?_
  refine at_bipush C dX7_init_168 bp_9 ?_
  refine at_icmp_ge (tgt := 189) C dX7_init_170 (by decide) (fun _ => ?_) (fun h => absurd (by decide) h)
  exact at_eq rfl (at_vretL (u := (fun k => [qq1, qq2, qq3, qq4, qq5, qq6, qq7, qq8, qq9, qq10, qq11, qq12, qq13, qq14, qq15, qq16, qq17, qq18, qq19].getD k 0)) C rfl trivial dX7_init_189)

end GCtor
