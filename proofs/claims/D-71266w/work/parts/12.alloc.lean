/-! worlds as lists: making cells, calls on a part of the world -/
set_option maxRecDepth 100000
theorem gp_l {D : va_G} {cl : List vw_C} {a b : va_W} {H : Heap} (h : va_P D cl (a ++ b) H) : va_P D cl a H := fun k q hk => h k q (by
  have hl := (List.getElem?_eq_some_iff.mp hk).1
  rw [List.getElem?_append_left hl]; exact hk)
theorem gp_r {D : va_G} {cl : List vw_C} {a b : va_W} {H : Heap} (h : va_P D cl (a ++ b) H) : va_P D cl b H := fun k q hk => h (a.length + k) q (by
  rw [List.getElem?_append_right (by omega), show a.length + k - a.length = k by omega]; exact hk)
def gApart (a b : va_W) : Prop := ∀ (i j : Nat) (p q : Nat × va_E), a[i]? = some p → b[j]? = some q → p.1 ≠ q.1
theorem gd_l {A : Nat → Prop} {a b : va_W} (h : va_D A (a ++ b)) : va_D A a := by
  refine ⟨fun i j p q hi hj e => h.1 i j p q ?_ ?_ e, fun k q hk => h.2 k q ?_⟩
  · rw [List.getElem?_append_left (List.getElem?_eq_some_iff.mp hi).1]; exact hi
  · rw [List.getElem?_append_left (List.getElem?_eq_some_iff.mp hj).1]; exact hj
  · rw [List.getElem?_append_left (List.getElem?_eq_some_iff.mp hk).1]; exact hk
theorem gd_r {A : Nat → Prop} {a b : va_W} (h : va_D A (a ++ b)) : va_D A b := by
  have sh : ∀ (i : Nat) (p : Nat × va_E), b[i]? = some p → (a ++ b)[a.length + i]? = some p := fun i p hi => by
    rw [List.getElem?_append_right (by omega), show a.length + i - a.length = i by omega]; exact hi
  refine ⟨fun i j p q hi hj e => ?_, fun k q hk => h.2 _ q (sh k q hk)⟩
  have := h.1 _ _ p q (sh i p hi) (sh j q hj) e
  omega
theorem gd_a {A : Nat → Prop} {a b : va_W} (h : va_D A (a ++ b)) : gApart a b := by
  intro i j p q hi hj e
  have hl := (List.getElem?_eq_some_iff.mp hi).1
  have := h.1 i (a.length + j) p q (by rw [List.getElem?_append_left hl]; exact hi) (by rw [List.getElem?_append_right (by omega), show a.length + j - a.length = j by omega]; exact hj) e
  omega
theorem gp_keep {D : va_G} {cl : List vw_C} {wr wc : va_W} {H H1 : Heap} {A1 : Nat → Prop} (hP : va_P D cl wr H) (ha : gApart wr wc) (hk : ∀ q : Nat, q < H.size → ¬ A1 q → H1[q]? = H[q]?) (hA : ∀ q, A1 q → va_A wc H.size q) : va_P D cl wr H1 := by
  refine hP.kept fun k q hq => ?_
  have hl := (hP k q hq).lt
  refine hk q.1 hl fun h => ?_
  rcases hA _ h with ⟨j, e, hj⟩ | h
  · exact ha k j q _ hq hj rfl
  · omega
theorem ga_new {D : va_G} {cl : List vw_C} {wr wc w1 : va_W} {H : Heap} (hP : va_P D cl wr H) (ha : gApart wr wc) (hD : va_D (va_A wc H.size) w1) : gApart wr w1 := by
  intro i j p q hi hj e
  have hl := (hP i p hi).lt
  rcases hD.2 j q hj with ⟨k, e2, hk⟩ | h
  · exact ha i k p _ hi hk e
  · omega
theorem ga_comm {a b : va_W} (h : gApart a b) : gApart b a := fun i j p q hi hj e => h j i q p hj hi e.symm
theorem gAA {dA : Nat → ClassId} {N : Nat} {ad : Nat → Nat} {lay : Nat → gD} {w : GW} {sz : Nat} : ∀ q, gA N ad q → va_A (gW dA N ad lay w) sz q := by
  rintro q ⟨k, hk, rfl⟩
  exact Or.inl ⟨k, _, gW_get hk⟩
theorem va_A_in {A : Nat → Prop} {wc : va_W} {sz H0 : Nat} (hD : va_D A wc) (hA : ∀ q, H0 ≤ q → A q) (hs : H0 ≤ sz) : ∀ q, va_A wc sz q → A q := by
  rintro q (⟨k, e, h⟩ | h)
  · exact hD.2 k _ h
  · exact hA q (Nat.le_trans hs h)
section GAlloc
variable {p : Program} {l : Launch} {e : Env} {R : Room} {s : State} {m : MethodId} {args : Array Value} {below : List Frame} {meth : Method} {c : Code} {D : va_G} {dA : Nat → ClassId} {A : Nat → Prop} {QQ : State → Prop} {cc : ByteArray} {nL kc ks pc : Nat} {rt : Option FieldType} {own : String} {L : List (Nat × Value)} {st rest : List Value} {ws wr wc : va_W}
theorem at_eq {ws2 : va_W} (h : ws = ws2) (kk : gAt p l e R s m args below meth c D A QQ nL kc ks pc L st ws2) : gAt p l e R s m args below meth c D A QQ nL kc ks pc L st ws := by rw [h]; exact kk
theorem at_wid {k n : Nat} (h1 : kc ≤ k) (h2 : ks ≤ n) (kk : gAt p l e R s m args below meth c D A QQ nL k n pc L st ws) : gAt p l e R s m args below meth c D A QQ nL kc ks pc L st ws := fun H locs ls hP hD hS hl => W.widen h1 h2 (kk H locs ls hP hD hS hl)
theorem at_getL (C : Cx p s m args meth c D dA cc nL rt own) {Cn : String} {T : u_T} {NN ci idx k q0 a : Nat} {fs : List Value} {v : Value} (he : ws[q0]? = some (a, .inr (ci, fs))) (hc : gCl[ci]? = some (Cn, T, NN)) (hin : ∀ w ∈ u_ws Cn T NN, w ∈ lw_all) (hk : k < NN) (hw : Cond.fieldLink own idx (T k).1 (T k).2.1 (T k).2.2.1 ∈ lw_all) (hv : fs[k]? = some v) (hd : decode cc pc = .ok (.getfield idx, 3)) (kk : gAt p l e R s m args below meth c D A QQ nL kc ks (pc + 3) L (v :: st) ws) : gAt p l e R s m args below meth c D A QQ nL kc ks pc L (.ref a :: st) ws :=
  fun H locs ls hP hD hS hl => va_get C.1 C.2.1 C.2.2.2.2.2.2.1 hin C.2.2.2.2.2.1 C.2.2.2.2.2.2.2.1 hP q0 he hc k hk (C.2.2.2.2.2.2.1 _ hw) (fun _ h => h) hv hd (kk H locs ls hP hD hS hl)
theorem at_getLN (C : Cx p s m args meth c D dA cc nL rt own) {host : String} {Cn : String} {T : u_T} {NN ci idx k q0 a : Nat} {fs : List Value} {v : Value} (he : ws[q0]? = some (a, .inr (ci, fs))) (hc : gCl[ci]? = some (Cn, T, NN)) (hin : ∀ w ∈ u_ws Cn T NN, w ∈ lw_all) (hk : k < NN) (hw : Cond.fieldLinkNest own idx (T k).1 (T k).2.1 (T k).2.2.1 host ∈ lw_tbl) (hv : fs[k]? = some v) (hd : decode cc pc = .ok (.getfield idx, 3)) (kk : gAt p l e R s m args below meth c D A QQ nL kc ks (pc + 3) L (v :: st) ws) : gAt p l e R s m args below meth c D A QQ nL kc ks pc L (.ref a :: st) ws :=
  fun H locs ls hP hD hS hl => va_getN C.1 C.2.1 C.2.2.2.2.2.2.1 hin C.2.2.2.2.2.1 C.2.2.2.2.2.2.2.1 hP q0 he hc k hk (va_Nw.use rfl (C.2.2.2.2.2.2.2.2.1 _ (gNw_in hw rfl))) (fun _ h => h) hv hd (kk H locs ls hP hD hS hl)
theorem at_putL (C : Cx p s m args meth c D dA cc nL rt own) {Cn : String} {T : u_T} {NN ci idx k q0 a : Nat} {fs : List Value} {v : Value} {ws2 : va_W} (he : ws[q0]? = some (a, .inr (ci, fs))) (hc : gCl[ci]? = some (Cn, T, NN)) (hin : ∀ w ∈ u_ws Cn T NN, w ∈ lw_all) (hk : k < NN) (hw : Cond.fieldLink own idx (T k).1 (T k).2.1 (T k).2.2.1 ∈ lw_all) (ty0 : Nat → FieldType) (hty : ∀ k, k < NN → parseFieldDescriptor (T k).2.2.1 = some (ty0 k)) (hnm : ∀ a, a < NN → ∀ b, b < NN → a ≠ b → (T a).2.1 ≠ (T b).2.1) (hfin : (T k).2.2.2 = false) (hn : narrow (ty0 k) v = v) (hfit : fits (ty0 k) v = true) (hl : k < fs.length) (hs : ws.set q0 (a, .inr (ci, fs.set k v)) = ws2) (hd : decode cc pc = .ok (.putfield idx, 3)) (kk : gAt p l e R s m args below meth c D A QQ nL kc ks (pc + 3) L st ws2) : gAt p l e R s m args below meth c D A QQ nL kc ks pc L (v :: .ref a :: st) ws :=
  fun H locs ls hP hD hS hl0 => va_put C.1 C.2.1 C.2.2.2.2.2.2.1 hin ty0 hty hnm C.2.2.2.2.2.1 C.2.2.2.2.2.2.2.1 hP hD hS q0 he hc k hk (C.2.2.2.2.2.2.1 _ hw) (fun _ h => h) hfin (hty k hk) hn hfit hl hd (fun H1 locs1 hP1 hD1 hS1 => kk H1 locs1 ls (by rw [← hs]; exact hP1) (by rw [← hs]; exact hD1) hS1 hl0)
theorem at_putFL (C : Cx p s m args meth c D dA cc nL rt own) {Cn : String} {T : u_T} {NN ci idx k q0 a : Nat} {fs : List Value} {v : Value} {ws2 : va_W} (hinit : meth.name = "<init>") (he : ws[q0]? = some (a, .inr (ci, fs))) (hc : gCl[ci]? = some (Cn, T, NN)) (hin : ∀ w ∈ u_ws Cn T NN, w ∈ lw_all) (hk : k < NN) (hw : Cond.fieldLink own idx (T k).1 (T k).2.1 (T k).2.2.1 ∈ lw_all) (ty0 : Nat → FieldType) (hty : ∀ k, k < NN → parseFieldDescriptor (T k).2.2.1 = some (ty0 k)) (hnm : ∀ a, a < NN → ∀ b, b < NN → a ≠ b → (T a).2.1 ≠ (T b).2.1) (hfin : (T k).2.2.2 = true) (hdecl : (T k).1 = own) (hn : narrow (ty0 k) v = v) (hfit : fits (ty0 k) v = true) (hl : k < fs.length) (hs : ws.set q0 (a, .inr (ci, fs.set k v)) = ws2) (hd : decode cc pc = .ok (.putfield idx, 3)) (kk : gAt p l e R s m args below meth c D A QQ nL kc ks (pc + 3) L st ws2) : gAt p l e R s m args below meth c D A QQ nL kc ks pc L (v :: .ref a :: st) ws :=
  fun H locs ls hP hD hS hl0 => va_putF C.1 C.2.1 C.2.2.2.2.2.2.1 hin ty0 hty hnm C.2.2.2.2.2.1 C.2.2.2.2.2.2.2.1 hP hD hS q0 he hc k hk (C.2.2.2.2.2.2.1 _ hw) (fun _ h => h) hfin hinit hdecl (hty k hk) hn hfit hl hd (fun H1 locs1 hP1 hD1 hS1 => kk H1 locs1 ls (by rw [← hs]; exact hP1) (by rw [← hs]; exact hD1) hS1 hl0)
theorem at_newL (C : Cx p s m args meth c D dA cc nL rt own) (hA : ∀ q, s.heap.size ≤ q → A q) {Cn : String} {T : u_T} {NN ci idx : Nat} {fs : List Value} (hc : gCl[ci]? = some (Cn, T, NN)) (hin : ∀ w ∈ u_ws Cn T NN, w ∈ lw_all) (ty0 : Nat → FieldType) (hty : ∀ k, k < NN → parseFieldDescriptor (T k).2.2.1 = some (ty0 k)) (h1 : Cond.classLink own idx Cn ∈ lw_all) (h2 : Cond.instantiable Cn NN ∈ lw_all) (h3 : Cond.initialized Cn ∈ lw_all) (hfs : ∀ j, j < NN → defaultValue (ty0 j) = vp_V fs j) (hcells : kc + 1 ≤ R.cells) (hslots : ks + NN ≤ R.slots) (hd : decode cc pc = .ok (.new idx, 3)) (kk : ∀ q, gAt p l e R s m args below meth c D A QQ nL (kc + 1) (ks + NN) (pc + 3) L (.ref q :: st) (ws ++ [(q, .inr (ci, fs))])) : gAt p l e R s m args below meth c D A QQ nL kc ks pc L st ws :=
  fun H locs ls hP hD hS hl0 => va_new C.1 C.2.1 C.2.2.2.2.2.2.1 hin ty0 hty C.2.2.2.2.2.1 (C.2.2.2.2.2.2.1 _ h1) (C.2.2.2.2.2.2.1 _ h2) (C.2.2.2.2.2.2.1 _ h3) C.2.2.2.2.2.2.2.1 hP hD hS hA hc hfs hcells hslots hd (fun q H1 hP1 hD1 hS1 => kk q H1 locs ls hP1 hD1 hS1 hl0)
theorem va_RA_nm {U : State} {cA : ClassId} {ty : FieldType} (h : va_RA U cA ty) : U.vm.findClass ("[" ++ ty.toString) = some cA := by
  cases ty with
  | object C => obtain ⟨_, _, _, _, _, h4⟩ := h; exact h4
  | _ => exact h
theorem gK_cA {tys : List (ClassId × FieldType)} {cA : ClassId} {ty : FieldType} {t : Nat} (hK : va_K D gCl (gT dA) s) (ht : (gT dA)[t]? = some (dA t, ty)) (hK1 : va_K D gCl (tys ++ [(cA, ty)]) s) : cA = dA t := by
  have h1 := va_RA_nm (hK.2 t _ ht).2
  have h2 := va_RA_nm (hK1.2 tys.length (cA, ty) (by rw [List.getElem?_append_right (Nat.le_refl _)]; simp)).2
  exact Option.some.inj (h2.symm.trans h1)
theorem at_newaL (C : Cx p s m args meth c D dA cc nL rt own) (hA : ∀ q, s.heap.size ≤ q → A q) {atype : ArrayType} {ty : FieldType} (t : Nat) (ht : (gT dA)[t]? = some (dA t, ty)) (hty : newarray.typeOf atype = ty) (h1 : Cond.arrayClass ty ∈ lw_all) {n : Int32} {N' : Nat} (ha : ∀ cA : ClassId, vp_cell cA (N', .inl (fun _ => 0)) = arrV cA N' (fun _ => defaultValue ty)) (hn : ¬ n < 0) (hN : n.toNatClampNeg = N') (hbytes : N' * componentBytes ty ≤ 536870912) (hcells : kc + 1 ≤ R.cells) (hslots : ks + N' ≤ R.slots) (hd : decode cc pc = .ok (.newarray atype, 2)) (kk : ∀ q, gAt p l e R s m args below meth c D A QQ nL (kc + 1) (ks + N') (pc + 2) L (.ref q :: st) (ws ++ [(q, .inl (dA t, (N', .inl (fun _ => 0))))])) : gAt p l e R s m args below meth c D A QQ nL kc ks pc L (.int n :: st) ws :=
  fun H locs ls hP hD hS hl0 => va_newa C.1 C.2.1 (by rw [hty]; exact C.2.2.2.2.2.2.1 _ h1) hty C.2.2.2.2.2.2.2.1 hP hD hS hA ha hn hN hbytes hcells hslots hd (fun q cA H1 hK1 hP1 hD1 hS1 => by
    have := gK_cA C.2.2.2.2.2.2.2.1 ht hK1
    subst this
    exact kk q H1 locs ls hP1 hD1 hS1 hl0)
theorem at_newqL (C : Cx p s m args meth c D dA cc nL rt own) (hA : ∀ q, s.heap.size ≤ q → A q) {Cn : String} {idx : Nat} (t : Nat) (ht : (gT dA)[t]? = some (dA t, .object Cn)) (h1 : Cond.classLink own idx Cn ∈ lw_all) (hao : va_AO Cn s) {n : Int32} {N' : Nat} (hn : ¬ n < 0) (hN : n.toNatClampNeg = N') (hbytes : N' * 4 ≤ 536870912) (hcells : kc + 1 ≤ R.cells) (hslots : ks + N' ≤ R.slots) (hd : decode cc pc = .ok (.anewarray idx, 3)) (kk : ∀ q, gAt p l e R s m args below meth c D A QQ nL (kc + 1) (ks + N') (pc + 3) L (.ref q :: st) (ws ++ [(q, .inl (dA t, (N', .inr (.inr (.inr (.inr (fun _ => none)))))))])) : gAt p l e R s m args below meth c D A QQ nL kc ks pc L (.int n :: st) ws :=
  fun H locs ls hP hD hS hl0 => va_newq C.1 C.2.1 C.2.2.2.2.2.1 (C.2.2.2.2.2.2.1 _ h1) hao C.2.2.2.2.2.2.2.1 hP hD hS hA hn hN hbytes hcells hslots hd (fun q cA H1 hK1 hP1 hD1 hS1 => by
    have := gK_cA C.2.2.2.2.2.2.2.1 ht hK1
    subst this
    exact kk q H1 locs ls hP1 hD1 hS1 hl0)
theorem at_objInit (C : Cx p s m args meth c D dA cc nL rt own) {idx a : Nat} (h1 : Cond.methodLink own idx Lib.objectInit ∈ lw_all) (h2 : Cond.instanceMethod Lib.objectInit ∈ lw_all) (h3 : Cond.code Lib.objectInit ⟨#[0xb1]⟩ 1 none ∈ lw_all) (hf : 1 ≤ R.frames) (hr0 : (st.map fun v => v.category).sum ≤ 8) (hlo : 20 ≤ R.locals) (hd : decode cc pc = .ok (.invokespecial idx, 3)) (kk : gAt p l e R s m args below meth c D A QQ nL kc ks (pc + 3) L st ws) : gAt p l e R s m args below meth c D A QQ nL kc ks pc L (.ref a :: st) ws :=
  fun H locs ls hP hD hS hl0 => W.objInit C.1 C.2.1 C.2.2.2.2.2.1 (C.2.2.2.2.2.2.1 _ h1) (C.2.2.2.2.2.2.1 _ h2) (C.2.2.2.2.2.2.1 _ h3) rfl (by rw [C.2.2.1]; exact hl0.1) rfl hd hf (by have := lv_room (m := m) (pc := pc) (ls := ls) (rest := .ref a :: st) (st := st) hr0; omega) (W.eq (g2 := F0 m (pc + 3) ls st) rfl (kk H locs ls hP hD hS hl0))
theorem at_astqL (C : Cx p s m args meth c D dA cc nL rt own) {q0 t qk ci n a v i0 : Nat} {r : vw_C} {vs : List Value} {f : Nat → Option Nat} {ws2 : va_W} (ha : ws[q0]? = some (a, .inl (dA t, n, .inr (.inr (.inr (.inr f)))))) (ht : (gT dA)[t]? = some (dA t, .object r.1)) (hv : ws[qk]? = some (v, .inr (ci, vs))) (hc : gCl[ci]? = some r) {i : Int32} (hin : vp_in i n) (hi : i.toNatClampNeg = i0) (hs : ws.set q0 (a, .inl (dA t, n, .inr (.inr (.inr (.inr (va_up f i0 (some v))))))) = ws2) (hd : decode cc pc = .ok (.aastore, 1)) (kk : gAt p l e R s m args below meth c D A QQ nL kc ks (pc + 1) L st ws2) : gAt p l e R s m args below meth c D A QQ nL kc ks pc L (.ref v :: .int i :: .ref a :: st) ws :=
  fun H locs ls hP hD hS hl0 => by
    subst hi
    exact va_astq C.1 C.2.1 C.2.2.2.2.2.2.2.1 hP hD hS q0 t qk ci ha ht hv hc hin hd (fun H1 locs1 hP1 hD1 hS1 => kk H1 locs1 ls (by rw [← hs]; exact hP1) (by rw [← hs]; exact hD1) hS1 hl0)
theorem at_astqOL (C : Cx p s m args meth c D dA cc nL rt own) {q0 t qk ci n a v i0 : Nat} {E : String} {r : vw_C} {vs : List Value} {f : Nat → Option Nat} {ws2 : va_W} (ha : ws[q0]? = some (a, .inl (dA t, n, .inr (.inr (.inr (.inr f)))))) (ht : (gT dA)[t]? = some (dA t, .object E)) (hca : Cond.castable r.1 E ∈ lw_tbl) (hv : ws[qk]? = some (v, .inr (ci, vs))) (hc : gCl[ci]? = some r) {i : Int32} (hin : vp_in i n) (hi : i.toNatClampNeg = i0) (hs : ws.set q0 (a, .inl (dA t, n, .inr (.inr (.inr (.inr (va_up f i0 (some v))))))) = ws2) (hd : decode cc pc = .ok (.aastore, 1)) (kk : gAt p l e R s m args below meth c D A QQ nL kc ks (pc + 1) L st ws2) : gAt p l e R s m args below meth c D A QQ nL kc ks pc L (.ref v :: .int i :: .ref a :: st) ws :=
  fun H locs ls hP hD hS hl0 => by
    subst hi
    exact va_astqO C.1 C.2.1 C.2.2.2.2.2.2.2.1 hP hD hS q0 t qk ci ha ht (C.2.2.2.2.2.2.2.2.1 _ (gNw_in hca rfl)) hv hc hin hd (fun H1 locs1 hP1 hD1 hS1 => kk H1 locs1 ls (by rw [← hs]; exact hP1) (by rw [← hs]; exact hD1) hS1 hl0)
theorem at_alenqL (C : Cx p s m args meth c D dA cc nL rt own) {q0 t a : Nat} {x : vp_A} {ty : FieldType} {v : Int32} (ha : ws[q0]? = some (a, .inl (dA t, x))) (ht : (gT dA)[t]? = some (dA t, ty)) (hv : Int32.ofNat x.1 = v) (hd : decode cc pc = .ok (.arraylength, 1)) (kk : gAt p l e R s m args below meth c D A QQ nL kc ks (pc + 1) L (.int v :: st) ws) : gAt p l e R s m args below meth c D A QQ nL kc ks pc L (.ref a :: st) ws :=
  fun H locs ls hP hD hS hl0 => va_alen C.1 C.2.1 C.2.2.2.2.2.2.2.1 hP q0 t ha ht hv hd (kk H locs ls hP hD hS hl0)
/-- a callee's start on a list of cells, the heap of a known size -/
def gBl (D : va_G) (dA : Nat → ClassId) (ws : va_W) (sz : Nat) : State → Prop := fun U => U.heap.size = sz ∧ va_P D gCl ws U.heap ∧ gK D dA U ∧ va_D (fun _ => True) ws
/-- a callee's end: its cells, in its own or new places -/
def gZl {S : Type} (D : va_G) (wc : va_W) (sz : Nat) (res : S → va_W) : S → State → Prop := fun u t => va_P D gCl (res u) t.heap ∧ va_D (va_A wc sz) (res u)
theorem gBl_blind {av : List Value} {sz : Nat} : FrameBlind (va_Pc av (gBl D dA ws sz)) := by
  rintro a U g mk ⟨q0, qs, qP, qK, qD⟩
  exact ⟨q0, qs, qP, gK_calling qK, qD⟩
variable {mc ms : Nat} {a : Array Value} {S : Type} {A1 fr : Nat → Nat → Prop} {res : S → va_W}
/-- a call on the last cells of the world, that may make new ones -/
theorem at_sufv {post : S → Prop} (hA0 : ∀ q, s.heap.size ≤ q → A q) (hA1 : ∀ z q, A1 z q → va_A wc z q) (hfr : ∀ z q, fr z q → va_A wc z q) (run : ∀ (H : Heap) (locs : List Loc) (ls : Array Slot), va_P D gCl wc H → va_D A wc → va_S A s.heap H locs → ls.size = nL → va_Run p l e R s m args below meth c H locs kc ks mc ms (F0 m pc ls st) rest (va_Qv post (gZl D wc H.size res) (A1 H.size) a) (fr H.size)) (kk : ∀ u, post u → gAt p l e R s m args below meth c D A QQ nL (kc + mc) (ks + ms) (pc + 3) L rest (wr ++ res u)) : gAt p l e R s m args below meth c D A QQ nL kc ks pc L st (wr ++ wc) :=
  fun H locs ls hP hD hS hl => va_callv (run H locs ls (gp_r hP) (gd_r hD) hS hl.1) hS (fun q _ h => va_A_in (gd_r hD) hA0 hS.1 q (hA1 _ q h)) (fun q h => va_A_in (gd_r hD) hA0 hS.1 q (hfr _ q h)) (fun u t H1 locs1 ht hvm hpost hB hz hk hS1 =>
    kk u hpost H1 locs1 ls (va_P.app (gp_keep (gp_l hP) (gd_a hD) hk (hA1 _)) (by rw [← ht]; exact hB.1)) (va_D.app (gd_l hD) (hB.2.weaken (fun k q _ h => va_A_in (gd_r hD) hA0 hS.1 q.1 h)) (ga_new (gp_l hP) (gd_a hD) hB.2)) hS1 hl)
theorem at_sufi {post : Int32 → S → Prop} (hA0 : ∀ q, s.heap.size ≤ q → A q) (hA1 : ∀ z q, A1 z q → va_A wc z q) (hfr : ∀ z q, fr z q → va_A wc z q) (run : ∀ (H : Heap) (locs : List Loc) (ls : Array Slot), va_P D gCl wc H → va_D A wc → va_S A s.heap H locs → ls.size = nL → va_Run p l e R s m args below meth c H locs kc ks mc ms (F0 m pc ls st) rest (va_Qi post (gZl D wc H.size res) (A1 H.size) a) (fr H.size)) (kk : ∀ r u, post r u → gAt p l e R s m args below meth c D A QQ nL (kc + mc) (ks + ms) (pc + 3) L (.int r :: rest) (wr ++ res u)) : gAt p l e R s m args below meth c D A QQ nL kc ks pc L st (wr ++ wc) :=
  fun H locs ls hP hD hS hl => va_calli (run H locs ls (gp_r hP) (gd_r hD) hS hl.1) hS (fun q _ h => va_A_in (gd_r hD) hA0 hS.1 q (hA1 _ q h)) (fun q h => va_A_in (gd_r hD) hA0 hS.1 q (hfr _ q h)) (fun r u t H1 locs1 ht hvm hpost hB hz hk hS1 =>
    kk r u hpost H1 locs1 ls (va_P.app (gp_keep (gp_l hP) (gd_a hD) hk (hA1 _)) (by rw [← ht]; exact hB.1)) (va_D.app (gd_l hD) (hB.2.weaken (fun k q _ h => va_A_in (gd_r hD) hA0 hS.1 q.1 h)) (ga_new (gp_l hP) (gd_a hD) hB.2)) hS1 hl)
/-- a call on the first cells of the world -/
theorem at_prev {post : S → Prop} (hA0 : ∀ q, s.heap.size ≤ q → A q) (hA1 : ∀ z q, A1 z q → va_A wc z q) (hfr : ∀ z q, fr z q → va_A wc z q) (run : ∀ (H : Heap) (locs : List Loc) (ls : Array Slot), va_P D gCl wc H → va_D A wc → va_S A s.heap H locs → ls.size = nL → va_Run p l e R s m args below meth c H locs kc ks mc ms (F0 m pc ls st) rest (va_Qv post (gZl D wc H.size res) (A1 H.size) a) (fr H.size)) (kk : ∀ u, post u → gAt p l e R s m args below meth c D A QQ nL (kc + mc) (ks + ms) (pc + 3) L rest (res u ++ wr)) : gAt p l e R s m args below meth c D A QQ nL kc ks pc L st (wc ++ wr) :=
  fun H locs ls hP hD hS hl => va_callv (run H locs ls (gp_l hP) (gd_l hD) hS hl.1) hS (fun q _ h => va_A_in (gd_l hD) hA0 hS.1 q (hA1 _ q h)) (fun q h => va_A_in (gd_l hD) hA0 hS.1 q (hfr _ q h)) (fun u t H1 locs1 ht hvm hpost hB hz hk hS1 =>
    kk u hpost H1 locs1 ls (va_P.app (by rw [← ht]; exact hB.1) (gp_keep (gp_r hP) (ga_comm (gd_a hD)) hk (hA1 _))) (va_D.app (hB.2.weaken (fun k q _ h => va_A_in (gd_l hD) hA0 hS.1 q.1 h)) (gd_r hD) (ga_comm (ga_new (gp_r hP) (ga_comm (gd_a hD)) hB.2))) hS1 hl)
theorem at_prei {post : Int32 → S → Prop} (hA0 : ∀ q, s.heap.size ≤ q → A q) (hA1 : ∀ z q, A1 z q → va_A wc z q) (hfr : ∀ z q, fr z q → va_A wc z q) (run : ∀ (H : Heap) (locs : List Loc) (ls : Array Slot), va_P D gCl wc H → va_D A wc → va_S A s.heap H locs → ls.size = nL → va_Run p l e R s m args below meth c H locs kc ks mc ms (F0 m pc ls st) rest (va_Qi post (gZl D wc H.size res) (A1 H.size) a) (fr H.size)) (kk : ∀ r u, post r u → gAt p l e R s m args below meth c D A QQ nL (kc + mc) (ks + ms) (pc + 3) L (.int r :: rest) (res u ++ wr)) : gAt p l e R s m args below meth c D A QQ nL kc ks pc L st (wc ++ wr) :=
  fun H locs ls hP hD hS hl => va_calli (run H locs ls (gp_l hP) (gd_l hD) hS hl.1) hS (fun q _ h => va_A_in (gd_l hD) hA0 hS.1 q (hA1 _ q h)) (fun q h => va_A_in (gd_l hD) hA0 hS.1 q (hfr _ q h)) (fun r u t H1 locs1 ht hvm hpost hB hz hk hS1 =>
    kk r u hpost H1 locs1 ls (va_P.app (by rw [← ht]; exact hB.1) (gp_keep (gp_r hP) (ga_comm (gd_a hD)) hk (hA1 _))) (va_D.app (hB.2.weaken (fun k q _ h => va_A_in (gd_l hD) hA0 hS.1 q.1 h)) (gd_r hD) (ga_comm (ga_new (gp_r hP) (ga_comm (gd_a hD)) hB.2))) hS1 hl)
theorem at_iastL (C : Cx p s m args meth c D dA cc nL rt own) {q0 n a i0 : Nat} {f : Nat → Int32} {i x : Int32} {ws2 : va_W} (ha : ws[q0]? = some (a, .inl (dA 0, (n, .inl f)))) (hin : vp_in i n) (hi : i.toNatClampNeg = i0) (hs : ws.set q0 (a, .inl (dA 0, (n, .inl (upd f i0 x)))) = ws2) (hd : decode cc pc = .ok (.iastore, 1)) (kk : gAt p l e R s m args below meth c D A QQ nL kc ks (pc + 1) L st ws2) : gAt p l e R s m args below meth c D A QQ nL kc ks pc L (.int x :: .int i :: .ref a :: st) ws :=
  fun H locs ls hP hD hS hl0 => by
    subst hi
    exact va_iast C.1 C.2.1 C.2.2.2.2.2.2.2.1 hP hD hS q0 0 ha rfl hin hd (fun H1 locs1 hP1 hD1 hS1 => kk H1 locs1 ls (by rw [← hs]; exact hP1) (by rw [← hs]; exact hD1) hS1 hl0)
variable {N : Nat} {ad : Nat → Nat} {lay : Nat → gD} {w : GW}
/-- a call of a method without new cells on a part of the world -/
theorem at_preGi {Q : Int32 → GW → Prop} (run : gRun p l e R s m args below meth c D A nL kc ks pc st rest (gW dA N ad lay w) (va_Qi Q (gZ D dA N ad lay) (gA N ad) a) (gA N ad)) (kk : ∀ (r : Int32) (w2 : GW), Q r w2 → gAt p l e R s m args below meth c D A QQ nL kc ks (pc + 3) L (.int r :: rest) (gW dA N ad lay w2 ++ wr)) : gAt p l e R s m args below meth c D A QQ nL kc ks pc L st (gW dA N ad lay w ++ wr) :=
  fun H locs ls hP hD hS hl => va_calli (run H locs ls (gp_l hP) (gd_l hD) hl.1) hS (fun q _ h => gD_in (gd_l hD) q h) (gD_in (gd_l hD)) (fun r u t H1 locs1 ht hvm hpost hB hz hk hS1 =>
    kk r u hpost H1 locs1 ls (va_P.app (by rw [← ht]; exact hB) (gp_keep (gp_r hP) (ga_comm (gd_a hD)) hk (fun q h => gAA q h))) (va_D.app (gD_any (gd_l hD)) (gd_r hD) (ga_comm (ga_new (gp_r hP) (ga_comm (gd_a hD)) ((gD_any (gD_gA (gd_l hD))).weaken (fun _ q _ h => gAA q.1 h))))) hS1 hl)
theorem at_preGp {Q : Int32 → Prop} (run : gRun p l e R s m args below meth c D A nL kc ks pc st rest (gW dA N ad lay w) (va_Qi (gQ1 Q w) (gZ D dA N ad lay) (gA N ad) a) (gA N ad)) (kk : ∀ (r : Int32), Q r → gAt p l e R s m args below meth c D A QQ nL kc ks (pc + 3) L (.int r :: rest) (gW dA N ad lay w ++ wr)) : gAt p l e R s m args below meth c D A QQ nL kc ks pc L st (gW dA N ad lay w ++ wr) :=
  at_preGi run (fun r w2 h => by obtain ⟨h1, h2⟩ := h; subst h2; exact kk r h1)
theorem at_preGv {Q : GW → Prop} (run : gRun p l e R s m args below meth c D A nL kc ks pc st rest (gW dA N ad lay w) (va_Qv Q (gZ D dA N ad lay) (gA N ad) a) (gA N ad)) (kk : ∀ (w2 : GW), Q w2 → gAt p l e R s m args below meth c D A QQ nL kc ks (pc + 3) L rest (gW dA N ad lay w2 ++ wr)) : gAt p l e R s m args below meth c D A QQ nL kc ks pc L st (gW dA N ad lay w ++ wr) :=
  fun H locs ls hP hD hS hl => va_callv (run H locs ls (gp_l hP) (gd_l hD) hl.1) hS (fun q _ h => gD_in (gd_l hD) q h) (gD_in (gd_l hD)) (fun u t H1 locs1 ht hvm hpost hB hz hk hS1 =>
    kk u hpost H1 locs1 ls (va_P.app (by rw [← ht]; exact hB) (gp_keep (gp_r hP) (ga_comm (gd_a hD)) hk (fun q h => gAA q h))) (va_D.app (gD_any (gd_l hD)) (gd_r hD) (ga_comm (ga_new (gp_r hP) (ga_comm (gd_a hD)) ((gD_any (gD_gA (gd_l hD))).weaken (fun _ q _ h => gAA q.1 h))))) hS1 hl)
theorem at_sufGi {Q : Int32 → GW → Prop} (run : gRun p l e R s m args below meth c D A nL kc ks pc st rest (gW dA N ad lay w) (va_Qi Q (gZ D dA N ad lay) (gA N ad) a) (gA N ad)) (kk : ∀ (r : Int32) (w2 : GW), Q r w2 → gAt p l e R s m args below meth c D A QQ nL kc ks (pc + 3) L (.int r :: rest) (wr ++ gW dA N ad lay w2)) : gAt p l e R s m args below meth c D A QQ nL kc ks pc L st (wr ++ gW dA N ad lay w) :=
  fun H locs ls hP hD hS hl => va_calli (run H locs ls (gp_r hP) (gd_r hD) hl.1) hS (fun q _ h => gD_in (gd_r hD) q h) (gD_in (gd_r hD)) (fun r u t H1 locs1 ht hvm hpost hB hz hk hS1 =>
    kk r u hpost H1 locs1 ls (va_P.app (gp_keep (gp_l hP) (gd_a hD) hk (fun q h => gAA q h)) (by rw [← ht]; exact hB)) (va_D.app (gd_l hD) (gD_any (gd_r hD)) (ga_new (gp_l hP) (gd_a hD) ((gD_any (gD_gA (gd_r hD))).weaken (fun _ q _ h => gAA q.1 h)))) hS1 hl)
end GAlloc
theorem va_up_l {l : List Nat} {v n : Nat} (hn : l.length = n) : va_up (fun i : Nat => l[i]?) n (some v) = fun i : Nat => (l ++ [v])[i]? := by
  subst hn
  funext i
  unfold va_up
  split
  next h => subst h; simp
  next h =>
    show l[i]? = (l ++ [v])[i]?
    by_cases hi : i < l.length
    · rw [List.getElem?_append_left hi]
    · have h1 : l[i]? = none := List.getElem?_eq_none (by omega)
      have h2 : (l ++ [v])[i]? = none := List.getElem?_eq_none (by rw [List.length_append, List.length_singleton]; omega)
      rw [h1, h2]
theorem va_up_0 : (fun _ : Nat => (none : Option Nat)) = fun i : Nat => ([] : List Nat)[i]? := by
  funext i
  simp
theorem qarr_eq (l : List Nat) (n : Nat) (g ad : Nat → Nat) (hl : l.length = n) (h : ∀ i, i < n → l[i]? = some (ad (g i))) : (fun i : Nat => l[i]?) = fun i : Nat => ((if i < n then some (g i) else none : Option Nat).map ad) := by
  funext i
  by_cases hi : i < n
  · rw [h i hi, if_pos hi]; rfl
  · rw [if_neg hi, List.getElem?_eq_none (by omega)]; rfl
