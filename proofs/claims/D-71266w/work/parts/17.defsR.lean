/-! the Reader's world: the system's 137 cells, 137 the Reader, 138 its County (139 kind 140 weight 141 chip); 142 a Fault -/
set_option maxRecDepth 100000
def layF : Nat → gD := fun k => if k < 137 then layX k else match k with
  | 137 => .inr (.inl (8, [some (some 21), none, some (some 138), none]))
  | 138 => .inr (.inl (1, [none, some (some 139), some (some 140), some (some 141), none]))
  | 142 => .inr (.inl (9, [some none, some none, some none, some none, some none, none, none, none]))
  | _ => .inl (0, 9)
/-- what the Reader's methods may change -/
def gXA (ad : Nat → Nat) (sz : Nat) : Nat → Prop := fun q => gA 142 ad q ∨ sz ≤ q
def gF (q : Nat) (n p : Int32) : va_W := [(q, .inr (9, [.null, .null, .null, .null, .null, .int 0, .int n, .int p]))]
/-- what a throw leaves behind: the world, and the Fault with its number and place -/
def gXC (D : va_G) (dA : Nat → ClassId) (ad : Nat → Nat) (sz : Nat) (X : Int32 → Int32 → GW → Prop) : String → Addr → State → State → Prop :=
  vx_X (fun u : Int32 × Int32 × GW => X u.1 u.2.1 u.2.2) (fun E q u t => E = "SkittleGentry$Fault" ∧ va_P D gCl (gW dA 142 ad layF u.2.2 ++ gF q u.1 u.2.1) t.heap ∧ va_D (gXA ad sz) (gW dA 142 ad layF u.2.2 ++ gF q u.1 u.2.1)) (gXA ad sz)
def gBx (D : va_G) (dA : Nat → ClassId) (ad : Nat → Nat) (sz : Nat) (w : GW) : State → Prop := fun U => sz ≤ U.heap.size ∧ va_P D gCl (gW dA 142 ad layF w) U.heap ∧ gK D dA U ∧ va_D (fun _ => True) (gW dA 142 ad layF w) ∧ gZs (gXA ad sz) U U.heap
def Cz (ad : Nat → Nat) (sz : Nat) (s : State) (c : Code) : Prop := sz ≤ s.heap.size ∧ gZs (gXA ad sz) s s.heap ∧ ∀ x ∈ c.exceptionTable.toList, False
theorem Cz.hA {ad : Nat → Nat} {sz : Nat} {s : State} {c : Code} (Z : Cz ad sz s c) : ∀ q, s.heap.size ≤ q → gXA ad sz q := fun _ h => Or.inr (Nat.le_trans Z.1 h)
theorem gBx_blind {D : va_G} {dA : Nat → ClassId} {ad : Nat → Nat} {sz : Nat} {w : GW} {av : List Value} : FrameBlind (va_Pc av (gBx D dA ad sz w)) := by
  rintro a U g mk ⟨q0, qs, qP, qK, qD, qZ⟩
  exact ⟨q0, qs, qP, gK_calling qK, qD, gZs_calling qZ⟩
abbrev gAtR (p : Program) (l : Launch) (e : Env) (s : State) (m : MethodId) (args : Array Value) (below : List Frame) (meth : Method) (c : Code) (D : va_G) (dA : Nat → ClassId) (ad : Nat → Nat) (rk mc ms : Nat) (Qc : Array Value → State → Outcome → State → Prop) (X : Int32 → Int32 → GW → Prop) (sz nL kc ks pc : Nat) (L : List (Nat × Value)) (st : List Value) (w : GW) : Prop :=
  gAt p l e (gRc rk mc ms) s m args below meth c D (gXA ad sz) (vx_MQ below Qc (gXC D dA ad sz X) args s mc ms (gXA ad sz)) nL kc ks pc L st (gW dA 142 ad layF w)
section GX
variable {p : Program} {l : Launch} {e : Env} {s : State} {m : MethodId} {args : Array Value} {below : List Frame} {meth : Method} {c : Code} {D : va_G} {dA : Nat → ClassId} {ad : Nat → Nat}
variable {R : Room} {A : Nat → Prop} {QQ : State → Prop} {cc : ByteArray} {nL kc ks pc mc ms mc1 ms1 : Nat} {rt : Option FieldType} {own : String} {L : List (Nat × Value)} {st rest : List Value} {N : Nat} {lay : Nat → gD} {w : GW} {y : MethodName} {bytes : ByteArray} {maxL idx nn : Nat} {ret : Option FieldType} {rm : Room} {Qc : Array Value → State → Outcome → State → Prop} {fr : Addr → Prop} {Cn : String} {As : List Value} {XC : String → Addr → State → State → Prop} {sz : Nat} {X : Int32 → Int32 → GW → Prop}
theorem at_iretX (C : Cx p s m args meth c D dA cc nL rt own) {Q : Int32 → GW → Prop} {r : Int32} (hr : rt = some .int) (hq : Q r w) (h1 : kc ≤ mc) (h2 : ks ≤ ms) (hd : decode cc pc = .ok (.ireturn, 1)) : gAt p l e R s m args below meth c D A (vx_MQ below (va_Qi Q (gZ D dA N ad lay) A) XC args s mc ms A) nL kc ks pc L [.int r] (gW dA N ad lay w) :=
  at_wid h1 h2 (fun H locs ls hP hD hS hl => vx_ret (at_iret C hr hq hd H locs ls hP hD hS hl))
theorem at_vretX (C : Cx p s m args meth c D dA cc nL rt own) {Q : GW → Prop} (hr : rt = none) (hq : Q w) (h1 : kc ≤ mc) (h2 : ks ≤ ms) (hd : decode cc pc = .ok (.return_, 1)) : gAt p l e R s m args below meth c D A (vx_MQ below (va_Qv Q (gZ D dA N ad lay) A) XC args s mc ms A) nL kc ks pc L [] (gW dA N ad lay w) :=
  at_wid h1 h2 (fun H locs ls hP hD hS hl => vx_ret (at_vret C hr hq hd H locs ls hP hD hS hl))
/-- the last cell of a world is an object of the class that the tables name -/
theorem gF_cell {H : Heap} {q : Nat} {n p2 : Int32} {wr : va_W} (hK : gK D dA s) (hP : va_P D gCl (wr ++ gF q n p2) H) : ∃ ce : Cell, H[q]? = some ce ∧ ce.vm = .none ∧ s.vm.findClass "SkittleGentry$Fault" = some ce.cls := by
  obtain ⟨r, h1, cell, g1, g2, g3, -⟩ := gp_r hP 0 _ rfl
  have hr : r = (RX9, TX9, 8) := Option.some.inj (h1.symm.trans rfl)
  exact ⟨cell, g1, g3, by rw [g2]; exact (hK.1.1 9 (RX9, TX9, 8) rfl).2.1⟩
theorem at_throwF (C : Cx p s m args meth c D dA cc nL rt own) (Z : Cz ad sz s c) {q : Nat} {n p2 : Int32} (hx : X n p2 w) (h1 : kc ≤ mc) (h2 : ks ≤ ms) (hd : decode cc pc = .ok (.athrow, 1)) : gAt p l e R s m args below meth c D (gXA ad sz) (vx_MQ below Qc (gXC D dA ad sz X) args s mc ms (gXA ad sz)) nL kc ks pc L (.ref q :: st) (gW dA 142 ad layF w ++ gF q n p2) := fun H locs ls hP hD hS hl => by
  obtain ⟨ce, g1, g2, g3⟩ := gF_cell C.2.2.2.2.2.2.2 hP
  refine vx_athrow C.1 C.2.1 hd (vx_out (E := "SkittleGentry$Fault") (fun x hx => absurd (Z.2.2 x hx) id) C.2.2.2.2.1 g1 g2 g3 (fun t ht hvm => ⟨(n, p2, w), hx, ⟨rfl, ?_, ?_⟩, hS.F ht⟩) hS.2.2 h1 h2)
  · rw [ht]; exact hP
  · exact hD
/-- a call that returns or throws: a throw goes on to the caller -/
theorem at_callxv (C : Cx p s m args meth c D dA cc nL rt own) (Z : Cz ad sz s c) {a : Array Value} {Q : GW → Prop} (run : ∀ (H : Heap) (locs : List Loc) (ls : Array Slot), va_P D gCl (gW dA 142 ad layF w) H → va_D (gXA ad sz) (gW dA 142 ad layF w) → va_S (gXA ad sz) s.heap H locs → ls.size = nL → vx_Run p l e R s m args below meth c H locs kc ks mc1 ms1 (F0 m pc ls st) rest (va_Qv Q (gZ D dA 142 ad layF) (gXA ad sz) a) (gXC D dA ad sz X) (gXA ad sz)) (h1 : kc + mc1 ≤ mc) (h2 : ks + ms1 ≤ ms)
    (kk : ∀ w2 : GW, Q w2 → gAt p l e R s m args below meth c D (gXA ad sz) (vx_MQ below Qc (gXC D dA ad sz X) args s mc ms (gXA ad sz)) nL (kc + mc1) (ks + ms1) (pc + 3) L rest (gW dA 142 ad layF w2)) : gAt p l e R s m args below meth c D (gXA ad sz) (vx_MQ below Qc (gXC D dA ad sz X) args s mc ms (gXA ad sz)) nL kc ks pc L st (gW dA 142 ad layF w) := fun H locs ls hP hD hS hl =>
  vx_callv (run H locs ls hP hD hS hl.1) hS (fun _ _ h => h) (fun _ h => h) (fun _ _ h => h)
    (fun E ce q9 u t H1 locs1 ht hvm hpx hB hz hk hS1 hce hcv hcl => vx_out (E := E) (fun x hx => absurd (Z.2.2 x hx) id) C.2.2.2.2.1 hce hcv hcl (fun t2 ht2 _ => ⟨u, hpx, ⟨hB.1, by rw [ht2, ← ht]; exact hB.2.1, hB.2.2⟩, hS1.F ht2⟩) hS1.2.2 h1 h2)
    (fun u t H1 locs1 ht hvm hpost hB hz hk hS1 => kk u hpost H1 locs1 ls (by rw [← ht]; exact hB) (gD_any hD) hS1 hl)
theorem at_callxi (C : Cx p s m args meth c D dA cc nL rt own) (Z : Cz ad sz s c) {a : Array Value} {Q : Int32 → GW → Prop} (run : ∀ (H : Heap) (locs : List Loc) (ls : Array Slot), va_P D gCl (gW dA 142 ad layF w) H → va_D (gXA ad sz) (gW dA 142 ad layF w) → va_S (gXA ad sz) s.heap H locs → ls.size = nL → vx_Run p l e R s m args below meth c H locs kc ks mc1 ms1 (F0 m pc ls st) rest (va_Qi Q (gZ D dA 142 ad layF) (gXA ad sz) a) (gXC D dA ad sz X) (gXA ad sz)) (h1 : kc + mc1 ≤ mc) (h2 : ks + ms1 ≤ ms)
    (kk : ∀ (r : Int32) (w2 : GW), Q r w2 → gAt p l e R s m args below meth c D (gXA ad sz) (vx_MQ below Qc (gXC D dA ad sz X) args s mc ms (gXA ad sz)) nL (kc + mc1) (ks + ms1) (pc + 3) L (.int r :: rest) (gW dA 142 ad layF w2)) : gAt p l e R s m args below meth c D (gXA ad sz) (vx_MQ below Qc (gXC D dA ad sz X) args s mc ms (gXA ad sz)) nL kc ks pc L st (gW dA 142 ad layF w) := fun H locs ls hP hD hS hl =>
  vx_calli (run H locs ls hP hD hS hl.1) hS (fun _ _ h => h) (fun _ h => h) (fun _ _ h => h)
    (fun E ce q9 u t H1 locs1 ht hvm hpx hB hz hk hS1 hce hcv hcl => vx_out (E := E) (fun x hx => absurd (Z.2.2 x hx) id) C.2.2.2.2.1 hce hcv hcl (fun t2 ht2 _ => ⟨u, hpx, ⟨hB.1, by rw [ht2, ← ht]; exact hB.2.1, hB.2.2⟩, hS1.F ht2⟩) hS1.2.2 h1 h2)
    (fun r u t H1 locs1 ht hvm hpost hB hz hk hS1 => kk r u hpost H1 locs1 ls (by rw [← ht]; exact hB) (gD_any hD) hS1 hl)
theorem run_VX (C : Cx p s m args meth c D dA cc nL rt own) (Z : Cz ad sz s c) {k ci NN : Nat} {T : u_T} {fl : List (Option (Option Nat))} (hM : vx_Met l y (ws_ y bytes maxL ret) rm (va_Pc (.ref (ad k) :: As) (gBx D dA ad sz w)) Qc XC mc1 ms1 fr) (hG : GoodIn lw_all (wsV own idx Cn y (ws_ y bytes maxL ret)))
    (hds : y.cls = Cn ∧ y.cls ≠ "java/lang/invoke/MethodHandle" ∧ y.cls ≠ "java/lang/invoke/VarHandle" ∧ (parseMethodDescriptor y.desc).map (fun d => d.parameters.length) = some nn) (hR : rm.frames + 1 ≤ R.frames ∧ 8 + (maxL + 11) + rm.locals ≤ R.locals) (hz : rm.cells = mc1 ∧ rm.slots = ms1) (hf : kc + mc1 ≤ R.cells ∧ ks + ms1 ≤ R.slots)
    (hk : k < 142) (hl : layF k = .inr (.inl (ci, fl))) (hc : gCl[ci]? = some (Cn, T, NN)) (hn : As.length = nn) (hst : st = As.reverse ++ .ref (ad k) :: rest) (hW : (rest.map fun v => v.category).sum ≤ 8) (hd : decode cc pc = .ok (.invokevirtual idx, 3)) :
    ∀ (H : Heap) (locs : List Loc) (ls : Array Slot), va_P D gCl (gW dA 142 ad layF w) H → va_D (gXA ad sz) (gW dA 142 ad layF w) → va_S (gXA ad sz) s.heap H locs → ls.size = nL → vx_Run p l e R s m args below meth c H locs kc ks mc1 ms1 (F0 m pc ls st) rest (Qc (Value.ref (ad k) :: As).toArray) XC fr := by
  intro H locs ls hP hD hS hs
  have hat : (gW dA 142 ad layF w)[k]? = some (ad k, .inr (ci, gV ad (w k) 0 fl)) := by rw [gW_get hk, hl]; rfl
  exact vx_runV (As := As) (rest := rest) ⟨C.1, C.2.1, C.2.2.1, C.2.2.2.2.2.1, C.2.2.2.2.2.2.1⟩ hM (cwV nn C.2.2.2.2.2.2.1 hG rfl hz.1 hz.2 hds hR) ⟨gBx_blind, va_recv C.2.2.2.2.2.2.2.1 hP hc hat, fun U hU hW => ⟨rfl, by rw [hU]; exact Nat.le_trans Z.1 hS.1, by rw [hU]; exact hP, gK_warm hW C.2.2.2.2.2.2.2, hD.weaken (fun _ _ _ _ => trivial), gZs_down Z.2.1 hS (fun _ h => h) hU hW.alike⟩⟩ rfl hn hs hst (lv_room hW) hd hf
theorem run_SX (C : Cx p s m args meth c D dA cc nL rt own) (Z : Cz ad sz s c) (hM : vx_Met l y (ws_ y bytes maxL ret) rm (va_Pc As (gBx D dA ad sz w)) Qc XC mc1 ms1 fr) (hG : GoodIn lw_all (va_wsS own idx y (ws_ y bytes maxL ret)))
    (hds : y.cls ≠ "java/lang/invoke/MethodHandle" ∧ y.cls ≠ "java/lang/invoke/VarHandle" ∧ (parseMethodDescriptor y.desc).map (fun d => d.parameters.length) = some nn) (hR : rm.frames + 1 ≤ R.frames ∧ 8 + (maxL + 11) + rm.locals ≤ R.locals) (hz : rm.cells = mc1 ∧ rm.slots = ms1) (hf : kc + mc1 ≤ R.cells ∧ ks + ms1 ≤ R.slots)
    (hn : As.length = nn) (hst : st = As.reverse ++ rest) (hW : (rest.map fun v => v.category).sum ≤ 8) (hd : decode cc pc = .ok (.invokestatic idx, 3)) :
    ∀ (H : Heap) (locs : List Loc) (ls : Array Slot), va_P D gCl (gW dA 142 ad layF w) H → va_D (gXA ad sz) (gW dA 142 ad layF w) → va_S (gXA ad sz) s.heap H locs → ls.size = nL → vx_Run p l e R s m args below meth c H locs kc ks mc1 ms1 (F0 m pc ls st) rest (Qc As.toArray) XC fr := by
  intro H locs ls hP hD hS hs
  exact vx_runS (As := As) (rest := rest) ⟨C.1, C.2.1, C.2.2.1, C.2.2.2.2.2.1, C.2.2.2.2.2.2.1⟩ hM (va_cwS nn C.2.2.2.2.2.2.1 hG rfl hz.1 hz.2 hds hR) ⟨gBx_blind, fun U hU hW => ⟨rfl, by rw [hU]; exact Nat.le_trans Z.1 hS.1, by rw [hU]; exact hP, gK_warm hW C.2.2.2.2.2.2.2, hD.weaken (fun _ _ _ _ => trivial), gZs_down Z.2.1 hS (fun _ h => h) hU hW.alike⟩⟩ rfl hn hs hst (lv_room hW) hd hf
theorem gm_ofX (hy : plainName y.cls = true) (hcls : y.cls = own) (hlen : (lg_sl As).length ≤ maxL) (hL : lv_args 0 As = L)
    (body : ∀ (p : Program) (e : Env) (s : State) (m : MethodId) (below : List Frame) (meth : Method) (c : Code), Cx p s m As.toArray meth c D dA bytes maxL ret own → Cz ad sz s c → gAt p l e rm s m As.toArray below meth c D (gXA ad sz) (vx_MQ below Qc XC As.toArray s mc ms (gXA ad sz)) maxL 0 0 0 L [] (gW dA 142 ad layF w)) :
    vx_Met l y (ws_ y bytes maxL ret) rm (va_Pc As (gBx D dA ad sz w)) Qc XC mc ms (gXA ad sz) := by
  refine vx_ofW (cc := bytes) (maxL := maxL) (ret := ret) hy rfl ?_
  intro p e s m args below meth c s₁ B hml hno hv
  obtain ⟨rfl, hsz, hP, hK, hD0, hZ⟩ := hv
  have hts := atoms_spec (ws := ws_ y bytes maxL ret) B.pre
  have hts : ∀ w ∈ lw_all, w.before _ s = true := fun w h => hts w (List.mem_cons_of_mem _ h)
  have hown : s.vm.findClass own = some m.cls := by rw [← hcls]; exact findClass_of_methodNamed B.named
  have hl := lv_entry As (n := maxL) hlen
  rw [lg_entry_eq]
  rw [hL] at hl
  exact body p e s m below meth c ⟨B.exec, B.bytes, hml, B.returns, B.notSynchronized, hown, hts, hK⟩ ⟨hsz, hZ, hno⟩ s.heap [] _ hP ((gD_gA hD0).weaken (fun _ _ _ h => Or.inl h)) va_S.rf hl
end GX
theorem dsX8_here : yX8_here.cls = "SkittleGentry$Reader" ∧ yX8_here.cls ≠ "java/lang/invoke/MethodHandle" ∧ yX8_here.cls ≠ "java/lang/invoke/VarHandle" ∧ (parseMethodDescriptor yX8_here.desc).map (fun d => d.parameters.length) = some 0 := by decide +kernel
theorem dsX8_want : yX8_want.cls ≠ "java/lang/invoke/MethodHandle" ∧ yX8_want.cls ≠ "java/lang/invoke/VarHandle" ∧ (parseMethodDescriptor yX8_want.desc).map (fun d => d.parameters.length) = some 3 := by decide +kernel
theorem dsX8_number : yX8_number.cls = "SkittleGentry$Reader" ∧ yX8_number.cls ≠ "java/lang/invoke/MethodHandle" ∧ yX8_number.cls ≠ "java/lang/invoke/VarHandle" ∧ (parseMethodDescriptor yX8_number.desc).map (fun d => d.parameters.length) = some 2 := by decide +kernel
theorem dsX8_floor : yX8_floor.cls = "SkittleGentry$Reader" ∧ yX8_floor.cls ≠ "java/lang/invoke/MethodHandle" ∧ yX8_floor.cls ≠ "java/lang/invoke/VarHandle" ∧ (parseMethodDescriptor yX8_floor.desc).map (fun d => d.parameters.length) = some 1 := by decide +kernel
theorem dsX8_skittle : yX8_skittle.cls = "SkittleGentry$Reader" ∧ yX8_skittle.cls ≠ "java/lang/invoke/MethodHandle" ∧ yX8_skittle.cls ≠ "java/lang/invoke/VarHandle" ∧ (parseMethodDescriptor yX8_skittle.desc).map (fun d => d.parameters.length) = some 1 := by decide +kernel
theorem dsX8_clause : yX8_clause.cls = "SkittleGentry$Reader" ∧ yX8_clause.cls ≠ "java/lang/invoke/MethodHandle" ∧ yX8_clause.cls ≠ "java/lang/invoke/VarHandle" ∧ (parseMethodDescriptor yX8_clause.desc).map (fun d => d.parameters.length) = some 2 := by decide +kernel
theorem dsX8_all : yX8_all.cls = "SkittleGentry$Reader" ∧ yX8_all.cls ≠ "java/lang/invoke/MethodHandle" ∧ yX8_all.cls ≠ "java/lang/invoke/VarHandle" ∧ (parseMethodDescriptor yX8_all.desc).map (fun d => d.parameters.length) = some 0 := by decide +kernel
def PX8_here_38 (Q : Int32 → GW → Prop)  (w : GW) : Prop :=
    (((w 137 1) ≤ (w 137 3) →
      (Q (-1) w)) ∧
     (¬ (w 137 1) ≤ (w 137 3) →
      (vp_in (w 137 3) 240 ∧
       (Q ((w 21 ((w 137 3)).toNatClampNeg) &&& 255) w))))
def PX8_here_0 (Q : Int32 → GW → Prop)   : Nat → GW → Prop
  | 0, _ => False
  | n + 1, w =>
    (((w 137 1) ≤ (w 137 3) →
      (PX8_here_38 Q w)) ∧
     (¬ (w 137 1) ≤ (w 137 3) →
      (vp_in (w 137 3) 240 ∧
       ((¬ (w 21 ((w 137 3)).toNatClampNeg) = 32 →
         (PX8_here_38 Q w)) ∧
        ((w 21 ((w 137 3)).toNatClampNeg) = 32 →
         (∀ w_4 : GW, w_4 = gS w 137 3 ((w 137 3) + 1) →
          ((PX8_here_0 Q n) w_4)))))))
def PX8_here    (w : GW) (Q : Int32 → GW → Prop) : Prop :=
    (∃ n_5 : Nat, PX8_here_0 Q n_5 w)
def PX8_want (x0 : Int32) (x1 : Int32) (x2 : Int32) (w : GW) (Q : GW → Prop) (X : Int32 → Int32 → GW → Prop) : Prop :=
    ((¬ x0 = 0 →
      (Q w)) ∧
     (x0 = 0 →
      (X x1 x2 w)))
def PX8_number_121 (Q : Int32 → GW → Prop) (X : Int32 → Int32 → GW → Prop) (x3 : Int32) (x4 : Int32) (s0 : Int32) (w : GW) : Prop :=
    (PX8_want s0 2 x3 w (fun w_2 =>
      (Q x4 w_2)) X)
def PX8_number_120 (Q : Int32 → GW → Prop) (X : Int32 → Int32 → GW → Prop) (x3 : Int32) (x4 : Int32) (w : GW) : Prop :=
    (PX8_number_121 Q X x3 x4 0 w)
def PX8_number_96 (Q : Int32 → GW → Prop) (X : Int32 → Int32 → GW → Prop) (x1 : Int32) (x2 : Int32) (x3 : Int32) (x4 : Int32) (w : GW) : Prop :=
    (((x3 + 3) < (w 137 3) →
      (PX8_number_120 Q X x3 x4 w)) ∧
     (¬ (x3 + 3) < (w 137 3) →
      (PX0_isIn x4 x1 x2 (fun r_4 =>
        ((r_4 = 0 →
          (PX8_number_120 Q X x3 x4 w)) ∧
         (¬ r_4 = 0 →
          (PX8_number_121 Q X x3 x4 1 w)))))))
def PX8_number_27 (Q : Int32 → GW → Prop) (X : Int32 → Int32 → GW → Prop) (x1 : Int32) (x2 : Int32) (x3 : Int32)  : Nat → Int32 → GW → Prop
  | 0, _, _ => False
  | n + 1, x4, w =>
    (((w 137 1) ≤ (w 137 3) →
      (PX8_number_96 Q X x1 x2 x3 x4 w)) ∧
     (¬ (w 137 1) ≤ (w 137 3) →
      (vp_in (w 137 3) 240 ∧
       (PX0_isIn (w 21 ((w 137 3)).toNatClampNeg) 48 57 (fun r_7 =>
         ((r_7 = 0 →
           (PX8_number_96 Q X x1 x2 x3 x4 w)) ∧
          (¬ r_7 = 0 →
           (vp_in (w 137 3) 240 ∧
            (∀ v4_9 : Int32, v4_9 = (gMin 9999 (((10 * x4) + (w 21 ((w 137 3)).toNatClampNeg)) - 48)) →
             (∀ w_10 : GW, w_10 = gS w 137 3 ((w 137 3) + 1) →
              ((PX8_number_27 Q X x1 x2 x3 n) v4_9 w_10)))))))))))
def PX8_number (x1 : Int32) (x2 : Int32) (w : GW) (Q : Int32 → GW → Prop) (X : Int32 → Int32 → GW → Prop) : Prop :=
    (PX8_here w (fun r_11 w_12 =>
      (PX0_isIn r_11 48 57 (fun r_13 =>
        (PX8_want r_13 1 (w_12 137 3) w_12 (fun w_15 =>
          (∀ v3_16 : Int32, v3_16 = (w_15 137 3) →
           (∃ n_17 : Nat, PX8_number_27 Q X x1 x2 v3_16 n_17 0 w_15))) X)))))
def PX8_floor_16 (Q : GW → Prop) (X : Int32 → Int32 → GW → Prop) (x1 : Int32) (s0 : Int32) (w : GW) : Prop :=
    (PX8_want s0 3 x1 w (fun w_2 =>
      (PX8_number 0 9 w_2 (fun r_3 w_4 =>
        (∀ w_5 : GW, w_5 = gS w_4 138 0 r_3 →
         (Q w_5))) X)) X)
def PX8_floor (x1 : Int32) (w : GW) (Q : GW → Prop) (X : Int32 → Int32 → GW → Prop) : Prop :=
    ((¬ (w 138 0) = (-1) →
      (PX8_floor_16 Q X x1 0 w)) ∧
     ((w 138 0) = (-1) →
      (PX8_floor_16 Q X x1 1 w)))
def PX8_skittle_19 (Q : GW → Prop) (X : Int32 → Int32 → GW → Prop) (x1 : Int32) (x2 : Int32) (s0 : Int32) (w : GW) : Prop :=
    (PX8_want s0 3 x1 w (fun w_2 =>
      (PX8_number 0 3 w_2 (fun r_3 w_4 =>
        (vp_in x2 9 ∧
         (∀ w_5 : GW, w_5 = gS w_4 139 (x2).toNatClampNeg r_3 →
          (PX8_number 1 20 w_5 (fun r_6 w_7 =>
            (vp_in x2 9 ∧
             (∀ w_8 : GW, w_8 = gS w_7 140 (x2).toNatClampNeg r_6 →
              (PX8_number 0 9 w_8 (fun r_9 w_10 =>
                (vp_in x2 9 ∧
                 (∀ w_11 : GW, w_11 = gS w_10 141 (x2).toNatClampNeg r_9 →
                  (∀ w_12 : GW, w_12 = gS w_11 138 4 ((w_11 138 4) + 1) →
                   (Q w_12))))) X)))) X)))) X)) X)
def PX8_skittle (x1 : Int32) (w : GW) (Q : GW → Prop) (X : Int32 → Int32 → GW → Prop) : Prop :=
    (∀ v2_13 : Int32, v2_13 = (w 138 4) →
     ((9 ≤ v2_13 →
       (PX8_skittle_19 Q X x1 v2_13 0 w)) ∧
      (¬ 9 ≤ v2_13 →
       (PX8_skittle_19 Q X x1 v2_13 1 w))))
def PX8_clause_22 (Q : GW → Prop) (X : Int32 → Int32 → GW → Prop) (x1 : Int32) (x2 : Int32) (s0 : Int32) (w : GW) : Prop :=
    (PX8_want s0 1 x2 w (fun w_2 =>
      ((x1 = 103 →
        (PX8_floor x2 w_2 (fun w_5 =>
          (Q w_5)) X)) ∧
       (¬ x1 = 103 →
        ((x1 = 115 →
          (PX8_skittle x2 w_2 (fun w_7 =>
            (Q w_7)) X)) ∧
         (¬ x1 = 115 →
          (X 1 x2 w_2)))))) X)
def PX8_clause_17 (Q : GW → Prop) (X : Int32 → Int32 → GW → Prop) (x1 : Int32) (x2 : Int32) (w : GW) : Prop :=
    (PX8_clause_22 Q X x1 x2 1 w)
def PX8_clause (x1 : Int32) (x2 : Int32) (w : GW) (Q : GW → Prop) (X : Int32 → Int32 → GW → Prop) : Prop :=
    ((x1 = 103 →
      (PX8_clause_17 Q X x1 x2 w)) ∧
     (¬ x1 = 103 →
      (((w 138 0) = (-1) →
        (PX8_clause_22 Q X x1 x2 0 w)) ∧
       (¬ (w 138 0) = (-1) →
        (PX8_clause_17 Q X x1 x2 w)))))
