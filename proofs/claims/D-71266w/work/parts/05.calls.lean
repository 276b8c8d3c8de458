/-! calls, returns, a method's start, over gAt -/
set_option maxRecDepth 100000
theorem gR_ok {a b mL : Nat} (h : a < b) (h2 : mL ≤ 13) : (gR a).frames + 1 ≤ (gR b).frames ∧ 8 + (mL + 11) + (gR a).locals ≤ (gR b).locals := by
  show a + 1 ≤ b ∧ 8 + (mL + 11) + 32 * a ≤ 32 * b
  omega
/-- a boolean answer is 0 or 1 -/
def gBool (r : Int32) : Prop := r = 0 ∨ r = 1
theorem gBool_0 : gBool 0 := Or.inl rfl
theorem gBool_1 : gBool 1 := Or.inr rfl
theorem gBool_nar {v : Int32} (h : gBool v) : narrow .boolean (.int v) = .int v := by
  rcases h with rfl | rfl <;> decide +kernel
theorem gBool_fit {v : Int32} (h : gBool v) : fits .boolean (.int v) = true := by
  rcases h with rfl | rfl <;> decide +kernel
theorem gBool_vp {v : Int32} (h : gBool v) : vp_nar .boolean v = v := by
  unfold vp_nar
  rw [gBool_nar h]
section GCalls
variable {p : Program} {l : Launch} {e : Env} {R : Room} {s : State} {m : MethodId} {args : Array Value} {below : List Frame} {meth : Method} {c : Code} {D : va_G} {dA : Nat → ClassId} {A : Nat → Prop} {QQ : State → Prop} {cc : ByteArray} {nL kc ks pc : Nat} {rt : Option FieldType} {own : String} {L : List (Nat × Value)} {st rest : List Value}
variable {N : Nat} {ad : Nat → Nat} {lay : Nat → gD} {w : GW}
theorem at_iret (C : Cx p s m args meth c D dA cc nL rt own) {Q : Int32 → GW → Prop} {r : Int32} (hr : rt = some .int) (hq : Q r w) (hd : decode cc pc = .ok (.ireturn, 1)) : gAt p l e R s m args below meth c D A (MQ below (va_Qi Q (gZ D dA N ad lay) A) args s kc ks A) nL kc ks pc L [.int r] (gW dA N ad lay w) :=
  fun H locs ls hP hD hS hl => W.iret C.1 C.2.1 (by rw [C.2.2.2.1]; exact hr) (fun t ht _ => ⟨⟨r, w, rfl, hq, (by show va_P _ _ _ t.heap; rw [ht]; exact hP)⟩, hS.F ht⟩) hS.2.2 hd (hlocks := C.2.2.2.2.1)
theorem at_zret (C : Cx p s m args meth c D dA cc nL rt own) {Q : Int32 → GW → Prop} {r : Int32} (hr : rt = some .boolean) (hz : gBool r) (hq : Q r w) (hd : decode cc pc = .ok (.ireturn, 1)) : gAt p l e R s m args below meth c D A (MQ below (va_Qi Q (gZ D dA N ad lay) A) args s kc ks A) nL kc ks pc L [.int r] (gW dA N ad lay w) :=
  fun H locs ls hP hD hS hl => W.zret C.1 C.2.1 (by rw [C.2.2.2.1]; exact hr) (gBool_nar hz) (fun t ht _ => ⟨⟨r, w, rfl, hq, (by show va_P _ _ _ t.heap; rw [ht]; exact hP)⟩, hS.F ht⟩) hS.2.2 hd (hlocks := C.2.2.2.2.1)
theorem at_vret (C : Cx p s m args meth c D dA cc nL rt own) {Q : GW → Prop} (hr : rt = none) (hq : Q w) (hd : decode cc pc = .ok (.return_, 1)) : gAt p l e R s m args below meth c D A (MQ below (va_Qv Q (gZ D dA N ad lay) A) args s kc ks A) nL kc ks pc L [] (gW dA N ad lay w) :=
  fun H locs ls hP hD hS hl => W.vret C.1 C.2.1 (by rw [C.2.2.2.1]; exact hr) (fun t ht _ => ⟨⟨w, rfl, hq, (by show va_P _ _ _ t.heap; rw [ht]; exact hP)⟩, hS.F ht⟩) hS.2.2 hd (hlocks := C.2.2.2.2.1)
/-- what a call's run gives, over every heap that holds the world -/
def gRun (p : Program) (l : Launch) (e : Env) (R : Room) (s : State) (m : MethodId) (args : Array Value) (below : List Frame) (meth : Method) (c : Code) (D : va_G) (A : Nat → Prop) (nL kc ks pc : Nat) (st rest : List Value) (ws : va_W) (Qa : State → Outcome → State → Prop) (fr : Addr → Prop) : Prop :=
  ∀ (H : Heap) (locs : List Loc) (ls : Array Slot), va_P D gCl ws H → va_D A ws → ls.size = nL → va_Run p l e R s m args below meth c H locs kc ks 0 0 (F0 m pc ls st) rest Qa fr
theorem at_calli {a : Array Value} {Q : Int32 → GW → Prop} (run : gRun p l e R s m args below meth c D A nL kc ks pc st rest (gW dA N ad lay w) (va_Qi Q (gZ D dA N ad lay) (gA N ad) a) (gA N ad)) (kk : ∀ (r : Int32) (w2 : GW), Q r w2 → gAt p l e R s m args below meth c D A QQ nL kc ks (pc + 3) L (.int r :: rest) (gW dA N ad lay w2)) : gAt p l e R s m args below meth c D A QQ nL kc ks pc L st (gW dA N ad lay w) :=
  fun H locs ls hP hD hS hl => va_calli (run H locs ls hP hD hl.1) hS (fun q _ h => gD_in hD q h) (gD_in hD) (fun r u t H1 locs1 ht hvm hpost hB hz hk hS1 => kk r u hpost H1 locs1 ls (by rw [← ht]; exact hB) (gD_any hD) hS1 hl)
theorem at_callp {a : Array Value} {Q : Int32 → Prop} (run : gRun p l e R s m args below meth c D A nL kc ks pc st rest (gW dA N ad lay w) (va_Qi (gQ1 Q w) (gZ D dA N ad lay) (gA N ad) a) (gA N ad)) (kk : ∀ (r : Int32), Q r → gAt p l e R s m args below meth c D A QQ nL kc ks (pc + 3) L (.int r :: rest) (gW dA N ad lay w)) : gAt p l e R s m args below meth c D A QQ nL kc ks pc L st (gW dA N ad lay w) :=
  at_calli run (fun r w2 h => by obtain ⟨h1, h2⟩ := h; subst h2; exact kk r h1)
theorem at_callv {a : Array Value} {Q : GW → Prop} (run : gRun p l e R s m args below meth c D A nL kc ks pc st rest (gW dA N ad lay w) (va_Qv Q (gZ D dA N ad lay) (gA N ad) a) (gA N ad)) (kk : ∀ (w2 : GW), Q w2 → gAt p l e R s m args below meth c D A QQ nL kc ks (pc + 3) L rest (gW dA N ad lay w2)) : gAt p l e R s m args below meth c D A QQ nL kc ks pc L st (gW dA N ad lay w) :=
  fun H locs ls hP hD hS hl => va_callv (run H locs ls hP hD hl.1) hS (fun q _ h => gD_in hD q h) (gD_in hD) (fun u t H1 locs1 ht hvm hpost hB hz hk hS1 => kk u hpost H1 locs1 ls (by rw [← ht]; exact hB) (gD_any hD) hS1 hl)
variable {y : MethodName} {bytes : ByteArray} {maxL idx nn : Nat} {ret : Option FieldType} {rm : Room} {Qc : Array Value → State → Outcome → State → Prop} {fr : Addr → Prop} {Cn : String} {As : List Value}
/-- a virtual call on an object of the world -/
theorem run_V (C : Cx p s m args meth c D dA cc nL rt own) {k ci NN : Nat} {T : u_T} {fl : List (Option (Option Nat))} (hM : Met l y (ws_ y bytes maxL ret) rm (va_Pc (.ref (ad k) :: As) (gB D dA N ad lay w)) Qc 0 0 fr) (hG : GoodIn lw_all (wsV own idx Cn y (ws_ y bytes maxL ret)))
    (hds : y.cls = Cn ∧ y.cls ≠ "java/lang/invoke/MethodHandle" ∧ y.cls ≠ "java/lang/invoke/VarHandle" ∧ (parseMethodDescriptor y.desc).map (fun d => d.parameters.length) = some nn) (hR : rm.frames + 1 ≤ R.frames ∧ 8 + (maxL + 11) + rm.locals ≤ R.locals) (hz : rm.cells = 0 ∧ rm.slots = 0) (hf : kc ≤ R.cells ∧ ks ≤ R.slots)
    (hk : k < N) (hl : lay k = .inr (.inl (ci, fl))) (hc : gCl[ci]? = some (Cn, T, NN)) (hn : As.length = nn) (hst : st = As.reverse ++ .ref (ad k) :: rest) (hW : (rest.map fun v => v.category).sum ≤ 8) (hd : decode cc pc = .ok (.invokevirtual idx, 3)) :
    gRun p l e R s m args below meth c D A nL kc ks pc st rest (gW dA N ad lay w) (Qc (Value.ref (ad k) :: As).toArray) fr := by
  intro H locs ls hP hD hs
  have hat : (gW dA N ad lay w)[k]? = some (ad k, .inr (ci, gV ad (w k) 0 fl)) := by rw [gW_get hk, hl]; rfl
  exact va_runV (As := As) (rest := rest) ⟨C.1, C.2.1, C.2.2.1, C.2.2.2.2.2.1, C.2.2.2.2.2.2.1⟩ hM (cwV nn C.2.2.2.2.2.2.1 hG rfl hz.1 hz.2 hds hR) ⟨gB_blind, va_recv C.2.2.2.2.2.2.2.1 hP hc hat, fun U hU hW => ⟨rfl, by rw [hU]; exact hP, gK_warm hW C.2.2.2.2.2.2.2, hD.weaken (fun _ _ _ _ => trivial)⟩⟩ rfl hn hs hst (lv_room hW) hd hf
/-- a static call -/
theorem run_S (C : Cx p s m args meth c D dA cc nL rt own) (hM : Met l y (ws_ y bytes maxL ret) rm (va_Pc As (gB D dA N ad lay w)) Qc 0 0 fr) (hG : GoodIn lw_all (va_wsS own idx y (ws_ y bytes maxL ret)))
    (hds : y.cls ≠ "java/lang/invoke/MethodHandle" ∧ y.cls ≠ "java/lang/invoke/VarHandle" ∧ (parseMethodDescriptor y.desc).map (fun d => d.parameters.length) = some nn) (hR : rm.frames + 1 ≤ R.frames ∧ 8 + (maxL + 11) + rm.locals ≤ R.locals) (hz : rm.cells = 0 ∧ rm.slots = 0) (hf : kc ≤ R.cells ∧ ks ≤ R.slots)
    (hn : As.length = nn) (hst : st = As.reverse ++ rest) (hW : (rest.map fun v => v.category).sum ≤ 8) (hd : decode cc pc = .ok (.invokestatic idx, 3)) :
    gRun p l e R s m args below meth c D A nL kc ks pc st rest (gW dA N ad lay w) (Qc As.toArray) fr := by
  intro H locs ls hP hD hs
  exact va_runS (As := As) (rest := rest) ⟨C.1, C.2.1, C.2.2.1, C.2.2.2.2.2.1, C.2.2.2.2.2.2.1⟩ hM (va_cwS nn C.2.2.2.2.2.2.1 hG rfl hz.1 hz.2 hds hR) ⟨gB_blind, fun U hU hW => ⟨rfl, by rw [hU]; exact hP, gK_warm hW C.2.2.2.2.2.2.2, hD.weaken (fun _ _ _ _ => trivial)⟩⟩ rfl hn hs hst (lv_room hW) hd hf
/-- a nest mate's private static method -/
theorem run_SN (C : Cx p s m args meth c D dA cc nL rt own) {host : String} (hM : Met l y (ws_ y bytes maxL ret) rm (va_Pc As (gB D dA N ad lay w)) Qc 0 0 fr) (hlk : (Cond.methodLinkNest own idx y host) ∈ lw_tbl) (hcd : Cond.code y bytes maxL ret ∈ lw_all) (hini : Cond.initialized y.cls ∈ lw_all) (hsta : Cond.static y ∈ lw_all)
    (hds : y.cls ≠ "java/lang/invoke/MethodHandle" ∧ y.cls ≠ "java/lang/invoke/VarHandle" ∧ (parseMethodDescriptor y.desc).map (fun d => d.parameters.length) = some nn) (hR : rm.frames + 1 ≤ R.frames ∧ 8 + (maxL + 11) + rm.locals ≤ R.locals) (hz : rm.cells = 0 ∧ rm.slots = 0) (hf : kc ≤ R.cells ∧ ks ≤ R.slots)
    (hn : As.length = nn) (hst : st = As.reverse ++ rest) (hW : (rest.map fun v => v.category).sum ≤ 8) (hd : decode cc pc = .ok (.invokestatic idx, 3)) :
    gRun p l e R s m args below meth c D A nL kc ks pc st rest (gW dA N ad lay w) (Qc As.toArray) fr := by
  intro H locs ls hP hD hs
  exact va_runSN (As := As) (rest := rest) ⟨C.1, C.2.1, C.2.2.1, C.2.2.2.2.2.1, C.2.2.2.2.2.2.1⟩ hM ⟨va_cnB nn C.2.2.2.2.2.2.1 (lw_meth hcd) rfl hz.1 hz.2 (C.2.2.2.2.2.2.2.2.1 _ (gNw_in hlk rfl)) (C.2.2.2.2.2.2.1 _ hini) hds hR, C.2.2.2.2.2.2.1 _ hsta, trivial⟩ ⟨gB_blind, fun U hU hW => ⟨rfl, by rw [hU]; exact hP, gK_warm hW C.2.2.2.2.2.2.2, hD.weaken (fun _ _ _ _ => trivial)⟩⟩ rfl hn hs hst (lv_room hW) hd hf
/-- a method's start -/
theorem gm_of {maxc mcs : Nat} (hy : plainName y.cls = true) (hcls : y.cls = own) (hlen : (lg_sl As).length ≤ maxL) (hL : lv_args 0 As = L) (hQ : fr = gA N ad)
    (body : ∀ (p : Program) (e : Env) (s : State) (m : MethodId) (below : List Frame) (meth : Method) (c : Code), Cx p s m As.toArray meth c D dA bytes maxL ret own → gAt p l e rm s m As.toArray below meth c D (gA N ad) (MQ below Qc As.toArray s maxc mcs (gA N ad)) maxL 0 0 0 L [] (gW dA N ad lay w)) :
    Met l y (ws_ y bytes maxL ret) rm (va_Pc As (gB D dA N ad lay w)) Qc maxc mcs fr := by
  subst hQ
  refine Met.ofW (cc := bytes) (maxL := maxL) (ret := ret) hy rfl ?_
  intro p e s m args below meth c s₁ B hml hv
  obtain ⟨rfl, hP, hK, hD0⟩ := hv
  have hts := atoms_spec (ws := ws_ y bytes maxL ret) B.pre
  have hts : ∀ w ∈ lw_all, w.before _ s = true := fun w h => hts w (List.mem_cons_of_mem _ h)
  have hown : s.vm.findClass own = some m.cls := by rw [← hcls]; exact findClass_of_methodNamed B.named
  have hl := lv_entry As (n := maxL) hlen
  rw [lg_entry_eq]
  rw [hL] at hl
  exact body p e s m below meth c ⟨B.exec, B.bytes, hml, B.returns, B.notSynchronized, hown, hts, hK⟩ s.heap [] _ hP (gD_gA hD0) va_S.rf hl
end GCalls
