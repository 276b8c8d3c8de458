/-! the system's world, in the order in which its cells are made: 0 SkittleGentry, 1 kinds, 2 County (3 kind 4 weight 5 chip), 6 now (+1 kind +2 chip +3 plate +4 rocked +5 taken), 12 tried, 18 undone, 19 bookOf, 20 bookStands, 21 text, 22 fells, 23 need, 24 images, 25..28 the four kinds, 29+6i image i, 41+6j undone j -/
set_option maxRecDepth 100000
def flX0 : List (Option (Option Nat)) := [some (some 1), some (some 2), some (some 6), some (some 12), some (some 18), none, some (some 19), some (some 20), none, some (some 21), none, none, some (some 22), some (some 23), some (some 24)]
def flX1 : List (Option (Option Nat)) := [none, some (some 3), some (some 4), some (some 5), none]
def flX2 (b : Nat) : List (Option (Option Nat)) := [some (some (b + 1)), some (some (b + 2)), some (some (b + 3)), some (some (b + 4)), some (some (b + 5)), none, none, none, none, none, none, none, some (some 0)]
def laX0 : Nat → gD := fun k => match k with
  | 0 => .inr (.inl (0, flX0))
  | 1 => .inr (.inr (3, 4, fun i => if i < 4 then some (25 + i) else none))
  | 2 => .inr (.inl (1, flX1))
  | _ => .inl (0, 9)
def laX1 : Nat → gD := fun k => match k with
  | 18 => .inr (.inr (4, 16, fun i => if i < 16 then some (41 + 6 * i) else none))
  | 19 => .inl (0, 15)
  | 20 => .inl (1, 15)
  | 21 => .inl (2, 240)
  | 22 => .inl (0, 4300)
  | 23 => .inl (0, 512)
  | 24 => .inr (.inr (4, 2, fun i => if i < 2 then some (29 + 6 * i) else none))
  | 25 => .inr (.inl (3, []))
  | 26 => .inr (.inl (4, []))
  | 27 => .inr (.inl (5, []))
  | _ => .inr (.inl (6, []))
def laXS (b : Nat) : Nat → gD := fun k => match k with
  | 0 => .inr (.inl (2, flX2 b))
  | _ => .inl (0, 9)
def layX : Nat → gD := fun k => if k < 6 then laX0 k else if k < 18 then laXS (k - (k - 6) % 6) ((k - 6) % 6) else if k < 29 then laX1 k else laXS (k - (k - 29) % 6) ((k - 29) % 6)
/-- a State's cell -/
def gSt (b : Nat) : Prop := (b = 6 ∨ b = 12) ∨ ∃ j, j < 18 ∧ b = 29 + 6 * j
theorem gSt_lit (j : Nat) (h : j < 18) : gSt (29 + 6 * j) := Or.inr ⟨j, h, rfl⟩
theorem gSt_now : gSt 6 := Or.inl (Or.inl rfl)
theorem gSt_tried : gSt 12 := Or.inl (Or.inr rfl)
def gUn (i : Int32) : Nat := 41 + 6 * i.toNatClampNeg
def gIm (i : Int32) : Nat := 29 + 6 * i.toNatClampNeg
def gKi (i : Int32) : Nat := 25 + i.toNatClampNeg
theorem vp_in_lt {i : Int32} {n : Nat} (h : vp_in i n) : i.toNatClampNeg < n := Nat.not_le.mp fun q => h (Or.inr q)
theorem gUn_ok {i : Int32} (h : vp_in i 16) : gSt (gUn i) := Or.inr ⟨2 + i.toNatClampNeg, by have := vp_in_lt h; omega, by unfold gUn; omega⟩
theorem gIm_ok {i : Int32} (h : vp_in i 2) : gSt (gIm i) := Or.inr ⟨i.toNatClampNeg, by have := vp_in_lt h; omega, rfl⟩
theorem gUn_rd {i : Int32} (h : vp_in i 16) : (if i.toNatClampNeg < 16 then some (41 + 6 * i.toNatClampNeg) else none) = some (gUn i) := by rw [if_pos (vp_in_lt h)]; rfl
theorem gIm_rd {i : Int32} (h : vp_in i 2) : (if i.toNatClampNeg < 2 then some (29 + 6 * i.toNatClampNeg) else none) = some (gIm i) := by rw [if_pos (vp_in_lt h)]; rfl
theorem gKi_ok {i : Int32} (h : vp_in i 4) : (if i.toNatClampNeg < 4 then some (25 + i.toNatClampNeg) else none) = some (gKi i) := by rw [if_pos (vp_in_lt h)]; rfl
theorem layX_at {b i : Nat} (h : gSt b) (hi : i < 6) : layX (b + i) = laXS b i := by
  rcases h with (rfl | rfl) | ⟨j, hj, rfl⟩
  · unfold layX
    rw [if_neg (by omega), if_pos (by omega), show (6 + i - 6) % 6 = i by omega, show 6 + i - i = 6 by omega]
  · unfold layX
    rw [if_neg (by omega), if_pos (by omega), show (12 + i - 6) % 6 = i by omega, show 12 + i - i = 12 by omega]
  · unfold layX
    rw [if_neg (by omega), if_neg (by omega), if_neg (by omega), show (29 + 6 * j + i - 29) % 6 = i by omega, show 29 + 6 * j + i - i = 29 + 6 * j by omega]
theorem layX_0 {b : Nat} (h : gSt b) : layX b = .inr (.inl (2, flX2 b)) := layX_at (i := 0) h (by decide)
theorem layX_1 {b : Nat} (h : gSt b) : layX (b + 1) = .inl (0, 9) := layX_at (i := 1) h (by decide)
theorem layX_2 {b : Nat} (h : gSt b) : layX (b + 2) = .inl (0, 9) := layX_at (i := 2) h (by decide)
theorem layX_3 {b : Nat} (h : gSt b) : layX (b + 3) = .inl (0, 9) := layX_at (i := 3) h (by decide)
theorem layX_4 {b : Nat} (h : gSt b) : layX (b + 4) = .inl (0, 9) := layX_at (i := 4) h (by decide)
theorem layX_5 {b : Nat} (h : gSt b) : layX (b + 5) = .inl (0, 9) := layX_at (i := 5) h (by decide)
theorem gSt_k0 {b : Nat} (h : gSt b) : b < 137 := by
  rcases h with (rfl | rfl) | ⟨j, hj, rfl⟩ <;> omega
theorem gSt_k1 {b : Nat} (h : gSt b) : b + 1 < 137 := by
  rcases h with (rfl | rfl) | ⟨j, hj, rfl⟩ <;> omega
theorem gSt_k2 {b : Nat} (h : gSt b) : b + 2 < 137 := by
  rcases h with (rfl | rfl) | ⟨j, hj, rfl⟩ <;> omega
theorem gSt_k3 {b : Nat} (h : gSt b) : b + 3 < 137 := by
  rcases h with (rfl | rfl) | ⟨j, hj, rfl⟩ <;> omega
theorem gSt_k4 {b : Nat} (h : gSt b) : b + 4 < 137 := by
  rcases h with (rfl | rfl) | ⟨j, hj, rfl⟩ <;> omega
theorem gSt_k5 {b : Nat} (h : gSt b) : b + 5 < 137 := by
  rcases h with (rfl | rfl) | ⟨j, hj, rfl⟩ <;> omega
abbrev gAtG (N : Nat) (lay : Nat → gD) (p : Program) (l : Launch) (e : Env) (s : State) (m : MethodId) (args : Array Value) (below : List Frame) (meth : Method) (c : Code) (D : va_G) (dA : Nat → ClassId) (ad : Nat → Nat) (rk : Nat) (Qc : Array Value → State → Outcome → State → Prop) (nL pc : Nat) (L : List (Nat × Value)) (st : List Value) (w : GW) : Prop := gAt p l e (gR rk) s m args below meth c D (gA N ad) (MQ below Qc args s 0 0 (gA N ad)) nL 0 0 pc L st (gW dA N ad lay w)
abbrev gAtB (p : Program) (l : Launch) (e : Env) (s : State) (m : MethodId) (args : Array Value) (below : List Frame) (meth : Method) (c : Code) (D : va_G) (dA : Nat → ClassId) (ad : Nat → Nat) (rk : Nat) (Qc : Array Value → State → Outcome → State → Prop) (nL pc : Nat) (L : List (Nat × Value)) (st : List Value) (w : GW) : Prop := gAt p l e (gR rk) s m args below meth c D (gA 12 ad) (MQ below Qc args s 0 0 (gA 12 ad)) nL 0 0 pc L st (gW dA 12 ad layX w)
abbrev gAtX (p : Program) (l : Launch) (e : Env) (s : State) (m : MethodId) (args : Array Value) (below : List Frame) (meth : Method) (c : Code) (D : va_G) (dA : Nat → ClassId) (ad : Nat → Nat) (rk : Nat) (Qc : Array Value → State → Outcome → State → Prop) (nL pc : Nat) (L : List (Nat × Value)) (st : List Value) (w : GW) : Prop := gAt p l e (gR rk) s m args below meth c D (gA 137 ad) (MQ below Qc args s 0 0 (gA 137 ad)) nL 0 0 pc L st (gW dA 137 ad layX w)
theorem gC_same {w : GW} {c : Nat} {f : Nat → Int32} : gC w c f c = f := by unfold gC; rw [if_pos rfl]
theorem gC_ne {w : GW} {c j : Nat} {f : Nat → Int32} (h : j ≠ c) : gC w c f j = w j := by unfold gC; rw [if_neg h]
section GX
variable {p : Program} {l : Launch} {e : Env} {s : State} {m : MethodId} {args : Array Value} {below : List Frame} {meth : Method} {c : Code} {D : va_G} {dA : Nat → ClassId} {ad : Nat → Nat}
variable {R : Room} {A : Nat → Prop} {QQ : State → Prop} {cc : ByteArray} {nL kc ks pc : Nat} {rt : Option FieldType} {own : String} {L : List (Nat × Value)} {st rest : List Value} {N : Nat} {lay : Nat → gD} {w : GW}
def gMax (x y : Int32) : Int32 := if x < y then y else x
def gMin (x y : Int32) : Int32 := if y < x then y else x
def gAbs (x : Int32) : Int32 := if 0 ≤ x then x else 0 - x
variable {ws : va_W}
theorem at_mmax (C : Cx p s m args meth c D dA cc nL rt own) {idx : Nat} (h1 : Cond.methodLink own idx Lib.Math.max.name ∈ lw_all) (h2 : Cond.static Lib.Math.max.name ∈ lw_all) (h3 : Cond.initialized "java/lang/Math" ∈ lw_all) (h4 : Cond.code Lib.Math.max.name Lib.Math.max.code 2 (some .int) ∈ lw_all) (hf : 1 ≤ R.frames) (hlo : 23 ≤ R.locals) (hc : kc ≤ R.cells) (hs : ks ≤ R.slots) (hr0 : (rest.map fun v => v.category).sum ≤ 8) {x y : Int32} (hd : decode cc pc = .ok (.invokestatic idx, 3)) (kk : gAt p l e R s m args below meth c D A QQ nL kc ks (pc + 3) L (.int (gMax x y) :: rest) ws) : gAt p l e R s m args below meth c D A QQ nL kc ks pc L (.int y :: .int x :: rest) ws := fun H locs ls hP hD hS hl => va_mmax C.1 C.2.1 (by rw [C.2.2.1]; exact hl.1.symm) C.2.2.2.2.2.1 (C.2.2.2.2.2.2.1 _ h1) (C.2.2.2.2.2.2.1 _ h2) (C.2.2.2.2.2.2.1 _ h3) (C.2.2.2.2.2.2.1 _ h4) hf (by omega) hc hs hd (kk H locs ls hP hD hS hl)
theorem at_mmin (C : Cx p s m args meth c D dA cc nL rt own) {idx : Nat} (h1 : Cond.methodLink own idx Lib.Math.min.name ∈ lw_all) (h2 : Cond.static Lib.Math.min.name ∈ lw_all) (h3 : Cond.initialized "java/lang/Math" ∈ lw_all) (h4 : Cond.code Lib.Math.min.name Lib.Math.min.code 2 (some .int) ∈ lw_all) (hf : 1 ≤ R.frames) (hlo : 23 ≤ R.locals) (hc : kc ≤ R.cells) (hs : ks ≤ R.slots) (hr0 : (rest.map fun v => v.category).sum ≤ 8) {x y : Int32} (hd : decode cc pc = .ok (.invokestatic idx, 3)) (kk : gAt p l e R s m args below meth c D A QQ nL kc ks (pc + 3) L (.int (gMin x y) :: rest) ws) : gAt p l e R s m args below meth c D A QQ nL kc ks pc L (.int y :: .int x :: rest) ws := fun H locs ls hP hD hS hl => va_mmin C.1 C.2.1 (by rw [C.2.2.1]; exact hl.1.symm) C.2.2.2.2.2.1 (C.2.2.2.2.2.2.1 _ h1) (C.2.2.2.2.2.2.1 _ h2) (C.2.2.2.2.2.2.1 _ h3) (C.2.2.2.2.2.2.1 _ h4) hf (by omega) hc hs hd (kk H locs ls hP hD hS hl)
theorem at_mabs (C : Cx p s m args meth c D dA cc nL rt own) {idx : Nat} (h1 : Cond.methodLink own idx Lib.Math.abs.name ∈ lw_all) (h2 : Cond.static Lib.Math.abs.name ∈ lw_all) (h3 : Cond.initialized "java/lang/Math" ∈ lw_all) (h4 : Cond.code Lib.Math.abs.name Lib.Math.abs.code 1 (some .int) ∈ lw_all) (hf : 1 ≤ R.frames) (hlo : 23 ≤ R.locals) (hc : kc ≤ R.cells) (hs : ks ≤ R.slots) (hr0 : (rest.map fun v => v.category).sum ≤ 8) {x : Int32} (hd : decode cc pc = .ok (.invokestatic idx, 3)) (kk : gAt p l e R s m args below meth c D A QQ nL kc ks (pc + 3) L (.int (gAbs x) :: rest) ws) : gAt p l e R s m args below meth c D A QQ nL kc ks pc L (.int x :: rest) ws := fun H locs ls hP hD hS hl => va_mabs C.1 C.2.1 (by rw [C.2.2.1]; exact hl.1.symm) C.2.2.2.2.2.1 (C.2.2.2.2.2.2.1 _ h1) (C.2.2.2.2.2.2.1 _ h2) (C.2.2.2.2.2.2.1 _ h3) (C.2.2.2.2.2.2.1 _ h4) hf (by omega) hc hs hd (kk H locs ls hP hD hS hl)
theorem at_copy9 (C : Cx p s m args meth c D dA cc nL rt own) {idx k1 k2 : Nat} (hq : Cond.methodLink own idx arraycopyName ∈ lw_all) (h1 : k1 < N) (l1 : lay k1 = .inl (0, 9)) (h2 : k2 < N) (l2 : lay k2 = .inl (0, 9)) (hf : 1 ≤ R.frames) (hw0 : (rest.map fun v => v.category).sum ≤ 8) (hlo : 26 ≤ R.locals) (hd : decode cc pc = .ok (.invokestatic idx, 3))
    (kk : ∀ w2 : GW, w2 = gC w k2 (va_cpy (w k1) (w k2) 0 0 9) → gAt p l e R s m args below meth c D A QQ nL kc ks (pc + 3) L rest (gW dA N ad lay w2)) : gAt p l e R s m args below meth c D A QQ nL kc ks pc L (.int 9 :: .int 0 :: .ref (ad k2) :: .int 0 :: .ref (ad k1) :: rest) (gW dA N ad lay w) := fun H locs ls hP hD hS hl => by
  have hts := C.2.2.2.2.2.2.1
  have hn : nativeFrameWords "java/lang/System" "arraycopy" 5 + 11 = 18 := by decide +kernel
  refine va_copyi C.1 C.2.1 (by rw [C.2.2.1]; exact hl.1.symm) C.2.2.2.2.2.1 (hts _ hq) (hts _ q210) (hts _ q209) (hts _ q63) C.2.2.2.2.2.2.2.1 hP hD hS k1 k2 0 0 (by rw [gW_get h1, l1]; rfl) (by rw [gW_get h2, l2]; rfl) rfl rfl rfl (by decide) (by decide) (by decide) (by decide) (by decide) (fun _ _ => rfl) hf (by rw [hn]; omega) hd (fun H1 locs1 hP1 hD1 hS1 => ?_)
  have hs : (gW dA N ad lay w).set k2 (ad k2, .inl (dA 0, 9, .inl (va_cpy (w k1) (w k2) (0 : Int32).toNatClampNeg (0 : Int32).toNatClampNeg (9 : Int32).toNatClampNeg))) = gW dA N ad lay (gC w k2 (va_cpy (w k1) (w k2) 0 0 9)) := gW_set (by rw [l2, gC_same]; rfl) (fun _ _ => rfl) (fun i hi => gC_ne hi)
  rw [hs] at hP1 hD1
  exact kk _ rfl H1 locs1 ls hP1 hD1 hS1 hl
theorem lw_SU {own : String} {idx : Nat} {y : MethodName} {b : ByteArray} {L : Nat} {r : Option FieldType} (h1 : Cond.methodLink own idx y ∈ lw_all) (h2 : Cond.sameMethod y.cls y.cls y.name y.desc ∈ lw_all) (h3 : Cond.superclass own y.cls ∈ lw_all) (h4 : Cond.instanceMethod y ∈ lw_all) (h5 : Cond.initialized y.cls ∈ lw_all) (h6 : Cond.code y b L r ∈ lw_all) : GoodIn lw_all (va_wsSU own idx y (ws_ y b L r)) := by
  refine lw_app ?_ (lw_meth h6)
  intro w hw
  simp only [List.mem_cons, List.not_mem_nil, or_false] at hw
  rcases hw with e | e | e | e | e
  · rw [e]; exact h1
  · rw [e]; exact h2
  · rw [e]; exact h3
  · rw [e]; exact h4
  · rw [e]; exact h5
theorem lw_O {own : String} {idx : Nat} {C owner : String} {x y : MethodName} {b : ByteArray} {L : Nat} {r : Option FieldType} (h1 : Cond.methodLink own idx x ∈ lw_all) (h2 : Cond.sameMethod x.cls owner x.name x.desc ∈ lw_all) (h3 : Cond.instanceMethod ⟨owner, x.name, x.desc⟩ ∈ lw_all) (h4 : Cond.selects C x y ∈ lw_all) (h5 : Cond.instanceMethod y ∈ lw_all) (h6 : Cond.initialized y.cls ∈ lw_all) (h7 : Cond.code y b L r ∈ lw_all) : GoodIn lw_all (va_wsO own idx C owner x y (ws_ y b L r)) := by
  refine lw_app ?_ (lw_meth h7)
  intro w hw
  simp only [List.mem_cons, List.not_mem_nil, or_false] at hw
  rcases hw with e | e | e | e | e | e
  · rw [e]; exact h1
  · rw [e]; exact h2
  · rw [e]; exact h3
  · rw [e]; exact h4
  · rw [e]; exact h5
  · rw [e]; exact h6
variable {y x : MethodName} {bytes : ByteArray} {maxL idx nn : Nat} {ret : Option FieldType} {rm : Room} {Qc : Array Value → State → Outcome → State → Prop} {fr : Addr → Prop} {As : List Value}
theorem run_SU (C : Cx p s m args meth c D dA cc nL rt own) {k ci NN : Nat} {Cn : String} {T : u_T} {fl : List (Option (Option Nat))} (hM : Met l y (ws_ y bytes maxL ret) rm (va_Pc (.ref (ad k) :: As) (gB D dA N ad lay w)) Qc 0 0 fr) (h1 : Cond.methodLink own idx y ∈ lw_all) (h2 : Cond.sameMethod y.cls y.cls y.name y.desc ∈ lw_all) (h3 : Cond.superclass own y.cls ∈ lw_all) (h4 : Cond.instanceMethod y ∈ lw_all) (h5 : Cond.initialized y.cls ∈ lw_all) (h6 : Cond.code y bytes maxL ret ∈ lw_all)
    (hds : y.name ≠ "<init>" ∧ (parseMethodDescriptor y.desc).map (fun d => d.parameters.length) = some nn) (hR : rm.frames + 1 ≤ R.frames ∧ 8 + (maxL + 11) + rm.locals ≤ R.locals) (hz : rm.cells = 0 ∧ rm.slots = 0) (hf : kc ≤ R.cells ∧ ks ≤ R.slots)
    (hk : k < N) (hl : lay k = .inr (.inl (ci, fl))) (hc : gCl[ci]? = some (Cn, T, NN)) (hn : As.length = nn) (hst : st = As.reverse ++ .ref (ad k) :: rest) (hW : (rest.map fun v => v.category).sum ≤ 8) (hd : decode cc pc = .ok (.invokespecial idx, 3)) :
    gRun p l e R s m args below meth c D A nL kc ks pc st rest (gW dA N ad lay w) (Qc (Value.ref (ad k) :: As).toArray) fr := by
  intro H locs ls hP hD hs
  have hat : (gW dA N ad lay w)[k]? = some (ad k, .inr (ci, gV ad (w k) 0 fl)) := by rw [gW_get hk, hl]; rfl
  have hcl := (C.2.2.2.2.2.2.2.1.1 ci _ hc).2
  exact va_runSU hcl (As := As) (rest := rest) ⟨C.1, C.2.1, C.2.2.1, C.2.2.2.2.2.1, C.2.2.2.2.2.2.1⟩ hM (va_cwSU nn C.2.2.2.2.2.2.1 (lw_SU h1 h2 h3 h4 h5 h6) rfl hz.1 hz.2 hds hR) ⟨gB_blind, va_recv C.2.2.2.2.2.2.2.1 hP hc hat, fun U hU hW => ⟨rfl, by rw [hU]; exact hP, gK_warm hW C.2.2.2.2.2.2.2, hD.weaken (fun _ _ _ _ => trivial)⟩⟩ rfl hn hs hst (lv_room hW) hd hf
/-- an overriding method -/
theorem run_O (C : Cx p s m args meth c D dA cc nL rt own) {k ci NN : Nat} {Cn owner : String} {T : u_T} {fl : List (Option (Option Nat))} (hM : Met l y (ws_ y bytes maxL ret) rm (va_Pc (.ref (ad k) :: As) (gB D dA N ad lay w)) Qc 0 0 fr) (hG : GoodIn lw_all (va_wsO own idx Cn owner x y (ws_ y bytes maxL ret))) {b0 : ByteArray} {m0 : Nat} {r0 : Option FieldType} (h0 : Cond.code ⟨owner, x.name, x.desc⟩ b0 m0 r0 ∈ lw_all)
    (hds : owner ≠ "java/lang/invoke/MethodHandle" ∧ owner ≠ "java/lang/invoke/VarHandle" ∧ (parseMethodDescriptor x.desc).map (fun d => d.parameters.length) = some nn) (hR : rm.frames + 1 ≤ R.frames ∧ 8 + (maxL + 11) + rm.locals ≤ R.locals) (hz : rm.cells = 0 ∧ rm.slots = 0) (hf : kc ≤ R.cells ∧ ks ≤ R.slots)
    (hk : k < N) (hl : lay k = .inr (.inl (ci, fl))) (hc : gCl[ci]? = some (Cn, T, NN)) (hn : As.length = nn) (hst : st = As.reverse ++ .ref (ad k) :: rest) (hW : (rest.map fun v => v.category).sum ≤ 8) (hd : decode cc pc = .ok (.invokevirtual idx, 3)) :
    gRun p l e R s m args below meth c D A nL kc ks pc st rest (gW dA N ad lay w) (Qc (Value.ref (ad k) :: As).toArray) fr := by
  intro H locs ls hP hD hs
  have hat : (gW dA N ad lay w)[k]? = some (ad k, .inr (ci, gV ad (w k) 0 fl)) := by rw [gW_get hk, hl]; rfl
  exact va_runU (As := As) (rest := rest) ⟨C.1, C.2.1, C.2.2.1, C.2.2.2.2.2.1, C.2.2.2.2.2.2.1⟩ hM (va_cwO nn C.2.2.2.2.2.2.1 hG rfl hz.1 hz.2 h0 hds hR) ⟨gB_blind, va_recv C.2.2.2.2.2.2.2.1 hP hc hat, fun U hU hW => ⟨rfl, by rw [hU]; exact hP, gK_warm hW C.2.2.2.2.2.2.2, hD.weaken (fun _ _ _ _ => trivial)⟩⟩ rfl hn hs hst (lv_room hW) hd hf
end GX
theorem bp_63 : (Int8.ofInt 63).toInt32 = 63 := by decide
theorem sp_4300 : (Int16.ofInt 4300).toInt32 = 4300 := by decide
theorem nz_100 : ¬ (100 : Int32) = 0 := by decide
theorem nz_1000 : ¬ (1000 : Int32) = 0 := by decide
theorem dsJ4_bitCount : yJ4_bitCount.cls ≠ "java/lang/invoke/MethodHandle" ∧ yJ4_bitCount.cls ≠ "java/lang/invoke/VarHandle" ∧ (parseMethodDescriptor yJ4_bitCount.desc).map (fun d => d.parameters.length) = some 1 := by decide +kernel
theorem dsJ0_fill : yJ0_fill.cls ≠ "java/lang/invoke/MethodHandle" ∧ yJ0_fill.cls ≠ "java/lang/invoke/VarHandle" ∧ (parseMethodDescriptor yJ0_fill.desc).map (fun d => d.parameters.length) = some 2 := by decide +kernel
theorem dsX3_bears : yX3_bears.cls = "SkittleGentry$Gentry" ∧ yX3_bears.cls ≠ "java/lang/invoke/MethodHandle" ∧ yX3_bears.cls ≠ "java/lang/invoke/VarHandle" ∧ (parseMethodDescriptor yX3_bears.desc).map (fun d => d.parameters.length) = some 3 := by decide +kernel
theorem dsX4_bears : yX4_bears.cls = "SkittleGentry$Family" ∧ yX4_bears.cls ≠ "java/lang/invoke/MethodHandle" ∧ yX4_bears.cls ≠ "java/lang/invoke/VarHandle" ∧ (parseMethodDescriptor yX4_bears.desc).map (fun d => d.parameters.length) = some 3 := by decide +kernel
theorem dsX5_bears : yX5_bears.cls = "SkittleGentry$Saint" ∧ yX5_bears.cls ≠ "java/lang/invoke/MethodHandle" ∧ yX5_bears.cls ≠ "java/lang/invoke/VarHandle" ∧ (parseMethodDescriptor yX5_bears.desc).map (fun d => d.parameters.length) = some 3 := by decide +kernel
theorem dsX6_bears : yX6_bears.cls = "SkittleGentry$Poor" ∧ yX6_bears.cls ≠ "java/lang/invoke/MethodHandle" ∧ yX6_bears.cls ≠ "java/lang/invoke/VarHandle" ∧ (parseMethodDescriptor yX6_bears.desc).map (fun d => d.parameters.length) = some 3 := by decide +kernel
theorem dsX2_begin : yX2_begin.cls = "SkittleGentry$State" ∧ yX2_begin.cls ≠ "java/lang/invoke/MethodHandle" ∧ yX2_begin.cls ≠ "java/lang/invoke/VarHandle" ∧ (parseMethodDescriptor yX2_begin.desc).map (fun d => d.parameters.length) = some 0 := by decide +kernel
theorem dsX2_set : yX2_set.cls = "SkittleGentry$State" ∧ yX2_set.cls ≠ "java/lang/invoke/MethodHandle" ∧ yX2_set.cls ≠ "java/lang/invoke/VarHandle" ∧ (parseMethodDescriptor yX2_set.desc).map (fun d => d.parameters.length) = some 1 := by decide +kernel
theorem dsX0_rowOf : yX0_rowOf.cls ≠ "java/lang/invoke/MethodHandle" ∧ yX0_rowOf.cls ≠ "java/lang/invoke/VarHandle" ∧ (parseMethodDescriptor yX0_rowOf.desc).map (fun d => d.parameters.length) = some 1 := by decide +kernel
theorem dsX0_columnOf : yX0_columnOf.cls ≠ "java/lang/invoke/MethodHandle" ∧ yX0_columnOf.cls ≠ "java/lang/invoke/VarHandle" ∧ (parseMethodDescriptor yX0_columnOf.desc).map (fun d => d.parameters.length) = some 1 := by decide +kernel
theorem dsX0_plateAt : yX0_plateAt.cls ≠ "java/lang/invoke/MethodHandle" ∧ yX0_plateAt.cls ≠ "java/lang/invoke/VarHandle" ∧ (parseMethodDescriptor yX0_plateAt.desc).map (fun d => d.parameters.length) = some 2 := by decide +kernel
theorem dsX2_onPlate : yX2_onPlate.cls = "SkittleGentry$State" ∧ yX2_onPlate.cls ≠ "java/lang/invoke/MethodHandle" ∧ yX2_onPlate.cls ≠ "java/lang/invoke/VarHandle" ∧ (parseMethodDescriptor yX2_onPlate.desc).map (fun d => d.parameters.length) = some 1 := by decide +kernel
theorem dsX0_has : yX0_has.cls ≠ "java/lang/invoke/MethodHandle" ∧ yX0_has.cls ≠ "java/lang/invoke/VarHandle" ∧ (parseMethodDescriptor yX0_has.desc).map (fun d => d.parameters.length) = some 2 := by decide +kernel
theorem dsX2_standingAt : yX2_standingAt.cls = "SkittleGentry$State" ∧ yX2_standingAt.cls ≠ "java/lang/invoke/MethodHandle" ∧ yX2_standingAt.cls ≠ "java/lang/invoke/VarHandle" ∧ (parseMethodDescriptor yX2_standingAt.desc).map (fun d => d.parameters.length) = some 2 := by decide +kernel
theorem dsX2_bears : yX2_bears.cls = "SkittleGentry$State" ∧ yX2_bears.cls ≠ "java/lang/invoke/MethodHandle" ∧ yX2_bears.cls ≠ "java/lang/invoke/VarHandle" ∧ (parseMethodDescriptor yX2_bears.desc).map (fun d => d.parameters.length) = some 1 := by decide +kernel
theorem dsX2_strike : yX2_strike.cls = "SkittleGentry$State" ∧ yX2_strike.cls ≠ "java/lang/invoke/MethodHandle" ∧ yX2_strike.cls ≠ "java/lang/invoke/VarHandle" ∧ (parseMethodDescriptor yX2_strike.desc).map (fun d => d.parameters.length) = some 3 := by decide +kernel
theorem dsX2_hit : yX2_hit.cls = "SkittleGentry$State" ∧ yX2_hit.cls ≠ "java/lang/invoke/MethodHandle" ∧ yX2_hit.cls ≠ "java/lang/invoke/VarHandle" ∧ (parseMethodDescriptor yX2_hit.desc).map (fun d => d.parameters.length) = some 3 := by decide +kernel
theorem dsX2_roll : yX2_roll.cls = "SkittleGentry$State" ∧ yX2_roll.cls ≠ "java/lang/invoke/MethodHandle" ∧ yX2_roll.cls ≠ "java/lang/invoke/VarHandle" ∧ (parseMethodDescriptor yX2_roll.desc).map (fun d => d.parameters.length) = some 3 := by decide +kernel
theorem dsX2_rollBall : yX2_rollBall.cls = "SkittleGentry$State" ∧ yX2_rollBall.cls ≠ "java/lang/invoke/MethodHandle" ∧ yX2_rollBall.cls ≠ "java/lang/invoke/VarHandle" ∧ (parseMethodDescriptor yX2_rollBall.desc).map (fun d => d.parameters.length) = some 1 := by decide +kernel
theorem dsX2_throwBall : yX2_throwBall.cls = "SkittleGentry$State" ∧ yX2_throwBall.cls ≠ "java/lang/invoke/MethodHandle" ∧ yX2_throwBall.cls ≠ "java/lang/invoke/VarHandle" ∧ (parseMethodDescriptor yX2_throwBall.desc).map (fun d => d.parameters.length) = some 3 := by decide +kernel
theorem dsX2_setUp : yX2_setUp.cls = "SkittleGentry$State" ∧ yX2_setUp.cls ≠ "java/lang/invoke/MethodHandle" ∧ yX2_setUp.cls ≠ "java/lang/invoke/VarHandle" ∧ (parseMethodDescriptor yX2_setUp.desc).map (fun d => d.parameters.length) = some 0 := by decide +kernel
theorem dsX2_change : yX2_change.cls = "SkittleGentry$State" ∧ yX2_change.cls ≠ "java/lang/invoke/MethodHandle" ∧ yX2_change.cls ≠ "java/lang/invoke/VarHandle" ∧ (parseMethodDescriptor yX2_change.desc).map (fun d => d.parameters.length) = some 2 := by decide +kernel
theorem dsX2_draw : yX2_draw.cls = "SkittleGentry$State" ∧ yX2_draw.cls ≠ "java/lang/invoke/MethodHandle" ∧ yX2_draw.cls ≠ "java/lang/invoke/VarHandle" ∧ (parseMethodDescriptor yX2_draw.desc).map (fun d => d.parameters.length) = some 1 := by decide +kernel
theorem dsX2_byDraws : yX2_byDraws.cls = "SkittleGentry$State" ∧ yX2_byDraws.cls ≠ "java/lang/invoke/MethodHandle" ∧ yX2_byDraws.cls ≠ "java/lang/invoke/VarHandle" ∧ (parseMethodDescriptor yX2_byDraws.desc).map (fun d => d.parameters.length) = some 0 := by decide +kernel
theorem dsX0_isIn : yX0_isIn.cls ≠ "java/lang/invoke/MethodHandle" ∧ yX0_isIn.cls ≠ "java/lang/invoke/VarHandle" ∧ (parseMethodDescriptor yX0_isIn.desc).map (fun d => d.parameters.length) = some 3 := by decide +kernel
theorem dsX0_feed : yX0_feed.cls = "SkittleGentry" ∧ yX0_feed.cls ≠ "java/lang/invoke/MethodHandle" ∧ yX0_feed.cls ≠ "java/lang/invoke/VarHandle" ∧ (parseMethodDescriptor yX0_feed.desc).map (fun d => d.parameters.length) = some 1 := by decide +kernel
theorem dsX0_fault : yX0_fault.cls = "SkittleGentry" ∧ yX0_fault.cls ≠ "java/lang/invoke/MethodHandle" ∧ yX0_fault.cls ≠ "java/lang/invoke/VarHandle" ∧ (parseMethodDescriptor yX0_fault.desc).map (fun d => d.parameters.length) = some 0 := by decide +kernel
theorem dsX0_isCounty : yX0_isCounty.cls = "SkittleGentry" ∧ yX0_isCounty.cls ≠ "java/lang/invoke/MethodHandle" ∧ yX0_isCounty.cls ≠ "java/lang/invoke/VarHandle" ∧ (parseMethodDescriptor yX0_isCounty.desc).map (fun d => d.parameters.length) = some 0 := by decide +kernel
theorem dsX0_isBall : yX0_isBall.cls ≠ "java/lang/invoke/MethodHandle" ∧ yX0_isBall.cls ≠ "java/lang/invoke/VarHandle" ∧ (parseMethodDescriptor yX0_isBall.desc).map (fun d => d.parameters.length) = some 1 := by decide +kernel
theorem dsX0_fellsBy : yX0_fellsBy.cls = "SkittleGentry" ∧ yX0_fellsBy.cls ≠ "java/lang/invoke/MethodHandle" ∧ yX0_fellsBy.cls ≠ "java/lang/invoke/VarHandle" ∧ (parseMethodDescriptor yX0_fellsBy.desc).map (fun d => d.parameters.length) = some 1 := by decide +kernel
theorem dsX0_layFells : yX0_layFells.cls = "SkittleGentry" ∧ yX0_layFells.cls ≠ "java/lang/invoke/MethodHandle" ∧ yX0_layFells.cls ≠ "java/lang/invoke/VarHandle" ∧ (parseMethodDescriptor yX0_layFells.desc).map (fun d => d.parameters.length) = some 0 := by decide +kernel
theorem dsX0_worst : yX0_worst.cls = "SkittleGentry" ∧ yX0_worst.cls ≠ "java/lang/invoke/MethodHandle" ∧ yX0_worst.cls ≠ "java/lang/invoke/VarHandle" ∧ (parseMethodDescriptor yX0_worst.desc).map (fun d => d.parameters.length) = some 0 := by decide +kernel
theorem dsX0_ballsThatFell : yX0_ballsThatFell.cls = "SkittleGentry" ∧ yX0_ballsThatFell.cls ≠ "java/lang/invoke/MethodHandle" ∧ yX0_ballsThatFell.cls ≠ "java/lang/invoke/VarHandle" ∧ (parseMethodDescriptor yX0_ballsThatFell.desc).map (fun d => d.parameters.length) = some 1 := by decide +kernel
theorem dsX0_safest : yX0_safest.cls = "SkittleGentry" ∧ yX0_safest.cls ≠ "java/lang/invoke/MethodHandle" ∧ yX0_safest.cls ≠ "java/lang/invoke/VarHandle" ∧ (parseMethodDescriptor yX0_safest.desc).map (fun d => d.parameters.length) = some 0 := by decide +kernel
theorem dsX0_toldOfBalls : yX0_toldOfBalls.cls = "SkittleGentry" ∧ yX0_toldOfBalls.cls ≠ "java/lang/invoke/MethodHandle" ∧ yX0_toldOfBalls.cls ≠ "java/lang/invoke/VarHandle" ∧ (parseMethodDescriptor yX0_toldOfBalls.desc).map (fun d => d.parameters.length) = some 1 := by decide +kernel
theorem dsX0_talk : yX0_talk.cls = "SkittleGentry" ∧ yX0_talk.cls ≠ "java/lang/invoke/MethodHandle" ∧ yX0_talk.cls ≠ "java/lang/invoke/VarHandle" ∧ (parseMethodDescriptor yX0_talk.desc).map (fun d => d.parameters.length) = some 0 := by decide +kernel
theorem dsX0_told : yX0_told.cls = "SkittleGentry" ∧ yX0_told.cls ≠ "java/lang/invoke/MethodHandle" ∧ yX0_told.cls ≠ "java/lang/invoke/VarHandle" ∧ (parseMethodDescriptor yX0_told.desc).map (fun d => d.parameters.length) = some 1 := by decide +kernel
theorem dsX0_isSkittle : yX0_isSkittle.cls = "SkittleGentry" ∧ yX0_isSkittle.cls ≠ "java/lang/invoke/MethodHandle" ∧ yX0_isSkittle.cls ≠ "java/lang/invoke/VarHandle" ∧ (parseMethodDescriptor yX0_isSkittle.desc).map (fun d => d.parameters.length) = some 1 := by decide +kernel
theorem dsX0_firstOf : yX0_firstOf.cls = "SkittleGentry" ∧ yX0_firstOf.cls ≠ "java/lang/invoke/MethodHandle" ∧ yX0_firstOf.cls ≠ "java/lang/invoke/VarHandle" ∧ (parseMethodDescriptor yX0_firstOf.desc).map (fun d => d.parameters.length) = some 1 := by decide +kernel
theorem dsX0_skittle : yX0_skittle.cls = "SkittleGentry" ∧ yX0_skittle.cls ≠ "java/lang/invoke/MethodHandle" ∧ yX0_skittle.cls ≠ "java/lang/invoke/VarHandle" ∧ (parseMethodDescriptor yX0_skittle.desc).map (fun d => d.parameters.length) = some 2 := by decide +kernel
theorem dsX0_isPlate : yX0_isPlate.cls ≠ "java/lang/invoke/MethodHandle" ∧ yX0_isPlate.cls ≠ "java/lang/invoke/VarHandle" ∧ (parseMethodDescriptor yX0_isPlate.desc).map (fun d => d.parameters.length) = some 1 := by decide +kernel
theorem dsX0_plate : yX0_plate.cls = "SkittleGentry" ∧ yX0_plate.cls ≠ "java/lang/invoke/MethodHandle" ∧ yX0_plate.cls ≠ "java/lang/invoke/VarHandle" ∧ (parseMethodDescriptor yX0_plate.desc).map (fun d => d.parameters.length) = some 1 := by decide +kernel
theorem dsX0_refusedBall : yX0_refusedBall.cls = "SkittleGentry" ∧ yX0_refusedBall.cls ≠ "java/lang/invoke/MethodHandle" ∧ yX0_refusedBall.cls ≠ "java/lang/invoke/VarHandle" ∧ (parseMethodDescriptor yX0_refusedBall.desc).map (fun d => d.parameters.length) = some 3 := by decide +kernel
theorem dsX0_remember : yX0_remember.cls = "SkittleGentry" ∧ yX0_remember.cls ≠ "java/lang/invoke/MethodHandle" ∧ yX0_remember.cls ≠ "java/lang/invoke/VarHandle" ∧ (parseMethodDescriptor yX0_remember.desc).map (fun d => d.parameters.length) = some 0 := by decide +kernel
theorem dsX0_ball : yX0_ball.cls = "SkittleGentry" ∧ yX0_ball.cls ≠ "java/lang/invoke/MethodHandle" ∧ yX0_ball.cls ≠ "java/lang/invoke/VarHandle" ∧ (parseMethodDescriptor yX0_ball.desc).map (fun d => d.parameters.length) = some 3 := by decide +kernel
theorem dsX0_setUp : yX0_setUp.cls = "SkittleGentry" ∧ yX0_setUp.cls ≠ "java/lang/invoke/MethodHandle" ∧ yX0_setUp.cls ≠ "java/lang/invoke/VarHandle" ∧ (parseMethodDescriptor yX0_setUp.desc).map (fun d => d.parameters.length) = some 0 := by decide +kernel
theorem dsX0_lift : yX0_lift.cls = "SkittleGentry" ∧ yX0_lift.cls ≠ "java/lang/invoke/MethodHandle" ∧ yX0_lift.cls ≠ "java/lang/invoke/VarHandle" ∧ (parseMethodDescriptor yX0_lift.desc).map (fun d => d.parameters.length) = some 1 := by decide +kernel
theorem dsX0_change : yX0_change.cls = "SkittleGentry" ∧ yX0_change.cls ≠ "java/lang/invoke/MethodHandle" ∧ yX0_change.cls ≠ "java/lang/invoke/VarHandle" ∧ (parseMethodDescriptor yX0_change.desc).map (fun d => d.parameters.length) = some 2 := by decide +kernel
theorem dsX0_chip : yX0_chip.cls = "SkittleGentry" ∧ yX0_chip.cls ≠ "java/lang/invoke/MethodHandle" ∧ yX0_chip.cls ≠ "java/lang/invoke/VarHandle" ∧ (parseMethodDescriptor yX0_chip.desc).map (fun d => d.parameters.length) = some 2 := by decide +kernel
theorem dsX0_replace : yX0_replace.cls = "SkittleGentry" ∧ yX0_replace.cls ≠ "java/lang/invoke/MethodHandle" ∧ yX0_replace.cls ≠ "java/lang/invoke/VarHandle" ∧ (parseMethodDescriptor yX0_replace.desc).map (fun d => d.parameters.length) = some 1 := by decide +kernel
theorem dsX0_drift : yX0_drift.cls = "SkittleGentry" ∧ yX0_drift.cls ≠ "java/lang/invoke/MethodHandle" ∧ yX0_drift.cls ≠ "java/lang/invoke/VarHandle" ∧ (parseMethodDescriptor yX0_drift.desc).map (fun d => d.parameters.length) = some 1 := by decide +kernel
theorem dsX0_undo : yX0_undo.cls = "SkittleGentry" ∧ yX0_undo.cls ≠ "java/lang/invoke/MethodHandle" ∧ yX0_undo.cls ≠ "java/lang/invoke/VarHandle" ∧ (parseMethodDescriptor yX0_undo.desc).map (fun d => d.parameters.length) = some 0 := by decide +kernel
theorem dsX0_wouldFall : yX0_wouldFall.cls = "SkittleGentry" ∧ yX0_wouldFall.cls ≠ "java/lang/invoke/MethodHandle" ∧ yX0_wouldFall.cls ≠ "java/lang/invoke/VarHandle" ∧ (parseMethodDescriptor yX0_wouldFall.desc).map (fun d => d.parameters.length) = some 4 := by decide +kernel
theorem dsX0_isSet : yX0_isSet.cls = "SkittleGentry" ∧ yX0_isSet.cls ≠ "java/lang/invoke/MethodHandle" ∧ yX0_isSet.cls ≠ "java/lang/invoke/VarHandle" ∧ (parseMethodDescriptor yX0_isSet.desc).map (fun d => d.parameters.length) = some 1 := by decide +kernel
theorem dsX0_balls : yX0_balls.cls = "SkittleGentry" ∧ yX0_balls.cls ≠ "java/lang/invoke/MethodHandle" ∧ yX0_balls.cls ≠ "java/lang/invoke/VarHandle" ∧ (parseMethodDescriptor yX0_balls.desc).map (fun d => d.parameters.length) = some 2 := by decide +kernel
theorem dsX0_spare : yX0_spare.cls = "SkittleGentry" ∧ yX0_spare.cls ≠ "java/lang/invoke/MethodHandle" ∧ yX0_spare.cls ≠ "java/lang/invoke/VarHandle" ∧ (parseMethodDescriptor yX0_spare.desc).map (fun d => d.parameters.length) = some 2 := by decide +kernel
theorem dsX0_resultOf : yX0_resultOf.cls = "SkittleGentry" ∧ yX0_resultOf.cls ≠ "java/lang/invoke/MethodHandle" ∧ yX0_resultOf.cls ≠ "java/lang/invoke/VarHandle" ∧ (parseMethodDescriptor yX0_resultOf.desc).map (fun d => d.parameters.length) = some 2 := by decide +kernel
theorem dsX0_needOf : yX0_needOf.cls = "SkittleGentry" ∧ yX0_needOf.cls ≠ "java/lang/invoke/MethodHandle" ∧ yX0_needOf.cls ≠ "java/lang/invoke/VarHandle" ∧ (parseMethodDescriptor yX0_needOf.desc).map (fun d => d.parameters.length) = some 1 := by decide +kernel
theorem dsX0_allDown : yX0_allDown.cls = "SkittleGentry" ∧ yX0_allDown.cls ≠ "java/lang/invoke/MethodHandle" ∧ yX0_allDown.cls ≠ "java/lang/invoke/VarHandle" ∧ (parseMethodDescriptor yX0_allDown.desc).map (fun d => d.parameters.length) = some 1 := by decide +kernel
theorem dsX0_mend : yX0_mend.cls = "SkittleGentry" ∧ yX0_mend.cls ≠ "java/lang/invoke/MethodHandle" ∧ yX0_mend.cls ≠ "java/lang/invoke/VarHandle" ∧ (parseMethodDescriptor yX0_mend.desc).map (fun d => d.parameters.length) = some 4 := by decide +kernel
theorem dsX0_hand : yX0_hand.cls = "SkittleGentry" ∧ yX0_hand.cls ≠ "java/lang/invoke/MethodHandle" ∧ yX0_hand.cls ≠ "java/lang/invoke/VarHandle" ∧ (parseMethodDescriptor yX0_hand.desc).map (fun d => d.parameters.length) = some 1 := by decide +kernel
theorem dsX0_ask : yX0_ask.cls = "SkittleGentry" ∧ yX0_ask.cls ≠ "java/lang/invoke/MethodHandle" ∧ yX0_ask.cls ≠ "java/lang/invoke/VarHandle" ∧ (parseMethodDescriptor yX0_ask.desc).map (fun d => d.parameters.length) = some 1 := by decide +kernel
theorem dsX0_calm : yX0_calm.cls = "SkittleGentry" ∧ yX0_calm.cls ≠ "java/lang/invoke/MethodHandle" ∧ yX0_calm.cls ≠ "java/lang/invoke/VarHandle" ∧ (parseMethodDescriptor yX0_calm.desc).map (fun d => d.parameters.length) = some 2 := by decide +kernel
theorem dsX0_write : yX0_write.cls = "SkittleGentry" ∧ yX0_write.cls ≠ "java/lang/invoke/MethodHandle" ∧ yX0_write.cls ≠ "java/lang/invoke/VarHandle" ∧ (parseMethodDescriptor yX0_write.desc).map (fun d => d.parameters.length) = some 2 := by decide +kernel
theorem dsX0_tear : yX0_tear.cls = "SkittleGentry" ∧ yX0_tear.cls ≠ "java/lang/invoke/MethodHandle" ∧ yX0_tear.cls ≠ "java/lang/invoke/VarHandle" ∧ (parseMethodDescriptor yX0_tear.desc).map (fun d => d.parameters.length) = some 0 := by decide +kernel
theorem dsX0_judge : yX0_judge.cls = "SkittleGentry" ∧ yX0_judge.cls ≠ "java/lang/invoke/MethodHandle" ∧ yX0_judge.cls ≠ "java/lang/invoke/VarHandle" ∧ (parseMethodDescriptor yX0_judge.desc).map (fun d => d.parameters.length) = some 0 := by decide +kernel
theorem dsX0_seed : yX0_seed.cls = "SkittleGentry" ∧ yX0_seed.cls ≠ "java/lang/invoke/MethodHandle" ∧ yX0_seed.cls ≠ "java/lang/invoke/VarHandle" ∧ (parseMethodDescriptor yX0_seed.desc).map (fun d => d.parameters.length) = some 1 := by decide +kernel
theorem dsX0_keep : yX0_keep.cls = "SkittleGentry" ∧ yX0_keep.cls ≠ "java/lang/invoke/MethodHandle" ∧ yX0_keep.cls ≠ "java/lang/invoke/VarHandle" ∧ (parseMethodDescriptor yX0_keep.desc).map (fun d => d.parameters.length) = some 1 := by decide +kernel
theorem dsX0_goBack : yX0_goBack.cls = "SkittleGentry" ∧ yX0_goBack.cls ≠ "java/lang/invoke/MethodHandle" ∧ yX0_goBack.cls ≠ "java/lang/invoke/VarHandle" ∧ (parseMethodDescriptor yX0_goBack.desc).map (fun d => d.parameters.length) = some 1 := by decide +kernel
