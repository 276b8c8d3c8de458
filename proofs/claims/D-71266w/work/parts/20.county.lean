/-! county(): a new Reader reads the text; its County takes the old one's place; or a Fault is caught -/
set_option maxRecDepth 100000
/-- the references of a cell -/
def gRefs (d : gD) (P : Nat → Prop) : Prop := match d with
  | .inl _ => True
  | .inr (.inl o) => ∀ r, some (some r) ∈ o.2 → P r
  | .inr (.inr f) => ∀ i r, f.2.2 i = some r → P r
theorem gV_ad {ad ad' : Nat → Nat} {v : Nat → Int32} : ∀ (fl : List (Option (Option Nat))) (o : Nat), (∀ r, some (some r) ∈ fl → ad r = ad' r) → gV ad v o fl = gV ad' v o fl
  | [], _, _ => rfl
  | none :: t, o, h => by
    have h1 := gV_ad (v := v) t (o + 1) (fun r hr => h r (List.mem_cons_of_mem _ hr))
    simp only [gV]; rw [h1]
  | some none :: t, o, h => by
    have h1 := gV_ad (v := v) t (o + 1) (fun r hr => h r (List.mem_cons_of_mem _ hr))
    simp only [gV]; rw [h1]; rfl
  | some (some r) :: t, o, h => by
    have h1 := gV_ad (v := v) t (o + 1) (fun r hr => h r (List.mem_cons_of_mem _ hr))
    simp only [gV]; rw [h1]
    show va_rf (some (ad r)) :: _ = va_rf (some (ad' r)) :: _
    rw [h r List.mem_cons_self]
theorem gE_ad {dA : Nat → ClassId} {ad ad' : Nat → Nat} {v : Nat → Int32} {d : gD} (h : gRefs d (fun r => ad r = ad' r)) : gE dA ad d v = gE dA ad' d v := by
  rcases d with a | o | f
  · rfl
  · show Sum.inr (o.1, gV ad v 0 o.2) = Sum.inr (o.1, gV ad' v 0 o.2)
    rw [gV_ad o.2 0 h]
  · show (Sum.inl (dA f.1, (f.2.1, .inr (.inr (.inr (.inr (fun i => (f.2.2 i).map ad)))))) : va_E) = Sum.inl (dA f.1, (f.2.1, .inr (.inr (.inr (.inr (fun i => (f.2.2 i).map ad'))))))
    have e : (fun i => (f.2.2 i).map ad) = fun i => (f.2.2 i).map ad' := by
      funext i
      cases hi : f.2.2 i with
      | none => rfl
      | some r => show some (ad r) = some (ad' r); rw [h i r hi]
    rw [e]
theorem gRefs.imp {d : gD} {P Q : Nat → Prop} (h : gRefs d P) (hq : ∀ r, P r → Q r) : gRefs d Q := by
  rcases d with a | o | f
  · trivial
  · exact fun r hr => hq r (h r hr)
  · exact fun i r hr => hq r (h i r hr)
theorem gRefs_l {fl : List (Option (Option Nat))} {c : Nat} {P : Nat → Prop} (h : ∀ x ∈ fl, ∀ r, x = some (some r) → P r) : gRefs (.inr (.inl (c, fl))) P := fun r hr => h _ hr r rfl
theorem layX_refs0 : gRefs (layX 0) (fun r => r < 137) := fun r hr => by
  have hr : some (some r) ∈ flX0 := hr
  simp only [flX0, List.mem_cons, Option.some.injEq, reduceCtorEq, List.not_mem_nil, or_false, false_or] at hr
  omega
theorem layX_refs2 : gRefs (layX 2) (fun r => r < 137) := fun r hr => by
  have hr : some (some r) ∈ flX1 := hr
  simp only [flX1, List.mem_cons, Option.some.injEq, reduceCtorEq, List.not_mem_nil, or_false, false_or] at hr
  omega
theorem layS_refs {b i : Nat} (hb : 6 ≤ b ∧ b + 5 < 137) : gRefs (laXS b i) (fun r => (r = 0 ∨ 6 ≤ r) ∧ r < 137) := by
  rcases i with _ | i
  · intro r hr
    have hr : some (some r) ∈ flX2 b := hr
    simp only [flX2, List.mem_cons, Option.some.injEq, reduceCtorEq, List.not_mem_nil, or_false, false_or] at hr
    omega
  · trivial
/-- no cell but 0 and 2 refers to County's cells -/
theorem layX_refs {k : Nat} (hk : k < 137) (h0 : k ≠ 0) (h2 : k ≠ 2) : gRefs (layX k) (fun r => (r = 0 ∨ 6 ≤ r) ∧ r < 137) := by
  by_cases h6 : k < 6
  · rcases (show k = 1 ∨ k = 3 ∨ k = 4 ∨ k = 5 by omega) with rfl | rfl | rfl | rfl
    · intro i r hr
      have hr : (if i < 4 then some (25 + i) else none) = some r := hr
      split at hr
      · cases hr; omega
      · cases hr
    · trivial
    · trivial
    · trivial
  · by_cases h18 : k < 18
    · unfold layX; rw [if_neg h6, if_pos h18]; exact layS_refs (by omega)
    · by_cases h29 : k < 29
      · unfold layX; rw [if_neg h6, if_neg h18, if_pos h29]
        rcases (show k = 18 ∨ k = 19 ∨ k = 20 ∨ k = 21 ∨ k = 22 ∨ k = 23 ∨ k = 24 ∨ k = 25 ∨ k = 26 ∨ k = 27 ∨ k = 28 by omega) with rfl | rfl | rfl | rfl | rfl | rfl | rfl | rfl | rfl | rfl | rfl
        · intro i r hr
          have hr : (if i < 16 then some (41 + 6 * i) else none) = some r := hr
          split at hr
          · cases hr; omega
          · cases hr
        · trivial
        · trivial
        · trivial
        · trivial
        · trivial
        · intro i r hr
          have hr : (if i < 2 then some (29 + 6 * i) else none) = some r := hr
          split at hr
          · cases hr; omega
          · cases hr
        · intro r hr; cases hr
        · intro r hr; cases hr
        · intro r hr; cases hr
        · intro r hr; cases hr
      · unfold layX; rw [if_neg h6, if_neg h18, if_neg h29]; exact layS_refs (by omega)
theorem layX_refsA {k : Nat} (hk : k < 137) : gRefs (layX k) (fun r => r < 137) := by
  by_cases h0 : k = 0
  · subst h0; exact layX_refs0
  · by_cases h2 : k = 2
    · subst h2; exact layX_refs2
    · exact (layX_refs hk h0 h2).imp (fun r h => h.2)
theorem layF_lt {k : Nat} (h : k < 137) : layF k = layX k := by unfold layF; rw [if_pos h]
theorem gW_getA {dA : Nat → ClassId} {N : Nat} {ad : Nat → Nat} {lay : Nat → gD} {w : GW} {wr : va_W} {k : Nat} (hk : k < N) : (gW dA N ad lay w ++ wr)[k]? = some (ad k, gE dA ad (lay k) (w k)) := by
  rw [List.getElem?_append_left (by simp [gW]; exact hk), gW_get hk]
theorem gW_getB {dA : Nat → ClassId} {N : Nat} {ad : Nat → Nat} {lay : Nat → gD} {w : GW} {wr : va_W} {k : Nat} : (gW dA N ad lay w ++ wr)[N + k]? = wr[k]? := by
  rw [List.getElem?_append_right (by simp [gW]), show N + k - (gW dA N ad lay w).length = k by simp [gW]]
/-- a longer world out of a shorter one -/
theorem gW_ext {dA : Nat → ClassId} {N M : Nat} {ad ad' : Nat → Nat} {lay lay' : Nat → gD} {w w' : GW} {wr : va_W} (hlen : wr.length = M) (h1 : ∀ k, k < N → (ad k, gE dA ad (lay k) (w k)) = (ad' k, gE dA ad' (lay' k) (w' k))) (h2 : ∀ k, k < M → wr[k]? = some (ad' (N + k), gE dA ad' (lay' (N + k)) (w' (N + k)))) : gW dA N ad lay w ++ wr = gW dA (N + M) ad' lay' w' := by
  apply List.ext_getElem?
  intro i
  by_cases hi : i < N
  · rw [gW_getA hi, gW_get (by omega), h1 i hi]
  · obtain ⟨k, rfl⟩ : ∃ k, i = N + k := ⟨i - N, by omega⟩
    rw [gW_getB]
    by_cases hk : k < M
    · rw [h2 k hk, gW_get (by omega)]
    · rw [List.getElem?_eq_none (by omega), List.getElem?_eq_none (by simp [gW]; omega)]
/-- the Reader's world at its start -/
def rdW (w : GW) : GW := fun c => if c < 137 then w c else if c = 137 then (fun i => if i = 1 then w 0 10 else 0) else if c = 138 then (fun i => if i = 0 then -1 else 0) else fun _ => 0
/-- the Reader's County in the old one's place -/
def cnP (k : Nat) : Nat := if 2 ≤ k ∧ k < 6 then k + 136 else k
def cnW (w : GW) : GW := fun c => w (cnP c)
def faW (w : GW) (n p : Int32) : GW := fun c => if c < 142 then w c else (fun i => if i = 6 then n else if i = 7 then p else 0)
def PX0_county_67 (Q : Int32 → GW → Prop) (w : GW) : Prop :=
    (PX2_begin 6 w (fun w_2 =>
      (∀ w_3 : GW, w_3 = gS w_2 0 5 0 →
       (∀ w_4 : GW, w_4 = gS w_3 0 8 0 →
        (∀ w_5 : GW, w_5 = gS w_4 29 9 0 →
         (∀ w_6 : GW, w_6 = gS w_5 35 9 0 →
          (Q (w_6 2 4) w_6)))))))
def PX0_county (w : GW) (Q : Int32 → GW → Prop) : Prop :=
  PX8_all (rdW (gS w 0 11 (-1))) (fun w2 => PX0_county_67 Q (gS (cnW w2) 0 10 0)) (fun n p w2 => Q (-10 - n) (gS (gS w2 0 11 p) 0 10 0))
abbrev hhC : List (Nat × Nat × Nat × Nat) := [((5 : Nat), (27 : Nat), (35 : Nat), (101 : Nat)), ((5 : Nat), (27 : Nat), (59 : Nat), (0 : Nat)), ((35 : Nat), (52 : Nat), (59 : Nat), (0 : Nat))]
section GX
variable {p : Program} {l : Launch} {e : Env} {s : State} {m : MethodId} {args : Array Value} {below : List Frame} {meth : Method} {c : Code} {D : va_G} {dA : Nat → ClassId} {ad : Nat → Nat}
variable {R : Room} {A : Nat → Prop} {QQ : State → Prop} {cc : ByteArray} {nL kc ks pc mc ms mc1 ms1 : Nat} {rt : Option FieldType} {own : String} {L : List (Nat × Value)} {st rest : List Value} {N : Nat} {lay : Nat → gD} {w : GW} {ws wc : va_W} {y : MethodName} {bytes : ByteArray} {maxL idx nn : Nat} {ret : Option FieldType} {rm : Room} {Qc : Array Value → State → Outcome → State → Prop} {As : List Value} {sz : Nat} {X : Int32 → Int32 → GW → Prop}
/-- fewer cells, in other places -/
theorem at_sel {ws2 : va_W} (pos : Nat → Nat) (h : ∀ (k : Nat) (q : Nat × va_E), ws2[k]? = some q → ws[pos k]? = some q) (hinj : ∀ i j : Nat, i < ws2.length → j < ws2.length → pos i = pos j → i = j) (kk : gAt p l e R s m args below meth c D A QQ nL kc ks pc L st ws2) : gAt p l e R s m args below meth c D A QQ nL kc ks pc L st ws := fun H locs ls hP hD hS hl =>
  kk H locs ls (fun k q hk => hP _ q (h k q hk)) ⟨fun i j p q hi hj hpq => hinj i j (List.getElem?_eq_some_iff.mp hi).1 (List.getElem?_eq_some_iff.mp hj).1 (hD.1 _ _ p q (h i p hi) (h j q hj) hpq), fun k q hk => hD.2 _ q (h k q hk)⟩ hS hl
theorem at_iretC {S : Type} {u : S} {res : S → va_W} {Q : Int32 → S → Prop} {r : Int32} (C : Cx p s m args meth c D dA cc nL rt own) (hr : rt = some .int) (hq : Q r u) (hd : decode cc pc = .ok (.ireturn, 1)) : gAt p l e R s m args below meth c D (va_A wc sz) (MQ below (va_Qi Q (gZl D wc sz res) (va_A wc sz)) args s kc ks (va_A wc sz)) nL kc ks pc L [.int r] (res u) :=
  fun H locs ls hP hD hS hl => W.iret C.1 C.2.1 (by rw [C.2.2.2.1]; exact hr) (fun t ht _ => ⟨⟨r, u, rfl, hq, (by rw [ht]; exact hP), hD⟩, hS.F ht⟩) hS.2.2 hd (hlocks := C.2.2.2.2.1)
theorem gm_ofWH {hh : List (Nat × Nat × Nat × Nat)} (hy : plainName y.cls = true) (hcls : y.cls = own) (hlen : (lg_sl As).length ≤ maxL) (hL : lv_args 0 As = L)
    (body : ∀ (p : Program) (e : Env) (s : State) (m : MethodId) (below : List Frame) (meth : Method) (c : Code), Cx p s m As.toArray meth c D dA bytes maxL ret own → c.exceptionTable.toList = tableOf hh → s.heap.size = sz → gZs (va_A wc sz) s s.heap → gAt p l e rm s m As.toArray below meth c D (va_A wc sz) (MQ below Qc As.toArray s mc ms (va_A wc sz)) maxL 0 0 0 L [] wc) :
    Met l y (wsW_ y bytes maxL ret hh) rm (va_Pc As (gBlZ D dA wc sz)) Qc mc ms (va_A wc sz) := by
  refine MetFree.of_bodyS (code := bytes) (maxLocals := maxL) (ret := ret) hy ?_ ?_
  · intro args s m h hn
    obtain ⟨m9, meth, c, hn9, h1, h2, h3, h4, -, h5, h6, -⟩ := Cond.codeWith_spec (atoms_spec (ws := wsW_ y bytes maxL ret hh) h _ List.mem_cons_self)
    cases hn.symm.trans hn9
    exact ⟨meth, c, h1, h2, h3, h4, h5, h6⟩
  · intro p e s m args below meth c s₁ B hml hv _
    have hh0 : s₁.heap = s.heap := by rw [B.state]; rfl
    obtain ⟨rfl, ⟨hsz, hP, hK, hD0⟩, hZ⟩ := hv
    have hts := atoms_spec (ws := wsW_ y bytes maxL ret hh) B.pre
    have htab := vx_table (x := y) B (hts _ List.mem_cons_self)
    have hts : ∀ w ∈ lw_all, w.before _ s = true := fun w h => hts w (List.mem_cons_of_mem _ h)
    have hown : s.vm.findClass own = some m.cls := by rw [← hcls]; exact findClass_of_methodNamed B.named
    have hl := lv_entry As (n := maxL) hlen
    rw [hL] at hl
    have k := body p e s m below meth c ⟨B.exec, B.bytes, hml, B.returns, B.notSynchronized, hown, hts, hK⟩ htab hsz hZ s.heap [] _ hP hD0.self va_S.rf hl
    rw [← lg_entry_eq] at k
    obtain ⟨t, a1, o, b1, b2, b3⟩ := k s₁ hh0 (Stand.of_body B)
    exact ⟨t, o, a1, b1, b2, ⟨b3.1, b3.2⟩⟩
/-- a call of Reader.all: it answers its County, or throws -/
theorem at_callxr (C : Cx p s m args meth c D dA cc nL rt own) {a : Array Value} {Q : GW → Prop} (hA : ∀ q, sz ≤ q → A q) (run : ∀ (H : Heap) (locs : List Loc) (ls : Array Slot), va_P D gCl (gW dA 142 ad layF w) H → va_D A (gW dA 142 ad layF w) → va_S A s.heap H locs → ls.size = nL → vx_Run p l e R s m args below meth c H locs kc ks mc1 ms1 (F0 m pc ls st) rest (gQr D dA ad Q (gXA ad sz) a) (gXC D dA ad sz X) (gXA ad sz))
    (kx : ∀ (q : Nat) (n p2 : Int32) (w2 : GW), X n p2 w2 → ∀ (H : Heap) (locs : List Loc) (ls : Array Slot), va_P D gCl (gW dA 142 ad layF w2 ++ gF q n p2) H → va_D A (gW dA 142 ad layF w2 ++ gF q n p2) → va_S A s.heap H locs → lv_has ls nL L → vx_W p l e R s m args below meth c H locs (kc + mc1) (ks + ms1) QQ (F0 m pc ls rest) q)
    (kk : ∀ w2 : GW, Q w2 → gAt p l e R s m args below meth c D A QQ nL (kc + mc1) (ks + ms1) (pc + 3) L (.ref (ad 138) :: rest) (gW dA 142 ad layF w2)) : gAt p l e R s m args below meth c D A QQ nL kc ks pc L st (gW dA 142 ad layF w) := fun H locs ls hP hD hS hl => by
  have hsub : ∀ q, gXA ad sz q → A q := fun q h => h.elim (gD_in hD q) (hA q)
  intro T hT Xs
  rcases run H locs ls hP hD hS hl.1 T hT Xs with ⟨v, st₀, t, T', L2, h0, X', hL, e1, e2, ⟨⟨u, a2, hv, hp, ha2, hz⟩, hF⟩, st⟩ | ⟨q, st₀, t, T', L2, E, ce, h0, X', hL, e1, e2, ⟨u, hp, ⟨hE, hb, hbD⟩, hF⟩, hce, hcv, hcl, st⟩
  · cases hv
    subst ha2
    obtain ⟨k1, k2, k3⟩ := vx_keep h0 e1 hS (fun q _ h => hsub q h) hsub hL hF
    obtain ⟨t2, a1, b1⟩ := kk u hp T'.heap (locs ++ L2) ls (by rw [e1]; exact hz) (gD_any hD) k3 hl T' rfl X'
    exact ⟨t2, st t2 a1, b1⟩
  · obtain ⟨k1, k2, k3⟩ := vx_keep h0 e1 hS (fun q _ h => hsub q h) hsub hL hF
    obtain ⟨t2, a1, b1⟩ := kx q u.1 u.2.1 u.2.2 hp T'.heap (locs ++ L2) ls (by rw [e1]; exact hb) (hbD.weaken (fun _ q _ h => hsub _ h)) k3 hl T' rfl X'
    exact ⟨t2, st.trans a1, b1⟩
theorem run_VXC (C : Cx p s m args meth c D dA cc nL rt own) (hZ : gZs A s s.heap) (hsz : sz ≤ s.heap.size) (hA : ∀ q, sz ≤ q → A q) {k ci NN : Nat} {Cn : String} {T : u_T} {fl : List (Option (Option Nat))} {XC : String → Addr → State → State → Prop} {fr : Addr → Prop} (hM : vx_Met l y (ws_ y bytes maxL ret) rm (va_Pc (.ref (ad k) :: As) (gBx D dA ad sz w)) Qc XC mc1 ms1 fr) (hG : GoodIn lw_all (wsV own idx Cn y (ws_ y bytes maxL ret)))
    (hds : y.cls = Cn ∧ y.cls ≠ "java/lang/invoke/MethodHandle" ∧ y.cls ≠ "java/lang/invoke/VarHandle" ∧ (parseMethodDescriptor y.desc).map (fun d => d.parameters.length) = some nn) (hR : rm.frames + 1 ≤ R.frames ∧ 8 + (maxL + 11) + rm.locals ≤ R.locals) (hz : rm.cells = mc1 ∧ rm.slots = ms1) (hf : kc + mc1 ≤ R.cells ∧ ks + ms1 ≤ R.slots)
    (hk : k < 142) (hl : layF k = .inr (.inl (ci, fl))) (hc : gCl[ci]? = some (Cn, T, NN)) (hn : As.length = nn) (hst : st = As.reverse ++ .ref (ad k) :: rest) (hW : (rest.map fun v => v.category).sum ≤ 8) (hd : decode cc pc = .ok (.invokevirtual idx, 3)) :
    ∀ (H : Heap) (locs : List Loc) (ls : Array Slot), va_P D gCl (gW dA 142 ad layF w) H → va_D A (gW dA 142 ad layF w) → va_S A s.heap H locs → ls.size = nL → vx_Run p l e R s m args below meth c H locs kc ks mc1 ms1 (F0 m pc ls st) rest (Qc (Value.ref (ad k) :: As).toArray) XC fr := by
  intro H locs ls hP hD hS hs
  have hat : (gW dA 142 ad layF w)[k]? = some (ad k, .inr (ci, gV ad (w k) 0 fl)) := by rw [gW_get hk, hl]; rfl
  exact vx_runV (As := As) (rest := rest) ⟨C.1, C.2.1, C.2.2.1, C.2.2.2.2.2.1, C.2.2.2.2.2.2.1⟩ hM (cwV nn C.2.2.2.2.2.2.1 hG rfl hz.1 hz.2 hds hR) ⟨gBx_blind, va_recv C.2.2.2.2.2.2.2.1 hP hc hat, fun U hU hW => ⟨rfl, by rw [hU]; exact Nat.le_trans hsz hS.1, by rw [hU]; exact hP, gK_warm hW C.2.2.2.2.2.2.2, hD.weaken (fun _ _ _ _ => trivial), gZs_down hZ hS (fun q h => h.elim (gD_in hD q) (hA q)) hU hW.alike⟩⟩ rfl hn hs hst (lv_room hW) hd hf

set_option maxHeartbeats 40000000 in
theorem metX0_county (l : Launch) (D : va_G) (dA : Nat → ClassId) (ad : Nat → Nat) (sz : Nat) {w : GW} {Q : Int32 → GW → Prop} (hw : PX0_county w Q) : Met l yX0_county (wsW_ yX0_county cX0_county 4 (some .int) hhC) (gRc 12 1157 9252) (va_Pc [.ref (ad 0)] (gBlZ D dA (gW dA 137 ad layX w) sz)) (va_Qi (fun r (u : (Nat → Nat) × GW) => Q r u.2 ∧ u.1 0 = ad 0) (gZl D (gW dA 137 ad layX w) sz (fun u => gW dA 137 u.1 layX u.2)) (va_A (gW dA 137 ad layX w) sz)) 1157 9252 (va_A (gW dA 137 ad layX w) sz) := by
  refine gm_ofWH (L := [(0, .ref (ad 0))]) (own := RX0) (by decide +kernel) rfl (Nat.le_of_ble_eq_true rfl) rfl (fun p e s m below meth c C htab hsz hZ => ?_)
  have hA : ∀ q, sz ≤ q → va_A (gW dA 137 ad layX w) sz q := fun q h => Or.inr h
  have hA0 : ∀ q, s.heap.size ≤ q → va_A (gW dA 137 ad layX w) sz q := fun q h => Or.inr (by rw [← hsz]; exact h)
  have hsz2 : sz ≤ s.heap.size := by rw [hsz]; exact Nat.le_refl _
  generalize hAe : va_A (gW dA 137 ad layX w) sz = A at hA hA0 hZ ⊢
  generalize ([.ref (ad 0)] : List Value).toArray = av at C ⊢
  refine at_aload_n C dX0_county_0 rfl rfl ?_
  refine at_iconst C dX0_county_1 ic_m1 ?_
  refine at_puti (j := 11) C (Nat.le_of_ble_eq_true rfl) rfl rfl in_X0 (Nat.le_of_ble_eq_true rfl) rfl q227 tyX0 tyX0_ok nmX0 rfl rfl rfl dX0_county_2 (fun w1 ew1 => ?_)
  refine at_aload_n C dX0_county_5 rfl rfl ?_
  refine at_newL (ci := 8) (fs := [.null, .int 0, .null, .int 0]) C hA0 rfl in_X8 tyX8 tyX8_ok q276 q277 q66 hfs_8 (Nat.le_of_ble_eq_true rfl) (Nat.le_of_ble_eq_true rfl) dX0_county_6 (fun qr => ?_)
  refine at_dup C dX0_county_9 rfl ?_
  refine at_aload_n C dX0_county_10 rfl rfl ?_
  refine at_getL (q0 := 0) (k := 9) (v := .ref (ad 21)) C (gW_getA (Nat.le_of_ble_eq_true rfl)) rfl in_X0 (Nat.le_of_ble_eq_true rfl) q225 rfl dX0_county_11 ?_
  refine at_aload_n C dX0_county_14 rfl rfl ?_
  refine at_getL (q0 := 0) (k := 10) (v := .int (w1 0 10)) C (gW_getA (Nat.le_of_ble_eq_true rfl)) rfl in_X0 (Nat.le_of_ble_eq_true rfl) q226 rfl dX0_county_15 ?_
  refine at_sufv (rest := [.ref qr, .ref (ad 0)]) (res := fun u : Nat → Nat => [(qr, .inr (8, [.ref (ad 21), .int (w1 0 10), .ref (u 0), .int 0])), (u 0, .inr (1, [.int (-1), .ref (u 1), .ref (u 2), .ref (u 3), .int 0])), (u 1, .inl (dA 0, (9, .inl (fun _ => 0)))), (u 2, .inl (dA 0, (9, .inl (fun _ => 0)))), (u 3, .inl (dA 0, (9, .inl (fun _ => 0))))]) (post := fun _ => True) hA0 (fun _ _ h => h) (fun _ _ h => h) (run_I (wc := [(qr, .inr (8, [.null, .int 0, .null, .int 0]))]) (As := [.ref (ad 21), .int (w1 0 10)]) (rest := [.ref qr, .ref (ad 0)]) (nn := 2) C (fun z => metX8_init l D dA qr z (ad 21) (w1 0 10)) q278 q66 q279 q280 rfl ⟨rfl, rfl⟩ ⟨by decide +kernel, by decide +kernel, by decide +kernel⟩ ⟨(Nat.le_of_ble_eq_true rfl), (Nat.le_of_ble_eq_true rfl)⟩ rfl rfl (Nat.le_of_ble_eq_true rfl) dX0_county_18 ⟨(Nat.le_of_ble_eq_true rfl), (Nat.le_of_ble_eq_true rfl)⟩) (fun u _ => ?_)
  obtain ⟨ad2, had2⟩ : ∃ f : Nat → Nat, f = fun k => if k < 137 then ad k else if k = 137 then qr else u (k - 138) := ⟨_, rfl⟩
  have hlt : ∀ k, k < 137 → ad2 k = ad k := fun k hk => by rw [had2]; exact if_pos hk
  refine at_eq (ws2 := gW dA 142 ad2 layF (rdW w1)) ?_ ?_
  · refine gW_ext (M := 5) rfl (fun k hk => ?_) (fun k hk => ?_)
    · rw [layF_lt hk, hlt k hk, show rdW w1 k = w1 k from if_pos hk]
      rw [gE_ad (ad := ad) (ad' := ad2) ((layX_refsA hk).imp (fun r hr => (hlt r hr).symm))]
    · have h21 : ad 21 = ad2 21 := (hlt 21 (by decide)).symm
      rw [h21]
      rcases (show k = 0 ∨ k = 1 ∨ k = 2 ∨ k = 3 ∨ k = 4 by omega) with rfl | rfl | rfl | rfl | rfl <;> (rw [had2]; rfl)
  rw [show (.ref qr : Value) = .ref (ad2 137) by rw [had2]; rfl, show (.ref (ad 0) : Value) = .ref (ad2 0) by rw [hlt 0 (by decide)]]
  unfold PX0_county at hw
  rw [← ew1] at hw
  refine at_callxr (rest := [.ref (ad2 0)]) C hA (run_VXC (rest := [.ref (ad2 0)]) (As := []) C hZ hsz2 hA (metX8_all l D dA ad2 sz hw) (lw_V q297 q298 q299 q66 q300) dsX8_all ⟨(Nat.le_of_ble_eq_true rfl), (Nat.le_of_ble_eq_true rfl)⟩ ⟨rfl, rfl⟩ ⟨(Nat.le_of_ble_eq_true rfl), (Nat.le_of_ble_eq_true rfl)⟩ (k := 137) (Nat.le_of_ble_eq_true rfl) rfl rfl rfl rfl (Nat.le_of_ble_eq_true rfl) dX0_county_21) (fun q n p2 w2 hx => ?_) (fun w2 hw => ?_)
  · -- a Fault
    have kx : gAt p l e (gRc 12 1157 9252) s m av below meth c D A (MQ below (va_Qi (fun r (u : (Nat → Nat) × GW) => Q r u.2 ∧ u.1 0 = ad 0) (gZl D (gW dA 137 ad layX w) sz (fun u => gW dA 137 u.1 layX u.2)) A) av s 1157 9252 A) 4 1157 9252 35 [(0, .ref (ad2 0))] [.ref q] (gW dA 142 ad2 layF w2 ++ gF q n p2) := by
      obtain ⟨ad4, had4⟩ : ∃ f : Nat → Nat, f = fun k => if k < 142 then ad2 k else q := ⟨_, rfl⟩
      have hl4 : ∀ k, k < 142 → ad4 k = ad2 k := fun k hk => by rw [had4]; exact if_pos hk
      refine at_eq (ws2 := gW dA 143 ad4 layF (faW w2 n p2)) ?_ ?_
      · refine gW_ext (M := 1) rfl (fun k hk => ?_) (fun k hk => ?_)
        · rw [hl4 k hk, show faW w2 n p2 k = w2 k from if_pos hk]
          rw [gE_ad (ad := ad2) (ad' := ad4)]
          by_cases h7 : k < 137
          · rw [layF_lt h7]
            exact (layX_refsA h7).imp (fun r hr => (hl4 r (by omega)).symm)
          · rcases (show k = 137 ∨ k = 138 ∨ k = 139 ∨ k = 140 ∨ k = 141 by omega) with rfl | rfl | rfl | rfl | rfl
            · intro r hr
              have hr : some (some r) ∈ [some (some 21), none, some (some 138), none] := hr
              simp only [List.mem_cons, Option.some.injEq, reduceCtorEq, List.not_mem_nil, or_false, false_or] at hr
              exact (hl4 r (by omega)).symm
            · intro r hr
              have hr : some (some r) ∈ [none, some (some 139), some (some 140), some (some 141), none] := hr
              simp only [List.mem_cons, Option.some.injEq, reduceCtorEq, List.not_mem_nil, or_false, false_or] at hr
              exact (hl4 r (by omega)).symm
            · trivial
            · trivial
            · trivial
        · rcases (show k = 0 by omega) with rfl
          rw [had4]; rfl
      rw [show (.ref q : Value) = .ref (ad4 142) by rw [had4]; rfl, show (.ref (ad2 0) : Value) = .ref (ad4 0) by rw [hl4 0 (by decide)]]
      refine at_astore_n (L' := [(0, .ref (ad4 0)), (1, .ref (ad4 142))]) C dX0_county_35 rfl (Nat.le_of_ble_eq_true rfl) rfl ?_
      refine at_aload_n C dX0_county_36 rfl rfl ?_
      refine at_aload_n C dX0_county_37 rfl rfl ?_
      refine at_getiN (j := 7) C (k := 142) (Nat.le_of_ble_eq_true rfl) rfl rfl in_X9 (Nat.le_of_ble_eq_true rfl) rfl q361 dX0_county_38 ?_
      refine at_puti (j := 11) C (k := 0) (Nat.le_of_ble_eq_true rfl) rfl rfl in_X0 (Nat.le_of_ble_eq_true rfl) rfl q227 tyX0 tyX0_ok nmX0 rfl rfl rfl dX0_county_41 (fun w5 ew5 => ?_)
      refine at_bipush C dX0_county_44 bp_m10 ?_
      refine at_aload_n C dX0_county_46 rfl rfl ?_
      refine at_getiN (j := 6) C (k := 142) (Nat.le_of_ble_eq_true rfl) rfl rfl in_X9 (Nat.le_of_ble_eq_true rfl) rfl q359 dX0_county_47 ?_
      refine at_isub C dX0_county_50 ?_
      refine at_topi (fun v ev => ?_)
      refine at_istore_n (L' := [(0, .ref (ad4 0)), (1, .ref (ad4 142)), (2, .int v)]) C dX0_county_51 rfl (Nat.le_of_ble_eq_true rfl) rfl ?_
      refine at_aload_n C dX0_county_52 rfl rfl ?_
      refine at_iconst C dX0_county_53 ic_0 ?_
      refine at_puti (j := 10) C (k := 0) (Nat.le_of_ble_eq_true rfl) rfl rfl in_X0 (Nat.le_of_ble_eq_true rfl) rfl q226 tyX0 tyX0_ok nmX0 rfl rfl rfl dX0_county_54 (fun w6 ew6 => ?_)
      refine at_iload_n C dX0_county_57 rfl rfl ?_
      have hv : v = -10 - n := by rw [ev, ew5]; rfl
      have hw6 : ∀ k, k < 137 → w6 k = gS (gS w2 0 11 p2) 0 10 0 k := by
        intro k hk
        have h5 : ∀ k, k < 142 → w5 k = gS w2 0 11 p2 k := by
          intro k hk
          rw [ew5]
          unfold gS
          have h7 : faW w2 n p2 142 7 = p2 := rfl
          rw [h7, show faW w2 n p2 0 = w2 0 from rfl]
          split
          · rfl
          · exact if_pos hk
        rw [ew6]
        by_cases h0 : k = 0
        · subst h0
          rw [gS_same, gS_same, h5 0 (by decide)]
        · rw [gS_ne h0, gS_ne h0, h5 k (by omega)]
      refine at_sel (ws2 := gW dA 137 ad layX (gS (gS w2 0 11 p2) 0 10 0)) id (fun k z hk => ?_) (fun _ _ _ _ h => h) ?_
      · obtain ⟨h1, rfl⟩ := gW_at hk
        show (gW dA 143 ad4 layF w6)[k]? = _
        rw [gW_get (by omega), layF_lt h1, hl4 k (by omega), hlt k h1, hw6 k h1]
        rw [gE_ad (ad := ad4) (ad' := ad) ((layX_refsA h1).imp (fun r hr => by rw [hl4 r (by omega), hlt r hr]))]
      rw [hv]
      subst hAe
      exact at_iretC C rfl (u := (ad, gS (gS w2 0 11 p2) 0 10 0)) (res := fun u : (Nat → Nat) × GW => gW dA 137 u.1 layX u.2) ⟨hx, rfl⟩ dX0_county_58
    intro H locs ls hP hD hS hl
    obtain ⟨ce, g1, g2, g3⟩ := gF_cell C.2.2.2.2.2.2.2 hP
    refine vx_catch (name := "SkittleGentry$Fault") (E := "SkittleGentry$Fault") C.2.2.2.2.2.1 [] { startPc := 5, endPc := 27, handlerPc := 35, catchType := 101 } [{ startPc := 5, endPc := 27, handlerPc := 59, catchType := 0 }, { startPc := 35, endPc := 52, handlerPc := 59, catchType := 0 }] (by rw [htab]; rfl) (fun z hz => by cases hz) (by decide) (by decide) (C.2.2.2.2.2.2.1 _ q275) (va_Nw.use rfl (C.2.2.2.2.2.2.2.2.1 _ (gNw_in q314 rfl))) g1 g2 g3 ?_
    exact kx H locs ls hP hD hS hl
  · -- its County
    refine at_putL (q0 := 0) (k := 1) (v := .ref (ad2 138)) (ws2 := (gW dA 142 ad2 layF w2).set 0 (ad2 0, .inr (0, (gV ad2 (w2 0) 0 flX0).set 1 (.ref (ad2 138))))) C (gW_get (Nat.le_of_ble_eq_true rfl)) rfl in_X0 (Nat.le_of_ble_eq_true rfl) q217 tyX0 tyX0_ok nmX0 rfl rfl rfl (Nat.le_of_ble_eq_true rfl) rfl dX0_county_24 ?_
    obtain ⟨ad3, had3⟩ : ∃ f : Nat → Nat, f = fun k => ad2 (cnP k) := ⟨_, rfl⟩
    have hn3 : ∀ k, (k = 0 ∨ 6 ≤ k) → ad3 k = ad2 k := fun k hk => by
      rw [had3]
      show ad2 (cnP k) = ad2 k
      unfold cnP
      rw [if_neg (by omega)]
    refine at_sel (ws2 := gW dA 137 ad3 layX (cnW w2)) cnP (fun k z hk => ?_) (fun i j hi hj hij => ?_) ?_
    · obtain ⟨h1, rfl⟩ := gW_at hk
      by_cases h0 : k = 0
      · subst h0
        rw [show cnP 0 = 0 from rfl, List.getElem?_set_self (by simp [gW])]
        rw [had3]
        rfl
      · have hp0 : cnP k ≠ 0 := by unfold cnP; split <;> omega
        rw [List.getElem?_set_ne (fun h => hp0 h.symm)]
        have hp : cnP k < 142 := by unfold cnP; split <;> omega
        rw [gW_get hp]
        by_cases h2 : k = 2
        · subst h2; rw [had3]; rfl
        · by_cases h6 : k < 6
          · rcases (show k = 1 ∨ k = 3 ∨ k = 4 ∨ k = 5 by omega) with rfl | rfl | rfl | rfl
            · rw [show cnP 1 = 1 from rfl, layF_lt (by decide), gE_ad (ad := ad2) (ad' := ad3) ((layX_refs (k := 1) (by decide) (by decide) (by decide)).imp (fun r hr => (hn3 r hr.1).symm))]
              rw [show ad2 1 = ad3 1 by rw [had3]; rfl]
              rfl
            · rw [had3]; rfl
            · rw [had3]; rfl
            · rw [had3]; rfl
          · have hk2 : cnP k = k := by unfold cnP; rw [if_neg (by omega)]
            rw [show cnW w2 k = w2 (cnP k) from rfl, hk2, layF_lt h1, hn3 k (Or.inr (by omega))]
            rw [gE_ad (ad := ad2) (ad' := ad3) ((layX_refs h1 h0 h2).imp (fun r hr => (hn3 r hr.1).symm))]
    · have hi : i < 137 := by simpa [gW] using hi
      have hj : j < 137 := by simpa [gW] using hj
      unfold cnP at hij
      split at hij <;> split at hij <;> omega
    rw [show (.ref (ad2 0) : Value) = .ref (ad3 0) by rw [hn3 0 (Or.inl rfl)]]
    have had0 : ad3 0 = ad 0 := by rw [hn3 0 (Or.inl rfl), hlt 0 (by decide)]
    refine at_aload_n C dX0_county_27 rfl rfl ?_
    refine at_iconst C dX0_county_28 ic_0 ?_
    refine at_puti (j := 10) C (Nat.le_of_ble_eq_true rfl) rfl rfl in_X0 (Nat.le_of_ble_eq_true rfl) rfl q226 tyX0 tyX0_ok nmX0 rfl rfl rfl dX0_county_29 (fun w5 ew5 => ?_)
    refine at_goto (tgt := 67) C dX0_county_32 (by decide) ?_
    rw [← ew5] at hw
    unfold PX0_county_67 at hw
    subst hAe
    refine at_aload_n C dX0_county_67 rfl rfl ?_
    refine at_getr (j := 2) (r := 6) C (Nat.le_of_ble_eq_true rfl) rfl rfl in_X0 (Nat.le_of_ble_eq_true rfl) rfl q218 dX0_county_68 ?_
    refine at_callv (run_V (rest := []) (As := []) C (metX2_begin l D dA ad3 gSt_now hw) (lw_V q204 q205 q206 q58 q207) dsX2_begin ⟨(Nat.le_of_ble_eq_true rfl), (Nat.le_of_ble_eq_true rfl)⟩ ⟨rfl, rfl⟩ ⟨(Nat.le_of_ble_eq_true rfl), (Nat.le_of_ble_eq_true rfl)⟩ (gSt_k0 gSt_now) (layX_0 gSt_now) rfl rfl rfl (Nat.le_of_ble_eq_true rfl) dX0_county_71) (fun  w_2 hw => ?_)
    refine at_aload_n C dX0_county_74 rfl rfl ?_
    refine at_iconst C dX0_county_75 ic_0 ?_
    refine at_puti (j := 5) C (Nat.le_of_ble_eq_true rfl) rfl rfl in_X0 (Nat.le_of_ble_eq_true rfl) rfl q221 tyX0 tyX0_ok nmX0 rfl rfl rfl dX0_county_76 (fun w_3 ew_3 => ?_)
    have hw := hw w_3 ew_3
    refine at_aload_n C dX0_county_79 rfl rfl ?_
    refine at_iconst C dX0_county_80 ic_0 ?_
    refine at_puti (j := 8) C (Nat.le_of_ble_eq_true rfl) rfl rfl in_X0 (Nat.le_of_ble_eq_true rfl) rfl q224 tyX0 tyX0_ok nmX0 rfl rfl rfl dX0_county_81 (fun w_4 ew_4 => ?_)
    have hw := hw w_4 ew_4
    refine at_aload_n C dX0_county_84 rfl rfl ?_
    refine at_getr (j := 14) (r := 24) C (Nat.le_of_ble_eq_true rfl) rfl rfl in_X0 (Nat.le_of_ble_eq_true rfl) rfl q230 dX0_county_85 ?_
    refine at_iconst C dX0_county_88 ic_0 ?_
    refine at_aldq (r := 29) C (Nat.le_of_ble_eq_true rfl) rfl rfl vk_0_2 rfl dX0_county_89 ?_
    refine at_iconst C dX0_county_90 ic_0 ?_
    refine at_putiN (j := 9) C (gSt_k0 (gSt_lit 0 (by decide))) (layX_0 (gSt_lit 0 (by decide))) rfl in_X2 (Nat.le_of_ble_eq_true rfl) rfl q141 tyX2 tyX2_ok nmX2 rfl rfl rfl dX0_county_91 (fun w_5 ew_5 => ?_)
    have hw := hw w_5 ew_5
    refine at_aload_n C dX0_county_94 rfl rfl ?_
    refine at_getr (j := 14) (r := 24) C (Nat.le_of_ble_eq_true rfl) rfl rfl in_X0 (Nat.le_of_ble_eq_true rfl) rfl q230 dX0_county_95 ?_
    refine at_iconst C dX0_county_98 ic_1 ?_
    refine at_aldq (r := 35) C (Nat.le_of_ble_eq_true rfl) rfl rfl vk_1_2 rfl dX0_county_99 ?_
    refine at_iconst C dX0_county_100 ic_0 ?_
    refine at_putiN (j := 9) C (gSt_k0 (gSt_lit 1 (by decide))) (layX_0 (gSt_lit 1 (by decide))) rfl in_X2 (Nat.le_of_ble_eq_true rfl) rfl q141 tyX2 tyX2_ok nmX2 rfl rfl rfl dX0_county_101 (fun w_6 ew_6 => ?_)
    have hw := hw w_6 ew_6
    refine at_aload_n C dX0_county_104 rfl rfl ?_
    refine at_getr (j := 1) (r := 2) C (Nat.le_of_ble_eq_true rfl) rfl rfl in_X0 (Nat.le_of_ble_eq_true rfl) rfl q217 dX0_county_105 ?_
    refine at_getiN (j := 4) C (Nat.le_of_ble_eq_true rfl) rfl rfl in_X1 (Nat.le_of_ble_eq_true rfl) rfl q104 dX0_county_108 ?_
    exact at_iretC C rfl (u := (ad3, w_6)) ⟨hw, had0⟩ dX0_county_111
end GX
