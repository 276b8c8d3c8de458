/-! WORLDS BY CELL NUMBERS: a layout (what each cell is) and the ints that the cells hold, GW: cell, place -> int. `gAt`: W over all heaps that hold the world. -/
set_option maxRecDepth 100000
def TX3 : u_T := fun _ => ("", "", "", false)
def TX4 : u_T := fun _ => ("", "", "", false)
def TX5 : u_T := fun _ => ("", "", "", false)
def TX6 : u_T := fun _ => ("", "", "", false)
abbrev GW : Type := Nat → Nat → Int32
def gCl : List vw_C := [(RX0, TX0, 15), (RX1, TX1, 5), (RX2, TX2, 13), (RX3, TX3, 0), (RX4, TX4, 0), (RX5, TX5, 0), (RX6, TX6, 0), (RX7, TX7, 35), (RX8, TX8, 4), (RX9, TX9, 8)]
/-- int array (which class, length) | object (which class, fields: none an int, some none null, some some a cell) | array of references -/
abbrev gD : Type := (Nat × Nat) ⊕ ((Nat × List (Option (Option Nat))) ⊕ (Nat × Nat × (Nat → Option Nat)))
def gV (ad : Nat → Nat) (v : Nat → Int32) : Nat → List (Option (Option Nat)) → List Value
  | _, [] => []
  | j, none :: t => .int (v j) :: gV ad v (j + 1) t
  | j, some r :: t => va_rf (r.map ad) :: gV ad v (j + 1) t
def gE (dA : Nat → ClassId) (ad : Nat → Nat) (d : gD) (v : Nat → Int32) : va_E := match d with
  | .inl a => .inl (dA a.1, (a.2, .inl v))
  | .inr (.inl o) => .inr (o.1, gV ad v 0 o.2)
  | .inr (.inr r) => .inl (dA r.1, (r.2.1, .inr (.inr (.inr (.inr (fun i => (r.2.2 i).map ad))))))
def gW (dA : Nat → ClassId) (N : Nat) (ad : Nat → Nat) (lay : Nat → gD) (w : GW) : va_W := (List.range N).map (fun k => (ad k, gE dA ad (lay k) (w k)))
/-- a store -/
def gS (w : GW) (c i : Nat) (x : Int32) : GW := fun c' => if c' = c then upd (w c) i x else w c'
/-- a cell as a whole -/
def gC (w : GW) (c : Nat) (f : Nat → Int32) : GW := fun c' => if c' = c then f else w c'
def gA (N : Nat) (ad : Nat → Nat) : Nat → Prop := fun q => ∃ k, k < N ∧ q = ad k
theorem gW_get {dA : Nat → ClassId} {N : Nat} {ad : Nat → Nat} {lay : Nat → gD} {w : GW} {k : Nat} (hk : k < N) : (gW dA N ad lay w)[k]? = some (ad k, gE dA ad (lay k) (w k)) := by
  unfold gW
  rw [List.getElem?_map, List.getElem?_range hk]
  rfl
theorem gW_at {dA : Nat → ClassId} {N : Nat} {ad : Nat → Nat} {lay : Nat → gD} {w : GW} {k : Nat} {q : Nat × va_E} (h : (gW dA N ad lay w)[k]? = some q) : k < N ∧ q = (ad k, gE dA ad (lay k) (w k)) := by
  have hk : k < N := by
    have h1 := (List.getElem?_eq_some_iff.mp h).1
    simpa [gW] using h1
  rw [gW_get hk] at h
  exact ⟨hk, (Option.some.inj h).symm⟩
theorem gW_set {dA : Nat → ClassId} {N : Nat} {ad : Nat → Nat} {lay lay' : Nat → gD} {w w' : GW} {k : Nat} {e : va_E} (he : e = gE dA ad (lay' k) (w' k)) (hl : ∀ j, j ≠ k → lay' j = lay j) (hw : ∀ j, j ≠ k → w' j = w j) : (gW dA N ad lay w).set k (ad k, e) = gW dA N ad lay' w' := by
  subst he
  apply List.ext_getElem?
  intro i
  by_cases hi : i < N
  · rw [gW_get hi]
    by_cases hik : k = i
    · subst hik
      rw [List.getElem?_set_self (by simpa [gW] using hi)]
    · rw [List.getElem?_set_ne hik, gW_get hi, hl i (fun h => hik h.symm), hw i (fun h => hik h.symm)]
  · have h1 : ((gW dA N ad lay w).set k (ad k, gE dA ad (lay' k) (w' k))).length ≤ i := by simp [gW]; omega
    have h2 : (gW dA N ad lay' w').length ≤ i := by simp [gW]; omega
    rw [List.getElem?_eq_none h1, List.getElem?_eq_none h2]
theorem gS_same {w : GW} {c i : Nat} {x : Int32} : gS w c i x c = upd (w c) i x := by unfold gS; rw [if_pos rfl]
theorem gS_ne {w : GW} {c i j : Nat} {x : Int32} (h : j ≠ c) : gS w c i x j = w j := by unfold gS; rw [if_neg h]
theorem gV_get {ad : Nat → Nat} {v : Nat → Int32} {fl : List (Option (Option Nat))} {j : Nat} (h : fl[j]? = some none) : ∀ o, (gV ad v o fl)[j]? = some (.int (v (o + j))) := by
  induction fl generalizing j with
  | nil => cases h
  | cons a t ih =>
    intro o
    cases j with
    | zero =>
      cases h
      rfl
    | succ j =>
      have h1 := ih (j := j) h (o + 1)
      rw [show o + (j + 1) = o + 1 + j by omega]
      cases a <;> exact h1
theorem gV_ref {ad : Nat → Nat} {v : Nat → Int32} {fl : List (Option (Option Nat))} {j : Nat} {r : Option Nat} (h : fl[j]? = some (some r)) : ∀ o, (gV ad v o fl)[j]? = some (va_rf (r.map ad)) := by
  induction fl generalizing j with
  | nil => cases h
  | cons a t ih =>
    intro o
    cases j with
    | zero =>
      cases h
      rfl
    | succ j =>
      have h1 := ih (j := j) h (o + 1)
      cases a <;> exact h1
theorem gV_len {ad : Nat → Nat} {v : Nat → Int32} {fl : List (Option (Option Nat))} : ∀ o, (gV ad v o fl).length = fl.length := by
  induction fl with
  | nil => intro o; rfl
  | cons a t ih => intro o; cases a <;> simp [gV, ih]
theorem gV_congr {ad : Nat → Nat} {v v' : Nat → Int32} {fl : List (Option (Option Nat))} : ∀ o, (∀ i, o ≤ i → v i = v' i) → gV ad v o fl = gV ad v' o fl := by
  induction fl with
  | nil => intro o _; rfl
  | cons a t ih =>
    intro o h
    have h1 := ih (o + 1) (fun i hi => h i (by omega))
    cases a with
    | none => simp only [gV]; rw [h o (Nat.le_refl _), h1]
    | some r => simp only [gV]; rw [h1]
theorem gV_set {ad : Nat → Nat} {v : Nat → Int32} {fl : List (Option (Option Nat))} {j : Nat} {x : Int32} (h : fl[j]? = some none) : ∀ o, (gV ad v o fl).set j (.int x) = gV ad (upd v (o + j) x) o fl := by
  induction fl generalizing j with
  | nil => cases h
  | cons a t ih =>
    intro o
    cases j with
    | zero =>
      cases h
      simp only [gV, List.set_cons_zero, Nat.add_zero]
      rw [gV_congr (v := v) (v' := upd v o x) (o + 1) (fun i hi => by unfold upd; rw [if_neg (by omega)])]
      unfold upd
      rw [if_pos rfl]
    | succ j =>
      have h1 := ih (j := j) h (o + 1)
      rw [show o + (j + 1) = o + 1 + j by omega]
      cases a with
      | none =>
        simp only [gV, List.set_cons_succ]
        rw [h1]
        unfold upd
        rw [if_neg (by omega)]
      | some r =>
        simp only [gV, List.set_cons_succ]
        rw [h1]
theorem gV_setR {ad : Nat → Nat} {v : Nat → Int32} {fl : List (Option (Option Nat))} {j : Nat} {r r0 : Option Nat} (h : fl[j]? = some (some r0)) : ∀ o, (gV ad v o fl).set j (va_rf (r.map ad)) = gV ad v o (fl.set j (some r)) := by
  induction fl generalizing j with
  | nil => cases h
  | cons a t ih =>
    intro o
    cases j with
    | zero =>
      cases h
      rfl
    | succ j =>
      have h1 := ih (j := j) h (o + 1)
      cases a with
      | none => simp only [gV, List.set_cons_succ]; rw [h1]
      | some r => simp only [gV, List.set_cons_succ]; rw [h1]
/-- which cells lie apart does not hang on what they hold -/
theorem gD_any {dA : Nat → ClassId} {N : Nat} {ad : Nat → Nat} {lay lay' : Nat → gD} {w w' : GW} {A : Nat → Prop} (h : va_D A (gW dA N ad lay w)) : va_D A (gW dA N ad lay' w') := by
  refine ⟨fun i j p q hp hq hpq => ?_, fun k q hq => ?_⟩
  · obtain ⟨h1, e1⟩ := gW_at hp
    obtain ⟨h2, e2⟩ := gW_at hq
    exact h.1 i j _ _ (gW_get h1) (gW_get h2) (by rw [e1, e2] at hpq; exact hpq)
  · obtain ⟨h1, e1⟩ := gW_at hq
    have h2 := h.2 k _ (gW_get (lay := lay) (w := w) h1)
    rw [e1]
    exact h2
theorem gD_gA {dA : Nat → ClassId} {N : Nat} {ad : Nat → Nat} {lay : Nat → gD} {w : GW} {A : Nat → Prop} (h : va_D A (gW dA N ad lay w)) : va_D (gA N ad) (gW dA N ad lay w) := by
  refine ⟨h.1, fun k q hq => ?_⟩
  obtain ⟨h1, e1⟩ := gW_at hq
  rw [e1]
  exact ⟨k, h1, rfl⟩
theorem gD_in {dA : Nat → ClassId} {N : Nat} {ad : Nat → Nat} {lay : Nat → gD} {w : GW} {A : Nat → Prop} (h : va_D A (gW dA N ad lay w)) : ∀ q, gA N ad q → A q := by
  rintro q ⟨k, hk, rfl⟩
  exact h.2 k _ (gW_get hk)
/-- the classes of the arrays: 0 int, 1 boolean, 2 byte, 3 Gentry, 4 State -/
def gT (dA : Nat → ClassId) : List (ClassId × FieldType) := [(dA 0, .int), (dA 1, .boolean), (dA 2, .byte), (dA 3, .object "SkittleGentry$Gentry"), (dA 4, .object "SkittleGentry$State")]
/-- the words that do not ride in the lists -/
def gNwB : Cond → Bool
  | .fieldLinkNest _ _ _ _ _ _ => true
  | .methodLinkNest _ _ _ _ => true
  | .castable _ _ => true
  | _ => false
def gNw : List Cond := lw_tbl.filter gNwB
def gK (D : va_G) (dA : Nat → ClassId) (U : State) : Prop := va_K D gCl (gT dA) U ∧ (∀ w ∈ gNw, va_Nw w U) ∧ va_AO "SkittleGentry$Gentry" U ∧ va_AO "SkittleGentry$State" U
theorem gNw_in {w : Cond} (h : w ∈ lw_tbl) (g : gNwB w = true) : w ∈ gNw := List.mem_filter.mpr ⟨h, g⟩
theorem gK_warm {D : va_G} {dA : Nat → ClassId} {s U : State} (hW : s.WarmedH U.vm) (h : gK D dA s) : gK D dA U := by
  refine ⟨va_K.moved hW.alike h.1, fun w hw => ?_, va_AO.moved hW.alike h.2.2.1, va_AO.moved hW.alike h.2.2.2⟩
  have h1 := h.2.1 w hw
  have h2 := (List.mem_filter.mp hw).2
  cases w <;> first
    | exact va_Nw.warmF hW h1
    | exact va_Nw.warmM hW h1
    | exact va_Nw.warmC hW h1
    | cases h2
theorem gK_calling {D : va_G} {dA : Nat → ClassId} {U : State} {g : JFrame} {mk : MethodId} {a : Array Value} (h : gK D dA U) : gK D dA (U.calling g mk a) := by
  refine ⟨va_K.moved (u := U) (U := U.calling g mk a) (Vm.Alike.refl U.vm) h.1, fun w hw => ?_, va_AO.moved (u := U) (U := U.calling g mk a) (Vm.Alike.refl U.vm) h.2.2.1, va_AO.moved (u := U) (U := U.calling g mk a) (Vm.Alike.refl U.vm) h.2.2.2⟩
  have h1 := h.2.1 w hw
  have h2 := (List.mem_filter.mp hw).2
  cases w <;> first
    | exact va_Nw.same rfl rfl h1
    | cases h2
/-- a contract's start: the world stands in the heap, the classes are known -/
def gB (D : va_G) (dA : Nat → ClassId) (N : Nat) (ad : Nat → Nat) (lay : Nat → gD) (w : GW) : State → Prop := fun U => va_P D gCl (gW dA N ad lay w) U.heap ∧ gK D dA U ∧ va_D (fun _ => True) (gW dA N ad lay w)
/-- a contract's end: the world stands in the heap -/
def gZ (D : va_G) (dA : Nat → ClassId) (N : Nat) (ad : Nat → Nat) (lay : Nat → gD) : GW → State → Prop := fun w t => va_P D gCl (gW dA N ad lay w) t.heap
theorem gB_blind {D : va_G} {dA : Nat → ClassId} {N : Nat} {ad : Nat → Nat} {lay : Nat → gD} {w : GW} {av : List Value} : FrameBlind (va_Pc av (gB D dA N ad lay w)) := by
  rintro a U g mk ⟨q0, qP, qK, qD⟩
  exact ⟨q0, qP, gK_calling qK, qD⟩
/-- what a method without an effect answers -/
def gQ1 (Q : Int32 → Prop) (w : GW) : Int32 → GW → Prop := fun r u => Q r ∧ u = w
def gR (r : Nat) : Room := { frames := r, cells := 0, slots := 0, locals := 32 * r }
/-- a method's machine -/
def Cx (p : Program) (s : State) (m : MethodId) (args : Array Value) (meth : Method) (c : Code) (D : va_G) (dA : Nat → ClassId) (cc : ByteArray) (nL : Nat) (rt : Option FieldType) (own : String) : Prop :=
  p.tables.exec = Jvm.exec ∧ c.code = cc ∧ c.maxLocals = nL ∧ meth.sig.returnType = rt ∧ meth.locks = false ∧ s.vm.findClass own = some m.cls ∧ (∀ w ∈ lw_all, w.before args s = true) ∧ gK D dA s
def gAt (p : Program) (l : Launch) (e : Env) (R : Room) (s : State) (m : MethodId) (args : Array Value) (below : List Frame) (meth : Method) (c : Code) (D : va_G) (A : Nat → Prop) (QQ : State → Prop) (nL k n pc : Nat) (L : List (Nat × Value)) (st : List Value) (ws : va_W) : Prop :=
  ∀ (H : Heap) (locs : List Loc) (ls : Array Slot), va_P D gCl ws H → va_D A ws → va_S A s.heap H locs → lv_has ls nL L → W p l e R s m args below meth c H locs k n QQ (F0 m pc ls st)
/-- the value of a local -/
def lvg : List (Nat × Value) → Nat → Option Value
  | [], _ => none
  | (j, v) :: t, i => if j = i then some v else lvg t i
theorem lvg_at {ls : Array Slot} {nL : Nat} {L : List (Nat × Value)} {i : Nat} {v : Value} (h : lv_has ls nL L) (hg : lvg L i = some v) : ls[i]? = some (.val v) := by
  refine h.2.2 (i, v) ?_
  clear h
  induction L with
  | nil => cases hg
  | cons a t ih =>
    obtain ⟨j, u⟩ := a
    unfold lvg at hg
    split at hg
    next hj =>
      subst hj
      cases hg
      exact List.mem_cons_self
    next => exact List.mem_cons_of_mem _ (ih hg)
def lvi (i : Nat) (v : Value) : List (Nat × Value) → List (Nat × Value)
  | [] => [(i, v)]
  | (j, u) :: t => if i < j then (i, v) :: (j, u) :: t else (j, u) :: lvi i v t
theorem lvi_mem {i : Nat} {v : Value} {L : List (Nat × Value)} {q : Nat × Value} (h : q ∈ lvi i v L) : q ∈ (i, v) :: L := by
  induction L with
  | nil => exact h
  | cons a t ih =>
    obtain ⟨j, u⟩ := a
    unfold lvi at h
    split at h
    · exact h
    · rcases List.mem_cons.mp h with e | e
      · rw [e]
        exact List.mem_cons_of_mem _ List.mem_cons_self
      · rcases List.mem_cons.mp (ih e) with e | e
        · rw [e]
          exact List.mem_cons_self
        · exact List.mem_cons_of_mem _ (List.mem_cons_of_mem _ e)
/-- a local written: places in order -/
def lvs (L : List (Nat × Value)) (i : Nat) (v : Value) : List (Nat × Value) := lvi i v (L.filter (fun q => !(q.1 == i) && !(q.1 + 1 == i && q.2.category == 2)))
def lvs2 (L : List (Nat × Value)) (i : Nat) (v : Value) : List (Nat × Value) := lvi i v (L.filter (fun q => !(q.1 == i) && (!(q.1 == i + 1) && !(q.1 + 1 == i && q.2.category == 2))))
theorem lv_mono {ls : Array Slot} {nL : Nat} {L L' : List (Nat × Value)} (h : lv_has ls nL L) (hs : ∀ q ∈ L', q ∈ L) : lv_has ls nL L' := ⟨h.1, h.2.1, fun q hq => h.2.2 q (hs q hq)⟩
