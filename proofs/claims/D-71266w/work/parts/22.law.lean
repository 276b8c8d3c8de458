/-! the law's walk: over any relation of the two worlds that all 28 calls keep, with the same answer on both sides -/
set_option maxRecDepth 100000
def LawOp0 (Rel : GW → GW → Prop) : Prop := ∀ (wX wM : GW) (a1 : Int32), Rel wX wM → PX0_feed a1 wX (fun r wX2 => PX7_feed a1 wM (fun r2 wM2 => r = r2 ∧ Rel wX2 wM2))
def LawOp1 (Rel : GW → GW → Prop) : Prop := ∀ (wX wM : GW), Rel wX wM → PX0_county wX (fun r wX2 => PX7_county wM (fun r2 wM2 => r = r2 ∧ Rel wX2 wM2))
def LawOp2 (Rel : GW → GW → Prop) : Prop := ∀ (wX wM : GW), Rel wX wM → PX0_fault wX (fun r => PX7_fault wM (fun r2 wM2 => r = r2 ∧ Rel wX wM2))
def LawOp3 (Rel : GW → GW → Prop) : Prop := ∀ (wX wM : GW) (a1 : Int32), Rel wX wM → PX0_told a1 wX (fun r wX2 => PX7_told a1 wM (fun r2 wM2 => r = r2 ∧ Rel wX2 wM2))
def LawOp4 (Rel : GW → GW → Prop) : Prop := ∀ (wX wM : GW) (a1 a2 : Int32), Rel wX wM → PX0_skittle a1 a2 wX (fun r => PX7_skittle a1 a2 wM (fun r2 wM2 => r = r2 ∧ Rel wX wM2))
def LawOp5 (Rel : GW → GW → Prop) : Prop := ∀ (wX wM : GW) (a1 : Int32), Rel wX wM → PX0_plate a1 wX (fun r => PX7_plate a1 wM (fun r2 wM2 => r = r2 ∧ Rel wX wM2))
def LawOp6 (Rel : GW → GW → Prop) : Prop := ∀ (wX wM : GW) (a1 a2 a3 : Int32), Rel wX wM → PX0_ball a1 a2 a3 wX (fun r wX2 => PX7_ball a1 a2 a3 wM (fun r2 wM2 => r = r2 ∧ Rel wX2 wM2))
def LawOp7 (Rel : GW → GW → Prop) : Prop := ∀ (wX wM : GW), Rel wX wM → PX0_setUp wX (fun r wX2 => PX7_setUp wM (fun r2 wM2 => r = r2 ∧ Rel wX2 wM2))
def LawOp8 (Rel : GW → GW → Prop) : Prop := ∀ (wX wM : GW) (a1 : Int32), Rel wX wM → PX0_lift a1 wX (fun r wX2 => PX7_lift a1 wM (fun r2 wM2 => r = r2 ∧ Rel wX2 wM2))
def LawOp9 (Rel : GW → GW → Prop) : Prop := ∀ (wX wM : GW) (a1 a2 : Int32), Rel wX wM → PX0_change a1 a2 wX (fun r wX2 => PX7_change a1 a2 wM (fun r2 wM2 => r = r2 ∧ Rel wX2 wM2))
def LawOp10 (Rel : GW → GW → Prop) : Prop := ∀ (wX wM : GW) (a1 a2 : Int32), Rel wX wM → PX0_chip a1 a2 wX (fun r wX2 => PX7_chip a1 a2 wM (fun r2 wM2 => r = r2 ∧ Rel wX2 wM2))
def LawOp11 (Rel : GW → GW → Prop) : Prop := ∀ (wX wM : GW) (a1 : Int32), Rel wX wM → PX0_replace a1 wX (fun r wX2 => PX7_replace a1 wM (fun r2 wM2 => r = r2 ∧ Rel wX2 wM2))
def LawOp12 (Rel : GW → GW → Prop) : Prop := ∀ (wX wM : GW) (a1 : Int32), Rel wX wM → PX0_drift a1 wX (fun r wX2 => PX7_drift a1 wM (fun r2 wM2 => r = r2 ∧ Rel wX2 wM2))
def LawOp13 (Rel : GW → GW → Prop) : Prop := ∀ (wX wM : GW), Rel wX wM → PX0_undo wX (fun r wX2 => PX7_undo wM (fun r2 wM2 => r = r2 ∧ Rel wX2 wM2))
def LawOp14 (Rel : GW → GW → Prop) : Prop := ∀ (wX wM : GW) (a1 a2 a3 a4 : Int32), Rel wX wM → PX0_wouldFall a1 a2 a3 a4 wX (fun r wX2 => PX7_wouldFall a1 a2 a3 a4 wM (fun r2 wM2 => r = r2 ∧ Rel wX2 wM2))
def LawOp15 (Rel : GW → GW → Prop) : Prop := ∀ (wX wM : GW) (a1 a2 : Int32), Rel wX wM → PX0_balls a1 a2 wX (fun r wX2 => PX7_balls a1 a2 wM (fun r2 wM2 => r = r2 ∧ Rel wX2 wM2))
def LawOp16 (Rel : GW → GW → Prop) : Prop := ∀ (wX wM : GW) (a1 a2 : Int32), Rel wX wM → PX0_spare a1 a2 wX (fun r wX2 => PX7_spare a1 a2 wM (fun r2 wM2 => r = r2 ∧ Rel wX2 wM2))
def LawOp17 (Rel : GW → GW → Prop) : Prop := ∀ (wX wM : GW) (a1 : Int32), Rel wX wM → PX0_allDown a1 wX (fun r wX2 => PX7_allDown a1 wM (fun r2 wM2 => r = r2 ∧ Rel wX2 wM2))
def LawOp18 (Rel : GW → GW → Prop) : Prop := ∀ (wX wM : GW) (a1 a2 a3 a4 : Int32), Rel wX wM → PX0_mend a1 a2 a3 a4 wX (fun r wX2 => PX7_mend a1 a2 a3 a4 wM (fun r2 wM2 => r = r2 ∧ Rel wX2 wM2))
def LawOp19 (Rel : GW → GW → Prop) : Prop := ∀ (wX wM : GW) (a1 : Int32), Rel wX wM → PX0_hand a1 wX (fun r wX2 => PX7_hand a1 wM (fun r2 wM2 => r = r2 ∧ Rel wX2 wM2))
def LawOp20 (Rel : GW → GW → Prop) : Prop := ∀ (wX wM : GW) (a1 : Int32), Rel wX wM → PX0_ask a1 wX (fun r wX2 => PX7_ask a1 wM (fun r2 wM2 => r = r2 ∧ Rel wX2 wM2))
def LawOp21 (Rel : GW → GW → Prop) : Prop := ∀ (wX wM : GW) (a1 a2 : Int32), Rel wX wM → PX0_calm a1 a2 (fun r => PX7_calm a1 a2 wM (fun r2 wM2 => r = r2 ∧ Rel wX wM2))
def LawOp22 (Rel : GW → GW → Prop) : Prop := ∀ (wX wM : GW) (a1 a2 : Int32), gBool a2 → Rel wX wM → PX0_write a1 a2 wX (fun r wX2 => PX7_write a1 a2 wM (fun r2 wM2 => r = r2 ∧ Rel wX2 wM2))
def LawOp23 (Rel : GW → GW → Prop) : Prop := ∀ (wX wM : GW), Rel wX wM → PX0_tear wX (fun r wX2 => PX7_tear wM (fun r2 wM2 => r = r2 ∧ Rel wX2 wM2))
def LawOp24 (Rel : GW → GW → Prop) : Prop := ∀ (wX wM : GW), Rel wX wM → PX0_judge wX (fun r => PX7_judge wM (fun r2 wM2 => r = r2 ∧ Rel wX wM2))
def LawOp25 (Rel : GW → GW → Prop) : Prop := ∀ (wX wM : GW) (a1 : Int32), Rel wX wM → PX0_seed a1 wX (fun r wX2 => PX7_seed a1 wM (fun r2 wM2 => r = r2 ∧ Rel wX2 wM2))
def LawOp26 (Rel : GW → GW → Prop) : Prop := ∀ (wX wM : GW) (a1 : Int32), Rel wX wM → PX0_keep a1 wX (fun r wX2 => PX7_keep a1 wM (fun r2 wM2 => r = r2 ∧ Rel wX2 wM2))
def LawOp27 (Rel : GW → GW → Prop) : Prop := ∀ (wX wM : GW) (a1 : Int32), Rel wX wM → PX0_goBack a1 wX (fun r wX2 => PX7_goBack a1 wM (fun r2 wM2 => r = r2 ∧ Rel wX2 wM2))
theorem law_ix {L i : Nat} (hL : L ≤ 320) (hi : i ≤ 400) (h : ¬ (Int32.ofNat L - 5) < nI i) : i + 5 ≤ L := by
  have h1 : nI i ≤ nI L - 5 := Int32.not_lt.mp h
  have h2 := Int32.le_iff_toInt_le.mp h1
  rw [nI_toInt (by omega), show (5 : Int32) = nI 5 from rfl, pk_sub_toInt (by omega) (by omega)] at h2
  omega
theorem law_in {i L : Nat} (k : Nat) (h : i + k < L) (hL : L ≤ 320) : vp_in (nI i + nI k) L := by
  rw [nI_add]
  exact vp_in_nI h (by omega)
section GLaw
variable {p : Program} {l : Launch} {e : Env} {s : State} {m : MethodId} {args : Array Value} {below : List Frame} {meth : Method} {c : Code} {D : va_G} {dA : Nat → ClassId} {ad : Nat → Nat}
variable {R : Room} {A : Nat → Prop} {QQ : State → Prop} {cc : ByteArray} {nL kc ks pc : Nat} {rt : Option FieldType} {own : String} {L : List (Nat × Value)} {st rest : List Value} {ws : va_W} {w : GW} {idx : Nat}
theorem at_sld (C : Cx p s m args meth c D dA cc nL rt own) {b n : Nat} {xs : Nat → Int32} (hX : va_X b n xs s s.heap) (hbl : b < s.heap.size) (hbA : ¬ A b) {i : Int32} (hin : vp_in i n) (hd : decode cc pc = .ok (.iaload, 1)) (kk : gAt p l e R s m args below meth c D A QQ nL kc ks (pc + 1) L (.int (xs i.toNatClampNeg) :: st) ws) : gAt p l e R s m args below meth c D A QQ nL kc ks pc L (.int i :: .ref b :: st) ws := fun H locs ls hP hD hS hl => va_sld C.1 C.2.1 hX hbl hbA hS hin hd (kk H locs ls hP hD hS hl)
theorem at_slen (C : Cx p s m args meth c D dA cc nL rt own) {b n : Nat} {xs : Nat → Int32} (hX : va_X b n xs s s.heap) (hbl : b < s.heap.size) (hbA : ¬ A b) (hd : decode cc pc = .ok (.arraylength, 1)) (kk : gAt p l e R s m args below meth c D A QQ nL kc ks (pc + 1) L (.int (Int32.ofNat n) :: st) ws) : gAt p l e R s m args below meth c D A QQ nL kc ks pc L (.ref b :: st) ws := fun H locs ls hP hD hS hl => va_slen C.1 C.2.1 hX hbl hbA hS hd (kk H locs ls hP hD hS hl)
theorem at_lawend {b : Nat} (C : Cx p s m #[Value.ref b] meth c D dA code 4 ret own) (hlk : meth.locks = false) (h1 : kc ≤ 601024) (h2 : ks ≤ 7293034) (hd : decode code pc = .ok (.ireturn, 1)) : gAt p l e room_1 s m #[Value.ref b] below meth c D (fun q => s.heap.size ≤ q) (lw_Z below #[Value.ref b] s) nL kc ks pc L [.int 1] ws := fun H locs ls hP hD hS hl =>
  va_forget hS.2.2 (W.widen h1 h2 (lw_ret C.1 C.2.1 C.2.2.2.1 hlk hd))
theorem run_C (C : Cx p s m args meth c D dA cc nL rt own) {adX : Nat → Nat} {Q : Int32 → GW → Prop} {a : Array Value} (hZ : gZs (fun q => s.heap.size ≤ q) s s.heap) (hw : PX0_county w Q) (h1 : Cond.methodLink own idx yX0_county ∈ lw_all) (h2 : Cond.instanceMethod yX0_county ∈ lw_all) (h3 : Cond.selects "SkittleGentry" yX0_county yX0_county ∈ lw_all) (h4 : Cond.initialized "SkittleGentry" ∈ lw_all) (h5 : Cond.codeWith yX0_county cX0_county 4 (some .int) hhC ∈ lw_all) (hf : kc + 1157 ≤ room_1.cells ∧ ks + 9252 ≤ room_1.slots) (hst : st = .ref (adX 0) :: rest) (hW : (rest.map fun v => v.category).sum ≤ 8) (hd : decode cc pc = .ok (.invokevirtual idx, 3)) :
    ∀ (H : Heap) (locs : List Loc) (ls : Array Slot), va_P D gCl (gW dA 137 adX layX w) H → va_D (fun q => s.heap.size ≤ q) (gW dA 137 adX layX w) → va_S (fun q => s.heap.size ≤ q) s.heap H locs → ls.size = nL → va_Run p l e room_1 s m args below meth c H locs kc ks 1157 9252 (F0 m pc ls st) rest (va_Qi (fun r (u : (Nat → Nat) × GW) => Q r u.2 ∧ u.1 0 = adX 0) (gZl D (gW dA 137 adX layX w) H.size (fun u => gW dA 137 u.1 layX u.2)) (va_A (gW dA 137 adX layX w) H.size) a) (va_A (gW dA 137 adX layX w) H.size) := by
  intro H locs ls hP hD hS hs
  have hat : (gW dA 137 adX layX w)[0]? = some (adX 0, .inr (0, gV adX (w 0) 0 flX0)) := by rw [gW_get (Nat.le_of_ble_eq_true rfl)]; rfl
  exact vx_runVW (As := []) (rest := rest) ⟨C.1, C.2.1, C.2.2.1, C.2.2.2.2.2.1, C.2.2.2.2.2.2.1⟩ (metX0_county l D dA adX H.size hw) (vx_cwVW 0 C.2.2.2.2.2.2.1 (lw_VW h1 h2 h3 h4 h5) rfl rfl rfl (by decide +kernel) ⟨(Nat.le_of_ble_eq_true rfl), (Nat.le_of_ble_eq_true rfl)⟩) ⟨gBlZ_blind, va_recv C.2.2.2.2.2.2.2.1 hP rfl hat, fun U hU hW => ⟨rfl, ⟨by rw [hU], by rw [hU]; exact hP, gK_warm hW C.2.2.2.2.2.2.2, hD.weaken (fun _ _ _ _ => trivial)⟩, gZs_down hZ hS (va_A_in hD (fun q h => h) hS.1) hU hW.alike⟩⟩ rfl rfl hs hst (lv_room hW) hd hf
theorem bp_31 : (Int8.ofInt 31).toInt32 = 31 := by decide
set_option maxHeartbeats 40000000 in
theorem law_loop {b L : Nat} {xs : Nat → Int32} {Rel : GW → GW → Prop} (hL : L ≤ 320) (C : Cx p s m #[Value.ref b] meth c D dA code 4 ret R_law) (hlk : meth.locks = false) (hX : va_X b L xs s s.heap) (hbl : b < s.heap.size) (hZ : gZs (fun q => s.heap.size ≤ q) s s.heap) (H0 : LawOp0 Rel) (H1 : LawOp1 Rel) (H2 : LawOp2 Rel) (H3 : LawOp3 Rel) (H4 : LawOp4 Rel) (H5 : LawOp5 Rel) (H6 : LawOp6 Rel) (H7 : LawOp7 Rel) (H8 : LawOp8 Rel) (H9 : LawOp9 Rel) (H10 : LawOp10 Rel) (H11 : LawOp11 Rel) (H12 : LawOp12 Rel) (H13 : LawOp13 Rel) (H14 : LawOp14 Rel) (H15 : LawOp15 Rel) (H16 : LawOp16 Rel) (H17 : LawOp17 Rel) (H18 : LawOp18 Rel) (H19 : LawOp19 Rel) (H20 : LawOp20 Rel) (H21 : LawOp21 Rel) (H22 : LawOp22 Rel) (H23 : LawOp23 Rel) (H24 : LawOp24 Rel) (H25 : LawOp25 Rel) (H26 : LawOp26 Rel) (H27 : LawOp27 Rel) (adM : Nat → Nat) :
    ∀ (n i : Nat) (x3 : Int32) (kb sb : Nat) (adX : Nat → Nat) (wX wM : GW), L + 5 < i + 5 * n → x3 = nI i → i ≤ L + 5 → kb ≤ 1000 + 1157 * i → sb ≤ 20000 + 9252 * i → i ≤ 330 → Rel wX wM → gAt p l e room_1 s m #[Value.ref b] below meth c D (fun q => s.heap.size ≤ q) (lw_Z below #[Value.ref b] s) 4 kb sb 18 [(0, .ref b), (1, .ref (adX 0)), (2, .ref (adM 0)), (3, .int x3)] [] (gW dA 137 adX layX wX ++ gW dA 20 adM layM wM) := by
  have hA : ∀ q, s.heap.size ≤ q → (fun q => s.heap.size ≤ q) q := fun _ h => h
  have hbA : ¬ (fun q => s.heap.size ≤ q) b := Nat.not_le.mpr hbl
  intro n
  induction n with
  | zero => intro i x3 kb sb adX wX wM h1 _ h2; exact absurd h1 (by omega)
  | succ n ih =>
    intro i x3 kb sb adX wX wM hn ex3 hi hkb hsb hi3 hR
    refine at_iload_n C dL_law_18 rfl rfl ?_
    refine at_aload_n C dL_law_19 rfl rfl ?_
    refine at_slen C hX hbl hbA dL_law_20 ?_
    refine at_iconst C dL_law_21 ic_5 ?_
    refine at_isub C dL_law_22 ?_
    refine at_icmp_gt (tgt := 916) C dL_law_23 (by decide) (fun _ => ?_) (fun hc => ?_)
    · refine at_iconst C dL_law_916 ic_1 ?_
      exact at_lawend C hlk (by omega) (by omega) dL_law_917
    · skip
      have h5 : i + 5 ≤ L := law_ix hL (by omega) (by rw [← ex3]; exact hc)
      have h_0 : vp_in x3 L := by rw [ex3]; exact vp_in_nI (by omega) (by omega)
      have h_1 : vp_in (x3 + 1) L := by rw [ex3]; exact law_in 1 (by omega) (by omega)
      have h_2 : vp_in (x3 + 2) L := by rw [ex3]; exact law_in 2 (by omega) (by omega)
      have h_3 : vp_in (x3 + 3) L := by rw [ex3]; exact law_in 3 (by omega) (by omega)
      have h_4 : vp_in (x3 + 4) L := by rw [ex3]; exact law_in 4 (by omega) (by omega)
      have hk1 : kb ≤ 601024 := by omega
      have hk2 : sb ≤ 7293034 := by omega
      have hk1c : kb + 1157 ≤ 601024 := by omega
      have hk2c : sb + 9252 ≤ 7293034 := by omega
      have hnextC : ∀ (adX2 : Nat → Nat) (wX2 wM2 : GW), Rel wX2 wM2 → gAt p l e room_1 s m #[Value.ref b] below meth c D (fun q => s.heap.size ≤ q) (lw_Z below #[Value.ref b] s) 4 (kb + 1157) (sb + 9252) 910 [(0, .ref b), (1, .ref (adX2 0)), (2, .ref (adM 0)), (3, .int x3)] [] (gW dA 137 adX2 layX wX2 ++ gW dA 20 adM layM wM2) := fun adX2 wX2 wM2 hR2 => by
        refine at_iinc (F := fun z_ => [(0, .ref b), (1, .ref (adX2 0)), (2, .ref (adM 0)), (3, .int z_)]) C dL_law_910 rfl ic_5 (Nat.le_of_ble_eq_true rfl) (fun _ => rfl) (fun z hz => ?_)
        refine at_goto (tgt := 18) C dL_law_913 (by decide) ?_
        exact ih (i + 5) z (kb + 1157) (sb + 9252) adX2 wX2 wM2 (by omega) (by rw [hz, ex3]; exact nI_add i 5) (by omega) (by omega) (by omega) (by omega) hR2
      have hnext : ∀ (adX2 : Nat → Nat) (wX2 wM2 : GW), Rel wX2 wM2 → gAt p l e room_1 s m #[Value.ref b] below meth c D (fun q => s.heap.size ≤ q) (lw_Z below #[Value.ref b] s) 4 kb sb 910 [(0, .ref b), (1, .ref (adX2 0)), (2, .ref (adM 0)), (3, .int x3)] [] (gW dA 137 adX2 layX wX2 ++ gW dA 20 adM layM wM2) := fun adX2 wX2 wM2 hR2 => at_wid (Nat.le_add_right _ _) (Nat.le_add_right _ _) (hnextC adX2 wX2 wM2 hR2)
      refine at_aload_n C dL_law_26 rfl rfl ?_
      refine at_iload_n C dL_law_27 rfl rfl ?_
      refine at_sld C hX hbl hbA h_0 dL_law_28 ?_
      refine at_bipush C dL_law_29 bp_31 ?_
      refine at_iand C dL_law_31 ?_
      refine at_topi (fun v ev => ?_)
      by_cases c_0 : v = 0
      · refine at_tin (tgt := 160) (v := 0) C dL_law_32 c_0 (by decide) (by decide) rfl (by decide) ?_
        refine at_aload_n C dL_law_160 rfl rfl ?_
        refine at_aload_n C dL_law_161 rfl rfl ?_
        refine at_iload_n C dL_law_162 rfl rfl ?_
        refine at_iconst C dL_law_163 ic_1 ?_
        refine at_iadd C dL_law_164 ?_
        refine at_sld C hX hbl hbA h_1 dL_law_165 ?_
        have hw := H0 wX wM (xs ((x3 + 1)).toNatClampNeg) hR
        refine at_preGi (run_V (rest := []) (As := [.int (xs ((x3 + 1)).toNatClampNeg)]) C (metX0_feed l D dA adX hw) (lw_V q262 q263 q264 q56 q265) dsX0_feed ⟨(Nat.le_of_ble_eq_true rfl), (Nat.le_of_ble_eq_true rfl)⟩ ⟨rfl, rfl⟩ ⟨hk1, hk2⟩ (k := 0) (ci := 0) (Nat.le_of_ble_eq_true rfl) rfl rfl rfl rfl (Nat.le_of_ble_eq_true rfl) dL_law_166) (fun r wX2 hw => ?_)
        refine at_aload_n C dL_law_169 rfl rfl ?_
        refine at_aload_n C dL_law_170 rfl rfl ?_
        refine at_iload_n C dL_law_171 rfl rfl ?_
        refine at_iconst C dL_law_172 ic_1 ?_
        refine at_iadd C dL_law_173 ?_
        refine at_sld C hX hbl hbA h_1 dL_law_174 ?_
        refine at_sufGi (run_V (rest := [.int r]) (As := [.int (xs ((x3 + 1)).toNatClampNeg)]) C (metX7_feed l D dA adM hw) (lw_V q793 q794 q795 q65 q796) dsX7_feed ⟨(Nat.le_of_ble_eq_true rfl), (Nat.le_of_ble_eq_true rfl)⟩ ⟨rfl, rfl⟩ ⟨hk1, hk2⟩ (k := 0) (ci := 7) (Nat.le_of_ble_eq_true rfl) rfl rfl rfl rfl (Nat.le_of_ble_eq_true rfl) dL_law_175) (fun r2 wM2 hw => ?_)
        refine at_icmp_eq (tgt := 910) C dL_law_178 (by decide) (fun _ => ?_) (fun h => absurd hw.1 h)
        exact hnext adX wX2 wM2 hw.2
      by_cases c_1 : v = 1
      · refine at_tin (tgt := 183) (v := 1) C dL_law_32 c_1 (by decide) (by decide) rfl (by decide) ?_
        refine at_aload_n C dL_law_183 rfl rfl ?_
        have hw := H1 wX wM  hR
        refine at_prei (rest := []) (res := fun u : (Nat → Nat) × GW => gW dA 137 u.1 layX u.2) hA (fun _ _ h => h) (fun _ _ h => h) (run_C (a := #[]) C hZ hw q271 q272 q273 q56 q274 ⟨by show _ ≤ 601024; omega, by show _ ≤ 7293034; omega⟩ rfl (Nat.le_of_ble_eq_true rfl) dL_law_184) (fun r u hu => ?_)
        obtain ⟨adX2, wX2⟩ := u
        obtain ⟨hw, had⟩ := hu
        dsimp only at had ⊢
        rw [show (.ref (adX 0) : Value) = .ref (adX2 0) by rw [had]]
        refine at_aload_n C dL_law_187 rfl rfl ?_
        refine at_sufGi (run_V (rest := [.int r]) (As := []) C (metX7_county l D dA adM hw) (lw_V q802 q803 q804 q65 q805) dsX7_county ⟨(Nat.le_of_ble_eq_true rfl), (Nat.le_of_ble_eq_true rfl)⟩ ⟨rfl, rfl⟩ ⟨hk1c, hk2c⟩ (k := 0) (ci := 7) (Nat.le_of_ble_eq_true rfl) rfl rfl rfl rfl (Nat.le_of_ble_eq_true rfl) dL_law_188) (fun r2 wM2 hw => ?_)
        refine at_icmp_eq (tgt := 910) C dL_law_191 (by decide) (fun _ => ?_) (fun h => absurd hw.1 h)
        exact hnextC adX2 wX2 wM2 hw.2
      by_cases c_2 : v = 2
      · refine at_tin (tgt := 196) (v := 2) C dL_law_32 c_2 (by decide) (by decide) rfl (by decide) ?_
        refine at_aload_n C dL_law_196 rfl rfl ?_
        have hw := H2 wX wM  hR
        refine at_preGp (run_V (rest := []) (As := []) C (metX0_fault l D dA adX hw) (lw_V q395 q396 q397 q56 q398) dsX0_fault ⟨(Nat.le_of_ble_eq_true rfl), (Nat.le_of_ble_eq_true rfl)⟩ ⟨rfl, rfl⟩ ⟨hk1, hk2⟩ (k := 0) (ci := 0) (Nat.le_of_ble_eq_true rfl) rfl rfl rfl rfl (Nat.le_of_ble_eq_true rfl) dL_law_197) (fun r hw => ?_)
        refine at_aload_n C dL_law_200 rfl rfl ?_
        refine at_sufGi (run_V (rest := [.int r]) (As := []) C (metX7_fault l D dA adM hw) (lw_V q842 q843 q844 q65 q845) dsX7_fault ⟨(Nat.le_of_ble_eq_true rfl), (Nat.le_of_ble_eq_true rfl)⟩ ⟨rfl, rfl⟩ ⟨hk1, hk2⟩ (k := 0) (ci := 7) (Nat.le_of_ble_eq_true rfl) rfl rfl rfl rfl (Nat.le_of_ble_eq_true rfl) dL_law_201) (fun r2 wM2 hw => ?_)
        refine at_icmp_eq (tgt := 910) C dL_law_204 (by decide) (fun _ => ?_) (fun h => absurd hw.1 h)
        exact hnext adX wX wM2 hw.2
      by_cases c_3 : v = 3
      · refine at_tin (tgt := 209) (v := 3) C dL_law_32 c_3 (by decide) (by decide) rfl (by decide) ?_
        refine at_aload_n C dL_law_209 rfl rfl ?_
        refine at_aload_n C dL_law_210 rfl rfl ?_
        refine at_iload_n C dL_law_211 rfl rfl ?_
        refine at_iconst C dL_law_212 ic_1 ?_
        refine at_iadd C dL_law_213 ?_
        refine at_sld C hX hbl hbA h_1 dL_law_214 ?_
        have hw := H3 wX wM (xs ((x3 + 1)).toNatClampNeg) hR
        refine at_preGi (run_V (rest := []) (As := [.int (xs ((x3 + 1)).toNatClampNeg)]) C (metX0_told l D dA adX hw) (lw_V q399 q400 q401 q56 q402) dsX0_told ⟨(Nat.le_of_ble_eq_true rfl), (Nat.le_of_ble_eq_true rfl)⟩ ⟨rfl, rfl⟩ ⟨hk1, hk2⟩ (k := 0) (ci := 0) (Nat.le_of_ble_eq_true rfl) rfl rfl rfl rfl (Nat.le_of_ble_eq_true rfl) dL_law_215) (fun r wX2 hw => ?_)
        refine at_aload_n C dL_law_218 rfl rfl ?_
        refine at_aload_n C dL_law_219 rfl rfl ?_
        refine at_iload_n C dL_law_220 rfl rfl ?_
        refine at_iconst C dL_law_221 ic_1 ?_
        refine at_iadd C dL_law_222 ?_
        refine at_sld C hX hbl hbA h_1 dL_law_223 ?_
        refine at_sufGi (run_V (rest := [.int r]) (As := [.int (xs ((x3 + 1)).toNatClampNeg)]) C (metX7_told l D dA adM hw) (lw_V q846 q847 q848 q65 q849) dsX7_told ⟨(Nat.le_of_ble_eq_true rfl), (Nat.le_of_ble_eq_true rfl)⟩ ⟨rfl, rfl⟩ ⟨hk1, hk2⟩ (k := 0) (ci := 7) (Nat.le_of_ble_eq_true rfl) rfl rfl rfl rfl (Nat.le_of_ble_eq_true rfl) dL_law_224) (fun r2 wM2 hw => ?_)
        refine at_icmp_eq (tgt := 910) C dL_law_227 (by decide) (fun _ => ?_) (fun h => absurd hw.1 h)
        exact hnext adX wX2 wM2 hw.2
      by_cases c_4 : v = 4
      · refine at_tin (tgt := 232) (v := 4) C dL_law_32 c_4 (by decide) (by decide) rfl (by decide) ?_
        refine at_aload_n C dL_law_232 rfl rfl ?_
        refine at_aload_n C dL_law_233 rfl rfl ?_
        refine at_iload_n C dL_law_234 rfl rfl ?_
        refine at_iconst C dL_law_235 ic_1 ?_
        refine at_iadd C dL_law_236 ?_
        refine at_sld C hX hbl hbA h_1 dL_law_237 ?_
        refine at_aload_n C dL_law_238 rfl rfl ?_
        refine at_iload_n C dL_law_239 rfl rfl ?_
        refine at_iconst C dL_law_240 ic_2 ?_
        refine at_iadd C dL_law_241 ?_
        refine at_sld C hX hbl hbA h_2 dL_law_242 ?_
        have hw := H4 wX wM (xs ((x3 + 1)).toNatClampNeg) (xs ((x3 + 2)).toNatClampNeg) hR
        refine at_preGp (run_V (rest := []) (As := [.int (xs ((x3 + 1)).toNatClampNeg), .int (xs ((x3 + 2)).toNatClampNeg)]) C (metX0_skittle l D dA adX hw) (lw_V q517 q518 q519 q56 q520) dsX0_skittle ⟨(Nat.le_of_ble_eq_true rfl), (Nat.le_of_ble_eq_true rfl)⟩ ⟨rfl, rfl⟩ ⟨hk1, hk2⟩ (k := 0) (ci := 0) (Nat.le_of_ble_eq_true rfl) rfl rfl rfl rfl (Nat.le_of_ble_eq_true rfl) dL_law_243) (fun r hw => ?_)
        refine at_aload_n C dL_law_246 rfl rfl ?_
        refine at_aload_n C dL_law_247 rfl rfl ?_
        refine at_iload_n C dL_law_248 rfl rfl ?_
        refine at_iconst C dL_law_249 ic_1 ?_
        refine at_iadd C dL_law_250 ?_
        refine at_sld C hX hbl hbA h_1 dL_law_251 ?_
        refine at_aload_n C dL_law_252 rfl rfl ?_
        refine at_iload_n C dL_law_253 rfl rfl ?_
        refine at_iconst C dL_law_254 ic_2 ?_
        refine at_iadd C dL_law_255 ?_
        refine at_sld C hX hbl hbA h_2 dL_law_256 ?_
        refine at_sufGi (run_V (rest := [.int r]) (As := [.int (xs ((x3 + 1)).toNatClampNeg), .int (xs ((x3 + 2)).toNatClampNeg)]) C (metX7_skittle l D dA adM hw) (lw_V q920 q921 q922 q65 q923) dsX7_skittle ⟨(Nat.le_of_ble_eq_true rfl), (Nat.le_of_ble_eq_true rfl)⟩ ⟨rfl, rfl⟩ ⟨hk1, hk2⟩ (k := 0) (ci := 7) (Nat.le_of_ble_eq_true rfl) rfl rfl rfl rfl (Nat.le_of_ble_eq_true rfl) dL_law_257) (fun r2 wM2 hw => ?_)
        refine at_icmp_eq (tgt := 910) C dL_law_260 (by decide) (fun _ => ?_) (fun h => absurd hw.1 h)
        exact hnext adX wX wM2 hw.2
      by_cases c_5 : v = 5
      · refine at_tin (tgt := 265) (v := 5) C dL_law_32 c_5 (by decide) (by decide) rfl (by decide) ?_
        refine at_aload_n C dL_law_265 rfl rfl ?_
        refine at_aload_n C dL_law_266 rfl rfl ?_
        refine at_iload_n C dL_law_267 rfl rfl ?_
        refine at_iconst C dL_law_268 ic_1 ?_
        refine at_iadd C dL_law_269 ?_
        refine at_sld C hX hbl hbA h_1 dL_law_270 ?_
        have hw := H5 wX wM (xs ((x3 + 1)).toNatClampNeg) hR
        refine at_preGp (run_V (rest := []) (As := [.int (xs ((x3 + 1)).toNatClampNeg)]) C (metX0_plate l D dA adX hw) (lw_V q531 q532 q533 q56 q534) dsX0_plate ⟨(Nat.le_of_ble_eq_true rfl), (Nat.le_of_ble_eq_true rfl)⟩ ⟨rfl, rfl⟩ ⟨hk1, hk2⟩ (k := 0) (ci := 0) (Nat.le_of_ble_eq_true rfl) rfl rfl rfl rfl (Nat.le_of_ble_eq_true rfl) dL_law_271) (fun r hw => ?_)
        refine at_aload_n C dL_law_274 rfl rfl ?_
        refine at_aload_n C dL_law_275 rfl rfl ?_
        refine at_iload_n C dL_law_276 rfl rfl ?_
        refine at_iconst C dL_law_277 ic_1 ?_
        refine at_iadd C dL_law_278 ?_
        refine at_sld C hX hbl hbA h_1 dL_law_279 ?_
        refine at_sufGi (run_V (rest := [.int r]) (As := [.int (xs ((x3 + 1)).toNatClampNeg)]) C (metX7_plate l D dA adM hw) (lw_V q933 q934 q935 q65 q936) dsX7_plate ⟨(Nat.le_of_ble_eq_true rfl), (Nat.le_of_ble_eq_true rfl)⟩ ⟨rfl, rfl⟩ ⟨hk1, hk2⟩ (k := 0) (ci := 7) (Nat.le_of_ble_eq_true rfl) rfl rfl rfl rfl (Nat.le_of_ble_eq_true rfl) dL_law_280) (fun r2 wM2 hw => ?_)
        refine at_icmp_eq (tgt := 910) C dL_law_283 (by decide) (fun _ => ?_) (fun h => absurd hw.1 h)
        exact hnext adX wX wM2 hw.2
      by_cases c_6 : v = 6
      · refine at_tin (tgt := 288) (v := 6) C dL_law_32 c_6 (by decide) (by decide) rfl (by decide) ?_
        refine at_aload_n C dL_law_288 rfl rfl ?_
        refine at_aload_n C dL_law_289 rfl rfl ?_
        refine at_iload_n C dL_law_290 rfl rfl ?_
        refine at_iconst C dL_law_291 ic_1 ?_
        refine at_iadd C dL_law_292 ?_
        refine at_sld C hX hbl hbA h_1 dL_law_293 ?_
        refine at_aload_n C dL_law_294 rfl rfl ?_
        refine at_iload_n C dL_law_295 rfl rfl ?_
        refine at_iconst C dL_law_296 ic_2 ?_
        refine at_iadd C dL_law_297 ?_
        refine at_sld C hX hbl hbA h_2 dL_law_298 ?_
        refine at_aload_n C dL_law_299 rfl rfl ?_
        refine at_iload_n C dL_law_300 rfl rfl ?_
        refine at_iconst C dL_law_301 ic_3 ?_
        refine at_iadd C dL_law_302 ?_
        refine at_sld C hX hbl hbA h_3 dL_law_303 ?_
        have hw := H6 wX wM (xs ((x3 + 1)).toNatClampNeg) (xs ((x3 + 2)).toNatClampNeg) (xs ((x3 + 3)).toNatClampNeg) hR
        refine at_preGi (run_V (rest := []) (As := [.int (xs ((x3 + 1)).toNatClampNeg), .int (xs ((x3 + 2)).toNatClampNeg), .int (xs ((x3 + 3)).toNatClampNeg)]) C (metX0_ball l D dA adX hw) (lw_V q539 q540 q541 q56 q542) dsX0_ball ⟨(Nat.le_of_ble_eq_true rfl), (Nat.le_of_ble_eq_true rfl)⟩ ⟨rfl, rfl⟩ ⟨hk1, hk2⟩ (k := 0) (ci := 0) (Nat.le_of_ble_eq_true rfl) rfl rfl rfl rfl (Nat.le_of_ble_eq_true rfl) dL_law_304) (fun r wX2 hw => ?_)
        refine at_aload_n C dL_law_307 rfl rfl ?_
        refine at_aload_n C dL_law_308 rfl rfl ?_
        refine at_iload_n C dL_law_309 rfl rfl ?_
        refine at_iconst C dL_law_310 ic_1 ?_
        refine at_iadd C dL_law_311 ?_
        refine at_sld C hX hbl hbA h_1 dL_law_312 ?_
        refine at_aload_n C dL_law_313 rfl rfl ?_
        refine at_iload_n C dL_law_314 rfl rfl ?_
        refine at_iconst C dL_law_315 ic_2 ?_
        refine at_iadd C dL_law_316 ?_
        refine at_sld C hX hbl hbA h_2 dL_law_317 ?_
        refine at_aload_n C dL_law_318 rfl rfl ?_
        refine at_iload_n C dL_law_319 rfl rfl ?_
        refine at_iconst C dL_law_320 ic_3 ?_
        refine at_iadd C dL_law_321 ?_
        refine at_sld C hX hbl hbA h_3 dL_law_322 ?_
        refine at_sufGi (run_V (rest := [.int r]) (As := [.int (xs ((x3 + 1)).toNatClampNeg), .int (xs ((x3 + 2)).toNatClampNeg), .int (xs ((x3 + 3)).toNatClampNeg)]) C (metX7_ball l D dA adM hw) (lw_V q944 q945 q946 q65 q947) dsX7_ball ⟨(Nat.le_of_ble_eq_true rfl), (Nat.le_of_ble_eq_true rfl)⟩ ⟨rfl, rfl⟩ ⟨hk1, hk2⟩ (k := 0) (ci := 7) (Nat.le_of_ble_eq_true rfl) rfl rfl rfl rfl (Nat.le_of_ble_eq_true rfl) dL_law_323) (fun r2 wM2 hw => ?_)
        refine at_icmp_eq (tgt := 910) C dL_law_326 (by decide) (fun _ => ?_) (fun h => absurd hw.1 h)
        exact hnext adX wX2 wM2 hw.2
      by_cases c_7 : v = 7
      · refine at_tin (tgt := 331) (v := 7) C dL_law_32 c_7 (by decide) (by decide) rfl (by decide) ?_
        refine at_aload_n C dL_law_331 rfl rfl ?_
        have hw := H7 wX wM  hR
        refine at_preGi (run_V (rest := []) (As := []) C (metX0_setUp l D dA adX hw) (lw_V q556 q557 q558 q56 q559) dsX0_setUp ⟨(Nat.le_of_ble_eq_true rfl), (Nat.le_of_ble_eq_true rfl)⟩ ⟨rfl, rfl⟩ ⟨hk1, hk2⟩ (k := 0) (ci := 0) (Nat.le_of_ble_eq_true rfl) rfl rfl rfl rfl (Nat.le_of_ble_eq_true rfl) dL_law_332) (fun r wX2 hw => ?_)
        refine at_aload_n C dL_law_335 rfl rfl ?_
        refine at_sufGi (run_V (rest := [.int r]) (As := []) C (metX7_setUp l D dA adM hw) (lw_V q961 q962 q963 q65 q964) dsX7_setUp ⟨(Nat.le_of_ble_eq_true rfl), (Nat.le_of_ble_eq_true rfl)⟩ ⟨rfl, rfl⟩ ⟨hk1, hk2⟩ (k := 0) (ci := 7) (Nat.le_of_ble_eq_true rfl) rfl rfl rfl rfl (Nat.le_of_ble_eq_true rfl) dL_law_336) (fun r2 wM2 hw => ?_)
        refine at_icmp_eq (tgt := 910) C dL_law_339 (by decide) (fun _ => ?_) (fun h => absurd hw.1 h)
        exact hnext adX wX2 wM2 hw.2
      by_cases c_8 : v = 8
      · refine at_tin (tgt := 344) (v := 8) C dL_law_32 c_8 (by decide) (by decide) rfl (by decide) ?_
        refine at_aload_n C dL_law_344 rfl rfl ?_
        refine at_aload_n C dL_law_345 rfl rfl ?_
        refine at_iload_n C dL_law_346 rfl rfl ?_
        refine at_iconst C dL_law_347 ic_1 ?_
        refine at_iadd C dL_law_348 ?_
        refine at_sld C hX hbl hbA h_1 dL_law_349 ?_
        have hw := H8 wX wM (xs ((x3 + 1)).toNatClampNeg) hR
        refine at_preGi (run_V (rest := []) (As := [.int (xs ((x3 + 1)).toNatClampNeg)]) C (metX0_lift l D dA adX hw) (lw_V q565 q566 q567 q56 q568) dsX0_lift ⟨(Nat.le_of_ble_eq_true rfl), (Nat.le_of_ble_eq_true rfl)⟩ ⟨rfl, rfl⟩ ⟨hk1, hk2⟩ (k := 0) (ci := 0) (Nat.le_of_ble_eq_true rfl) rfl rfl rfl rfl (Nat.le_of_ble_eq_true rfl) dL_law_350) (fun r wX2 hw => ?_)
        refine at_aload_n C dL_law_353 rfl rfl ?_
        refine at_aload_n C dL_law_354 rfl rfl ?_
        refine at_iload_n C dL_law_355 rfl rfl ?_
        refine at_iconst C dL_law_356 ic_1 ?_
        refine at_iadd C dL_law_357 ?_
        refine at_sld C hX hbl hbA h_1 dL_law_358 ?_
        refine at_sufGi (run_V (rest := [.int r]) (As := [.int (xs ((x3 + 1)).toNatClampNeg)]) C (metX7_lift l D dA adM hw) (lw_V q965 q966 q967 q65 q968) dsX7_lift ⟨(Nat.le_of_ble_eq_true rfl), (Nat.le_of_ble_eq_true rfl)⟩ ⟨rfl, rfl⟩ ⟨hk1, hk2⟩ (k := 0) (ci := 7) (Nat.le_of_ble_eq_true rfl) rfl rfl rfl rfl (Nat.le_of_ble_eq_true rfl) dL_law_359) (fun r2 wM2 hw => ?_)
        refine at_icmp_eq (tgt := 910) C dL_law_362 (by decide) (fun _ => ?_) (fun h => absurd hw.1 h)
        exact hnext adX wX2 wM2 hw.2
      by_cases c_9 : v = 9
      · refine at_tin (tgt := 367) (v := 9) C dL_law_32 c_9 (by decide) (by decide) rfl (by decide) ?_
        refine at_aload_n C dL_law_367 rfl rfl ?_
        refine at_aload_n C dL_law_368 rfl rfl ?_
        refine at_iload_n C dL_law_369 rfl rfl ?_
        refine at_iconst C dL_law_370 ic_1 ?_
        refine at_iadd C dL_law_371 ?_
        refine at_sld C hX hbl hbA h_1 dL_law_372 ?_
        refine at_aload_n C dL_law_373 rfl rfl ?_
        refine at_iload_n C dL_law_374 rfl rfl ?_
        refine at_iconst C dL_law_375 ic_2 ?_
        refine at_iadd C dL_law_376 ?_
        refine at_sld C hX hbl hbA h_2 dL_law_377 ?_
        have hw := H9 wX wM (xs ((x3 + 1)).toNatClampNeg) (xs ((x3 + 2)).toNatClampNeg) hR
        refine at_preGi (run_V (rest := []) (As := [.int (xs ((x3 + 1)).toNatClampNeg), .int (xs ((x3 + 2)).toNatClampNeg)]) C (metX0_change l D dA adX hw) (lw_V q569 q570 q571 q56 q572) dsX0_change ⟨(Nat.le_of_ble_eq_true rfl), (Nat.le_of_ble_eq_true rfl)⟩ ⟨rfl, rfl⟩ ⟨hk1, hk2⟩ (k := 0) (ci := 0) (Nat.le_of_ble_eq_true rfl) rfl rfl rfl rfl (Nat.le_of_ble_eq_true rfl) dL_law_378) (fun r wX2 hw => ?_)
        refine at_aload_n C dL_law_381 rfl rfl ?_
        refine at_aload_n C dL_law_382 rfl rfl ?_
        refine at_iload_n C dL_law_383 rfl rfl ?_
        refine at_iconst C dL_law_384 ic_1 ?_
        refine at_iadd C dL_law_385 ?_
        refine at_sld C hX hbl hbA h_1 dL_law_386 ?_
        refine at_aload_n C dL_law_387 rfl rfl ?_
        refine at_iload_n C dL_law_388 rfl rfl ?_
        refine at_iconst C dL_law_389 ic_2 ?_
        refine at_iadd C dL_law_390 ?_
        refine at_sld C hX hbl hbA h_2 dL_law_391 ?_
        refine at_sufGi (run_V (rest := [.int r]) (As := [.int (xs ((x3 + 1)).toNatClampNeg), .int (xs ((x3 + 2)).toNatClampNeg)]) C (metX7_change l D dA adM hw) (lw_V q969 q970 q971 q65 q972) dsX7_change ⟨(Nat.le_of_ble_eq_true rfl), (Nat.le_of_ble_eq_true rfl)⟩ ⟨rfl, rfl⟩ ⟨hk1, hk2⟩ (k := 0) (ci := 7) (Nat.le_of_ble_eq_true rfl) rfl rfl rfl rfl (Nat.le_of_ble_eq_true rfl) dL_law_392) (fun r2 wM2 hw => ?_)
        refine at_icmp_eq (tgt := 910) C dL_law_395 (by decide) (fun _ => ?_) (fun h => absurd hw.1 h)
        exact hnext adX wX2 wM2 hw.2
      by_cases c_10 : v = 10
      · refine at_tin (tgt := 400) (v := 10) C dL_law_32 c_10 (by decide) (by decide) rfl (by decide) ?_
        refine at_aload_n C dL_law_400 rfl rfl ?_
        refine at_aload_n C dL_law_401 rfl rfl ?_
        refine at_iload_n C dL_law_402 rfl rfl ?_
        refine at_iconst C dL_law_403 ic_1 ?_
        refine at_iadd C dL_law_404 ?_
        refine at_sld C hX hbl hbA h_1 dL_law_405 ?_
        refine at_aload_n C dL_law_406 rfl rfl ?_
        refine at_iload_n C dL_law_407 rfl rfl ?_
        refine at_iconst C dL_law_408 ic_2 ?_
        refine at_iadd C dL_law_409 ?_
        refine at_sld C hX hbl hbA h_2 dL_law_410 ?_
        have hw := H10 wX wM (xs ((x3 + 1)).toNatClampNeg) (xs ((x3 + 2)).toNatClampNeg) hR
        refine at_preGi (run_V (rest := []) (As := [.int (xs ((x3 + 1)).toNatClampNeg), .int (xs ((x3 + 2)).toNatClampNeg)]) C (metX0_chip l D dA adX hw) (lw_V q577 q578 q579 q56 q580) dsX0_chip ⟨(Nat.le_of_ble_eq_true rfl), (Nat.le_of_ble_eq_true rfl)⟩ ⟨rfl, rfl⟩ ⟨hk1, hk2⟩ (k := 0) (ci := 0) (Nat.le_of_ble_eq_true rfl) rfl rfl rfl rfl (Nat.le_of_ble_eq_true rfl) dL_law_411) (fun r wX2 hw => ?_)
        refine at_aload_n C dL_law_414 rfl rfl ?_
        refine at_aload_n C dL_law_415 rfl rfl ?_
        refine at_iload_n C dL_law_416 rfl rfl ?_
        refine at_iconst C dL_law_417 ic_1 ?_
        refine at_iadd C dL_law_418 ?_
        refine at_sld C hX hbl hbA h_1 dL_law_419 ?_
        refine at_aload_n C dL_law_420 rfl rfl ?_
        refine at_iload_n C dL_law_421 rfl rfl ?_
        refine at_iconst C dL_law_422 ic_2 ?_
        refine at_iadd C dL_law_423 ?_
        refine at_sld C hX hbl hbA h_2 dL_law_424 ?_
        refine at_sufGi (run_V (rest := [.int r]) (As := [.int (xs ((x3 + 1)).toNatClampNeg), .int (xs ((x3 + 2)).toNatClampNeg)]) C (metX7_chip l D dA adM hw) (lw_V q977 q978 q979 q65 q980) dsX7_chip ⟨(Nat.le_of_ble_eq_true rfl), (Nat.le_of_ble_eq_true rfl)⟩ ⟨rfl, rfl⟩ ⟨hk1, hk2⟩ (k := 0) (ci := 7) (Nat.le_of_ble_eq_true rfl) rfl rfl rfl rfl (Nat.le_of_ble_eq_true rfl) dL_law_425) (fun r2 wM2 hw => ?_)
        refine at_icmp_eq (tgt := 910) C dL_law_428 (by decide) (fun _ => ?_) (fun h => absurd hw.1 h)
        exact hnext adX wX2 wM2 hw.2
      by_cases c_11 : v = 11
      · refine at_tin (tgt := 433) (v := 11) C dL_law_32 c_11 (by decide) (by decide) rfl (by decide) ?_
        refine at_aload_n C dL_law_433 rfl rfl ?_
        refine at_aload_n C dL_law_434 rfl rfl ?_
        refine at_iload_n C dL_law_435 rfl rfl ?_
        refine at_iconst C dL_law_436 ic_1 ?_
        refine at_iadd C dL_law_437 ?_
        refine at_sld C hX hbl hbA h_1 dL_law_438 ?_
        have hw := H11 wX wM (xs ((x3 + 1)).toNatClampNeg) hR
        refine at_preGi (run_V (rest := []) (As := [.int (xs ((x3 + 1)).toNatClampNeg)]) C (metX0_replace l D dA adX hw) (lw_V q581 q582 q583 q56 q584) dsX0_replace ⟨(Nat.le_of_ble_eq_true rfl), (Nat.le_of_ble_eq_true rfl)⟩ ⟨rfl, rfl⟩ ⟨hk1, hk2⟩ (k := 0) (ci := 0) (Nat.le_of_ble_eq_true rfl) rfl rfl rfl rfl (Nat.le_of_ble_eq_true rfl) dL_law_439) (fun r wX2 hw => ?_)
        refine at_aload_n C dL_law_442 rfl rfl ?_
        refine at_aload_n C dL_law_443 rfl rfl ?_
        refine at_iload_n C dL_law_444 rfl rfl ?_
        refine at_iconst C dL_law_445 ic_1 ?_
        refine at_iadd C dL_law_446 ?_
        refine at_sld C hX hbl hbA h_1 dL_law_447 ?_
        refine at_sufGi (run_V (rest := [.int r]) (As := [.int (xs ((x3 + 1)).toNatClampNeg)]) C (metX7_replace l D dA adM hw) (lw_V q981 q982 q983 q65 q984) dsX7_replace ⟨(Nat.le_of_ble_eq_true rfl), (Nat.le_of_ble_eq_true rfl)⟩ ⟨rfl, rfl⟩ ⟨hk1, hk2⟩ (k := 0) (ci := 7) (Nat.le_of_ble_eq_true rfl) rfl rfl rfl rfl (Nat.le_of_ble_eq_true rfl) dL_law_448) (fun r2 wM2 hw => ?_)
        refine at_icmp_eq (tgt := 910) C dL_law_451 (by decide) (fun _ => ?_) (fun h => absurd hw.1 h)
        exact hnext adX wX2 wM2 hw.2
      by_cases c_12 : v = 12
      · refine at_tin (tgt := 456) (v := 12) C dL_law_32 c_12 (by decide) (by decide) rfl (by decide) ?_
        refine at_aload_n C dL_law_456 rfl rfl ?_
        refine at_aload_n C dL_law_457 rfl rfl ?_
        refine at_iload_n C dL_law_458 rfl rfl ?_
        refine at_iconst C dL_law_459 ic_1 ?_
        refine at_iadd C dL_law_460 ?_
        refine at_sld C hX hbl hbA h_1 dL_law_461 ?_
        have hw := H12 wX wM (xs ((x3 + 1)).toNatClampNeg) hR
        refine at_preGi (run_V (rest := []) (As := [.int (xs ((x3 + 1)).toNatClampNeg)]) C (metX0_drift l D dA adX hw) (lw_V q585 q586 q587 q56 q588) dsX0_drift ⟨(Nat.le_of_ble_eq_true rfl), (Nat.le_of_ble_eq_true rfl)⟩ ⟨rfl, rfl⟩ ⟨hk1, hk2⟩ (k := 0) (ci := 0) (Nat.le_of_ble_eq_true rfl) rfl rfl rfl rfl (Nat.le_of_ble_eq_true rfl) dL_law_462) (fun r wX2 hw => ?_)
        refine at_aload_n C dL_law_465 rfl rfl ?_
        refine at_aload_n C dL_law_466 rfl rfl ?_
        refine at_iload_n C dL_law_467 rfl rfl ?_
        refine at_iconst C dL_law_468 ic_1 ?_
        refine at_iadd C dL_law_469 ?_
        refine at_sld C hX hbl hbA h_1 dL_law_470 ?_
        refine at_sufGi (run_V (rest := [.int r]) (As := [.int (xs ((x3 + 1)).toNatClampNeg)]) C (metX7_drift l D dA adM hw) (lw_V q985 q986 q987 q65 q988) dsX7_drift ⟨(Nat.le_of_ble_eq_true rfl), (Nat.le_of_ble_eq_true rfl)⟩ ⟨rfl, rfl⟩ ⟨hk1, hk2⟩ (k := 0) (ci := 7) (Nat.le_of_ble_eq_true rfl) rfl rfl rfl rfl (Nat.le_of_ble_eq_true rfl) dL_law_471) (fun r2 wM2 hw => ?_)
        refine at_icmp_eq (tgt := 910) C dL_law_474 (by decide) (fun _ => ?_) (fun h => absurd hw.1 h)
        exact hnext adX wX2 wM2 hw.2
      by_cases c_13 : v = 13
      · refine at_tin (tgt := 479) (v := 13) C dL_law_32 c_13 (by decide) (by decide) rfl (by decide) ?_
        refine at_aload_n C dL_law_479 rfl rfl ?_
        have hw := H13 wX wM  hR
        refine at_preGi (run_V (rest := []) (As := []) C (metX0_undo l D dA adX hw) (lw_V q604 q605 q606 q56 q607) dsX0_undo ⟨(Nat.le_of_ble_eq_true rfl), (Nat.le_of_ble_eq_true rfl)⟩ ⟨rfl, rfl⟩ ⟨hk1, hk2⟩ (k := 0) (ci := 0) (Nat.le_of_ble_eq_true rfl) rfl rfl rfl rfl (Nat.le_of_ble_eq_true rfl) dL_law_480) (fun r wX2 hw => ?_)
        refine at_aload_n C dL_law_483 rfl rfl ?_
        refine at_sufGi (run_V (rest := [.int r]) (As := []) C (metX7_undo l D dA adM hw) (lw_V q997 q998 q999 q65 q1000) dsX7_undo ⟨(Nat.le_of_ble_eq_true rfl), (Nat.le_of_ble_eq_true rfl)⟩ ⟨rfl, rfl⟩ ⟨hk1, hk2⟩ (k := 0) (ci := 7) (Nat.le_of_ble_eq_true rfl) rfl rfl rfl rfl (Nat.le_of_ble_eq_true rfl) dL_law_484) (fun r2 wM2 hw => ?_)
        refine at_icmp_eq (tgt := 910) C dL_law_487 (by decide) (fun _ => ?_) (fun h => absurd hw.1 h)
        exact hnext adX wX2 wM2 hw.2
      by_cases c_14 : v = 14
      · refine at_tin (tgt := 492) (v := 14) C dL_law_32 c_14 (by decide) (by decide) rfl (by decide) ?_
        refine at_aload_n C dL_law_492 rfl rfl ?_
        refine at_aload_n C dL_law_493 rfl rfl ?_
        refine at_iload_n C dL_law_494 rfl rfl ?_
        refine at_iconst C dL_law_495 ic_1 ?_
        refine at_iadd C dL_law_496 ?_
        refine at_sld C hX hbl hbA h_1 dL_law_497 ?_
        refine at_aload_n C dL_law_498 rfl rfl ?_
        refine at_iload_n C dL_law_499 rfl rfl ?_
        refine at_iconst C dL_law_500 ic_2 ?_
        refine at_iadd C dL_law_501 ?_
        refine at_sld C hX hbl hbA h_2 dL_law_502 ?_
        refine at_aload_n C dL_law_503 rfl rfl ?_
        refine at_iload_n C dL_law_504 rfl rfl ?_
        refine at_iconst C dL_law_505 ic_3 ?_
        refine at_iadd C dL_law_506 ?_
        refine at_sld C hX hbl hbA h_3 dL_law_507 ?_
        refine at_aload_n C dL_law_508 rfl rfl ?_
        refine at_iload_n C dL_law_509 rfl rfl ?_
        refine at_iconst C dL_law_510 ic_4 ?_
        refine at_iadd C dL_law_511 ?_
        refine at_sld C hX hbl hbA h_4 dL_law_512 ?_
        have hw := H14 wX wM (xs ((x3 + 1)).toNatClampNeg) (xs ((x3 + 2)).toNatClampNeg) (xs ((x3 + 3)).toNatClampNeg) (xs ((x3 + 4)).toNatClampNeg) hR
        refine at_preGi (run_V (rest := []) (As := [.int (xs ((x3 + 1)).toNatClampNeg), .int (xs ((x3 + 2)).toNatClampNeg), .int (xs ((x3 + 3)).toNatClampNeg), .int (xs ((x3 + 4)).toNatClampNeg)]) C (metX0_wouldFall l D dA adX hw) (lw_V q608 q609 q610 q56 q611) dsX0_wouldFall ⟨(Nat.le_of_ble_eq_true rfl), (Nat.le_of_ble_eq_true rfl)⟩ ⟨rfl, rfl⟩ ⟨hk1, hk2⟩ (k := 0) (ci := 0) (Nat.le_of_ble_eq_true rfl) rfl rfl rfl rfl (Nat.le_of_ble_eq_true rfl) dL_law_513) (fun r wX2 hw => ?_)
        refine at_aload_n C dL_law_516 rfl rfl ?_
        refine at_aload_n C dL_law_517 rfl rfl ?_
        refine at_iload_n C dL_law_518 rfl rfl ?_
        refine at_iconst C dL_law_519 ic_1 ?_
        refine at_iadd C dL_law_520 ?_
        refine at_sld C hX hbl hbA h_1 dL_law_521 ?_
        refine at_aload_n C dL_law_522 rfl rfl ?_
        refine at_iload_n C dL_law_523 rfl rfl ?_
        refine at_iconst C dL_law_524 ic_2 ?_
        refine at_iadd C dL_law_525 ?_
        refine at_sld C hX hbl hbA h_2 dL_law_526 ?_
        refine at_aload_n C dL_law_527 rfl rfl ?_
        refine at_iload_n C dL_law_528 rfl rfl ?_
        refine at_iconst C dL_law_529 ic_3 ?_
        refine at_iadd C dL_law_530 ?_
        refine at_sld C hX hbl hbA h_3 dL_law_531 ?_
        refine at_aload_n C dL_law_532 rfl rfl ?_
        refine at_iload_n C dL_law_533 rfl rfl ?_
        refine at_iconst C dL_law_534 ic_4 ?_
        refine at_iadd C dL_law_535 ?_
        refine at_sld C hX hbl hbA h_4 dL_law_536 ?_
        refine at_sufGi (run_V (rest := [.int r]) (As := [.int (xs ((x3 + 1)).toNatClampNeg), .int (xs ((x3 + 2)).toNatClampNeg), .int (xs ((x3 + 3)).toNatClampNeg), .int (xs ((x3 + 4)).toNatClampNeg)]) C (metX7_wouldFall l D dA adM hw) (lw_V q1001 q1002 q1003 q65 q1004) dsX7_wouldFall ⟨(Nat.le_of_ble_eq_true rfl), (Nat.le_of_ble_eq_true rfl)⟩ ⟨rfl, rfl⟩ ⟨hk1, hk2⟩ (k := 0) (ci := 7) (Nat.le_of_ble_eq_true rfl) rfl rfl rfl rfl (Nat.le_of_ble_eq_true rfl) dL_law_537) (fun r2 wM2 hw => ?_)
        refine at_icmp_eq (tgt := 910) C dL_law_540 (by decide) (fun _ => ?_) (fun h => absurd hw.1 h)
        exact hnext adX wX2 wM2 hw.2
      by_cases c_15 : v = 15
      · refine at_tin (tgt := 545) (v := 15) C dL_law_32 c_15 (by decide) (by decide) rfl (by decide) ?_
        refine at_aload_n C dL_law_545 rfl rfl ?_
        refine at_aload_n C dL_law_546 rfl rfl ?_
        refine at_iload_n C dL_law_547 rfl rfl ?_
        refine at_iconst C dL_law_548 ic_1 ?_
        refine at_iadd C dL_law_549 ?_
        refine at_sld C hX hbl hbA h_1 dL_law_550 ?_
        refine at_aload_n C dL_law_551 rfl rfl ?_
        refine at_iload_n C dL_law_552 rfl rfl ?_
        refine at_iconst C dL_law_553 ic_2 ?_
        refine at_iadd C dL_law_554 ?_
        refine at_sld C hX hbl hbA h_2 dL_law_555 ?_
        have hw := H15 wX wM (xs ((x3 + 1)).toNatClampNeg) (xs ((x3 + 2)).toNatClampNeg) hR
        refine at_preGi (run_V (rest := []) (As := [.int (xs ((x3 + 1)).toNatClampNeg), .int (xs ((x3 + 2)).toNatClampNeg)]) C (metX0_balls l D dA adX hw) (lw_V q613 q614 q615 q56 q616) dsX0_balls ⟨(Nat.le_of_ble_eq_true rfl), (Nat.le_of_ble_eq_true rfl)⟩ ⟨rfl, rfl⟩ ⟨hk1, hk2⟩ (k := 0) (ci := 0) (Nat.le_of_ble_eq_true rfl) rfl rfl rfl rfl (Nat.le_of_ble_eq_true rfl) dL_law_556) (fun r wX2 hw => ?_)
        refine at_aload_n C dL_law_559 rfl rfl ?_
        refine at_aload_n C dL_law_560 rfl rfl ?_
        refine at_iload_n C dL_law_561 rfl rfl ?_
        refine at_iconst C dL_law_562 ic_1 ?_
        refine at_iadd C dL_law_563 ?_
        refine at_sld C hX hbl hbA h_1 dL_law_564 ?_
        refine at_aload_n C dL_law_565 rfl rfl ?_
        refine at_iload_n C dL_law_566 rfl rfl ?_
        refine at_iconst C dL_law_567 ic_2 ?_
        refine at_iadd C dL_law_568 ?_
        refine at_sld C hX hbl hbA h_2 dL_law_569 ?_
        refine at_sufGi (run_V (rest := [.int r]) (As := [.int (xs ((x3 + 1)).toNatClampNeg), .int (xs ((x3 + 2)).toNatClampNeg)]) C (metX7_balls l D dA adM hw) (lw_V q1005 q1006 q1007 q65 q1008) dsX7_balls ⟨(Nat.le_of_ble_eq_true rfl), (Nat.le_of_ble_eq_true rfl)⟩ ⟨rfl, rfl⟩ ⟨hk1, hk2⟩ (k := 0) (ci := 7) (Nat.le_of_ble_eq_true rfl) rfl rfl rfl rfl (Nat.le_of_ble_eq_true rfl) dL_law_570) (fun r2 wM2 hw => ?_)
        refine at_icmp_eq (tgt := 910) C dL_law_573 (by decide) (fun _ => ?_) (fun h => absurd hw.1 h)
        exact hnext adX wX2 wM2 hw.2
      by_cases c_16 : v = 16
      · refine at_tin (tgt := 578) (v := 16) C dL_law_32 c_16 (by decide) (by decide) rfl (by decide) ?_
        refine at_aload_n C dL_law_578 rfl rfl ?_
        refine at_aload_n C dL_law_579 rfl rfl ?_
        refine at_iload_n C dL_law_580 rfl rfl ?_
        refine at_iconst C dL_law_581 ic_1 ?_
        refine at_iadd C dL_law_582 ?_
        refine at_sld C hX hbl hbA h_1 dL_law_583 ?_
        refine at_aload_n C dL_law_584 rfl rfl ?_
        refine at_iload_n C dL_law_585 rfl rfl ?_
        refine at_iconst C dL_law_586 ic_2 ?_
        refine at_iadd C dL_law_587 ?_
        refine at_sld C hX hbl hbA h_2 dL_law_588 ?_
        have hw := H16 wX wM (xs ((x3 + 1)).toNatClampNeg) (xs ((x3 + 2)).toNatClampNeg) hR
        refine at_preGi (run_V (rest := []) (As := [.int (xs ((x3 + 1)).toNatClampNeg), .int (xs ((x3 + 2)).toNatClampNeg)]) C (metX0_spare l D dA adX hw) (lw_V q621 q622 q623 q56 q624) dsX0_spare ⟨(Nat.le_of_ble_eq_true rfl), (Nat.le_of_ble_eq_true rfl)⟩ ⟨rfl, rfl⟩ ⟨hk1, hk2⟩ (k := 0) (ci := 0) (Nat.le_of_ble_eq_true rfl) rfl rfl rfl rfl (Nat.le_of_ble_eq_true rfl) dL_law_589) (fun r wX2 hw => ?_)
        refine at_aload_n C dL_law_592 rfl rfl ?_
        refine at_aload_n C dL_law_593 rfl rfl ?_
        refine at_iload_n C dL_law_594 rfl rfl ?_
        refine at_iconst C dL_law_595 ic_1 ?_
        refine at_iadd C dL_law_596 ?_
        refine at_sld C hX hbl hbA h_1 dL_law_597 ?_
        refine at_aload_n C dL_law_598 rfl rfl ?_
        refine at_iload_n C dL_law_599 rfl rfl ?_
        refine at_iconst C dL_law_600 ic_2 ?_
        refine at_iadd C dL_law_601 ?_
        refine at_sld C hX hbl hbA h_2 dL_law_602 ?_
        refine at_sufGi (run_V (rest := [.int r]) (As := [.int (xs ((x3 + 1)).toNatClampNeg), .int (xs ((x3 + 2)).toNatClampNeg)]) C (metX7_spare l D dA adM hw) (lw_V q1013 q1014 q1015 q65 q1016) dsX7_spare ⟨(Nat.le_of_ble_eq_true rfl), (Nat.le_of_ble_eq_true rfl)⟩ ⟨rfl, rfl⟩ ⟨hk1, hk2⟩ (k := 0) (ci := 7) (Nat.le_of_ble_eq_true rfl) rfl rfl rfl rfl (Nat.le_of_ble_eq_true rfl) dL_law_603) (fun r2 wM2 hw => ?_)
        refine at_icmp_eq (tgt := 910) C dL_law_606 (by decide) (fun _ => ?_) (fun h => absurd hw.1 h)
        exact hnext adX wX2 wM2 hw.2
      by_cases c_17 : v = 17
      · refine at_tin (tgt := 611) (v := 17) C dL_law_32 c_17 (by decide) (by decide) rfl (by decide) ?_
        refine at_aload_n C dL_law_611 rfl rfl ?_
        refine at_aload_n C dL_law_612 rfl rfl ?_
        refine at_iload_n C dL_law_613 rfl rfl ?_
        refine at_iconst C dL_law_614 ic_1 ?_
        refine at_iadd C dL_law_615 ?_
        refine at_sld C hX hbl hbA h_1 dL_law_616 ?_
        have hw := H17 wX wM (xs ((x3 + 1)).toNatClampNeg) hR
        refine at_preGi (run_V (rest := []) (As := [.int (xs ((x3 + 1)).toNatClampNeg)]) C (metX0_allDown l D dA adX hw) (lw_V q625 q626 q627 q56 q628) dsX0_allDown ⟨(Nat.le_of_ble_eq_true rfl), (Nat.le_of_ble_eq_true rfl)⟩ ⟨rfl, rfl⟩ ⟨hk1, hk2⟩ (k := 0) (ci := 0) (Nat.le_of_ble_eq_true rfl) rfl rfl rfl rfl (Nat.le_of_ble_eq_true rfl) dL_law_617) (fun r wX2 hw => ?_)
        refine at_aload_n C dL_law_620 rfl rfl ?_
        refine at_aload_n C dL_law_621 rfl rfl ?_
        refine at_iload_n C dL_law_622 rfl rfl ?_
        refine at_iconst C dL_law_623 ic_1 ?_
        refine at_iadd C dL_law_624 ?_
        refine at_sld C hX hbl hbA h_1 dL_law_625 ?_
        refine at_sufGi (run_V (rest := [.int r]) (As := [.int (xs ((x3 + 1)).toNatClampNeg)]) C (metX7_allDown l D dA adM hw) (lw_V q1017 q1018 q1019 q65 q1020) dsX7_allDown ⟨(Nat.le_of_ble_eq_true rfl), (Nat.le_of_ble_eq_true rfl)⟩ ⟨rfl, rfl⟩ ⟨hk1, hk2⟩ (k := 0) (ci := 7) (Nat.le_of_ble_eq_true rfl) rfl rfl rfl rfl (Nat.le_of_ble_eq_true rfl) dL_law_626) (fun r2 wM2 hw => ?_)
        refine at_icmp_eq (tgt := 910) C dL_law_629 (by decide) (fun _ => ?_) (fun h => absurd hw.1 h)
        exact hnext adX wX2 wM2 hw.2
      by_cases c_18 : v = 18
      · refine at_tin (tgt := 634) (v := 18) C dL_law_32 c_18 (by decide) (by decide) rfl (by decide) ?_
        refine at_aload_n C dL_law_634 rfl rfl ?_
        refine at_aload_n C dL_law_635 rfl rfl ?_
        refine at_iload_n C dL_law_636 rfl rfl ?_
        refine at_iconst C dL_law_637 ic_1 ?_
        refine at_iadd C dL_law_638 ?_
        refine at_sld C hX hbl hbA h_1 dL_law_639 ?_
        refine at_aload_n C dL_law_640 rfl rfl ?_
        refine at_iload_n C dL_law_641 rfl rfl ?_
        refine at_iconst C dL_law_642 ic_2 ?_
        refine at_iadd C dL_law_643 ?_
        refine at_sld C hX hbl hbA h_2 dL_law_644 ?_
        refine at_aload_n C dL_law_645 rfl rfl ?_
        refine at_iload_n C dL_law_646 rfl rfl ?_
        refine at_iconst C dL_law_647 ic_3 ?_
        refine at_iadd C dL_law_648 ?_
        refine at_sld C hX hbl hbA h_3 dL_law_649 ?_
        refine at_aload_n C dL_law_650 rfl rfl ?_
        refine at_iload_n C dL_law_651 rfl rfl ?_
        refine at_iconst C dL_law_652 ic_4 ?_
        refine at_iadd C dL_law_653 ?_
        refine at_sld C hX hbl hbA h_4 dL_law_654 ?_
        have hw := H18 wX wM (xs ((x3 + 1)).toNatClampNeg) (xs ((x3 + 2)).toNatClampNeg) (xs ((x3 + 3)).toNatClampNeg) (xs ((x3 + 4)).toNatClampNeg) hR
        refine at_preGi (run_V (rest := []) (As := [.int (xs ((x3 + 1)).toNatClampNeg), .int (xs ((x3 + 2)).toNatClampNeg), .int (xs ((x3 + 3)).toNatClampNeg), .int (xs ((x3 + 4)).toNatClampNeg)]) C (metX0_mend l D dA adX hw) (lw_V q638 q639 q640 q56 q641) dsX0_mend ⟨(Nat.le_of_ble_eq_true rfl), (Nat.le_of_ble_eq_true rfl)⟩ ⟨rfl, rfl⟩ ⟨hk1, hk2⟩ (k := 0) (ci := 0) (Nat.le_of_ble_eq_true rfl) rfl rfl rfl rfl (Nat.le_of_ble_eq_true rfl) dL_law_655) (fun r wX2 hw => ?_)
        refine at_aload_n C dL_law_658 rfl rfl ?_
        refine at_aload_n C dL_law_659 rfl rfl ?_
        refine at_iload_n C dL_law_660 rfl rfl ?_
        refine at_iconst C dL_law_661 ic_1 ?_
        refine at_iadd C dL_law_662 ?_
        refine at_sld C hX hbl hbA h_1 dL_law_663 ?_
        refine at_aload_n C dL_law_664 rfl rfl ?_
        refine at_iload_n C dL_law_665 rfl rfl ?_
        refine at_iconst C dL_law_666 ic_2 ?_
        refine at_iadd C dL_law_667 ?_
        refine at_sld C hX hbl hbA h_2 dL_law_668 ?_
        refine at_aload_n C dL_law_669 rfl rfl ?_
        refine at_iload_n C dL_law_670 rfl rfl ?_
        refine at_iconst C dL_law_671 ic_3 ?_
        refine at_iadd C dL_law_672 ?_
        refine at_sld C hX hbl hbA h_3 dL_law_673 ?_
        refine at_aload_n C dL_law_674 rfl rfl ?_
        refine at_iload_n C dL_law_675 rfl rfl ?_
        refine at_iconst C dL_law_676 ic_4 ?_
        refine at_iadd C dL_law_677 ?_
        refine at_sld C hX hbl hbA h_4 dL_law_678 ?_
        refine at_sufGi (run_V (rest := [.int r]) (As := [.int (xs ((x3 + 1)).toNatClampNeg), .int (xs ((x3 + 2)).toNatClampNeg), .int (xs ((x3 + 3)).toNatClampNeg), .int (xs ((x3 + 4)).toNatClampNeg)]) C (metX7_mend l D dA adM hw) (lw_V q1021 q1022 q1023 q65 q1024) dsX7_mend ⟨(Nat.le_of_ble_eq_true rfl), (Nat.le_of_ble_eq_true rfl)⟩ ⟨rfl, rfl⟩ ⟨hk1, hk2⟩ (k := 0) (ci := 7) (Nat.le_of_ble_eq_true rfl) rfl rfl rfl rfl (Nat.le_of_ble_eq_true rfl) dL_law_679) (fun r2 wM2 hw => ?_)
        refine at_icmp_eq (tgt := 910) C dL_law_682 (by decide) (fun _ => ?_) (fun h => absurd hw.1 h)
        exact hnext adX wX2 wM2 hw.2
      by_cases c_19 : v = 19
      · refine at_tin (tgt := 687) (v := 19) C dL_law_32 c_19 (by decide) (by decide) rfl (by decide) ?_
        refine at_aload_n C dL_law_687 rfl rfl ?_
        refine at_aload_n C dL_law_688 rfl rfl ?_
        refine at_iload_n C dL_law_689 rfl rfl ?_
        refine at_iconst C dL_law_690 ic_1 ?_
        refine at_iadd C dL_law_691 ?_
        refine at_sld C hX hbl hbA h_1 dL_law_692 ?_
        have hw := H19 wX wM (xs ((x3 + 1)).toNatClampNeg) hR
        refine at_preGi (run_V (rest := []) (As := [.int (xs ((x3 + 1)).toNatClampNeg)]) C (metX0_hand l D dA adX hw) (lw_V q642 q643 q644 q56 q645) dsX0_hand ⟨(Nat.le_of_ble_eq_true rfl), (Nat.le_of_ble_eq_true rfl)⟩ ⟨rfl, rfl⟩ ⟨hk1, hk2⟩ (k := 0) (ci := 0) (Nat.le_of_ble_eq_true rfl) rfl rfl rfl rfl (Nat.le_of_ble_eq_true rfl) dL_law_693) (fun r wX2 hw => ?_)
        refine at_aload_n C dL_law_696 rfl rfl ?_
        refine at_aload_n C dL_law_697 rfl rfl ?_
        refine at_iload_n C dL_law_698 rfl rfl ?_
        refine at_iconst C dL_law_699 ic_1 ?_
        refine at_iadd C dL_law_700 ?_
        refine at_sld C hX hbl hbA h_1 dL_law_701 ?_
        refine at_sufGi (run_V (rest := [.int r]) (As := [.int (xs ((x3 + 1)).toNatClampNeg)]) C (metX7_hand l D dA adM hw) (lw_V q1025 q1026 q1027 q65 q1028) dsX7_hand ⟨(Nat.le_of_ble_eq_true rfl), (Nat.le_of_ble_eq_true rfl)⟩ ⟨rfl, rfl⟩ ⟨hk1, hk2⟩ (k := 0) (ci := 7) (Nat.le_of_ble_eq_true rfl) rfl rfl rfl rfl (Nat.le_of_ble_eq_true rfl) dL_law_702) (fun r2 wM2 hw => ?_)
        refine at_icmp_eq (tgt := 910) C dL_law_705 (by decide) (fun _ => ?_) (fun h => absurd hw.1 h)
        exact hnext adX wX2 wM2 hw.2
      by_cases c_20 : v = 20
      · refine at_tin (tgt := 710) (v := 20) C dL_law_32 c_20 (by decide) (by decide) rfl (by decide) ?_
        refine at_aload_n C dL_law_710 rfl rfl ?_
        refine at_aload_n C dL_law_711 rfl rfl ?_
        refine at_iload_n C dL_law_712 rfl rfl ?_
        refine at_iconst C dL_law_713 ic_1 ?_
        refine at_iadd C dL_law_714 ?_
        refine at_sld C hX hbl hbA h_1 dL_law_715 ?_
        have hw := H20 wX wM (xs ((x3 + 1)).toNatClampNeg) hR
        refine at_preGi (run_V (rest := []) (As := [.int (xs ((x3 + 1)).toNatClampNeg)]) C (metX0_ask l D dA adX hw) (lw_V q646 q647 q648 q56 q649) dsX0_ask ⟨(Nat.le_of_ble_eq_true rfl), (Nat.le_of_ble_eq_true rfl)⟩ ⟨rfl, rfl⟩ ⟨hk1, hk2⟩ (k := 0) (ci := 0) (Nat.le_of_ble_eq_true rfl) rfl rfl rfl rfl (Nat.le_of_ble_eq_true rfl) dL_law_716) (fun r wX2 hw => ?_)
        refine at_aload_n C dL_law_719 rfl rfl ?_
        refine at_aload_n C dL_law_720 rfl rfl ?_
        refine at_iload_n C dL_law_721 rfl rfl ?_
        refine at_iconst C dL_law_722 ic_1 ?_
        refine at_iadd C dL_law_723 ?_
        refine at_sld C hX hbl hbA h_1 dL_law_724 ?_
        refine at_sufGi (run_V (rest := [.int r]) (As := [.int (xs ((x3 + 1)).toNatClampNeg)]) C (metX7_ask l D dA adM hw) (lw_V q1029 q1030 q1031 q65 q1032) dsX7_ask ⟨(Nat.le_of_ble_eq_true rfl), (Nat.le_of_ble_eq_true rfl)⟩ ⟨rfl, rfl⟩ ⟨hk1, hk2⟩ (k := 0) (ci := 7) (Nat.le_of_ble_eq_true rfl) rfl rfl rfl rfl (Nat.le_of_ble_eq_true rfl) dL_law_725) (fun r2 wM2 hw => ?_)
        refine at_icmp_eq (tgt := 910) C dL_law_728 (by decide) (fun _ => ?_) (fun h => absurd hw.1 h)
        exact hnext adX wX2 wM2 hw.2
      by_cases c_21 : v = 21
      · refine at_tin (tgt := 733) (v := 21) C dL_law_32 c_21 (by decide) (by decide) rfl (by decide) ?_
        refine at_aload_n C dL_law_733 rfl rfl ?_
        refine at_aload_n C dL_law_734 rfl rfl ?_
        refine at_iload_n C dL_law_735 rfl rfl ?_
        refine at_iconst C dL_law_736 ic_1 ?_
        refine at_iadd C dL_law_737 ?_
        refine at_sld C hX hbl hbA h_1 dL_law_738 ?_
        refine at_aload_n C dL_law_739 rfl rfl ?_
        refine at_iload_n C dL_law_740 rfl rfl ?_
        refine at_iconst C dL_law_741 ic_2 ?_
        refine at_iadd C dL_law_742 ?_
        refine at_sld C hX hbl hbA h_2 dL_law_743 ?_
        have hw := H21 wX wM (xs ((x3 + 1)).toNatClampNeg) (xs ((x3 + 2)).toNatClampNeg) hR
        refine at_preGp (run_V (rest := []) (As := [.int (xs ((x3 + 1)).toNatClampNeg), .int (xs ((x3 + 2)).toNatClampNeg)]) C (metX0_calm l D dA adX hw) (lw_V q651 q652 q653 q56 q654) dsX0_calm ⟨(Nat.le_of_ble_eq_true rfl), (Nat.le_of_ble_eq_true rfl)⟩ ⟨rfl, rfl⟩ ⟨hk1, hk2⟩ (k := 0) (ci := 0) (Nat.le_of_ble_eq_true rfl) rfl rfl rfl rfl (Nat.le_of_ble_eq_true rfl) dL_law_744) (fun r hw => ?_)
        refine at_aload_n C dL_law_747 rfl rfl ?_
        refine at_aload_n C dL_law_748 rfl rfl ?_
        refine at_iload_n C dL_law_749 rfl rfl ?_
        refine at_iconst C dL_law_750 ic_1 ?_
        refine at_iadd C dL_law_751 ?_
        refine at_sld C hX hbl hbA h_1 dL_law_752 ?_
        refine at_aload_n C dL_law_753 rfl rfl ?_
        refine at_iload_n C dL_law_754 rfl rfl ?_
        refine at_iconst C dL_law_755 ic_2 ?_
        refine at_iadd C dL_law_756 ?_
        refine at_sld C hX hbl hbA h_2 dL_law_757 ?_
        refine at_sufGi (run_V (rest := [.int r]) (As := [.int (xs ((x3 + 1)).toNatClampNeg), .int (xs ((x3 + 2)).toNatClampNeg)]) C (metX7_calm l D dA adM hw) (lw_V q1033 q1034 q1035 q65 q1036) dsX7_calm ⟨(Nat.le_of_ble_eq_true rfl), (Nat.le_of_ble_eq_true rfl)⟩ ⟨rfl, rfl⟩ ⟨hk1, hk2⟩ (k := 0) (ci := 7) (Nat.le_of_ble_eq_true rfl) rfl rfl rfl rfl (Nat.le_of_ble_eq_true rfl) dL_law_758) (fun r2 wM2 hw => ?_)
        refine at_icmp_eq (tgt := 910) C dL_law_761 (by decide) (fun _ => ?_) (fun h => absurd hw.1 h)
        exact hnext adX wX wM2 hw.2
      by_cases c_22 : v = 22
      · refine at_tin (tgt := 766) (v := 22) C dL_law_32 c_22 (by decide) (by decide) rfl (by decide) ?_
        refine at_aload_n C dL_law_766 rfl rfl ?_
        refine at_aload_n C dL_law_767 rfl rfl ?_
        refine at_iload_n C dL_law_768 rfl rfl ?_
        refine at_iconst C dL_law_769 ic_1 ?_
        refine at_iadd C dL_law_770 ?_
        refine at_sld C hX hbl hbA h_1 dL_law_771 ?_
        refine at_aload_n C dL_law_772 rfl rfl ?_
        refine at_iload_n C dL_law_773 rfl rfl ?_
        refine at_iconst C dL_law_774 ic_2 ?_
        refine at_iadd C dL_law_775 ?_
        refine at_sld C hX hbl hbA h_2 dL_law_776 ?_
        refine at_if_eq (tgt := 784) C dL_law_777 (by decide) (fun hz => ?_) (fun hz => ?_)
        · skip
          refine at_iconst C dL_law_784 ic_0 ?_
          have hw := H22 wX wM (xs ((x3 + 1)).toNatClampNeg) 0 gBool_0 hR
          refine at_preGi (run_V (rest := []) (As := [.int (xs ((x3 + 1)).toNatClampNeg), .int 0]) C (metX0_write l D dA adX hw) (lw_V q657 q658 q659 q56 q660) dsX0_write ⟨(Nat.le_of_ble_eq_true rfl), (Nat.le_of_ble_eq_true rfl)⟩ ⟨rfl, rfl⟩ ⟨hk1, hk2⟩ (k := 0) (ci := 0) (Nat.le_of_ble_eq_true rfl) rfl rfl rfl rfl (Nat.le_of_ble_eq_true rfl) dL_law_785) (fun r wX2 hw => ?_)
          refine at_aload_n C dL_law_788 rfl rfl ?_
          refine at_aload_n C dL_law_789 rfl rfl ?_
          refine at_iload_n C dL_law_790 rfl rfl ?_
          refine at_iconst C dL_law_791 ic_1 ?_
          refine at_iadd C dL_law_792 ?_
          refine at_sld C hX hbl hbA h_1 dL_law_793 ?_
          refine at_aload_n C dL_law_794 rfl rfl ?_
          refine at_iload_n C dL_law_795 rfl rfl ?_
          refine at_iconst C dL_law_796 ic_2 ?_
          refine at_iadd C dL_law_797 ?_
          refine at_sld C hX hbl hbA h_2 dL_law_798 ?_
          refine at_if_eq (tgt := 806) C dL_law_799 (by decide) (fun hz2 => ?_) (fun hz2 => ?_)
          · skip
            refine at_iconst C dL_law_806 ic_0 ?_
            refine at_sufGi (run_V (rest := [.int r]) (As := [.int (xs ((x3 + 1)).toNatClampNeg), .int 0]) C (metX7_write l D dA adM hw) (lw_V q1039 q1040 q1041 q65 q1042) dsX7_write ⟨(Nat.le_of_ble_eq_true rfl), (Nat.le_of_ble_eq_true rfl)⟩ ⟨rfl, rfl⟩ ⟨hk1, hk2⟩ (k := 0) (ci := 7) (Nat.le_of_ble_eq_true rfl) rfl rfl rfl rfl (Nat.le_of_ble_eq_true rfl) dL_law_807) (fun r2 wM2 hw => ?_)
            refine at_icmp_eq (tgt := 910) C dL_law_810 (by decide) (fun _ => ?_) (fun h => absurd hw.1 h)
            exact hnext adX wX2 wM2 hw.2
          · skip
            exact absurd hz hz2
        · skip
          refine at_iconst C dL_law_780 ic_1 ?_
          refine at_goto (tgt := 785) C dL_law_781 (by decide) ?_
          have hw := H22 wX wM (xs ((x3 + 1)).toNatClampNeg) 1 gBool_1 hR
          refine at_preGi (run_V (rest := []) (As := [.int (xs ((x3 + 1)).toNatClampNeg), .int 1]) C (metX0_write l D dA adX hw) (lw_V q657 q658 q659 q56 q660) dsX0_write ⟨(Nat.le_of_ble_eq_true rfl), (Nat.le_of_ble_eq_true rfl)⟩ ⟨rfl, rfl⟩ ⟨hk1, hk2⟩ (k := 0) (ci := 0) (Nat.le_of_ble_eq_true rfl) rfl rfl rfl rfl (Nat.le_of_ble_eq_true rfl) dL_law_785) (fun r wX2 hw => ?_)
          refine at_aload_n C dL_law_788 rfl rfl ?_
          refine at_aload_n C dL_law_789 rfl rfl ?_
          refine at_iload_n C dL_law_790 rfl rfl ?_
          refine at_iconst C dL_law_791 ic_1 ?_
          refine at_iadd C dL_law_792 ?_
          refine at_sld C hX hbl hbA h_1 dL_law_793 ?_
          refine at_aload_n C dL_law_794 rfl rfl ?_
          refine at_iload_n C dL_law_795 rfl rfl ?_
          refine at_iconst C dL_law_796 ic_2 ?_
          refine at_iadd C dL_law_797 ?_
          refine at_sld C hX hbl hbA h_2 dL_law_798 ?_
          refine at_if_eq (tgt := 806) C dL_law_799 (by decide) (fun hz2 => ?_) (fun hz2 => ?_)
          · skip
            exact absurd hz2 hz
          · skip
            refine at_iconst C dL_law_802 ic_1 ?_
            refine at_goto (tgt := 807) C dL_law_803 (by decide) ?_
            refine at_sufGi (run_V (rest := [.int r]) (As := [.int (xs ((x3 + 1)).toNatClampNeg), .int 1]) C (metX7_write l D dA adM hw) (lw_V q1039 q1040 q1041 q65 q1042) dsX7_write ⟨(Nat.le_of_ble_eq_true rfl), (Nat.le_of_ble_eq_true rfl)⟩ ⟨rfl, rfl⟩ ⟨hk1, hk2⟩ (k := 0) (ci := 7) (Nat.le_of_ble_eq_true rfl) rfl rfl rfl rfl (Nat.le_of_ble_eq_true rfl) dL_law_807) (fun r2 wM2 hw => ?_)
            refine at_icmp_eq (tgt := 910) C dL_law_810 (by decide) (fun _ => ?_) (fun h => absurd hw.1 h)
            exact hnext adX wX2 wM2 hw.2
      by_cases c_23 : v = 23
      · refine at_tin (tgt := 815) (v := 23) C dL_law_32 c_23 (by decide) (by decide) rfl (by decide) ?_
        refine at_aload_n C dL_law_815 rfl rfl ?_
        have hw := H23 wX wM  hR
        refine at_preGi (run_V (rest := []) (As := []) C (metX0_tear l D dA adX hw) (lw_V q661 q662 q663 q56 q664) dsX0_tear ⟨(Nat.le_of_ble_eq_true rfl), (Nat.le_of_ble_eq_true rfl)⟩ ⟨rfl, rfl⟩ ⟨hk1, hk2⟩ (k := 0) (ci := 0) (Nat.le_of_ble_eq_true rfl) rfl rfl rfl rfl (Nat.le_of_ble_eq_true rfl) dL_law_816) (fun r wX2 hw => ?_)
        refine at_aload_n C dL_law_819 rfl rfl ?_
        refine at_sufGi (run_V (rest := [.int r]) (As := []) C (metX7_tear l D dA adM hw) (lw_V q1043 q1044 q1045 q65 q1046) dsX7_tear ⟨(Nat.le_of_ble_eq_true rfl), (Nat.le_of_ble_eq_true rfl)⟩ ⟨rfl, rfl⟩ ⟨hk1, hk2⟩ (k := 0) (ci := 7) (Nat.le_of_ble_eq_true rfl) rfl rfl rfl rfl (Nat.le_of_ble_eq_true rfl) dL_law_820) (fun r2 wM2 hw => ?_)
        refine at_icmp_eq (tgt := 910) C dL_law_823 (by decide) (fun _ => ?_) (fun h => absurd hw.1 h)
        exact hnext adX wX2 wM2 hw.2
      by_cases c_24 : v = 24
      · refine at_tin (tgt := 828) (v := 24) C dL_law_32 c_24 (by decide) (by decide) rfl (by decide) ?_
        refine at_aload_n C dL_law_828 rfl rfl ?_
        have hw := H24 wX wM  hR
        refine at_preGp (run_V (rest := []) (As := []) C (metX0_judge l D dA adX hw) (lw_V q665 q666 q667 q56 q668) dsX0_judge ⟨(Nat.le_of_ble_eq_true rfl), (Nat.le_of_ble_eq_true rfl)⟩ ⟨rfl, rfl⟩ ⟨hk1, hk2⟩ (k := 0) (ci := 0) (Nat.le_of_ble_eq_true rfl) rfl rfl rfl rfl (Nat.le_of_ble_eq_true rfl) dL_law_829) (fun r hw => ?_)
        refine at_aload_n C dL_law_832 rfl rfl ?_
        refine at_sufGi (run_V (rest := [.int r]) (As := []) C (metX7_judge l D dA adM hw) (lw_V q1047 q1048 q1049 q65 q1050) dsX7_judge ⟨(Nat.le_of_ble_eq_true rfl), (Nat.le_of_ble_eq_true rfl)⟩ ⟨rfl, rfl⟩ ⟨hk1, hk2⟩ (k := 0) (ci := 7) (Nat.le_of_ble_eq_true rfl) rfl rfl rfl rfl (Nat.le_of_ble_eq_true rfl) dL_law_833) (fun r2 wM2 hw => ?_)
        refine at_icmp_eq (tgt := 910) C dL_law_836 (by decide) (fun _ => ?_) (fun h => absurd hw.1 h)
        exact hnext adX wX wM2 hw.2
      by_cases c_25 : v = 25
      · refine at_tin (tgt := 841) (v := 25) C dL_law_32 c_25 (by decide) (by decide) rfl (by decide) ?_
        refine at_aload_n C dL_law_841 rfl rfl ?_
        refine at_aload_n C dL_law_842 rfl rfl ?_
        refine at_iload_n C dL_law_843 rfl rfl ?_
        refine at_iconst C dL_law_844 ic_1 ?_
        refine at_iadd C dL_law_845 ?_
        refine at_sld C hX hbl hbA h_1 dL_law_846 ?_
        have hw := H25 wX wM (xs ((x3 + 1)).toNatClampNeg) hR
        refine at_preGi (run_V (rest := []) (As := [.int (xs ((x3 + 1)).toNatClampNeg)]) C (metX0_seed l D dA adX hw) (lw_V q669 q670 q671 q56 q672) dsX0_seed ⟨(Nat.le_of_ble_eq_true rfl), (Nat.le_of_ble_eq_true rfl)⟩ ⟨rfl, rfl⟩ ⟨hk1, hk2⟩ (k := 0) (ci := 0) (Nat.le_of_ble_eq_true rfl) rfl rfl rfl rfl (Nat.le_of_ble_eq_true rfl) dL_law_847) (fun r wX2 hw => ?_)
        refine at_aload_n C dL_law_850 rfl rfl ?_
        refine at_aload_n C dL_law_851 rfl rfl ?_
        refine at_iload_n C dL_law_852 rfl rfl ?_
        refine at_iconst C dL_law_853 ic_1 ?_
        refine at_iadd C dL_law_854 ?_
        refine at_sld C hX hbl hbA h_1 dL_law_855 ?_
        refine at_sufGi (run_V (rest := [.int r]) (As := [.int (xs ((x3 + 1)).toNatClampNeg)]) C (metX7_seed l D dA adM hw) (lw_V q1051 q1052 q1053 q65 q1054) dsX7_seed ⟨(Nat.le_of_ble_eq_true rfl), (Nat.le_of_ble_eq_true rfl)⟩ ⟨rfl, rfl⟩ ⟨hk1, hk2⟩ (k := 0) (ci := 7) (Nat.le_of_ble_eq_true rfl) rfl rfl rfl rfl (Nat.le_of_ble_eq_true rfl) dL_law_856) (fun r2 wM2 hw => ?_)
        refine at_icmp_eq (tgt := 910) C dL_law_859 (by decide) (fun _ => ?_) (fun h => absurd hw.1 h)
        exact hnext adX wX2 wM2 hw.2
      by_cases c_26 : v = 26
      · refine at_tin (tgt := 864) (v := 26) C dL_law_32 c_26 (by decide) (by decide) rfl (by decide) ?_
        refine at_aload_n C dL_law_864 rfl rfl ?_
        refine at_aload_n C dL_law_865 rfl rfl ?_
        refine at_iload_n C dL_law_866 rfl rfl ?_
        refine at_iconst C dL_law_867 ic_1 ?_
        refine at_iadd C dL_law_868 ?_
        refine at_sld C hX hbl hbA h_1 dL_law_869 ?_
        have hw := H26 wX wM (xs ((x3 + 1)).toNatClampNeg) hR
        refine at_preGi (run_V (rest := []) (As := [.int (xs ((x3 + 1)).toNatClampNeg)]) C (metX0_keep l D dA adX hw) (lw_V q673 q674 q675 q56 q676) dsX0_keep ⟨(Nat.le_of_ble_eq_true rfl), (Nat.le_of_ble_eq_true rfl)⟩ ⟨rfl, rfl⟩ ⟨hk1, hk2⟩ (k := 0) (ci := 0) (Nat.le_of_ble_eq_true rfl) rfl rfl rfl rfl (Nat.le_of_ble_eq_true rfl) dL_law_870) (fun r wX2 hw => ?_)
        refine at_aload_n C dL_law_873 rfl rfl ?_
        refine at_aload_n C dL_law_874 rfl rfl ?_
        refine at_iload_n C dL_law_875 rfl rfl ?_
        refine at_iconst C dL_law_876 ic_1 ?_
        refine at_iadd C dL_law_877 ?_
        refine at_sld C hX hbl hbA h_1 dL_law_878 ?_
        refine at_sufGi (run_V (rest := [.int r]) (As := [.int (xs ((x3 + 1)).toNatClampNeg)]) C (metX7_keep l D dA adM hw) (lw_V q1055 q1056 q1057 q65 q1058) dsX7_keep ⟨(Nat.le_of_ble_eq_true rfl), (Nat.le_of_ble_eq_true rfl)⟩ ⟨rfl, rfl⟩ ⟨hk1, hk2⟩ (k := 0) (ci := 7) (Nat.le_of_ble_eq_true rfl) rfl rfl rfl rfl (Nat.le_of_ble_eq_true rfl) dL_law_879) (fun r2 wM2 hw => ?_)
        refine at_icmp_eq (tgt := 910) C dL_law_882 (by decide) (fun _ => ?_) (fun h => absurd hw.1 h)
        exact hnext adX wX2 wM2 hw.2
      by_cases c_27 : v = 27
      · refine at_tin (tgt := 887) (v := 27) C dL_law_32 c_27 (by decide) (by decide) rfl (by decide) ?_
        refine at_aload_n C dL_law_887 rfl rfl ?_
        refine at_aload_n C dL_law_888 rfl rfl ?_
        refine at_iload_n C dL_law_889 rfl rfl ?_
        refine at_iconst C dL_law_890 ic_1 ?_
        refine at_iadd C dL_law_891 ?_
        refine at_sld C hX hbl hbA h_1 dL_law_892 ?_
        have hw := H27 wX wM (xs ((x3 + 1)).toNatClampNeg) hR
        refine at_preGi (run_V (rest := []) (As := [.int (xs ((x3 + 1)).toNatClampNeg)]) C (metX0_goBack l D dA adX hw) (lw_V q677 q678 q679 q56 q680) dsX0_goBack ⟨(Nat.le_of_ble_eq_true rfl), (Nat.le_of_ble_eq_true rfl)⟩ ⟨rfl, rfl⟩ ⟨hk1, hk2⟩ (k := 0) (ci := 0) (Nat.le_of_ble_eq_true rfl) rfl rfl rfl rfl (Nat.le_of_ble_eq_true rfl) dL_law_893) (fun r wX2 hw => ?_)
        refine at_aload_n C dL_law_896 rfl rfl ?_
        refine at_aload_n C dL_law_897 rfl rfl ?_
        refine at_iload_n C dL_law_898 rfl rfl ?_
        refine at_iconst C dL_law_899 ic_1 ?_
        refine at_iadd C dL_law_900 ?_
        refine at_sld C hX hbl hbA h_1 dL_law_901 ?_
        refine at_sufGi (run_V (rest := [.int r]) (As := [.int (xs ((x3 + 1)).toNatClampNeg)]) C (metX7_goBack l D dA adM hw) (lw_V q1059 q1060 q1061 q65 q1062) dsX7_goBack ⟨(Nat.le_of_ble_eq_true rfl), (Nat.le_of_ble_eq_true rfl)⟩ ⟨rfl, rfl⟩ ⟨hk1, hk2⟩ (k := 0) (ci := 7) (Nat.le_of_ble_eq_true rfl) rfl rfl rfl rfl (Nat.le_of_ble_eq_true rfl) dL_law_902) (fun r2 wM2 hw => ?_)
        refine at_icmp_eq (tgt := 910) C dL_law_905 (by decide) (fun _ => ?_) (fun h => absurd hw.1 h)
        exact hnext adX wX2 wM2 hw.2
      refine at_tout (tgt := 910) C dL_law_32 (by have h0 := lv_neT (a := 0) c_0 (by decide); have h1 := lv_neT (a := 1) c_1 (by decide); have h2 := lv_neT (a := 2) c_2 (by decide); have h3 := lv_neT (a := 3) c_3 (by decide); have h4 := lv_neT (a := 4) c_4 (by decide); have h5 := lv_neT (a := 5) c_5 (by decide); have h6 := lv_neT (a := 6) c_6 (by decide); have h7 := lv_neT (a := 7) c_7 (by decide); have h8 := lv_neT (a := 8) c_8 (by decide); have h9 := lv_neT (a := 9) c_9 (by decide); have h10 := lv_neT (a := 10) c_10 (by decide); have h11 := lv_neT (a := 11) c_11 (by decide); have h12 := lv_neT (a := 12) c_12 (by decide); have h13 := lv_neT (a := 13) c_13 (by decide); have h14 := lv_neT (a := 14) c_14 (by decide); have h15 := lv_neT (a := 15) c_15 (by decide); have h16 := lv_neT (a := 16) c_16 (by decide); have h17 := lv_neT (a := 17) c_17 (by decide); have h18 := lv_neT (a := 18) c_18 (by decide); have h19 := lv_neT (a := 19) c_19 (by decide); have h20 := lv_neT (a := 20) c_20 (by decide); have h21 := lv_neT (a := 21) c_21 (by decide); have h22 := lv_neT (a := 22) c_22 (by decide); have h23 := lv_neT (a := 23) c_23 (by decide); have h24 := lv_neT (a := 24) c_24 (by decide); have h25 := lv_neT (a := 25) c_25 (by decide); have h26 := lv_neT (a := 26) c_26 (by decide); have h27 := lv_neT (a := 27) c_27 (by decide); omega) (by decide) ?_
      exact hnext adX wX wM hR
end GLaw
