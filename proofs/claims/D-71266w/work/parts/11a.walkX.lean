/-! the walks of the system -/
set_option maxRecDepth 100000
section GWalk
variable {p : Program} {l : Launch} {e : Env} {s : State} {m : MethodId} {args : Array Value} {below : List Frame} {meth : Method} {c : Code} {D : va_G} {dA : Nat → ClassId} {ad : Nat → Nat}
set_option maxHeartbeats 4000000 in
theorem metJ4_bitCount {N : Nat} {lay : Nat → gD}  (l : Launch) (D : va_G) (dA : Nat → ClassId) (ad : Nat → Nat)    {x0 : Int32} {w : GW} {Q : Int32 → Prop} (hw : PJ4_bitCount x0 Q) : Met l yJ4_bitCount (ws_ yJ4_bitCount cJ4_bitCount 1 (some .int)) (gR 1) (va_Pc [.int x0] (gB D dA N ad lay w)) (va_Qi (gQ1 Q w) (gZ D dA N ad lay) (gA N ad)) 0 0 (gA N ad) := by
  refine gm_of (L := [(0, .int x0)]) (own := RJ4) (by decide +kernel) rfl (Nat.le_of_ble_eq_true rfl) rfl rfl (fun p e s m below meth c C => ?_)
  unfold PJ4_bitCount at hw
  refine at_iload_n C dJ4_bitCount_0 rfl rfl ?_
  refine at_iload_n C dJ4_bitCount_1 rfl rfl ?_
  refine at_iconst C dJ4_bitCount_2 ic_1 ?_
  refine at_iushr C dJ4_bitCount_3 ?_
  refine at_ldcw C q496 dJ4_bitCount_4 ?_
  refine at_iand C dJ4_bitCount_7 ?_
  refine at_isub C dJ4_bitCount_8 ?_
  refine at_topi (fun v0_1 e0_1 => ?_)
  have hw := hw v0_1 e0_1
  refine at_istore_n (L' := [(0, .int v0_1)]) C dJ4_bitCount_9 rfl (Nat.le_of_ble_eq_true rfl) rfl ?_
  refine at_iload_n C dJ4_bitCount_10 rfl rfl ?_
  refine at_ldcw C q497 dJ4_bitCount_11 ?_
  refine at_iand C dJ4_bitCount_14 ?_
  refine at_iload_n C dJ4_bitCount_15 rfl rfl ?_
  refine at_iconst C dJ4_bitCount_16 ic_2 ?_
  refine at_iushr C dJ4_bitCount_17 ?_
  refine at_ldcw C q497 dJ4_bitCount_18 ?_
  refine at_iand C dJ4_bitCount_21 ?_
  refine at_iadd C dJ4_bitCount_22 ?_
  refine at_topi (fun v0_2 e0_2 => ?_)
  have hw := hw v0_2 e0_2
  refine at_istore_n (L' := [(0, .int v0_2)]) C dJ4_bitCount_23 rfl (Nat.le_of_ble_eq_true rfl) rfl ?_
  refine at_iload_n C dJ4_bitCount_24 rfl rfl ?_
  refine at_iload_n C dJ4_bitCount_25 rfl rfl ?_
  refine at_iconst C dJ4_bitCount_26 ic_4 ?_
  refine at_iushr C dJ4_bitCount_27 ?_
  refine at_iadd C dJ4_bitCount_28 ?_
  refine at_ldcw C q498 dJ4_bitCount_29 ?_
  refine at_iand C dJ4_bitCount_32 ?_
  refine at_topi (fun v0_3 e0_3 => ?_)
  have hw := hw v0_3 e0_3
  refine at_istore_n (L' := [(0, .int v0_3)]) C dJ4_bitCount_33 rfl (Nat.le_of_ble_eq_true rfl) rfl ?_
  refine at_iload_n C dJ4_bitCount_34 rfl rfl ?_
  refine at_iload_n C dJ4_bitCount_35 rfl rfl ?_
  refine at_bipush C dJ4_bitCount_36 bp_8 ?_
  refine at_iushr C dJ4_bitCount_38 ?_
  refine at_iadd C dJ4_bitCount_39 ?_
  refine at_topi (fun v0_4 e0_4 => ?_)
  have hw := hw v0_4 e0_4
  refine at_istore_n (L' := [(0, .int v0_4)]) C dJ4_bitCount_40 rfl (Nat.le_of_ble_eq_true rfl) rfl ?_
  refine at_iload_n C dJ4_bitCount_41 rfl rfl ?_
  refine at_iload_n C dJ4_bitCount_42 rfl rfl ?_
  refine at_bipush C dJ4_bitCount_43 bp_16 ?_
  refine at_iushr C dJ4_bitCount_45 ?_
  refine at_iadd C dJ4_bitCount_46 ?_
  refine at_topi (fun v0_5 e0_5 => ?_)
  have hw := hw v0_5 e0_5
  refine at_istore_n (L' := [(0, .int v0_5)]) C dJ4_bitCount_47 rfl (Nat.le_of_ble_eq_true rfl) rfl ?_
  refine at_iload_n C dJ4_bitCount_48 rfl rfl ?_
  refine at_bipush C dJ4_bitCount_49 bp_63 ?_
  refine at_iand C dJ4_bitCount_51 ?_
  exact at_iret C rfl ⟨hw, rfl⟩ dJ4_bitCount_52
set_option maxHeartbeats 4000000 in
theorem tJ0_fill_5 {N : Nat} {lay : Nat → gD} {ka : Nat} {na : Nat}   {Q : GW → Prop} (C : Cx p s m args meth c D dA cJ0_fill 4 none RJ0) (hka : ka < N) (hla : lay ka = .inl (0, na)) (hna : na < 2 ^ 31)   {x1 : Int32} {x3 : Int32}   : ∀ (n : Nat) (x2 : Int32) (w : GW), PJ0_fill_5 ka na Q x1 x3 n x2 w → gAtG N lay p l e s m args below meth c D dA ad 1 (va_Qv Q (gZ D dA N ad lay) (gA N ad)) 4 5 [(0, .ref (ad ka)), (1, .int x1), (2, .int x2), (3, .int x3)] [] w := by
  intro n
  induction n with
  | zero => intro x2 w hw; exact False.elim hw
  | succ n ih =>
    intro x2 w hw
    unfold PJ0_fill_5 at hw
    refine at_iload_n C dJ0_fill_5 rfl rfl ?_
    refine at_iload_n C dJ0_fill_6 rfl rfl ?_
    refine at_icmp_ge (tgt := 20) C dJ0_fill_7 (by decide) (fun c_1 => ?_) (fun c_1 => ?_)
    · have hw := hw.1 c_1
      exact at_vret C rfl hw dJ0_fill_20
    · have hw := hw.2 c_1
      refine at_aload_n C dJ0_fill_10 rfl rfl ?_
      refine at_iload_n C dJ0_fill_11 rfl rfl ?_
      refine at_iload_n C dJ0_fill_12 rfl rfl ?_
      refine at_iast C hka hla hw.1 rfl dJ0_fill_13 (fun w_2 ew_2 => ?_)
      have hw := hw.2 w_2 ew_2
      refine at_iinc (F := fun z_ => [(0, .ref (ad ka)), (1, .int x1), (2, .int z_), (3, .int x3)]) C dJ0_fill_14 rfl ic_1 (Nat.le_of_ble_eq_true rfl) (fun _ => rfl) (fun v2_3 e2_3 => ?_)
      have hw := hw v2_3 e2_3
      refine at_goto (tgt := 5) C dJ0_fill_17 (by decide) ?_
      exact ih _ _ hw
set_option maxHeartbeats 4000000 in
theorem metJ0_fill {N : Nat} {lay : Nat → gD}  (l : Launch) (D : va_G) (dA : Nat → ClassId) (ad : Nat → Nat)  {ka : Nat} {na : Nat} (hka : ka < N) (hla : lay ka = .inl (0, na)) (hna : na < 2 ^ 31) {x1 : Int32} {w : GW} {Q : GW → Prop} (hw : PJ0_fill ka na x1 w Q) : Met l yJ0_fill (ws_ yJ0_fill cJ0_fill 4 none) (gR 1) (va_Pc [.ref (ad ka), .int x1] (gB D dA N ad lay w)) (va_Qv Q (gZ D dA N ad lay) (gA N ad)) 0 0 (gA N ad) := by
  refine gm_of (L := [(0, .ref (ad ka)), (1, .int x1)]) (own := RJ0) (by decide +kernel) rfl (Nat.le_of_ble_eq_true rfl) rfl rfl (fun p e s m below meth c C => ?_)
  unfold PJ0_fill at hw
  refine at_iconst C dJ0_fill_0 ic_0 ?_
  refine at_istore_n (L' := [(0, .ref (ad ka)), (1, .int x1), (2, .int 0)]) C dJ0_fill_1 rfl (Nat.le_of_ble_eq_true rfl) rfl ?_
  refine at_aload_n C dJ0_fill_2 rfl rfl ?_
  refine at_alen (v := (nI na)) C hka hla rfl rfl dJ0_fill_3 ?_
  refine at_topi (fun v3_4 e3_4 => ?_)
  have hw := hw v3_4 e3_4
  refine at_istore_n (L' := [(0, .ref (ad ka)), (1, .int x1), (2, .int 0), (3, .int v3_4)]) C dJ0_fill_4 rfl (Nat.le_of_ble_eq_true rfl) rfl ?_
  obtain ⟨n_5, hw⟩ := hw
  exact (tJ0_fill_5 C hka hla hna _ _ _ hw)
set_option maxHeartbeats 4000000 in
theorem metX3_bears   (l : Launch) (D : va_G) (dA : Nat → ClassId) (ad : Nat → Nat)  {b : Nat}  {x1 : Int32} {x2 : Int32} {x3 : Int32} {w : GW} {Q : Int32 → Prop} (hw : PX3_bears b x1 x2 x3 Q) : Met l yX3_bears (ws_ yX3_bears cX3_bears 4 (some .int)) (gR 1) (va_Pc [.ref (ad b), .int x1, .int x2, .int x3] (gB D dA 137 ad layX w)) (va_Qi (gQ1 Q w) (gZ D dA 137 ad layX) (gA 137 ad)) 0 0 (gA 137 ad) := by
  refine gm_of (L := [(0, .ref (ad b)), (1, .int x1), (2, .int x2), (3, .int x3)]) (own := RX3) (by decide +kernel) rfl (Nat.le_of_ble_eq_true rfl) rfl rfl (fun p e s m below meth c C => ?_)
  unfold PX3_bears at hw
  refine at_iload_n C dX3_bears_0 rfl rfl ?_
  refine at_iload_n C dX3_bears_1 rfl rfl ?_
  refine at_isub C dX3_bears_2 ?_
  exact at_iret C rfl ⟨hw, rfl⟩ dX3_bears_3
set_option maxHeartbeats 4000000 in
theorem metX4_bears   (l : Launch) (D : va_G) (dA : Nat → ClassId) (ad : Nat → Nat)  {b : Nat} (hk : b < 137) (hl : layX b = .inr (.inl (4, []))) {x1 : Int32} {x2 : Int32} {x3 : Int32} {w : GW} {Q : Int32 → Prop} (hw : PX4_bears b x1 x2 x3 Q) : Met l yX4_bears (ws_ yX4_bears cX4_bears 4 (some .int)) (gR 2) (va_Pc [.ref (ad b), .int x1, .int x2, .int x3] (gB D dA 137 ad layX w)) (va_Qi (gQ1 Q w) (gZ D dA 137 ad layX) (gA 137 ad)) 0 0 (gA 137 ad) := by
  refine gm_of (L := [(0, .ref (ad b)), (1, .int x1), (2, .int x2), (3, .int x3)]) (own := RX4) (by decide +kernel) rfl (Nat.le_of_ble_eq_true rfl) rfl rfl (fun p e s m below meth c C => ?_)
  unfold PX4_bears at hw
  refine at_aload_n C dX4_bears_0 rfl rfl ?_
  refine at_iload_n C dX4_bears_1 rfl rfl ?_
  refine at_iload_n C dX4_bears_2 rfl rfl ?_
  refine at_iconst C dX4_bears_3 ic_2 ?_
  refine at_idiv C dX4_bears_4 nz_2 ?_
  refine at_iload_n C dX4_bears_5 rfl rfl ?_
  refine at_callp (run_SU (rest := []) (As := [.int x1, .int (x2 / 2), .int x3]) C (metX3_bears l D dA ad  hw) q474 q470 q189 q468 q59 q475 ⟨by decide +kernel, dsX3_bears.2.2.2⟩ (gR_ok (Nat.le_of_ble_eq_true rfl) (Nat.le_of_ble_eq_true rfl)) ⟨rfl, rfl⟩ ⟨(Nat.le_of_ble_eq_true rfl), (Nat.le_of_ble_eq_true rfl)⟩ hk hl rfl rfl rfl (Nat.le_of_ble_eq_true rfl) dX4_bears_6) (fun r_1 hw => ?_)
  exact at_iret C rfl ⟨hw, rfl⟩ dX4_bears_9
set_option maxHeartbeats 4000000 in
theorem metX5_bears   (l : Launch) (D : va_G) (dA : Nat → ClassId) (ad : Nat → Nat)  {b : Nat} (hk : b < 137) (hl : layX b = .inr (.inl (5, []))) {x1 : Int32} {x2 : Int32} {x3 : Int32} {w : GW} {Q : Int32 → Prop} (hw : PX5_bears b x1 x2 x3 Q) : Met l yX5_bears (ws_ yX5_bears cX5_bears 4 (some .int)) (gR 2) (va_Pc [.ref (ad b), .int x1, .int x2, .int x3] (gB D dA 137 ad layX w)) (va_Qi (gQ1 Q w) (gZ D dA 137 ad layX) (gA 137 ad)) 0 0 (gA 137 ad) := by
  refine gm_of (L := [(0, .ref (ad b)), (1, .int x1), (2, .int x2), (3, .int x3)]) (own := RX5) (by decide +kernel) rfl (Nat.le_of_ble_eq_true rfl) rfl rfl (fun p e s m below meth c C => ?_)
  unfold PX5_bears at hw
  refine at_aload_n C dX5_bears_0 rfl rfl ?_
  refine at_iload_n C dX5_bears_1 rfl rfl ?_
  refine at_iload_n C dX5_bears_2 rfl rfl ?_
  refine at_iload_n C dX5_bears_3 rfl rfl ?_
  refine at_callp (run_SU (rest := []) (As := [.int x1, .int x2, .int x3]) C (metX3_bears l D dA ad  hw) q483 q470 q196 q468 q59 q475 ⟨by decide +kernel, dsX3_bears.2.2.2⟩ (gR_ok (Nat.le_of_ble_eq_true rfl) (Nat.le_of_ble_eq_true rfl)) ⟨rfl, rfl⟩ ⟨(Nat.le_of_ble_eq_true rfl), (Nat.le_of_ble_eq_true rfl)⟩ hk hl rfl rfl rfl (Nat.le_of_ble_eq_true rfl) dX5_bears_4) (fun r_1 hw => ?_)
  refine at_iload_n C dX5_bears_7 rfl rfl ?_
  refine at_if_ne (tgt := 15) C dX5_bears_8 (by decide) (fun c_2 => ?_) (fun c_2 => ?_)
  · have hw := hw.1 c_2
    refine at_iconst C dX5_bears_15 ic_0 ?_
    refine at_iadd C dX5_bears_16 ?_
    exact at_iret C rfl ⟨hw, rfl⟩ dX5_bears_17
  · have hw := hw.2 c_2
    refine at_iconst C dX5_bears_11 ic_2 ?_
    refine at_goto (tgt := 16) C dX5_bears_12 (by decide) ?_
    refine at_iadd C dX5_bears_16 ?_
    exact at_iret C rfl ⟨hw, rfl⟩ dX5_bears_17
set_option maxHeartbeats 4000000 in
theorem metX6_bears   (l : Launch) (D : va_G) (dA : Nat → ClassId) (ad : Nat → Nat)  {b : Nat} (hk : b < 137) (hl : layX b = .inr (.inl (6, []))) {x1 : Int32} {x2 : Int32} {x3 : Int32} {w : GW} {Q : Int32 → Prop} (hw : PX6_bears b x1 x2 x3 Q) : Met l yX6_bears (ws_ yX6_bears cX6_bears 4 (some .int)) (gR 2) (va_Pc [.ref (ad b), .int x1, .int x2, .int x3] (gB D dA 137 ad layX w)) (va_Qi (gQ1 Q w) (gZ D dA 137 ad layX) (gA 137 ad)) 0 0 (gA 137 ad) := by
  refine gm_of (L := [(0, .ref (ad b)), (1, .int x1), (2, .int x2), (3, .int x3)]) (own := RX6) (by decide +kernel) rfl (Nat.le_of_ble_eq_true rfl) rfl rfl (fun p e s m below meth c C => ?_)
  unfold PX6_bears at hw
  refine at_aload_n C dX6_bears_0 rfl rfl ?_
  refine at_iload_n C dX6_bears_1 rfl rfl ?_
  refine at_iconst C dX6_bears_2 ic_0 ?_
  refine at_iload_n C dX6_bears_3 rfl rfl ?_
  refine at_callp (run_SU (rest := []) (As := [.int x1, .int 0, .int x3]) C (metX3_bears l D dA ad  hw) q479 q470 q203 q468 q59 q475 ⟨by decide +kernel, dsX3_bears.2.2.2⟩ (gR_ok (Nat.le_of_ble_eq_true rfl) (Nat.le_of_ble_eq_true rfl)) ⟨rfl, rfl⟩ ⟨(Nat.le_of_ble_eq_true rfl), (Nat.le_of_ble_eq_true rfl)⟩ hk hl rfl rfl rfl (Nat.le_of_ble_eq_true rfl) dX6_bears_4) (fun r_1 hw => ?_)
  refine at_iconst C dX6_bears_7 ic_2 ?_
  refine at_idiv C dX6_bears_8 nz_2 ?_
  exact at_iret C rfl ⟨hw, rfl⟩ dX6_bears_9
theorem vp_in4 {i : Int32} (h : vp_in i 4) : i = 0 ∨ i = 1 ∨ i = 2 ∨ i = 3 := by
  obtain ⟨j, hj, rfl⟩ := vp_in_of h (by decide)
  rcases (show j = 0 ∨ j = 1 ∨ j = 2 ∨ j = 3 by omega) with rfl | rfl | rfl | rfl
  · exact Or.inl rfl
  · exact Or.inr (Or.inl rfl)
  · exact Or.inr (Or.inr (Or.inl rfl))
  · exact Or.inr (Or.inr (Or.inr rfl))
set_option maxHeartbeats 4000000 in
theorem run_K {rk pc : Nat} {cc : ByteArray} {nL : Nat} {rt : Option FieldType} {A : Nat → Prop} {st rest : List Value} (l : Launch) (C : Cx p s m args meth c D dA cc nL rt RX2) {i x1 x2 x3 : Int32} {w : GW} {Q : Int32 → Prop} (hi : vp_in i 4) (hw : PK_bears i x1 x2 x3 Q) (hd : decode cc pc = .ok (.invokevirtual 85, 3)) (hst : st = [.int x1, .int x2, .int x3].reverse ++ .ref (ad (gKi i)) :: rest) (hW : (rest.map fun v => v.category).sum ≤ 8) (hrk : 3 < rk) :
    gRun p l e (gR rk) s m args below meth c D A nL 0 0 pc st rest (gW dA 137 ad layX w) (va_Qi (gQ1 Q w) (gZ D dA 137 ad layX) (gA 137 ad) #[]) (gA 137 ad) := by
  rcases vp_in4 hi with rfl | rfl | rfl | rfl
  · exact run_V (k := 25) (ci := 3) (As := [.int x1, .int x2, .int x3]) C (metX3_bears l D dA ad (b := 25) (hw.1 rfl)) (lw_V q467 q468 q469 q59 q475) dsX3_bears (gR_ok (a := 1) (b := rk) (by omega) (Nat.le_of_ble_eq_true rfl)) ⟨rfl, rfl⟩ ⟨Nat.le_refl 0, Nat.le_refl 0⟩ (Nat.le_of_ble_eq_true rfl) rfl rfl rfl hst hW hd
  · exact run_O (nn := 3) (k := 26) (ci := 4) (As := [.int x1, .int x2, .int x3]) C (metX4_bears l D dA ad (b := 26) (Nat.le_of_ble_eq_true rfl) rfl (hw.2.1 rfl)) (lw_O (owner := "SkittleGentry$Gentry") q467 q470 q468 q471 q472 q60 q473) q475 (by decide +kernel) (gR_ok (a := 2) (b := rk) (by omega) (Nat.le_of_ble_eq_true rfl)) ⟨rfl, rfl⟩ ⟨Nat.le_refl 0, Nat.le_refl 0⟩ (Nat.le_of_ble_eq_true rfl) rfl rfl rfl hst hW hd
  · exact run_O (nn := 3) (k := 27) (ci := 5) (As := [.int x1, .int x2, .int x3]) C (metX5_bears l D dA ad (b := 27) (Nat.le_of_ble_eq_true rfl) rfl (hw.2.2.1 rfl)) (lw_O (owner := "SkittleGentry$Gentry") q467 q470 q468 q480 q481 q61 q482) q475 (by decide +kernel) (gR_ok (a := 2) (b := rk) (by omega) (Nat.le_of_ble_eq_true rfl)) ⟨rfl, rfl⟩ ⟨Nat.le_refl 0, Nat.le_refl 0⟩ (Nat.le_of_ble_eq_true rfl) rfl rfl rfl hst hW hd
  · exact run_O (nn := 3) (k := 28) (ci := 6) (As := [.int x1, .int x2, .int x3]) C (metX6_bears l D dA ad (b := 28) (Nat.le_of_ble_eq_true rfl) rfl (hw.2.2.2 rfl)) (lw_O (owner := "SkittleGentry$Gentry") q467 q470 q468 q476 q477 q62 q478) q475 (by decide +kernel) (gR_ok (a := 2) (b := rk) (by omega) (Nat.le_of_ble_eq_true rfl)) ⟨rfl, rfl⟩ ⟨Nat.le_refl 0, Nat.le_refl 0⟩ (Nat.le_of_ble_eq_true rfl) rfl rfl rfl hst hW hd

set_option maxHeartbeats 4000000 in
theorem tX2_begin_74  {b : Nat}  {K44 : Int32 → GW → Prop} {Q : GW → Prop} (C : Cx p s m args meth c D dA cX2_begin 2 none RX2) (hb : gSt b)   {x1 : Int32} {s1 : Int32} {s2 : Int32} {w : GW} (hK44 : ∀ (x1 : Int32) (w : GW), K44 x1 w → gAtX p l e s m args below meth c D dA ad 2 (va_Qv Q (gZ D dA 137 ad layX) (gA 137 ad)) 2 44 [(0, .ref (ad b)), (1, .int x1)] [] w) (hw : PX2_begin_74 b K44 Q x1 s1 s2 w) : gAtX p l e s m args below meth c D dA ad 2 (va_Qv Q (gZ D dA 137 ad layX) (gA 137 ad)) 2 74 [(0, .ref (ad b)), (1, .int x1)] [.int s2, .int s1, .ref (ad (b + 3))] w := by
  unfold PX2_begin_74 at hw
  refine at_iast C (gSt_k3 hb) (layX_3 hb) hw.1 rfl dX2_begin_74 (fun w_1 ew_1 => ?_)
  have hw := hw.2 w_1 ew_1
  refine at_iinc (F := fun z_ => [(0, .ref (ad b)), (1, .int z_)]) C dX2_begin_75 rfl ic_1 (Nat.le_of_ble_eq_true rfl) (fun _ => rfl) (fun v1_2 e1_2 => ?_)
  have hw := hw v1_2 e1_2
  refine at_goto (tgt := 44) C dX2_begin_78 (by decide) ?_
  exact hK44 _ _ hw
set_option maxHeartbeats 4000000 in
theorem tX2_begin_44  {b : Nat}   {Q : GW → Prop} (C : Cx p s m args meth c D dA cX2_begin 2 none RX2) (hb : gSt b)      : ∀ (n : Nat) (x1 : Int32) (w : GW), PX2_begin_44 b Q n x1 w → gAtX p l e s m args below meth c D dA ad 2 (va_Qv Q (gZ D dA 137 ad layX) (gA 137 ad)) 2 44 [(0, .ref (ad b)), (1, .int x1)] [] w := by
  intro n
  induction n with
  | zero => intro x1 w hw; exact False.elim hw
  | succ n ih =>
    intro x1 w hw
    unfold PX2_begin_44 at hw
    refine at_iload_n C dX2_begin_44 rfl rfl ?_
    refine at_bipush C dX2_begin_45 bp_9 ?_
    refine at_icmp_ge (tgt := 81) C dX2_begin_47 (by decide) (fun c_3 => ?_) (fun c_3 => ?_)
    · have hw := hw.1 c_3
      refine at_aload_n C dX2_begin_81 rfl rfl ?_
      refine at_getr (j := 3) (r := (b + 4)) C (gSt_k0 hb) (layX_0 hb) rfl in_X2 (Nat.le_of_ble_eq_true rfl) rfl q129 dX2_begin_82 ?_
      refine at_iconst C dX2_begin_85 ic_0 ?_
      refine at_callv (run_S (rest := []) (As := [.ref (ad (b + 4)), .int 0]) C (metJ0_fill l D dA ad (gSt_k4 hb) (layX_4 hb) (by decide) hw) (lw_S q211 q212 q64 q213) dsJ0_fill (gR_ok (Nat.le_of_ble_eq_true rfl) (Nat.le_of_ble_eq_true rfl)) ⟨rfl, rfl⟩ ⟨(Nat.le_of_ble_eq_true rfl), (Nat.le_of_ble_eq_true rfl)⟩ rfl rfl (Nat.le_of_ble_eq_true rfl) dX2_begin_86) (fun  w_5 hw => ?_)
      refine at_aload_n C dX2_begin_89 rfl rfl ?_
      refine at_getr (j := 4) (r := (b + 5)) C (gSt_k0 hb) (layX_0 hb) rfl in_X2 (Nat.le_of_ble_eq_true rfl) rfl q131 dX2_begin_90 ?_
      refine at_iconst C dX2_begin_93 ic_m1 ?_
      refine at_callv (run_S (rest := []) (As := [.ref (ad (b + 5)), .int (-1)]) C (metJ0_fill l D dA ad (gSt_k5 hb) (layX_5 hb) (by decide) hw) (lw_S q211 q212 q64 q213) dsJ0_fill (gR_ok (Nat.le_of_ble_eq_true rfl) (Nat.le_of_ble_eq_true rfl)) ⟨rfl, rfl⟩ ⟨(Nat.le_of_ble_eq_true rfl), (Nat.le_of_ble_eq_true rfl)⟩ rfl rfl (Nat.le_of_ble_eq_true rfl) dX2_begin_94) (fun  w_7 hw => ?_)
      refine at_aload_n C dX2_begin_97 rfl rfl ?_
      refine at_iconst C dX2_begin_98 ic_1 ?_
      refine at_aload_n C dX2_begin_99 rfl rfl ?_
      refine at_getr (j := 12) (r := 0) C (gSt_k0 hb) (layX_0 hb) rfl in_X2 (Nat.le_of_ble_eq_true rfl) rfl q146 dX2_begin_100 ?_
      refine at_getrN (j := 1) (r := 2) C (Nat.le_of_ble_eq_true rfl) rfl rfl in_X0 (Nat.le_of_ble_eq_true rfl) rfl q216 dX2_begin_103 ?_
      refine at_getiN (j := 4) C (Nat.le_of_ble_eq_true rfl) rfl rfl in_X1 (Nat.le_of_ble_eq_true rfl) rfl q102 dX2_begin_106 ?_
      refine at_ishl C dX2_begin_109 ?_
      refine at_iconst C dX2_begin_110 ic_1 ?_
      refine at_isub C dX2_begin_111 ?_
      refine at_puti (j := 5) C (gSt_k0 hb) (layX_0 hb) rfl in_X2 (Nat.le_of_ble_eq_true rfl) rfl q133 tyX2 tyX2_ok nmX2 rfl rfl rfl dX2_begin_112 (fun w_8 ew_8 => ?_)
      have hw := hw w_8 ew_8
      refine at_aload_n C dX2_begin_115 rfl rfl ?_
      refine at_iconst C dX2_begin_116 ic_0 ?_
      refine at_puti (j := 6) C (gSt_k0 hb) (layX_0 hb) rfl in_X2 (Nat.le_of_ble_eq_true rfl) rfl q135 tyX2 tyX2_ok nmX2 rfl rfl rfl dX2_begin_117 (fun w_9 ew_9 => ?_)
      have hw := hw w_9 ew_9
      refine at_aload_n C dX2_begin_120 rfl rfl ?_
      refine at_iconst C dX2_begin_121 ic_0 ?_
      refine at_puti (j := 7) C (gSt_k0 hb) (layX_0 hb) rfl in_X2 (Nat.le_of_ble_eq_true rfl) rfl q137 tyX2 tyX2_ok nmX2 rfl rfl rfl dX2_begin_122 (fun w_10 ew_10 => ?_)
      have hw := hw w_10 ew_10
      exact at_vret C rfl hw dX2_begin_125
    · have hw := hw.2 c_3
      refine at_aload_n C dX2_begin_50 rfl rfl ?_
      refine at_getr (j := 2) (r := (b + 3)) C (gSt_k0 hb) (layX_0 hb) rfl in_X2 (Nat.le_of_ble_eq_true rfl) rfl q127 dX2_begin_51 ?_
      refine at_iload_n C dX2_begin_54 rfl rfl ?_
      refine at_iload_n C dX2_begin_55 rfl rfl ?_
      refine at_aload_n C dX2_begin_56 rfl rfl ?_
      refine at_getr (j := 12) (r := 0) C (gSt_k0 hb) (layX_0 hb) rfl in_X2 (Nat.le_of_ble_eq_true rfl) rfl q146 dX2_begin_57 ?_
      refine at_getrN (j := 1) (r := 2) C (Nat.le_of_ble_eq_true rfl) rfl rfl in_X0 (Nat.le_of_ble_eq_true rfl) rfl q216 dX2_begin_60 ?_
      refine at_getiN (j := 4) C (Nat.le_of_ble_eq_true rfl) rfl rfl in_X1 (Nat.le_of_ble_eq_true rfl) rfl q102 dX2_begin_63 ?_
      refine at_icmp_ge (tgt := 73) C dX2_begin_66 (by decide) (fun c_11 => ?_) (fun c_11 => ?_)
      · have hw := hw.1 c_11
        refine at_iconst C dX2_begin_73 ic_m1 ?_
        exact (tX2_begin_74 C hb ih hw)
      · have hw := hw.2 c_11
        refine at_iload_n C dX2_begin_69 rfl rfl ?_
        refine at_goto (tgt := 74) C dX2_begin_70 (by decide) ?_
        exact (tX2_begin_74 C hb ih hw)
set_option maxHeartbeats 4000000 in
theorem metX2_begin   (l : Launch) (D : va_G) (dA : Nat → ClassId) (ad : Nat → Nat)  {b : Nat} (hb : gSt b)  {w : GW} {Q : GW → Prop} (hw : PX2_begin b w Q) : Met l yX2_begin (ws_ yX2_begin cX2_begin 2 none) (gR 2) (va_Pc [.ref (ad b)] (gB D dA 137 ad layX w)) (va_Qv Q (gZ D dA 137 ad layX) (gA 137 ad)) 0 0 (gA 137 ad) := by
  refine gm_of (L := [(0, .ref (ad b))]) (own := RX2) (by decide +kernel) rfl (Nat.le_of_ble_eq_true rfl) rfl rfl (fun p e s m below meth c C => ?_)
  unfold PX2_begin at hw
  refine at_aload_n C dX2_begin_0 rfl rfl ?_
  refine at_getr (j := 12) (r := 0) C (gSt_k0 hb) (layX_0 hb) rfl in_X2 (Nat.le_of_ble_eq_true rfl) rfl q146 dX2_begin_1 ?_
  refine at_getrN (j := 1) (r := 2) C (Nat.le_of_ble_eq_true rfl) rfl rfl in_X0 (Nat.le_of_ble_eq_true rfl) rfl q216 dX2_begin_4 ?_
  refine at_getrN (j := 1) (r := 3) C (Nat.le_of_ble_eq_true rfl) rfl rfl in_X1 (Nat.le_of_ble_eq_true rfl) rfl q93 dX2_begin_7 ?_
  refine at_iconst C dX2_begin_10 ic_0 ?_
  refine at_aload_n C dX2_begin_11 rfl rfl ?_
  refine at_getr (j := 0) (r := (b + 1)) C (gSt_k0 hb) (layX_0 hb) rfl in_X2 (Nat.le_of_ble_eq_true rfl) rfl q123 dX2_begin_12 ?_
  refine at_iconst C dX2_begin_15 ic_0 ?_
  refine at_bipush C dX2_begin_16 bp_9 ?_
  refine at_copy9 (rest := []) C q208 (Nat.le_of_ble_eq_true rfl) rfl (gSt_k1 hb) (layX_1 hb) (Nat.le_of_ble_eq_true rfl) (Nat.le_of_ble_eq_true rfl) (Nat.le_of_ble_eq_true rfl) dX2_begin_18 (fun w_12 ew_12 => ?_)
  have hw := hw w_12 ew_12
  refine at_aload_n C dX2_begin_21 rfl rfl ?_
  refine at_getr (j := 12) (r := 0) C (gSt_k0 hb) (layX_0 hb) rfl in_X2 (Nat.le_of_ble_eq_true rfl) rfl q146 dX2_begin_22 ?_
  refine at_getrN (j := 1) (r := 2) C (Nat.le_of_ble_eq_true rfl) rfl rfl in_X0 (Nat.le_of_ble_eq_true rfl) rfl q216 dX2_begin_25 ?_
  refine at_getrN (j := 3) (r := 5) C (Nat.le_of_ble_eq_true rfl) rfl rfl in_X1 (Nat.le_of_ble_eq_true rfl) rfl q100 dX2_begin_28 ?_
  refine at_iconst C dX2_begin_31 ic_0 ?_
  refine at_aload_n C dX2_begin_32 rfl rfl ?_
  refine at_getr (j := 1) (r := (b + 2)) C (gSt_k0 hb) (layX_0 hb) rfl in_X2 (Nat.le_of_ble_eq_true rfl) rfl q125 dX2_begin_33 ?_
  refine at_iconst C dX2_begin_36 ic_0 ?_
  refine at_bipush C dX2_begin_37 bp_9 ?_
  refine at_copy9 (rest := []) C q208 (Nat.le_of_ble_eq_true rfl) rfl (gSt_k2 hb) (layX_2 hb) (Nat.le_of_ble_eq_true rfl) (Nat.le_of_ble_eq_true rfl) (Nat.le_of_ble_eq_true rfl) dX2_begin_39 (fun w_13 ew_13 => ?_)
  have hw := hw w_13 ew_13
  refine at_iconst C dX2_begin_42 ic_0 ?_
  refine at_istore_n (L' := [(0, .ref (ad b)), (1, .int 0)]) C dX2_begin_43 rfl (Nat.le_of_ble_eq_true rfl) rfl ?_
  obtain ⟨n_14, hw⟩ := hw
  exact (tX2_begin_44 C hb _ _ _ hw)
set_option maxHeartbeats 4000000 in
theorem tBX2_begin_74    {K44 : Int32 → GW → Prop} {Q : GW → Prop} (C : Cx p s m args meth c D dA cX2_begin 2 none RX2)    {x1 : Int32} {s1 : Int32} {s2 : Int32} {w : GW} (hK44 : ∀ (x1 : Int32) (w : GW), K44 x1 w → gAtB p l e s m args below meth c D dA ad 2 (va_Qv Q (gZ D dA 12 ad layX) (gA 12 ad)) 2 44 [(0, .ref (ad 6)), (1, .int x1)] [] w) (hw : PX2_begin_74 6 K44 Q x1 s1 s2 w) : gAtB p l e s m args below meth c D dA ad 2 (va_Qv Q (gZ D dA 12 ad layX) (gA 12 ad)) 2 74 [(0, .ref (ad 6)), (1, .int x1)] [.int s2, .int s1, .ref (ad 9)] w := by
  unfold PX2_begin_74 at hw
  refine at_iast C (Nat.le_of_ble_eq_true rfl) rfl hw.1 rfl dX2_begin_74 (fun w_1 ew_1 => ?_)
  have hw := hw.2 w_1 ew_1
  refine at_iinc (F := fun z_ => [(0, .ref (ad 6)), (1, .int z_)]) C dX2_begin_75 rfl ic_1 (Nat.le_of_ble_eq_true rfl) (fun _ => rfl) (fun v1_2 e1_2 => ?_)
  have hw := hw v1_2 e1_2
  refine at_goto (tgt := 44) C dX2_begin_78 (by decide) ?_
  exact hK44 _ _ hw
set_option maxHeartbeats 4000000 in
theorem tBX2_begin_44     {Q : GW → Prop} (C : Cx p s m args meth c D dA cX2_begin 2 none RX2)       : ∀ (n : Nat) (x1 : Int32) (w : GW), PX2_begin_44 6 Q n x1 w → gAtB p l e s m args below meth c D dA ad 2 (va_Qv Q (gZ D dA 12 ad layX) (gA 12 ad)) 2 44 [(0, .ref (ad 6)), (1, .int x1)] [] w := by
  intro n
  induction n with
  | zero => intro x1 w hw; exact False.elim hw
  | succ n ih =>
    intro x1 w hw
    unfold PX2_begin_44 at hw
    refine at_iload_n C dX2_begin_44 rfl rfl ?_
    refine at_bipush C dX2_begin_45 bp_9 ?_
    refine at_icmp_ge (tgt := 81) C dX2_begin_47 (by decide) (fun c_3 => ?_) (fun c_3 => ?_)
    · have hw := hw.1 c_3
      refine at_aload_n C dX2_begin_81 rfl rfl ?_
      refine at_getr (j := 3) (r := 10) C (Nat.le_of_ble_eq_true rfl) rfl rfl in_X2 (Nat.le_of_ble_eq_true rfl) rfl q129 dX2_begin_82 ?_
      refine at_iconst C dX2_begin_85 ic_0 ?_
      refine at_callv (run_S (rest := []) (As := [.ref (ad 10), .int 0]) C (metJ0_fill l D dA ad (Nat.le_of_ble_eq_true rfl) rfl (by decide) hw) (lw_S q211 q212 q64 q213) dsJ0_fill (gR_ok (Nat.le_of_ble_eq_true rfl) (Nat.le_of_ble_eq_true rfl)) ⟨rfl, rfl⟩ ⟨(Nat.le_of_ble_eq_true rfl), (Nat.le_of_ble_eq_true rfl)⟩ rfl rfl (Nat.le_of_ble_eq_true rfl) dX2_begin_86) (fun  w_5 hw => ?_)
      refine at_aload_n C dX2_begin_89 rfl rfl ?_
      refine at_getr (j := 4) (r := 11) C (Nat.le_of_ble_eq_true rfl) rfl rfl in_X2 (Nat.le_of_ble_eq_true rfl) rfl q131 dX2_begin_90 ?_
      refine at_iconst C dX2_begin_93 ic_m1 ?_
      refine at_callv (run_S (rest := []) (As := [.ref (ad 11), .int (-1)]) C (metJ0_fill l D dA ad (Nat.le_of_ble_eq_true rfl) rfl (by decide) hw) (lw_S q211 q212 q64 q213) dsJ0_fill (gR_ok (Nat.le_of_ble_eq_true rfl) (Nat.le_of_ble_eq_true rfl)) ⟨rfl, rfl⟩ ⟨(Nat.le_of_ble_eq_true rfl), (Nat.le_of_ble_eq_true rfl)⟩ rfl rfl (Nat.le_of_ble_eq_true rfl) dX2_begin_94) (fun  w_7 hw => ?_)
      refine at_aload_n C dX2_begin_97 rfl rfl ?_
      refine at_iconst C dX2_begin_98 ic_1 ?_
      refine at_aload_n C dX2_begin_99 rfl rfl ?_
      refine at_getr (j := 12) (r := 0) C (Nat.le_of_ble_eq_true rfl) rfl rfl in_X2 (Nat.le_of_ble_eq_true rfl) rfl q146 dX2_begin_100 ?_
      refine at_getrN (j := 1) (r := 2) C (Nat.le_of_ble_eq_true rfl) rfl rfl in_X0 (Nat.le_of_ble_eq_true rfl) rfl q216 dX2_begin_103 ?_
      refine at_getiN (j := 4) C (Nat.le_of_ble_eq_true rfl) rfl rfl in_X1 (Nat.le_of_ble_eq_true rfl) rfl q102 dX2_begin_106 ?_
      refine at_ishl C dX2_begin_109 ?_
      refine at_iconst C dX2_begin_110 ic_1 ?_
      refine at_isub C dX2_begin_111 ?_
      refine at_puti (j := 5) C (Nat.le_of_ble_eq_true rfl) rfl rfl in_X2 (Nat.le_of_ble_eq_true rfl) rfl q133 tyX2 tyX2_ok nmX2 rfl rfl rfl dX2_begin_112 (fun w_8 ew_8 => ?_)
      have hw := hw w_8 ew_8
      refine at_aload_n C dX2_begin_115 rfl rfl ?_
      refine at_iconst C dX2_begin_116 ic_0 ?_
      refine at_puti (j := 6) C (Nat.le_of_ble_eq_true rfl) rfl rfl in_X2 (Nat.le_of_ble_eq_true rfl) rfl q135 tyX2 tyX2_ok nmX2 rfl rfl rfl dX2_begin_117 (fun w_9 ew_9 => ?_)
      have hw := hw w_9 ew_9
      refine at_aload_n C dX2_begin_120 rfl rfl ?_
      refine at_iconst C dX2_begin_121 ic_0 ?_
      refine at_puti (j := 7) C (Nat.le_of_ble_eq_true rfl) rfl rfl in_X2 (Nat.le_of_ble_eq_true rfl) rfl q137 tyX2 tyX2_ok nmX2 rfl rfl rfl dX2_begin_122 (fun w_10 ew_10 => ?_)
      have hw := hw w_10 ew_10
      exact at_vret C rfl hw dX2_begin_125
    · have hw := hw.2 c_3
      refine at_aload_n C dX2_begin_50 rfl rfl ?_
      refine at_getr (j := 2) (r := 9) C (Nat.le_of_ble_eq_true rfl) rfl rfl in_X2 (Nat.le_of_ble_eq_true rfl) rfl q127 dX2_begin_51 ?_
      refine at_iload_n C dX2_begin_54 rfl rfl ?_
      refine at_iload_n C dX2_begin_55 rfl rfl ?_
      refine at_aload_n C dX2_begin_56 rfl rfl ?_
      refine at_getr (j := 12) (r := 0) C (Nat.le_of_ble_eq_true rfl) rfl rfl in_X2 (Nat.le_of_ble_eq_true rfl) rfl q146 dX2_begin_57 ?_
      refine at_getrN (j := 1) (r := 2) C (Nat.le_of_ble_eq_true rfl) rfl rfl in_X0 (Nat.le_of_ble_eq_true rfl) rfl q216 dX2_begin_60 ?_
      refine at_getiN (j := 4) C (Nat.le_of_ble_eq_true rfl) rfl rfl in_X1 (Nat.le_of_ble_eq_true rfl) rfl q102 dX2_begin_63 ?_
      refine at_icmp_ge (tgt := 73) C dX2_begin_66 (by decide) (fun c_11 => ?_) (fun c_11 => ?_)
      · have hw := hw.1 c_11
        refine at_iconst C dX2_begin_73 ic_m1 ?_
        exact (tBX2_begin_74 C ih hw)
      · have hw := hw.2 c_11
        refine at_iload_n C dX2_begin_69 rfl rfl ?_
        refine at_goto (tgt := 74) C dX2_begin_70 (by decide) ?_
        exact (tBX2_begin_74 C ih hw)
set_option maxHeartbeats 4000000 in
theorem metBX2_begin   (l : Launch) (D : va_G) (dA : Nat → ClassId) (ad : Nat → Nat)     {w : GW} {Q : GW → Prop} (hw : PX2_begin 6 w Q) : Met l yX2_begin (ws_ yX2_begin cX2_begin 2 none) (gR 2) (va_Pc [.ref (ad 6)] (gB D dA 12 ad layX w)) (va_Qv Q (gZ D dA 12 ad layX) (gA 12 ad)) 0 0 (gA 12 ad) := by
  refine gm_of (L := [(0, .ref (ad 6))]) (own := RX2) (by decide +kernel) rfl (Nat.le_of_ble_eq_true rfl) rfl rfl (fun p e s m below meth c C => ?_)
  unfold PX2_begin at hw
  refine at_aload_n C dX2_begin_0 rfl rfl ?_
  refine at_getr (j := 12) (r := 0) C (Nat.le_of_ble_eq_true rfl) rfl rfl in_X2 (Nat.le_of_ble_eq_true rfl) rfl q146 dX2_begin_1 ?_
  refine at_getrN (j := 1) (r := 2) C (Nat.le_of_ble_eq_true rfl) rfl rfl in_X0 (Nat.le_of_ble_eq_true rfl) rfl q216 dX2_begin_4 ?_
  refine at_getrN (j := 1) (r := 3) C (Nat.le_of_ble_eq_true rfl) rfl rfl in_X1 (Nat.le_of_ble_eq_true rfl) rfl q93 dX2_begin_7 ?_
  refine at_iconst C dX2_begin_10 ic_0 ?_
  refine at_aload_n C dX2_begin_11 rfl rfl ?_
  refine at_getr (j := 0) (r := 7) C (Nat.le_of_ble_eq_true rfl) rfl rfl in_X2 (Nat.le_of_ble_eq_true rfl) rfl q123 dX2_begin_12 ?_
  refine at_iconst C dX2_begin_15 ic_0 ?_
  refine at_bipush C dX2_begin_16 bp_9 ?_
  refine at_copy9 (rest := []) C q208 (Nat.le_of_ble_eq_true rfl) rfl (Nat.le_of_ble_eq_true rfl) rfl (Nat.le_of_ble_eq_true rfl) (Nat.le_of_ble_eq_true rfl) (Nat.le_of_ble_eq_true rfl) dX2_begin_18 (fun w_12 ew_12 => ?_)
  have hw := hw w_12 ew_12
  refine at_aload_n C dX2_begin_21 rfl rfl ?_
  refine at_getr (j := 12) (r := 0) C (Nat.le_of_ble_eq_true rfl) rfl rfl in_X2 (Nat.le_of_ble_eq_true rfl) rfl q146 dX2_begin_22 ?_
  refine at_getrN (j := 1) (r := 2) C (Nat.le_of_ble_eq_true rfl) rfl rfl in_X0 (Nat.le_of_ble_eq_true rfl) rfl q216 dX2_begin_25 ?_
  refine at_getrN (j := 3) (r := 5) C (Nat.le_of_ble_eq_true rfl) rfl rfl in_X1 (Nat.le_of_ble_eq_true rfl) rfl q100 dX2_begin_28 ?_
  refine at_iconst C dX2_begin_31 ic_0 ?_
  refine at_aload_n C dX2_begin_32 rfl rfl ?_
  refine at_getr (j := 1) (r := 8) C (Nat.le_of_ble_eq_true rfl) rfl rfl in_X2 (Nat.le_of_ble_eq_true rfl) rfl q125 dX2_begin_33 ?_
  refine at_iconst C dX2_begin_36 ic_0 ?_
  refine at_bipush C dX2_begin_37 bp_9 ?_
  refine at_copy9 (rest := []) C q208 (Nat.le_of_ble_eq_true rfl) rfl (Nat.le_of_ble_eq_true rfl) rfl (Nat.le_of_ble_eq_true rfl) (Nat.le_of_ble_eq_true rfl) (Nat.le_of_ble_eq_true rfl) dX2_begin_39 (fun w_13 ew_13 => ?_)
  have hw := hw w_13 ew_13
  refine at_iconst C dX2_begin_42 ic_0 ?_
  refine at_istore_n (L' := [(0, .ref (ad 6)), (1, .int 0)]) C dX2_begin_43 rfl (Nat.le_of_ble_eq_true rfl) rfl ?_
  obtain ⟨n_14, hw⟩ := hw
  exact (tBX2_begin_44 C  _ _ _ hw)
set_option maxHeartbeats 4000000 in
theorem metX2_set   (l : Launch) (D : va_G) (dA : Nat → ClassId) (ad : Nat → Nat)  {b : Nat} {b2 : Nat} (hb : gSt b) (hb2 : gSt b2)  {w : GW} {Q : GW → Prop} (hw : PX2_set b b2 w Q) : Met l yX2_set (ws_ yX2_set cX2_set 2 none) (gR 2) (va_Pc [.ref (ad b), .ref (ad b2)] (gB D dA 137 ad layX w)) (va_Qv Q (gZ D dA 137 ad layX) (gA 137 ad)) 0 0 (gA 137 ad) := by
  refine gm_of (L := [(0, .ref (ad b)), (1, .ref (ad b2))]) (own := RX2) (by decide +kernel) rfl (Nat.le_of_ble_eq_true rfl) rfl rfl (fun p e s m below meth c C => ?_)
  unfold PX2_set at hw
  refine at_aload_n C dX2_set_0 rfl rfl ?_
  refine at_getr (j := 0) (r := (b2 + 1)) C (gSt_k0 hb2) (layX_0 hb2) rfl in_X2 (Nat.le_of_ble_eq_true rfl) rfl q123 dX2_set_1 ?_
  refine at_iconst C dX2_set_4 ic_0 ?_
  refine at_aload_n C dX2_set_5 rfl rfl ?_
  refine at_getr (j := 0) (r := (b + 1)) C (gSt_k0 hb) (layX_0 hb) rfl in_X2 (Nat.le_of_ble_eq_true rfl) rfl q123 dX2_set_6 ?_
  refine at_iconst C dX2_set_9 ic_0 ?_
  refine at_bipush C dX2_set_10 bp_9 ?_
  refine at_copy9 (rest := []) C q208 (gSt_k1 hb2) (layX_1 hb2) (gSt_k1 hb) (layX_1 hb) (Nat.le_of_ble_eq_true rfl) (Nat.le_of_ble_eq_true rfl) (Nat.le_of_ble_eq_true rfl) dX2_set_12 (fun w_1 ew_1 => ?_)
  have hw := hw w_1 ew_1
  refine at_aload_n C dX2_set_15 rfl rfl ?_
  refine at_getr (j := 1) (r := (b2 + 2)) C (gSt_k0 hb2) (layX_0 hb2) rfl in_X2 (Nat.le_of_ble_eq_true rfl) rfl q125 dX2_set_16 ?_
  refine at_iconst C dX2_set_19 ic_0 ?_
  refine at_aload_n C dX2_set_20 rfl rfl ?_
  refine at_getr (j := 1) (r := (b + 2)) C (gSt_k0 hb) (layX_0 hb) rfl in_X2 (Nat.le_of_ble_eq_true rfl) rfl q125 dX2_set_21 ?_
  refine at_iconst C dX2_set_24 ic_0 ?_
  refine at_bipush C dX2_set_25 bp_9 ?_
  refine at_copy9 (rest := []) C q208 (gSt_k2 hb2) (layX_2 hb2) (gSt_k2 hb) (layX_2 hb) (Nat.le_of_ble_eq_true rfl) (Nat.le_of_ble_eq_true rfl) (Nat.le_of_ble_eq_true rfl) dX2_set_27 (fun w_2 ew_2 => ?_)
  have hw := hw w_2 ew_2
  refine at_aload_n C dX2_set_30 rfl rfl ?_
  refine at_getr (j := 2) (r := (b2 + 3)) C (gSt_k0 hb2) (layX_0 hb2) rfl in_X2 (Nat.le_of_ble_eq_true rfl) rfl q127 dX2_set_31 ?_
  refine at_iconst C dX2_set_34 ic_0 ?_
  refine at_aload_n C dX2_set_35 rfl rfl ?_
  refine at_getr (j := 2) (r := (b + 3)) C (gSt_k0 hb) (layX_0 hb) rfl in_X2 (Nat.le_of_ble_eq_true rfl) rfl q127 dX2_set_36 ?_
  refine at_iconst C dX2_set_39 ic_0 ?_
  refine at_bipush C dX2_set_40 bp_9 ?_
  refine at_copy9 (rest := []) C q208 (gSt_k3 hb2) (layX_3 hb2) (gSt_k3 hb) (layX_3 hb) (Nat.le_of_ble_eq_true rfl) (Nat.le_of_ble_eq_true rfl) (Nat.le_of_ble_eq_true rfl) dX2_set_42 (fun w_3 ew_3 => ?_)
  have hw := hw w_3 ew_3
  refine at_aload_n C dX2_set_45 rfl rfl ?_
  refine at_getr (j := 3) (r := (b2 + 4)) C (gSt_k0 hb2) (layX_0 hb2) rfl in_X2 (Nat.le_of_ble_eq_true rfl) rfl q129 dX2_set_46 ?_
  refine at_iconst C dX2_set_49 ic_0 ?_
  refine at_aload_n C dX2_set_50 rfl rfl ?_
  refine at_getr (j := 3) (r := (b + 4)) C (gSt_k0 hb) (layX_0 hb) rfl in_X2 (Nat.le_of_ble_eq_true rfl) rfl q129 dX2_set_51 ?_
  refine at_iconst C dX2_set_54 ic_0 ?_
  refine at_bipush C dX2_set_55 bp_9 ?_
  refine at_copy9 (rest := []) C q208 (gSt_k4 hb2) (layX_4 hb2) (gSt_k4 hb) (layX_4 hb) (Nat.le_of_ble_eq_true rfl) (Nat.le_of_ble_eq_true rfl) (Nat.le_of_ble_eq_true rfl) dX2_set_57 (fun w_4 ew_4 => ?_)
  have hw := hw w_4 ew_4
  refine at_aload_n C dX2_set_60 rfl rfl ?_
  refine at_getr (j := 4) (r := (b2 + 5)) C (gSt_k0 hb2) (layX_0 hb2) rfl in_X2 (Nat.le_of_ble_eq_true rfl) rfl q131 dX2_set_61 ?_
  refine at_iconst C dX2_set_64 ic_0 ?_
  refine at_aload_n C dX2_set_65 rfl rfl ?_
  refine at_getr (j := 4) (r := (b + 5)) C (gSt_k0 hb) (layX_0 hb) rfl in_X2 (Nat.le_of_ble_eq_true rfl) rfl q131 dX2_set_66 ?_
  refine at_iconst C dX2_set_69 ic_0 ?_
  refine at_bipush C dX2_set_70 bp_9 ?_
  refine at_copy9 (rest := []) C q208 (gSt_k5 hb2) (layX_5 hb2) (gSt_k5 hb) (layX_5 hb) (Nat.le_of_ble_eq_true rfl) (Nat.le_of_ble_eq_true rfl) (Nat.le_of_ble_eq_true rfl) dX2_set_72 (fun w_5 ew_5 => ?_)
  have hw := hw w_5 ew_5
  refine at_aload_n C dX2_set_75 rfl rfl ?_
  refine at_aload_n C dX2_set_76 rfl rfl ?_
  refine at_geti (j := 5) C (gSt_k0 hb2) (layX_0 hb2) rfl in_X2 (Nat.le_of_ble_eq_true rfl) rfl q133 dX2_set_77 ?_
  refine at_puti (j := 5) C (gSt_k0 hb) (layX_0 hb) rfl in_X2 (Nat.le_of_ble_eq_true rfl) rfl q133 tyX2 tyX2_ok nmX2 rfl rfl rfl dX2_set_80 (fun w_6 ew_6 => ?_)
  have hw := hw w_6 ew_6
  refine at_aload_n C dX2_set_83 rfl rfl ?_
  refine at_aload_n C dX2_set_84 rfl rfl ?_
  refine at_geti (j := 6) C (gSt_k0 hb2) (layX_0 hb2) rfl in_X2 (Nat.le_of_ble_eq_true rfl) rfl q135 dX2_set_85 ?_
  refine at_puti (j := 6) C (gSt_k0 hb) (layX_0 hb) rfl in_X2 (Nat.le_of_ble_eq_true rfl) rfl q135 tyX2 tyX2_ok nmX2 rfl rfl rfl dX2_set_88 (fun w_7 ew_7 => ?_)
  have hw := hw w_7 ew_7
  refine at_aload_n C dX2_set_91 rfl rfl ?_
  refine at_aload_n C dX2_set_92 rfl rfl ?_
  refine at_geti (j := 7) C (gSt_k0 hb2) (layX_0 hb2) rfl in_X2 (Nat.le_of_ble_eq_true rfl) rfl q137 dX2_set_93 ?_
  refine at_puti (j := 7) C (gSt_k0 hb) (layX_0 hb) rfl in_X2 (Nat.le_of_ble_eq_true rfl) rfl q137 tyX2 tyX2_ok nmX2 rfl rfl rfl dX2_set_96 (fun w_8 ew_8 => ?_)
  have hw := hw w_8 ew_8
  refine at_aload_n C dX2_set_99 rfl rfl ?_
  refine at_aload_n C dX2_set_100 rfl rfl ?_
  refine at_geti (j := 8) C (gSt_k0 hb2) (layX_0 hb2) rfl in_X2 (Nat.le_of_ble_eq_true rfl) rfl q139 dX2_set_101 ?_
  refine at_puti (j := 8) C (gSt_k0 hb) (layX_0 hb) rfl in_X2 (Nat.le_of_ble_eq_true rfl) rfl q139 tyX2 tyX2_ok nmX2 rfl rfl rfl dX2_set_104 (fun w_9 ew_9 => ?_)
  have hw := hw w_9 ew_9
  exact at_vret C rfl hw dX2_set_107
set_option maxHeartbeats 4000000 in
theorem metX0_rowOf {N : Nat} {lay : Nat → gD}  (l : Launch) (D : va_G) (dA : Nat → ClassId) (ad : Nat → Nat)    {x0 : Int32} {w : GW} {Q : Int32 → Prop} (hw : PX0_rowOf x0 Q) : Met l yX0_rowOf (ws_ yX0_rowOf cX0_rowOf 1 (some .int)) (gR 1) (va_Pc [.int x0] (gB D dA N ad lay w)) (va_Qi (gQ1 Q w) (gZ D dA N ad lay) (gA N ad)) 0 0 (gA N ad) := by
  refine gm_of (L := [(0, .int x0)]) (own := RX0) (by decide +kernel) rfl (Nat.le_of_ble_eq_true rfl) rfl rfl (fun p e s m below meth c C => ?_)
  unfold PX0_rowOf at hw
  refine at_iload_n C dX0_rowOf_0 rfl rfl ?_
  refine at_if_ne (tgt := 8) C dX0_rowOf_1 (by decide) (fun c_1 => ?_) (fun c_1 => ?_)
  · have hw := hw.1 c_1
    refine at_iload_n C dX0_rowOf_8 rfl rfl ?_
    refine at_iconst C dX0_rowOf_9 ic_3 ?_
    refine at_icmp_ge (tgt := 17) C dX0_rowOf_10 (by decide) (fun c_2 => ?_) (fun c_2 => ?_)
    · have hw := hw.1 c_2
      refine at_iload_n C dX0_rowOf_17 rfl rfl ?_
      refine at_bipush C dX0_rowOf_18 bp_6 ?_
      refine at_icmp_ge (tgt := 27) C dX0_rowOf_20 (by decide) (fun c_3 => ?_) (fun c_3 => ?_)
      · have hw := hw.1 c_3
        refine at_iload_n C dX0_rowOf_27 rfl rfl ?_
        refine at_bipush C dX0_rowOf_28 bp_8 ?_
        refine at_icmp_ge (tgt := 37) C dX0_rowOf_30 (by decide) (fun c_4 => ?_) (fun c_4 => ?_)
        · have hw := hw.1 c_4
          refine at_iconst C dX0_rowOf_37 ic_4 ?_
          exact at_iret C rfl ⟨hw, rfl⟩ dX0_rowOf_38
        · have hw := hw.2 c_4
          refine at_iconst C dX0_rowOf_33 ic_3 ?_
          refine at_goto (tgt := 38) C dX0_rowOf_34 (by decide) ?_
          exact at_iret C rfl ⟨hw, rfl⟩ dX0_rowOf_38
      · have hw := hw.2 c_3
        refine at_iconst C dX0_rowOf_23 ic_2 ?_
        refine at_goto (tgt := 38) C dX0_rowOf_24 (by decide) ?_
        exact at_iret C rfl ⟨hw, rfl⟩ dX0_rowOf_38
    · have hw := hw.2 c_2
      refine at_iconst C dX0_rowOf_13 ic_1 ?_
      refine at_goto (tgt := 38) C dX0_rowOf_14 (by decide) ?_
      exact at_iret C rfl ⟨hw, rfl⟩ dX0_rowOf_38
  · have hw := hw.2 c_1
    refine at_iconst C dX0_rowOf_4 ic_0 ?_
    refine at_goto (tgt := 38) C dX0_rowOf_5 (by decide) ?_
    exact at_iret C rfl ⟨hw, rfl⟩ dX0_rowOf_38
set_option maxHeartbeats 4000000 in
theorem metX0_columnOf {N : Nat} {lay : Nat → gD}  (l : Launch) (D : va_G) (dA : Nat → ClassId) (ad : Nat → Nat)    {x0 : Int32} {w : GW} {Q : Int32 → Prop} (hw : PX0_columnOf x0 Q) : Met l yX0_columnOf (ws_ yX0_columnOf cX0_columnOf 1 (some .int)) (gR 1) (va_Pc [.int x0] (gB D dA N ad lay w)) (va_Qi (gQ1 Q w) (gZ D dA N ad lay) (gA N ad)) 0 0 (gA N ad) := by
  refine gm_of (L := [(0, .int x0)]) (own := RX0) (by decide +kernel) rfl (Nat.le_of_ble_eq_true rfl) rfl rfl (fun p e s m below meth c C => ?_)
  unfold PX0_columnOf at hw
  refine at_iload_n C dX0_columnOf_0 rfl rfl ?_
  by_cases c_1_1 : x0 = 1
  · have hw := hw.1 c_1_1
    refine at_tin (tgt := 46) (v := 1) C dX0_columnOf_1 c_1_1 (by decide) (by decide) rfl (by decide) ?_
    refine at_iconst C dX0_columnOf_46 ic_1 ?_
    exact at_iret C rfl ⟨hw, rfl⟩ dX0_columnOf_47
  · have hw := hw.2 c_1_1
    by_cases c_1_2 : x0 = 2
    · have hw := hw.1 c_1_2
      refine at_tin (tgt := 48) (v := 2) C dX0_columnOf_1 c_1_2 (by decide) (by decide) rfl (by decide) ?_
      refine at_iconst C dX0_columnOf_48 ic_3 ?_
      exact at_iret C rfl ⟨hw, rfl⟩ dX0_columnOf_49
    · have hw := hw.2 c_1_2
      by_cases c_1_3 : x0 = 3
      · have hw := hw.1 c_1_3
        refine at_tin (tgt := 44) (v := 3) C dX0_columnOf_1 c_1_3 (by decide) (by decide) rfl (by decide) ?_
        refine at_iconst C dX0_columnOf_44 ic_0 ?_
        exact at_iret C rfl ⟨hw, rfl⟩ dX0_columnOf_45
      · have hw := hw.2 c_1_3
        by_cases c_1_5 : x0 = 5
        · have hw := hw.1 c_1_5
          refine at_tin (tgt := 50) (v := 5) C dX0_columnOf_1 c_1_5 (by decide) (by decide) rfl (by decide) ?_
          refine at_iconst C dX0_columnOf_50 ic_4 ?_
          exact at_iret C rfl ⟨hw, rfl⟩ dX0_columnOf_51
        · have hw := hw.2 c_1_5
          by_cases c_1_6 : x0 = 6
          · have hw := hw.1 c_1_6
            refine at_tin (tgt := 46) (v := 6) C dX0_columnOf_1 c_1_6 (by decide) (by decide) rfl (by decide) ?_
            refine at_iconst C dX0_columnOf_46 ic_1 ?_
            exact at_iret C rfl ⟨hw, rfl⟩ dX0_columnOf_47
          · have hw := hw.2 c_1_6
            by_cases c_1_7 : x0 = 7
            · have hw := hw.1 c_1_7
              refine at_tin (tgt := 48) (v := 7) C dX0_columnOf_1 c_1_7 (by decide) (by decide) rfl (by decide) ?_
              refine at_iconst C dX0_columnOf_48 ic_3 ?_
              exact at_iret C rfl ⟨hw, rfl⟩ dX0_columnOf_49
            · have hw := hw.2 c_1_7
              by_cases c_1_4 : x0 = 4
              · refine at_tin (tgt := 52) (v := 4) C dX0_columnOf_1 c_1_4 (by decide) (by decide) rfl (by decide) ?_
                refine at_iconst C dX0_columnOf_52 ic_2 ?_
                exact at_iret C rfl ⟨hw, rfl⟩ dX0_columnOf_53
              · skip
                refine at_tout (tgt := 52) C dX0_columnOf_1 (by have h1 := lv_neT (a := 1) c_1_1 (by decide); have h2 := lv_neT (a := 2) c_1_2 (by decide); have h3 := lv_neT (a := 3) c_1_3 (by decide); have h4 := lv_neT (a := 4) c_1_4 (by decide); have h5 := lv_neT (a := 5) c_1_5 (by decide); have h6 := lv_neT (a := 6) c_1_6 (by decide); have h7 := lv_neT (a := 7) c_1_7 (by decide); omega) (by decide) ?_
                refine at_iconst C dX0_columnOf_52 ic_2 ?_
                exact at_iret C rfl ⟨hw, rfl⟩ dX0_columnOf_53
set_option maxHeartbeats 4000000 in
theorem tX0_plateAt_2 {N : Nat} {lay : Nat → gD}    {Q : Int32 → Prop} (C : Cx p s m args meth c D dA cX0_plateAt 3 (some .int) RX0)    {x0 : Int32} {x1 : Int32} {w : GW}  : ∀ (n : Nat) (x2 : Int32), PX0_plateAt_2 Q x0 x1 n x2 → gAtG N lay p l e s m args below meth c D dA ad 2 (va_Qi (gQ1 Q w) (gZ D dA N ad lay) (gA N ad)) 3 2 [(0, .int x0), (1, .int x1), (2, .int x2)] [] w := by
  intro n
  induction n with
  | zero => intro x2 hw; exact False.elim hw
  | succ n ih =>
    intro x2 hw
    unfold PX0_plateAt_2 at hw
    refine at_iload_n C dX0_plateAt_2 rfl rfl ?_
    refine at_bipush C dX0_plateAt_3 bp_9 ?_
    refine at_icmp_ge (tgt := 32) C dX0_plateAt_5 (by decide) (fun c_1 => ?_) (fun c_1 => ?_)
    · have hw := hw.1 c_1
      refine at_iconst C dX0_plateAt_32 ic_m1 ?_
      exact at_iret C rfl ⟨hw, rfl⟩ dX0_plateAt_33
    · have hw := hw.2 c_1
      refine at_iload_n C dX0_plateAt_8 rfl rfl ?_
      refine at_callp (run_S (rest := []) (As := [.int x2]) C (metX0_rowOf l D dA ad  hw) (lw_S q445 q446 q56 q447) dsX0_rowOf (gR_ok (Nat.le_of_ble_eq_true rfl) (Nat.le_of_ble_eq_true rfl)) ⟨rfl, rfl⟩ ⟨(Nat.le_of_ble_eq_true rfl), (Nat.le_of_ble_eq_true rfl)⟩ rfl rfl (Nat.le_of_ble_eq_true rfl) dX0_plateAt_9) (fun r_2  hw => ?_)
      refine at_iload_n C dX0_plateAt_12 rfl rfl ?_
      refine at_icmp_ne (tgt := 26) C dX0_plateAt_13 (by decide) (fun c_3 => ?_) (fun c_3 => ?_)
      · have hw := hw.1 c_3
        refine at_iinc (F := fun z_ => [(0, .int x0), (1, .int x1), (2, .int z_)]) C dX0_plateAt_26 rfl ic_1 (Nat.le_of_ble_eq_true rfl) (fun _ => rfl) (fun v2_4 e2_4 => ?_)
        have hw := hw v2_4 e2_4
        refine at_goto (tgt := 2) C dX0_plateAt_29 (by decide) ?_
        exact ih _ hw
      · have hw := hw.2 c_3
        refine at_iload_n C dX0_plateAt_16 rfl rfl ?_
        refine at_callp (run_S (rest := []) (As := [.int x2]) C (metX0_columnOf l D dA ad  hw) (lw_S q448 q449 q56 q450) dsX0_columnOf (gR_ok (Nat.le_of_ble_eq_true rfl) (Nat.le_of_ble_eq_true rfl)) ⟨rfl, rfl⟩ ⟨(Nat.le_of_ble_eq_true rfl), (Nat.le_of_ble_eq_true rfl)⟩ rfl rfl (Nat.le_of_ble_eq_true rfl) dX0_plateAt_17) (fun r_5  hw => ?_)
        refine at_iload_n C dX0_plateAt_20 rfl rfl ?_
        refine at_icmp_ne (tgt := 26) C dX0_plateAt_21 (by decide) (fun c_6 => ?_) (fun c_6 => ?_)
        · have hw := hw.1 c_6
          refine at_iinc (F := fun z_ => [(0, .int x0), (1, .int x1), (2, .int z_)]) C dX0_plateAt_26 rfl ic_1 (Nat.le_of_ble_eq_true rfl) (fun _ => rfl) (fun v2_7 e2_7 => ?_)
          have hw := hw v2_7 e2_7
          refine at_goto (tgt := 2) C dX0_plateAt_29 (by decide) ?_
          exact ih _ hw
        · have hw := hw.2 c_6
          refine at_iload_n C dX0_plateAt_24 rfl rfl ?_
          exact at_iret C rfl ⟨hw, rfl⟩ dX0_plateAt_25
set_option maxHeartbeats 4000000 in
theorem metX0_plateAt {N : Nat} {lay : Nat → gD}  (l : Launch) (D : va_G) (dA : Nat → ClassId) (ad : Nat → Nat)    {x0 : Int32} {x1 : Int32} {w : GW} {Q : Int32 → Prop} (hw : PX0_plateAt x0 x1 Q) : Met l yX0_plateAt (ws_ yX0_plateAt cX0_plateAt 3 (some .int)) (gR 2) (va_Pc [.int x0, .int x1] (gB D dA N ad lay w)) (va_Qi (gQ1 Q w) (gZ D dA N ad lay) (gA N ad)) 0 0 (gA N ad) := by
  refine gm_of (L := [(0, .int x0), (1, .int x1)]) (own := RX0) (by decide +kernel) rfl (Nat.le_of_ble_eq_true rfl) rfl rfl (fun p e s m below meth c C => ?_)
  unfold PX0_plateAt at hw
  refine at_iconst C dX0_plateAt_0 ic_0 ?_
  refine at_istore_n (L' := [(0, .int x0), (1, .int x1), (2, .int 0)]) C dX0_plateAt_1 rfl (Nat.le_of_ble_eq_true rfl) rfl ?_
  obtain ⟨n_8, hw⟩ := hw
  exact (tX0_plateAt_2 C  _ _ hw)
set_option maxHeartbeats 4000000 in
theorem tX2_onPlate_33  {b : Nat}  {K4 : Int32 → Int32 → Prop} {Q : Int32 → Prop} (C : Cx p s m args meth c D dA cX2_onPlate 4 (some .int) RX2) (hb : gSt b)   {x1 : Int32} {x3 : Int32} {s0 : Int32} {w : GW} (hK4 : ∀ (x2 : Int32) (x3 : Int32), K4 x2 x3 → gAtX p l e s m args below meth c D dA ad 1 (va_Qi (gQ1 Q w) (gZ D dA 137 ad layX) (gA 137 ad)) 4 4 [(0, .ref (ad b)), (1, .int x1), (2, .int x2), (3, .int x3)] [] w) (hw : PX2_onPlate_33 b K4 Q x1 x3 s0 w) : gAtX p l e s m args below meth c D dA ad 1 (va_Qi (gQ1 Q w) (gZ D dA 137 ad layX) (gA 137 ad)) 4 33 [(0, .ref (ad b)), (1, .int x1), (3, .int x3)] [.int s0] w := by
  unfold PX2_onPlate_33 at hw
  refine at_istore_n (L' := [(0, .ref (ad b)), (1, .int x1), (2, .int s0), (3, .int x3)]) C dX2_onPlate_33 rfl (Nat.le_of_ble_eq_true rfl) rfl ?_
  refine at_iinc (F := fun z_ => [(0, .ref (ad b)), (1, .int x1), (2, .int s0), (3, .int z_)]) C dX2_onPlate_34 rfl ic_1 (Nat.le_of_ble_eq_true rfl) (fun _ => rfl) (fun v3_1 e3_1 => ?_)
  have hw := hw v3_1 e3_1
  refine at_goto (tgt := 4) C dX2_onPlate_37 (by decide) ?_
  exact hK4 _ _ hw
set_option maxHeartbeats 4000000 in
theorem tX2_onPlate_4  {b : Nat}   {Q : Int32 → Prop} (C : Cx p s m args meth c D dA cX2_onPlate 4 (some .int) RX2) (hb : gSt b)   {x1 : Int32} {w : GW}  : ∀ (n : Nat) (x2 : Int32) (x3 : Int32), PX2_onPlate_4 b Q x1 w n x2 x3 → gAtX p l e s m args below meth c D dA ad 1 (va_Qi (gQ1 Q w) (gZ D dA 137 ad layX) (gA 137 ad)) 4 4 [(0, .ref (ad b)), (1, .int x1), (2, .int x2), (3, .int x3)] [] w := by
  intro n
  induction n with
  | zero => intro x2 x3 hw; exact False.elim hw
  | succ n ih =>
    intro x2 x3 hw
    unfold PX2_onPlate_4 at hw
    refine at_iload_n C dX2_onPlate_4 rfl rfl ?_
    refine at_aload_n C dX2_onPlate_5 rfl rfl ?_
    refine at_getr (j := 12) (r := 0) C (gSt_k0 hb) (layX_0 hb) rfl in_X2 (Nat.le_of_ble_eq_true rfl) rfl q146 dX2_onPlate_6 ?_
    refine at_getrN (j := 1) (r := 2) C (Nat.le_of_ble_eq_true rfl) rfl rfl in_X0 (Nat.le_of_ble_eq_true rfl) rfl q216 dX2_onPlate_9 ?_
    refine at_getiN (j := 4) C (Nat.le_of_ble_eq_true rfl) rfl rfl in_X1 (Nat.le_of_ble_eq_true rfl) rfl q102 dX2_onPlate_12 ?_
    refine at_icmp_ge (tgt := 40) C dX2_onPlate_15 (by decide) (fun c_2 => ?_) (fun c_2 => ?_)
    · have hw := hw.1 c_2
      refine at_iload_n C dX2_onPlate_40 rfl rfl ?_
      exact at_iret C rfl ⟨hw, rfl⟩ dX2_onPlate_41
    · have hw := hw.2 c_2
      refine at_aload_n C dX2_onPlate_18 rfl rfl ?_
      refine at_getr (j := 2) (r := (b + 3)) C (gSt_k0 hb) (layX_0 hb) rfl in_X2 (Nat.le_of_ble_eq_true rfl) rfl q127 dX2_onPlate_19 ?_
      refine at_iload_n C dX2_onPlate_22 rfl rfl ?_
      refine at_iald C (gSt_k3 hb) (layX_3 hb) hw.1 rfl dX2_onPlate_23 ?_
      have hw := hw.2
      refine at_iload_n C dX2_onPlate_24 rfl rfl ?_
      refine at_icmp_ne (tgt := 32) C dX2_onPlate_25 (by decide) (fun c_3 => ?_) (fun c_3 => ?_)
      · have hw := hw.1 c_3
        refine at_iload_n C dX2_onPlate_32 rfl rfl ?_
        exact at_sub (lv_pickm [0, 1, 3] rfl) (tX2_onPlate_33 C hb ih hw)
      · have hw := hw.2 c_3
        refine at_iload_n C dX2_onPlate_28 rfl rfl ?_
        refine at_goto (tgt := 33) C dX2_onPlate_29 (by decide) ?_
        exact at_sub (lv_pickm [0, 1, 3] rfl) (tX2_onPlate_33 C hb ih hw)
set_option maxHeartbeats 4000000 in
theorem metX2_onPlate   (l : Launch) (D : va_G) (dA : Nat → ClassId) (ad : Nat → Nat)  {b : Nat} (hb : gSt b) {x1 : Int32} {w : GW} {Q : Int32 → Prop} (hw : PX2_onPlate b x1 w Q) : Met l yX2_onPlate (ws_ yX2_onPlate cX2_onPlate 4 (some .int)) (gR 1) (va_Pc [.ref (ad b), .int x1] (gB D dA 137 ad layX w)) (va_Qi (gQ1 Q w) (gZ D dA 137 ad layX) (gA 137 ad)) 0 0 (gA 137 ad) := by
  refine gm_of (L := [(0, .ref (ad b)), (1, .int x1)]) (own := RX2) (by decide +kernel) rfl (Nat.le_of_ble_eq_true rfl) rfl rfl (fun p e s m below meth c C => ?_)
  unfold PX2_onPlate at hw
  refine at_iconst C dX2_onPlate_0 ic_m1 ?_
  refine at_istore_n (L' := [(0, .ref (ad b)), (1, .int x1), (2, .int (-1))]) C dX2_onPlate_1 rfl (Nat.le_of_ble_eq_true rfl) rfl ?_
  refine at_iconst C dX2_onPlate_2 ic_0 ?_
  refine at_istore_n (L' := [(0, .ref (ad b)), (1, .int x1), (2, .int (-1)), (3, .int 0)]) C dX2_onPlate_3 rfl (Nat.le_of_ble_eq_true rfl) rfl ?_
  obtain ⟨n_4, hw⟩ := hw
  exact (tX2_onPlate_4 C hb _ _ _ hw)
set_option maxHeartbeats 4000000 in
theorem metX0_has {N : Nat} {lay : Nat → gD}  (l : Launch) (D : va_G) (dA : Nat → ClassId) (ad : Nat → Nat)    {x0 : Int32} {x1 : Int32} {w : GW} {Q : Int32 → Prop} (hw : PX0_has x0 x1 Q) : Met l yX0_has (ws_ yX0_has cX0_has 2 (some .boolean)) (gR 1) (va_Pc [.int x0, .int x1] (gB D dA N ad lay w)) (va_Qi (gQ1 Q w) (gZ D dA N ad lay) (gA N ad)) 0 0 (gA N ad) := by
  refine gm_of (L := [(0, .int x0), (1, .int x1)]) (own := RX0) (by decide +kernel) rfl (Nat.le_of_ble_eq_true rfl) rfl rfl (fun p e s m below meth c C => ?_)
  unfold PX0_has at hw
  refine at_iload_n C dX0_has_0 rfl rfl ?_
  refine at_iload_n C dX0_has_1 rfl rfl ?_
  refine at_ishr C dX0_has_2 ?_
  refine at_iconst C dX0_has_3 ic_1 ?_
  refine at_iand C dX0_has_4 ?_
  refine at_iconst C dX0_has_5 ic_1 ?_
  refine at_icmp_ne (tgt := 13) C dX0_has_6 (by decide) (fun c_1 => ?_) (fun c_1 => ?_)
  · have hw := hw.1 c_1
    refine at_iconst C dX0_has_13 ic_0 ?_
    exact at_zret C rfl gBool_0 ⟨hw, rfl⟩ dX0_has_14
  · have hw := hw.2 c_1
    refine at_iconst C dX0_has_9 ic_1 ?_
    refine at_goto (tgt := 14) C dX0_has_10 (by decide) ?_
    exact at_zret C rfl gBool_1 ⟨hw, rfl⟩ dX0_has_14
set_option maxHeartbeats 4000000 in
theorem tX2_standingAt_20  {b : Nat}   {Q : Int32 → Prop} (C : Cx p s m args meth c D dA cX2_standingAt 5 (some .int) RX2) (hb : gSt b)   {s0 : Int32} {w : GW}  (hw : PX2_standingAt_20 b Q s0 w) : gAtX p l e s m args below meth c D dA ad 3 (va_Qi (gQ1 Q w) (gZ D dA 137 ad layX) (gA 137 ad)) 5 20 [(0, .ref (ad b))] [.int s0] w := by
  unfold PX2_standingAt_20 at hw
  refine at_istore (L' := [(0, .ref (ad b)), (4, .int s0)]) C dX2_standingAt_20 (Nat.le_of_ble_eq_true rfl) rfl ?_
  refine at_iload C dX2_standingAt_22 rfl ?_
  refine at_iconst C dX2_standingAt_24 ic_m1 ?_
  refine at_icmp_eq (tgt := 45) C dX2_standingAt_25 (by decide) (fun c_1 => ?_) (fun c_1 => ?_)
  · have hw := hw.1 c_1
    refine at_iconst C dX2_standingAt_45 ic_m1 ?_
    exact at_iret C rfl ⟨hw, rfl⟩ dX2_standingAt_46
  · have hw := hw.2 c_1
    refine at_aload_n C dX2_standingAt_28 rfl rfl ?_
    refine at_geti (j := 5) C (gSt_k0 hb) (layX_0 hb) rfl in_X2 (Nat.le_of_ble_eq_true rfl) rfl q133 dX2_standingAt_29 ?_
    refine at_iload C dX2_standingAt_32 rfl ?_
    refine at_callp (run_SN (rest := []) (As := [.int (w b 5), .int s0]) C (metX0_has l D dA ad  hw) q455 q457 q56 q456 dsX0_has (gR_ok (Nat.le_of_ble_eq_true rfl) (Nat.le_of_ble_eq_true rfl)) ⟨rfl, rfl⟩ ⟨(Nat.le_of_ble_eq_true rfl), (Nat.le_of_ble_eq_true rfl)⟩ rfl rfl (Nat.le_of_ble_eq_true rfl) dX2_standingAt_34) (fun r_2  hw => ?_)
    refine at_if_eq (tgt := 45) C dX2_standingAt_37 (by decide) (fun c_3 => ?_) (fun c_3 => ?_)
    · have hw := hw.1 c_3
      refine at_iconst C dX2_standingAt_45 ic_m1 ?_
      exact at_iret C rfl ⟨hw, rfl⟩ dX2_standingAt_46
    · have hw := hw.2 c_3
      refine at_iload C dX2_standingAt_40 rfl ?_
      refine at_goto (tgt := 46) C dX2_standingAt_42 (by decide) ?_
      exact at_iret C rfl ⟨hw, rfl⟩ dX2_standingAt_46
set_option maxHeartbeats 4000000 in
theorem metX2_standingAt   (l : Launch) (D : va_G) (dA : Nat → ClassId) (ad : Nat → Nat)  {b : Nat} (hb : gSt b) {x1 : Int32} {x2 : Int32} {w : GW} {Q : Int32 → Prop} (hw : PX2_standingAt b x1 x2 w Q) : Met l yX2_standingAt (ws_ yX2_standingAt cX2_standingAt 5 (some .int)) (gR 3) (va_Pc [.ref (ad b), .int x1, .int x2] (gB D dA 137 ad layX w)) (va_Qi (gQ1 Q w) (gZ D dA 137 ad layX) (gA 137 ad)) 0 0 (gA 137 ad) := by
  refine gm_of (L := [(0, .ref (ad b)), (1, .int x1), (2, .int x2)]) (own := RX2) (by decide +kernel) rfl (Nat.le_of_ble_eq_true rfl) rfl rfl (fun p e s m below meth c C => ?_)
  unfold PX2_standingAt at hw
  refine at_iload_n C dX2_standingAt_0 rfl rfl ?_
  refine at_iload_n C dX2_standingAt_1 rfl rfl ?_
  refine at_callp (run_SN (rest := []) (As := [.int x1, .int x2]) C (metX0_plateAt l D dA ad  hw) q442 q444 q56 q443 dsX0_plateAt (gR_ok (Nat.le_of_ble_eq_true rfl) (Nat.le_of_ble_eq_true rfl)) ⟨rfl, rfl⟩ ⟨(Nat.le_of_ble_eq_true rfl), (Nat.le_of_ble_eq_true rfl)⟩ rfl rfl (Nat.le_of_ble_eq_true rfl) dX2_standingAt_2) (fun r_4  hw => ?_)
  refine at_istore_n (L' := [(0, .ref (ad b)), (1, .int x1), (2, .int x2), (3, .int r_4)]) C dX2_standingAt_5 rfl (Nat.le_of_ble_eq_true rfl) rfl ?_
  refine at_iload_n C dX2_standingAt_6 rfl rfl ?_
  refine at_iconst C dX2_standingAt_7 ic_m1 ?_
  refine at_icmp_ne (tgt := 15) C dX2_standingAt_8 (by decide) (fun c_5 => ?_) (fun c_5 => ?_)
  · have hw := hw.1 c_5
    refine at_aload_n C dX2_standingAt_15 rfl rfl ?_
    refine at_iload_n C dX2_standingAt_16 rfl rfl ?_
    refine at_callp (run_V (rest := []) (As := [.int r_4]) C (metX2_onPlate l D dA ad hb hw) (lw_V q451 q452 q453 q58 q454) dsX2_onPlate (gR_ok (Nat.le_of_ble_eq_true rfl) (Nat.le_of_ble_eq_true rfl)) ⟨rfl, rfl⟩ ⟨(Nat.le_of_ble_eq_true rfl), (Nat.le_of_ble_eq_true rfl)⟩ (gSt_k0 hb) (layX_0 hb) rfl rfl rfl (Nat.le_of_ble_eq_true rfl) dX2_standingAt_17) (fun r_6  hw => ?_)
    exact at_sub (lv_pickm [0] rfl) (tX2_standingAt_20 C hb hw)
  · have hw := hw.2 c_5
    refine at_iconst C dX2_standingAt_11 ic_m1 ?_
    refine at_goto (tgt := 20) C dX2_standingAt_12 (by decide) ?_
    exact at_sub (lv_pickm [0] rfl) (tX2_standingAt_20 C hb hw)
set_option maxHeartbeats 4000000 in
theorem metX2_bears   (l : Launch) (D : va_G) (dA : Nat → ClassId) (ad : Nat → Nat)  {b : Nat} (hb : gSt b) {x1 : Int32} {w : GW} {Q : Int32 → Prop} (hw : PX2_bears b x1 w Q) : Met l yX2_bears (ws_ yX2_bears cX2_bears 3 (some .int)) (gR 4) (va_Pc [.ref (ad b), .int x1] (gB D dA 137 ad layX w)) (va_Qi (gQ1 Q w) (gZ D dA 137 ad layX) (gA 137 ad)) 0 0 (gA 137 ad) := by
  refine gm_of (L := [(0, .ref (ad b)), (1, .int x1)]) (own := RX2) (by decide +kernel) rfl (Nat.le_of_ble_eq_true rfl) rfl rfl (fun p e s m below meth c C => ?_)
  unfold PX2_bears at hw
  refine at_aload_n C dX2_bears_0 rfl rfl ?_
  refine at_getr (j := 12) (r := 0) C (gSt_k0 hb) (layX_0 hb) rfl in_X2 (Nat.le_of_ble_eq_true rfl) rfl q146 dX2_bears_1 ?_
  refine at_getrN (j := 0) (r := 1) C (Nat.le_of_ble_eq_true rfl) rfl rfl in_X0 (Nat.le_of_ble_eq_true rfl) rfl q214 dX2_bears_4 ?_
  refine at_aload_n C dX2_bears_7 rfl rfl ?_
  refine at_getr (j := 0) (r := (b + 1)) C (gSt_k0 hb) (layX_0 hb) rfl in_X2 (Nat.le_of_ble_eq_true rfl) rfl q123 dX2_bears_8 ?_
  refine at_iload_n C dX2_bears_11 rfl rfl ?_
  refine at_iald C (gSt_k1 hb) (layX_1 hb) hw.1 rfl dX2_bears_12 ?_
  have hw := hw.2
  have hk_1 := hw.1
  have hw := hw.2
  refine at_aldq (r := gKi (w (b + 1) (x1).toNatClampNeg)) C (Nat.le_of_ble_eq_true rfl) rfl rfl hk_1 (gKi_ok hk_1) dX2_bears_13 ?_
  refine at_aload_n C dX2_bears_14 rfl rfl ?_
  refine at_getr (j := 12) (r := 0) C (gSt_k0 hb) (layX_0 hb) rfl in_X2 (Nat.le_of_ble_eq_true rfl) rfl q146 dX2_bears_15 ?_
  refine at_getrN (j := 1) (r := 2) C (Nat.le_of_ble_eq_true rfl) rfl rfl in_X0 (Nat.le_of_ble_eq_true rfl) rfl q216 dX2_bears_18 ?_
  refine at_getrN (j := 2) (r := 4) C (Nat.le_of_ble_eq_true rfl) rfl rfl in_X1 (Nat.le_of_ble_eq_true rfl) rfl q96 dX2_bears_21 ?_
  refine at_iload_n C dX2_bears_24 rfl rfl ?_
  refine at_iald C (Nat.le_of_ble_eq_true rfl) rfl hw.1 rfl dX2_bears_25 ?_
  have hw := hw.2
  refine at_aload_n C dX2_bears_26 rfl rfl ?_
  refine at_getr (j := 1) (r := (b + 2)) C (gSt_k0 hb) (layX_0 hb) rfl in_X2 (Nat.le_of_ble_eq_true rfl) rfl q125 dX2_bears_27 ?_
  refine at_iload_n C dX2_bears_30 rfl rfl ?_
  refine at_iald C (gSt_k2 hb) (layX_2 hb) hw.1 rfl dX2_bears_31 ?_
  have hw := hw.2
  refine at_aload_n C dX2_bears_32 rfl rfl ?_
  refine at_getr (j := 2) (r := (b + 3)) C (gSt_k0 hb) (layX_0 hb) rfl in_X2 (Nat.le_of_ble_eq_true rfl) rfl q127 dX2_bears_33 ?_
  refine at_iload_n C dX2_bears_36 rfl rfl ?_
  refine at_iald C (gSt_k3 hb) (layX_3 hb) hw.1 rfl dX2_bears_37 ?_
  have hw := hw.2
  refine at_callp (run_SN (rest := [.int (w (b + 2) (x1).toNatClampNeg), .int (w 4 (x1).toNatClampNeg), .ref (ad (gKi (w (b + 1) (x1).toNatClampNeg)))]) (As := [.int (w (b + 3) (x1).toNatClampNeg)]) C (metX0_rowOf l D dA ad  hw) q466 q447 q56 q446 dsX0_rowOf (gR_ok (Nat.le_of_ble_eq_true rfl) (Nat.le_of_ble_eq_true rfl)) ⟨rfl, rfl⟩ ⟨(Nat.le_of_ble_eq_true rfl), (Nat.le_of_ble_eq_true rfl)⟩ rfl rfl (Nat.le_of_ble_eq_true rfl) dX2_bears_38) (fun r_2  hw => ?_)
  refine at_callp (run_K l C hk_1 hw dX2_bears_41 rfl (Nat.le_of_ble_eq_true rfl) (Nat.le_of_ble_eq_true rfl)) (fun r_3 hw => ?_)
  refine at_istore_n (L' := [(0, .ref (ad b)), (1, .int x1), (2, .int r_3)]) C dX2_bears_44 rfl (Nat.le_of_ble_eq_true rfl) rfl ?_
  refine at_iconst C dX2_bears_45 ic_1 ?_
  refine at_iload_n C dX2_bears_46 rfl rfl ?_
  refine at_mmax C q484 q485 q70 q486 (Nat.le_of_ble_eq_true rfl) (Nat.le_of_ble_eq_true rfl) (Nat.le_of_ble_eq_true rfl) (Nat.le_of_ble_eq_true rfl) (Nat.le_of_ble_eq_true rfl) dX2_bears_47 ?_
  exact at_iret C rfl ⟨hw, rfl⟩ dX2_bears_50
set_option maxHeartbeats 4000000 in
theorem metX2_strike  (Rec : Nat → Int32 → Int32 → Int32 → GW → (Int32 → GW → Prop) → Prop) (rk : Nat) (l : Launch) (D : va_G) (dA : Nat → ClassId) (ad : Nat → Nat) (hrk : 10 ≤ rk) (hRec : ∀ (b : Nat) (x1 : Int32) (x2 : Int32) (x3 : Int32) (w : GW) (Q : Int32 → GW → Prop), gSt b → Rec b x1 x2 x3 w Q → Met l yX2_hit (ws_ yX2_hit cX2_hit 5 (some .boolean)) (gR rk) (va_Pc [.ref (ad b), .int x1, .int x2, .int x3] (gB D dA 137 ad layX w)) (va_Qi Q (gZ D dA 137 ad layX) (gA 137 ad)) 0 0 (gA 137 ad)) {b : Nat} (hb : gSt b) {x1 : Int32} {x2 : Int32} {x3 : Int32} {w : GW} {Q : GW → Prop} (hw : PX2_strike Rec b x1 x2 x3 w Q) : Met l yX2_strike (ws_ yX2_strike cX2_strike 6 none) (gR (rk + 1)) (va_Pc [.ref (ad b), .int x1, .int x2, .int x3] (gB D dA 137 ad layX w)) (va_Qv Q (gZ D dA 137 ad layX) (gA 137 ad)) 0 0 (gA 137 ad) := by
  refine gm_of (L := [(0, .ref (ad b)), (1, .int x1), (2, .int x2), (3, .int x3)]) (own := RX2) (by decide +kernel) rfl (Nat.le_of_ble_eq_true rfl) rfl rfl (fun p e s m below meth c C => ?_)
  unfold PX2_strike at hw
  refine at_aload_n C dX2_strike_0 rfl rfl ?_
  refine at_aload_n C dX2_strike_1 rfl rfl ?_
  refine at_getr (j := 2) (r := (b + 3)) C (gSt_k0 hb) (layX_0 hb) rfl in_X2 (Nat.le_of_ble_eq_true rfl) rfl q127 dX2_strike_2 ?_
  refine at_iload_n C dX2_strike_5 rfl rfl ?_
  refine at_iald C (gSt_k3 hb) (layX_3 hb) hw.1 rfl dX2_strike_6 ?_
  have hw := hw.2
  refine at_callp (run_SN (rest := [.ref (ad b)]) (As := [.int (w (b + 3) (x1).toNatClampNeg)]) C (metX0_rowOf l D dA ad  hw) q466 q447 q56 q446 dsX0_rowOf (gR_ok (by omega) (Nat.le_of_ble_eq_true rfl)) ⟨rfl, rfl⟩ ⟨(Nat.le_of_ble_eq_true rfl), (Nat.le_of_ble_eq_true rfl)⟩ rfl rfl (Nat.le_of_ble_eq_true rfl) dX2_strike_7) (fun r_1  hw => ?_)
  refine at_iconst C dX2_strike_10 ic_1 ?_
  refine at_iadd C dX2_strike_11 ?_
  refine at_aload_n C dX2_strike_12 rfl rfl ?_
  refine at_getr (j := 2) (r := (b + 3)) C (gSt_k0 hb) (layX_0 hb) rfl in_X2 (Nat.le_of_ble_eq_true rfl) rfl q127 dX2_strike_13 ?_
  refine at_iload_n C dX2_strike_16 rfl rfl ?_
  refine at_iald C (gSt_k3 hb) (layX_3 hb) hw.1 rfl dX2_strike_17 ?_
  have hw := hw.2
  refine at_callp (run_SN (rest := [.int (r_1 + 1), .ref (ad b)]) (As := [.int (w (b + 3) (x1).toNatClampNeg)]) C (metX0_columnOf l D dA ad  hw) q491 q450 q56 q449 dsX0_columnOf (gR_ok (by omega) (Nat.le_of_ble_eq_true rfl)) ⟨rfl, rfl⟩ ⟨(Nat.le_of_ble_eq_true rfl), (Nat.le_of_ble_eq_true rfl)⟩ rfl rfl (Nat.le_of_ble_eq_true rfl) dX2_strike_18) (fun r_2  hw => ?_)
  refine at_iload_n C dX2_strike_21 rfl rfl ?_
  refine at_iadd C dX2_strike_22 ?_
  refine at_callp (run_V (rest := []) (As := [.int (r_1 + 1), .int (r_2 + x3)]) C (metX2_standingAt l D dA ad hb hw) (lw_V q438 q440 qs11 q58 q441) dsX2_standingAt (gR_ok (by omega) (Nat.le_of_ble_eq_true rfl)) ⟨rfl, rfl⟩ ⟨(Nat.le_of_ble_eq_true rfl), (Nat.le_of_ble_eq_true rfl)⟩ (gSt_k0 hb) (layX_0 hb) rfl rfl rfl (Nat.le_of_ble_eq_true rfl) dX2_strike_23) (fun r_3  hw => ?_)
  refine at_istore (L' := [(0, .ref (ad b)), (1, .int x1), (2, .int x2), (3, .int x3), (4, .int r_3)]) C dX2_strike_26 (Nat.le_of_ble_eq_true rfl) rfl ?_
  refine at_iload C dX2_strike_28 rfl ?_
  refine at_iconst C dX2_strike_30 ic_m1 ?_
  refine at_icmp_eq (tgt := 48) C dX2_strike_31 (by decide) (fun c_4 => ?_) (fun c_4 => ?_)
  · have hw := hw.1 c_4
    exact at_vret C rfl hw dX2_strike_48
  · have hw := hw.2 c_4
    refine at_iload_n C dX2_strike_34 rfl rfl ?_
    refine at_if_le (tgt := 48) C dX2_strike_35 (by decide) (fun c_5 => ?_) (fun c_5 => ?_)
    · have hw := hw.1 c_5
      exact at_vret C rfl hw dX2_strike_48
    · have hw := hw.2 c_5
      refine at_aload_n C dX2_strike_38 rfl rfl ?_
      refine at_iload C dX2_strike_39 rfl ?_
      refine at_iload_n C dX2_strike_41 rfl rfl ?_
      refine at_iload_n C dX2_strike_42 rfl rfl ?_
      refine at_calli (run_V (rest := []) (As := [.int r_3, .int x2, .int x1]) C (hRec _ _ _ _ _ _ hb hw) (lw_V q458 q460 qs12 q58 q461) dsX2_hit (gR_ok (by omega) (Nat.le_of_ble_eq_true rfl)) ⟨rfl, rfl⟩ ⟨(Nat.le_of_ble_eq_true rfl), (Nat.le_of_ble_eq_true rfl)⟩ (gSt_k0 hb) (layX_0 hb) rfl rfl rfl (Nat.le_of_ble_eq_true rfl) dX2_strike_43) (fun r_6 w_7 hw => ?_)
      refine at_istore (L' := [(0, .ref (ad b)), (1, .int x1), (2, .int x2), (3, .int x3), (4, .int r_3), (5, .int r_6)]) C dX2_strike_46 (Nat.le_of_ble_eq_true rfl) rfl ?_
      exact at_vret C rfl hw dX2_strike_48
set_option maxHeartbeats 4000000 in
theorem tX2_hit_14  {b : Nat} {Rec : Nat → Int32 → Int32 → Int32 → GW → (Int32 → GW → Prop) → Prop} {rk : Nat}  {Q : Int32 → GW → Prop} (C : Cx p s m args meth c D dA cX2_hit 5 (some .boolean) RX2) (hb : gSt b) (hrk : 10 ≤ rk) (hRec : ∀ (b : Nat) (x1 : Int32) (x2 : Int32) (x3 : Int32) (w : GW) (Q : Int32 → GW → Prop), gSt b → Rec b x1 x2 x3 w Q → Met l yX2_hit (ws_ yX2_hit cX2_hit 5 (some .boolean)) (gR rk) (va_Pc [.ref (ad b), .int x1, .int x2, .int x3] (gB D dA 137 ad layX w)) (va_Qi Q (gZ D dA 137 ad layX) (gA 137 ad)) 0 0 (gA 137 ad))  {x1 : Int32} {x2 : Int32} {x3 : Int32} {s0 : Int32} {w : GW}  (hw : PX2_hit_14 b Rec Q x1 x2 x3 s0 w) : gAtX p l e s m args below meth c D dA ad (rk + 2) (va_Qi Q (gZ D dA 137 ad layX) (gA 137 ad)) 5 14 [(0, .ref (ad b)), (1, .int x1), (2, .int x2), (3, .int x3)] [.int s0] w := by
  unfold PX2_hit_14 at hw
  refine at_istore (L' := [(0, .ref (ad b)), (1, .int x1), (2, .int x2), (3, .int x3), (4, .int s0)]) C dX2_hit_14 (Nat.le_of_ble_eq_true rfl) rfl ?_
  refine at_iload C dX2_hit_16 rfl ?_
  refine at_if_eq (tgt := 63) C dX2_hit_18 (by decide) (fun c_1 => ?_) (fun c_1 => ?_)
  · have hw := hw.1 c_1
    refine at_aload_n C dX2_hit_63 rfl rfl ?_
    refine at_getr (j := 3) (r := (b + 4)) C (gSt_k0 hb) (layX_0 hb) rfl in_X2 (Nat.le_of_ble_eq_true rfl) rfl q129 dX2_hit_64 ?_
    refine at_iload_n C dX2_hit_67 rfl rfl ?_
    refine at_sipush C dX2_hit_68 sp_9999 ?_
    refine at_aload_n C dX2_hit_71 rfl rfl ?_
    refine at_getr (j := 3) (r := (b + 4)) C (gSt_k0 hb) (layX_0 hb) rfl in_X2 (Nat.le_of_ble_eq_true rfl) rfl q129 dX2_hit_72 ?_
    refine at_iload_n C dX2_hit_75 rfl rfl ?_
    refine at_iald C (gSt_k4 hb) (layX_4 hb) hw.1 rfl dX2_hit_76 ?_
    have hw := hw.2
    refine at_iconst C dX2_hit_77 ic_1 ?_
    refine at_iadd C dX2_hit_78 ?_
    refine at_mmin C q492 q389 q70 q390 (by show 1 ≤ (rk + 2); omega) (by show 23 ≤ 32 * (rk + 2); omega) (Nat.le_of_ble_eq_true rfl) (Nat.le_of_ble_eq_true rfl) (Nat.le_of_ble_eq_true rfl) dX2_hit_79 ?_
    refine at_iast C (gSt_k4 hb) (layX_4 hb) hw.1 rfl dX2_hit_82 (fun w_2 ew_2 => ?_)
    have hw := hw.2 w_2 ew_2
    refine at_aload_n C dX2_hit_83 rfl rfl ?_
    refine at_dup C dX2_hit_84 rfl ?_
    refine at_geti (j := 10) C (gSt_k0 hb) (layX_0 hb) rfl in_X2 (Nat.le_of_ble_eq_true rfl) rfl q142 dX2_hit_85 ?_
    refine at_iconst C dX2_hit_88 ic_1 ?_
    refine at_iadd C dX2_hit_89 ?_
    refine at_puti (j := 10) C (gSt_k0 hb) (layX_0 hb) rfl in_X2 (Nat.le_of_ble_eq_true rfl) rfl q142 tyX2 tyX2_ok nmX2 rfl rfl rfl dX2_hit_90 (fun w_3 ew_3 => ?_)
    have hw := hw w_3 ew_3
    refine at_iload C dX2_hit_93 rfl ?_
    exact at_zret C rfl hw.1 hw.2 dX2_hit_95
  · have hw := hw.2 c_1
    refine at_aload_n C dX2_hit_21 rfl rfl ?_
    refine at_dup C dX2_hit_22 rfl ?_
    refine at_geti (j := 5) C (gSt_k0 hb) (layX_0 hb) rfl in_X2 (Nat.le_of_ble_eq_true rfl) rfl q133 dX2_hit_23 ?_
    refine at_iconst C dX2_hit_26 ic_1 ?_
    refine at_iload_n C dX2_hit_27 rfl rfl ?_
    refine at_ishl C dX2_hit_28 ?_
    refine at_iconst C dX2_hit_29 ic_m1 ?_
    refine at_ixor C dX2_hit_30 ?_
    refine at_iand C dX2_hit_31 ?_
    refine at_puti (j := 5) C (gSt_k0 hb) (layX_0 hb) rfl in_X2 (Nat.le_of_ble_eq_true rfl) rfl q133 tyX2 tyX2_ok nmX2 rfl rfl rfl dX2_hit_32 (fun w_4 ew_4 => ?_)
    have hw := hw w_4 ew_4
    refine at_aload_n C dX2_hit_35 rfl rfl ?_
    refine at_getr (j := 4) (r := (b + 5)) C (gSt_k0 hb) (layX_0 hb) rfl in_X2 (Nat.le_of_ble_eq_true rfl) rfl q131 dX2_hit_36 ?_
    refine at_iload_n C dX2_hit_39 rfl rfl ?_
    refine at_iload_n C dX2_hit_40 rfl rfl ?_
    refine at_iast C (gSt_k5 hb) (layX_5 hb) hw.1 rfl dX2_hit_41 (fun w_5 ew_5 => ?_)
    have hw := hw.2 w_5 ew_5
    refine at_aload_n C dX2_hit_42 rfl rfl ?_
    refine at_iload_n C dX2_hit_43 rfl rfl ?_
    refine at_iload_n C dX2_hit_44 rfl rfl ?_
    refine at_iconst C dX2_hit_45 ic_2 ?_
    refine at_idiv C dX2_hit_46 nz_2 ?_
    refine at_iconst C dX2_hit_47 ic_m1 ?_
    refine at_callv (run_V (rest := []) (As := [.int x1, .int (x2 / 2), .int (-1)]) C (metX2_strike Rec rk l D dA ad hrk hRec hb hw) (lw_V q487 q489 qs13 q58 q490) dsX2_strike (gR_ok (by omega) (Nat.le_of_ble_eq_true rfl)) ⟨rfl, rfl⟩ ⟨(Nat.le_of_ble_eq_true rfl), (Nat.le_of_ble_eq_true rfl)⟩ (gSt_k0 hb) (layX_0 hb) rfl rfl rfl (Nat.le_of_ble_eq_true rfl) dX2_hit_48) (fun  w_7 hw => ?_)
    refine at_aload_n C dX2_hit_51 rfl rfl ?_
    refine at_iload_n C dX2_hit_52 rfl rfl ?_
    refine at_iload_n C dX2_hit_53 rfl rfl ?_
    refine at_iconst C dX2_hit_54 ic_2 ?_
    refine at_idiv C dX2_hit_55 nz_2 ?_
    refine at_iconst C dX2_hit_56 ic_1 ?_
    refine at_callv (run_V (rest := []) (As := [.int x1, .int (x2 / 2), .int 1]) C (metX2_strike Rec rk l D dA ad hrk hRec hb hw) (lw_V q487 q489 qs13 q58 q490) dsX2_strike (gR_ok (by omega) (Nat.le_of_ble_eq_true rfl)) ⟨rfl, rfl⟩ ⟨(Nat.le_of_ble_eq_true rfl), (Nat.le_of_ble_eq_true rfl)⟩ (gSt_k0 hb) (layX_0 hb) rfl rfl rfl (Nat.le_of_ble_eq_true rfl) dX2_hit_57) (fun  w_9 hw => ?_)
    refine at_goto (tgt := 93) C dX2_hit_60 (by decide) ?_
    refine at_iload C dX2_hit_93 rfl ?_
    exact at_zret C rfl hw.1 hw.2 dX2_hit_95
set_option maxHeartbeats 4000000 in
theorem metX2_hit_body  (Rec : Nat → Int32 → Int32 → Int32 → GW → (Int32 → GW → Prop) → Prop) (rk : Nat) (l : Launch) (D : va_G) (dA : Nat → ClassId) (ad : Nat → Nat) (hrk : 10 ≤ rk) (hRec : ∀ (b : Nat) (x1 : Int32) (x2 : Int32) (x3 : Int32) (w : GW) (Q : Int32 → GW → Prop), gSt b → Rec b x1 x2 x3 w Q → Met l yX2_hit (ws_ yX2_hit cX2_hit 5 (some .boolean)) (gR rk) (va_Pc [.ref (ad b), .int x1, .int x2, .int x3] (gB D dA 137 ad layX w)) (va_Qi Q (gZ D dA 137 ad layX) (gA 137 ad)) 0 0 (gA 137 ad)) {b : Nat} (hb : gSt b) {x1 : Int32} {x2 : Int32} {x3 : Int32} {w : GW} {Q : Int32 → GW → Prop} (hw : PX2_hit_body Rec b x1 x2 x3 w Q) : Met l yX2_hit (ws_ yX2_hit cX2_hit 5 (some .boolean)) (gR (rk + 2)) (va_Pc [.ref (ad b), .int x1, .int x2, .int x3] (gB D dA 137 ad layX w)) (va_Qi Q (gZ D dA 137 ad layX) (gA 137 ad)) 0 0 (gA 137 ad) := by
  refine gm_of (L := [(0, .ref (ad b)), (1, .int x1), (2, .int x2), (3, .int x3)]) (own := RX2) (by decide +kernel) rfl (Nat.le_of_ble_eq_true rfl) rfl rfl (fun p e s m below meth c C => ?_)
  unfold PX2_hit_body at hw
  refine at_iload_n C dX2_hit_0 rfl rfl ?_
  refine at_aload_n C dX2_hit_1 rfl rfl ?_
  refine at_iload_n C dX2_hit_2 rfl rfl ?_
  refine at_callp (run_V (rest := [.int x2]) (As := [.int x1]) C (metX2_bears l D dA ad hb hw) (lw_V q462 q463 q464 q58 q465) dsX2_bears (gR_ok (by omega) (Nat.le_of_ble_eq_true rfl)) ⟨rfl, rfl⟩ ⟨(Nat.le_of_ble_eq_true rfl), (Nat.le_of_ble_eq_true rfl)⟩ (gSt_k0 hb) (layX_0 hb) rfl rfl rfl (Nat.le_of_ble_eq_true rfl) dX2_hit_3) (fun r_10  hw => ?_)
  refine at_icmp_lt (tgt := 13) C dX2_hit_6 (by decide) (fun c_11 => ?_) (fun c_11 => ?_)
  · have hw := hw.1 c_11
    refine at_iconst C dX2_hit_13 ic_0 ?_
    exact (tX2_hit_14 C hb hrk hRec hw)
  · have hw := hw.2 c_11
    refine at_iconst C dX2_hit_9 ic_1 ?_
    refine at_goto (tgt := 14) C dX2_hit_10 (by decide) ?_
    exact (tX2_hit_14 C hb hrk hRec hw)
theorem metX2_hit_all (l : Launch) (D : va_G) (dA : Nat → ClassId) (ad : Nat → Nat) : ∀ (d : Nat) (b : Nat) (x1 : Int32) (x2 : Int32) (x3 : Int32) (w : GW) (Q : Int32 → GW → Prop), gSt b → PX2_hit d b x1 x2 x3 w Q → Met l yX2_hit (ws_ yX2_hit cX2_hit 5 (some .boolean)) (gR (10 + 2 * d)) (va_Pc [.ref (ad b), .int x1, .int x2, .int x3] (gB D dA 137 ad layX w)) (va_Qi Q (gZ D dA 137 ad layX) (gA 137 ad)) 0 0 (gA 137 ad) := by
  intro d
  induction d with
  | zero => intro b x1 x2 x3 w Q hb hw; exact False.elim hw
  | succ d ih =>
    intro b x1 x2 x3 w Q hb hw
    exact metX2_hit_body (PX2_hit d) (10 + 2 * d) l D dA ad (by omega) ih hb hw
theorem metX2_hit (d : Nat) (l : Launch) (D : va_G) (dA : Nat → ClassId) (ad : Nat → Nat) {b : Nat} (hb : gSt b) {x1 : Int32} {x2 : Int32} {x3 : Int32} {w : GW} {Q : Int32 → GW → Prop} (hw : PX2_hit d b x1 x2 x3 w Q) : Met l yX2_hit (ws_ yX2_hit cX2_hit 5 (some .boolean)) (gR (10 + 2 * d)) (va_Pc [.ref (ad b), .int x1, .int x2, .int x3] (gB D dA 137 ad layX w)) (va_Qi Q (gZ D dA 137 ad layX) (gA 137 ad)) 0 0 (gA 137 ad) := metX2_hit_all l D dA ad d _ _ _ _ _ _ hb hw
set_option maxHeartbeats 4000000 in
theorem tX2_roll_145  {b : Nat}   {Q : Int32 → GW → Prop} (C : Cx p s m args meth c D dA cX2_roll 9 (some .int) RX2) (hb : gSt b)   {x4 : Int32} {w : GW}  (hw : PX2_roll_145 b Q x4 w) : gAtX p l e s m args below meth c D dA ad 23 (va_Qi Q (gZ D dA 137 ad layX) (gA 137 ad)) 9 145 [(0, .ref (ad b)), (4, .int x4)] [] w := by
  unfold PX2_roll_145 at hw
  refine at_iload C dX2_roll_145 rfl ?_
  refine at_aload_n C dX2_roll_147 rfl rfl ?_
  refine at_geti (j := 5) C (gSt_k0 hb) (layX_0 hb) rfl in_X2 (Nat.le_of_ble_eq_true rfl) rfl q133 dX2_roll_148 ?_
  refine at_iconst C dX2_roll_151 ic_m1 ?_
  refine at_ixor C dX2_roll_152 ?_
  refine at_iand C dX2_roll_153 ?_
  exact at_iret C rfl hw dX2_roll_154
set_option maxHeartbeats 4000000 in
theorem tX2_roll_136  {b : Nat}  {K22 : Int32 → Int32 → GW → Prop} {Q : Int32 → GW → Prop} (C : Cx p s m args meth c D dA cX2_roll 9 (some .int) RX2) (hb : gSt b)   {x1 : Int32} {x2 : Int32} {x4 : Int32} {x5 : Int32} {x6 : Int32} {s1 : Int32} {w : GW} (hK22 : ∀ (x5 : Int32) (x6 : Int32) (w : GW), K22 x5 x6 w → gAtX p l e s m args below meth c D dA ad 23 (va_Qi Q (gZ D dA 137 ad layX) (gA 137 ad)) 9 22 [(0, .ref (ad b)), (1, .int x1), (2, .int x2), (4, .int x4), (5, .int x5), (6, .int x6)] [] w) (hw : PX2_roll_136 b K22 Q x1 x2 x4 x5 x6 s1 w) : gAtX p l e s m args below meth c D dA ad 23 (va_Qi Q (gZ D dA 137 ad layX) (gA 137 ad)) 9 136 [(0, .ref (ad b)), (1, .int x1), (2, .int x2), (4, .int x4), (5, .int x5), (6, .int x6)] [.int s1, .ref (ad b)] w := by
  unfold PX2_roll_136 at hw
  refine at_puti (j := 11) C (gSt_k0 hb) (layX_0 hb) rfl in_X2 (Nat.le_of_ble_eq_true rfl) rfl q144 tyX2 tyX2_ok nmX2 rfl rfl rfl dX2_roll_136 (fun w_1 ew_1 => ?_)
  have hw := hw w_1 ew_1
  refine at_iinc (F := fun z_ => [(0, .ref (ad b)), (1, .int x1), (2, .int x2), (4, .int x4), (5, .int x5), (6, .int z_)]) C dX2_roll_139 rfl ic_1 (Nat.le_of_ble_eq_true rfl) (fun _ => rfl) (fun v6_2 e6_2 => ?_)
  have hw := hw v6_2 e6_2
  refine at_goto (tgt := 22) C dX2_roll_142 (by decide) ?_
  exact hK22 _ _ _ hw
set_option maxHeartbeats 4000000 in
theorem tX2_roll_130  {b : Nat}  {K22 : Int32 → Int32 → GW → Prop} {Q : Int32 → GW → Prop} (C : Cx p s m args meth c D dA cX2_roll 9 (some .int) RX2) (hb : gSt b)   {x1 : Int32} {x2 : Int32} {x4 : Int32} {x5 : Int32} {x6 : Int32} {w : GW} (hK22 : ∀ (x5 : Int32) (x6 : Int32) (w : GW), K22 x5 x6 w → gAtX p l e s m args below meth c D dA ad 23 (va_Qi Q (gZ D dA 137 ad layX) (gA 137 ad)) 9 22 [(0, .ref (ad b)), (1, .int x1), (2, .int x2), (4, .int x4), (5, .int x5), (6, .int x6)] [] w) (hw : PX2_roll_130 b K22 Q x1 x2 x4 x5 x6 w) : gAtX p l e s m args below meth c D dA ad 23 (va_Qi Q (gZ D dA 137 ad layX) (gA 137 ad)) 9 130 [(0, .ref (ad b)), (1, .int x1), (2, .int x2), (4, .int x4), (5, .int x5), (6, .int x6)] [.ref (ad b)] w := by
  unfold PX2_roll_130 at hw
  refine at_iload C dX2_roll_130 rfl ?_
  refine at_goto (tgt := 136) C dX2_roll_132 (by decide) ?_
  exact (tX2_roll_136 C hb hK22 hw)
set_option maxHeartbeats 4000000 in
theorem tX2_roll_99  {b : Nat}  {K22 : Int32 → Int32 → GW → Prop} {Q : Int32 → GW → Prop} (C : Cx p s m args meth c D dA cX2_roll 9 (some .int) RX2) (hb : gSt b)   {x1 : Int32} {x2 : Int32} {x4 : Int32} {x6 : Int32} {x8 : Int32} {s0 : Int32} {s1 : Int32} {w : GW} (hK22 : ∀ (x5 : Int32) (x6 : Int32) (w : GW), K22 x5 x6 w → gAtX p l e s m args below meth c D dA ad 23 (va_Qi Q (gZ D dA 137 ad layX) (gA 137 ad)) 9 22 [(0, .ref (ad b)), (1, .int x1), (2, .int x2), (4, .int x4), (5, .int x5), (6, .int x6)] [] w) (hw : PX2_roll_99 b K22 Q x1 x2 x4 x6 x8 s0 s1 w) : gAtX p l e s m args below meth c D dA ad 23 (va_Qi Q (gZ D dA 137 ad layX) (gA 137 ad)) 9 99 [(0, .ref (ad b)), (1, .int x1), (2, .int x2), (4, .int x4), (6, .int x6), (8, .int x8)] [.int s1, .int s0] w := by
  unfold PX2_roll_99 at hw
  refine at_isub C dX2_roll_99 ?_
  refine at_topi (fun v5_3 e5_3 => ?_)
  have hw := hw v5_3 e5_3
  refine at_istore (L' := [(0, .ref (ad b)), (1, .int x1), (2, .int x2), (4, .int x4), (5, .int v5_3), (6, .int x6), (8, .int x8)]) C dX2_roll_100 (Nat.le_of_ble_eq_true rfl) rfl ?_
  refine at_iload C dX2_roll_102 rfl ?_
  refine at_aload_n C dX2_roll_104 rfl rfl ?_
  refine at_getr (j := 12) (r := 0) C (gSt_k0 hb) (layX_0 hb) rfl in_X2 (Nat.le_of_ble_eq_true rfl) rfl q146 dX2_roll_105 ?_
  refine at_getrN (j := 1) (r := 2) C (Nat.le_of_ble_eq_true rfl) rfl rfl in_X0 (Nat.le_of_ble_eq_true rfl) rfl q216 dX2_roll_108 ?_
  refine at_getiN (j := 0) C (Nat.le_of_ble_eq_true rfl) rfl rfl in_X1 (Nat.le_of_ble_eq_true rfl) rfl q90 dX2_roll_111 ?_
  refine at_iconst C dX2_roll_114 ic_3 ?_
  refine at_idiv C dX2_roll_115 nz_3 ?_
  refine at_isub C dX2_roll_116 ?_
  refine at_topi (fun v5_4 e5_4 => ?_)
  have hw := hw v5_4 e5_4
  refine at_istore (L' := [(0, .ref (ad b)), (1, .int x1), (2, .int x2), (4, .int x4), (5, .int v5_4), (6, .int x6), (8, .int x8)]) C dX2_roll_117 (Nat.le_of_ble_eq_true rfl) rfl ?_
  refine at_aload_n C dX2_roll_119 rfl rfl ?_
  refine at_iload C dX2_roll_120 rfl ?_
  refine at_if_eq (tgt := 130) C dX2_roll_122 (by decide) (fun c_5 => ?_) (fun c_5 => ?_)
  · have hw := hw.1 c_5
    exact at_sub (lv_pickm [0, 1, 2, 3, 4, 5] rfl) (tX2_roll_130 C hb hK22 hw)
  · have hw := hw.2 c_5
    refine at_iload C dX2_roll_125 rfl ?_
    refine at_if_gt (tgt := 135) C dX2_roll_127 (by decide) (fun c_6 => ?_) (fun c_6 => ?_)
    · have hw := hw.1 c_6
      refine at_iconst C dX2_roll_135 ic_m1 ?_
      exact at_sub (lv_pickm [0, 1, 2, 3, 4, 5] rfl) (tX2_roll_136 C hb hK22 hw)
    · have hw := hw.2 c_6
      exact at_sub (lv_pickm [0, 1, 2, 3, 4, 5] rfl) (tX2_roll_130 C hb hK22 hw)
set_option maxHeartbeats 4000000 in
theorem tX2_roll_75  {b : Nat}  {K22 : Int32 → Int32 → GW → Prop} {Q : Int32 → GW → Prop} (C : Cx p s m args meth c D dA cX2_roll 9 (some .int) RX2) (hb : gSt b)   {x1 : Int32} {x2 : Int32} {x4 : Int32} {x5 : Int32} {x6 : Int32} {x7 : Int32} {s0 : Int32} {w : GW} (hK22 : ∀ (x5 : Int32) (x6 : Int32) (w : GW), K22 x5 x6 w → gAtX p l e s m args below meth c D dA ad 23 (va_Qi Q (gZ D dA 137 ad layX) (gA 137 ad)) 9 22 [(0, .ref (ad b)), (1, .int x1), (2, .int x2), (4, .int x4), (5, .int x5), (6, .int x6)] [] w) (hw : PX2_roll_75 b K22 Q x1 x2 x4 x5 x6 x7 s0 w) : gAtX p l e s m args below meth c D dA ad 23 (va_Qi Q (gZ D dA 137 ad layX) (gA 137 ad)) 9 75 [(0, .ref (ad b)), (1, .int x1), (2, .int x2), (4, .int x4), (5, .int x5), (6, .int x6), (7, .int x7)] [.int s0] w := by
  unfold PX2_roll_75 at hw
  refine at_istore (L' := [(0, .ref (ad b)), (1, .int x1), (2, .int x2), (4, .int x4), (5, .int x5), (6, .int x6), (7, .int x7), (8, .int s0)]) C dX2_roll_75 (Nat.le_of_ble_eq_true rfl) rfl ?_
  refine at_iload C dX2_roll_77 rfl ?_
  refine at_iload C dX2_roll_79 rfl ?_
  refine at_iconst C dX2_roll_81 ic_m1 ?_
  refine at_icmp_ne (tgt := 89) C dX2_roll_82 (by decide) (fun c_7 => ?_) (fun c_7 => ?_)
  · have hw := hw.1 c_7
    refine at_aload_n C dX2_roll_89 rfl rfl ?_
    refine at_iload C dX2_roll_90 rfl ?_
    refine at_callp (run_V (rest := [.int x5]) (As := [.int x7]) C (metX2_bears l D dA ad hb hw) (lw_V q462 q463 q464 q58 q465) dsX2_bears (gR_ok (Nat.le_of_ble_eq_true rfl) (Nat.le_of_ble_eq_true rfl)) ⟨rfl, rfl⟩ ⟨(Nat.le_of_ble_eq_true rfl), (Nat.le_of_ble_eq_true rfl)⟩ (gSt_k0 hb) (layX_0 hb) rfl rfl rfl (Nat.le_of_ble_eq_true rfl) dX2_roll_92) (fun r_8  hw => ?_)
    refine at_iconst C dX2_roll_95 ic_2 ?_
    refine at_idiv C dX2_roll_96 nz_2 ?_
    refine at_iconst C dX2_roll_97 ic_1 ?_
    refine at_iadd C dX2_roll_98 ?_
    exact at_sub (lv_pickm [0, 1, 2, 3, 5, 7] rfl) (tX2_roll_99 C hb hK22 hw)
  · have hw := hw.2 c_7
    refine at_iconst C dX2_roll_85 ic_0 ?_
    refine at_goto (tgt := 99) C dX2_roll_86 (by decide) ?_
    exact at_sub (lv_pickm [0, 1, 2, 3, 5, 7] rfl) (tX2_roll_99 C hb hK22 hw)
set_option maxHeartbeats 4000000 in
theorem tX2_roll_70  {b : Nat}  {K22 : Int32 → Int32 → GW → Prop} {Q : Int32 → GW → Prop} (C : Cx p s m args meth c D dA cX2_roll 9 (some .int) RX2) (hb : gSt b)   {x1 : Int32} {x2 : Int32} {x4 : Int32} {x5 : Int32} {x6 : Int32} {x7 : Int32} {w : GW} (hK22 : ∀ (x5 : Int32) (x6 : Int32) (w : GW), K22 x5 x6 w → gAtX p l e s m args below meth c D dA ad 23 (va_Qi Q (gZ D dA 137 ad layX) (gA 137 ad)) 9 22 [(0, .ref (ad b)), (1, .int x1), (2, .int x2), (4, .int x4), (5, .int x5), (6, .int x6)] [] w) (hw : PX2_roll_70 b K22 Q x1 x2 x4 x5 x6 x7 w) : gAtX p l e s m args below meth c D dA ad 23 (va_Qi Q (gZ D dA 137 ad layX) (gA 137 ad)) 9 70 [(0, .ref (ad b)), (1, .int x1), (2, .int x2), (4, .int x4), (5, .int x5), (6, .int x6), (7, .int x7)] [] w := by
  unfold PX2_roll_70 at hw
  refine at_iconst C dX2_roll_70 ic_1 ?_
  refine at_goto (tgt := 75) C dX2_roll_71 (by decide) ?_
  exact (tX2_roll_75 C hb hK22 hw)
set_option maxHeartbeats 4000000 in
theorem tX2_roll_22  {b : Nat}   {Q : Int32 → GW → Prop} (C : Cx p s m args meth c D dA cX2_roll 9 (some .int) RX2) (hb : gSt b)   {x1 : Int32} {x2 : Int32} {x4 : Int32}   : ∀ (n : Nat) (x5 : Int32) (x6 : Int32) (w : GW), PX2_roll_22 b Q x1 x2 x4 n x5 x6 w → gAtX p l e s m args below meth c D dA ad 23 (va_Qi Q (gZ D dA 137 ad layX) (gA 137 ad)) 9 22 [(0, .ref (ad b)), (1, .int x1), (2, .int x2), (4, .int x4), (5, .int x5), (6, .int x6)] [] w := by
  intro n
  induction n with
  | zero => intro x5 x6 w hw; exact False.elim hw
  | succ n ih =>
    intro x5 x6 w hw
    unfold PX2_roll_22 at hw
    refine at_iload C dX2_roll_22 rfl ?_
    refine at_iconst C dX2_roll_24 ic_5 ?_
    refine at_icmp_ge (tgt := 145) C dX2_roll_25 (by decide) (fun c_9 => ?_) (fun c_9 => ?_)
    · have hw := hw.1 c_9
      exact at_sub (lv_pickm [0, 3] rfl) (tX2_roll_145 C hb hw)
    · have hw := hw.2 c_9
      refine at_aload_n C dX2_roll_28 rfl rfl ?_
      refine at_geti (j := 11) C (gSt_k0 hb) (layX_0 hb) rfl in_X2 (Nat.le_of_ble_eq_true rfl) rfl q144 dX2_roll_29 ?_
      refine at_iconst C dX2_roll_32 ic_m1 ?_
      refine at_icmp_ne (tgt := 145) C dX2_roll_33 (by decide) (fun c_10 => ?_) (fun c_10 => ?_)
      · have hw := hw.1 c_10
        exact at_sub (lv_pickm [0, 3] rfl) (tX2_roll_145 C hb hw)
      · have hw := hw.2 c_10
        refine at_aload_n C dX2_roll_36 rfl rfl ?_
        refine at_iload C dX2_roll_37 rfl ?_
        refine at_iload_n C dX2_roll_39 rfl rfl ?_
        refine at_iload_n C dX2_roll_40 rfl rfl ?_
        refine at_iconst C dX2_roll_41 ic_1 ?_
        refine at_isub C dX2_roll_42 ?_
        refine at_iload C dX2_roll_43 rfl ?_
        refine at_imul C dX2_roll_45 ?_
        refine at_iadd C dX2_roll_46 ?_
        refine at_callp (run_V (rest := []) (As := [.int x6, .int (x1 + ((x2 - 1) * x6))]) C (metX2_standingAt l D dA ad hb hw) (lw_V q438 q440 qs11 q58 q441) dsX2_standingAt (gR_ok (Nat.le_of_ble_eq_true rfl) (Nat.le_of_ble_eq_true rfl)) ⟨rfl, rfl⟩ ⟨(Nat.le_of_ble_eq_true rfl), (Nat.le_of_ble_eq_true rfl)⟩ (gSt_k0 hb) (layX_0 hb) rfl rfl rfl (Nat.le_of_ble_eq_true rfl) dX2_roll_47) (fun r_11  hw => ?_)
        refine at_istore (L' := [(0, .ref (ad b)), (1, .int x1), (2, .int x2), (4, .int x4), (5, .int x5), (6, .int x6), (7, .int r_11)]) C dX2_roll_50 (Nat.le_of_ble_eq_true rfl) rfl ?_
        refine at_iload C dX2_roll_52 rfl ?_
        refine at_iconst C dX2_roll_54 ic_m1 ?_
        refine at_icmp_eq (tgt := 70) C dX2_roll_55 (by decide) (fun c_12 => ?_) (fun c_12 => ?_)
        · have hw := hw.1 c_12
          exact (tX2_roll_70 C hb ih hw)
        · have hw := hw.2 c_12
          refine at_aload_n C dX2_roll_58 rfl rfl ?_
          refine at_iload C dX2_roll_59 rfl ?_
          refine at_iload C dX2_roll_61 rfl ?_
          refine at_iconst C dX2_roll_63 ic_m1 ?_
          refine at_calli (run_V (rest := []) (As := [.int r_11, .int x5, .int (-1)]) C (metX2_hit 6 l D dA ad hb hw) (lw_V q458 q460 qs12 q58 q461) dsX2_hit (gR_ok (Nat.le_of_ble_eq_true rfl) (Nat.le_of_ble_eq_true rfl)) ⟨rfl, rfl⟩ ⟨(Nat.le_of_ble_eq_true rfl), (Nat.le_of_ble_eq_true rfl)⟩ (gSt_k0 hb) (layX_0 hb) rfl rfl rfl (Nat.le_of_ble_eq_true rfl) dX2_roll_64) (fun r_13 w_14 hw => ?_)
          refine at_if_eq (tgt := 74) C dX2_roll_67 (by decide) (fun c_15 => ?_) (fun c_15 => ?_)
          · have hw := hw.1 c_15
            refine at_iconst C dX2_roll_74 ic_0 ?_
            exact (tX2_roll_75 C hb ih hw)
          · have hw := hw.2 c_15
            exact (tX2_roll_70 C hb ih hw)
set_option maxHeartbeats 4000000 in
theorem metX2_roll   (l : Launch) (D : va_G) (dA : Nat → ClassId) (ad : Nat → Nat)  {b : Nat} (hb : gSt b) {x1 : Int32} {x2 : Int32} {x3 : Int32} {w : GW} {Q : Int32 → GW → Prop} (hw : PX2_roll b x1 x2 x3 w Q) : Met l yX2_roll (ws_ yX2_roll cX2_roll 9 (some .int)) (gR 23) (va_Pc [.ref (ad b), .int x1, .int x2, .int x3] (gB D dA 137 ad layX w)) (va_Qi Q (gZ D dA 137 ad layX) (gA 137 ad)) 0 0 (gA 137 ad) := by
  refine gm_of (L := [(0, .ref (ad b)), (1, .int x1), (2, .int x2), (3, .int x3)]) (own := RX2) (by decide +kernel) rfl (Nat.le_of_ble_eq_true rfl) rfl rfl (fun p e s m below meth c C => ?_)
  unfold PX2_roll at hw
  refine at_aload_n C dX2_roll_0 rfl rfl ?_
  refine at_geti (j := 5) C (gSt_k0 hb) (layX_0 hb) rfl in_X2 (Nat.le_of_ble_eq_true rfl) rfl q133 dX2_roll_1 ?_
  refine at_topi (fun v4_16 e4_16 => ?_)
  have hw := hw v4_16 e4_16
  refine at_istore (L' := [(0, .ref (ad b)), (1, .int x1), (2, .int x2), (3, .int x3), (4, .int v4_16)]) C dX2_roll_4 (Nat.le_of_ble_eq_true rfl) rfl ?_
  refine at_iload_n C dX2_roll_6 rfl rfl ?_
  refine at_istore (L' := [(0, .ref (ad b)), (1, .int x1), (2, .int x2), (3, .int x3), (4, .int v4_16), (5, .int x3)]) C dX2_roll_7 (Nat.le_of_ble_eq_true rfl) rfl ?_
  refine at_aload_n C dX2_roll_9 rfl rfl ?_
  refine at_iconst C dX2_roll_10 ic_0 ?_
  refine at_puti (j := 10) C (gSt_k0 hb) (layX_0 hb) rfl in_X2 (Nat.le_of_ble_eq_true rfl) rfl q142 tyX2 tyX2_ok nmX2 rfl rfl rfl dX2_roll_11 (fun w_17 ew_17 => ?_)
  have hw := hw w_17 ew_17
  refine at_aload_n C dX2_roll_14 rfl rfl ?_
  refine at_iconst C dX2_roll_15 ic_m1 ?_
  refine at_puti (j := 11) C (gSt_k0 hb) (layX_0 hb) rfl in_X2 (Nat.le_of_ble_eq_true rfl) rfl q144 tyX2 tyX2_ok nmX2 rfl rfl rfl dX2_roll_16 (fun w_18 ew_18 => ?_)
  have hw := hw w_18 ew_18
  refine at_iconst C dX2_roll_19 ic_0 ?_
  refine at_istore (L' := [(0, .ref (ad b)), (1, .int x1), (2, .int x2), (3, .int x3), (4, .int v4_16), (5, .int x3), (6, .int 0)]) C dX2_roll_20 (Nat.le_of_ble_eq_true rfl) rfl ?_
  obtain ⟨n_19, hw⟩ := hw
  exact at_sub (lv_pickm [0, 1, 2, 4, 5, 6] rfl) (tX2_roll_22 C hb _ _ _ _ hw)
set_option maxHeartbeats 4000000 in
theorem metX2_rollBall   (l : Launch) (D : va_G) (dA : Nat → ClassId) (ad : Nat → Nat)  {b : Nat} (hb : gSt b) {x1 : Int32} {w : GW} {Q : Int32 → GW → Prop} (hw : PX2_rollBall b x1 w Q) : Met l yX2_rollBall (ws_ yX2_rollBall cX2_rollBall 2 (some .int)) (gR 24) (va_Pc [.ref (ad b), .int x1] (gB D dA 137 ad layX w)) (va_Qi Q (gZ D dA 137 ad layX) (gA 137 ad)) 0 0 (gA 137 ad) := by
  refine gm_of (L := [(0, .ref (ad b)), (1, .int x1)]) (own := RX2) (by decide +kernel) rfl (Nat.le_of_ble_eq_true rfl) rfl rfl (fun p e s m below meth c C => ?_)
  unfold PX2_rollBall at hw
  refine at_aload_n C dX2_rollBall_0 rfl rfl ?_
  refine at_iload_n C dX2_rollBall_1 rfl rfl ?_
  refine at_sipush C dX2_rollBall_2 sp_1000 ?_
  refine at_idiv C dX2_rollBall_5 nz_1000 ?_
  refine at_iload_n C dX2_rollBall_6 rfl rfl ?_
  refine at_sipush C dX2_rollBall_7 sp_1000 ?_
  refine at_irem C dX2_rollBall_10 nz_1000 ?_
  refine at_bipush C dX2_rollBall_11 bp_100 ?_
  refine at_idiv C dX2_rollBall_13 nz_100 ?_
  refine at_iload_n C dX2_rollBall_14 rfl rfl ?_
  refine at_bipush C dX2_rollBall_15 bp_100 ?_
  refine at_irem C dX2_rollBall_17 nz_100 ?_
  refine at_calli (run_V (rest := []) (As := [.int (x1 / 1000), .int ((x1 - x1 / 1000 * 1000) / 100), .int (x1 - x1 / 100 * 100)]) C (metX2_roll l D dA ad hb hw) (lw_V q434 q435 q436 q58 q437) dsX2_roll (gR_ok (Nat.le_of_ble_eq_true rfl) (Nat.le_of_ble_eq_true rfl)) ⟨rfl, rfl⟩ ⟨(Nat.le_of_ble_eq_true rfl), (Nat.le_of_ble_eq_true rfl)⟩ (gSt_k0 hb) (layX_0 hb) rfl rfl rfl (Nat.le_of_ble_eq_true rfl) dX2_rollBall_18) (fun r_1 w_2 hw => ?_)
  exact at_iret C rfl hw dX2_rollBall_21
set_option maxHeartbeats 4000000 in
theorem tX2_throwBall_50  {b : Nat}   {Q : Int32 → GW → Prop} (C : Cx p s m args meth c D dA cX2_throwBall 6 (some .int) RX2) (hb : gSt b)   {x5 : Int32} {s1 : Int32} {s2 : Int32} {w : GW}  (hw : PX2_throwBall_50 b Q x5 s1 s2 w) : gAtX p l e s m args below meth c D dA ad 24 (va_Qi Q (gZ D dA 137 ad layX) (gA 137 ad)) 6 50 [(5, .int x5)] [.int s2, .int s1, .ref (ad b)] w := by
  unfold PX2_throwBall_50 at hw
  refine at_iadd C dX2_throwBall_50 ?_
  refine at_puti (j := 7) C (gSt_k0 hb) (layX_0 hb) rfl in_X2 (Nat.le_of_ble_eq_true rfl) rfl q137 tyX2 tyX2_ok nmX2 rfl rfl rfl dX2_throwBall_51 (fun w_1 ew_1 => ?_)
  have hw := hw w_1 ew_1
  refine at_iload C dX2_throwBall_54 rfl ?_
  exact at_iret C rfl hw dX2_throwBall_56
set_option maxHeartbeats 4000000 in
theorem tX2_throwBall_49  {b : Nat}   {Q : Int32 → GW → Prop} (C : Cx p s m args meth c D dA cX2_throwBall 6 (some .int) RX2) (hb : gSt b)   {x5 : Int32} {s1 : Int32} {w : GW}  (hw : PX2_throwBall_49 b Q x5 s1 w) : gAtX p l e s m args below meth c D dA ad 24 (va_Qi Q (gZ D dA 137 ad layX) (gA 137 ad)) 6 49 [(5, .int x5)] [.int s1, .ref (ad b)] w := by
  unfold PX2_throwBall_49 at hw
  refine at_iconst C dX2_throwBall_49 ic_0 ?_
  exact (tX2_throwBall_50 C hb hw)
set_option maxHeartbeats 4000000 in
theorem metX2_throwBall   (l : Launch) (D : va_G) (dA : Nat → ClassId) (ad : Nat → Nat)  {b : Nat} (hb : gSt b) {x1 : Int32} {x2 : Int32} {x3 : Int32} {w : GW} {Q : Int32 → GW → Prop} (hw : PX2_throwBall b x1 x2 x3 w Q) : Met l yX2_throwBall (ws_ yX2_throwBall cX2_throwBall 6 (some .int)) (gR 24) (va_Pc [.ref (ad b), .int x1, .int x2, .int x3] (gB D dA 137 ad layX w)) (va_Qi Q (gZ D dA 137 ad layX) (gA 137 ad)) 0 0 (gA 137 ad) := by
  refine gm_of (L := [(0, .ref (ad b)), (1, .int x1), (2, .int x2), (3, .int x3)]) (own := RX2) (by decide +kernel) rfl (Nat.le_of_ble_eq_true rfl) rfl rfl (fun p e s m below meth c C => ?_)
  unfold PX2_throwBall at hw
  refine at_aload_n C dX2_throwBall_0 rfl rfl ?_
  refine at_geti (j := 5) C (gSt_k0 hb) (layX_0 hb) rfl in_X2 (Nat.le_of_ble_eq_true rfl) rfl q133 dX2_throwBall_1 ?_
  refine at_topi (fun v4_2 e4_2 => ?_)
  have hw := hw v4_2 e4_2
  refine at_istore (L' := [(0, .ref (ad b)), (1, .int x1), (2, .int x2), (3, .int x3), (4, .int v4_2)]) C dX2_throwBall_4 (Nat.le_of_ble_eq_true rfl) rfl ?_
  refine at_aload_n C dX2_throwBall_6 rfl rfl ?_
  refine at_iload_n C dX2_throwBall_7 rfl rfl ?_
  refine at_iload_n C dX2_throwBall_8 rfl rfl ?_
  refine at_iload_n C dX2_throwBall_9 rfl rfl ?_
  refine at_calli (run_V (rest := []) (As := [.int x1, .int x2, .int x3]) C (metX2_roll l D dA ad hb hw) (lw_V q434 q435 q436 q58 q437) dsX2_roll (gR_ok (Nat.le_of_ble_eq_true rfl) (Nat.le_of_ble_eq_true rfl)) ⟨rfl, rfl⟩ ⟨(Nat.le_of_ble_eq_true rfl), (Nat.le_of_ble_eq_true rfl)⟩ (gSt_k0 hb) (layX_0 hb) rfl rfl rfl (Nat.le_of_ble_eq_true rfl) dX2_throwBall_10) (fun r_3 w_4 hw => ?_)
  refine at_istore (L' := [(0, .ref (ad b)), (1, .int x1), (2, .int x2), (3, .int x3), (4, .int v4_2), (5, .int r_3)]) C dX2_throwBall_13 (Nat.le_of_ble_eq_true rfl) rfl ?_
  refine at_aload_n C dX2_throwBall_15 rfl rfl ?_
  refine at_dup C dX2_throwBall_16 rfl ?_
  refine at_geti (j := 6) C (gSt_k0 hb) (layX_0 hb) rfl in_X2 (Nat.le_of_ble_eq_true rfl) rfl q135 dX2_throwBall_17 ?_
  refine at_iconst C dX2_throwBall_20 ic_1 ?_
  refine at_iadd C dX2_throwBall_21 ?_
  refine at_puti (j := 6) C (gSt_k0 hb) (layX_0 hb) rfl in_X2 (Nat.le_of_ble_eq_true rfl) rfl q135 tyX2 tyX2_ok nmX2 rfl rfl rfl dX2_throwBall_22 (fun w_5 ew_5 => ?_)
  have hw := hw w_5 ew_5
  refine at_aload_n C dX2_throwBall_25 rfl rfl ?_
  refine at_dup C dX2_throwBall_26 rfl ?_
  refine at_geti (j := 7) C (gSt_k0 hb) (layX_0 hb) rfl in_X2 (Nat.le_of_ble_eq_true rfl) rfl q137 dX2_throwBall_27 ?_
  refine at_iload C dX2_throwBall_30 rfl ?_
  refine at_sipush C dX2_throwBall_32 sp_511 ?_
  refine at_icmp_ne (tgt := 49) C dX2_throwBall_35 (by decide) (fun c_6 => ?_) (fun c_6 => ?_)
  · have hw := hw.1 c_6
    exact at_sub (lv_pickm [5] rfl) (tX2_throwBall_49 C hb hw)
  · have hw := hw.2 c_6
    refine at_aload_n C dX2_throwBall_38 rfl rfl ?_
    refine at_geti (j := 5) C (gSt_k0 hb) (layX_0 hb) rfl in_X2 (Nat.le_of_ble_eq_true rfl) rfl q133 dX2_throwBall_39 ?_
    refine at_if_ne (tgt := 49) C dX2_throwBall_42 (by decide) (fun c_7 => ?_) (fun c_7 => ?_)
    · have hw := hw.1 c_7
      exact at_sub (lv_pickm [5] rfl) (tX2_throwBall_49 C hb hw)
    · have hw := hw.2 c_7
      refine at_iconst C dX2_throwBall_45 ic_1 ?_
      refine at_goto (tgt := 50) C dX2_throwBall_46 (by decide) ?_
      exact at_sub (lv_pickm [5] rfl) (tX2_throwBall_50 C hb hw)
set_option maxHeartbeats 4000000 in
theorem metX2_setUp   (l : Launch) (D : va_G) (dA : Nat → ClassId) (ad : Nat → Nat)  {b : Nat} (hb : gSt b)  {w : GW} {Q : Int32 → GW → Prop} (hw : PX2_setUp b w Q) : Met l yX2_setUp (ws_ yX2_setUp cX2_setUp 2 (some .int)) (gR 2) (va_Pc [.ref (ad b)] (gB D dA 137 ad layX w)) (va_Qi Q (gZ D dA 137 ad layX) (gA 137 ad)) 0 0 (gA 137 ad) := by
  refine gm_of (L := [(0, .ref (ad b))]) (own := RX2) (by decide +kernel) rfl (Nat.le_of_ble_eq_true rfl) rfl rfl (fun p e s m below meth c C => ?_)
  unfold PX2_setUp at hw
  refine at_aload_n C dX2_setUp_0 rfl rfl ?_
  refine at_getr (j := 12) (r := 0) C (gSt_k0 hb) (layX_0 hb) rfl in_X2 (Nat.le_of_ble_eq_true rfl) rfl q146 dX2_setUp_1 ?_
  refine at_getrN (j := 1) (r := 2) C (Nat.le_of_ble_eq_true rfl) rfl rfl in_X0 (Nat.le_of_ble_eq_true rfl) rfl q216 dX2_setUp_4 ?_
  refine at_getiN (j := 4) C (Nat.le_of_ble_eq_true rfl) rfl rfl in_X1 (Nat.le_of_ble_eq_true rfl) rfl q102 dX2_setUp_7 ?_
  refine at_aload_n C dX2_setUp_10 rfl rfl ?_
  refine at_geti (j := 5) C (gSt_k0 hb) (layX_0 hb) rfl in_X2 (Nat.le_of_ble_eq_true rfl) rfl q133 dX2_setUp_11 ?_
  refine at_callp (run_S (rest := [.int (w 2 4)]) (As := [.int (w b 5)]) C (metJ4_bitCount l D dA ad  hw) (lw_S q564 q494 q71 q495) dsJ4_bitCount (gR_ok (Nat.le_of_ble_eq_true rfl) (Nat.le_of_ble_eq_true rfl)) ⟨rfl, rfl⟩ ⟨(Nat.le_of_ble_eq_true rfl), (Nat.le_of_ble_eq_true rfl)⟩ rfl rfl (Nat.le_of_ble_eq_true rfl) dX2_setUp_14) (fun r_1  hw => ?_)
  refine at_isub C dX2_setUp_17 ?_
  refine at_topi (fun v1_2 e1_2 => ?_)
  have hw := hw v1_2 e1_2
  refine at_istore_n (L' := [(0, .ref (ad b)), (1, .int v1_2)]) C dX2_setUp_18 rfl (Nat.le_of_ble_eq_true rfl) rfl ?_
  refine at_aload_n C dX2_setUp_19 rfl rfl ?_
  refine at_iconst C dX2_setUp_20 ic_1 ?_
  refine at_aload_n C dX2_setUp_21 rfl rfl ?_
  refine at_getr (j := 12) (r := 0) C (gSt_k0 hb) (layX_0 hb) rfl in_X2 (Nat.le_of_ble_eq_true rfl) rfl q146 dX2_setUp_22 ?_
  refine at_getrN (j := 1) (r := 2) C (Nat.le_of_ble_eq_true rfl) rfl rfl in_X0 (Nat.le_of_ble_eq_true rfl) rfl q216 dX2_setUp_25 ?_
  refine at_getiN (j := 4) C (Nat.le_of_ble_eq_true rfl) rfl rfl in_X1 (Nat.le_of_ble_eq_true rfl) rfl q102 dX2_setUp_28 ?_
  refine at_ishl C dX2_setUp_31 ?_
  refine at_iconst C dX2_setUp_32 ic_1 ?_
  refine at_isub C dX2_setUp_33 ?_
  refine at_puti (j := 5) C (gSt_k0 hb) (layX_0 hb) rfl in_X2 (Nat.le_of_ble_eq_true rfl) rfl q133 tyX2 tyX2_ok nmX2 rfl rfl rfl dX2_setUp_34 (fun w_3 ew_3 => ?_)
  have hw := hw w_3 ew_3
  refine at_iload_n C dX2_setUp_37 rfl rfl ?_
  exact at_iret C rfl hw dX2_setUp_38
set_option maxHeartbeats 4000000 in
theorem tX2_change_25  {b : Nat}   {Q : GW → Prop} (C : Cx p s m args meth c D dA cX2_change 5 none RX2) (hb : gSt b)   {x1 : Int32} {x4 : Int32} {w : GW}  (hw : PX2_change_25 b Q x1 x4 w) : gAtX p l e s m args below meth c D dA ad 2 (va_Qv Q (gZ D dA 137 ad layX) (gA 137 ad)) 5 25 [(0, .ref (ad b)), (1, .int x1), (4, .int x4)] [] w := by
  unfold PX2_change_25 at hw
  refine at_iload C dX2_change_25 rfl ?_
  refine at_iconst C dX2_change_27 ic_m1 ?_
  refine at_icmp_eq (tgt := 39) C dX2_change_28 (by decide) (fun c_1 => ?_) (fun c_1 => ?_)
  · have hw := hw.1 c_1
    exact at_vret C rfl hw dX2_change_39
  · have hw := hw.2 c_1
    refine at_aload_n C dX2_change_31 rfl rfl ?_
    refine at_getr (j := 2) (r := (b + 3)) C (gSt_k0 hb) (layX_0 hb) rfl in_X2 (Nat.le_of_ble_eq_true rfl) rfl q127 dX2_change_32 ?_
    refine at_iload C dX2_change_35 rfl ?_
    refine at_iload_n C dX2_change_37 rfl rfl ?_
    refine at_iast C (gSt_k3 hb) (layX_3 hb) hw.1 rfl dX2_change_38 (fun w_2 ew_2 => ?_)
    have hw := hw.2 w_2 ew_2
    exact at_vret C rfl hw dX2_change_39
set_option maxHeartbeats 4000000 in
theorem metX2_change   (l : Launch) (D : va_G) (dA : Nat → ClassId) (ad : Nat → Nat)  {b : Nat} (hb : gSt b) {x1 : Int32} {x2 : Int32} {w : GW} {Q : GW → Prop} (hw : PX2_change b x1 x2 w Q) : Met l yX2_change (ws_ yX2_change cX2_change 5 none) (gR 2) (va_Pc [.ref (ad b), .int x1, .int x2] (gB D dA 137 ad layX w)) (va_Qv Q (gZ D dA 137 ad layX) (gA 137 ad)) 0 0 (gA 137 ad) := by
  refine gm_of (L := [(0, .ref (ad b)), (1, .int x1), (2, .int x2)]) (own := RX2) (by decide +kernel) rfl (Nat.le_of_ble_eq_true rfl) rfl rfl (fun p e s m below meth c C => ?_)
  unfold PX2_change at hw
  refine at_aload_n C dX2_change_0 rfl rfl ?_
  refine at_iload_n C dX2_change_1 rfl rfl ?_
  refine at_callp (run_V (rest := []) (As := [.int x1]) C (metX2_onPlate l D dA ad hb hw) (lw_V q451 q452 q453 q58 q454) dsX2_onPlate (gR_ok (Nat.le_of_ble_eq_true rfl) (Nat.le_of_ble_eq_true rfl)) ⟨rfl, rfl⟩ ⟨(Nat.le_of_ble_eq_true rfl), (Nat.le_of_ble_eq_true rfl)⟩ (gSt_k0 hb) (layX_0 hb) rfl rfl rfl (Nat.le_of_ble_eq_true rfl) dX2_change_2) (fun r_3  hw => ?_)
  refine at_istore_n (L' := [(0, .ref (ad b)), (1, .int x1), (2, .int x2), (3, .int r_3)]) C dX2_change_5 rfl (Nat.le_of_ble_eq_true rfl) rfl ?_
  refine at_aload_n C dX2_change_6 rfl rfl ?_
  refine at_iload_n C dX2_change_7 rfl rfl ?_
  refine at_callp (run_V (rest := []) (As := [.int x2]) C (metX2_onPlate l D dA ad hb hw) (lw_V q451 q452 q453 q58 q454) dsX2_onPlate (gR_ok (Nat.le_of_ble_eq_true rfl) (Nat.le_of_ble_eq_true rfl)) ⟨rfl, rfl⟩ ⟨(Nat.le_of_ble_eq_true rfl), (Nat.le_of_ble_eq_true rfl)⟩ (gSt_k0 hb) (layX_0 hb) rfl rfl rfl (Nat.le_of_ble_eq_true rfl) dX2_change_8) (fun r_4  hw => ?_)
  refine at_istore (L' := [(0, .ref (ad b)), (1, .int x1), (2, .int x2), (3, .int r_3), (4, .int r_4)]) C dX2_change_11 (Nat.le_of_ble_eq_true rfl) rfl ?_
  refine at_iload_n C dX2_change_13 rfl rfl ?_
  refine at_iconst C dX2_change_14 ic_m1 ?_
  refine at_icmp_eq (tgt := 25) C dX2_change_15 (by decide) (fun c_5 => ?_) (fun c_5 => ?_)
  · have hw := hw.1 c_5
    exact at_sub (lv_pickm [0, 1, 4] rfl) (tX2_change_25 C hb hw)
  · have hw := hw.2 c_5
    refine at_aload_n C dX2_change_18 rfl rfl ?_
    refine at_getr (j := 2) (r := (b + 3)) C (gSt_k0 hb) (layX_0 hb) rfl in_X2 (Nat.le_of_ble_eq_true rfl) rfl q127 dX2_change_19 ?_
    refine at_iload_n C dX2_change_22 rfl rfl ?_
    refine at_iload_n C dX2_change_23 rfl rfl ?_
    refine at_iast C (gSt_k3 hb) (layX_3 hb) hw.1 rfl dX2_change_24 (fun w_6 ew_6 => ?_)
    have hw := hw.2 w_6 ew_6
    exact at_sub (lv_pickm [0, 1, 4] rfl) (tX2_change_25 C hb hw)
set_option maxHeartbeats 4000000 in
theorem metX2_draw   (l : Launch) (D : va_G) (dA : Nat → ClassId) (ad : Nat → Nat)  {b : Nat} (hb : gSt b) {x1 : Int32} {w : GW} {Q : Int32 → GW → Prop} (hw : PX2_draw b x1 w Q) : Met l yX2_draw (ws_ yX2_draw cX2_draw 2 (some .int)) (gR 1) (va_Pc [.ref (ad b), .int x1] (gB D dA 137 ad layX w)) (va_Qi Q (gZ D dA 137 ad layX) (gA 137 ad)) 0 0 (gA 137 ad) := by
  refine gm_of (L := [(0, .ref (ad b)), (1, .int x1)]) (own := RX2) (by decide +kernel) rfl (Nat.le_of_ble_eq_true rfl) rfl rfl (fun p e s m below meth c C => ?_)
  unfold PX2_draw at hw
  refine at_aload_n C dX2_draw_0 rfl rfl ?_
  refine at_aload_n C dX2_draw_1 rfl rfl ?_
  refine at_geti (j := 8) C (gSt_k0 hb) (layX_0 hb) rfl in_X2 (Nat.le_of_ble_eq_true rfl) rfl q139 dX2_draw_2 ?_
  refine at_i2l C dX2_draw_5 ?_
  refine at_ldc2 C q597 dX2_draw_6 ?_
  refine at_lmul C dX2_draw_9 ?_
  refine at_ldc2 C q598 dX2_draw_10 ?_
  refine at_ladd C dX2_draw_13 ?_
  refine at_ldc2 C q599 dX2_draw_14 ?_
  refine at_lrem C dX2_draw_17 (by decide) ?_
  refine at_l2i C dX2_draw_18 ?_
  refine at_puti (j := 8) C (gSt_k0 hb) (layX_0 hb) rfl in_X2 (Nat.le_of_ble_eq_true rfl) rfl q139 tyX2 tyX2_ok nmX2 rfl rfl rfl dX2_draw_19 (fun w_1 ew_1 => ?_)
  have hw := hw w_1 ew_1
  refine at_aload_n C dX2_draw_22 rfl rfl ?_
  refine at_geti (j := 8) C (gSt_k0 hb) (layX_0 hb) rfl in_X2 (Nat.le_of_ble_eq_true rfl) rfl q139 dX2_draw_23 ?_
  refine at_ldc C q600 dX2_draw_26 ?_
  refine at_idiv C dX2_draw_28 nz_65536 ?_
  refine at_iload_n C dX2_draw_29 rfl rfl ?_
  refine at_irem C dX2_draw_30 hw.1 ?_
  have hw := hw.2
  exact at_iret C rfl hw dX2_draw_31
set_option maxHeartbeats 4000000 in
theorem metX2_byDraws   (l : Launch) (D : va_G) (dA : Nat → ClassId) (ad : Nat → Nat)  {b : Nat} (hb : gSt b)  {w : GW} {Q : GW → Prop} (hw : PX2_byDraws b w Q) : Met l yX2_byDraws (ws_ yX2_byDraws cX2_byDraws 5 none) (gR 25) (va_Pc [.ref (ad b)] (gB D dA 137 ad layX w)) (va_Qv Q (gZ D dA 137 ad layX) (gA 137 ad)) 0 0 (gA 137 ad) := by
  refine gm_of (L := [(0, .ref (ad b))]) (own := RX2) (by decide +kernel) rfl (Nat.le_of_ble_eq_true rfl) rfl rfl (fun p e s m below meth c C => ?_)
  unfold PX2_byDraws at hw
  refine at_aload_n C dX2_byDraws_0 rfl rfl ?_
  refine at_iconst C dX2_byDraws_1 ic_4 ?_
  refine at_calli (run_V (rest := []) (As := [.int 4]) C (metX2_draw l D dA ad hb hw) (lw_V q593 q594 q595 q58 q596) dsX2_draw (gR_ok (Nat.le_of_ble_eq_true rfl) (Nat.le_of_ble_eq_true rfl)) ⟨rfl, rfl⟩ ⟨(Nat.le_of_ble_eq_true rfl), (Nat.le_of_ble_eq_true rfl)⟩ (gSt_k0 hb) (layX_0 hb) rfl rfl rfl (Nat.le_of_ble_eq_true rfl) dX2_byDraws_2) (fun r_1 w_2 hw => ?_)
  refine at_istore_n (L' := [(0, .ref (ad b)), (1, .int r_1)]) C dX2_byDraws_5 rfl (Nat.le_of_ble_eq_true rfl) rfl ?_
  refine at_iload_n C dX2_byDraws_6 rfl rfl ?_
  refine at_iconst C dX2_byDraws_7 ic_2 ?_
  refine at_icmp_ge (tgt := 42) C dX2_byDraws_8 (by decide) (fun c_3 => ?_) (fun c_3 => ?_)
  · have hw := hw.1 c_3
    refine at_iload_n C dX2_byDraws_42 rfl rfl ?_
    refine at_iconst C dX2_byDraws_43 ic_2 ?_
    refine at_icmp_ne (tgt := 55) C dX2_byDraws_44 (by decide) (fun c_4 => ?_) (fun c_4 => ?_)
    · have hw := hw.1 c_4
      refine at_aload_n C dX2_byDraws_55 rfl rfl ?_
      refine at_bipush C dX2_byDraws_56 bp_9 ?_
      refine at_calli (run_V (rest := []) (As := [.int 9]) C (metX2_draw l D dA ad hb hw) (lw_V q593 q594 q595 q58 q596) dsX2_draw (gR_ok (Nat.le_of_ble_eq_true rfl) (Nat.le_of_ble_eq_true rfl)) ⟨rfl, rfl⟩ ⟨(Nat.le_of_ble_eq_true rfl), (Nat.le_of_ble_eq_true rfl)⟩ (gSt_k0 hb) (layX_0 hb) rfl rfl rfl (Nat.le_of_ble_eq_true rfl) dX2_byDraws_58) (fun r_5 w_6 hw => ?_)
      refine at_istore_n (L' := [(0, .ref (ad b)), (1, .int r_1), (2, .int r_5)]) C dX2_byDraws_61 rfl (Nat.le_of_ble_eq_true rfl) rfl ?_
      refine at_aload_n C dX2_byDraws_62 rfl rfl ?_
      refine at_bipush C dX2_byDraws_63 bp_9 ?_
      refine at_calli (run_V (rest := []) (As := [.int 9]) C (metX2_draw l D dA ad hb hw) (lw_V q593 q594 q595 q58 q596) dsX2_draw (gR_ok (Nat.le_of_ble_eq_true rfl) (Nat.le_of_ble_eq_true rfl)) ⟨rfl, rfl⟩ ⟨(Nat.le_of_ble_eq_true rfl), (Nat.le_of_ble_eq_true rfl)⟩ (gSt_k0 hb) (layX_0 hb) rfl rfl rfl (Nat.le_of_ble_eq_true rfl) dX2_byDraws_65) (fun r_7 w_8 hw => ?_)
      refine at_istore_n (L' := [(0, .ref (ad b)), (1, .int r_1), (2, .int r_5), (3, .int r_7)]) C dX2_byDraws_68 rfl (Nat.le_of_ble_eq_true rfl) rfl ?_
      refine at_aload_n C dX2_byDraws_69 rfl rfl ?_
      refine at_iload_n C dX2_byDraws_70 rfl rfl ?_
      refine at_iload_n C dX2_byDraws_71 rfl rfl ?_
      refine at_callv (run_V (rest := []) (As := [.int r_5, .int r_7]) C (metX2_change l D dA ad hb hw) (lw_V q603 q574 q575 q58 q576) dsX2_change (gR_ok (Nat.le_of_ble_eq_true rfl) (Nat.le_of_ble_eq_true rfl)) ⟨rfl, rfl⟩ ⟨(Nat.le_of_ble_eq_true rfl), (Nat.le_of_ble_eq_true rfl)⟩ (gSt_k0 hb) (layX_0 hb) rfl rfl rfl (Nat.le_of_ble_eq_true rfl) dX2_byDraws_72) (fun  w_10 hw => ?_)
      exact at_vret C rfl hw dX2_byDraws_75
    · have hw := hw.2 c_4
      refine at_aload_n C dX2_byDraws_47 rfl rfl ?_
      refine at_calli (run_V (rest := []) (As := []) C (metX2_setUp l D dA ad hb hw) (lw_V q602 q561 q562 q58 q563) dsX2_setUp (gR_ok (Nat.le_of_ble_eq_true rfl) (Nat.le_of_ble_eq_true rfl)) ⟨rfl, rfl⟩ ⟨(Nat.le_of_ble_eq_true rfl), (Nat.le_of_ble_eq_true rfl)⟩ (gSt_k0 hb) (layX_0 hb) rfl rfl rfl (Nat.le_of_ble_eq_true rfl) dX2_byDraws_48) (fun r_11 w_12 hw => ?_)
      refine at_istore_n (L' := [(0, .ref (ad b)), (1, .int r_1), (2, .int r_11)]) C dX2_byDraws_51 rfl (Nat.le_of_ble_eq_true rfl) rfl ?_
      refine at_goto (tgt := 75) C dX2_byDraws_52 (by decide) ?_
      exact at_vret C rfl hw dX2_byDraws_75
  · have hw := hw.2 c_3
    refine at_aload_n C dX2_byDraws_11 rfl rfl ?_
    refine at_iconst C dX2_byDraws_12 ic_5 ?_
    refine at_calli (run_V (rest := []) (As := [.int 5]) C (metX2_draw l D dA ad hb hw) (lw_V q593 q594 q595 q58 q596) dsX2_draw (gR_ok (Nat.le_of_ble_eq_true rfl) (Nat.le_of_ble_eq_true rfl)) ⟨rfl, rfl⟩ ⟨(Nat.le_of_ble_eq_true rfl), (Nat.le_of_ble_eq_true rfl)⟩ (gSt_k0 hb) (layX_0 hb) rfl rfl rfl (Nat.le_of_ble_eq_true rfl) dX2_byDraws_13) (fun r_13 w_14 hw => ?_)
    refine at_istore_n (L' := [(0, .ref (ad b)), (1, .int r_1), (2, .int r_13)]) C dX2_byDraws_16 rfl (Nat.le_of_ble_eq_true rfl) rfl ?_
    refine at_aload_n C dX2_byDraws_17 rfl rfl ?_
    refine at_iconst C dX2_byDraws_18 ic_3 ?_
    refine at_calli (run_V (rest := []) (As := [.int 3]) C (metX2_draw l D dA ad hb hw) (lw_V q593 q594 q595 q58 q596) dsX2_draw (gR_ok (Nat.le_of_ble_eq_true rfl) (Nat.le_of_ble_eq_true rfl)) ⟨rfl, rfl⟩ ⟨(Nat.le_of_ble_eq_true rfl), (Nat.le_of_ble_eq_true rfl)⟩ (gSt_k0 hb) (layX_0 hb) rfl rfl rfl (Nat.le_of_ble_eq_true rfl) dX2_byDraws_19) (fun r_15 w_16 hw => ?_)
    refine at_istore_n (L' := [(0, .ref (ad b)), (1, .int r_1), (2, .int r_13), (3, .int r_15)]) C dX2_byDraws_22 rfl (Nat.le_of_ble_eq_true rfl) rfl ?_
    refine at_aload_n C dX2_byDraws_23 rfl rfl ?_
    refine at_iload_n C dX2_byDraws_24 rfl rfl ?_
    refine at_iload_n C dX2_byDraws_25 rfl rfl ?_
    refine at_iconst C dX2_byDraws_26 ic_1 ?_
    refine at_aload_n C dX2_byDraws_27 rfl rfl ?_
    refine at_bipush C dX2_byDraws_28 bp_40 ?_
    refine at_calli (run_V (rest := [.int 1, .int r_15, .int r_13, .ref (ad b)]) (As := [.int 40]) C (metX2_draw l D dA ad hb hw) (lw_V q593 q594 q595 q58 q596) dsX2_draw (gR_ok (Nat.le_of_ble_eq_true rfl) (Nat.le_of_ble_eq_true rfl)) ⟨rfl, rfl⟩ ⟨(Nat.le_of_ble_eq_true rfl), (Nat.le_of_ble_eq_true rfl)⟩ (gSt_k0 hb) (layX_0 hb) rfl rfl rfl (Nat.le_of_ble_eq_true rfl) dX2_byDraws_30) (fun r_17 w_18 hw => ?_)
    refine at_iadd C dX2_byDraws_33 ?_
    refine at_calli (run_V (rest := []) (As := [.int r_13, .int r_15, .int (1 + r_17)]) C (metX2_throwBall l D dA ad hb hw) (lw_V q601 q553 q554 q58 q555) dsX2_throwBall (gR_ok (Nat.le_of_ble_eq_true rfl) (Nat.le_of_ble_eq_true rfl)) ⟨rfl, rfl⟩ ⟨(Nat.le_of_ble_eq_true rfl), (Nat.le_of_ble_eq_true rfl)⟩ (gSt_k0 hb) (layX_0 hb) rfl rfl rfl (Nat.le_of_ble_eq_true rfl) dX2_byDraws_34) (fun r_19 w_20 hw => ?_)
    refine at_istore (L' := [(0, .ref (ad b)), (1, .int r_1), (2, .int r_13), (3, .int r_15), (4, .int r_19)]) C dX2_byDraws_37 (Nat.le_of_ble_eq_true rfl) rfl ?_
    refine at_goto (tgt := 75) C dX2_byDraws_39 (by decide) ?_
    exact at_vret C rfl hw dX2_byDraws_75
set_option maxHeartbeats 4000000 in
theorem metX0_isIn {N : Nat} {lay : Nat → gD}  (l : Launch) (D : va_G) (dA : Nat → ClassId) (ad : Nat → Nat)    {x0 : Int32} {x1 : Int32} {x2 : Int32} {w : GW} {Q : Int32 → Prop} (hw : PX0_isIn x0 x1 x2 Q) : Met l yX0_isIn (ws_ yX0_isIn cX0_isIn 3 (some .boolean)) (gR 1) (va_Pc [.int x0, .int x1, .int x2] (gB D dA N ad lay w)) (va_Qi (gQ1 Q w) (gZ D dA N ad lay) (gA N ad)) 0 0 (gA N ad) := by
  refine gm_of (L := [(0, .int x0), (1, .int x1), (2, .int x2)]) (own := RX0) (by decide +kernel) rfl (Nat.le_of_ble_eq_true rfl) rfl rfl (fun p e s m below meth c C => ?_)
  unfold PX0_isIn at hw
  refine at_iload_n C dX0_isIn_0 rfl rfl ?_
  refine at_iload_n C dX0_isIn_1 rfl rfl ?_
  refine at_icmp_lt (tgt := 14) C dX0_isIn_2 (by decide) (fun c_1 => ?_) (fun c_1 => ?_)
  · have hw := hw.1 c_1
    refine at_iconst C dX0_isIn_14 ic_0 ?_
    exact at_zret C rfl gBool_0 ⟨hw, rfl⟩ dX0_isIn_15
  · have hw := hw.2 c_1
    refine at_iload_n C dX0_isIn_5 rfl rfl ?_
    refine at_iload_n C dX0_isIn_6 rfl rfl ?_
    refine at_icmp_gt (tgt := 14) C dX0_isIn_7 (by decide) (fun c_2 => ?_) (fun c_2 => ?_)
    · have hw := hw.1 c_2
      refine at_iconst C dX0_isIn_14 ic_0 ?_
      exact at_zret C rfl gBool_0 ⟨hw, rfl⟩ dX0_isIn_15
    · have hw := hw.2 c_2
      refine at_iconst C dX0_isIn_10 ic_1 ?_
      refine at_goto (tgt := 15) C dX0_isIn_11 (by decide) ?_
      exact at_zret C rfl gBool_1 ⟨hw, rfl⟩ dX0_isIn_15
set_option maxHeartbeats 4000000 in
theorem metX0_feed   (l : Launch) (D : va_G) (dA : Nat → ClassId) (ad : Nat → Nat)    {x1 : Int32} {w : GW} {Q : Int32 → GW → Prop} (hw : PX0_feed x1 w Q) : Met l yX0_feed (ws_ yX0_feed cX0_feed 2 (some .int)) (gR 2) (va_Pc [.ref (ad 0), .int x1] (gB D dA 137 ad layX w)) (va_Qi Q (gZ D dA 137 ad layX) (gA 137 ad)) 0 0 (gA 137 ad) := by
  refine gm_of (L := [(0, .ref (ad 0)), (1, .int x1)]) (own := RX0) (by decide +kernel) rfl (Nat.le_of_ble_eq_true rfl) rfl rfl (fun p e s m below meth c C => ?_)
  unfold PX0_feed at hw
  refine at_iload_n C dX0_feed_0 rfl rfl ?_
  refine at_iconst C dX0_feed_1 ic_0 ?_
  refine at_sipush C dX0_feed_2 sp_255 ?_
  refine at_callp (run_S (rest := []) (As := [.int x1, .int 0, .int 255]) C (metX0_isIn l D dA ad  hw) (lw_S q266 q267 q56 q268) dsX0_isIn (gR_ok (Nat.le_of_ble_eq_true rfl) (Nat.le_of_ble_eq_true rfl)) ⟨rfl, rfl⟩ ⟨(Nat.le_of_ble_eq_true rfl), (Nat.le_of_ble_eq_true rfl)⟩ rfl rfl (Nat.le_of_ble_eq_true rfl) dX0_feed_5) (fun r_1  hw => ?_)
  refine at_if_ne (tgt := 14) C dX0_feed_8 (by decide) (fun c_2 => ?_) (fun c_2 => ?_)
  · have hw := hw.1 c_2
    refine at_aload_n C dX0_feed_14 rfl rfl ?_
    refine at_geti (j := 10) C (Nat.le_of_ble_eq_true rfl) rfl rfl in_X0 (Nat.le_of_ble_eq_true rfl) rfl q226 dX0_feed_15 ?_
    refine at_sipush C dX0_feed_18 sp_240 ?_
    refine at_icmp_ne (tgt := 27) C dX0_feed_21 (by decide) (fun c_3 => ?_) (fun c_3 => ?_)
    · have hw := hw.1 c_3
      refine at_aload_n C dX0_feed_27 rfl rfl ?_
      refine at_getr (j := 9) (r := 21) C (Nat.le_of_ble_eq_true rfl) rfl rfl in_X0 (Nat.le_of_ble_eq_true rfl) rfl q225 dX0_feed_28 ?_
      refine at_aload_n C dX0_feed_31 rfl rfl ?_
      refine at_geti (j := 10) C (Nat.le_of_ble_eq_true rfl) rfl rfl in_X0 (Nat.le_of_ble_eq_true rfl) rfl q226 dX0_feed_32 ?_
      refine at_iload_n C dX0_feed_35 rfl rfl ?_
      refine at_i2b C dX0_feed_36 ?_
      refine at_bast C (Nat.le_of_ble_eq_true rfl) rfl hw.1 rfl (vp_nar_byte_ok _) dX0_feed_37 (fun w_4 ew_4 => ?_)
      have hw := hw.2 w_4 ew_4
      refine at_aload_n C dX0_feed_38 rfl rfl ?_
      refine at_dup C dX0_feed_39 rfl ?_
      refine at_geti (j := 10) C (Nat.le_of_ble_eq_true rfl) rfl rfl in_X0 (Nat.le_of_ble_eq_true rfl) rfl q226 dX0_feed_40 ?_
      refine at_iconst C dX0_feed_43 ic_1 ?_
      refine at_iadd C dX0_feed_44 ?_
      refine at_puti (j := 10) C (Nat.le_of_ble_eq_true rfl) rfl rfl in_X0 (Nat.le_of_ble_eq_true rfl) rfl q226 tyX0 tyX0_ok nmX0 rfl rfl rfl dX0_feed_45 (fun w_5 ew_5 => ?_)
      have hw := hw w_5 ew_5
      refine at_aload_n C dX0_feed_48 rfl rfl ?_
      refine at_geti (j := 10) C (Nat.le_of_ble_eq_true rfl) rfl rfl in_X0 (Nat.le_of_ble_eq_true rfl) rfl q226 dX0_feed_49 ?_
      exact at_iret C rfl hw dX0_feed_52
    · have hw := hw.2 c_3
      refine at_ldc C q270 dX0_feed_24 ?_
      exact at_iret C rfl hw dX0_feed_26
  · have hw := hw.2 c_2
    refine at_ldc C q269 dX0_feed_11 ?_
    exact at_iret C rfl hw dX0_feed_13
set_option maxHeartbeats 4000000 in
theorem metX0_fault   (l : Launch) (D : va_G) (dA : Nat → ClassId) (ad : Nat → Nat)     {w : GW} {Q : Int32 → Prop} (hw : PX0_fault w Q) : Met l yX0_fault (ws_ yX0_fault cX0_fault 1 (some .int)) (gR 1) (va_Pc [.ref (ad 0)] (gB D dA 137 ad layX w)) (va_Qi (gQ1 Q w) (gZ D dA 137 ad layX) (gA 137 ad)) 0 0 (gA 137 ad) := by
  refine gm_of (L := [(0, .ref (ad 0))]) (own := RX0) (by decide +kernel) rfl (Nat.le_of_ble_eq_true rfl) rfl rfl (fun p e s m below meth c C => ?_)
  unfold PX0_fault at hw
  refine at_aload_n C dX0_fault_0 rfl rfl ?_
  refine at_geti (j := 11) C (Nat.le_of_ble_eq_true rfl) rfl rfl in_X0 (Nat.le_of_ble_eq_true rfl) rfl q227 dX0_fault_1 ?_
  exact at_iret C rfl ⟨hw, rfl⟩ dX0_fault_4
set_option maxHeartbeats 4000000 in
theorem metX0_isCounty   (l : Launch) (D : va_G) (dA : Nat → ClassId) (ad : Nat → Nat)     {w : GW} {Q : Int32 → Prop} (hw : PX0_isCounty w Q) : Met l yX0_isCounty (ws_ yX0_isCounty cX0_isCounty 1 (some .boolean)) (gR 1) (va_Pc [.ref (ad 0)] (gB D dA 137 ad layX w)) (va_Qi (gQ1 Q w) (gZ D dA 137 ad layX) (gA 137 ad)) 0 0 (gA 137 ad) := by
  refine gm_of (L := [(0, .ref (ad 0))]) (own := RX0) (by decide +kernel) rfl (Nat.le_of_ble_eq_true rfl) rfl rfl (fun p e s m below meth c C => ?_)
  unfold PX0_isCounty at hw
  refine at_aload_n C dX0_isCounty_0 rfl rfl ?_
  refine at_getr (j := 1) (r := 2) C (Nat.le_of_ble_eq_true rfl) rfl rfl in_X0 (Nat.le_of_ble_eq_true rfl) rfl q217 dX0_isCounty_1 ?_
  refine at_getiN (j := 0) C (Nat.le_of_ble_eq_true rfl) rfl rfl in_X1 (Nat.le_of_ble_eq_true rfl) rfl q91 dX0_isCounty_4 ?_
  refine at_iconst C dX0_isCounty_7 ic_m1 ?_
  refine at_icmp_eq (tgt := 15) C dX0_isCounty_8 (by decide) (fun c_1 => ?_) (fun c_1 => ?_)
  · have hw := hw.1 c_1
    refine at_iconst C dX0_isCounty_15 ic_0 ?_
    exact at_zret C rfl gBool_0 ⟨hw, rfl⟩ dX0_isCounty_16
  · have hw := hw.2 c_1
    refine at_iconst C dX0_isCounty_11 ic_1 ?_
    refine at_goto (tgt := 16) C dX0_isCounty_12 (by decide) ?_
    exact at_zret C rfl gBool_1 ⟨hw, rfl⟩ dX0_isCounty_16
set_option maxHeartbeats 4000000 in
theorem metX0_isBall {N : Nat} {lay : Nat → gD}  (l : Launch) (D : va_G) (dA : Nat → ClassId) (ad : Nat → Nat)    {x0 : Int32} {w : GW} {Q : Int32 → Prop} (hw : PX0_isBall x0 Q) : Met l yX0_isBall (ws_ yX0_isBall cX0_isBall 1 (some .boolean)) (gR 2) (va_Pc [.int x0] (gB D dA N ad lay w)) (va_Qi (gQ1 Q w) (gZ D dA N ad lay) (gA N ad)) 0 0 (gA N ad) := by
  refine gm_of (L := [(0, .int x0)]) (own := RX0) (by decide +kernel) rfl (Nat.le_of_ble_eq_true rfl) rfl rfl (fun p e s m below meth c C => ?_)
  unfold PX0_isBall at hw
  refine at_iload_n C dX0_isBall_0 rfl rfl ?_
  refine at_sipush C dX0_isBall_1 sp_1000 ?_
  refine at_idiv C dX0_isBall_4 nz_1000 ?_
  refine at_iconst C dX0_isBall_5 ic_5 ?_
  refine at_icmp_ge (tgt := 38) C dX0_isBall_6 (by decide) (fun c_1 => ?_) (fun c_1 => ?_)
  · have hw := hw.1 c_1
    refine at_iconst C dX0_isBall_38 ic_0 ?_
    exact at_zret C rfl gBool_0 ⟨hw, rfl⟩ dX0_isBall_39
  · have hw := hw.2 c_1
    refine at_iload_n C dX0_isBall_9 rfl rfl ?_
    refine at_sipush C dX0_isBall_10 sp_1000 ?_
    refine at_irem C dX0_isBall_13 nz_1000 ?_
    refine at_bipush C dX0_isBall_14 bp_100 ?_
    refine at_idiv C dX0_isBall_16 nz_100 ?_
    refine at_iconst C dX0_isBall_17 ic_3 ?_
    refine at_icmp_ge (tgt := 38) C dX0_isBall_18 (by decide) (fun c_2 => ?_) (fun c_2 => ?_)
    · have hw := hw.1 c_2
      refine at_iconst C dX0_isBall_38 ic_0 ?_
      exact at_zret C rfl gBool_0 ⟨hw, rfl⟩ dX0_isBall_39
    · have hw := hw.2 c_2
      refine at_iload_n C dX0_isBall_21 rfl rfl ?_
      refine at_bipush C dX0_isBall_22 bp_100 ?_
      refine at_irem C dX0_isBall_24 nz_100 ?_
      refine at_iconst C dX0_isBall_25 ic_1 ?_
      refine at_bipush C dX0_isBall_26 bp_40 ?_
      refine at_callp (run_S (rest := []) (As := [.int (x0 - x0 / 100 * 100), .int 1, .int 40]) C (metX0_isIn l D dA ad  hw) (lw_S q266 q267 q56 q268) dsX0_isIn (gR_ok (Nat.le_of_ble_eq_true rfl) (Nat.le_of_ble_eq_true rfl)) ⟨rfl, rfl⟩ ⟨(Nat.le_of_ble_eq_true rfl), (Nat.le_of_ble_eq_true rfl)⟩ rfl rfl (Nat.le_of_ble_eq_true rfl) dX0_isBall_28) (fun r_3  hw => ?_)
      refine at_if_eq (tgt := 38) C dX0_isBall_31 (by decide) (fun c_4 => ?_) (fun c_4 => ?_)
      · have hw := hw.1 c_4
        refine at_iconst C dX0_isBall_38 ic_0 ?_
        exact at_zret C rfl gBool_0 ⟨hw, rfl⟩ dX0_isBall_39
      · have hw := hw.2 c_4
        refine at_iconst C dX0_isBall_34 ic_1 ?_
        refine at_goto (tgt := 39) C dX0_isBall_35 (by decide) ?_
        exact at_zret C rfl gBool_1 ⟨hw, rfl⟩ dX0_isBall_39
set_option maxHeartbeats 4000000 in
theorem metX0_fellsBy   (l : Launch) (D : va_G) (dA : Nat → ClassId) (ad : Nat → Nat)    {x1 : Int32} {w : GW} {Q : Int32 → GW → Prop} (hw : PX0_fellsBy x1 w Q) : Met l yX0_fellsBy (ws_ yX0_fellsBy cX0_fellsBy 2 (some .int)) (gR 25) (va_Pc [.ref (ad 0), .int x1] (gB D dA 137 ad layX w)) (va_Qi Q (gZ D dA 137 ad layX) (gA 137 ad)) 0 0 (gA 137 ad) := by
  refine gm_of (L := [(0, .ref (ad 0)), (1, .int x1)]) (own := RX0) (by decide +kernel) rfl (Nat.le_of_ble_eq_true rfl) rfl rfl (fun p e s m below meth c C => ?_)
  unfold PX0_fellsBy at hw
  refine at_aload_n C dX0_fellsBy_0 rfl rfl ?_
  refine at_getr (j := 3) (r := 12) C (Nat.le_of_ble_eq_true rfl) rfl rfl in_X0 (Nat.le_of_ble_eq_true rfl) rfl q219 dX0_fellsBy_1 ?_
  refine at_aload_n C dX0_fellsBy_4 rfl rfl ?_
  refine at_getr (j := 2) (r := 6) C (Nat.le_of_ble_eq_true rfl) rfl rfl in_X0 (Nat.le_of_ble_eq_true rfl) rfl q218 dX0_fellsBy_5 ?_
  refine at_callv (run_V (rest := []) (As := [.ref (ad 6)]) C (metX2_set l D dA ad gSt_tried gSt_now hw) (lw_V q426 q427 q428 q58 q429) dsX2_set (gR_ok (Nat.le_of_ble_eq_true rfl) (Nat.le_of_ble_eq_true rfl)) ⟨rfl, rfl⟩ ⟨(Nat.le_of_ble_eq_true rfl), (Nat.le_of_ble_eq_true rfl)⟩ (gSt_k0 gSt_tried) (layX_0 gSt_tried) rfl rfl rfl (Nat.le_of_ble_eq_true rfl) dX0_fellsBy_8) (fun  w_2 hw => ?_)
  refine at_aload_n C dX0_fellsBy_11 rfl rfl ?_
  refine at_getr (j := 3) (r := 12) C (Nat.le_of_ble_eq_true rfl) rfl rfl in_X0 (Nat.le_of_ble_eq_true rfl) rfl q219 dX0_fellsBy_12 ?_
  refine at_iload_n C dX0_fellsBy_15 rfl rfl ?_
  refine at_calli (run_V (rest := []) (As := [.int x1]) C (metX2_rollBall l D dA ad gSt_tried hw) (lw_V q430 q431 q432 q58 q433) dsX2_rollBall (gR_ok (Nat.le_of_ble_eq_true rfl) (Nat.le_of_ble_eq_true rfl)) ⟨rfl, rfl⟩ ⟨(Nat.le_of_ble_eq_true rfl), (Nat.le_of_ble_eq_true rfl)⟩ (gSt_k0 gSt_tried) (layX_0 gSt_tried) rfl rfl rfl (Nat.le_of_ble_eq_true rfl) dX0_fellsBy_16) (fun r_3 w_4 hw => ?_)
  exact at_iret C rfl hw dX0_fellsBy_19
set_option maxHeartbeats 4000000 in
theorem tX0_layFells_30    {K2 : Int32 → GW → Prop} {Q : GW → Prop} (C : Cx p s m args meth c D dA cX0_layFells 2 none RX0)    {x1 : Int32} {s1 : Int32} {s2 : Int32} {w : GW} (hK2 : ∀ (x1 : Int32) (w : GW), K2 x1 w → gAtX p l e s m args below meth c D dA ad 26 (va_Qv Q (gZ D dA 137 ad layX) (gA 137 ad)) 2 2 [(0, .ref (ad 0)), (1, .int x1)] [] w) (hw : PX0_layFells_30 K2 Q x1 s1 s2 w) : gAtX p l e s m args below meth c D dA ad 26 (va_Qv Q (gZ D dA 137 ad layX) (gA 137 ad)) 2 30 [(0, .ref (ad 0)), (1, .int x1)] [.int s2, .int s1, .ref (ad 22)] w := by
  unfold PX0_layFells_30 at hw
  refine at_iast C (Nat.le_of_ble_eq_true rfl) rfl hw.1 rfl dX0_layFells_30 (fun w_1 ew_1 => ?_)
  have hw := hw.2 w_1 ew_1
  refine at_iinc (F := fun z_ => [(0, .ref (ad 0)), (1, .int z_)]) C dX0_layFells_31 rfl ic_1 (Nat.le_of_ble_eq_true rfl) (fun _ => rfl) (fun v1_2 e1_2 => ?_)
  have hw := hw v1_2 e1_2
  refine at_goto (tgt := 2) C dX0_layFells_34 (by decide) ?_
  exact hK2 _ _ hw
set_option maxHeartbeats 4000000 in
theorem tX0_layFells_2     {Q : GW → Prop} (C : Cx p s m args meth c D dA cX0_layFells 2 none RX0)       : ∀ (n : Nat) (x1 : Int32) (w : GW), PX0_layFells_2 Q n x1 w → gAtX p l e s m args below meth c D dA ad 26 (va_Qv Q (gZ D dA 137 ad layX) (gA 137 ad)) 2 2 [(0, .ref (ad 0)), (1, .int x1)] [] w := by
  intro n
  induction n with
  | zero => intro x1 w hw; exact False.elim hw
  | succ n ih =>
    intro x1 w hw
    unfold PX0_layFells_2 at hw
    refine at_iload_n C dX0_layFells_2 rfl rfl ?_
    refine at_sipush C dX0_layFells_3 sp_4300 ?_
    refine at_icmp_ge (tgt := 37) C dX0_layFells_6 (by decide) (fun c_3 => ?_) (fun c_3 => ?_)
    · have hw := hw.1 c_3
      exact at_vret C rfl hw dX0_layFells_37
    · have hw := hw.2 c_3
      refine at_aload_n C dX0_layFells_9 rfl rfl ?_
      refine at_getr (j := 12) (r := 22) C (Nat.le_of_ble_eq_true rfl) rfl rfl in_X0 (Nat.le_of_ble_eq_true rfl) rfl q228 dX0_layFells_10 ?_
      refine at_iload_n C dX0_layFells_13 rfl rfl ?_
      refine at_iload_n C dX0_layFells_14 rfl rfl ?_
      refine at_callp (run_S (rest := [.int x1, .ref (ad 22)]) (As := [.int x1]) C (metX0_isBall l D dA ad  hw) (lw_S q419 q420 q56 q421) dsX0_isBall (gR_ok (Nat.le_of_ble_eq_true rfl) (Nat.le_of_ble_eq_true rfl)) ⟨rfl, rfl⟩ ⟨(Nat.le_of_ble_eq_true rfl), (Nat.le_of_ble_eq_true rfl)⟩ rfl rfl (Nat.le_of_ble_eq_true rfl) dX0_layFells_15) (fun r_4  hw => ?_)
      refine at_if_eq (tgt := 29) C dX0_layFells_18 (by decide) (fun c_5 => ?_) (fun c_5 => ?_)
      · have hw := hw.1 c_5
        refine at_iconst C dX0_layFells_29 ic_m1 ?_
        exact (tX0_layFells_30 C ih hw)
      · have hw := hw.2 c_5
        refine at_aload_n C dX0_layFells_21 rfl rfl ?_
        refine at_iload_n C dX0_layFells_22 rfl rfl ?_
        refine at_calli (run_V (rest := [.int x1, .ref (ad 22)]) (As := [.int x1]) C (metX0_fellsBy l D dA ad  hw) (lw_V q422 q424 qs10 q56 q425) dsX0_fellsBy (gR_ok (Nat.le_of_ble_eq_true rfl) (Nat.le_of_ble_eq_true rfl)) ⟨rfl, rfl⟩ ⟨(Nat.le_of_ble_eq_true rfl), (Nat.le_of_ble_eq_true rfl)⟩ (Nat.le_of_ble_eq_true rfl) rfl rfl rfl rfl (Nat.le_of_ble_eq_true rfl) dX0_layFells_23) (fun r_6 w_7 hw => ?_)
        refine at_goto (tgt := 30) C dX0_layFells_26 (by decide) ?_
        exact (tX0_layFells_30 C ih hw)
set_option maxHeartbeats 4000000 in
theorem metX0_layFells   (l : Launch) (D : va_G) (dA : Nat → ClassId) (ad : Nat → Nat)     {w : GW} {Q : GW → Prop} (hw : PX0_layFells w Q) : Met l yX0_layFells (ws_ yX0_layFells cX0_layFells 2 none) (gR 26) (va_Pc [.ref (ad 0)] (gB D dA 137 ad layX w)) (va_Qv Q (gZ D dA 137 ad layX) (gA 137 ad)) 0 0 (gA 137 ad) := by
  refine gm_of (L := [(0, .ref (ad 0))]) (own := RX0) (by decide +kernel) rfl (Nat.le_of_ble_eq_true rfl) rfl rfl (fun p e s m below meth c C => ?_)
  unfold PX0_layFells at hw
  refine at_iconst C dX0_layFells_0 ic_0 ?_
  refine at_istore_n (L' := [(0, .ref (ad 0)), (1, .int 0)]) C dX0_layFells_1 rfl (Nat.le_of_ble_eq_true rfl) rfl ?_
  obtain ⟨n_8, hw⟩ := hw
  exact (tX0_layFells_2 C  _ _ _ hw)
end GWalk
