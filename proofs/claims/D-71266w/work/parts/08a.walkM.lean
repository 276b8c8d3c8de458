/-! the walks of the reference -/
set_option maxRecDepth 100000
section GWalk
variable {p : Program} {l : Launch} {e : Env} {s : State} {m : MethodId} {args : Array Value} {below : List Frame} {meth : Method} {c : Code} {D : va_G} {dA : Nat → ClassId} {ad : Nat → Nat}
set_option maxHeartbeats 4000000 in
theorem metX7_in   (l : Launch) (D : va_G) (dA : Nat → ClassId) (ad : Nat → Nat)    {x0 : Int32} {x1 : Int32} {x2 : Int32} {w : GW} {Q : Int32 → Prop} (hw : PX7_in x0 x1 x2 Q) : Met l yX7_in (ws_ yX7_in cX7_in 3 (some .boolean)) (gR 1) (va_Pc [.int x0, .int x1, .int x2] (gB D dA 20 ad layM w)) (va_Qi (gQ1 Q w) (gZ D dA 20 ad layM) (gA 20 ad)) 0 0 (gA 20 ad) := by
  refine gm_of (L := [(0, .int x0), (1, .int x1), (2, .int x2)]) (own := RX7) (by decide +kernel) rfl (Nat.le_of_ble_eq_true rfl) rfl rfl (fun p e s m below meth c C => ?_)
  unfold PX7_in at hw
  refine at_iload_n C dX7_in_0 rfl rfl ?_
  refine at_iload_n C dX7_in_1 rfl rfl ?_
  refine at_icmp_lt (tgt := 14) C dX7_in_2 (by decide) (fun c_1 => ?_) (fun c_1 => ?_)
  · have hw := hw.1 c_1
    refine at_iconst C dX7_in_14 ic_0 ?_
    exact at_zret C rfl gBool_0 ⟨hw, rfl⟩ dX7_in_15
  · have hw := hw.2 c_1
    refine at_iload_n C dX7_in_5 rfl rfl ?_
    refine at_iload_n C dX7_in_6 rfl rfl ?_
    refine at_icmp_gt (tgt := 14) C dX7_in_7 (by decide) (fun c_2 => ?_) (fun c_2 => ?_)
    · have hw := hw.1 c_2
      refine at_iconst C dX7_in_14 ic_0 ?_
      exact at_zret C rfl gBool_0 ⟨hw, rfl⟩ dX7_in_15
    · have hw := hw.2 c_2
      refine at_iconst C dX7_in_10 ic_1 ?_
      refine at_goto (tgt := 15) C dX7_in_11 (by decide) ?_
      exact at_zret C rfl gBool_1 ⟨hw, rfl⟩ dX7_in_15
set_option maxHeartbeats 4000000 in
theorem metX7_feed   (l : Launch) (D : va_G) (dA : Nat → ClassId) (ad : Nat → Nat)    {x1 : Int32} {w : GW} {Q : Int32 → GW → Prop} (hw : PX7_feed x1 w Q) : Met l yX7_feed (ws_ yX7_feed cX7_feed 2 (some .int)) (gR 2) (va_Pc [.ref (ad 0), .int x1] (gB D dA 20 ad layM w)) (va_Qi Q (gZ D dA 20 ad layM) (gA 20 ad)) 0 0 (gA 20 ad) := by
  refine gm_of (L := [(0, .ref (ad 0)), (1, .int x1)]) (own := RX7) (by decide +kernel) rfl (Nat.le_of_ble_eq_true rfl) rfl rfl (fun p e s m below meth c C => ?_)
  unfold PX7_feed at hw
  refine at_aload_n C dX7_feed_0 rfl rfl ?_
  refine at_iconst C dX7_feed_1 ic_0 ?_
  refine at_puti (j := 0) C (Nat.le_of_ble_eq_true rfl) rfl rfl in_X7 (Nat.le_of_ble_eq_true rfl) rfl q687 tyX7 tyX7_ok nmX7 rfl rfl rfl dX7_feed_2 (fun w_1 ew_1 => ?_)
  have hw := hw w_1 ew_1
  refine at_iload_n C dX7_feed_5 rfl rfl ?_
  refine at_iconst C dX7_feed_6 ic_0 ?_
  refine at_sipush C dX7_feed_7 sp_255 ?_
  refine at_callp (run_S (rest := []) (As := [.int x1, .int 0, .int 255]) C (metX7_in l D dA ad  hw) (lw_S q797 q798 q65 q799) dsX7_in (gR_ok (Nat.le_of_ble_eq_true rfl) (Nat.le_of_ble_eq_true rfl)) ⟨rfl, rfl⟩ ⟨Nat.le_refl 0, Nat.le_refl 0⟩ rfl rfl (Nat.le_of_ble_eq_true rfl) dX7_feed_10) (fun r_2  hw => ?_)
  refine at_if_ne (tgt := 19) C dX7_feed_13 (by decide) (fun c_3 => ?_) (fun c_3 => ?_)
  · have hw := hw.1 c_3
    refine at_aload_n C dX7_feed_19 rfl rfl ?_
    refine at_geti (j := 2) C (Nat.le_of_ble_eq_true rfl) rfl rfl in_X7 (Nat.le_of_ble_eq_true rfl) rfl q689 dX7_feed_20 ?_
    refine at_sipush C dX7_feed_23 sp_240 ?_
    refine at_icmp_ne (tgt := 32) C dX7_feed_26 (by decide) (fun c_4 => ?_) (fun c_4 => ?_)
    · have hw := hw.1 c_4
      refine at_aload_n C dX7_feed_32 rfl rfl ?_
      refine at_getr (j := 1) (r := 1) C (Nat.le_of_ble_eq_true rfl) rfl rfl in_X7 (Nat.le_of_ble_eq_true rfl) rfl q688 dX7_feed_33 ?_
      refine at_aload_n C dX7_feed_36 rfl rfl ?_
      refine at_geti (j := 2) C (Nat.le_of_ble_eq_true rfl) rfl rfl in_X7 (Nat.le_of_ble_eq_true rfl) rfl q689 dX7_feed_37 ?_
      refine at_iload_n C dX7_feed_40 rfl rfl ?_
      refine at_iast C (Nat.le_of_ble_eq_true rfl) rfl hw.1 rfl dX7_feed_41 (fun w_5 ew_5 => ?_)
      have hw := hw.2 w_5 ew_5
      refine at_aload_n C dX7_feed_42 rfl rfl ?_
      refine at_dup C dX7_feed_43 rfl ?_
      refine at_geti (j := 2) C (Nat.le_of_ble_eq_true rfl) rfl rfl in_X7 (Nat.le_of_ble_eq_true rfl) rfl q689 dX7_feed_44 ?_
      refine at_iconst C dX7_feed_47 ic_1 ?_
      refine at_iadd C dX7_feed_48 ?_
      refine at_puti (j := 2) C (Nat.le_of_ble_eq_true rfl) rfl rfl in_X7 (Nat.le_of_ble_eq_true rfl) rfl q689 tyX7 tyX7_ok nmX7 rfl rfl rfl dX7_feed_49 (fun w_6 ew_6 => ?_)
      have hw := hw w_6 ew_6
      refine at_aload_n C dX7_feed_52 rfl rfl ?_
      refine at_geti (j := 2) C (Nat.le_of_ble_eq_true rfl) rfl rfl in_X7 (Nat.le_of_ble_eq_true rfl) rfl q689 dX7_feed_53 ?_
      exact at_iret C rfl hw dX7_feed_56
    · have hw := hw.2 c_4
      refine at_ldc C q801 dX7_feed_29 ?_
      exact at_iret C rfl hw dX7_feed_31
  · have hw := hw.2 c_3
    refine at_ldc C q800 dX7_feed_16 ?_
    exact at_iret C rfl hw dX7_feed_18
set_option maxHeartbeats 4000000 in
theorem metX7_letterAt   (l : Launch) (D : va_G) (dA : Nat → ClassId) (ad : Nat → Nat)    {x1 : Int32} {w : GW} {Q : Int32 → Prop} (hw : PX7_letterAt x1 w Q) : Met l yX7_letterAt (ws_ yX7_letterAt cX7_letterAt 2 (some .int)) (gR 1) (va_Pc [.ref (ad 0), .int x1] (gB D dA 20 ad layM w)) (va_Qi (gQ1 Q w) (gZ D dA 20 ad layM) (gA 20 ad)) 0 0 (gA 20 ad) := by
  refine gm_of (L := [(0, .ref (ad 0)), (1, .int x1)]) (own := RX7) (by decide +kernel) rfl (Nat.le_of_ble_eq_true rfl) rfl rfl (fun p e s m below meth c C => ?_)
  unfold PX7_letterAt at hw
  refine at_iload_n C dX7_letterAt_0 rfl rfl ?_
  refine at_aload_n C dX7_letterAt_1 rfl rfl ?_
  refine at_geti (j := 2) C (Nat.le_of_ble_eq_true rfl) rfl rfl in_X7 (Nat.le_of_ble_eq_true rfl) rfl q689 dX7_letterAt_2 ?_
  refine at_icmp_ge (tgt := 17) C dX7_letterAt_5 (by decide) (fun c_1 => ?_) (fun c_1 => ?_)
  · have hw := hw.1 c_1
    refine at_iconst C dX7_letterAt_17 ic_m1 ?_
    exact at_iret C rfl ⟨hw, rfl⟩ dX7_letterAt_18
  · have hw := hw.2 c_1
    refine at_aload_n C dX7_letterAt_8 rfl rfl ?_
    refine at_getr (j := 1) (r := 1) C (Nat.le_of_ble_eq_true rfl) rfl rfl in_X7 (Nat.le_of_ble_eq_true rfl) rfl q688 dX7_letterAt_9 ?_
    refine at_iload_n C dX7_letterAt_12 rfl rfl ?_
    refine at_iald C (Nat.le_of_ble_eq_true rfl) rfl hw.1 rfl dX7_letterAt_13 ?_
    have hw := hw.2
    refine at_goto (tgt := 18) C dX7_letterAt_14 (by decide) ?_
    exact at_iret C rfl ⟨hw, rfl⟩ dX7_letterAt_18
set_option maxHeartbeats 4000000 in
theorem tX7_blanks_0     {Q : GW → Prop} (C : Cx p s m args meth c D dA cX7_blanks 1 none RX7)       : ∀ (n : Nat) (w : GW), PX7_blanks_0 Q n w → gAtM p l e s m args below meth c D dA ad 2 (va_Qv Q (gZ D dA 20 ad layM) (gA 20 ad)) 1 0 [(0, .ref (ad 0))] [] w := by
  intro n
  induction n with
  | zero => intro w hw; exact False.elim hw
  | succ n ih =>
    intro w hw
    unfold PX7_blanks_0 at hw
    refine at_aload_n C dX7_blanks_0 rfl rfl ?_
    refine at_aload_n C dX7_blanks_1 rfl rfl ?_
    refine at_geti (j := 3) C (Nat.le_of_ble_eq_true rfl) rfl rfl in_X7 (Nat.le_of_ble_eq_true rfl) rfl q690 dX7_blanks_2 ?_
    refine at_callp (run_V (rest := []) (As := [.int (w 0 3)]) C (metX7_letterAt l D dA ad  hw) (lw_V q814 q816 qs26 q65 q817) dsX7_letterAt (gR_ok (Nat.le_of_ble_eq_true rfl) (Nat.le_of_ble_eq_true rfl)) ⟨rfl, rfl⟩ ⟨Nat.le_refl 0, Nat.le_refl 0⟩ (Nat.le_of_ble_eq_true rfl) rfl rfl rfl rfl (Nat.le_of_ble_eq_true rfl) dX7_blanks_5) (fun r_1  hw => ?_)
    refine at_bipush C dX7_blanks_8 bp_32 ?_
    refine at_icmp_ne (tgt := 26) C dX7_blanks_10 (by decide) (fun c_2 => ?_) (fun c_2 => ?_)
    · have hw := hw.1 c_2
      exact at_vret C rfl hw dX7_blanks_26
    · have hw := hw.2 c_2
      refine at_aload_n C dX7_blanks_13 rfl rfl ?_
      refine at_dup C dX7_blanks_14 rfl ?_
      refine at_geti (j := 3) C (Nat.le_of_ble_eq_true rfl) rfl rfl in_X7 (Nat.le_of_ble_eq_true rfl) rfl q690 dX7_blanks_15 ?_
      refine at_iconst C dX7_blanks_18 ic_1 ?_
      refine at_iadd C dX7_blanks_19 ?_
      refine at_puti (j := 3) C (Nat.le_of_ble_eq_true rfl) rfl rfl in_X7 (Nat.le_of_ble_eq_true rfl) rfl q690 tyX7 tyX7_ok nmX7 rfl rfl rfl dX7_blanks_20 (fun w_3 ew_3 => ?_)
      have hw := hw w_3 ew_3
      refine at_goto (tgt := 0) C dX7_blanks_23 (by decide) ?_
      exact ih _ hw
set_option maxHeartbeats 4000000 in
theorem metX7_blanks   (l : Launch) (D : va_G) (dA : Nat → ClassId) (ad : Nat → Nat)     {w : GW} {Q : GW → Prop} (hw : PX7_blanks w Q) : Met l yX7_blanks (ws_ yX7_blanks cX7_blanks 1 none) (gR 2) (va_Pc [.ref (ad 0)] (gB D dA 20 ad layM w)) (va_Qv Q (gZ D dA 20 ad layM) (gA 20 ad)) 0 0 (gA 20 ad) := by
  refine gm_of (L := [(0, .ref (ad 0))]) (own := RX7) (by decide +kernel) rfl (Nat.le_of_ble_eq_true rfl) rfl rfl (fun p e s m below meth c C => ?_)
  unfold PX7_blanks at hw
  obtain ⟨n_4, hw⟩ := hw
  exact (tX7_blanks_0 C  _ _ hw)
set_option maxHeartbeats 4000000 in
theorem metX7_isWell   (l : Launch) (D : va_G) (dA : Nat → ClassId) (ad : Nat → Nat)     {w : GW} {Q : Int32 → Prop} (hw : PX7_isWell w Q) : Met l yX7_isWell (ws_ yX7_isWell cX7_isWell 1 (some .boolean)) (gR 1) (va_Pc [.ref (ad 0)] (gB D dA 20 ad layM w)) (va_Qi (gQ1 Q w) (gZ D dA 20 ad layM) (gA 20 ad)) 0 0 (gA 20 ad) := by
  refine gm_of (L := [(0, .ref (ad 0))]) (own := RX7) (by decide +kernel) rfl (Nat.le_of_ble_eq_true rfl) rfl rfl (fun p e s m below meth c C => ?_)
  unfold PX7_isWell at hw
  refine at_aload_n C dX7_isWell_0 rfl rfl ?_
  refine at_geti (j := 4) C (Nat.le_of_ble_eq_true rfl) rfl rfl in_X7 (Nat.le_of_ble_eq_true rfl) rfl q691 dX7_isWell_1 ?_
  refine at_if_ne (tgt := 11) C dX7_isWell_4 (by decide) (fun c_1 => ?_) (fun c_1 => ?_)
  · have hw := hw.1 c_1
    refine at_iconst C dX7_isWell_11 ic_0 ?_
    exact at_zret C rfl gBool_0 ⟨hw, rfl⟩ dX7_isWell_12
  · have hw := hw.2 c_1
    refine at_iconst C dX7_isWell_7 ic_1 ?_
    refine at_goto (tgt := 12) C dX7_isWell_8 (by decide) ?_
    exact at_zret C rfl gBool_1 ⟨hw, rfl⟩ dX7_isWell_12
set_option maxHeartbeats 4000000 in
theorem metX7_faulty   (l : Launch) (D : va_G) (dA : Nat → ClassId) (ad : Nat → Nat)    {x1 : Int32} {x2 : Int32} {w : GW} {Q : GW → Prop} (hw : PX7_faulty x1 x2 w Q) : Met l yX7_faulty (ws_ yX7_faulty cX7_faulty 3 none) (gR 2) (va_Pc [.ref (ad 0), .int x1, .int x2] (gB D dA 20 ad layM w)) (va_Qv Q (gZ D dA 20 ad layM) (gA 20 ad)) 0 0 (gA 20 ad) := by
  refine gm_of (L := [(0, .ref (ad 0)), (1, .int x1), (2, .int x2)]) (own := RX7) (by decide +kernel) rfl (Nat.le_of_ble_eq_true rfl) rfl rfl (fun p e s m below meth c C => ?_)
  unfold PX7_faulty at hw
  refine at_aload_n C dX7_faulty_0 rfl rfl ?_
  refine at_callp (run_V (rest := []) (As := []) C (metX7_isWell l D dA ad  hw) (lw_V q818 q820 qs27 q65 q821) dsX7_isWell (gR_ok (Nat.le_of_ble_eq_true rfl) (Nat.le_of_ble_eq_true rfl)) ⟨rfl, rfl⟩ ⟨Nat.le_refl 0, Nat.le_refl 0⟩ (Nat.le_of_ble_eq_true rfl) rfl rfl rfl rfl (Nat.le_of_ble_eq_true rfl) dX7_faulty_1) (fun r_1  hw => ?_)
  refine at_if_eq (tgt := 17) C dX7_faulty_4 (by decide) (fun c_2 => ?_) (fun c_2 => ?_)
  · have hw := hw.1 c_2
    exact at_vret C rfl hw dX7_faulty_17
  · have hw := hw.2 c_2
    refine at_aload_n C dX7_faulty_7 rfl rfl ?_
    refine at_iload_n C dX7_faulty_8 rfl rfl ?_
    refine at_puti (j := 4) C (Nat.le_of_ble_eq_true rfl) rfl rfl in_X7 (Nat.le_of_ble_eq_true rfl) rfl q691 tyX7 tyX7_ok nmX7 rfl rfl rfl dX7_faulty_9 (fun w_3 ew_3 => ?_)
    have hw := hw w_3 ew_3
    refine at_aload_n C dX7_faulty_12 rfl rfl ?_
    refine at_iload_n C dX7_faulty_13 rfl rfl ?_
    refine at_puti (j := 5) C (Nat.le_of_ble_eq_true rfl) rfl rfl in_X7 (Nat.le_of_ble_eq_true rfl) rfl q692 tyX7 tyX7_ok nmX7 rfl rfl rfl dX7_faulty_14 (fun w_4 ew_4 => ?_)
    have hw := hw w_4 ew_4
    exact at_vret C rfl hw dX7_faulty_17
set_option maxHeartbeats 4000000 in
theorem tX7_due_112     {Q : Int32 → GW → Prop} (C : Cx p s m args meth c D dA cX7_due 5 (some .int) RX7)    {x3 : Int32} {x4 : Int32} {w : GW}  (hw : PX7_due_112 Q x3 x4 w) : gAtM p l e s m args below meth c D dA ad 3 (va_Qi Q (gZ D dA 20 ad layM) (gA 20 ad)) 5 112 [(0, .ref (ad 0)), (3, .int x3), (4, .int x4)] [] w := by
  unfold PX7_due_112 at hw
  refine at_aload_n C dX7_due_112 rfl rfl ?_
  refine at_iconst C dX7_due_113 ic_2 ?_
  refine at_iload_n C dX7_due_114 rfl rfl ?_
  refine at_callv (run_V (rest := []) (As := [.int 2, .int x3]) C (metX7_faulty l D dA ad  hw) (lw_V q822 q824 qs28 q65 q825) dsX7_faulty (gR_ok (Nat.le_of_ble_eq_true rfl) (Nat.le_of_ble_eq_true rfl)) ⟨rfl, rfl⟩ ⟨Nat.le_refl 0, Nat.le_refl 0⟩ (Nat.le_of_ble_eq_true rfl) rfl rfl rfl rfl (Nat.le_of_ble_eq_true rfl) dX7_due_115) (fun  w_2 hw => ?_)
  refine at_iload C dX7_due_118 rfl ?_
  exact at_iret C rfl hw dX7_due_120
set_option maxHeartbeats 4000000 in
theorem tX7_due_60    {K12 : Int32 → GW → Prop} {Q : Int32 → GW → Prop} (C : Cx p s m args meth c D dA cX7_due 5 (some .int) RX7)    {x1 : Int32} {x2 : Int32} {x3 : Int32} {s0 : Int32} {w : GW} (hK12 : ∀ (x4 : Int32) (w : GW), K12 x4 w → gAtM p l e s m args below meth c D dA ad 3 (va_Qi Q (gZ D dA 20 ad layM) (gA 20 ad)) 5 12 [(0, .ref (ad 0)), (1, .int x1), (2, .int x2), (3, .int x3), (4, .int x4)] [] w) (hw : PX7_due_60 K12 Q x1 x2 x3 s0 w) : gAtM p l e s m args below meth c D dA ad 3 (va_Qi Q (gZ D dA 20 ad layM) (gA 20 ad)) 5 60 [(0, .ref (ad 0)), (1, .int x1), (2, .int x2), (3, .int x3)] [.int s0] w := by
  unfold PX7_due_60 at hw
  refine at_istore (L' := [(0, .ref (ad 0)), (1, .int x1), (2, .int x2), (3, .int x3), (4, .int s0)]) C dX7_due_60 (Nat.le_of_ble_eq_true rfl) rfl ?_
  refine at_aload_n C dX7_due_62 rfl rfl ?_
  refine at_dup C dX7_due_63 rfl ?_
  refine at_geti (j := 3) C (Nat.le_of_ble_eq_true rfl) rfl rfl in_X7 (Nat.le_of_ble_eq_true rfl) rfl q690 dX7_due_64 ?_
  refine at_iconst C dX7_due_67 ic_1 ?_
  refine at_iadd C dX7_due_68 ?_
  refine at_puti (j := 3) C (Nat.le_of_ble_eq_true rfl) rfl rfl in_X7 (Nat.le_of_ble_eq_true rfl) rfl q690 tyX7 tyX7_ok nmX7 rfl rfl rfl dX7_due_69 (fun w_3 ew_3 => ?_)
  have hw := hw w_3 ew_3
  refine at_goto (tgt := 12) C dX7_due_72 (by decide) ?_
  exact hK12 _ _ hw
set_option maxHeartbeats 4000000 in
theorem tX7_due_12     {Q : Int32 → GW → Prop} (C : Cx p s m args meth c D dA cX7_due 5 (some .int) RX7)    {x1 : Int32} {x2 : Int32} {x3 : Int32}   : ∀ (n : Nat) (x4 : Int32) (w : GW), PX7_due_12 Q x1 x2 x3 n x4 w → gAtM p l e s m args below meth c D dA ad 3 (va_Qi Q (gZ D dA 20 ad layM) (gA 20 ad)) 5 12 [(0, .ref (ad 0)), (1, .int x1), (2, .int x2), (3, .int x3), (4, .int x4)] [] w := by
  intro n
  induction n with
  | zero => intro x4 w hw; exact False.elim hw
  | succ n ih =>
    intro x4 w hw
    unfold PX7_due_12 at hw
    refine at_aload_n C dX7_due_12 rfl rfl ?_
    refine at_aload_n C dX7_due_13 rfl rfl ?_
    refine at_geti (j := 3) C (Nat.le_of_ble_eq_true rfl) rfl rfl in_X7 (Nat.le_of_ble_eq_true rfl) rfl q690 dX7_due_14 ?_
    refine at_callp (run_V (rest := []) (As := [.int (w 0 3)]) C (metX7_letterAt l D dA ad  hw) (lw_V q814 q816 qs26 q65 q817) dsX7_letterAt (gR_ok (Nat.le_of_ble_eq_true rfl) (Nat.le_of_ble_eq_true rfl)) ⟨rfl, rfl⟩ ⟨Nat.le_refl 0, Nat.le_refl 0⟩ (Nat.le_of_ble_eq_true rfl) rfl rfl rfl rfl (Nat.le_of_ble_eq_true rfl) dX7_due_17) (fun r_4  hw => ?_)
    refine at_bipush C dX7_due_20 bp_48 ?_
    refine at_bipush C dX7_due_22 bp_57 ?_
    refine at_callp (run_S (rest := []) (As := [.int r_4, .int 48, .int 57]) C (metX7_in l D dA ad  hw) (lw_S q797 q798 q65 q799) dsX7_in (gR_ok (Nat.le_of_ble_eq_true rfl) (Nat.le_of_ble_eq_true rfl)) ⟨rfl, rfl⟩ ⟨Nat.le_refl 0, Nat.le_refl 0⟩ rfl rfl (Nat.le_of_ble_eq_true rfl) dX7_due_24) (fun r_5  hw => ?_)
    refine at_if_eq (tgt := 75) C dX7_due_27 (by decide) (fun c_6 => ?_) (fun c_6 => ?_)
    · have hw := hw.1 c_6
      refine at_aload_n C dX7_due_75 rfl rfl ?_
      refine at_geti (j := 3) C (Nat.le_of_ble_eq_true rfl) rfl rfl in_X7 (Nat.le_of_ble_eq_true rfl) rfl q690 dX7_due_76 ?_
      refine at_iload_n C dX7_due_79 rfl rfl ?_
      refine at_icmp_ne (tgt := 92) C dX7_due_80 (by decide) (fun c_7 => ?_) (fun c_7 => ?_)
      · have hw := hw.1 c_7
        refine at_aload_n C dX7_due_92 rfl rfl ?_
        refine at_geti (j := 3) C (Nat.le_of_ble_eq_true rfl) rfl rfl in_X7 (Nat.le_of_ble_eq_true rfl) rfl q690 dX7_due_93 ?_
        refine at_iload_n C dX7_due_96 rfl rfl ?_
        refine at_isub C dX7_due_97 ?_
        refine at_iconst C dX7_due_98 ic_3 ?_
        refine at_icmp_gt (tgt := 112) C dX7_due_99 (by decide) (fun c_8 => ?_) (fun c_8 => ?_)
        · have hw := hw.1 c_8
          exact at_sub (lv_pickm [0, 3, 4] rfl) (tX7_due_112 C  hw)
        · have hw := hw.2 c_8
          refine at_iload C dX7_due_102 rfl ?_
          refine at_iload_n C dX7_due_104 rfl rfl ?_
          refine at_iload_n C dX7_due_105 rfl rfl ?_
          refine at_callp (run_S (rest := []) (As := [.int x4, .int x1, .int x2]) C (metX7_in l D dA ad  hw) (lw_S q797 q798 q65 q799) dsX7_in (gR_ok (Nat.le_of_ble_eq_true rfl) (Nat.le_of_ble_eq_true rfl)) ⟨rfl, rfl⟩ ⟨Nat.le_refl 0, Nat.le_refl 0⟩ rfl rfl (Nat.le_of_ble_eq_true rfl) dX7_due_106) (fun r_9  hw => ?_)
          refine at_if_ne (tgt := 118) C dX7_due_109 (by decide) (fun c_10 => ?_) (fun c_10 => ?_)
          · have hw := hw.1 c_10
            refine at_iload C dX7_due_118 rfl ?_
            exact at_iret C rfl hw dX7_due_120
          · have hw := hw.2 c_10
            exact at_sub (lv_pickm [0, 3, 4] rfl) (tX7_due_112 C  hw)
      · have hw := hw.2 c_7
        refine at_aload_n C dX7_due_83 rfl rfl ?_
        refine at_iconst C dX7_due_84 ic_1 ?_
        refine at_iload_n C dX7_due_85 rfl rfl ?_
        refine at_callv (run_V (rest := []) (As := [.int 1, .int x3]) C (metX7_faulty l D dA ad  hw) (lw_V q822 q824 qs28 q65 q825) dsX7_faulty (gR_ok (Nat.le_of_ble_eq_true rfl) (Nat.le_of_ble_eq_true rfl)) ⟨rfl, rfl⟩ ⟨Nat.le_refl 0, Nat.le_refl 0⟩ (Nat.le_of_ble_eq_true rfl) rfl rfl rfl rfl (Nat.le_of_ble_eq_true rfl) dX7_due_86) (fun  w_12 hw => ?_)
        refine at_goto (tgt := 118) C dX7_due_89 (by decide) ?_
        refine at_iload C dX7_due_118 rfl ?_
        exact at_iret C rfl hw dX7_due_120
    · have hw := hw.2 c_6
      refine at_iload C dX7_due_30 rfl ?_
      refine at_sipush C dX7_due_32 sp_9999 ?_
      refine at_icmp_le (tgt := 43) C dX7_due_35 (by decide) (fun c_13 => ?_) (fun c_13 => ?_)
      · have hw := hw.1 c_13
        refine at_bipush C dX7_due_43 bp_10 ?_
        refine at_iload C dX7_due_45 rfl ?_
        refine at_imul C dX7_due_47 ?_
        refine at_aload_n C dX7_due_48 rfl rfl ?_
        refine at_aload_n C dX7_due_49 rfl rfl ?_
        refine at_geti (j := 3) C (Nat.le_of_ble_eq_true rfl) rfl rfl in_X7 (Nat.le_of_ble_eq_true rfl) rfl q690 dX7_due_50 ?_
        refine at_callp (run_V (rest := [.int (10 * x4)]) (As := [.int (w 0 3)]) C (metX7_letterAt l D dA ad  hw) (lw_V q814 q816 qs26 q65 q817) dsX7_letterAt (gR_ok (Nat.le_of_ble_eq_true rfl) (Nat.le_of_ble_eq_true rfl)) ⟨rfl, rfl⟩ ⟨Nat.le_refl 0, Nat.le_refl 0⟩ (Nat.le_of_ble_eq_true rfl) rfl rfl rfl rfl (Nat.le_of_ble_eq_true rfl) dX7_due_53) (fun r_14  hw => ?_)
        refine at_iadd C dX7_due_56 ?_
        refine at_bipush C dX7_due_57 bp_48 ?_
        refine at_isub C dX7_due_59 ?_
        exact at_sub (lv_pickm [0, 1, 2, 3] rfl) (tX7_due_60 C ih hw)
      · have hw := hw.2 c_13
        refine at_iload C dX7_due_38 rfl ?_
        refine at_goto (tgt := 60) C dX7_due_40 (by decide) ?_
        exact at_sub (lv_pickm [0, 1, 2, 3] rfl) (tX7_due_60 C ih hw)
set_option maxHeartbeats 4000000 in
theorem metX7_due   (l : Launch) (D : va_G) (dA : Nat → ClassId) (ad : Nat → Nat)    {x1 : Int32} {x2 : Int32} {w : GW} {Q : Int32 → GW → Prop} (hw : PX7_due x1 x2 w Q) : Met l yX7_due (ws_ yX7_due cX7_due 5 (some .int)) (gR 3) (va_Pc [.ref (ad 0), .int x1, .int x2] (gB D dA 20 ad layM w)) (va_Qi Q (gZ D dA 20 ad layM) (gA 20 ad)) 0 0 (gA 20 ad) := by
  refine gm_of (L := [(0, .ref (ad 0)), (1, .int x1), (2, .int x2)]) (own := RX7) (by decide +kernel) rfl (Nat.le_of_ble_eq_true rfl) rfl rfl (fun p e s m below meth c C => ?_)
  unfold PX7_due at hw
  refine at_aload_n C dX7_due_0 rfl rfl ?_
  refine at_callv (run_V (rest := []) (As := []) C (metX7_blanks l D dA ad  hw) (lw_V q810 q812 qs25 q65 q813) dsX7_blanks (gR_ok (Nat.le_of_ble_eq_true rfl) (Nat.le_of_ble_eq_true rfl)) ⟨rfl, rfl⟩ ⟨Nat.le_refl 0, Nat.le_refl 0⟩ (Nat.le_of_ble_eq_true rfl) rfl rfl rfl rfl (Nat.le_of_ble_eq_true rfl) dX7_due_1) (fun  w_16 hw => ?_)
  refine at_aload_n C dX7_due_4 rfl rfl ?_
  refine at_geti (j := 3) C (Nat.le_of_ble_eq_true rfl) rfl rfl in_X7 (Nat.le_of_ble_eq_true rfl) rfl q690 dX7_due_5 ?_
  refine at_topi (fun v3_17 e3_17 => ?_)
  have hw := hw v3_17 e3_17
  refine at_istore_n (L' := [(0, .ref (ad 0)), (1, .int x1), (2, .int x2), (3, .int v3_17)]) C dX7_due_8 rfl (Nat.le_of_ble_eq_true rfl) rfl ?_
  refine at_iconst C dX7_due_9 ic_0 ?_
  refine at_istore (L' := [(0, .ref (ad 0)), (1, .int x1), (2, .int x2), (3, .int v3_17), (4, .int 0)]) C dX7_due_10 (Nat.le_of_ble_eq_true rfl) rfl ?_
  obtain ⟨n_18, hw⟩ := hw
  exact (tX7_due_12 C  _ _ _ hw)
set_option maxHeartbeats 4000000 in
theorem tX7_tells_63     {Q : GW → Prop} (C : Cx p s m args meth c D dA cX7_tells 2 none RX7)     {w : GW}  (hw : PX7_tells_63 Q w) : gAtM p l e s m args below meth c D dA ad 4 (va_Qv Q (gZ D dA 20 ad layM) (gA 20 ad)) 2 63 [(0, .ref (ad 0))] [] w := by
  unfold PX7_tells_63 at hw
  refine at_aload_n C dX7_tells_63 rfl rfl ?_
  refine at_dup C dX7_tells_64 rfl ?_
  refine at_geti (j := 11) C (Nat.le_of_ble_eq_true rfl) rfl rfl in_X7 (Nat.le_of_ble_eq_true rfl) rfl q698 dX7_tells_65 ?_
  refine at_iconst C dX7_tells_68 ic_1 ?_
  refine at_iadd C dX7_tells_69 ?_
  refine at_puti (j := 11) C (Nat.le_of_ble_eq_true rfl) rfl rfl in_X7 (Nat.le_of_ble_eq_true rfl) rfl q698 tyX7 tyX7_ok nmX7 rfl rfl rfl dX7_tells_70 (fun w_1 ew_1 => ?_)
  have hw := hw w_1 ew_1
  exact at_vret C rfl hw dX7_tells_73
set_option maxHeartbeats 4000000 in
theorem tX7_tells_40     {Q : GW → Prop} (C : Cx p s m args meth c D dA cX7_tells 2 none RX7)    {x1 : Int32} {w : GW}  (hw : PX7_tells_40 Q x1 w) : gAtM p l e s m args below meth c D dA ad 4 (va_Qv Q (gZ D dA 20 ad layM) (gA 20 ad)) 2 40 [(0, .ref (ad 0)), (1, .int x1)] [] w := by
  unfold PX7_tells_40 at hw
  refine at_aload_n C dX7_tells_40 rfl rfl ?_
  refine at_callp (run_V (rest := []) (As := []) C (metX7_isWell l D dA ad  hw) (lw_V q818 q820 qs27 q65 q821) dsX7_isWell (gR_ok (Nat.le_of_ble_eq_true rfl) (Nat.le_of_ble_eq_true rfl)) ⟨rfl, rfl⟩ ⟨Nat.le_refl 0, Nat.le_refl 0⟩ (Nat.le_of_ble_eq_true rfl) rfl rfl rfl rfl (Nat.le_of_ble_eq_true rfl) dX7_tells_41) (fun r_2  hw => ?_)
  refine at_if_eq (tgt := 63) C dX7_tells_44 (by decide) (fun c_3 => ?_) (fun c_3 => ?_)
  · have hw := hw.1 c_3
    exact at_sub (lv_pickm [0] rfl) (tX7_tells_63 C  hw)
  · have hw := hw.2 c_3
    refine at_aload_n C dX7_tells_47 rfl rfl ?_
    refine at_getr (j := 12) (r := 2) C (Nat.le_of_ble_eq_true rfl) rfl rfl in_X7 (Nat.le_of_ble_eq_true rfl) rfl q699 dX7_tells_48 ?_
    refine at_bipush C dX7_tells_51 bp_18 ?_
    refine at_iload_n C dX7_tells_53 rfl rfl ?_
    refine at_iadd C dX7_tells_54 ?_
    refine at_aload_n C dX7_tells_55 rfl rfl ?_
    refine at_iconst C dX7_tells_56 ic_0 ?_
    refine at_bipush C dX7_tells_57 bp_9 ?_
    refine at_calli (run_V (rest := [.int (18 + x1), .ref (ad 2)]) (As := [.int 0, .int 9]) C (metX7_due l D dA ad  hw) (lw_V q826 q828 qs29 q65 q829) dsX7_due (gR_ok (Nat.le_of_ble_eq_true rfl) (Nat.le_of_ble_eq_true rfl)) ⟨rfl, rfl⟩ ⟨Nat.le_refl 0, Nat.le_refl 0⟩ (Nat.le_of_ble_eq_true rfl) rfl rfl rfl rfl (Nat.le_of_ble_eq_true rfl) dX7_tells_59) (fun r_4 w_5 hw => ?_)
    refine at_iast C (Nat.le_of_ble_eq_true rfl) rfl hw.1 rfl dX7_tells_62 (fun w_6 ew_6 => ?_)
    have hw := hw.2 w_6 ew_6
    exact at_sub (lv_pickm [0] rfl) (tX7_tells_63 C  hw)
set_option maxHeartbeats 4000000 in
theorem metX7_tells   (l : Launch) (D : va_G) (dA : Nat → ClassId) (ad : Nat → Nat)     {w : GW} {Q : GW → Prop} (hw : PX7_tells w Q) : Met l yX7_tells (ws_ yX7_tells cX7_tells 2 none) (gR 4) (va_Pc [.ref (ad 0)] (gB D dA 20 ad layM w)) (va_Qv Q (gZ D dA 20 ad layM) (gA 20 ad)) 0 0 (gA 20 ad) := by
  refine gm_of (L := [(0, .ref (ad 0))]) (own := RX7) (by decide +kernel) rfl (Nat.le_of_ble_eq_true rfl) rfl rfl (fun p e s m below meth c C => ?_)
  unfold PX7_tells at hw
  refine at_aload_n C dX7_tells_0 rfl rfl ?_
  refine at_geti (j := 11) C (Nat.le_of_ble_eq_true rfl) rfl rfl in_X7 (Nat.le_of_ble_eq_true rfl) rfl q698 dX7_tells_1 ?_
  refine at_topi (fun v1_7 e1_7 => ?_)
  have hw := hw v1_7 e1_7
  refine at_istore_n (L' := [(0, .ref (ad 0)), (1, .int v1_7)]) C dX7_tells_4 rfl (Nat.le_of_ble_eq_true rfl) rfl ?_
  refine at_aload_n C dX7_tells_5 rfl rfl ?_
  refine at_getr (j := 12) (r := 2) C (Nat.le_of_ble_eq_true rfl) rfl rfl in_X7 (Nat.le_of_ble_eq_true rfl) rfl q699 dX7_tells_6 ?_
  refine at_iload_n C dX7_tells_9 rfl rfl ?_
  refine at_aload_n C dX7_tells_10 rfl rfl ?_
  refine at_iconst C dX7_tells_11 ic_0 ?_
  refine at_iconst C dX7_tells_12 ic_3 ?_
  refine at_calli (run_V (rest := [.int v1_7, .ref (ad 2)]) (As := [.int 0, .int 3]) C (metX7_due l D dA ad  hw) (lw_V q826 q828 qs29 q65 q829) dsX7_due (gR_ok (Nat.le_of_ble_eq_true rfl) (Nat.le_of_ble_eq_true rfl)) ⟨rfl, rfl⟩ ⟨Nat.le_refl 0, Nat.le_refl 0⟩ (Nat.le_of_ble_eq_true rfl) rfl rfl rfl rfl (Nat.le_of_ble_eq_true rfl) dX7_tells_13) (fun r_8 w_9 hw => ?_)
  refine at_iast C (Nat.le_of_ble_eq_true rfl) rfl hw.1 rfl dX7_tells_16 (fun w_10 ew_10 => ?_)
  have hw := hw.2 w_10 ew_10
  refine at_aload_n C dX7_tells_17 rfl rfl ?_
  refine at_callp (run_V (rest := []) (As := []) C (metX7_isWell l D dA ad  hw) (lw_V q818 q820 qs27 q65 q821) dsX7_isWell (gR_ok (Nat.le_of_ble_eq_true rfl) (Nat.le_of_ble_eq_true rfl)) ⟨rfl, rfl⟩ ⟨Nat.le_refl 0, Nat.le_refl 0⟩ (Nat.le_of_ble_eq_true rfl) rfl rfl rfl rfl (Nat.le_of_ble_eq_true rfl) dX7_tells_18) (fun r_11  hw => ?_)
  refine at_if_eq (tgt := 40) C dX7_tells_21 (by decide) (fun c_12 => ?_) (fun c_12 => ?_)
  · have hw := hw.1 c_12
    exact (tX7_tells_40 C  hw)
  · have hw := hw.2 c_12
    refine at_aload_n C dX7_tells_24 rfl rfl ?_
    refine at_getr (j := 12) (r := 2) C (Nat.le_of_ble_eq_true rfl) rfl rfl in_X7 (Nat.le_of_ble_eq_true rfl) rfl q699 dX7_tells_25 ?_
    refine at_bipush C dX7_tells_28 bp_9 ?_
    refine at_iload_n C dX7_tells_30 rfl rfl ?_
    refine at_iadd C dX7_tells_31 ?_
    refine at_aload_n C dX7_tells_32 rfl rfl ?_
    refine at_iconst C dX7_tells_33 ic_1 ?_
    refine at_bipush C dX7_tells_34 bp_20 ?_
    refine at_calli (run_V (rest := [.int (9 + v1_7), .ref (ad 2)]) (As := [.int 1, .int 20]) C (metX7_due l D dA ad  hw) (lw_V q826 q828 qs29 q65 q829) dsX7_due (gR_ok (Nat.le_of_ble_eq_true rfl) (Nat.le_of_ble_eq_true rfl)) ⟨rfl, rfl⟩ ⟨Nat.le_refl 0, Nat.le_refl 0⟩ (Nat.le_of_ble_eq_true rfl) rfl rfl rfl rfl (Nat.le_of_ble_eq_true rfl) dX7_tells_36) (fun r_13 w_14 hw => ?_)
    refine at_iast C (Nat.le_of_ble_eq_true rfl) rfl hw.1 rfl dX7_tells_39 (fun w_15 ew_15 => ?_)
    have hw := hw.2 w_15 ew_15
    exact (tX7_tells_40 C  hw)
set_option maxHeartbeats 4000000 in
theorem tX7_ends_26     {Q : GW → Prop} (C : Cx p s m args meth c D dA cX7_ends 1 none RX7)     {w : GW}  (hw : PX7_ends_26 Q w) : gAtM p l e s m args below meth c D dA ad 3 (va_Qv Q (gZ D dA 20 ad layM) (gA 20 ad)) 1 26 [(0, .ref (ad 0))] [] w := by
  unfold PX7_ends_26 at hw
  refine at_aload_n C dX7_ends_26 rfl rfl ?_
  refine at_dup C dX7_ends_27 rfl ?_
  refine at_geti (j := 3) C (Nat.le_of_ble_eq_true rfl) rfl rfl in_X7 (Nat.le_of_ble_eq_true rfl) rfl q690 dX7_ends_28 ?_
  refine at_iconst C dX7_ends_31 ic_1 ?_
  refine at_iadd C dX7_ends_32 ?_
  refine at_puti (j := 3) C (Nat.le_of_ble_eq_true rfl) rfl rfl in_X7 (Nat.le_of_ble_eq_true rfl) rfl q690 tyX7 tyX7_ok nmX7 rfl rfl rfl dX7_ends_33 (fun w_1 ew_1 => ?_)
  have hw := hw w_1 ew_1
  exact at_vret C rfl hw dX7_ends_36
set_option maxHeartbeats 4000000 in
theorem metX7_ends   (l : Launch) (D : va_G) (dA : Nat → ClassId) (ad : Nat → Nat)     {w : GW} {Q : GW → Prop} (hw : PX7_ends w Q) : Met l yX7_ends (ws_ yX7_ends cX7_ends 1 none) (gR 3) (va_Pc [.ref (ad 0)] (gB D dA 20 ad layM w)) (va_Qv Q (gZ D dA 20 ad layM) (gA 20 ad)) 0 0 (gA 20 ad) := by
  refine gm_of (L := [(0, .ref (ad 0))]) (own := RX7) (by decide +kernel) rfl (Nat.le_of_ble_eq_true rfl) rfl rfl (fun p e s m below meth c C => ?_)
  unfold PX7_ends at hw
  refine at_aload_n C dX7_ends_0 rfl rfl ?_
  refine at_callv (run_V (rest := []) (As := []) C (metX7_blanks l D dA ad  hw) (lw_V q810 q812 qs25 q65 q813) dsX7_blanks (gR_ok (Nat.le_of_ble_eq_true rfl) (Nat.le_of_ble_eq_true rfl)) ⟨rfl, rfl⟩ ⟨Nat.le_refl 0, Nat.le_refl 0⟩ (Nat.le_of_ble_eq_true rfl) rfl rfl rfl rfl (Nat.le_of_ble_eq_true rfl) dX7_ends_1) (fun  w_3 hw => ?_)
  refine at_aload_n C dX7_ends_4 rfl rfl ?_
  refine at_aload_n C dX7_ends_5 rfl rfl ?_
  refine at_geti (j := 3) C (Nat.le_of_ble_eq_true rfl) rfl rfl in_X7 (Nat.le_of_ble_eq_true rfl) rfl q690 dX7_ends_6 ?_
  refine at_callp (run_V (rest := []) (As := [.int (w_3 0 3)]) C (metX7_letterAt l D dA ad  hw) (lw_V q814 q816 qs26 q65 q817) dsX7_letterAt (gR_ok (Nat.le_of_ble_eq_true rfl) (Nat.le_of_ble_eq_true rfl)) ⟨rfl, rfl⟩ ⟨Nat.le_refl 0, Nat.le_refl 0⟩ (Nat.le_of_ble_eq_true rfl) rfl rfl rfl rfl (Nat.le_of_ble_eq_true rfl) dX7_ends_9) (fun r_4  hw => ?_)
  refine at_bipush C dX7_ends_12 bp_59 ?_
  refine at_icmp_eq (tgt := 26) C dX7_ends_14 (by decide) (fun c_5 => ?_) (fun c_5 => ?_)
  · have hw := hw.1 c_5
    exact (tX7_ends_26 C  hw)
  · have hw := hw.2 c_5
    refine at_aload_n C dX7_ends_17 rfl rfl ?_
    refine at_iconst C dX7_ends_18 ic_1 ?_
    refine at_aload_n C dX7_ends_19 rfl rfl ?_
    refine at_geti (j := 3) C (Nat.le_of_ble_eq_true rfl) rfl rfl in_X7 (Nat.le_of_ble_eq_true rfl) rfl q690 dX7_ends_20 ?_
    refine at_callv (run_V (rest := []) (As := [.int 1, .int (w_3 0 3)]) C (metX7_faulty l D dA ad  hw) (lw_V q822 q824 qs28 q65 q825) dsX7_faulty (gR_ok (Nat.le_of_ble_eq_true rfl) (Nat.le_of_ble_eq_true rfl)) ⟨rfl, rfl⟩ ⟨Nat.le_refl 0, Nat.le_refl 0⟩ (Nat.le_of_ble_eq_true rfl) rfl rfl rfl rfl (Nat.le_of_ble_eq_true rfl) dX7_ends_23) (fun  w_7 hw => ?_)
    exact (tX7_ends_26 C  hw)
set_option maxHeartbeats 4000000 in
theorem tX7_reads_144    {K6 : Int32 → GW → Prop} {Q : GW → Prop} (C : Cx p s m args meth c D dA cX7_reads 4 none RX7)    {x1 : Int32} {w : GW} (hK6 : ∀ (x1 : Int32) (w : GW), K6 x1 w → gAtM p l e s m args below meth c D dA ad 5 (va_Qv Q (gZ D dA 20 ad layM) (gA 20 ad)) 4 6 [(0, .ref (ad 0)), (1, .int x1)] [] w) (hw : PX7_reads_144 K6 Q x1 w) : gAtM p l e s m args below meth c D dA ad 5 (va_Qv Q (gZ D dA 20 ad layM) (gA 20 ad)) 4 144 [(0, .ref (ad 0)), (1, .int x1)] [] w := by
  unfold PX7_reads_144 at hw
  refine at_aload_n C dX7_reads_144 rfl rfl ?_
  refine at_callp (run_V (rest := []) (As := []) C (metX7_isWell l D dA ad  hw) (lw_V q818 q820 qs27 q65 q821) dsX7_isWell (gR_ok (Nat.le_of_ble_eq_true rfl) (Nat.le_of_ble_eq_true rfl)) ⟨rfl, rfl⟩ ⟨Nat.le_refl 0, Nat.le_refl 0⟩ (Nat.le_of_ble_eq_true rfl) rfl rfl rfl rfl (Nat.le_of_ble_eq_true rfl) dX7_reads_145) (fun r_1  hw => ?_)
  refine at_if_eq (tgt := 159) C dX7_reads_148 (by decide) (fun c_2 => ?_) (fun c_2 => ?_)
  · have hw := hw.1 c_2
    refine at_goto (tgt := 6) C dX7_reads_159 (by decide) ?_
    exact hK6 _ _ hw
  · have hw := hw.2 c_2
    refine at_aload_n C dX7_reads_151 rfl rfl ?_
    refine at_callv (run_V (rest := []) (As := []) C (metX7_ends l D dA ad  hw) (lw_V q834 q836 qs31 q65 q837) dsX7_ends (gR_ok (Nat.le_of_ble_eq_true rfl) (Nat.le_of_ble_eq_true rfl)) ⟨rfl, rfl⟩ ⟨Nat.le_refl 0, Nat.le_refl 0⟩ (Nat.le_of_ble_eq_true rfl) rfl rfl rfl rfl (Nat.le_of_ble_eq_true rfl) dX7_reads_152) (fun  w_4 hw => ?_)
    refine at_aload_n C dX7_reads_155 rfl rfl ?_
    refine at_callv (run_V (rest := []) (As := []) C (metX7_blanks l D dA ad  hw) (lw_V q810 q812 qs25 q65 q813) dsX7_blanks (gR_ok (Nat.le_of_ble_eq_true rfl) (Nat.le_of_ble_eq_true rfl)) ⟨rfl, rfl⟩ ⟨Nat.le_refl 0, Nat.le_refl 0⟩ (Nat.le_of_ble_eq_true rfl) rfl rfl rfl rfl (Nat.le_of_ble_eq_true rfl) dX7_reads_156) (fun  w_6 hw => ?_)
    refine at_goto (tgt := 6) C dX7_reads_159 (by decide) ?_
    exact hK6 _ _ hw
set_option maxHeartbeats 4000000 in
theorem tX7_reads_108    {K6 : Int32 → GW → Prop} {Q : GW → Prop} (C : Cx p s m args meth c D dA cX7_reads 4 none RX7)    {x1 : Int32} {x2 : Int32} {w : GW} (hK6 : ∀ (x1 : Int32) (w : GW), K6 x1 w → gAtM p l e s m args below meth c D dA ad 5 (va_Qv Q (gZ D dA 20 ad layM) (gA 20 ad)) 4 6 [(0, .ref (ad 0)), (1, .int x1)] [] w) (hw : PX7_reads_108 K6 Q x1 x2 w) : gAtM p l e s m args below meth c D dA ad 5 (va_Qv Q (gZ D dA 20 ad layM) (gA 20 ad)) 4 108 [(0, .ref (ad 0)), (1, .int x1), (2, .int x2)] [] w := by
  unfold PX7_reads_108 at hw
  refine at_aload_n C dX7_reads_108 rfl rfl ?_
  refine at_dup C dX7_reads_109 rfl ?_
  refine at_geti (j := 3) C (Nat.le_of_ble_eq_true rfl) rfl rfl in_X7 (Nat.le_of_ble_eq_true rfl) rfl q690 dX7_reads_110 ?_
  refine at_iconst C dX7_reads_113 ic_1 ?_
  refine at_iadd C dX7_reads_114 ?_
  refine at_puti (j := 3) C (Nat.le_of_ble_eq_true rfl) rfl rfl in_X7 (Nat.le_of_ble_eq_true rfl) rfl q690 tyX7 tyX7_ok nmX7 rfl rfl rfl dX7_reads_115 (fun w_7 ew_7 => ?_)
  have hw := hw w_7 ew_7
  refine at_iload_n C dX7_reads_118 rfl rfl ?_
  refine at_bipush C dX7_reads_119 bp_103 ?_
  refine at_icmp_ne (tgt := 140) C dX7_reads_121 (by decide) (fun c_8 => ?_) (fun c_8 => ?_)
  · have hw := hw.1 c_8
    refine at_aload_n C dX7_reads_140 rfl rfl ?_
    refine at_callv (run_V (rest := []) (As := []) C (metX7_tells l D dA ad  hw) (lw_V q830 q832 qs30 q65 q833) dsX7_tells (gR_ok (Nat.le_of_ble_eq_true rfl) (Nat.le_of_ble_eq_true rfl)) ⟨rfl, rfl⟩ ⟨Nat.le_refl 0, Nat.le_refl 0⟩ (Nat.le_of_ble_eq_true rfl) rfl rfl rfl rfl (Nat.le_of_ble_eq_true rfl) dX7_reads_141) (fun  w_10 hw => ?_)
    exact at_sub (lv_pickm [0, 1] rfl) (tX7_reads_144 C hK6 hw)
  · have hw := hw.2 c_8
    refine at_iconst C dX7_reads_124 ic_1 ?_
    refine at_istore_n (L' := [(0, .ref (ad 0)), (1, .int 1), (2, .int x2)]) C dX7_reads_125 rfl (Nat.le_of_ble_eq_true rfl) rfl ?_
    refine at_aload_n C dX7_reads_126 rfl rfl ?_
    refine at_aload_n C dX7_reads_127 rfl rfl ?_
    refine at_iconst C dX7_reads_128 ic_0 ?_
    refine at_bipush C dX7_reads_129 bp_9 ?_
    refine at_calli (run_V (rest := [.ref (ad 0)]) (As := [.int 0, .int 9]) C (metX7_due l D dA ad  hw) (lw_V q826 q828 qs29 q65 q829) dsX7_due (gR_ok (Nat.le_of_ble_eq_true rfl) (Nat.le_of_ble_eq_true rfl)) ⟨rfl, rfl⟩ ⟨Nat.le_refl 0, Nat.le_refl 0⟩ (Nat.le_of_ble_eq_true rfl) rfl rfl rfl rfl (Nat.le_of_ble_eq_true rfl) dX7_reads_131) (fun r_11 w_12 hw => ?_)
    refine at_puti (j := 10) C (Nat.le_of_ble_eq_true rfl) rfl rfl in_X7 (Nat.le_of_ble_eq_true rfl) rfl q697 tyX7 tyX7_ok nmX7 rfl rfl rfl dX7_reads_134 (fun w_13 ew_13 => ?_)
    have hw := hw w_13 ew_13
    refine at_goto (tgt := 144) C dX7_reads_137 (by decide) ?_
    exact at_sub (lv_pickm [0, 1] rfl) (tX7_reads_144 C hK6 hw)
set_option maxHeartbeats 4000000 in
theorem tX7_reads_96    {K6 : Int32 → GW → Prop} {Q : GW → Prop} (C : Cx p s m args meth c D dA cX7_reads 4 none RX7)    {x1 : Int32} {w : GW} (hK6 : ∀ (x1 : Int32) (w : GW), K6 x1 w → gAtM p l e s m args below meth c D dA ad 5 (va_Qv Q (gZ D dA 20 ad layM) (gA 20 ad)) 4 6 [(0, .ref (ad 0)), (1, .int x1)] [] w) (hw : PX7_reads_96 K6 Q x1 w) : gAtM p l e s m args below meth c D dA ad 5 (va_Qv Q (gZ D dA 20 ad layM) (gA 20 ad)) 4 96 [(0, .ref (ad 0)), (1, .int x1)] [] w := by
  unfold PX7_reads_96 at hw
  refine at_aload_n C dX7_reads_96 rfl rfl ?_
  refine at_iconst C dX7_reads_97 ic_3 ?_
  refine at_aload_n C dX7_reads_98 rfl rfl ?_
  refine at_geti (j := 3) C (Nat.le_of_ble_eq_true rfl) rfl rfl in_X7 (Nat.le_of_ble_eq_true rfl) rfl q690 dX7_reads_99 ?_
  refine at_callv (run_V (rest := []) (As := [.int 3, .int (w 0 3)]) C (metX7_faulty l D dA ad  hw) (lw_V q822 q824 qs28 q65 q825) dsX7_faulty (gR_ok (Nat.le_of_ble_eq_true rfl) (Nat.le_of_ble_eq_true rfl)) ⟨rfl, rfl⟩ ⟨Nat.le_refl 0, Nat.le_refl 0⟩ (Nat.le_of_ble_eq_true rfl) rfl rfl rfl rfl (Nat.le_of_ble_eq_true rfl) dX7_reads_102) (fun  w_15 hw => ?_)
  refine at_goto (tgt := 159) C dX7_reads_105 (by decide) ?_
  refine at_goto (tgt := 6) C dX7_reads_159 (by decide) ?_
  exact hK6 _ _ hw
set_option maxHeartbeats 4000000 in
theorem tX7_reads_81    {K6 : Int32 → GW → Prop} {Q : GW → Prop} (C : Cx p s m args meth c D dA cX7_reads 4 none RX7)    {x1 : Int32} {x2 : Int32} {w : GW} (hK6 : ∀ (x1 : Int32) (w : GW), K6 x1 w → gAtM p l e s m args below meth c D dA ad 5 (va_Qv Q (gZ D dA 20 ad layM) (gA 20 ad)) 4 6 [(0, .ref (ad 0)), (1, .int x1)] [] w) (hw : PX7_reads_81 K6 Q x1 x2 w) : gAtM p l e s m args below meth c D dA ad 5 (va_Qv Q (gZ D dA 20 ad layM) (gA 20 ad)) 4 81 [(0, .ref (ad 0)), (1, .int x1), (2, .int x2)] [] w := by
  unfold PX7_reads_81 at hw
  refine at_iload_n C dX7_reads_81 rfl rfl ?_
  refine at_bipush C dX7_reads_82 bp_115 ?_
  refine at_icmp_ne (tgt := 108) C dX7_reads_84 (by decide) (fun c_16 => ?_) (fun c_16 => ?_)
  · have hw := hw.1 c_16
    exact (tX7_reads_108 C hK6 hw)
  · have hw := hw.2 c_16
    refine at_aload_n C dX7_reads_87 rfl rfl ?_
    refine at_geti (j := 11) C (Nat.le_of_ble_eq_true rfl) rfl rfl in_X7 (Nat.le_of_ble_eq_true rfl) rfl q698 dX7_reads_88 ?_
    refine at_bipush C dX7_reads_91 bp_9 ?_
    refine at_icmp_ne (tgt := 108) C dX7_reads_93 (by decide) (fun c_17 => ?_) (fun c_17 => ?_)
    · have hw := hw.1 c_17
      exact (tX7_reads_108 C hK6 hw)
    · have hw := hw.2 c_17
      exact at_sub (lv_pickm [0, 1] rfl) (tX7_reads_96 C hK6 hw)
set_option maxHeartbeats 4000000 in
theorem tX7_reads_54    {K6 : Int32 → GW → Prop} {Q : GW → Prop} (C : Cx p s m args meth c D dA cX7_reads 4 none RX7)    {x1 : Int32} {x2 : Int32} {s0 : Int32} {w : GW} (hK6 : ∀ (x1 : Int32) (w : GW), K6 x1 w → gAtM p l e s m args below meth c D dA ad 5 (va_Qv Q (gZ D dA 20 ad layM) (gA 20 ad)) 4 6 [(0, .ref (ad 0)), (1, .int x1)] [] w) (hw : PX7_reads_54 K6 Q x1 x2 s0 w) : gAtM p l e s m args below meth c D dA ad 5 (va_Qv Q (gZ D dA 20 ad layM) (gA 20 ad)) 4 54 [(0, .ref (ad 0)), (1, .int x1), (2, .int x2)] [.int s0] w := by
  unfold PX7_reads_54 at hw
  refine at_istore_n (L' := [(0, .ref (ad 0)), (1, .int x1), (2, .int x2), (3, .int s0)]) C dX7_reads_54 rfl (Nat.le_of_ble_eq_true rfl) rfl ?_
  refine at_iload_n C dX7_reads_55 rfl rfl ?_
  refine at_if_ne (tgt := 71) C dX7_reads_56 (by decide) (fun c_18 => ?_) (fun c_18 => ?_)
  · have hw := hw.1 c_18
    refine at_iload_n C dX7_reads_71 rfl rfl ?_
    refine at_bipush C dX7_reads_72 bp_103 ?_
    refine at_icmp_ne (tgt := 81) C dX7_reads_74 (by decide) (fun c_19 => ?_) (fun c_19 => ?_)
    · have hw := hw.1 c_19
      exact at_sub (lv_pickm [0, 1, 2] rfl) (tX7_reads_81 C hK6 hw)
    · have hw := hw.2 c_19
      refine at_iload_n C dX7_reads_77 rfl rfl ?_
      refine at_if_ne (tgt := 96) C dX7_reads_78 (by decide) (fun c_20 => ?_) (fun c_20 => ?_)
      · have hw := hw.1 c_20
        exact at_sub (lv_pickm [0, 1] rfl) (tX7_reads_96 C hK6 hw)
      · have hw := hw.2 c_20
        exact at_sub (lv_pickm [0, 1, 2] rfl) (tX7_reads_81 C hK6 hw)
  · have hw := hw.2 c_18
    refine at_aload_n C dX7_reads_59 rfl rfl ?_
    refine at_iconst C dX7_reads_60 ic_1 ?_
    refine at_aload_n C dX7_reads_61 rfl rfl ?_
    refine at_geti (j := 3) C (Nat.le_of_ble_eq_true rfl) rfl rfl in_X7 (Nat.le_of_ble_eq_true rfl) rfl q690 dX7_reads_62 ?_
    refine at_callv (run_V (rest := []) (As := [.int 1, .int (w 0 3)]) C (metX7_faulty l D dA ad  hw) (lw_V q822 q824 qs28 q65 q825) dsX7_faulty (gR_ok (Nat.le_of_ble_eq_true rfl) (Nat.le_of_ble_eq_true rfl)) ⟨rfl, rfl⟩ ⟨Nat.le_refl 0, Nat.le_refl 0⟩ (Nat.le_of_ble_eq_true rfl) rfl rfl rfl rfl (Nat.le_of_ble_eq_true rfl) dX7_reads_65) (fun  w_22 hw => ?_)
    refine at_goto (tgt := 159) C dX7_reads_68 (by decide) ?_
    refine at_goto (tgt := 6) C dX7_reads_159 (by decide) ?_
    exact at_sub (lv_pickm [0, 1] rfl) (hK6 _ _ hw)
set_option maxHeartbeats 4000000 in
theorem tX7_reads_49    {K6 : Int32 → GW → Prop} {Q : GW → Prop} (C : Cx p s m args meth c D dA cX7_reads 4 none RX7)    {x1 : Int32} {x2 : Int32} {w : GW} (hK6 : ∀ (x1 : Int32) (w : GW), K6 x1 w → gAtM p l e s m args below meth c D dA ad 5 (va_Qv Q (gZ D dA 20 ad layM) (gA 20 ad)) 4 6 [(0, .ref (ad 0)), (1, .int x1)] [] w) (hw : PX7_reads_49 K6 Q x1 x2 w) : gAtM p l e s m args below meth c D dA ad 5 (va_Qv Q (gZ D dA 20 ad layM) (gA 20 ad)) 4 49 [(0, .ref (ad 0)), (1, .int x1), (2, .int x2)] [] w := by
  unfold PX7_reads_49 at hw
  refine at_iconst C dX7_reads_49 ic_1 ?_
  refine at_goto (tgt := 54) C dX7_reads_50 (by decide) ?_
  exact (tX7_reads_54 C hK6 hw)
set_option maxHeartbeats 4000000 in
theorem tX7_reads_53    {K6 : Int32 → GW → Prop} {Q : GW → Prop} (C : Cx p s m args meth c D dA cX7_reads 4 none RX7)    {x1 : Int32} {x2 : Int32} {w : GW} (hK6 : ∀ (x1 : Int32) (w : GW), K6 x1 w → gAtM p l e s m args below meth c D dA ad 5 (va_Qv Q (gZ D dA 20 ad layM) (gA 20 ad)) 4 6 [(0, .ref (ad 0)), (1, .int x1)] [] w) (hw : PX7_reads_53 K6 Q x1 x2 w) : gAtM p l e s m args below meth c D dA ad 5 (va_Qv Q (gZ D dA 20 ad layM) (gA 20 ad)) 4 53 [(0, .ref (ad 0)), (1, .int x1), (2, .int x2)] [] w := by
  unfold PX7_reads_53 at hw
  refine at_iconst C dX7_reads_53 ic_0 ?_
  exact (tX7_reads_54 C hK6 hw)
set_option maxHeartbeats 4000000 in
theorem tX7_reads_6     {Q : GW → Prop} (C : Cx p s m args meth c D dA cX7_reads 4 none RX7)       : ∀ (n : Nat) (x1 : Int32) (w : GW), PX7_reads_6 Q n x1 w → gAtM p l e s m args below meth c D dA ad 5 (va_Qv Q (gZ D dA 20 ad layM) (gA 20 ad)) 4 6 [(0, .ref (ad 0)), (1, .int x1)] [] w := by
  intro n
  induction n with
  | zero => intro x1 w hw; exact False.elim hw
  | succ n ih =>
    intro x1 w hw
    unfold PX7_reads_6 at hw
    refine at_aload_n C dX7_reads_6 rfl rfl ?_
    refine at_callp (run_V (rest := []) (As := []) C (metX7_isWell l D dA ad  hw) (lw_V q818 q820 qs27 q65 q821) dsX7_isWell (gR_ok (Nat.le_of_ble_eq_true rfl) (Nat.le_of_ble_eq_true rfl)) ⟨rfl, rfl⟩ ⟨Nat.le_refl 0, Nat.le_refl 0⟩ (Nat.le_of_ble_eq_true rfl) rfl rfl rfl rfl (Nat.le_of_ble_eq_true rfl) dX7_reads_7) (fun r_23  hw => ?_)
    refine at_if_eq (tgt := 162) C dX7_reads_10 (by decide) (fun c_24 => ?_) (fun c_24 => ?_)
    · have hw := hw.1 c_24
      exact at_vret C rfl hw dX7_reads_162
    · have hw := hw.2 c_24
      refine at_aload_n C dX7_reads_13 rfl rfl ?_
      refine at_geti (j := 3) C (Nat.le_of_ble_eq_true rfl) rfl rfl in_X7 (Nat.le_of_ble_eq_true rfl) rfl q690 dX7_reads_14 ?_
      refine at_aload_n C dX7_reads_17 rfl rfl ?_
      refine at_geti (j := 2) C (Nat.le_of_ble_eq_true rfl) rfl rfl in_X7 (Nat.le_of_ble_eq_true rfl) rfl q689 dX7_reads_18 ?_
      refine at_icmp_ge (tgt := 162) C dX7_reads_21 (by decide) (fun c_25 => ?_) (fun c_25 => ?_)
      · have hw := hw.1 c_25
        exact at_vret C rfl hw dX7_reads_162
      · have hw := hw.2 c_25
        refine at_aload_n C dX7_reads_24 rfl rfl ?_
        refine at_aload_n C dX7_reads_25 rfl rfl ?_
        refine at_geti (j := 3) C (Nat.le_of_ble_eq_true rfl) rfl rfl in_X7 (Nat.le_of_ble_eq_true rfl) rfl q690 dX7_reads_26 ?_
        refine at_callp (run_V (rest := []) (As := [.int (w 0 3)]) C (metX7_letterAt l D dA ad  hw) (lw_V q814 q816 qs26 q65 q817) dsX7_letterAt (gR_ok (Nat.le_of_ble_eq_true rfl) (Nat.le_of_ble_eq_true rfl)) ⟨rfl, rfl⟩ ⟨Nat.le_refl 0, Nat.le_refl 0⟩ (Nat.le_of_ble_eq_true rfl) rfl rfl rfl rfl (Nat.le_of_ble_eq_true rfl) dX7_reads_29) (fun r_26  hw => ?_)
        refine at_istore_n (L' := [(0, .ref (ad 0)), (1, .int x1), (2, .int r_26)]) C dX7_reads_32 rfl (Nat.le_of_ble_eq_true rfl) rfl ?_
        refine at_iload_n C dX7_reads_33 rfl rfl ?_
        refine at_bipush C dX7_reads_34 bp_103 ?_
        refine at_icmp_eq (tgt := 49) C dX7_reads_36 (by decide) (fun c_27 => ?_) (fun c_27 => ?_)
        · have hw := hw.1 c_27
          exact (tX7_reads_49 C ih hw)
        · have hw := hw.2 c_27
          refine at_iload_n C dX7_reads_39 rfl rfl ?_
          refine at_bipush C dX7_reads_40 bp_115 ?_
          refine at_icmp_ne (tgt := 53) C dX7_reads_42 (by decide) (fun c_28 => ?_) (fun c_28 => ?_)
          · have hw := hw.1 c_28
            exact (tX7_reads_53 C ih hw)
          · have hw := hw.2 c_28
            refine at_iload_n C dX7_reads_45 rfl rfl ?_
            refine at_if_eq (tgt := 53) C dX7_reads_46 (by decide) (fun c_29 => ?_) (fun c_29 => ?_)
            · have hw := hw.1 c_29
              exact (tX7_reads_53 C ih hw)
            · have hw := hw.2 c_29
              exact (tX7_reads_49 C ih hw)
set_option maxHeartbeats 4000000 in
theorem metX7_reads   (l : Launch) (D : va_G) (dA : Nat → ClassId) (ad : Nat → Nat)     {w : GW} {Q : GW → Prop} (hw : PX7_reads w Q) : Met l yX7_reads (ws_ yX7_reads cX7_reads 4 none) (gR 5) (va_Pc [.ref (ad 0)] (gB D dA 20 ad layM w)) (va_Qv Q (gZ D dA 20 ad layM) (gA 20 ad)) 0 0 (gA 20 ad) := by
  refine gm_of (L := [(0, .ref (ad 0))]) (own := RX7) (by decide +kernel) rfl (Nat.le_of_ble_eq_true rfl) rfl rfl (fun p e s m below meth c C => ?_)
  unfold PX7_reads at hw
  refine at_iconst C dX7_reads_0 ic_0 ?_
  refine at_istore_n (L' := [(0, .ref (ad 0)), (1, .int 0)]) C dX7_reads_1 rfl (Nat.le_of_ble_eq_true rfl) rfl ?_
  refine at_aload_n C dX7_reads_2 rfl rfl ?_
  refine at_callv (run_V (rest := []) (As := []) C (metX7_blanks l D dA ad  hw) (lw_V q810 q812 qs25 q65 q813) dsX7_blanks (gR_ok (Nat.le_of_ble_eq_true rfl) (Nat.le_of_ble_eq_true rfl)) ⟨rfl, rfl⟩ ⟨Nat.le_refl 0, Nat.le_refl 0⟩ (Nat.le_of_ble_eq_true rfl) rfl rfl rfl rfl (Nat.le_of_ble_eq_true rfl) dX7_reads_3) (fun  w_31 hw => ?_)
  obtain ⟨n_32, hw⟩ := hw
  exact (tX7_reads_6 C  _ _ _ hw)
set_option maxHeartbeats 4000000 in
theorem tX7_settles_155    {K35 : Int32 → GW → Prop} {Q : GW → Prop} (C : Cx p s m args meth c D dA cX7_settles 3 none RX7)    {x1 : Int32} {s1 : Int32} {s2 : Int32} {w : GW} (hK35 : ∀ (x1 : Int32) (w : GW), K35 x1 w → gAtM p l e s m args below meth c D dA ad 1 (va_Qv Q (gZ D dA 20 ad layM) (gA 20 ad)) 3 35 [(0, .ref (ad 0)), (1, .int x1)] [] w) (hw : PX7_settles_155 K35 Q x1 s1 s2 w) : gAtM p l e s m args below meth c D dA ad 1 (va_Qv Q (gZ D dA 20 ad layM) (gA 20 ad)) 3 155 [(0, .ref (ad 0)), (1, .int x1)] [.int s2, .int s1, .ref (ad 4)] w := by
  unfold PX7_settles_155 at hw
  refine at_iast C (Nat.le_of_ble_eq_true rfl) rfl hw.1 rfl dX7_settles_155 (fun w_1 ew_1 => ?_)
  have hw := hw.2 w_1 ew_1
  refine at_iinc (F := fun z_ => [(0, .ref (ad 0)), (1, .int z_)]) C dX7_settles_156 rfl ic_1 (Nat.le_of_ble_eq_true rfl) (fun _ => rfl) (fun v1_2 e1_2 => ?_)
  have hw := hw v1_2 e1_2
  refine at_goto (tgt := 35) C dX7_settles_159 (by decide) ?_
  exact hK35 _ _ hw
set_option maxHeartbeats 4000000 in
theorem tX7_settles_129    {K35 : Int32 → GW → Prop} {Q : GW → Prop} (C : Cx p s m args meth c D dA cX7_settles 3 none RX7)    {x1 : Int32} {x2 : Int32} {s1 : Int32} {s2 : Int32} {w : GW} (hK35 : ∀ (x1 : Int32) (w : GW), K35 x1 w → gAtM p l e s m args below meth c D dA ad 1 (va_Qv Q (gZ D dA 20 ad layM) (gA 20 ad)) 3 35 [(0, .ref (ad 0)), (1, .int x1)] [] w) (hw : PX7_settles_129 K35 Q x1 x2 s1 s2 w) : gAtM p l e s m args below meth c D dA ad 1 (va_Qv Q (gZ D dA 20 ad layM) (gA 20 ad)) 3 129 [(0, .ref (ad 0)), (1, .int x1), (2, .int x2)] [.int s2, .int s1, .ref (ad 3)] w := by
  unfold PX7_settles_129 at hw
  refine at_iast C (Nat.le_of_ble_eq_true rfl) rfl hw.1 rfl dX7_settles_129 (fun w_3 ew_3 => ?_)
  have hw := hw.2 w_3 ew_3
  refine at_aload_n C dX7_settles_130 rfl rfl ?_
  refine at_getr (j := 14) (r := 4) C (Nat.le_of_ble_eq_true rfl) rfl rfl in_X7 (Nat.le_of_ble_eq_true rfl) rfl q701 dX7_settles_131 ?_
  refine at_bipush C dX7_settles_134 bp_36 ?_
  refine at_iload_n C dX7_settles_136 rfl rfl ?_
  refine at_iadd C dX7_settles_137 ?_
  refine at_iload_n C dX7_settles_138 rfl rfl ?_
  refine at_if_eq (tgt := 154) C dX7_settles_139 (by decide) (fun c_4 => ?_) (fun c_4 => ?_)
  · have hw := hw.1 c_4
    refine at_iconst C dX7_settles_154 ic_0 ?_
    exact at_sub (lv_pickm [0, 1] rfl) (tX7_settles_155 C hK35 hw)
  · have hw := hw.2 c_4
    refine at_aload_n C dX7_settles_142 rfl rfl ?_
    refine at_getr (j := 12) (r := 2) C (Nat.le_of_ble_eq_true rfl) rfl rfl in_X7 (Nat.le_of_ble_eq_true rfl) rfl q699 dX7_settles_143 ?_
    refine at_bipush C dX7_settles_146 bp_18 ?_
    refine at_iload_n C dX7_settles_148 rfl rfl ?_
    refine at_iadd C dX7_settles_149 ?_
    refine at_iald C (Nat.le_of_ble_eq_true rfl) rfl hw.1 rfl dX7_settles_150 ?_
    have hw := hw.2
    refine at_goto (tgt := 155) C dX7_settles_151 (by decide) ?_
    exact at_sub (lv_pickm [0, 1] rfl) (tX7_settles_155 C hK35 hw)
set_option maxHeartbeats 4000000 in
theorem tX7_settles_106    {K35 : Int32 → GW → Prop} {Q : GW → Prop} (C : Cx p s m args meth c D dA cX7_settles 3 none RX7)    {x1 : Int32} {x2 : Int32} {s1 : Int32} {s2 : Int32} {w : GW} (hK35 : ∀ (x1 : Int32) (w : GW), K35 x1 w → gAtM p l e s m args below meth c D dA ad 1 (va_Qv Q (gZ D dA 20 ad layM) (gA 20 ad)) 3 35 [(0, .ref (ad 0)), (1, .int x1)] [] w) (hw : PX7_settles_106 K35 Q x1 x2 s1 s2 w) : gAtM p l e s m args below meth c D dA ad 1 (va_Qv Q (gZ D dA 20 ad layM) (gA 20 ad)) 3 106 [(0, .ref (ad 0)), (1, .int x1), (2, .int x2)] [.int s2, .int s1, .ref (ad 4)] w := by
  unfold PX7_settles_106 at hw
  refine at_iast C (Nat.le_of_ble_eq_true rfl) rfl hw.1 rfl dX7_settles_106 (fun w_5 ew_5 => ?_)
  have hw := hw.2 w_5 ew_5
  refine at_aload_n C dX7_settles_107 rfl rfl ?_
  refine at_getr (j := 13) (r := 3) C (Nat.le_of_ble_eq_true rfl) rfl rfl in_X7 (Nat.le_of_ble_eq_true rfl) rfl q700 dX7_settles_108 ?_
  refine at_iload_n C dX7_settles_111 rfl rfl ?_
  refine at_iload_n C dX7_settles_112 rfl rfl ?_
  refine at_if_eq (tgt := 128) C dX7_settles_113 (by decide) (fun c_6 => ?_) (fun c_6 => ?_)
  · have hw := hw.1 c_6
    refine at_iconst C dX7_settles_128 ic_0 ?_
    exact (tX7_settles_129 C hK35 hw)
  · have hw := hw.2 c_6
    refine at_aload_n C dX7_settles_116 rfl rfl ?_
    refine at_getr (j := 12) (r := 2) C (Nat.le_of_ble_eq_true rfl) rfl rfl in_X7 (Nat.le_of_ble_eq_true rfl) rfl q699 dX7_settles_117 ?_
    refine at_bipush C dX7_settles_120 bp_9 ?_
    refine at_iload_n C dX7_settles_122 rfl rfl ?_
    refine at_iadd C dX7_settles_123 ?_
    refine at_iald C (Nat.le_of_ble_eq_true rfl) rfl hw.1 rfl dX7_settles_124 ?_
    have hw := hw.2
    refine at_goto (tgt := 129) C dX7_settles_125 (by decide) ?_
    exact (tX7_settles_129 C hK35 hw)
set_option maxHeartbeats 4000000 in
theorem tX7_settles_54    {K35 : Int32 → GW → Prop} {Q : GW → Prop} (C : Cx p s m args meth c D dA cX7_settles 3 none RX7)    {x1 : Int32} {s0 : Int32} {w : GW} (hK35 : ∀ (x1 : Int32) (w : GW), K35 x1 w → gAtM p l e s m args below meth c D dA ad 1 (va_Qv Q (gZ D dA 20 ad layM) (gA 20 ad)) 3 35 [(0, .ref (ad 0)), (1, .int x1)] [] w) (hw : PX7_settles_54 K35 Q x1 s0 w) : gAtM p l e s m args below meth c D dA ad 1 (va_Qv Q (gZ D dA 20 ad layM) (gA 20 ad)) 3 54 [(0, .ref (ad 0)), (1, .int x1)] [.int s0] w := by
  unfold PX7_settles_54 at hw
  refine at_istore_n (L' := [(0, .ref (ad 0)), (1, .int x1), (2, .int s0)]) C dX7_settles_54 rfl (Nat.le_of_ble_eq_true rfl) rfl ?_
  refine at_aload_n C dX7_settles_55 rfl rfl ?_
  refine at_getr (j := 14) (r := 4) C (Nat.le_of_ble_eq_true rfl) rfl rfl in_X7 (Nat.le_of_ble_eq_true rfl) rfl q701 dX7_settles_56 ?_
  refine at_iconst C dX7_settles_59 ic_0 ?_
  refine at_iload_n C dX7_settles_60 rfl rfl ?_
  refine at_iadd C dX7_settles_61 ?_
  refine at_iload_n C dX7_settles_62 rfl rfl ?_
  refine at_iast C (Nat.le_of_ble_eq_true rfl) rfl hw.1 rfl dX7_settles_63 (fun w_7 ew_7 => ?_)
  have hw := hw.2 w_7 ew_7
  refine at_aload_n C dX7_settles_64 rfl rfl ?_
  refine at_getr (j := 14) (r := 4) C (Nat.le_of_ble_eq_true rfl) rfl rfl in_X7 (Nat.le_of_ble_eq_true rfl) rfl q701 dX7_settles_65 ?_
  refine at_bipush C dX7_settles_68 bp_9 ?_
  refine at_iload_n C dX7_settles_70 rfl rfl ?_
  refine at_iadd C dX7_settles_71 ?_
  refine at_iconst C dX7_settles_72 ic_0 ?_
  refine at_iast C (Nat.le_of_ble_eq_true rfl) rfl hw.1 rfl dX7_settles_73 (fun w_8 ew_8 => ?_)
  have hw := hw.2 w_8 ew_8
  refine at_aload_n C dX7_settles_74 rfl rfl ?_
  refine at_getr (j := 14) (r := 4) C (Nat.le_of_ble_eq_true rfl) rfl rfl in_X7 (Nat.le_of_ble_eq_true rfl) rfl q701 dX7_settles_75 ?_
  refine at_bipush C dX7_settles_78 bp_18 ?_
  refine at_iload_n C dX7_settles_80 rfl rfl ?_
  refine at_iadd C dX7_settles_81 ?_
  refine at_iconst C dX7_settles_82 ic_m1 ?_
  refine at_iast C (Nat.le_of_ble_eq_true rfl) rfl hw.1 rfl dX7_settles_83 (fun w_9 ew_9 => ?_)
  have hw := hw.2 w_9 ew_9
  refine at_aload_n C dX7_settles_84 rfl rfl ?_
  refine at_getr (j := 14) (r := 4) C (Nat.le_of_ble_eq_true rfl) rfl rfl in_X7 (Nat.le_of_ble_eq_true rfl) rfl q701 dX7_settles_85 ?_
  refine at_bipush C dX7_settles_88 bp_27 ?_
  refine at_iload_n C dX7_settles_90 rfl rfl ?_
  refine at_iadd C dX7_settles_91 ?_
  refine at_iload_n C dX7_settles_92 rfl rfl ?_
  refine at_if_eq (tgt := 105) C dX7_settles_93 (by decide) (fun c_10 => ?_) (fun c_10 => ?_)
  · have hw := hw.1 c_10
    refine at_iconst C dX7_settles_105 ic_0 ?_
    exact (tX7_settles_106 C hK35 hw)
  · have hw := hw.2 c_10
    refine at_aload_n C dX7_settles_96 rfl rfl ?_
    refine at_getr (j := 12) (r := 2) C (Nat.le_of_ble_eq_true rfl) rfl rfl in_X7 (Nat.le_of_ble_eq_true rfl) rfl q699 dX7_settles_97 ?_
    refine at_iload_n C dX7_settles_100 rfl rfl ?_
    refine at_iald C (Nat.le_of_ble_eq_true rfl) rfl hw.1 rfl dX7_settles_101 ?_
    have hw := hw.2
    refine at_goto (tgt := 106) C dX7_settles_102 (by decide) ?_
    exact (tX7_settles_106 C hK35 hw)
set_option maxHeartbeats 4000000 in
theorem tX7_settles_35     {Q : GW → Prop} (C : Cx p s m args meth c D dA cX7_settles 3 none RX7)       : ∀ (n : Nat) (x1 : Int32) (w : GW), PX7_settles_35 Q n x1 w → gAtM p l e s m args below meth c D dA ad 1 (va_Qv Q (gZ D dA 20 ad layM) (gA 20 ad)) 3 35 [(0, .ref (ad 0)), (1, .int x1)] [] w := by
  intro n
  induction n with
  | zero => intro x1 w hw; exact False.elim hw
  | succ n ih =>
    intro x1 w hw
    unfold PX7_settles_35 at hw
    refine at_iload_n C dX7_settles_35 rfl rfl ?_
    refine at_bipush C dX7_settles_36 bp_9 ?_
    refine at_icmp_ge (tgt := 162) C dX7_settles_38 (by decide) (fun c_11 => ?_) (fun c_11 => ?_)
    · have hw := hw.1 c_11
      refine at_aload_n C dX7_settles_162 rfl rfl ?_
      refine at_getr (j := 14) (r := 4) C (Nat.le_of_ble_eq_true rfl) rfl rfl in_X7 (Nat.le_of_ble_eq_true rfl) rfl q701 dX7_settles_163 ?_
      refine at_bipush C dX7_settles_166 bp_45 ?_
      refine at_iconst C dX7_settles_168 ic_1 ?_
      refine at_aload_n C dX7_settles_169 rfl rfl ?_
      refine at_geti (j := 9) C (Nat.le_of_ble_eq_true rfl) rfl rfl in_X7 (Nat.le_of_ble_eq_true rfl) rfl q696 dX7_settles_170 ?_
      refine at_ishl C dX7_settles_173 ?_
      refine at_iconst C dX7_settles_174 ic_1 ?_
      refine at_isub C dX7_settles_175 ?_
      refine at_iast C (Nat.le_of_ble_eq_true rfl) rfl vk_45_49 tk_45 dX7_settles_176 (fun w_12 ew_12 => ?_)
      have hw := hw w_12 ew_12
      refine at_aload_n C dX7_settles_177 rfl rfl ?_
      refine at_getr (j := 14) (r := 4) C (Nat.le_of_ble_eq_true rfl) rfl rfl in_X7 (Nat.le_of_ble_eq_true rfl) rfl q701 dX7_settles_178 ?_
      refine at_bipush C dX7_settles_181 bp_46 ?_
      refine at_iconst C dX7_settles_183 ic_0 ?_
      refine at_iast C (Nat.le_of_ble_eq_true rfl) rfl vk_46_49 tk_46 dX7_settles_184 (fun w_13 ew_13 => ?_)
      have hw := hw w_13 ew_13
      refine at_aload_n C dX7_settles_185 rfl rfl ?_
      refine at_getr (j := 14) (r := 4) C (Nat.le_of_ble_eq_true rfl) rfl rfl in_X7 (Nat.le_of_ble_eq_true rfl) rfl q701 dX7_settles_186 ?_
      refine at_bipush C dX7_settles_189 bp_47 ?_
      refine at_iconst C dX7_settles_191 ic_0 ?_
      refine at_iast C (Nat.le_of_ble_eq_true rfl) rfl vk_47_49 tk_47 dX7_settles_192 (fun w_14 ew_14 => ?_)
      have hw := hw w_14 ew_14
      refine at_aload_n C dX7_settles_193 rfl rfl ?_
      refine at_iconst C dX7_settles_194 ic_0 ?_
      refine at_puti (j := 21) C (Nat.le_of_ble_eq_true rfl) rfl rfl in_X7 (Nat.le_of_ble_eq_true rfl) rfl q708 tyX7 tyX7_ok nmX7 rfl rfl rfl dX7_settles_195 (fun w_15 ew_15 => ?_)
      have hw := hw w_15 ew_15
      refine at_aload_n C dX7_settles_198 rfl rfl ?_
      refine at_iconst C dX7_settles_199 ic_0 ?_
      refine at_puti (j := 18) C (Nat.le_of_ble_eq_true rfl) rfl rfl in_X7 (Nat.le_of_ble_eq_true rfl) rfl q705 tyX7 tyX7_ok nmX7 rfl rfl rfl dX7_settles_200 (fun w_16 ew_16 => ?_)
      have hw := hw w_16 ew_16
      refine at_aload_n C dX7_settles_203 rfl rfl ?_
      refine at_getr (j := 16) (r := 6) C (Nat.le_of_ble_eq_true rfl) rfl rfl in_X7 (Nat.le_of_ble_eq_true rfl) rfl q703 dX7_settles_204 ?_
      refine at_iconst C dX7_settles_207 ic_0 ?_
      refine at_iconst C dX7_settles_208 ic_0 ?_
      refine at_zast C (Nat.le_of_ble_eq_true rfl) rfl vk_0_2 tk_0 rfl dX7_settles_209 (fun w_17 ew_17 => ?_)
      have hw := hw w_17 ew_17
      refine at_aload_n C dX7_settles_210 rfl rfl ?_
      refine at_getr (j := 16) (r := 6) C (Nat.le_of_ble_eq_true rfl) rfl rfl in_X7 (Nat.le_of_ble_eq_true rfl) rfl q703 dX7_settles_211 ?_
      refine at_iconst C dX7_settles_214 ic_1 ?_
      refine at_iconst C dX7_settles_215 ic_0 ?_
      refine at_zast C (Nat.le_of_ble_eq_true rfl) rfl vk_1_2 tk_1 rfl dX7_settles_216 (fun w_18 ew_18 => ?_)
      have hw := hw w_18 ew_18
      exact at_vret C rfl hw dX7_settles_217
    · have hw := hw.2 c_11
      refine at_iload_n C dX7_settles_41 rfl rfl ?_
      refine at_aload_n C dX7_settles_42 rfl rfl ?_
      refine at_geti (j := 9) C (Nat.le_of_ble_eq_true rfl) rfl rfl in_X7 (Nat.le_of_ble_eq_true rfl) rfl q696 dX7_settles_43 ?_
      refine at_icmp_ge (tgt := 53) C dX7_settles_46 (by decide) (fun c_19 => ?_) (fun c_19 => ?_)
      · have hw := hw.1 c_19
        refine at_iconst C dX7_settles_53 ic_0 ?_
        exact (tX7_settles_54 C ih hw)
      · have hw := hw.2 c_19
        refine at_iconst C dX7_settles_49 ic_1 ?_
        refine at_goto (tgt := 54) C dX7_settles_50 (by decide) ?_
        exact (tX7_settles_54 C ih hw)
set_option maxHeartbeats 4000000 in
theorem tX7_settles_14     {Q : GW → Prop} (C : Cx p s m args meth c D dA cX7_settles 3 none RX7)    {s1 : Int32} {w : GW}  (hw : PX7_settles_14 Q s1 w) : gAtM p l e s m args below meth c D dA ad 1 (va_Qv Q (gZ D dA 20 ad layM) (gA 20 ad)) 3 14 [(0, .ref (ad 0))] [.int s1, .ref (ad 0)] w := by
  unfold PX7_settles_14 at hw
  have hz_w_20 := hw.1
  have hw := hw.2
  refine at_puti (j := 7) C (Nat.le_of_ble_eq_true rfl) rfl rfl in_X7 (Nat.le_of_ble_eq_true rfl) rfl q694 tyX7 tyX7_ok nmX7 rfl (gBool_nar hz_w_20) (gBool_fit hz_w_20) dX7_settles_14 (fun w_20 ew_20 => ?_)
  have hw := hw w_20 ew_20
  refine at_aload_n C dX7_settles_17 rfl rfl ?_
  refine at_aload_n C dX7_settles_18 rfl rfl ?_
  refine at_geti (j := 10) C (Nat.le_of_ble_eq_true rfl) rfl rfl in_X7 (Nat.le_of_ble_eq_true rfl) rfl q697 dX7_settles_19 ?_
  refine at_puti (j := 8) C (Nat.le_of_ble_eq_true rfl) rfl rfl in_X7 (Nat.le_of_ble_eq_true rfl) rfl q695 tyX7 tyX7_ok nmX7 rfl rfl rfl dX7_settles_22 (fun w_21 ew_21 => ?_)
  have hw := hw w_21 ew_21
  refine at_aload_n C dX7_settles_25 rfl rfl ?_
  refine at_aload_n C dX7_settles_26 rfl rfl ?_
  refine at_geti (j := 11) C (Nat.le_of_ble_eq_true rfl) rfl rfl in_X7 (Nat.le_of_ble_eq_true rfl) rfl q698 dX7_settles_27 ?_
  refine at_puti (j := 9) C (Nat.le_of_ble_eq_true rfl) rfl rfl in_X7 (Nat.le_of_ble_eq_true rfl) rfl q696 tyX7 tyX7_ok nmX7 rfl rfl rfl dX7_settles_30 (fun w_22 ew_22 => ?_)
  have hw := hw w_22 ew_22
  refine at_iconst C dX7_settles_33 ic_0 ?_
  refine at_istore_n (L' := [(0, .ref (ad 0)), (1, .int 0)]) C dX7_settles_34 rfl (Nat.le_of_ble_eq_true rfl) rfl ?_
  obtain ⟨n_23, hw⟩ := hw
  exact (tX7_settles_35 C  _ _ _ hw)
set_option maxHeartbeats 4000000 in
theorem metX7_settles   (l : Launch) (D : va_G) (dA : Nat → ClassId) (ad : Nat → Nat)     {w : GW} {Q : GW → Prop} (hw : PX7_settles w Q) : Met l yX7_settles (ws_ yX7_settles cX7_settles 3 none) (gR 1) (va_Pc [.ref (ad 0)] (gB D dA 20 ad layM w)) (va_Qv Q (gZ D dA 20 ad layM) (gA 20 ad)) 0 0 (gA 20 ad) := by
  refine gm_of (L := [(0, .ref (ad 0))]) (own := RX7) (by decide +kernel) rfl (Nat.le_of_ble_eq_true rfl) rfl rfl (fun p e s m below meth c C => ?_)
  unfold PX7_settles at hw
  refine at_aload_n C dX7_settles_0 rfl rfl ?_
  refine at_aload_n C dX7_settles_1 rfl rfl ?_
  refine at_geti (j := 10) C (Nat.le_of_ble_eq_true rfl) rfl rfl in_X7 (Nat.le_of_ble_eq_true rfl) rfl q697 dX7_settles_2 ?_
  refine at_iconst C dX7_settles_5 ic_m1 ?_
  refine at_icmp_eq (tgt := 13) C dX7_settles_6 (by decide) (fun c_24 => ?_) (fun c_24 => ?_)
  · have hw := hw.1 c_24
    refine at_iconst C dX7_settles_13 ic_0 ?_
    exact (tX7_settles_14 C  hw)
  · have hw := hw.2 c_24
    refine at_iconst C dX7_settles_9 ic_1 ?_
    refine at_goto (tgt := 14) C dX7_settles_10 (by decide) ?_
    exact (tX7_settles_14 C  hw)
set_option maxHeartbeats 4000000 in
theorem tX7_county_50     {Q : Int32 → GW → Prop} (C : Cx p s m args meth c D dA cX7_county 1 (some .int) RX7)    {s1 : Int32} {w : GW}  (hw : PX7_county_50 Q s1 w) : gAtM p l e s m args below meth c D dA ad 6 (va_Qi Q (gZ D dA 20 ad layM) (gA 20 ad)) 1 50 [(0, .ref (ad 0))] [.int s1, .ref (ad 0)] w := by
  unfold PX7_county_50 at hw
  refine at_puti (j := 6) C (Nat.le_of_ble_eq_true rfl) rfl rfl in_X7 (Nat.le_of_ble_eq_true rfl) rfl q693 tyX7 tyX7_ok nmX7 rfl rfl rfl dX7_county_50 (fun w_1 ew_1 => ?_)
  have hw := hw w_1 ew_1
  refine at_aload_n C dX7_county_53 rfl rfl ?_
  refine at_callp (run_V (rest := []) (As := []) C (metX7_isWell l D dA ad  hw) (lw_V q818 q820 qs27 q65 q821) dsX7_isWell (gR_ok (Nat.le_of_ble_eq_true rfl) (Nat.le_of_ble_eq_true rfl)) ⟨rfl, rfl⟩ ⟨Nat.le_refl 0, Nat.le_refl 0⟩ (Nat.le_of_ble_eq_true rfl) rfl rfl rfl rfl (Nat.le_of_ble_eq_true rfl) dX7_county_54) (fun r_2  hw => ?_)
  refine at_if_ne (tgt := 68) C dX7_county_57 (by decide) (fun c_3 => ?_) (fun c_3 => ?_)
  · have hw := hw.1 c_3
    refine at_aload_n C dX7_county_68 rfl rfl ?_
    refine at_callv (run_V (rest := []) (As := []) C (metX7_settles l D dA ad  hw) (lw_V q838 q840 qs32 q65 q841) dsX7_settles (gR_ok (Nat.le_of_ble_eq_true rfl) (Nat.le_of_ble_eq_true rfl)) ⟨rfl, rfl⟩ ⟨Nat.le_refl 0, Nat.le_refl 0⟩ (Nat.le_of_ble_eq_true rfl) rfl rfl rfl rfl (Nat.le_of_ble_eq_true rfl) dX7_county_69) (fun  w_5 hw => ?_)
    refine at_aload_n C dX7_county_72 rfl rfl ?_
    refine at_geti (j := 9) C (Nat.le_of_ble_eq_true rfl) rfl rfl in_X7 (Nat.le_of_ble_eq_true rfl) rfl q696 dX7_county_73 ?_
    exact at_iret C rfl hw dX7_county_76
  · have hw := hw.2 c_3
    refine at_bipush C dX7_county_60 bp_m10 ?_
    refine at_aload_n C dX7_county_62 rfl rfl ?_
    refine at_geti (j := 4) C (Nat.le_of_ble_eq_true rfl) rfl rfl in_X7 (Nat.le_of_ble_eq_true rfl) rfl q691 dX7_county_63 ?_
    refine at_isub C dX7_county_66 ?_
    exact at_iret C rfl hw dX7_county_67
set_option maxHeartbeats 4000000 in
theorem metX7_county   (l : Launch) (D : va_G) (dA : Nat → ClassId) (ad : Nat → Nat)     {w : GW} {Q : Int32 → GW → Prop} (hw : PX7_county w Q) : Met l yX7_county (ws_ yX7_county cX7_county 1 (some .int)) (gR 6) (va_Pc [.ref (ad 0)] (gB D dA 20 ad layM w)) (va_Qi Q (gZ D dA 20 ad layM) (gA 20 ad)) 0 0 (gA 20 ad) := by
  refine gm_of (L := [(0, .ref (ad 0))]) (own := RX7) (by decide +kernel) rfl (Nat.le_of_ble_eq_true rfl) rfl rfl (fun p e s m below meth c C => ?_)
  unfold PX7_county at hw
  refine at_aload_n C dX7_county_0 rfl rfl ?_
  refine at_iconst C dX7_county_1 ic_0 ?_
  refine at_puti (j := 0) C (Nat.le_of_ble_eq_true rfl) rfl rfl in_X7 (Nat.le_of_ble_eq_true rfl) rfl q687 tyX7 tyX7_ok nmX7 rfl rfl rfl dX7_county_2 (fun w_6 ew_6 => ?_)
  have hw := hw w_6 ew_6
  refine at_aload_n C dX7_county_5 rfl rfl ?_
  refine at_iconst C dX7_county_6 ic_0 ?_
  refine at_puti (j := 3) C (Nat.le_of_ble_eq_true rfl) rfl rfl in_X7 (Nat.le_of_ble_eq_true rfl) rfl q690 tyX7 tyX7_ok nmX7 rfl rfl rfl dX7_county_7 (fun w_7 ew_7 => ?_)
  have hw := hw w_7 ew_7
  refine at_aload_n C dX7_county_10 rfl rfl ?_
  refine at_iconst C dX7_county_11 ic_0 ?_
  refine at_puti (j := 4) C (Nat.le_of_ble_eq_true rfl) rfl rfl in_X7 (Nat.le_of_ble_eq_true rfl) rfl q691 tyX7 tyX7_ok nmX7 rfl rfl rfl dX7_county_12 (fun w_8 ew_8 => ?_)
  have hw := hw w_8 ew_8
  refine at_aload_n C dX7_county_15 rfl rfl ?_
  refine at_iconst C dX7_county_16 ic_m1 ?_
  refine at_puti (j := 10) C (Nat.le_of_ble_eq_true rfl) rfl rfl in_X7 (Nat.le_of_ble_eq_true rfl) rfl q697 tyX7 tyX7_ok nmX7 rfl rfl rfl dX7_county_17 (fun w_9 ew_9 => ?_)
  have hw := hw w_9 ew_9
  refine at_aload_n C dX7_county_20 rfl rfl ?_
  refine at_iconst C dX7_county_21 ic_0 ?_
  refine at_puti (j := 11) C (Nat.le_of_ble_eq_true rfl) rfl rfl in_X7 (Nat.le_of_ble_eq_true rfl) rfl q698 tyX7 tyX7_ok nmX7 rfl rfl rfl dX7_county_22 (fun w_10 ew_10 => ?_)
  have hw := hw w_10 ew_10
  refine at_aload_n C dX7_county_25 rfl rfl ?_
  refine at_callv (run_V (rest := []) (As := []) C (metX7_reads l D dA ad  hw) (lw_V q806 q808 qs24 q65 q809) dsX7_reads (gR_ok (Nat.le_of_ble_eq_true rfl) (Nat.le_of_ble_eq_true rfl)) ⟨rfl, rfl⟩ ⟨Nat.le_refl 0, Nat.le_refl 0⟩ (Nat.le_of_ble_eq_true rfl) rfl rfl rfl rfl (Nat.le_of_ble_eq_true rfl) dX7_county_26) (fun  w_12 hw => ?_)
  refine at_aload_n C dX7_county_29 rfl rfl ?_
  refine at_iconst C dX7_county_30 ic_0 ?_
  refine at_puti (j := 2) C (Nat.le_of_ble_eq_true rfl) rfl rfl in_X7 (Nat.le_of_ble_eq_true rfl) rfl q689 tyX7 tyX7_ok nmX7 rfl rfl rfl dX7_county_31 (fun w_13 ew_13 => ?_)
  have hw := hw w_13 ew_13
  refine at_aload_n C dX7_county_34 rfl rfl ?_
  refine at_aload_n C dX7_county_35 rfl rfl ?_
  refine at_callp (run_V (rest := [.ref (ad 0)]) (As := []) C (metX7_isWell l D dA ad  hw) (lw_V q818 q820 qs27 q65 q821) dsX7_isWell (gR_ok (Nat.le_of_ble_eq_true rfl) (Nat.le_of_ble_eq_true rfl)) ⟨rfl, rfl⟩ ⟨Nat.le_refl 0, Nat.le_refl 0⟩ (Nat.le_of_ble_eq_true rfl) rfl rfl rfl rfl (Nat.le_of_ble_eq_true rfl) dX7_county_36) (fun r_14  hw => ?_)
  refine at_if_eq (tgt := 46) C dX7_county_39 (by decide) (fun c_15 => ?_) (fun c_15 => ?_)
  · have hw := hw.1 c_15
    refine at_aload_n C dX7_county_46 rfl rfl ?_
    refine at_geti (j := 5) C (Nat.le_of_ble_eq_true rfl) rfl rfl in_X7 (Nat.le_of_ble_eq_true rfl) rfl q692 dX7_county_47 ?_
    exact (tX7_county_50 C  hw)
  · have hw := hw.2 c_15
    refine at_iconst C dX7_county_42 ic_m1 ?_
    refine at_goto (tgt := 50) C dX7_county_43 (by decide) ?_
    exact (tX7_county_50 C  hw)
set_option maxHeartbeats 4000000 in
theorem metX7_fault   (l : Launch) (D : va_G) (dA : Nat → ClassId) (ad : Nat → Nat)     {w : GW} {Q : Int32 → GW → Prop} (hw : PX7_fault w Q) : Met l yX7_fault (ws_ yX7_fault cX7_fault 1 (some .int)) (gR 1) (va_Pc [.ref (ad 0)] (gB D dA 20 ad layM w)) (va_Qi Q (gZ D dA 20 ad layM) (gA 20 ad)) 0 0 (gA 20 ad) := by
  refine gm_of (L := [(0, .ref (ad 0))]) (own := RX7) (by decide +kernel) rfl (Nat.le_of_ble_eq_true rfl) rfl rfl (fun p e s m below meth c C => ?_)
  unfold PX7_fault at hw
  refine at_aload_n C dX7_fault_0 rfl rfl ?_
  refine at_iconst C dX7_fault_1 ic_0 ?_
  refine at_puti (j := 0) C (Nat.le_of_ble_eq_true rfl) rfl rfl in_X7 (Nat.le_of_ble_eq_true rfl) rfl q687 tyX7 tyX7_ok nmX7 rfl rfl rfl dX7_fault_2 (fun w_1 ew_1 => ?_)
  have hw := hw w_1 ew_1
  refine at_aload_n C dX7_fault_5 rfl rfl ?_
  refine at_geti (j := 6) C (Nat.le_of_ble_eq_true rfl) rfl rfl in_X7 (Nat.le_of_ble_eq_true rfl) rfl q693 dX7_fault_6 ?_
  exact at_iret C rfl hw dX7_fault_9
set_option maxHeartbeats 4000000 in
theorem metX7_rowOf   (l : Launch) (D : va_G) (dA : Nat → ClassId) (ad : Nat → Nat)    {x0 : Int32} {w : GW} {Q : Int32 → Prop} (hw : PX7_rowOf x0 Q) : Met l yX7_rowOf (ws_ yX7_rowOf cX7_rowOf 1 (some .int)) (gR 1) (va_Pc [.int x0] (gB D dA 20 ad layM w)) (va_Qi (gQ1 Q w) (gZ D dA 20 ad layM) (gA 20 ad)) 0 0 (gA 20 ad) := by
  refine gm_of (L := [(0, .int x0)]) (own := RX7) (by decide +kernel) rfl (Nat.le_of_ble_eq_true rfl) rfl rfl (fun p e s m below meth c C => ?_)
  unfold PX7_rowOf at hw
  refine at_iload_n C dX7_rowOf_0 rfl rfl ?_
  refine at_if_ne (tgt := 8) C dX7_rowOf_1 (by decide) (fun c_1 => ?_) (fun c_1 => ?_)
  · have hw := hw.1 c_1
    refine at_iload_n C dX7_rowOf_8 rfl rfl ?_
    refine at_iconst C dX7_rowOf_9 ic_3 ?_
    refine at_icmp_ge (tgt := 17) C dX7_rowOf_10 (by decide) (fun c_2 => ?_) (fun c_2 => ?_)
    · have hw := hw.1 c_2
      refine at_iload_n C dX7_rowOf_17 rfl rfl ?_
      refine at_bipush C dX7_rowOf_18 bp_6 ?_
      refine at_icmp_ge (tgt := 27) C dX7_rowOf_20 (by decide) (fun c_3 => ?_) (fun c_3 => ?_)
      · have hw := hw.1 c_3
        refine at_iload_n C dX7_rowOf_27 rfl rfl ?_
        refine at_bipush C dX7_rowOf_28 bp_8 ?_
        refine at_icmp_ge (tgt := 37) C dX7_rowOf_30 (by decide) (fun c_4 => ?_) (fun c_4 => ?_)
        · have hw := hw.1 c_4
          refine at_iconst C dX7_rowOf_37 ic_4 ?_
          exact at_iret C rfl ⟨hw, rfl⟩ dX7_rowOf_38
        · have hw := hw.2 c_4
          refine at_iconst C dX7_rowOf_33 ic_3 ?_
          refine at_goto (tgt := 38) C dX7_rowOf_34 (by decide) ?_
          exact at_iret C rfl ⟨hw, rfl⟩ dX7_rowOf_38
      · have hw := hw.2 c_3
        refine at_iconst C dX7_rowOf_23 ic_2 ?_
        refine at_goto (tgt := 38) C dX7_rowOf_24 (by decide) ?_
        exact at_iret C rfl ⟨hw, rfl⟩ dX7_rowOf_38
    · have hw := hw.2 c_2
      refine at_iconst C dX7_rowOf_13 ic_1 ?_
      refine at_goto (tgt := 38) C dX7_rowOf_14 (by decide) ?_
      exact at_iret C rfl ⟨hw, rfl⟩ dX7_rowOf_38
  · have hw := hw.2 c_1
    refine at_iconst C dX7_rowOf_4 ic_0 ?_
    refine at_goto (tgt := 38) C dX7_rowOf_5 (by decide) ?_
    exact at_iret C rfl ⟨hw, rfl⟩ dX7_rowOf_38
set_option maxHeartbeats 4000000 in
theorem tX7_bearsOn_79     {Q : Int32 → Prop} (C : Cx p s m args meth c D dA cX7_bearsOn 6 (some .int) RX7)    {s0 : Int32} {s1 : Int32} {w : GW}  (hw : PX7_bearsOn_79 Q s0 s1 w) : gAtM p l e s m args below meth c D dA ad 2 (va_Qi (gQ1 Q w) (gZ D dA 20 ad layM) (gA 20 ad)) 6 79 [] [.int s1, .int s0] w := by
  unfold PX7_bearsOn_79 at hw
  refine at_iadd C dX7_bearsOn_79 ?_
  refine at_topi (fun v5_1 e5_1 => ?_)
  have hw := hw v5_1 e5_1
  refine at_istore (L' := [(5, .int v5_1)]) C dX7_bearsOn_80 (Nat.le_of_ble_eq_true rfl) rfl ?_
  refine at_iload C dX7_bearsOn_82 rfl ?_
  refine at_iconst C dX7_bearsOn_84 ic_1 ?_
  refine at_icmp_ge (tgt := 92) C dX7_bearsOn_85 (by decide) (fun c_2 => ?_) (fun c_2 => ?_)
  · have hw := hw.1 c_2
    refine at_iload C dX7_bearsOn_92 rfl ?_
    exact at_iret C rfl ⟨hw, rfl⟩ dX7_bearsOn_94
  · have hw := hw.2 c_2
    refine at_iconst C dX7_bearsOn_88 ic_1 ?_
    refine at_goto (tgt := 94) C dX7_bearsOn_89 (by decide) ?_
    exact at_iret C rfl ⟨hw, rfl⟩ dX7_bearsOn_94
set_option maxHeartbeats 4000000 in
theorem tX7_bearsOn_78     {Q : Int32 → Prop} (C : Cx p s m args meth c D dA cX7_bearsOn 6 (some .int) RX7)    {s0 : Int32} {w : GW}  (hw : PX7_bearsOn_78 Q s0 w) : gAtM p l e s m args below meth c D dA ad 2 (va_Qi (gQ1 Q w) (gZ D dA 20 ad layM) (gA 20 ad)) 6 78 [] [.int s0] w := by
  unfold PX7_bearsOn_78 at hw
  refine at_iconst C dX7_bearsOn_78 ic_0 ?_
  exact (tX7_bearsOn_79 C  hw)
set_option maxHeartbeats 4000000 in
theorem tX7_bearsOn_58     {Q : Int32 → Prop} (C : Cx p s m args meth c D dA cX7_bearsOn 6 (some .int) RX7)    {x2 : Int32} {x3 : Int32} {s0 : Int32} {w : GW}  (hw : PX7_bearsOn_58 Q x2 x3 s0 w) : gAtM p l e s m args below meth c D dA ad 2 (va_Qi (gQ1 Q w) (gZ D dA 20 ad layM) (gA 20 ad)) 6 58 [(2, .int x2), (3, .int x3)] [.int s0] w := by
  unfold PX7_bearsOn_58 at hw
  refine at_istore (L' := [(2, .int x2), (3, .int x3), (5, .int s0)]) C dX7_bearsOn_58 (Nat.le_of_ble_eq_true rfl) rfl ?_
  refine at_iload C dX7_bearsOn_60 rfl ?_
  refine at_iload_n C dX7_bearsOn_62 rfl rfl ?_
  refine at_iconst C dX7_bearsOn_63 ic_2 ?_
  refine at_icmp_ne (tgt := 78) C dX7_bearsOn_64 (by decide) (fun c_3 => ?_) (fun c_3 => ?_)
  · have hw := hw.1 c_3
    exact at_sub (lv_pickm [] rfl) (tX7_bearsOn_78 C  hw)
  · have hw := hw.2 c_3
    refine at_iload_n C dX7_bearsOn_67 rfl rfl ?_
    refine at_callp (run_S (rest := [.int s0]) (As := [.int x2]) C (metX7_rowOf l D dA ad  hw) (lw_S q862 q863 q65 q864) dsX7_rowOf (gR_ok (Nat.le_of_ble_eq_true rfl) (Nat.le_of_ble_eq_true rfl)) ⟨rfl, rfl⟩ ⟨Nat.le_refl 0, Nat.le_refl 0⟩ rfl rfl (Nat.le_of_ble_eq_true rfl) dX7_bearsOn_68) (fun r_4  hw => ?_)
    refine at_if_ne (tgt := 78) C dX7_bearsOn_71 (by decide) (fun c_5 => ?_) (fun c_5 => ?_)
    · have hw := hw.1 c_5
      exact at_sub (lv_pickm [] rfl) (tX7_bearsOn_78 C  hw)
    · have hw := hw.2 c_5
      refine at_iconst C dX7_bearsOn_74 ic_2 ?_
      refine at_goto (tgt := 79) C dX7_bearsOn_75 (by decide) ?_
      exact at_sub (lv_pickm [] rfl) (tX7_bearsOn_79 C  hw)
set_option maxHeartbeats 4000000 in
theorem tX7_bearsOn_57     {Q : Int32 → Prop} (C : Cx p s m args meth c D dA cX7_bearsOn 6 (some .int) RX7)    {x2 : Int32} {x3 : Int32} {s0 : Int32} {s1 : Int32} {w : GW}  (hw : PX7_bearsOn_57 Q x2 x3 s0 s1 w) : gAtM p l e s m args below meth c D dA ad 2 (va_Qi (gQ1 Q w) (gZ D dA 20 ad layM) (gA 20 ad)) 6 57 [(2, .int x2), (3, .int x3)] [.int s1, .int s0] w := by
  unfold PX7_bearsOn_57 at hw
  refine at_isub C dX7_bearsOn_57 ?_
  exact (tX7_bearsOn_58 C  hw)
set_option maxHeartbeats 4000000 in
theorem metX7_bearsOn   (l : Launch) (D : va_G) (dA : Nat → ClassId) (ad : Nat → Nat)    {x1 : Int32} {x2 : Int32} {w : GW} {Q : Int32 → Prop} (hw : PX7_bearsOn x1 x2 w Q) : Met l yX7_bearsOn (ws_ yX7_bearsOn cX7_bearsOn 6 (some .int)) (gR 2) (va_Pc [.ref (ad 0), .int x1, .int x2] (gB D dA 20 ad layM w)) (va_Qi (gQ1 Q w) (gZ D dA 20 ad layM) (gA 20 ad)) 0 0 (gA 20 ad) := by
  refine gm_of (L := [(0, .ref (ad 0)), (1, .int x1), (2, .int x2)]) (own := RX7) (by decide +kernel) rfl (Nat.le_of_ble_eq_true rfl) rfl rfl (fun p e s m below meth c C => ?_)
  unfold PX7_bearsOn at hw
  refine at_aload_n C dX7_bearsOn_0 rfl rfl ?_
  refine at_getr (j := 14) (r := 4) C (Nat.le_of_ble_eq_true rfl) rfl rfl in_X7 (Nat.le_of_ble_eq_true rfl) rfl q701 dX7_bearsOn_1 ?_
  refine at_bipush C dX7_bearsOn_4 bp_27 ?_
  refine at_iload_n C dX7_bearsOn_6 rfl rfl ?_
  refine at_iadd C dX7_bearsOn_7 ?_
  refine at_iald C (Nat.le_of_ble_eq_true rfl) rfl hw.1 rfl dX7_bearsOn_8 ?_
  have hw := hw.2
  refine at_topi (fun v3_6 e3_6 => ?_)
  have hw := hw v3_6 e3_6
  refine at_istore_n (L' := [(0, .ref (ad 0)), (1, .int x1), (2, .int x2), (3, .int v3_6)]) C dX7_bearsOn_9 rfl (Nat.le_of_ble_eq_true rfl) rfl ?_
  refine at_aload_n C dX7_bearsOn_10 rfl rfl ?_
  refine at_getr (j := 14) (r := 4) C (Nat.le_of_ble_eq_true rfl) rfl rfl in_X7 (Nat.le_of_ble_eq_true rfl) rfl q701 dX7_bearsOn_11 ?_
  refine at_bipush C dX7_bearsOn_14 bp_36 ?_
  refine at_iload_n C dX7_bearsOn_16 rfl rfl ?_
  refine at_iadd C dX7_bearsOn_17 ?_
  refine at_iald C (Nat.le_of_ble_eq_true rfl) rfl hw.1 rfl dX7_bearsOn_18 ?_
  have hw := hw.2
  refine at_topi (fun v4_7 e4_7 => ?_)
  have hw := hw v4_7 e4_7
  refine at_istore (L' := [(0, .ref (ad 0)), (1, .int x1), (2, .int x2), (3, .int v3_6), (4, .int v4_7)]) C dX7_bearsOn_19 (Nat.le_of_ble_eq_true rfl) rfl ?_
  refine at_iload_n C dX7_bearsOn_21 rfl rfl ?_
  refine at_iconst C dX7_bearsOn_22 ic_3 ?_
  refine at_icmp_ne (tgt := 37) C dX7_bearsOn_23 (by decide) (fun c_8 => ?_) (fun c_8 => ?_)
  · have hw := hw.1 c_8
    refine at_aload_n C dX7_bearsOn_37 rfl rfl ?_
    refine at_getr (j := 13) (r := 3) C (Nat.le_of_ble_eq_true rfl) rfl rfl in_X7 (Nat.le_of_ble_eq_true rfl) rfl q700 dX7_bearsOn_38 ?_
    refine at_iload_n C dX7_bearsOn_41 rfl rfl ?_
    refine at_iald C (Nat.le_of_ble_eq_true rfl) rfl hw.1 rfl dX7_bearsOn_42 ?_
    have hw := hw.2
    refine at_iload_n C dX7_bearsOn_43 rfl rfl ?_
    refine at_iconst C dX7_bearsOn_44 ic_1 ?_
    refine at_icmp_ne (tgt := 55) C dX7_bearsOn_45 (by decide) (fun c_9 => ?_) (fun c_9 => ?_)
    · have hw := hw.1 c_9
      refine at_iload C dX7_bearsOn_55 rfl ?_
      exact at_sub (lv_pickm [2, 3] rfl) (tX7_bearsOn_57 C  hw)
    · have hw := hw.2 c_9
      refine at_iload C dX7_bearsOn_48 rfl ?_
      refine at_iconst C dX7_bearsOn_50 ic_2 ?_
      refine at_idiv C dX7_bearsOn_51 nz_2 ?_
      refine at_goto (tgt := 57) C dX7_bearsOn_52 (by decide) ?_
      exact at_sub (lv_pickm [2, 3] rfl) (tX7_bearsOn_57 C  hw)
  · have hw := hw.2 c_8
    refine at_aload_n C dX7_bearsOn_26 rfl rfl ?_
    refine at_getr (j := 13) (r := 3) C (Nat.le_of_ble_eq_true rfl) rfl rfl in_X7 (Nat.le_of_ble_eq_true rfl) rfl q700 dX7_bearsOn_27 ?_
    refine at_iload_n C dX7_bearsOn_30 rfl rfl ?_
    refine at_iald C (Nat.le_of_ble_eq_true rfl) rfl hw.1 rfl dX7_bearsOn_31 ?_
    have hw := hw.2
    refine at_iconst C dX7_bearsOn_32 ic_2 ?_
    refine at_idiv C dX7_bearsOn_33 nz_2 ?_
    refine at_goto (tgt := 58) C dX7_bearsOn_34 (by decide) ?_
    exact at_sub (lv_pickm [2, 3] rfl) (tX7_bearsOn_58 C  hw)
set_option maxHeartbeats 4000000 in
theorem tX7_sets_63    {K23 : Int32 → GW → Prop} {Q : GW → Prop} (C : Cx p s m args meth c D dA cX7_sets 5 none RX7)    {x1 : Int32} {x2 : Int32} {x3 : Int32} {s0 : Int32} {w : GW} (hK23 : ∀ (x3 : Int32) (w : GW), K23 x3 w → gAtM p l e s m args below meth c D dA ad 3 (va_Qv Q (gZ D dA 20 ad layM) (gA 20 ad)) 5 23 [(0, .ref (ad 0)), (1, .int x1), (2, .int x2), (3, .int x3)] [] w) (hw : PX7_sets_63 K23 Q x1 x2 x3 s0 w) : gAtM p l e s m args below meth c D dA ad 3 (va_Qv Q (gZ D dA 20 ad layM) (gA 20 ad)) 5 63 [(0, .ref (ad 0)), (1, .int x1), (2, .int x2), (3, .int x3)] [.int s0] w := by
  unfold PX7_sets_63 at hw
  refine at_istore (L' := [(0, .ref (ad 0)), (1, .int x1), (2, .int x2), (3, .int x3), (4, .int s0)]) C dX7_sets_63 (Nat.le_of_ble_eq_true rfl) rfl ?_
  refine at_aload_n C dX7_sets_65 rfl rfl ?_
  refine at_getr (j := 22) (r := 10) C (Nat.le_of_ble_eq_true rfl) rfl rfl in_X7 (Nat.le_of_ble_eq_true rfl) rfl q709 dX7_sets_66 ?_
  refine at_iload C dX7_sets_69 rfl ?_
  refine at_iload_n C dX7_sets_71 rfl rfl ?_
  refine at_iast C (Nat.le_of_ble_eq_true rfl) rfl hw.1 rfl dX7_sets_72 (fun w_1 ew_1 => ?_)
  have hw := hw.2 w_1 ew_1
  refine at_aload_n C dX7_sets_73 rfl rfl ?_
  refine at_getr (j := 23) (r := 11) C (Nat.le_of_ble_eq_true rfl) rfl rfl in_X7 (Nat.le_of_ble_eq_true rfl) rfl q710 dX7_sets_74 ?_
  refine at_iload_n C dX7_sets_77 rfl rfl ?_
  refine at_aload_n C dX7_sets_78 rfl rfl ?_
  refine at_iload_n C dX7_sets_79 rfl rfl ?_
  refine at_iload C dX7_sets_80 rfl ?_
  refine at_callp (run_V (rest := [.int x3, .ref (ad 11)]) (As := [.int x3, .int s0]) C (metX7_bearsOn l D dA ad  hw) (lw_V q858 q860 qs35 q65 q861) dsX7_bearsOn (gR_ok (Nat.le_of_ble_eq_true rfl) (Nat.le_of_ble_eq_true rfl)) ⟨rfl, rfl⟩ ⟨Nat.le_refl 0, Nat.le_refl 0⟩ (Nat.le_of_ble_eq_true rfl) rfl rfl rfl rfl (Nat.le_of_ble_eq_true rfl) dX7_sets_82) (fun r_2  hw => ?_)
  refine at_iast C (Nat.le_of_ble_eq_true rfl) rfl hw.1 rfl dX7_sets_85 (fun w_3 ew_3 => ?_)
  have hw := hw.2 w_3 ew_3
  refine at_iinc (F := fun z_ => [(0, .ref (ad 0)), (1, .int x1), (2, .int x2), (3, .int z_), (4, .int s0)]) C dX7_sets_86 rfl ic_1 (Nat.le_of_ble_eq_true rfl) (fun _ => rfl) (fun v3_4 e3_4 => ?_)
  have hw := hw v3_4 e3_4
  refine at_goto (tgt := 23) C dX7_sets_89 (by decide) ?_
  exact at_sub (lv_pickm [0, 1, 2, 3] rfl) (hK23 _ _ hw)
set_option maxHeartbeats 4000000 in
theorem tX7_sets_23     {Q : GW → Prop} (C : Cx p s m args meth c D dA cX7_sets 5 none RX7)    {x1 : Int32} {x2 : Int32}   : ∀ (n : Nat) (x3 : Int32) (w : GW), PX7_sets_23 Q x1 x2 n x3 w → gAtM p l e s m args below meth c D dA ad 3 (va_Qv Q (gZ D dA 20 ad layM) (gA 20 ad)) 5 23 [(0, .ref (ad 0)), (1, .int x1), (2, .int x2), (3, .int x3)] [] w := by
  intro n
  induction n with
  | zero => intro x3 w hw; exact False.elim hw
  | succ n ih =>
    intro x3 w hw
    unfold PX7_sets_23 at hw
    refine at_iload_n C dX7_sets_23 rfl rfl ?_
    refine at_aload_n C dX7_sets_24 rfl rfl ?_
    refine at_geti (j := 9) C (Nat.le_of_ble_eq_true rfl) rfl rfl in_X7 (Nat.le_of_ble_eq_true rfl) rfl q696 dX7_sets_25 ?_
    refine at_icmp_ge (tgt := 92) C dX7_sets_28 (by decide) (fun c_5 => ?_) (fun c_5 => ?_)
    · have hw := hw.1 c_5
      exact at_vret C rfl hw dX7_sets_92
    · have hw := hw.2 c_5
      refine at_aload_n C dX7_sets_31 rfl rfl ?_
      refine at_getr (j := 14) (r := 4) C (Nat.le_of_ble_eq_true rfl) rfl rfl in_X7 (Nat.le_of_ble_eq_true rfl) rfl q701 dX7_sets_32 ?_
      refine at_iconst C dX7_sets_35 ic_0 ?_
      refine at_iload_n C dX7_sets_36 rfl rfl ?_
      refine at_iadd C dX7_sets_37 ?_
      refine at_iald C (Nat.le_of_ble_eq_true rfl) rfl hw.1 rfl dX7_sets_38 ?_
      have hw := hw.2
      refine at_topi (fun v4_6 e4_6 => ?_)
      have hw := hw v4_6 e4_6
      refine at_istore (L' := [(0, .ref (ad 0)), (1, .int x1), (2, .int x2), (3, .int x3), (4, .int v4_6)]) C dX7_sets_39 (Nat.le_of_ble_eq_true rfl) rfl ?_
      refine at_iload C dX7_sets_41 rfl ?_
      refine at_iload_n C dX7_sets_43 rfl rfl ?_
      refine at_icmp_ne (tgt := 51) C dX7_sets_44 (by decide) (fun c_7 => ?_) (fun c_7 => ?_)
      · have hw := hw.1 c_7
        refine at_iload C dX7_sets_51 rfl ?_
        refine at_iload_n C dX7_sets_53 rfl rfl ?_
        refine at_icmp_ne (tgt := 61) C dX7_sets_54 (by decide) (fun c_8 => ?_) (fun c_8 => ?_)
        · have hw := hw.1 c_8
          refine at_iload C dX7_sets_61 rfl ?_
          exact at_sub (lv_pickm [0, 1, 2, 3] rfl) (tX7_sets_63 C ih hw)
        · have hw := hw.2 c_8
          refine at_iload_n C dX7_sets_57 rfl rfl ?_
          refine at_goto (tgt := 63) C dX7_sets_58 (by decide) ?_
          exact at_sub (lv_pickm [0, 1, 2, 3] rfl) (tX7_sets_63 C ih hw)
      · have hw := hw.2 c_7
        refine at_iload_n C dX7_sets_47 rfl rfl ?_
        refine at_goto (tgt := 63) C dX7_sets_48 (by decide) ?_
        exact at_sub (lv_pickm [0, 1, 2, 3] rfl) (tX7_sets_63 C ih hw)
set_option maxHeartbeats 4000000 in
theorem tX7_sets_2     {Q : GW → Prop} (C : Cx p s m args meth c D dA cX7_sets 5 none RX7)    {x1 : Int32} {x2 : Int32}   : ∀ (n : Nat) (x3 : Int32) (w : GW), PX7_sets_2 Q x1 x2 n x3 w → gAtM p l e s m args below meth c D dA ad 3 (va_Qv Q (gZ D dA 20 ad layM) (gA 20 ad)) 5 2 [(0, .ref (ad 0)), (1, .int x1), (2, .int x2), (3, .int x3)] [] w := by
  intro n
  induction n with
  | zero => intro x3 w hw; exact False.elim hw
  | succ n ih =>
    intro x3 w hw
    unfold PX7_sets_2 at hw
    refine at_iload_n C dX7_sets_2 rfl rfl ?_
    refine at_bipush C dX7_sets_3 bp_9 ?_
    refine at_icmp_ge (tgt := 21) C dX7_sets_5 (by decide) (fun c_9 => ?_) (fun c_9 => ?_)
    · have hw := hw.1 c_9
      refine at_iconst C dX7_sets_21 ic_0 ?_
      refine at_istore_n (L' := [(0, .ref (ad 0)), (1, .int x1), (2, .int x2), (3, .int 0)]) C dX7_sets_22 rfl (Nat.le_of_ble_eq_true rfl) rfl ?_
      obtain ⟨n_10, hw⟩ := hw
      exact (tX7_sets_23 C  _ _ _ hw)
    · have hw := hw.2 c_9
      refine at_aload_n C dX7_sets_8 rfl rfl ?_
      refine at_getr (j := 22) (r := 10) C (Nat.le_of_ble_eq_true rfl) rfl rfl in_X7 (Nat.le_of_ble_eq_true rfl) rfl q709 dX7_sets_9 ?_
      refine at_iload_n C dX7_sets_12 rfl rfl ?_
      refine at_iconst C dX7_sets_13 ic_m1 ?_
      refine at_iast C (Nat.le_of_ble_eq_true rfl) rfl hw.1 rfl dX7_sets_14 (fun w_11 ew_11 => ?_)
      have hw := hw.2 w_11 ew_11
      refine at_iinc (F := fun z_ => [(0, .ref (ad 0)), (1, .int x1), (2, .int x2), (3, .int z_)]) C dX7_sets_15 rfl ic_1 (Nat.le_of_ble_eq_true rfl) (fun _ => rfl) (fun v3_12 e3_12 => ?_)
      have hw := hw v3_12 e3_12
      refine at_goto (tgt := 2) C dX7_sets_18 (by decide) ?_
      exact ih _ _ hw
set_option maxHeartbeats 4000000 in
theorem metX7_sets   (l : Launch) (D : va_G) (dA : Nat → ClassId) (ad : Nat → Nat)    {x1 : Int32} {x2 : Int32} {w : GW} {Q : GW → Prop} (hw : PX7_sets x1 x2 w Q) : Met l yX7_sets (ws_ yX7_sets cX7_sets 5 none) (gR 3) (va_Pc [.ref (ad 0), .int x1, .int x2] (gB D dA 20 ad layM w)) (va_Qv Q (gZ D dA 20 ad layM) (gA 20 ad)) 0 0 (gA 20 ad) := by
  refine gm_of (L := [(0, .ref (ad 0)), (1, .int x1), (2, .int x2)]) (own := RX7) (by decide +kernel) rfl (Nat.le_of_ble_eq_true rfl) rfl rfl (fun p e s m below meth c C => ?_)
  unfold PX7_sets at hw
  refine at_iconst C dX7_sets_0 ic_0 ?_
  refine at_istore_n (L' := [(0, .ref (ad 0)), (1, .int x1), (2, .int x2), (3, .int 0)]) C dX7_sets_1 rfl (Nat.le_of_ble_eq_true rfl) rfl ?_
  obtain ⟨n_13, hw⟩ := hw
  exact (tX7_sets_2 C  _ _ _ hw)
set_option maxHeartbeats 4000000 in
theorem metX7_columnOf   (l : Launch) (D : va_G) (dA : Nat → ClassId) (ad : Nat → Nat)    {x0 : Int32} {w : GW} {Q : Int32 → Prop} (hw : PX7_columnOf x0 Q) : Met l yX7_columnOf (ws_ yX7_columnOf cX7_columnOf 1 (some .int)) (gR 1) (va_Pc [.int x0] (gB D dA 20 ad layM w)) (va_Qi (gQ1 Q w) (gZ D dA 20 ad layM) (gA 20 ad)) 0 0 (gA 20 ad) := by
  refine gm_of (L := [(0, .int x0)]) (own := RX7) (by decide +kernel) rfl (Nat.le_of_ble_eq_true rfl) rfl rfl (fun p e s m below meth c C => ?_)
  unfold PX7_columnOf at hw
  refine at_iload_n C dX7_columnOf_0 rfl rfl ?_
  refine at_if_eq (tgt := 10) C dX7_columnOf_1 (by decide) (fun c_1 => ?_) (fun c_1 => ?_)
  · have hw := hw.1 c_1
    refine at_iconst C dX7_columnOf_10 ic_2 ?_
    refine at_goto (tgt := 48) C dX7_columnOf_11 (by decide) ?_
    exact at_iret C rfl ⟨hw, rfl⟩ dX7_columnOf_48
  · have hw := hw.2 c_1
    refine at_iload_n C dX7_columnOf_4 rfl rfl ?_
    refine at_bipush C dX7_columnOf_5 bp_8 ?_
    refine at_icmp_ne (tgt := 14) C dX7_columnOf_7 (by decide) (fun c_2 => ?_) (fun c_2 => ?_)
    · have hw := hw.1 c_2
      refine at_iload_n C dX7_columnOf_14 rfl rfl ?_
      refine at_iconst C dX7_columnOf_15 ic_3 ?_
      refine at_icmp_ge (tgt := 27) C dX7_columnOf_16 (by decide) (fun c_3 => ?_) (fun c_3 => ?_)
      · have hw := hw.1 c_3
        refine at_iload_n C dX7_columnOf_27 rfl rfl ?_
        refine at_bipush C dX7_columnOf_28 bp_6 ?_
        refine at_icmp_ge (tgt := 42) C dX7_columnOf_30 (by decide) (fun c_4 => ?_) (fun c_4 => ?_)
        · have hw := hw.1 c_4
          refine at_iconst C dX7_columnOf_42 ic_2 ?_
          refine at_iload_n C dX7_columnOf_43 rfl rfl ?_
          refine at_imul C dX7_columnOf_44 ?_
          refine at_bipush C dX7_columnOf_45 bp_11 ?_
          refine at_isub C dX7_columnOf_47 ?_
          exact at_iret C rfl ⟨hw, rfl⟩ dX7_columnOf_48
        · have hw := hw.2 c_4
          refine at_iconst C dX7_columnOf_33 ic_2 ?_
          refine at_iload_n C dX7_columnOf_34 rfl rfl ?_
          refine at_imul C dX7_columnOf_35 ?_
          refine at_bipush C dX7_columnOf_36 bp_6 ?_
          refine at_isub C dX7_columnOf_38 ?_
          refine at_goto (tgt := 48) C dX7_columnOf_39 (by decide) ?_
          exact at_iret C rfl ⟨hw, rfl⟩ dX7_columnOf_48
      · have hw := hw.2 c_3
        refine at_iconst C dX7_columnOf_19 ic_2 ?_
        refine at_iload_n C dX7_columnOf_20 rfl rfl ?_
        refine at_imul C dX7_columnOf_21 ?_
        refine at_iconst C dX7_columnOf_22 ic_1 ?_
        refine at_isub C dX7_columnOf_23 ?_
        refine at_goto (tgt := 48) C dX7_columnOf_24 (by decide) ?_
        exact at_iret C rfl ⟨hw, rfl⟩ dX7_columnOf_48
    · have hw := hw.2 c_2
      refine at_iconst C dX7_columnOf_10 ic_2 ?_
      refine at_goto (tgt := 48) C dX7_columnOf_11 (by decide) ?_
      exact at_iret C rfl ⟨hw, rfl⟩ dX7_columnOf_48
set_option maxHeartbeats 4000000 in
theorem tX7_plateAt_2     {Q : Int32 → Prop} (C : Cx p s m args meth c D dA cX7_plateAt 3 (some .int) RX7)    {x0 : Int32} {x1 : Int32} {w : GW}  : ∀ (n : Nat) (x2 : Int32), PX7_plateAt_2 Q x0 x1 n x2 → gAtM p l e s m args below meth c D dA ad 2 (va_Qi (gQ1 Q w) (gZ D dA 20 ad layM) (gA 20 ad)) 3 2 [(0, .int x0), (1, .int x1), (2, .int x2)] [] w := by
  intro n
  induction n with
  | zero => intro x2 hw; exact False.elim hw
  | succ n ih =>
    intro x2 hw
    unfold PX7_plateAt_2 at hw
    refine at_iload_n C dX7_plateAt_2 rfl rfl ?_
    refine at_bipush C dX7_plateAt_3 bp_9 ?_
    refine at_icmp_ge (tgt := 32) C dX7_plateAt_5 (by decide) (fun c_1 => ?_) (fun c_1 => ?_)
    · have hw := hw.1 c_1
      refine at_iconst C dX7_plateAt_32 ic_m1 ?_
      exact at_iret C rfl ⟨hw, rfl⟩ dX7_plateAt_33
    · have hw := hw.2 c_1
      refine at_iload_n C dX7_plateAt_8 rfl rfl ?_
      refine at_callp (run_S (rest := []) (As := [.int x2]) C (metX7_rowOf l D dA ad  hw) (lw_S q862 q863 q65 q864) dsX7_rowOf (gR_ok (Nat.le_of_ble_eq_true rfl) (Nat.le_of_ble_eq_true rfl)) ⟨rfl, rfl⟩ ⟨Nat.le_refl 0, Nat.le_refl 0⟩ rfl rfl (Nat.le_of_ble_eq_true rfl) dX7_plateAt_9) (fun r_2  hw => ?_)
      refine at_iload_n C dX7_plateAt_12 rfl rfl ?_
      refine at_icmp_ne (tgt := 26) C dX7_plateAt_13 (by decide) (fun c_3 => ?_) (fun c_3 => ?_)
      · have hw := hw.1 c_3
        refine at_iinc (F := fun z_ => [(0, .int x0), (1, .int x1), (2, .int z_)]) C dX7_plateAt_26 rfl ic_1 (Nat.le_of_ble_eq_true rfl) (fun _ => rfl) (fun v2_4 e2_4 => ?_)
        have hw := hw v2_4 e2_4
        refine at_goto (tgt := 2) C dX7_plateAt_29 (by decide) ?_
        exact ih _ hw
      · have hw := hw.2 c_3
        refine at_iload_n C dX7_plateAt_16 rfl rfl ?_
        refine at_callp (run_S (rest := []) (As := [.int x2]) C (metX7_columnOf l D dA ad  hw) (lw_S q876 q877 q65 q878) dsX7_columnOf (gR_ok (Nat.le_of_ble_eq_true rfl) (Nat.le_of_ble_eq_true rfl)) ⟨rfl, rfl⟩ ⟨Nat.le_refl 0, Nat.le_refl 0⟩ rfl rfl (Nat.le_of_ble_eq_true rfl) dX7_plateAt_17) (fun r_5  hw => ?_)
        refine at_iload_n C dX7_plateAt_20 rfl rfl ?_
        refine at_icmp_ne (tgt := 26) C dX7_plateAt_21 (by decide) (fun c_6 => ?_) (fun c_6 => ?_)
        · have hw := hw.1 c_6
          refine at_iinc (F := fun z_ => [(0, .int x0), (1, .int x1), (2, .int z_)]) C dX7_plateAt_26 rfl ic_1 (Nat.le_of_ble_eq_true rfl) (fun _ => rfl) (fun v2_7 e2_7 => ?_)
          have hw := hw v2_7 e2_7
          refine at_goto (tgt := 2) C dX7_plateAt_29 (by decide) ?_
          exact ih _ hw
        · have hw := hw.2 c_6
          refine at_iload_n C dX7_plateAt_24 rfl rfl ?_
          exact at_iret C rfl ⟨hw, rfl⟩ dX7_plateAt_25
set_option maxHeartbeats 4000000 in
theorem metX7_plateAt   (l : Launch) (D : va_G) (dA : Nat → ClassId) (ad : Nat → Nat)    {x0 : Int32} {x1 : Int32} {w : GW} {Q : Int32 → Prop} (hw : PX7_plateAt x0 x1 Q) : Met l yX7_plateAt (ws_ yX7_plateAt cX7_plateAt 3 (some .int)) (gR 2) (va_Pc [.int x0, .int x1] (gB D dA 20 ad layM w)) (va_Qi (gQ1 Q w) (gZ D dA 20 ad layM) (gA 20 ad)) 0 0 (gA 20 ad) := by
  refine gm_of (L := [(0, .int x0), (1, .int x1)]) (own := RX7) (by decide +kernel) rfl (Nat.le_of_ble_eq_true rfl) rfl rfl (fun p e s m below meth c C => ?_)
  unfold PX7_plateAt at hw
  refine at_iconst C dX7_plateAt_0 ic_0 ?_
  refine at_istore_n (L' := [(0, .int x0), (1, .int x1), (2, .int 0)]) C dX7_plateAt_1 rfl (Nat.le_of_ble_eq_true rfl) rfl ?_
  obtain ⟨n_8, hw⟩ := hw
  exact (tX7_plateAt_2 C  _ _ hw)
set_option maxHeartbeats 4000000 in
theorem metX7_has   (l : Launch) (D : va_G) (dA : Nat → ClassId) (ad : Nat → Nat)    {x0 : Int32} {x1 : Int32} {w : GW} {Q : Int32 → Prop} (hw : PX7_has x0 x1 Q) : Met l yX7_has (ws_ yX7_has cX7_has 2 (some .boolean)) (gR 1) (va_Pc [.int x0, .int x1] (gB D dA 20 ad layM w)) (va_Qi (gQ1 Q w) (gZ D dA 20 ad layM) (gA 20 ad)) 0 0 (gA 20 ad) := by
  refine gm_of (L := [(0, .int x0), (1, .int x1)]) (own := RX7) (by decide +kernel) rfl (Nat.le_of_ble_eq_true rfl) rfl rfl (fun p e s m below meth c C => ?_)
  unfold PX7_has at hw
  refine at_iload_n C dX7_has_0 rfl rfl ?_
  refine at_iload_n C dX7_has_1 rfl rfl ?_
  refine at_ishr C dX7_has_2 ?_
  refine at_iconst C dX7_has_3 ic_1 ?_
  refine at_iand C dX7_has_4 ?_
  refine at_iconst C dX7_has_5 ic_1 ?_
  refine at_icmp_ne (tgt := 13) C dX7_has_6 (by decide) (fun c_1 => ?_) (fun c_1 => ?_)
  · have hw := hw.1 c_1
    refine at_iconst C dX7_has_13 ic_0 ?_
    exact at_zret C rfl gBool_0 ⟨hw, rfl⟩ dX7_has_14
  · have hw := hw.2 c_1
    refine at_iconst C dX7_has_9 ic_1 ?_
    refine at_goto (tgt := 14) C dX7_has_10 (by decide) ?_
    exact at_zret C rfl gBool_1 ⟨hw, rfl⟩ dX7_has_14
set_option maxHeartbeats 4000000 in
theorem metX7_fallsNow   (l : Launch) (D : va_G) (dA : Nat → ClassId) (ad : Nat → Nat)    {x1 : Int32} {x2 : Int32} {w : GW} {Q : GW → Prop} (hw : PX7_fallsNow x1 x2 w Q) : Met l yX7_fallsNow (ws_ yX7_fallsNow cX7_fallsNow 3 none) (gR 1) (va_Pc [.ref (ad 0), .int x1, .int x2] (gB D dA 20 ad layM w)) (va_Qv Q (gZ D dA 20 ad layM) (gA 20 ad)) 0 0 (gA 20 ad) := by
  refine gm_of (L := [(0, .ref (ad 0)), (1, .int x1), (2, .int x2)]) (own := RX7) (by decide +kernel) rfl (Nat.le_of_ble_eq_true rfl) rfl rfl (fun p e s m below meth c C => ?_)
  unfold PX7_fallsNow at hw
  refine at_aload_n C dX7_fallsNow_0 rfl rfl ?_
  refine at_dup C dX7_fallsNow_1 rfl ?_
  refine at_geti (j := 26) C (Nat.le_of_ble_eq_true rfl) rfl rfl in_X7 (Nat.le_of_ble_eq_true rfl) rfl q713 dX7_fallsNow_2 ?_
  refine at_iconst C dX7_fallsNow_5 ic_1 ?_
  refine at_iload_n C dX7_fallsNow_6 rfl rfl ?_
  refine at_ishl C dX7_fallsNow_7 ?_
  refine at_iconst C dX7_fallsNow_8 ic_m1 ?_
  refine at_ixor C dX7_fallsNow_9 ?_
  refine at_iand C dX7_fallsNow_10 ?_
  refine at_puti (j := 26) C (Nat.le_of_ble_eq_true rfl) rfl rfl in_X7 (Nat.le_of_ble_eq_true rfl) rfl q713 tyX7 tyX7_ok nmX7 rfl rfl rfl dX7_fallsNow_11 (fun w_1 ew_1 => ?_)
  have hw := hw w_1 ew_1
  refine at_aload_n C dX7_fallsNow_14 rfl rfl ?_
  refine at_getr (j := 25) (r := 13) C (Nat.le_of_ble_eq_true rfl) rfl rfl in_X7 (Nat.le_of_ble_eq_true rfl) rfl q712 dX7_fallsNow_15 ?_
  refine at_iload_n C dX7_fallsNow_18 rfl rfl ?_
  refine at_iload_n C dX7_fallsNow_19 rfl rfl ?_
  refine at_iast C (Nat.le_of_ble_eq_true rfl) rfl hw.1 rfl dX7_fallsNow_20 (fun w_2 ew_2 => ?_)
  have hw := hw.2 w_2 ew_2
  exact at_vret C rfl hw dX7_fallsNow_21
set_option maxHeartbeats 4000000 in
theorem tX7_plateOf_2     {Q : Int32 → Prop} (C : Cx p s m args meth c D dA cX7_plateOf 3 (some .int) RX7)    {x1 : Int32} {w : GW}  : ∀ (n : Nat) (x2 : Int32), PX7_plateOf_2 Q x1 w n x2 → gAtM p l e s m args below meth c D dA ad 1 (va_Qi (gQ1 Q w) (gZ D dA 20 ad layM) (gA 20 ad)) 3 2 [(0, .ref (ad 0)), (1, .int x1), (2, .int x2)] [] w := by
  intro n
  induction n with
  | zero => intro x2 hw; exact False.elim hw
  | succ n ih =>
    intro x2 hw
    unfold PX7_plateOf_2 at hw
    refine at_aload_n C dX7_plateOf_2 rfl rfl ?_
    refine at_getr (j := 22) (r := 10) C (Nat.le_of_ble_eq_true rfl) rfl rfl in_X7 (Nat.le_of_ble_eq_true rfl) rfl q709 dX7_plateOf_3 ?_
    refine at_iload_n C dX7_plateOf_6 rfl rfl ?_
    refine at_iald C (Nat.le_of_ble_eq_true rfl) rfl hw.1 rfl dX7_plateOf_7 ?_
    have hw := hw.2
    refine at_iload_n C dX7_plateOf_8 rfl rfl ?_
    refine at_icmp_eq (tgt := 18) C dX7_plateOf_9 (by decide) (fun c_1 => ?_) (fun c_1 => ?_)
    · have hw := hw.1 c_1
      refine at_iload_n C dX7_plateOf_18 rfl rfl ?_
      exact at_iret C rfl ⟨hw, rfl⟩ dX7_plateOf_19
    · have hw := hw.2 c_1
      refine at_iinc (F := fun z_ => [(0, .ref (ad 0)), (1, .int x1), (2, .int z_)]) C dX7_plateOf_12 rfl ic_1 (Nat.le_of_ble_eq_true rfl) (fun _ => rfl) (fun v2_2 e2_2 => ?_)
      have hw := hw v2_2 e2_2
      refine at_goto (tgt := 2) C dX7_plateOf_15 (by decide) ?_
      exact ih _ hw
set_option maxHeartbeats 4000000 in
theorem metX7_plateOf   (l : Launch) (D : va_G) (dA : Nat → ClassId) (ad : Nat → Nat)    {x1 : Int32} {w : GW} {Q : Int32 → Prop} (hw : PX7_plateOf x1 w Q) : Met l yX7_plateOf (ws_ yX7_plateOf cX7_plateOf 3 (some .int)) (gR 1) (va_Pc [.ref (ad 0), .int x1] (gB D dA 20 ad layM w)) (va_Qi (gQ1 Q w) (gZ D dA 20 ad layM) (gA 20 ad)) 0 0 (gA 20 ad) := by
  refine gm_of (L := [(0, .ref (ad 0)), (1, .int x1)]) (own := RX7) (by decide +kernel) rfl (Nat.le_of_ble_eq_true rfl) rfl rfl (fun p e s m below meth c C => ?_)
  unfold PX7_plateOf at hw
  refine at_iconst C dX7_plateOf_0 ic_0 ?_
  refine at_istore_n (L' := [(0, .ref (ad 0)), (1, .int x1), (2, .int 0)]) C dX7_plateOf_1 rfl (Nat.le_of_ble_eq_true rfl) rfl ?_
  obtain ⟨n_3, hw⟩ := hw
  exact (tX7_plateOf_2 C  _ _ hw)
set_option maxHeartbeats 4000000 in
theorem metX7_rocksNow   (l : Launch) (D : va_G) (dA : Nat → ClassId) (ad : Nat → Nat)    {x1 : Int32} {w : GW} {Q : GW → Prop} (hw : PX7_rocksNow x1 w Q) : Met l yX7_rocksNow (ws_ yX7_rocksNow cX7_rocksNow 2 none) (gR 1) (va_Pc [.ref (ad 0), .int x1] (gB D dA 20 ad layM w)) (va_Qv Q (gZ D dA 20 ad layM) (gA 20 ad)) 0 0 (gA 20 ad) := by
  refine gm_of (L := [(0, .ref (ad 0)), (1, .int x1)]) (own := RX7) (by decide +kernel) rfl (Nat.le_of_ble_eq_true rfl) rfl rfl (fun p e s m below meth c C => ?_)
  unfold PX7_rocksNow at hw
  refine at_aload_n C dX7_rocksNow_0 rfl rfl ?_
  refine at_getr (j := 24) (r := 12) C (Nat.le_of_ble_eq_true rfl) rfl rfl in_X7 (Nat.le_of_ble_eq_true rfl) rfl q711 dX7_rocksNow_1 ?_
  refine at_iload_n C dX7_rocksNow_4 rfl rfl ?_
  refine at_dup2 C dX7_rocksNow_5 rfl rfl ?_
  refine at_iald C (Nat.le_of_ble_eq_true rfl) rfl hw.1 rfl dX7_rocksNow_6 ?_
  have hw := hw.2
  refine at_iconst C dX7_rocksNow_7 ic_1 ?_
  refine at_iadd C dX7_rocksNow_8 ?_
  refine at_iast C (Nat.le_of_ble_eq_true rfl) rfl hw.1 rfl dX7_rocksNow_9 (fun w_1 ew_1 => ?_)
  have hw := hw.2 w_1 ew_1
  refine at_aload_n C dX7_rocksNow_10 rfl rfl ?_
  refine at_dup C dX7_rocksNow_11 rfl ?_
  refine at_geti (j := 27) C (Nat.le_of_ble_eq_true rfl) rfl rfl in_X7 (Nat.le_of_ble_eq_true rfl) rfl q714 dX7_rocksNow_12 ?_
  refine at_iconst C dX7_rocksNow_15 ic_1 ?_
  refine at_iadd C dX7_rocksNow_16 ?_
  refine at_puti (j := 27) C (Nat.le_of_ble_eq_true rfl) rfl rfl in_X7 (Nat.le_of_ble_eq_true rfl) rfl q714 tyX7 tyX7_ok nmX7 rfl rfl rfl dX7_rocksNow_17 (fun w_2 ew_2 => ?_)
  have hw := hw w_2 ew_2
  exact at_vret C rfl hw dX7_rocksNow_20
set_option maxHeartbeats 4000000 in
theorem tX7_falls_122    {K29 : Int32 → GW → Prop} {Q : GW → Prop} (C : Cx p s m args meth c D dA cX7_falls 8 none RX7)    {x3 : Int32} {x6 : Int32} {s0 : Int32} {w : GW} (hK29 : ∀ (x3 : Int32) (w : GW), K29 x3 w → gAtM p l e s m args below meth c D dA ad 3 (va_Qv Q (gZ D dA 20 ad layM) (gA 20 ad)) 8 29 [(0, .ref (ad 0)), (3, .int x3)] [] w) (hw : PX7_falls_122 K29 Q x3 x6 s0 w) : gAtM p l e s m args below meth c D dA ad 3 (va_Qv Q (gZ D dA 20 ad layM) (gA 20 ad)) 8 122 [(0, .ref (ad 0)), (3, .int x3), (6, .int x6)] [.int s0] w := by
  unfold PX7_falls_122 at hw
  refine at_istore (L' := [(0, .ref (ad 0)), (3, .int x3), (6, .int x6), (7, .int s0)]) C dX7_falls_122 (Nat.le_of_ble_eq_true rfl) rfl ?_
  refine at_iload C dX7_falls_124 rfl ?_
  refine at_iconst C dX7_falls_126 ic_m1 ?_
  refine at_icmp_eq (tgt := 206) C dX7_falls_127 (by decide) (fun c_1 => ?_) (fun c_1 => ?_)
  · have hw := hw.1 c_1
    refine at_goto (tgt := 29) C dX7_falls_206 (by decide) ?_
    exact at_sub (lv_pickm [0, 1] rfl) (hK29 _ _ hw)
  · have hw := hw.2 c_1
    refine at_aload_n C dX7_falls_130 rfl rfl ?_
    refine at_geti (j := 26) C (Nat.le_of_ble_eq_true rfl) rfl rfl in_X7 (Nat.le_of_ble_eq_true rfl) rfl q713 dX7_falls_131 ?_
    refine at_iload C dX7_falls_134 rfl ?_
    refine at_callp (run_S (rest := []) (As := [.int (w 0 26), .int s0]) C (metX7_has l D dA ad  hw) (lw_S q879 q880 q65 q881) dsX7_has (gR_ok (Nat.le_of_ble_eq_true rfl) (Nat.le_of_ble_eq_true rfl)) ⟨rfl, rfl⟩ ⟨Nat.le_refl 0, Nat.le_refl 0⟩ rfl rfl (Nat.le_of_ble_eq_true rfl) dX7_falls_136) (fun r_2  hw => ?_)
    refine at_if_eq (tgt := 206) C dX7_falls_139 (by decide) (fun c_3 => ?_) (fun c_3 => ?_)
    · have hw := hw.1 c_3
      refine at_goto (tgt := 29) C dX7_falls_206 (by decide) ?_
      exact at_sub (lv_pickm [0, 1] rfl) (hK29 _ _ hw)
    · have hw := hw.2 c_3
      refine at_iload C dX7_falls_142 rfl ?_
      refine at_if_le (tgt := 206) C dX7_falls_144 (by decide) (fun c_4 => ?_) (fun c_4 => ?_)
      · have hw := hw.1 c_4
        refine at_goto (tgt := 29) C dX7_falls_206 (by decide) ?_
        exact at_sub (lv_pickm [0, 1] rfl) (hK29 _ _ hw)
      · have hw := hw.2 c_4
        refine at_iload C dX7_falls_147 rfl ?_
        refine at_aload_n C dX7_falls_149 rfl rfl ?_
        refine at_getr (j := 23) (r := 11) C (Nat.le_of_ble_eq_true rfl) rfl rfl in_X7 (Nat.le_of_ble_eq_true rfl) rfl q710 dX7_falls_150 ?_
        refine at_iload C dX7_falls_153 rfl ?_
        refine at_iald C (Nat.le_of_ble_eq_true rfl) rfl hw.1 rfl dX7_falls_155 ?_
        have hw := hw.2
        refine at_icmp_lt (tgt := 200) C dX7_falls_156 (by decide) (fun c_5 => ?_) (fun c_5 => ?_)
        · have hw := hw.1 c_5
          refine at_aload_n C dX7_falls_200 rfl rfl ?_
          refine at_iload C dX7_falls_201 rfl ?_
          refine at_callv (run_V (rest := []) (As := [.int s0]) C (metX7_rocksNow l D dA ad  hw) (lw_V q894 q896 qs41 q65 q897) dsX7_rocksNow (gR_ok (Nat.le_of_ble_eq_true rfl) (Nat.le_of_ble_eq_true rfl)) ⟨rfl, rfl⟩ ⟨Nat.le_refl 0, Nat.le_refl 0⟩ (Nat.le_of_ble_eq_true rfl) rfl rfl rfl rfl (Nat.le_of_ble_eq_true rfl) dX7_falls_203) (fun  w_7 hw => ?_)
          refine at_goto (tgt := 29) C dX7_falls_206 (by decide) ?_
          exact at_sub (lv_pickm [0, 1] rfl) (hK29 _ _ hw)
        · have hw := hw.2 c_5
          refine at_aload_n C dX7_falls_159 rfl rfl ?_
          refine at_iload C dX7_falls_160 rfl ?_
          refine at_aload_n C dX7_falls_162 rfl rfl ?_
          refine at_getr (j := 29) (r := 14) C (Nat.le_of_ble_eq_true rfl) rfl rfl in_X7 (Nat.le_of_ble_eq_true rfl) rfl q716 dX7_falls_163 ?_
          refine at_iload_n C dX7_falls_166 rfl rfl ?_
          refine at_iald C (Nat.le_of_ble_eq_true rfl) rfl hw.1 rfl dX7_falls_167 ?_
          have hw := hw.2
          refine at_callv (run_V (rest := []) (As := [.int s0, .int (w 14 (x3).toNatClampNeg)]) C (metX7_fallsNow l D dA ad  hw) (lw_V q886 q888 qs39 q65 q889) dsX7_fallsNow (gR_ok (Nat.le_of_ble_eq_true rfl) (Nat.le_of_ble_eq_true rfl)) ⟨rfl, rfl⟩ ⟨Nat.le_refl 0, Nat.le_refl 0⟩ (Nat.le_of_ble_eq_true rfl) rfl rfl rfl rfl (Nat.le_of_ble_eq_true rfl) dX7_falls_168) (fun  w_9 hw => ?_)
          refine at_iinc (F := fun z_ => [(0, .ref (ad 0)), (3, .int z_), (6, .int x6), (7, .int s0)]) C dX7_falls_171 rfl ic_1 (Nat.le_of_ble_eq_true rfl) (fun _ => rfl) (fun v3_10 e3_10 => ?_)
          have hw := hw v3_10 e3_10
          refine at_aload_n C dX7_falls_174 rfl rfl ?_
          refine at_getr (j := 29) (r := 14) C (Nat.le_of_ble_eq_true rfl) rfl rfl in_X7 (Nat.le_of_ble_eq_true rfl) rfl q716 dX7_falls_175 ?_
          refine at_iload_n C dX7_falls_178 rfl rfl ?_
          refine at_iload C dX7_falls_179 rfl ?_
          refine at_iast C (Nat.le_of_ble_eq_true rfl) rfl hw.1 rfl dX7_falls_181 (fun w_11 ew_11 => ?_)
          have hw := hw.2 w_11 ew_11
          refine at_aload_n C dX7_falls_182 rfl rfl ?_
          refine at_getr (j := 30) (r := 15) C (Nat.le_of_ble_eq_true rfl) rfl rfl in_X7 (Nat.le_of_ble_eq_true rfl) rfl q717 dX7_falls_183 ?_
          refine at_iload_n C dX7_falls_186 rfl rfl ?_
          refine at_iload C dX7_falls_187 rfl ?_
          refine at_iast C (Nat.le_of_ble_eq_true rfl) rfl hw.1 rfl dX7_falls_189 (fun w_12 ew_12 => ?_)
          have hw := hw.2 w_12 ew_12
          refine at_aload_n C dX7_falls_190 rfl rfl ?_
          refine at_getr (j := 31) (r := 16) C (Nat.le_of_ble_eq_true rfl) rfl rfl in_X7 (Nat.le_of_ble_eq_true rfl) rfl q718 dX7_falls_191 ?_
          refine at_iload_n C dX7_falls_194 rfl rfl ?_
          refine at_iconst C dX7_falls_195 ic_m1 ?_
          refine at_iast C (Nat.le_of_ble_eq_true rfl) rfl hw.1 rfl dX7_falls_196 (fun w_13 ew_13 => ?_)
          have hw := hw.2 w_13 ew_13
          refine at_goto (tgt := 206) C dX7_falls_197 (by decide) ?_
          refine at_goto (tgt := 29) C dX7_falls_206 (by decide) ?_
          exact at_sub (lv_pickm [0, 1] rfl) (hK29 _ _ hw)
set_option maxHeartbeats 4000000 in
theorem tX7_falls_29     {Q : GW → Prop} (C : Cx p s m args meth c D dA cX7_falls 8 none RX7)       : ∀ (n : Nat) (x3 : Int32) (w : GW), PX7_falls_29 Q n x3 w → gAtM p l e s m args below meth c D dA ad 3 (va_Qv Q (gZ D dA 20 ad layM) (gA 20 ad)) 8 29 [(0, .ref (ad 0)), (3, .int x3)] [] w := by
  intro n
  induction n with
  | zero => intro x3 w hw; exact False.elim hw
  | succ n ih =>
    intro x3 w hw
    unfold PX7_falls_29 at hw
    refine at_iload_n C dX7_falls_29 rfl rfl ?_
    refine at_if_lt (tgt := 209) C dX7_falls_30 (by decide) (fun c_14 => ?_) (fun c_14 => ?_)
    · have hw := hw.1 c_14
      exact at_vret C rfl hw dX7_falls_209
    · have hw := hw.2 c_14
      refine at_aload_n C dX7_falls_33 rfl rfl ?_
      refine at_getr (j := 31) (r := 16) C (Nat.le_of_ble_eq_true rfl) rfl rfl in_X7 (Nat.le_of_ble_eq_true rfl) rfl q718 dX7_falls_34 ?_
      refine at_iload_n C dX7_falls_37 rfl rfl ?_
      refine at_iald C (Nat.le_of_ble_eq_true rfl) rfl hw.1 rfl dX7_falls_38 ?_
      have hw := hw.2
      refine at_iconst C dX7_falls_39 ic_1 ?_
      refine at_icmp_le (tgt := 49) C dX7_falls_40 (by decide) (fun c_15 => ?_) (fun c_15 => ?_)
      · have hw := hw.1 c_15
        refine at_aload_n C dX7_falls_49 rfl rfl ?_
        refine at_aload_n C dX7_falls_50 rfl rfl ?_
        refine at_getr (j := 29) (r := 14) C (Nat.le_of_ble_eq_true rfl) rfl rfl in_X7 (Nat.le_of_ble_eq_true rfl) rfl q716 dX7_falls_51 ?_
        refine at_iload_n C dX7_falls_54 rfl rfl ?_
        refine at_iald C (Nat.le_of_ble_eq_true rfl) rfl hw.1 rfl dX7_falls_55 ?_
        have hw := hw.2
        refine at_callp (run_V (rest := []) (As := [.int (w 14 (x3).toNatClampNeg)]) C (metX7_plateOf l D dA ad  hw) (lw_V q890 q892 qs40 q65 q893) dsX7_plateOf (gR_ok (Nat.le_of_ble_eq_true rfl) (Nat.le_of_ble_eq_true rfl)) ⟨rfl, rfl⟩ ⟨Nat.le_refl 0, Nat.le_refl 0⟩ (Nat.le_of_ble_eq_true rfl) rfl rfl rfl rfl (Nat.le_of_ble_eq_true rfl) dX7_falls_56) (fun r_16  hw => ?_)
        refine at_istore (L' := [(0, .ref (ad 0)), (3, .int x3), (4, .int r_16)]) C dX7_falls_59 (Nat.le_of_ble_eq_true rfl) rfl ?_
        refine at_iload C dX7_falls_61 rfl ?_
        refine at_callp (run_S (rest := []) (As := [.int r_16]) C (metX7_rowOf l D dA ad  hw) (lw_S q862 q863 q65 q864) dsX7_rowOf (gR_ok (Nat.le_of_ble_eq_true rfl) (Nat.le_of_ble_eq_true rfl)) ⟨rfl, rfl⟩ ⟨Nat.le_refl 0, Nat.le_refl 0⟩ rfl rfl (Nat.le_of_ble_eq_true rfl) dX7_falls_63) (fun r_17  hw => ?_)
        refine at_iconst C dX7_falls_66 ic_1 ?_
        refine at_iadd C dX7_falls_67 ?_
        refine at_iload C dX7_falls_68 rfl ?_
        refine at_callp (run_S (rest := [.int (r_17 + 1)]) (As := [.int r_16]) C (metX7_columnOf l D dA ad  hw) (lw_S q876 q877 q65 q878) dsX7_columnOf (gR_ok (Nat.le_of_ble_eq_true rfl) (Nat.le_of_ble_eq_true rfl)) ⟨rfl, rfl⟩ ⟨Nat.le_refl 0, Nat.le_refl 0⟩ rfl rfl (Nat.le_of_ble_eq_true rfl) dX7_falls_70) (fun r_18  hw => ?_)
        refine at_aload_n C dX7_falls_73 rfl rfl ?_
        refine at_getr (j := 31) (r := 16) C (Nat.le_of_ble_eq_true rfl) rfl rfl in_X7 (Nat.le_of_ble_eq_true rfl) rfl q718 dX7_falls_74 ?_
        refine at_iload_n C dX7_falls_77 rfl rfl ?_
        refine at_iald C (Nat.le_of_ble_eq_true rfl) rfl hw.1 rfl dX7_falls_78 ?_
        have hw := hw.2
        refine at_iadd C dX7_falls_79 ?_
        refine at_callp (run_S (rest := []) (As := [.int (r_17 + 1), .int (r_18 + (w 16 (x3).toNatClampNeg))]) C (metX7_plateAt l D dA ad  hw) (lw_S q873 q874 q65 q875) dsX7_plateAt (gR_ok (Nat.le_of_ble_eq_true rfl) (Nat.le_of_ble_eq_true rfl)) ⟨rfl, rfl⟩ ⟨Nat.le_refl 0, Nat.le_refl 0⟩ rfl rfl (Nat.le_of_ble_eq_true rfl) dX7_falls_80) (fun r_19  hw => ?_)
        refine at_istore (L' := [(0, .ref (ad 0)), (3, .int x3), (4, .int r_16), (5, .int r_19)]) C dX7_falls_83 (Nat.le_of_ble_eq_true rfl) rfl ?_
        refine at_aload_n C dX7_falls_85 rfl rfl ?_
        refine at_getr (j := 30) (r := 15) C (Nat.le_of_ble_eq_true rfl) rfl rfl in_X7 (Nat.le_of_ble_eq_true rfl) rfl q717 dX7_falls_86 ?_
        refine at_iload_n C dX7_falls_89 rfl rfl ?_
        refine at_iald C (Nat.le_of_ble_eq_true rfl) rfl hw.1 rfl dX7_falls_90 ?_
        have hw := hw.2
        refine at_iconst C dX7_falls_91 ic_2 ?_
        refine at_idiv C dX7_falls_92 nz_2 ?_
        refine at_topi (fun v6_20 e6_20 => ?_)
        have hw := hw v6_20 e6_20
        refine at_istore (L' := [(0, .ref (ad 0)), (3, .int x3), (4, .int r_16), (5, .int r_19), (6, .int v6_20)]) C dX7_falls_93 (Nat.le_of_ble_eq_true rfl) rfl ?_
        refine at_aload_n C dX7_falls_95 rfl rfl ?_
        refine at_getr (j := 31) (r := 16) C (Nat.le_of_ble_eq_true rfl) rfl rfl in_X7 (Nat.le_of_ble_eq_true rfl) rfl q718 dX7_falls_96 ?_
        refine at_iload_n C dX7_falls_99 rfl rfl ?_
        refine at_dup2 C dX7_falls_100 rfl rfl ?_
        refine at_iald C (Nat.le_of_ble_eq_true rfl) rfl hw.1 rfl dX7_falls_101 ?_
        have hw := hw.2
        refine at_iconst C dX7_falls_102 ic_2 ?_
        refine at_iadd C dX7_falls_103 ?_
        refine at_iast C (Nat.le_of_ble_eq_true rfl) rfl hw.1 rfl dX7_falls_104 (fun w_21 ew_21 => ?_)
        have hw := hw.2 w_21 ew_21
        refine at_iload C dX7_falls_105 rfl ?_
        refine at_iconst C dX7_falls_107 ic_m1 ?_
        refine at_icmp_ne (tgt := 115) C dX7_falls_108 (by decide) (fun c_22 => ?_) (fun c_22 => ?_)
        · have hw := hw.1 c_22
          refine at_aload_n C dX7_falls_115 rfl rfl ?_
          refine at_getr (j := 22) (r := 10) C (Nat.le_of_ble_eq_true rfl) rfl rfl in_X7 (Nat.le_of_ble_eq_true rfl) rfl q709 dX7_falls_116 ?_
          refine at_iload C dX7_falls_119 rfl ?_
          refine at_iald C (Nat.le_of_ble_eq_true rfl) rfl hw.1 rfl dX7_falls_121 ?_
          have hw := hw.2
          exact at_sub (lv_pickm [0, 1, 4] rfl) (tX7_falls_122 C ih hw)
        · have hw := hw.2 c_22
          refine at_iconst C dX7_falls_111 ic_m1 ?_
          refine at_goto (tgt := 122) C dX7_falls_112 (by decide) ?_
          exact at_sub (lv_pickm [0, 1, 4] rfl) (tX7_falls_122 C ih hw)
      · have hw := hw.2 c_15
        refine at_iinc (F := fun z_ => [(0, .ref (ad 0)), (3, .int z_)]) C dX7_falls_43 rfl ic_m1 (Nat.le_of_ble_eq_true rfl) (fun _ => rfl) (fun v3_23 e3_23 => ?_)
        have hw := hw v3_23 e3_23
        refine at_goto (tgt := 29) C dX7_falls_46 (by decide) ?_
        exact ih _ _ hw
set_option maxHeartbeats 4000000 in
theorem metX7_falls   (l : Launch) (D : va_G) (dA : Nat → ClassId) (ad : Nat → Nat)    {x1 : Int32} {x2 : Int32} {w : GW} {Q : GW → Prop} (hw : PX7_falls x1 x2 w Q) : Met l yX7_falls (ws_ yX7_falls cX7_falls 8 none) (gR 3) (va_Pc [.ref (ad 0), .int x1, .int x2] (gB D dA 20 ad layM w)) (va_Qv Q (gZ D dA 20 ad layM) (gA 20 ad)) 0 0 (gA 20 ad) := by
  refine gm_of (L := [(0, .ref (ad 0)), (1, .int x1), (2, .int x2)]) (own := RX7) (by decide +kernel) rfl (Nat.le_of_ble_eq_true rfl) rfl rfl (fun p e s m below meth c C => ?_)
  unfold PX7_falls at hw
  refine at_aload_n C dX7_falls_0 rfl rfl ?_
  refine at_iload_n C dX7_falls_1 rfl rfl ?_
  refine at_iconst C dX7_falls_2 ic_m1 ?_
  refine at_callv (run_V (rest := []) (As := [.int x1, .int (-1)]) C (metX7_fallsNow l D dA ad  hw) (lw_V q886 q888 qs39 q65 q889) dsX7_fallsNow (gR_ok (Nat.le_of_ble_eq_true rfl) (Nat.le_of_ble_eq_true rfl)) ⟨rfl, rfl⟩ ⟨Nat.le_refl 0, Nat.le_refl 0⟩ (Nat.le_of_ble_eq_true rfl) rfl rfl rfl rfl (Nat.le_of_ble_eq_true rfl) dX7_falls_3) (fun  w_25 hw => ?_)
  refine at_aload_n C dX7_falls_6 rfl rfl ?_
  refine at_getr (j := 29) (r := 14) C (Nat.le_of_ble_eq_true rfl) rfl rfl in_X7 (Nat.le_of_ble_eq_true rfl) rfl q716 dX7_falls_7 ?_
  refine at_iconst C dX7_falls_10 ic_0 ?_
  refine at_iload_n C dX7_falls_11 rfl rfl ?_
  refine at_iast C (Nat.le_of_ble_eq_true rfl) rfl vk_0_10 tk_0 dX7_falls_12 (fun w_26 ew_26 => ?_)
  have hw := hw w_26 ew_26
  refine at_aload_n C dX7_falls_13 rfl rfl ?_
  refine at_getr (j := 30) (r := 15) C (Nat.le_of_ble_eq_true rfl) rfl rfl in_X7 (Nat.le_of_ble_eq_true rfl) rfl q717 dX7_falls_14 ?_
  refine at_iconst C dX7_falls_17 ic_0 ?_
  refine at_iload_n C dX7_falls_18 rfl rfl ?_
  refine at_iast C (Nat.le_of_ble_eq_true rfl) rfl vk_0_10 tk_0 dX7_falls_19 (fun w_27 ew_27 => ?_)
  have hw := hw w_27 ew_27
  refine at_aload_n C dX7_falls_20 rfl rfl ?_
  refine at_getr (j := 31) (r := 16) C (Nat.le_of_ble_eq_true rfl) rfl rfl in_X7 (Nat.le_of_ble_eq_true rfl) rfl q718 dX7_falls_21 ?_
  refine at_iconst C dX7_falls_24 ic_0 ?_
  refine at_iconst C dX7_falls_25 ic_m1 ?_
  refine at_iast C (Nat.le_of_ble_eq_true rfl) rfl vk_0_10 tk_0 dX7_falls_26 (fun w_28 ew_28 => ?_)
  have hw := hw w_28 ew_28
  refine at_iconst C dX7_falls_27 ic_0 ?_
  refine at_istore_n (L' := [(0, .ref (ad 0)), (1, .int x1), (2, .int x2), (3, .int 0)]) C dX7_falls_28 rfl (Nat.le_of_ble_eq_true rfl) rfl ?_
  obtain ⟨n_29, hw⟩ := hw
  exact at_sub (lv_pickm [0, 3] rfl) (tX7_falls_29 C  _ _ _ hw)
end GWalk
