/-! the walks of the reference -/
set_option maxRecDepth 100000
section GWalk
variable {p : Program} {l : Launch} {e : Env} {s : State} {m : MethodId} {args : Array Value} {below : List Frame} {meth : Method} {c : Code} {D : va_G} {dA : Nat → ClassId} {ad : Nat → Nat}
set_option maxHeartbeats 4000000 in
theorem metX7_setUp   (l : Launch) (D : va_G) (dA : Nat → ClassId) (ad : Nat → Nat)     {w : GW} {Q : Int32 → GW → Prop} (hw : PX7_setUp w Q) : Met l yX7_setUp (ws_ yX7_setUp cX7_setUp 2 (some .int)) (gR 2) (va_Pc [.ref (ad 0)] (gB D dA 20 ad layM w)) (va_Qi Q (gZ D dA 20 ad layM) (gA 20 ad)) 0 0 (gA 20 ad) := by
  refine gm_of (L := [(0, .ref (ad 0))]) (own := RX7) (by decide +kernel) rfl (Nat.le_of_ble_eq_true rfl) rfl rfl (fun p e s m below meth c C => ?_)
  unfold PX7_setUp at hw
  refine at_aload_n C dX7_setUp_0 rfl rfl ?_
  refine at_iconst C dX7_setUp_1 ic_0 ?_
  refine at_puti (j := 0) C (Nat.le_of_ble_eq_true rfl) rfl rfl in_X7 (Nat.le_of_ble_eq_true rfl) rfl q687 tyX7 tyX7_ok nmX7 rfl rfl rfl dX7_setUp_2 (fun w_1 ew_1 => ?_)
  have hw := hw w_1 ew_1
  refine at_aload_n C dX7_setUp_5 rfl rfl ?_
  refine at_geti (j := 7) C (Nat.le_of_ble_eq_true rfl) rfl rfl in_X7 (Nat.le_of_ble_eq_true rfl) rfl q694 dX7_setUp_6 ?_
  refine at_if_ne (tgt := 15) C dX7_setUp_9 (by decide) (fun c_2 => ?_) (fun c_2 => ?_)
  · have hw := hw.1 c_2
    refine at_aload_n C dX7_setUp_15 rfl rfl ?_
    refine at_callv (run_V (rest := []) (As := []) C (metX7_notes l D dA ad  hw) (lw_V q953 q955 qs50 q65 q956) dsX7_notes (gR_ok (Nat.le_of_ble_eq_true rfl) (Nat.le_of_ble_eq_true rfl)) ⟨rfl, rfl⟩ ⟨Nat.le_refl 0, Nat.le_refl 0⟩ (Nat.le_of_ble_eq_true rfl) rfl rfl rfl rfl (Nat.le_of_ble_eq_true rfl) dX7_setUp_16) (fun  w_4 hw => ?_)
    refine at_aload_n C dX7_setUp_19 rfl rfl ?_
    refine at_geti (j := 9) C (Nat.le_of_ble_eq_true rfl) rfl rfl in_X7 (Nat.le_of_ble_eq_true rfl) rfl q696 dX7_setUp_20 ?_
    refine at_aload_n C dX7_setUp_23 rfl rfl ?_
    refine at_getr (j := 14) (r := 4) C (Nat.le_of_ble_eq_true rfl) rfl rfl in_X7 (Nat.le_of_ble_eq_true rfl) rfl q701 dX7_setUp_24 ?_
    refine at_bipush C dX7_setUp_27 bp_45 ?_
    refine at_iald C (Nat.le_of_ble_eq_true rfl) rfl vk_45_49 tk_45 dX7_setUp_29 ?_
    refine at_callp (run_S (rest := [.int (w_4 0 9)]) (As := [.int (w_4 4 45)]) C (metX7_ones l D dA ad  hw) (lw_S q898 q899 q65 q900) dsX7_ones (gR_ok (Nat.le_of_ble_eq_true rfl) (Nat.le_of_ble_eq_true rfl)) ⟨rfl, rfl⟩ ⟨Nat.le_refl 0, Nat.le_refl 0⟩ rfl rfl (Nat.le_of_ble_eq_true rfl) dX7_setUp_30) (fun r_5  hw => ?_)
    refine at_isub C dX7_setUp_33 ?_
    refine at_topi (fun v1_6 e1_6 => ?_)
    have hw := hw v1_6 e1_6
    refine at_istore_n (L' := [(0, .ref (ad 0)), (1, .int v1_6)]) C dX7_setUp_34 rfl (Nat.le_of_ble_eq_true rfl) rfl ?_
    refine at_aload_n C dX7_setUp_35 rfl rfl ?_
    refine at_getr (j := 14) (r := 4) C (Nat.le_of_ble_eq_true rfl) rfl rfl in_X7 (Nat.le_of_ble_eq_true rfl) rfl q701 dX7_setUp_36 ?_
    refine at_bipush C dX7_setUp_39 bp_45 ?_
    refine at_iconst C dX7_setUp_41 ic_1 ?_
    refine at_aload_n C dX7_setUp_42 rfl rfl ?_
    refine at_geti (j := 9) C (Nat.le_of_ble_eq_true rfl) rfl rfl in_X7 (Nat.le_of_ble_eq_true rfl) rfl q696 dX7_setUp_43 ?_
    refine at_ishl C dX7_setUp_46 ?_
    refine at_iconst C dX7_setUp_47 ic_1 ?_
    refine at_isub C dX7_setUp_48 ?_
    refine at_iast C (Nat.le_of_ble_eq_true rfl) rfl vk_45_49 tk_45 dX7_setUp_49 (fun w_7 ew_7 => ?_)
    have hw := hw w_7 ew_7
    refine at_iload_n C dX7_setUp_50 rfl rfl ?_
    exact at_iret C rfl hw dX7_setUp_51
  · have hw := hw.2 c_2
    refine at_ldc C q952 dX7_setUp_12 ?_
    exact at_iret C rfl hw dX7_setUp_14
set_option maxHeartbeats 4000000 in
theorem metX7_lift   (l : Launch) (D : va_G) (dA : Nat → ClassId) (ad : Nat → Nat)    {x1 : Int32} {w : GW} {Q : Int32 → GW → Prop} (hw : PX7_lift x1 w Q) : Met l yX7_lift (ws_ yX7_lift cX7_lift 2 (some .int)) (gR 3) (va_Pc [.ref (ad 0), .int x1] (gB D dA 20 ad layM w)) (va_Qi Q (gZ D dA 20 ad layM) (gA 20 ad)) 0 0 (gA 20 ad) := by
  refine gm_of (L := [(0, .ref (ad 0)), (1, .int x1)]) (own := RX7) (by decide +kernel) rfl (Nat.le_of_ble_eq_true rfl) rfl rfl (fun p e s m below meth c C => ?_)
  unfold PX7_lift at hw
  refine at_aload_n C dX7_lift_0 rfl rfl ?_
  refine at_iconst C dX7_lift_1 ic_0 ?_
  refine at_puti (j := 0) C (Nat.le_of_ble_eq_true rfl) rfl rfl in_X7 (Nat.le_of_ble_eq_true rfl) rfl q687 tyX7 tyX7_ok nmX7 rfl rfl rfl dX7_lift_2 (fun w_1 ew_1 => ?_)
  have hw := hw w_1 ew_1
  refine at_aload_n C dX7_lift_5 rfl rfl ?_
  refine at_iload_n C dX7_lift_6 rfl rfl ?_
  refine at_callp (run_V (rest := []) (As := [.int x1]) C (metX7_isSkittle l D dA ad  hw) (lw_V q924 q926 qs46 q65 q927) dsX7_isSkittle (gR_ok (Nat.le_of_ble_eq_true rfl) (Nat.le_of_ble_eq_true rfl)) ⟨rfl, rfl⟩ ⟨Nat.le_refl 0, Nat.le_refl 0⟩ (Nat.le_of_ble_eq_true rfl) rfl rfl rfl rfl (Nat.le_of_ble_eq_true rfl) dX7_lift_7) (fun r_2  hw => ?_)
  refine at_if_ne (tgt := 16) C dX7_lift_10 (by decide) (fun c_3 => ?_) (fun c_3 => ?_)
  · have hw := hw.1 c_3
    refine at_aload_n C dX7_lift_16 rfl rfl ?_
    refine at_getr (j := 14) (r := 4) C (Nat.le_of_ble_eq_true rfl) rfl rfl in_X7 (Nat.le_of_ble_eq_true rfl) rfl q701 dX7_lift_17 ?_
    refine at_bipush C dX7_lift_20 bp_45 ?_
    refine at_iald C (Nat.le_of_ble_eq_true rfl) rfl vk_45_49 tk_45 dX7_lift_22 ?_
    refine at_iload_n C dX7_lift_23 rfl rfl ?_
    refine at_callp (run_S (rest := []) (As := [.int (w_1 4 45), .int x1]) C (metX7_has l D dA ad  hw) (lw_S q879 q880 q65 q881) dsX7_has (gR_ok (Nat.le_of_ble_eq_true rfl) (Nat.le_of_ble_eq_true rfl)) ⟨rfl, rfl⟩ ⟨Nat.le_refl 0, Nat.le_refl 0⟩ rfl rfl (Nat.le_of_ble_eq_true rfl) dX7_lift_24) (fun r_4  hw => ?_)
    refine at_if_eq (tgt := 33) C dX7_lift_27 (by decide) (fun c_5 => ?_) (fun c_5 => ?_)
    · have hw := hw.1 c_5
      refine at_aload_n C dX7_lift_33 rfl rfl ?_
      refine at_callv (run_V (rest := []) (As := []) C (metX7_notes l D dA ad  hw) (lw_V q953 q955 qs50 q65 q956) dsX7_notes (gR_ok (Nat.le_of_ble_eq_true rfl) (Nat.le_of_ble_eq_true rfl)) ⟨rfl, rfl⟩ ⟨Nat.le_refl 0, Nat.le_refl 0⟩ (Nat.le_of_ble_eq_true rfl) rfl rfl rfl rfl (Nat.le_of_ble_eq_true rfl) dX7_lift_34) (fun  w_7 hw => ?_)
      refine at_aload_n C dX7_lift_37 rfl rfl ?_
      refine at_getr (j := 14) (r := 4) C (Nat.le_of_ble_eq_true rfl) rfl rfl in_X7 (Nat.le_of_ble_eq_true rfl) rfl q701 dX7_lift_38 ?_
      refine at_bipush C dX7_lift_41 bp_45 ?_
      refine at_dup2 C dX7_lift_43 rfl rfl ?_
      refine at_iald C (Nat.le_of_ble_eq_true rfl) rfl vk_45_49 tk_45 dX7_lift_44 ?_
      refine at_iconst C dX7_lift_45 ic_1 ?_
      refine at_iload_n C dX7_lift_46 rfl rfl ?_
      refine at_ishl C dX7_lift_47 ?_
      refine at_ior C dX7_lift_48 ?_
      refine at_iast C (Nat.le_of_ble_eq_true rfl) rfl vk_45_49 tk_45 dX7_lift_49 (fun w_8 ew_8 => ?_)
      have hw := hw w_8 ew_8
      refine at_aload_n C dX7_lift_50 rfl rfl ?_
      refine at_getr (j := 14) (r := 4) C (Nat.le_of_ble_eq_true rfl) rfl rfl in_X7 (Nat.le_of_ble_eq_true rfl) rfl q701 dX7_lift_51 ?_
      refine at_bipush C dX7_lift_54 bp_45 ?_
      refine at_iald C (Nat.le_of_ble_eq_true rfl) rfl vk_45_49 tk_45 dX7_lift_56 ?_
      refine at_callp (run_S (rest := []) (As := [.int (w_8 4 45)]) C (metX7_ones l D dA ad  hw) (lw_S q898 q899 q65 q900) dsX7_ones (gR_ok (Nat.le_of_ble_eq_true rfl) (Nat.le_of_ble_eq_true rfl)) ⟨rfl, rfl⟩ ⟨Nat.le_refl 0, Nat.le_refl 0⟩ rfl rfl (Nat.le_of_ble_eq_true rfl) dX7_lift_57) (fun r_9  hw => ?_)
      exact at_iret C rfl hw dX7_lift_60
    · have hw := hw.2 c_5
      refine at_ldc C q952 dX7_lift_30 ?_
      exact at_iret C rfl hw dX7_lift_32
  · have hw := hw.2 c_3
    refine at_ldc C q928 dX7_lift_13 ?_
    exact at_iret C rfl hw dX7_lift_15
set_option maxHeartbeats 4000000 in
theorem tX7_changes_27     {Q : GW → Prop} (C : Cx p s m args meth c D dA cX7_changes 5 none RX7)    {x1 : Int32} {x4 : Int32} {w : GW}  (hw : PX7_changes_27 Q x1 x4 w) : gAtM p l e s m args below meth c D dA ad 2 (va_Qv Q (gZ D dA 20 ad layM) (gA 20 ad)) 5 27 [(0, .ref (ad 0)), (1, .int x1), (4, .int x4)] [] w := by
  unfold PX7_changes_27 at hw
  refine at_iload C dX7_changes_27 rfl ?_
  refine at_iconst C dX7_changes_29 ic_m1 ?_
  refine at_icmp_eq (tgt := 43) C dX7_changes_30 (by decide) (fun c_1 => ?_) (fun c_1 => ?_)
  · have hw := hw.1 c_1
    exact at_vret C rfl hw dX7_changes_43
  · have hw := hw.2 c_1
    refine at_aload_n C dX7_changes_33 rfl rfl ?_
    refine at_getr (j := 14) (r := 4) C (Nat.le_of_ble_eq_true rfl) rfl rfl in_X7 (Nat.le_of_ble_eq_true rfl) rfl q701 dX7_changes_34 ?_
    refine at_iconst C dX7_changes_37 ic_0 ?_
    refine at_iload C dX7_changes_38 rfl ?_
    refine at_iadd C dX7_changes_40 ?_
    refine at_iload_n C dX7_changes_41 rfl rfl ?_
    refine at_iast C (Nat.le_of_ble_eq_true rfl) rfl hw.1 rfl dX7_changes_42 (fun w_2 ew_2 => ?_)
    have hw := hw.2 w_2 ew_2
    exact at_vret C rfl hw dX7_changes_43
set_option maxHeartbeats 4000000 in
theorem metX7_changes   (l : Launch) (D : va_G) (dA : Nat → ClassId) (ad : Nat → Nat)    {x1 : Int32} {x2 : Int32} {w : GW} {Q : GW → Prop} (hw : PX7_changes x1 x2 w Q) : Met l yX7_changes (ws_ yX7_changes cX7_changes 5 none) (gR 2) (va_Pc [.ref (ad 0), .int x1, .int x2] (gB D dA 20 ad layM w)) (va_Qv Q (gZ D dA 20 ad layM) (gA 20 ad)) 0 0 (gA 20 ad) := by
  refine gm_of (L := [(0, .ref (ad 0)), (1, .int x1), (2, .int x2)]) (own := RX7) (by decide +kernel) rfl (Nat.le_of_ble_eq_true rfl) rfl rfl (fun p e s m below meth c C => ?_)
  unfold PX7_changes at hw
  refine at_aload_n C dX7_changes_0 rfl rfl ?_
  refine at_iload_n C dX7_changes_1 rfl rfl ?_
  refine at_callp (run_V (rest := []) (As := [.int x1]) C (metX7_whoOn l D dA ad  hw) (lw_V q940 q942 qs48 q65 q943) dsX7_whoOn (gR_ok (Nat.le_of_ble_eq_true rfl) (Nat.le_of_ble_eq_true rfl)) ⟨rfl, rfl⟩ ⟨Nat.le_refl 0, Nat.le_refl 0⟩ (Nat.le_of_ble_eq_true rfl) rfl rfl rfl rfl (Nat.le_of_ble_eq_true rfl) dX7_changes_2) (fun r_3  hw => ?_)
  refine at_istore_n (L' := [(0, .ref (ad 0)), (1, .int x1), (2, .int x2), (3, .int r_3)]) C dX7_changes_5 rfl (Nat.le_of_ble_eq_true rfl) rfl ?_
  refine at_aload_n C dX7_changes_6 rfl rfl ?_
  refine at_iload_n C dX7_changes_7 rfl rfl ?_
  refine at_callp (run_V (rest := []) (As := [.int x2]) C (metX7_whoOn l D dA ad  hw) (lw_V q940 q942 qs48 q65 q943) dsX7_whoOn (gR_ok (Nat.le_of_ble_eq_true rfl) (Nat.le_of_ble_eq_true rfl)) ⟨rfl, rfl⟩ ⟨Nat.le_refl 0, Nat.le_refl 0⟩ (Nat.le_of_ble_eq_true rfl) rfl rfl rfl rfl (Nat.le_of_ble_eq_true rfl) dX7_changes_8) (fun r_4  hw => ?_)
  refine at_istore (L' := [(0, .ref (ad 0)), (1, .int x1), (2, .int x2), (3, .int r_3), (4, .int r_4)]) C dX7_changes_11 (Nat.le_of_ble_eq_true rfl) rfl ?_
  refine at_iload_n C dX7_changes_13 rfl rfl ?_
  refine at_iconst C dX7_changes_14 ic_m1 ?_
  refine at_icmp_eq (tgt := 27) C dX7_changes_15 (by decide) (fun c_5 => ?_) (fun c_5 => ?_)
  · have hw := hw.1 c_5
    exact at_sub (lv_pickm [0, 1, 4] rfl) (tX7_changes_27 C  hw)
  · have hw := hw.2 c_5
    refine at_aload_n C dX7_changes_18 rfl rfl ?_
    refine at_getr (j := 14) (r := 4) C (Nat.le_of_ble_eq_true rfl) rfl rfl in_X7 (Nat.le_of_ble_eq_true rfl) rfl q701 dX7_changes_19 ?_
    refine at_iconst C dX7_changes_22 ic_0 ?_
    refine at_iload_n C dX7_changes_23 rfl rfl ?_
    refine at_iadd C dX7_changes_24 ?_
    refine at_iload_n C dX7_changes_25 rfl rfl ?_
    refine at_iast C (Nat.le_of_ble_eq_true rfl) rfl hw.1 rfl dX7_changes_26 (fun w_6 ew_6 => ?_)
    have hw := hw.2 w_6 ew_6
    exact at_sub (lv_pickm [0, 1, 4] rfl) (tX7_changes_27 C  hw)
set_option maxHeartbeats 4000000 in
theorem metX7_change   (l : Launch) (D : va_G) (dA : Nat → ClassId) (ad : Nat → Nat)    {x1 : Int32} {x2 : Int32} {w : GW} {Q : Int32 → GW → Prop} (hw : PX7_change x1 x2 w Q) : Met l yX7_change (ws_ yX7_change cX7_change 3 (some .int)) (gR 3) (va_Pc [.ref (ad 0), .int x1, .int x2] (gB D dA 20 ad layM w)) (va_Qi Q (gZ D dA 20 ad layM) (gA 20 ad)) 0 0 (gA 20 ad) := by
  refine gm_of (L := [(0, .ref (ad 0)), (1, .int x1), (2, .int x2)]) (own := RX7) (by decide +kernel) rfl (Nat.le_of_ble_eq_true rfl) rfl rfl (fun p e s m below meth c C => ?_)
  unfold PX7_change at hw
  refine at_aload_n C dX7_change_0 rfl rfl ?_
  refine at_iconst C dX7_change_1 ic_0 ?_
  refine at_puti (j := 0) C (Nat.le_of_ble_eq_true rfl) rfl rfl in_X7 (Nat.le_of_ble_eq_true rfl) rfl q687 tyX7 tyX7_ok nmX7 rfl rfl rfl dX7_change_2 (fun w_1 ew_1 => ?_)
  have hw := hw w_1 ew_1
  refine at_iload_n C dX7_change_5 rfl rfl ?_
  refine at_callp (run_S (rest := []) (As := [.int x1]) C (metX7_isPlate l D dA ad  hw) (lw_S q937 q938 q65 q939) dsX7_isPlate (gR_ok (Nat.le_of_ble_eq_true rfl) (Nat.le_of_ble_eq_true rfl)) ⟨rfl, rfl⟩ ⟨Nat.le_refl 0, Nat.le_refl 0⟩ rfl rfl (Nat.le_of_ble_eq_true rfl) dX7_change_6) (fun r_2  hw => ?_)
  refine at_if_eq (tgt := 24) C dX7_change_9 (by decide) (fun c_3 => ?_) (fun c_3 => ?_)
  · have hw := hw.1 c_3
    refine at_ldc C q928 dX7_change_24 ?_
    exact at_iret C rfl hw dX7_change_26
  · have hw := hw.2 c_3
    refine at_iload_n C dX7_change_12 rfl rfl ?_
    refine at_callp (run_S (rest := []) (As := [.int x2]) C (metX7_isPlate l D dA ad  hw) (lw_S q937 q938 q65 q939) dsX7_isPlate (gR_ok (Nat.le_of_ble_eq_true rfl) (Nat.le_of_ble_eq_true rfl)) ⟨rfl, rfl⟩ ⟨Nat.le_refl 0, Nat.le_refl 0⟩ rfl rfl (Nat.le_of_ble_eq_true rfl) dX7_change_13) (fun r_4  hw => ?_)
    refine at_if_eq (tgt := 24) C dX7_change_16 (by decide) (fun c_5 => ?_) (fun c_5 => ?_)
    · have hw := hw.1 c_5
      refine at_ldc C q928 dX7_change_24 ?_
      exact at_iret C rfl hw dX7_change_26
    · have hw := hw.2 c_5
      refine at_iload_n C dX7_change_19 rfl rfl ?_
      refine at_iload_n C dX7_change_20 rfl rfl ?_
      refine at_icmp_ne (tgt := 27) C dX7_change_21 (by decide) (fun c_6 => ?_) (fun c_6 => ?_)
      · have hw := hw.1 c_6
        refine at_aload_n C dX7_change_27 rfl rfl ?_
        refine at_callv (run_V (rest := []) (As := []) C (metX7_notes l D dA ad  hw) (lw_V q953 q955 qs50 q65 q956) dsX7_notes (gR_ok (Nat.le_of_ble_eq_true rfl) (Nat.le_of_ble_eq_true rfl)) ⟨rfl, rfl⟩ ⟨Nat.le_refl 0, Nat.le_refl 0⟩ (Nat.le_of_ble_eq_true rfl) rfl rfl rfl rfl (Nat.le_of_ble_eq_true rfl) dX7_change_28) (fun  w_8 hw => ?_)
        refine at_aload_n C dX7_change_31 rfl rfl ?_
        refine at_iload_n C dX7_change_32 rfl rfl ?_
        refine at_iload_n C dX7_change_33 rfl rfl ?_
        refine at_callv (run_V (rest := []) (As := [.int x1, .int x2]) C (metX7_changes l D dA ad  hw) (lw_V q973 q975 qs52 q65 q976) dsX7_changes (gR_ok (Nat.le_of_ble_eq_true rfl) (Nat.le_of_ble_eq_true rfl)) ⟨rfl, rfl⟩ ⟨Nat.le_refl 0, Nat.le_refl 0⟩ (Nat.le_of_ble_eq_true rfl) rfl rfl rfl rfl (Nat.le_of_ble_eq_true rfl) dX7_change_34) (fun  w_10 hw => ?_)
        refine at_aload_n C dX7_change_37 rfl rfl ?_
        refine at_iload_n C dX7_change_38 rfl rfl ?_
        refine at_callp (run_V (rest := []) (As := [.int x1]) C (metX7_whoOn l D dA ad  hw) (lw_V q940 q942 qs48 q65 q943) dsX7_whoOn (gR_ok (Nat.le_of_ble_eq_true rfl) (Nat.le_of_ble_eq_true rfl)) ⟨rfl, rfl⟩ ⟨Nat.le_refl 0, Nat.le_refl 0⟩ (Nat.le_of_ble_eq_true rfl) rfl rfl rfl rfl (Nat.le_of_ble_eq_true rfl) dX7_change_39) (fun r_11  hw => ?_)
        exact at_iret C rfl hw dX7_change_42
      · have hw := hw.2 c_6
        refine at_ldc C q928 dX7_change_24 ?_
        exact at_iret C rfl hw dX7_change_26
set_option maxHeartbeats 4000000 in
theorem metX7_chip   (l : Launch) (D : va_G) (dA : Nat → ClassId) (ad : Nat → Nat)    {x1 : Int32} {x2 : Int32} {w : GW} {Q : Int32 → GW → Prop} (hw : PX7_chip x1 x2 w Q) : Met l yX7_chip (ws_ yX7_chip cX7_chip 4 (some .int)) (gR 3) (va_Pc [.ref (ad 0), .int x1, .int x2] (gB D dA 20 ad layM w)) (va_Qi Q (gZ D dA 20 ad layM) (gA 20 ad)) 0 0 (gA 20 ad) := by
  refine gm_of (L := [(0, .ref (ad 0)), (1, .int x1), (2, .int x2)]) (own := RX7) (by decide +kernel) rfl (Nat.le_of_ble_eq_true rfl) rfl rfl (fun p e s m below meth c C => ?_)
  unfold PX7_chip at hw
  refine at_aload_n C dX7_chip_0 rfl rfl ?_
  refine at_iconst C dX7_chip_1 ic_0 ?_
  refine at_puti (j := 0) C (Nat.le_of_ble_eq_true rfl) rfl rfl in_X7 (Nat.le_of_ble_eq_true rfl) rfl q687 tyX7 tyX7_ok nmX7 rfl rfl rfl dX7_chip_2 (fun w_1 ew_1 => ?_)
  have hw := hw w_1 ew_1
  refine at_aload_n C dX7_chip_5 rfl rfl ?_
  refine at_iload_n C dX7_chip_6 rfl rfl ?_
  refine at_callp (run_V (rest := []) (As := [.int x1]) C (metX7_isSkittle l D dA ad  hw) (lw_V q924 q926 qs46 q65 q927) dsX7_isSkittle (gR_ok (Nat.le_of_ble_eq_true rfl) (Nat.le_of_ble_eq_true rfl)) ⟨rfl, rfl⟩ ⟨Nat.le_refl 0, Nat.le_refl 0⟩ (Nat.le_of_ble_eq_true rfl) rfl rfl rfl rfl (Nat.le_of_ble_eq_true rfl) dX7_chip_7) (fun r_2  hw => ?_)
  refine at_if_ne (tgt := 16) C dX7_chip_10 (by decide) (fun c_3 => ?_) (fun c_3 => ?_)
  · have hw := hw.1 c_3
    refine at_iload_n C dX7_chip_16 rfl rfl ?_
    refine at_iconst C dX7_chip_17 ic_0 ?_
    refine at_bipush C dX7_chip_18 bp_9 ?_
    refine at_callp (run_S (rest := []) (As := [.int x2, .int 0, .int 9]) C (metX7_in l D dA ad  hw) (lw_S q797 q798 q65 q799) dsX7_in (gR_ok (Nat.le_of_ble_eq_true rfl) (Nat.le_of_ble_eq_true rfl)) ⟨rfl, rfl⟩ ⟨Nat.le_refl 0, Nat.le_refl 0⟩ rfl rfl (Nat.le_of_ble_eq_true rfl) dX7_chip_20) (fun r_4  hw => ?_)
    refine at_if_ne (tgt := 29) C dX7_chip_23 (by decide) (fun c_5 => ?_) (fun c_5 => ?_)
    · have hw := hw.1 c_5
      refine at_aload_n C dX7_chip_29 rfl rfl ?_
      refine at_callv (run_V (rest := []) (As := []) C (metX7_notes l D dA ad  hw) (lw_V q953 q955 qs50 q65 q956) dsX7_notes (gR_ok (Nat.le_of_ble_eq_true rfl) (Nat.le_of_ble_eq_true rfl)) ⟨rfl, rfl⟩ ⟨Nat.le_refl 0, Nat.le_refl 0⟩ (Nat.le_of_ble_eq_true rfl) rfl rfl rfl rfl (Nat.le_of_ble_eq_true rfl) dX7_chip_30) (fun  w_7 hw => ?_)
      refine at_aload_n C dX7_chip_33 rfl rfl ?_
      refine at_getr (j := 14) (r := 4) C (Nat.le_of_ble_eq_true rfl) rfl rfl in_X7 (Nat.le_of_ble_eq_true rfl) rfl q701 dX7_chip_34 ?_
      refine at_bipush C dX7_chip_37 bp_36 ?_
      refine at_iload_n C dX7_chip_39 rfl rfl ?_
      refine at_iadd C dX7_chip_40 ?_
      refine at_iald C (Nat.le_of_ble_eq_true rfl) rfl hw.1 rfl dX7_chip_41 ?_
      have hw := hw.2
      refine at_topi (fun v3_8 e3_8 => ?_)
      have hw := hw v3_8 e3_8
      refine at_istore_n (L' := [(0, .ref (ad 0)), (1, .int x1), (2, .int x2), (3, .int v3_8)]) C dX7_chip_42 rfl (Nat.le_of_ble_eq_true rfl) rfl ?_
      refine at_aload_n C dX7_chip_43 rfl rfl ?_
      refine at_getr (j := 14) (r := 4) C (Nat.le_of_ble_eq_true rfl) rfl rfl in_X7 (Nat.le_of_ble_eq_true rfl) rfl q701 dX7_chip_44 ?_
      refine at_bipush C dX7_chip_47 bp_36 ?_
      refine at_iload_n C dX7_chip_49 rfl rfl ?_
      refine at_iadd C dX7_chip_50 ?_
      refine at_iload_n C dX7_chip_51 rfl rfl ?_
      refine at_iast C (Nat.le_of_ble_eq_true rfl) rfl hw.1 rfl dX7_chip_52 (fun w_9 ew_9 => ?_)
      have hw := hw.2 w_9 ew_9
      refine at_iload_n C dX7_chip_53 rfl rfl ?_
      exact at_iret C rfl hw dX7_chip_54
    · have hw := hw.2 c_5
      refine at_ldc C q800 dX7_chip_26 ?_
      exact at_iret C rfl hw dX7_chip_28
  · have hw := hw.2 c_3
    refine at_ldc C q928 dX7_chip_13 ?_
    exact at_iret C rfl hw dX7_chip_15
set_option maxHeartbeats 4000000 in
theorem metX7_replace   (l : Launch) (D : va_G) (dA : Nat → ClassId) (ad : Nat → Nat)    {x1 : Int32} {w : GW} {Q : Int32 → GW → Prop} (hw : PX7_replace x1 w Q) : Met l yX7_replace (ws_ yX7_replace cX7_replace 3 (some .int)) (gR 3) (va_Pc [.ref (ad 0), .int x1] (gB D dA 20 ad layM w)) (va_Qi Q (gZ D dA 20 ad layM) (gA 20 ad)) 0 0 (gA 20 ad) := by
  refine gm_of (L := [(0, .ref (ad 0)), (1, .int x1)]) (own := RX7) (by decide +kernel) rfl (Nat.le_of_ble_eq_true rfl) rfl rfl (fun p e s m below meth c C => ?_)
  unfold PX7_replace at hw
  refine at_aload_n C dX7_replace_0 rfl rfl ?_
  refine at_iconst C dX7_replace_1 ic_0 ?_
  refine at_puti (j := 0) C (Nat.le_of_ble_eq_true rfl) rfl rfl in_X7 (Nat.le_of_ble_eq_true rfl) rfl q687 tyX7 tyX7_ok nmX7 rfl rfl rfl dX7_replace_2 (fun w_1 ew_1 => ?_)
  have hw := hw w_1 ew_1
  refine at_aload_n C dX7_replace_5 rfl rfl ?_
  refine at_iload_n C dX7_replace_6 rfl rfl ?_
  refine at_callp (run_V (rest := []) (As := [.int x1]) C (metX7_isSkittle l D dA ad  hw) (lw_V q924 q926 qs46 q65 q927) dsX7_isSkittle (gR_ok (Nat.le_of_ble_eq_true rfl) (Nat.le_of_ble_eq_true rfl)) ⟨rfl, rfl⟩ ⟨Nat.le_refl 0, Nat.le_refl 0⟩ (Nat.le_of_ble_eq_true rfl) rfl rfl rfl rfl (Nat.le_of_ble_eq_true rfl) dX7_replace_7) (fun r_2  hw => ?_)
  refine at_if_ne (tgt := 16) C dX7_replace_10 (by decide) (fun c_3 => ?_) (fun c_3 => ?_)
  · have hw := hw.1 c_3
    refine at_aload_n C dX7_replace_16 rfl rfl ?_
    refine at_getr (j := 14) (r := 4) C (Nat.le_of_ble_eq_true rfl) rfl rfl in_X7 (Nat.le_of_ble_eq_true rfl) rfl q701 dX7_replace_17 ?_
    refine at_bipush C dX7_replace_20 bp_27 ?_
    refine at_iload_n C dX7_replace_22 rfl rfl ?_
    refine at_iadd C dX7_replace_23 ?_
    refine at_iald C (Nat.le_of_ble_eq_true rfl) rfl hw.1 rfl dX7_replace_24 ?_
    have hw := hw.2
    refine at_topi (fun v2_4 e2_4 => ?_)
    have hw := hw v2_4 e2_4
    refine at_istore_n (L' := [(0, .ref (ad 0)), (1, .int x1), (2, .int v2_4)]) C dX7_replace_25 rfl (Nat.le_of_ble_eq_true rfl) rfl ?_
    refine at_iload_n C dX7_replace_26 rfl rfl ?_
    refine at_iconst C dX7_replace_27 ic_3 ?_
    refine at_icmp_ne (tgt := 34) C dX7_replace_28 (by decide) (fun c_5 => ?_) (fun c_5 => ?_)
    · have hw := hw.1 c_5
      refine at_aload_n C dX7_replace_34 rfl rfl ?_
      refine at_callv (run_V (rest := []) (As := []) C (metX7_notes l D dA ad  hw) (lw_V q953 q955 qs50 q65 q956) dsX7_notes (gR_ok (Nat.le_of_ble_eq_true rfl) (Nat.le_of_ble_eq_true rfl)) ⟨rfl, rfl⟩ ⟨Nat.le_refl 0, Nat.le_refl 0⟩ (Nat.le_of_ble_eq_true rfl) rfl rfl rfl rfl (Nat.le_of_ble_eq_true rfl) dX7_replace_35) (fun  w_7 hw => ?_)
      refine at_aload_n C dX7_replace_38 rfl rfl ?_
      refine at_getr (j := 14) (r := 4) C (Nat.le_of_ble_eq_true rfl) rfl rfl in_X7 (Nat.le_of_ble_eq_true rfl) rfl q701 dX7_replace_39 ?_
      refine at_bipush C dX7_replace_42 bp_27 ?_
      refine at_iload_n C dX7_replace_44 rfl rfl ?_
      refine at_iadd C dX7_replace_45 ?_
      refine at_iconst C dX7_replace_46 ic_3 ?_
      refine at_iast C (Nat.le_of_ble_eq_true rfl) rfl hw.1 rfl dX7_replace_47 (fun w_8 ew_8 => ?_)
      have hw := hw.2 w_8 ew_8
      refine at_iload_n C dX7_replace_48 rfl rfl ?_
      exact at_iret C rfl hw dX7_replace_49
    · have hw := hw.2 c_5
      refine at_ldc C q952 dX7_replace_31 ?_
      exact at_iret C rfl hw dX7_replace_33
  · have hw := hw.2 c_3
    refine at_ldc C q928 dX7_replace_13 ?_
    exact at_iret C rfl hw dX7_replace_15
set_option maxHeartbeats 4000000 in
theorem metX7_draw   (l : Launch) (D : va_G) (dA : Nat → ClassId) (ad : Nat → Nat)    {x1 : Int32} {w : GW} {Q : Int32 → GW → Prop} (hw : PX7_draw x1 w Q) : Met l yX7_draw (ws_ yX7_draw cX7_draw 4 (some .int)) (gR 1) (va_Pc [.ref (ad 0), .int x1] (gB D dA 20 ad layM w)) (va_Qi Q (gZ D dA 20 ad layM) (gA 20 ad)) 0 0 (gA 20 ad) := by
  refine gm_of (L := [(0, .ref (ad 0)), (1, .int x1)]) (own := RX7) (by decide +kernel) rfl (Nat.le_of_ble_eq_true rfl) rfl rfl (fun p e s m below meth c C => ?_)
  unfold PX7_draw at hw
  refine at_aload_n C dX7_draw_0 rfl rfl ?_
  refine at_getr (j := 14) (r := 4) C (Nat.le_of_ble_eq_true rfl) rfl rfl in_X7 (Nat.le_of_ble_eq_true rfl) rfl q701 dX7_draw_1 ?_
  refine at_bipush C dX7_draw_4 bp_48 ?_
  refine at_iald C (Nat.le_of_ble_eq_true rfl) rfl vk_48_49 tk_48 dX7_draw_6 ?_
  refine at_i2l C dX7_draw_7 ?_
  refine at_topl (fun v2_1 e2_1 => ?_)
  have hw := hw v2_1 e2_1
  refine at_lstore_n (L' := [(0, .ref (ad 0)), (1, .int x1), (2, .long v2_1)]) C dX7_draw_8 rfl (Nat.le_of_ble_eq_true rfl) rfl ?_
  refine at_lload_n C dX7_draw_9 rfl rfl ?_
  refine at_ldc2 C q993 dX7_draw_10 ?_
  refine at_lmul C dX7_draw_13 ?_
  refine at_ldc2 C q994 dX7_draw_14 ?_
  refine at_ladd C dX7_draw_17 ?_
  refine at_ldc2 C q995 dX7_draw_18 ?_
  refine at_lrem C dX7_draw_21 (by decide) ?_
  refine at_topl (fun v2_2 e2_2 => ?_)
  have hw := hw v2_2 e2_2
  refine at_lstore_n (L' := [(0, .ref (ad 0)), (1, .int x1), (2, .long v2_2)]) C dX7_draw_22 rfl (Nat.le_of_ble_eq_true rfl) rfl ?_
  refine at_aload_n C dX7_draw_23 rfl rfl ?_
  refine at_getr (j := 14) (r := 4) C (Nat.le_of_ble_eq_true rfl) rfl rfl in_X7 (Nat.le_of_ble_eq_true rfl) rfl q701 dX7_draw_24 ?_
  refine at_bipush C dX7_draw_27 bp_48 ?_
  refine at_lload_n C dX7_draw_29 rfl rfl ?_
  refine at_l2i C dX7_draw_30 ?_
  refine at_iast C (Nat.le_of_ble_eq_true rfl) rfl vk_48_49 tk_48 dX7_draw_31 (fun w_3 ew_3 => ?_)
  have hw := hw w_3 ew_3
  refine at_aload_n C dX7_draw_32 rfl rfl ?_
  refine at_getr (j := 14) (r := 4) C (Nat.le_of_ble_eq_true rfl) rfl rfl in_X7 (Nat.le_of_ble_eq_true rfl) rfl q701 dX7_draw_33 ?_
  refine at_bipush C dX7_draw_36 bp_48 ?_
  refine at_iald C (Nat.le_of_ble_eq_true rfl) rfl vk_48_49 tk_48 dX7_draw_38 ?_
  refine at_ldc C q996 dX7_draw_39 ?_
  refine at_idiv C dX7_draw_41 nz_65536 ?_
  refine at_iload_n C dX7_draw_42 rfl rfl ?_
  refine at_irem C dX7_draw_43 hw.1 ?_
  have hw := hw.2
  exact at_iret C rfl hw dX7_draw_44
set_option maxHeartbeats 4000000 in
theorem tX7_drift_34     {Q : Int32 → GW → Prop} (C : Cx p s m args meth c D dA cX7_drift 7 (some .int) RX7)    {x1 : Int32}   : ∀ (n : Nat) (x2 : Int32) (w : GW), PX7_drift_34 Q x1 n x2 w → gAtM p l e s m args below meth c D dA ad 6 (va_Qi Q (gZ D dA 20 ad layM) (gA 20 ad)) 7 34 [(0, .ref (ad 0)), (1, .int x1), (2, .int x2)] [] w := by
  intro n
  induction n with
  | zero => intro x2 w hw; exact False.elim hw
  | succ n ih =>
    intro x2 w hw
    unfold PX7_drift_34 at hw
    refine at_iload_n C dX7_drift_34 rfl rfl ?_
    refine at_iload_n C dX7_drift_35 rfl rfl ?_
    refine at_icmp_ge (tgt := 148) C dX7_drift_36 (by decide) (fun c_1 => ?_) (fun c_1 => ?_)
    · have hw := hw.1 c_1
      refine at_aload_n C dX7_drift_148 rfl rfl ?_
      refine at_getr (j := 14) (r := 4) C (Nat.le_of_ble_eq_true rfl) rfl rfl in_X7 (Nat.le_of_ble_eq_true rfl) rfl q701 dX7_drift_149 ?_
      refine at_bipush C dX7_drift_152 bp_45 ?_
      refine at_iald C (Nat.le_of_ble_eq_true rfl) rfl vk_45_49 tk_45 dX7_drift_154 ?_
      exact at_iret C rfl hw dX7_drift_155
    · have hw := hw.2 c_1
      refine at_aload_n C dX7_drift_39 rfl rfl ?_
      refine at_iconst C dX7_drift_40 ic_4 ?_
      refine at_calli (run_V (rest := []) (As := [.int 4]) C (metX7_draw l D dA ad  hw) (lw_V q989 q991 qs53 q65 q992) dsX7_draw (gR_ok (Nat.le_of_ble_eq_true rfl) (Nat.le_of_ble_eq_true rfl)) ⟨rfl, rfl⟩ ⟨Nat.le_refl 0, Nat.le_refl 0⟩ (Nat.le_of_ble_eq_true rfl) rfl rfl rfl rfl (Nat.le_of_ble_eq_true rfl) dX7_drift_41) (fun r_2 w_3 hw => ?_)
      refine at_istore_n (L' := [(0, .ref (ad 0)), (1, .int x1), (2, .int x2), (3, .int r_2)]) C dX7_drift_44 rfl (Nat.le_of_ble_eq_true rfl) rfl ?_
      refine at_iload_n C dX7_drift_45 rfl rfl ?_
      refine at_iconst C dX7_drift_46 ic_2 ?_
      refine at_icmp_ge (tgt := 88) C dX7_drift_47 (by decide) (fun c_4 => ?_) (fun c_4 => ?_)
      · have hw := hw.1 c_4
        refine at_iload_n C dX7_drift_88 rfl rfl ?_
        refine at_iconst C dX7_drift_89 ic_2 ?_
        refine at_icmp_ne (tgt := 111) C dX7_drift_90 (by decide) (fun c_5 => ?_) (fun c_5 => ?_)
        · have hw := hw.1 c_5
          refine at_aload_n C dX7_drift_111 rfl rfl ?_
          refine at_bipush C dX7_drift_112 bp_9 ?_
          refine at_calli (run_V (rest := []) (As := [.int 9]) C (metX7_draw l D dA ad  hw) (lw_V q989 q991 qs53 q65 q992) dsX7_draw (gR_ok (Nat.le_of_ble_eq_true rfl) (Nat.le_of_ble_eq_true rfl)) ⟨rfl, rfl⟩ ⟨Nat.le_refl 0, Nat.le_refl 0⟩ (Nat.le_of_ble_eq_true rfl) rfl rfl rfl rfl (Nat.le_of_ble_eq_true rfl) dX7_drift_114) (fun r_6 w_7 hw => ?_)
          refine at_istore (L' := [(0, .ref (ad 0)), (1, .int x1), (2, .int x2), (3, .int r_2), (4, .int r_6)]) C dX7_drift_117 (Nat.le_of_ble_eq_true rfl) rfl ?_
          refine at_aload_n C dX7_drift_119 rfl rfl ?_
          refine at_bipush C dX7_drift_120 bp_9 ?_
          refine at_calli (run_V (rest := []) (As := [.int 9]) C (metX7_draw l D dA ad  hw) (lw_V q989 q991 qs53 q65 q992) dsX7_draw (gR_ok (Nat.le_of_ble_eq_true rfl) (Nat.le_of_ble_eq_true rfl)) ⟨rfl, rfl⟩ ⟨Nat.le_refl 0, Nat.le_refl 0⟩ (Nat.le_of_ble_eq_true rfl) rfl rfl rfl rfl (Nat.le_of_ble_eq_true rfl) dX7_drift_122) (fun r_8 w_9 hw => ?_)
          refine at_istore (L' := [(0, .ref (ad 0)), (1, .int x1), (2, .int x2), (3, .int r_2), (4, .int r_6), (5, .int r_8)]) C dX7_drift_125 (Nat.le_of_ble_eq_true rfl) rfl ?_
          refine at_iload C dX7_drift_127 rfl ?_
          refine at_iload C dX7_drift_129 rfl ?_
          refine at_icmp_eq (tgt := 142) C dX7_drift_131 (by decide) (fun c_10 => ?_) (fun c_10 => ?_)
          · have hw := hw.1 c_10
            refine at_iinc (F := fun z_ => [(0, .ref (ad 0)), (1, .int x1), (2, .int z_), (3, .int r_2), (4, .int r_6), (5, .int r_8)]) C dX7_drift_142 rfl ic_1 (Nat.le_of_ble_eq_true rfl) (fun _ => rfl) (fun v2_11 e2_11 => ?_)
            have hw := hw v2_11 e2_11
            refine at_goto (tgt := 34) C dX7_drift_145 (by decide) ?_
            exact at_sub (lv_pickm [0, 1, 2] rfl) (ih _ _ hw)
          · have hw := hw.2 c_10
            refine at_aload_n C dX7_drift_134 rfl rfl ?_
            refine at_iload C dX7_drift_135 rfl ?_
            refine at_iload C dX7_drift_137 rfl ?_
            refine at_callv (run_V (rest := []) (As := [.int r_6, .int r_8]) C (metX7_changes l D dA ad  hw) (lw_V q973 q975 qs52 q65 q976) dsX7_changes (gR_ok (Nat.le_of_ble_eq_true rfl) (Nat.le_of_ble_eq_true rfl)) ⟨rfl, rfl⟩ ⟨Nat.le_refl 0, Nat.le_refl 0⟩ (Nat.le_of_ble_eq_true rfl) rfl rfl rfl rfl (Nat.le_of_ble_eq_true rfl) dX7_drift_139) (fun  w_13 hw => ?_)
            refine at_iinc (F := fun z_ => [(0, .ref (ad 0)), (1, .int x1), (2, .int z_), (3, .int r_2), (4, .int r_6), (5, .int r_8)]) C dX7_drift_142 rfl ic_1 (Nat.le_of_ble_eq_true rfl) (fun _ => rfl) (fun v2_14 e2_14 => ?_)
            have hw := hw v2_14 e2_14
            refine at_goto (tgt := 34) C dX7_drift_145 (by decide) ?_
            exact at_sub (lv_pickm [0, 1, 2] rfl) (ih _ _ hw)
        · have hw := hw.2 c_5
          refine at_aload_n C dX7_drift_93 rfl rfl ?_
          refine at_getr (j := 14) (r := 4) C (Nat.le_of_ble_eq_true rfl) rfl rfl in_X7 (Nat.le_of_ble_eq_true rfl) rfl q701 dX7_drift_94 ?_
          refine at_bipush C dX7_drift_97 bp_45 ?_
          refine at_iconst C dX7_drift_99 ic_1 ?_
          refine at_aload_n C dX7_drift_100 rfl rfl ?_
          refine at_geti (j := 9) C (Nat.le_of_ble_eq_true rfl) rfl rfl in_X7 (Nat.le_of_ble_eq_true rfl) rfl q696 dX7_drift_101 ?_
          refine at_ishl C dX7_drift_104 ?_
          refine at_iconst C dX7_drift_105 ic_1 ?_
          refine at_isub C dX7_drift_106 ?_
          refine at_iast C (Nat.le_of_ble_eq_true rfl) rfl vk_45_49 tk_45 dX7_drift_107 (fun w_15 ew_15 => ?_)
          have hw := hw w_15 ew_15
          refine at_goto (tgt := 142) C dX7_drift_108 (by decide) ?_
          refine at_iinc (F := fun z_ => [(0, .ref (ad 0)), (1, .int x1), (2, .int z_), (3, .int r_2)]) C dX7_drift_142 rfl ic_1 (Nat.le_of_ble_eq_true rfl) (fun _ => rfl) (fun v2_16 e2_16 => ?_)
          have hw := hw v2_16 e2_16
          refine at_goto (tgt := 34) C dX7_drift_145 (by decide) ?_
          exact at_sub (lv_pickm [0, 1, 2] rfl) (ih _ _ hw)
      · have hw := hw.2 c_4
        refine at_aload_n C dX7_drift_50 rfl rfl ?_
        refine at_iconst C dX7_drift_51 ic_5 ?_
        refine at_calli (run_V (rest := []) (As := [.int 5]) C (metX7_draw l D dA ad  hw) (lw_V q989 q991 qs53 q65 q992) dsX7_draw (gR_ok (Nat.le_of_ble_eq_true rfl) (Nat.le_of_ble_eq_true rfl)) ⟨rfl, rfl⟩ ⟨Nat.le_refl 0, Nat.le_refl 0⟩ (Nat.le_of_ble_eq_true rfl) rfl rfl rfl rfl (Nat.le_of_ble_eq_true rfl) dX7_drift_52) (fun r_17 w_18 hw => ?_)
        refine at_istore (L' := [(0, .ref (ad 0)), (1, .int x1), (2, .int x2), (3, .int r_2), (4, .int r_17)]) C dX7_drift_55 (Nat.le_of_ble_eq_true rfl) rfl ?_
        refine at_aload_n C dX7_drift_57 rfl rfl ?_
        refine at_iconst C dX7_drift_58 ic_3 ?_
        refine at_calli (run_V (rest := []) (As := [.int 3]) C (metX7_draw l D dA ad  hw) (lw_V q989 q991 qs53 q65 q992) dsX7_draw (gR_ok (Nat.le_of_ble_eq_true rfl) (Nat.le_of_ble_eq_true rfl)) ⟨rfl, rfl⟩ ⟨Nat.le_refl 0, Nat.le_refl 0⟩ (Nat.le_of_ble_eq_true rfl) rfl rfl rfl rfl (Nat.le_of_ble_eq_true rfl) dX7_drift_59) (fun r_19 w_20 hw => ?_)
        refine at_istore (L' := [(0, .ref (ad 0)), (1, .int x1), (2, .int x2), (3, .int r_2), (4, .int r_17), (5, .int r_19)]) C dX7_drift_62 (Nat.le_of_ble_eq_true rfl) rfl ?_
        refine at_iconst C dX7_drift_64 ic_1 ?_
        refine at_aload_n C dX7_drift_65 rfl rfl ?_
        refine at_bipush C dX7_drift_66 bp_40 ?_
        refine at_calli (run_V (rest := [.int 1]) (As := [.int 40]) C (metX7_draw l D dA ad  hw) (lw_V q989 q991 qs53 q65 q992) dsX7_draw (gR_ok (Nat.le_of_ble_eq_true rfl) (Nat.le_of_ble_eq_true rfl)) ⟨rfl, rfl⟩ ⟨Nat.le_refl 0, Nat.le_refl 0⟩ (Nat.le_of_ble_eq_true rfl) rfl rfl rfl rfl (Nat.le_of_ble_eq_true rfl) dX7_drift_68) (fun r_21 w_22 hw => ?_)
        refine at_iadd C dX7_drift_71 ?_
        refine at_topi (fun v6_23 e6_23 => ?_)
        have hw := hw v6_23 e6_23
        refine at_istore (L' := [(0, .ref (ad 0)), (1, .int x1), (2, .int x2), (3, .int r_2), (4, .int r_17), (5, .int r_19), (6, .int v6_23)]) C dX7_drift_72 (Nat.le_of_ble_eq_true rfl) rfl ?_
        refine at_aload_n C dX7_drift_74 rfl rfl ?_
        refine at_iload C dX7_drift_75 rfl ?_
        refine at_iload C dX7_drift_77 rfl ?_
        refine at_iload C dX7_drift_79 rfl ?_
        refine at_calli (run_V (rest := []) (As := [.int r_17, .int r_19, .int v6_23]) C (metX7_throwsBall l D dA ad  hw) (lw_V q957 q959 qs51 q65 q960) dsX7_throwsBall (gR_ok (Nat.le_of_ble_eq_true rfl) (Nat.le_of_ble_eq_true rfl)) ⟨rfl, rfl⟩ ⟨Nat.le_refl 0, Nat.le_refl 0⟩ (Nat.le_of_ble_eq_true rfl) rfl rfl rfl rfl (Nat.le_of_ble_eq_true rfl) dX7_drift_81) (fun r_24 w_25 hw => ?_)
        refine at_pop C dX7_drift_84 rfl ?_
        refine at_goto (tgt := 142) C dX7_drift_85 (by decide) ?_
        refine at_iinc (F := fun z_ => [(0, .ref (ad 0)), (1, .int x1), (2, .int z_), (3, .int r_2), (4, .int r_17), (5, .int r_19), (6, .int v6_23)]) C dX7_drift_142 rfl ic_1 (Nat.le_of_ble_eq_true rfl) (fun _ => rfl) (fun v2_26 e2_26 => ?_)
        have hw := hw v2_26 e2_26
        refine at_goto (tgt := 34) C dX7_drift_145 (by decide) ?_
        exact at_sub (lv_pickm [0, 1, 2] rfl) (ih _ _ hw)
set_option maxHeartbeats 4000000 in
theorem metX7_drift   (l : Launch) (D : va_G) (dA : Nat → ClassId) (ad : Nat → Nat)    {x1 : Int32} {w : GW} {Q : Int32 → GW → Prop} (hw : PX7_drift x1 w Q) : Met l yX7_drift (ws_ yX7_drift cX7_drift 7 (some .int)) (gR 6) (va_Pc [.ref (ad 0), .int x1] (gB D dA 20 ad layM w)) (va_Qi Q (gZ D dA 20 ad layM) (gA 20 ad)) 0 0 (gA 20 ad) := by
  refine gm_of (L := [(0, .ref (ad 0)), (1, .int x1)]) (own := RX7) (by decide +kernel) rfl (Nat.le_of_ble_eq_true rfl) rfl rfl (fun p e s m below meth c C => ?_)
  unfold PX7_drift at hw
  refine at_aload_n C dX7_drift_0 rfl rfl ?_
  refine at_iconst C dX7_drift_1 ic_0 ?_
  refine at_puti (j := 0) C (Nat.le_of_ble_eq_true rfl) rfl rfl in_X7 (Nat.le_of_ble_eq_true rfl) rfl q687 tyX7 tyX7_ok nmX7 rfl rfl rfl dX7_drift_2 (fun w_27 ew_27 => ?_)
  have hw := hw w_27 ew_27
  refine at_iload_n C dX7_drift_5 rfl rfl ?_
  refine at_iconst C dX7_drift_6 ic_1 ?_
  refine at_bipush C dX7_drift_7 bp_30 ?_
  refine at_callp (run_S (rest := []) (As := [.int x1, .int 1, .int 30]) C (metX7_in l D dA ad  hw) (lw_S q797 q798 q65 q799) dsX7_in (gR_ok (Nat.le_of_ble_eq_true rfl) (Nat.le_of_ble_eq_true rfl)) ⟨rfl, rfl⟩ ⟨Nat.le_refl 0, Nat.le_refl 0⟩ rfl rfl (Nat.le_of_ble_eq_true rfl) dX7_drift_9) (fun r_28  hw => ?_)
  refine at_if_ne (tgt := 18) C dX7_drift_12 (by decide) (fun c_29 => ?_) (fun c_29 => ?_)
  · have hw := hw.1 c_29
    refine at_aload_n C dX7_drift_18 rfl rfl ?_
    refine at_geti (j := 7) C (Nat.le_of_ble_eq_true rfl) rfl rfl in_X7 (Nat.le_of_ble_eq_true rfl) rfl q694 dX7_drift_19 ?_
    refine at_if_ne (tgt := 28) C dX7_drift_22 (by decide) (fun c_30 => ?_) (fun c_30 => ?_)
    · have hw := hw.1 c_30
      refine at_aload_n C dX7_drift_28 rfl rfl ?_
      refine at_callv (run_V (rest := []) (As := []) C (metX7_notes l D dA ad  hw) (lw_V q953 q955 qs50 q65 q956) dsX7_notes (gR_ok (Nat.le_of_ble_eq_true rfl) (Nat.le_of_ble_eq_true rfl)) ⟨rfl, rfl⟩ ⟨Nat.le_refl 0, Nat.le_refl 0⟩ (Nat.le_of_ble_eq_true rfl) rfl rfl rfl rfl (Nat.le_of_ble_eq_true rfl) dX7_drift_29) (fun  w_32 hw => ?_)
      refine at_iconst C dX7_drift_32 ic_0 ?_
      refine at_istore_n (L' := [(0, .ref (ad 0)), (1, .int x1), (2, .int 0)]) C dX7_drift_33 rfl (Nat.le_of_ble_eq_true rfl) rfl ?_
      obtain ⟨n_33, hw⟩ := hw
      exact (tX7_drift_34 C  _ _ _ hw)
    · have hw := hw.2 c_30
      refine at_ldc C q952 dX7_drift_25 ?_
      exact at_iret C rfl hw dX7_drift_27
  · have hw := hw.2 c_29
    refine at_ldc C q800 dX7_drift_15 ?_
    exact at_iret C rfl hw dX7_drift_17
set_option maxHeartbeats 4000000 in
theorem tX7_undo_27     {Q : Int32 → GW → Prop} (C : Cx p s m args meth c D dA cX7_undo 2 (some .int) RX7)       : ∀ (n : Nat) (x1 : Int32) (w : GW), PX7_undo_27 Q n x1 w → gAtM p l e s m args below meth c D dA ad 1 (va_Qi Q (gZ D dA 20 ad layM) (gA 20 ad)) 2 27 [(0, .ref (ad 0)), (1, .int x1)] [] w := by
  intro n
  induction n with
  | zero => intro x1 w hw; exact False.elim hw
  | succ n ih =>
    intro x1 w hw
    unfold PX7_undo_27 at hw
    refine at_iload_n C dX7_undo_27 rfl rfl ?_
    refine at_bipush C dX7_undo_28 bp_48 ?_
    refine at_icmp_ge (tgt := 59) C dX7_undo_30 (by decide) (fun c_1 => ?_) (fun c_1 => ?_)
    · have hw := hw.1 c_1
      refine at_aload_n C dX7_undo_59 rfl rfl ?_
      refine at_geti (j := 18) C (Nat.le_of_ble_eq_true rfl) rfl rfl in_X7 (Nat.le_of_ble_eq_true rfl) rfl q705 dX7_undo_60 ?_
      exact at_iret C rfl hw dX7_undo_63
    · have hw := hw.2 c_1
      refine at_aload_n C dX7_undo_33 rfl rfl ?_
      refine at_getr (j := 14) (r := 4) C (Nat.le_of_ble_eq_true rfl) rfl rfl in_X7 (Nat.le_of_ble_eq_true rfl) rfl q701 dX7_undo_34 ?_
      refine at_iload_n C dX7_undo_37 rfl rfl ?_
      refine at_aload_n C dX7_undo_38 rfl rfl ?_
      refine at_getr (j := 17) (r := 7) C (Nat.le_of_ble_eq_true rfl) rfl rfl in_X7 (Nat.le_of_ble_eq_true rfl) rfl q704 dX7_undo_39 ?_
      refine at_bipush C dX7_undo_42 bp_49 ?_
      refine at_aload_n C dX7_undo_44 rfl rfl ?_
      refine at_geti (j := 18) C (Nat.le_of_ble_eq_true rfl) rfl rfl in_X7 (Nat.le_of_ble_eq_true rfl) rfl q705 dX7_undo_45 ?_
      refine at_imul C dX7_undo_48 ?_
      refine at_iload_n C dX7_undo_49 rfl rfl ?_
      refine at_iadd C dX7_undo_50 ?_
      refine at_iald C (Nat.le_of_ble_eq_true rfl) rfl hw.1 rfl dX7_undo_51 ?_
      have hw := hw.2
      refine at_iast C (Nat.le_of_ble_eq_true rfl) rfl hw.1 rfl dX7_undo_52 (fun w_2 ew_2 => ?_)
      have hw := hw.2 w_2 ew_2
      refine at_iinc (F := fun z_ => [(0, .ref (ad 0)), (1, .int z_)]) C dX7_undo_53 rfl ic_1 (Nat.le_of_ble_eq_true rfl) (fun _ => rfl) (fun v1_3 e1_3 => ?_)
      have hw := hw v1_3 e1_3
      refine at_goto (tgt := 27) C dX7_undo_56 (by decide) ?_
      exact ih _ _ hw
set_option maxHeartbeats 4000000 in
theorem metX7_undo   (l : Launch) (D : va_G) (dA : Nat → ClassId) (ad : Nat → Nat)     {w : GW} {Q : Int32 → GW → Prop} (hw : PX7_undo w Q) : Met l yX7_undo (ws_ yX7_undo cX7_undo 2 (some .int)) (gR 1) (va_Pc [.ref (ad 0)] (gB D dA 20 ad layM w)) (va_Qi Q (gZ D dA 20 ad layM) (gA 20 ad)) 0 0 (gA 20 ad) := by
  refine gm_of (L := [(0, .ref (ad 0))]) (own := RX7) (by decide +kernel) rfl (Nat.le_of_ble_eq_true rfl) rfl rfl (fun p e s m below meth c C => ?_)
  unfold PX7_undo at hw
  refine at_aload_n C dX7_undo_0 rfl rfl ?_
  refine at_iconst C dX7_undo_1 ic_0 ?_
  refine at_puti (j := 0) C (Nat.le_of_ble_eq_true rfl) rfl rfl in_X7 (Nat.le_of_ble_eq_true rfl) rfl q687 tyX7 tyX7_ok nmX7 rfl rfl rfl dX7_undo_2 (fun w_4 ew_4 => ?_)
  have hw := hw w_4 ew_4
  refine at_aload_n C dX7_undo_5 rfl rfl ?_
  refine at_geti (j := 18) C (Nat.le_of_ble_eq_true rfl) rfl rfl in_X7 (Nat.le_of_ble_eq_true rfl) rfl q705 dX7_undo_6 ?_
  refine at_if_ne (tgt := 15) C dX7_undo_9 (by decide) (fun c_5 => ?_) (fun c_5 => ?_)
  · have hw := hw.1 c_5
    refine at_aload_n C dX7_undo_15 rfl rfl ?_
    refine at_dup C dX7_undo_16 rfl ?_
    refine at_geti (j := 18) C (Nat.le_of_ble_eq_true rfl) rfl rfl in_X7 (Nat.le_of_ble_eq_true rfl) rfl q705 dX7_undo_17 ?_
    refine at_iconst C dX7_undo_20 ic_1 ?_
    refine at_isub C dX7_undo_21 ?_
    refine at_puti (j := 18) C (Nat.le_of_ble_eq_true rfl) rfl rfl in_X7 (Nat.le_of_ble_eq_true rfl) rfl q705 tyX7 tyX7_ok nmX7 rfl rfl rfl dX7_undo_22 (fun w_6 ew_6 => ?_)
    have hw := hw w_6 ew_6
    refine at_iconst C dX7_undo_25 ic_0 ?_
    refine at_istore_n (L' := [(0, .ref (ad 0)), (1, .int 0)]) C dX7_undo_26 rfl (Nat.le_of_ble_eq_true rfl) rfl ?_
    obtain ⟨n_7, hw⟩ := hw
    exact (tX7_undo_27 C  _ _ _ hw)
  · have hw := hw.2 c_5
    refine at_ldc C q952 dX7_undo_12 ?_
    exact at_iret C rfl hw dX7_undo_14
set_option maxHeartbeats 4000000 in
theorem metX7_wouldFall   (l : Launch) (D : va_G) (dA : Nat → ClassId) (ad : Nat → Nat)    {x1 : Int32} {x2 : Int32} {x3 : Int32} {x4 : Int32} {w : GW} {Q : Int32 → GW → Prop} (hw : PX7_wouldFall x1 x2 x3 x4 w Q) : Met l yX7_wouldFall (ws_ yX7_wouldFall cX7_wouldFall 6 (some .int)) (gR 5) (va_Pc [.ref (ad 0), .int x1, .int x2, .int x3, .int x4] (gB D dA 20 ad layM w)) (va_Qi Q (gZ D dA 20 ad layM) (gA 20 ad)) 0 0 (gA 20 ad) := by
  refine gm_of (L := [(0, .ref (ad 0)), (1, .int x1), (2, .int x2), (3, .int x3), (4, .int x4)]) (own := RX7) (by decide +kernel) rfl (Nat.le_of_ble_eq_true rfl) rfl rfl (fun p e s m below meth c C => ?_)
  unfold PX7_wouldFall at hw
  refine at_aload_n C dX7_wouldFall_0 rfl rfl ?_
  refine at_iconst C dX7_wouldFall_1 ic_0 ?_
  refine at_puti (j := 0) C (Nat.le_of_ble_eq_true rfl) rfl rfl in_X7 (Nat.le_of_ble_eq_true rfl) rfl q687 tyX7 tyX7_ok nmX7 rfl rfl rfl dX7_wouldFall_2 (fun w_1 ew_1 => ?_)
  have hw := hw w_1 ew_1
  refine at_aload_n C dX7_wouldFall_5 rfl rfl ?_
  refine at_iload_n C dX7_wouldFall_6 rfl rfl ?_
  refine at_iload_n C dX7_wouldFall_7 rfl rfl ?_
  refine at_iload_n C dX7_wouldFall_8 rfl rfl ?_
  refine at_callp (run_V (rest := []) (As := [.int x1, .int x2, .int x3]) C (metX7_isBall l D dA ad  hw) (lw_V q948 q950 qs49 q65 q951) dsX7_isBall (gR_ok (Nat.le_of_ble_eq_true rfl) (Nat.le_of_ble_eq_true rfl)) ⟨rfl, rfl⟩ ⟨Nat.le_refl 0, Nat.le_refl 0⟩ (Nat.le_of_ble_eq_true rfl) rfl rfl rfl rfl (Nat.le_of_ble_eq_true rfl) dX7_wouldFall_9) (fun r_2  hw => ?_)
  refine at_if_eq (tgt := 25) C dX7_wouldFall_12 (by decide) (fun c_3 => ?_) (fun c_3 => ?_)
  · have hw := hw.1 c_3
    refine at_ldc C q800 dX7_wouldFall_25 ?_
    exact at_iret C rfl hw dX7_wouldFall_27
  · have hw := hw.2 c_3
    refine at_iload C dX7_wouldFall_15 rfl ?_
    refine at_iconst C dX7_wouldFall_17 ic_0 ?_
    refine at_iconst C dX7_wouldFall_18 ic_2 ?_
    refine at_callp (run_S (rest := []) (As := [.int x4, .int 0, .int 2]) C (metX7_in l D dA ad  hw) (lw_S q797 q798 q65 q799) dsX7_in (gR_ok (Nat.le_of_ble_eq_true rfl) (Nat.le_of_ble_eq_true rfl)) ⟨rfl, rfl⟩ ⟨Nat.le_refl 0, Nat.le_refl 0⟩ rfl rfl (Nat.le_of_ble_eq_true rfl) dX7_wouldFall_19) (fun r_4  hw => ?_)
    refine at_if_ne (tgt := 28) C dX7_wouldFall_22 (by decide) (fun c_5 => ?_) (fun c_5 => ?_)
    · have hw := hw.1 c_5
      refine at_aload_n C dX7_wouldFall_28 rfl rfl ?_
      refine at_geti (j := 7) C (Nat.le_of_ble_eq_true rfl) rfl rfl in_X7 (Nat.le_of_ble_eq_true rfl) rfl q694 dX7_wouldFall_29 ?_
      refine at_if_ne (tgt := 38) C dX7_wouldFall_32 (by decide) (fun c_6 => ?_) (fun c_6 => ?_)
      · have hw := hw.1 c_6
        refine at_aload_n C dX7_wouldFall_38 rfl rfl ?_
        refine at_iconst C dX7_wouldFall_39 ic_0 ?_
        refine at_iconst C dX7_wouldFall_40 ic_0 ?_
        refine at_callv (run_V (rest := []) (As := [.int 0, .int 0]) C (metX7_sets l D dA ad  hw) (lw_V q854 q856 qs34 q65 q857) dsX7_sets (gR_ok (Nat.le_of_ble_eq_true rfl) (Nat.le_of_ble_eq_true rfl)) ⟨rfl, rfl⟩ ⟨Nat.le_refl 0, Nat.le_refl 0⟩ (Nat.le_of_ble_eq_true rfl) rfl rfl rfl rfl (Nat.le_of_ble_eq_true rfl) dX7_wouldFall_41) (fun  w_8 hw => ?_)
        refine at_aload_n C dX7_wouldFall_44 rfl rfl ?_
        refine at_aload_n C dX7_wouldFall_45 rfl rfl ?_
        refine at_getr (j := 14) (r := 4) C (Nat.le_of_ble_eq_true rfl) rfl rfl in_X7 (Nat.le_of_ble_eq_true rfl) rfl q701 dX7_wouldFall_46 ?_
        refine at_bipush C dX7_wouldFall_49 bp_45 ?_
        refine at_iald C (Nat.le_of_ble_eq_true rfl) rfl vk_45_49 tk_45 dX7_wouldFall_51 ?_
        refine at_iload_n C dX7_wouldFall_52 rfl rfl ?_
        refine at_iload_n C dX7_wouldFall_53 rfl rfl ?_
        refine at_iload_n C dX7_wouldFall_54 rfl rfl ?_
        refine at_calli (run_V (rest := []) (As := [.int (w_8 4 45), .int x1, .int x2, .int x3]) C (metX7_goes l D dA ad  hw) (lw_V q869 q871 qs37 q65 q872) dsX7_goes (gR_ok (Nat.le_of_ble_eq_true rfl) (Nat.le_of_ble_eq_true rfl)) ⟨rfl, rfl⟩ ⟨Nat.le_refl 0, Nat.le_refl 0⟩ (Nat.le_of_ble_eq_true rfl) rfl rfl rfl rfl (Nat.le_of_ble_eq_true rfl) dX7_wouldFall_55) (fun r_9 w_10 hw => ?_)
        refine at_istore (L' := [(0, .ref (ad 0)), (1, .int x1), (2, .int x2), (3, .int x3), (4, .int x4), (5, .int r_9)]) C dX7_wouldFall_58 (Nat.le_of_ble_eq_true rfl) rfl ?_
        refine at_iload C dX7_wouldFall_60 rfl ?_
        refine at_if_ne (tgt := 70) C dX7_wouldFall_62 (by decide) (fun c_11 => ?_) (fun c_11 => ?_)
        · have hw := hw.1 c_11
          refine at_iload C dX7_wouldFall_70 rfl ?_
          refine at_iconst C dX7_wouldFall_72 ic_1 ?_
          refine at_icmp_ne (tgt := 83) C dX7_wouldFall_73 (by decide) (fun c_12 => ?_) (fun c_12 => ?_)
          · have hw := hw.1 c_12
            refine at_aload_n C dX7_wouldFall_83 rfl rfl ?_
            refine at_geti (j := 28) C (Nat.le_of_ble_eq_true rfl) rfl rfl in_X7 (Nat.le_of_ble_eq_true rfl) rfl q715 dX7_wouldFall_84 ?_
            exact at_iret C rfl hw dX7_wouldFall_87
          · have hw := hw.2 c_12
            refine at_aload_n C dX7_wouldFall_76 rfl rfl ?_
            refine at_geti (j := 27) C (Nat.le_of_ble_eq_true rfl) rfl rfl in_X7 (Nat.le_of_ble_eq_true rfl) rfl q714 dX7_wouldFall_77 ?_
            refine at_goto (tgt := 87) C dX7_wouldFall_80 (by decide) ?_
            exact at_iret C rfl hw dX7_wouldFall_87
        · have hw := hw.2 c_11
          refine at_iload C dX7_wouldFall_65 rfl ?_
          refine at_goto (tgt := 87) C dX7_wouldFall_67 (by decide) ?_
          exact at_iret C rfl hw dX7_wouldFall_87
      · have hw := hw.2 c_6
        refine at_ldc C q952 dX7_wouldFall_35 ?_
        exact at_iret C rfl hw dX7_wouldFall_37
    · have hw := hw.2 c_5
      refine at_ldc C q800 dX7_wouldFall_25 ?_
      exact at_iret C rfl hw dX7_wouldFall_27
set_option maxHeartbeats 4000000 in
theorem metX7_isSet   (l : Launch) (D : va_G) (dA : Nat → ClassId) (ad : Nat → Nat)    {x1 : Int32} {w : GW} {Q : Int32 → Prop} (hw : PX7_isSet x1 w Q) : Met l yX7_isSet (ws_ yX7_isSet cX7_isSet 2 (some .boolean)) (gR 2) (va_Pc [.ref (ad 0), .int x1] (gB D dA 20 ad layM w)) (va_Qi (gQ1 Q w) (gZ D dA 20 ad layM) (gA 20 ad)) 0 0 (gA 20 ad) := by
  refine gm_of (L := [(0, .ref (ad 0)), (1, .int x1)]) (own := RX7) (by decide +kernel) rfl (Nat.le_of_ble_eq_true rfl) rfl rfl (fun p e s m below meth c C => ?_)
  unfold PX7_isSet at hw
  refine at_iload_n C dX7_isSet_0 rfl rfl ?_
  refine at_iconst C dX7_isSet_1 ic_0 ?_
  refine at_iconst C dX7_isSet_2 ic_1 ?_
  refine at_aload_n C dX7_isSet_3 rfl rfl ?_
  refine at_geti (j := 9) C (Nat.le_of_ble_eq_true rfl) rfl rfl in_X7 (Nat.le_of_ble_eq_true rfl) rfl q696 dX7_isSet_4 ?_
  refine at_ishl C dX7_isSet_7 ?_
  refine at_iconst C dX7_isSet_8 ic_1 ?_
  refine at_isub C dX7_isSet_9 ?_
  refine at_callp (run_S (rest := []) (As := [.int x1, .int 0, .int ((1 <<< ((w 0 9) &&& 31)) - 1)]) C (metX7_in l D dA ad  hw) (lw_S q797 q798 q65 q799) dsX7_in (gR_ok (Nat.le_of_ble_eq_true rfl) (Nat.le_of_ble_eq_true rfl)) ⟨rfl, rfl⟩ ⟨Nat.le_refl 0, Nat.le_refl 0⟩ rfl rfl (Nat.le_of_ble_eq_true rfl) dX7_isSet_10) (fun r_1  hw => ?_)
  exact at_zret C rfl hw.1 ⟨hw.2, rfl⟩ dX7_isSet_13
set_option maxHeartbeats 4000000 in
theorem metX7_balls   (l : Launch) (D : va_G) (dA : Nat → ClassId) (ad : Nat → Nat)    {x1 : Int32} {x2 : Int32} {w : GW} {Q : Int32 → GW → Prop} (hw : PX7_balls x1 x2 w Q) : Met l yX7_balls (ws_ yX7_balls cX7_balls 3 (some .int)) (gR 7) (va_Pc [.ref (ad 0), .int x1, .int x2] (gB D dA 20 ad layM w)) (va_Qi Q (gZ D dA 20 ad layM) (gA 20 ad)) 0 0 (gA 20 ad) := by
  refine gm_of (L := [(0, .ref (ad 0)), (1, .int x1), (2, .int x2)]) (own := RX7) (by decide +kernel) rfl (Nat.le_of_ble_eq_true rfl) rfl rfl (fun p e s m below meth c C => ?_)
  unfold PX7_balls at hw
  refine at_aload_n C dX7_balls_0 rfl rfl ?_
  refine at_iconst C dX7_balls_1 ic_0 ?_
  refine at_puti (j := 0) C (Nat.le_of_ble_eq_true rfl) rfl rfl in_X7 (Nat.le_of_ble_eq_true rfl) rfl q687 tyX7 tyX7_ok nmX7 rfl rfl rfl dX7_balls_2 (fun w_1 ew_1 => ?_)
  have hw := hw w_1 ew_1
  refine at_aload_n C dX7_balls_5 rfl rfl ?_
  refine at_iload_n C dX7_balls_6 rfl rfl ?_
  refine at_callp (run_V (rest := []) (As := [.int x1]) C (metX7_isSet l D dA ad  hw) (lw_V q1009 q1011 qs54 q65 q1012) dsX7_isSet (gR_ok (Nat.le_of_ble_eq_true rfl) (Nat.le_of_ble_eq_true rfl)) ⟨rfl, rfl⟩ ⟨Nat.le_refl 0, Nat.le_refl 0⟩ (Nat.le_of_ble_eq_true rfl) rfl rfl rfl rfl (Nat.le_of_ble_eq_true rfl) dX7_balls_7) (fun r_2  hw => ?_)
  refine at_if_ne (tgt := 16) C dX7_balls_10 (by decide) (fun c_3 => ?_) (fun c_3 => ?_)
  · have hw := hw.1 c_3
    refine at_iload_n C dX7_balls_16 rfl rfl ?_
    refine at_iconst C dX7_balls_17 ic_0 ?_
    refine at_iconst C dX7_balls_18 ic_1 ?_
    refine at_callp (run_S (rest := []) (As := [.int x2, .int 0, .int 1]) C (metX7_in l D dA ad  hw) (lw_S q797 q798 q65 q799) dsX7_in (gR_ok (Nat.le_of_ble_eq_true rfl) (Nat.le_of_ble_eq_true rfl)) ⟨rfl, rfl⟩ ⟨Nat.le_refl 0, Nat.le_refl 0⟩ rfl rfl (Nat.le_of_ble_eq_true rfl) dX7_balls_19) (fun r_4  hw => ?_)
    refine at_if_ne (tgt := 28) C dX7_balls_22 (by decide) (fun c_5 => ?_) (fun c_5 => ?_)
    · have hw := hw.1 c_5
      refine at_aload_n C dX7_balls_28 rfl rfl ?_
      refine at_geti (j := 7) C (Nat.le_of_ble_eq_true rfl) rfl rfl in_X7 (Nat.le_of_ble_eq_true rfl) rfl q694 dX7_balls_29 ?_
      refine at_if_eq (tgt := 44) C dX7_balls_32 (by decide) (fun c_6 => ?_) (fun c_6 => ?_)
      · have hw := hw.1 c_6
        refine at_ldc C q952 dX7_balls_44 ?_
        exact at_iret C rfl hw dX7_balls_46
      · have hw := hw.2 c_6
        refine at_aload_n C dX7_balls_35 rfl rfl ?_
        refine at_iload_n C dX7_balls_36 rfl rfl ?_
        refine at_iload_n C dX7_balls_37 rfl rfl ?_
        refine at_calli (run_V (rest := []) (As := [.int x1, .int x2]) C (metX7_ballsFor l D dA ad  hw) (lw_V q912 q914 qs44 q65 q915) dsX7_ballsFor (gR_ok (Nat.le_of_ble_eq_true rfl) (Nat.le_of_ble_eq_true rfl)) ⟨rfl, rfl⟩ ⟨Nat.le_refl 0, Nat.le_refl 0⟩ (Nat.le_of_ble_eq_true rfl) rfl rfl rfl rfl (Nat.le_of_ble_eq_true rfl) dX7_balls_38) (fun r_7 w_8 hw => ?_)
        refine at_goto (tgt := 46) C dX7_balls_41 (by decide) ?_
        exact at_iret C rfl hw dX7_balls_46
    · have hw := hw.2 c_5
      refine at_ldc C q800 dX7_balls_25 ?_
      exact at_iret C rfl hw dX7_balls_27
  · have hw := hw.2 c_3
    refine at_ldc C q928 dX7_balls_13 ?_
    exact at_iret C rfl hw dX7_balls_15
set_option maxHeartbeats 4000000 in
theorem tX7_spare_138    {K49 : Int32 → Int32 → Int32 → GW → Prop} {Q : Int32 → GW → Prop} (C : Cx p s m args meth c D dA cX7_spare 9 (some .int) RX7)    {x1 : Int32} {x2 : Int32} {x3 : Int32} {x5 : Int32} {s0 : Int32} {w : GW} (hK49 : ∀ (x3 : Int32) (x4 : Int32) (x5 : Int32) (w : GW), K49 x3 x4 x5 w → gAtM p l e s m args below meth c D dA ad 6 (va_Qi Q (gZ D dA 20 ad layM) (gA 20 ad)) 9 49 [(0, .ref (ad 0)), (1, .int x1), (2, .int x2), (3, .int x3), (4, .int x4), (5, .int x5)] [] w) (hw : PX7_spare_138 K49 Q x1 x2 x3 x5 s0 w) : gAtM p l e s m args below meth c D dA ad 6 (va_Qi Q (gZ D dA 20 ad layM) (gA 20 ad)) 9 138 [(0, .ref (ad 0)), (1, .int x1), (2, .int x2), (3, .int x3), (5, .int x5)] [.int s0] w := by
  unfold PX7_spare_138 at hw
  refine at_istore (L' := [(0, .ref (ad 0)), (1, .int x1), (2, .int x2), (3, .int x3), (4, .int s0), (5, .int x5)]) C dX7_spare_138 (Nat.le_of_ble_eq_true rfl) rfl ?_
  refine at_iinc (F := fun z_ => [(0, .ref (ad 0)), (1, .int x1), (2, .int x2), (3, .int x3), (4, .int s0), (5, .int z_)]) C dX7_spare_140 rfl ic_1 (Nat.le_of_ble_eq_true rfl) (fun _ => rfl) (fun v5_1 e5_1 => ?_)
  have hw := hw v5_1 e5_1
  refine at_goto (tgt := 49) C dX7_spare_143 (by decide) ?_
  exact hK49 _ _ _ _ hw
set_option maxHeartbeats 4000000 in
theorem tX7_spare_125    {K49 : Int32 → Int32 → Int32 → GW → Prop} {Q : Int32 → GW → Prop} (C : Cx p s m args meth c D dA cX7_spare 9 (some .int) RX7)    {x1 : Int32} {x2 : Int32} {x4 : Int32} {x5 : Int32} {x7 : Int32} {x8 : Int32} {s0 : Int32} {w : GW} (hK49 : ∀ (x3 : Int32) (x4 : Int32) (x5 : Int32) (w : GW), K49 x3 x4 x5 w → gAtM p l e s m args below meth c D dA ad 6 (va_Qi Q (gZ D dA 20 ad layM) (gA 20 ad)) 9 49 [(0, .ref (ad 0)), (1, .int x1), (2, .int x2), (3, .int x3), (4, .int x4), (5, .int x5)] [] w) (hw : PX7_spare_125 K49 Q x1 x2 x4 x5 x7 x8 s0 w) : gAtM p l e s m args below meth c D dA ad 6 (va_Qi Q (gZ D dA 20 ad layM) (gA 20 ad)) 9 125 [(0, .ref (ad 0)), (1, .int x1), (2, .int x2), (4, .int x4), (5, .int x5), (7, .int x7), (8, .int x8)] [.int s0] w := by
  unfold PX7_spare_125 at hw
  refine at_istore_n (L' := [(0, .ref (ad 0)), (1, .int x1), (2, .int x2), (3, .int s0), (4, .int x4), (5, .int x5), (7, .int x7), (8, .int x8)]) C dX7_spare_125 rfl (Nat.le_of_ble_eq_true rfl) rfl ?_
  refine at_iload C dX7_spare_126 rfl ?_
  refine at_if_eq (tgt := 136) C dX7_spare_128 (by decide) (fun c_2 => ?_) (fun c_2 => ?_)
  · have hw := hw.1 c_2
    refine at_iload C dX7_spare_136 rfl ?_
    exact at_sub (lv_pickm [0, 1, 2, 3, 5] rfl) (tX7_spare_138 C hK49 hw)
  · have hw := hw.2 c_2
    refine at_iload C dX7_spare_131 rfl ?_
    refine at_goto (tgt := 138) C dX7_spare_133 (by decide) ?_
    exact at_sub (lv_pickm [0, 1, 2, 3, 5] rfl) (tX7_spare_138 C hK49 hw)
set_option maxHeartbeats 4000000 in
theorem tX7_spare_109    {K49 : Int32 → Int32 → Int32 → GW → Prop} {Q : Int32 → GW → Prop} (C : Cx p s m args meth c D dA cX7_spare 9 (some .int) RX7)    {x1 : Int32} {x2 : Int32} {x3 : Int32} {x4 : Int32} {x5 : Int32} {x7 : Int32} {s0 : Int32} {w : GW} (hK49 : ∀ (x3 : Int32) (x4 : Int32) (x5 : Int32) (w : GW), K49 x3 x4 x5 w → gAtM p l e s m args below meth c D dA ad 6 (va_Qi Q (gZ D dA 20 ad layM) (gA 20 ad)) 9 49 [(0, .ref (ad 0)), (1, .int x1), (2, .int x2), (3, .int x3), (4, .int x4), (5, .int x5)] [] w) (hw : PX7_spare_109 K49 Q x1 x2 x3 x4 x5 x7 s0 w) : gAtM p l e s m args below meth c D dA ad 6 (va_Qi Q (gZ D dA 20 ad layM) (gA 20 ad)) 9 109 [(0, .ref (ad 0)), (1, .int x1), (2, .int x2), (3, .int x3), (4, .int x4), (5, .int x5), (7, .int x7)] [.int s0] w := by
  unfold PX7_spare_109 at hw
  refine at_istore (L' := [(0, .ref (ad 0)), (1, .int x1), (2, .int x2), (3, .int x3), (4, .int x4), (5, .int x5), (7, .int x7), (8, .int s0)]) C dX7_spare_109 (Nat.le_of_ble_eq_true rfl) rfl ?_
  refine at_iload C dX7_spare_111 rfl ?_
  refine at_if_eq (tgt := 124) C dX7_spare_113 (by decide) (fun c_3 => ?_) (fun c_3 => ?_)
  · have hw := hw.1 c_3
    refine at_iload_n C dX7_spare_124 rfl rfl ?_
    exact at_sub (lv_pickm [0, 1, 2, 4, 5, 6, 7] rfl) (tX7_spare_125 C hK49 hw)
  · have hw := hw.2 c_3
    refine at_iload C dX7_spare_116 rfl ?_
    refine at_callp (run_S (rest := []) (As := [.int x5]) C (metX7_numberOf l D dA ad  hw) (lw_S q901 q902 q65 q903) dsX7_numberOf (gR_ok (Nat.le_of_ble_eq_true rfl) (Nat.le_of_ble_eq_true rfl)) ⟨rfl, rfl⟩ ⟨Nat.le_refl 0, Nat.le_refl 0⟩ rfl rfl (Nat.le_of_ble_eq_true rfl) dX7_spare_118) (fun r_4  hw => ?_)
    refine at_goto (tgt := 125) C dX7_spare_121 (by decide) ?_
    exact at_sub (lv_pickm [0, 1, 2, 4, 5, 6, 7] rfl) (tX7_spare_125 C hK49 hw)
set_option maxHeartbeats 4000000 in
theorem tX7_spare_108    {K49 : Int32 → Int32 → Int32 → GW → Prop} {Q : Int32 → GW → Prop} (C : Cx p s m args meth c D dA cX7_spare 9 (some .int) RX7)    {x1 : Int32} {x2 : Int32} {x3 : Int32} {x4 : Int32} {x5 : Int32} {x7 : Int32} {w : GW} (hK49 : ∀ (x3 : Int32) (x4 : Int32) (x5 : Int32) (w : GW), K49 x3 x4 x5 w → gAtM p l e s m args below meth c D dA ad 6 (va_Qi Q (gZ D dA 20 ad layM) (gA 20 ad)) 9 49 [(0, .ref (ad 0)), (1, .int x1), (2, .int x2), (3, .int x3), (4, .int x4), (5, .int x5)] [] w) (hw : PX7_spare_108 K49 Q x1 x2 x3 x4 x5 x7 w) : gAtM p l e s m args below meth c D dA ad 6 (va_Qi Q (gZ D dA 20 ad layM) (gA 20 ad)) 9 108 [(0, .ref (ad 0)), (1, .int x1), (2, .int x2), (3, .int x3), (4, .int x4), (5, .int x5), (7, .int x7)] [] w := by
  unfold PX7_spare_108 at hw
  refine at_iconst C dX7_spare_108 ic_0 ?_
  exact (tX7_spare_109 C hK49 hw)
set_option maxHeartbeats 4000000 in
theorem tX7_spare_49     {Q : Int32 → GW → Prop} (C : Cx p s m args meth c D dA cX7_spare 9 (some .int) RX7)    {x1 : Int32} {x2 : Int32}   : ∀ (n : Nat) (x3 : Int32) (x4 : Int32) (x5 : Int32) (w : GW), PX7_spare_49 Q x1 x2 n x3 x4 x5 w → gAtM p l e s m args below meth c D dA ad 6 (va_Qi Q (gZ D dA 20 ad layM) (gA 20 ad)) 9 49 [(0, .ref (ad 0)), (1, .int x1), (2, .int x2), (3, .int x3), (4, .int x4), (5, .int x5)] [] w := by
  intro n
  induction n with
  | zero => intro x3 x4 x5 w hw; exact False.elim hw
  | succ n ih =>
    intro x3 x4 x5 w hw
    unfold PX7_spare_49 at hw
    refine at_iload C dX7_spare_49 rfl ?_
    refine at_sipush C dX7_spare_51 sp_600 ?_
    refine at_icmp_ge (tgt := 146) C dX7_spare_54 (by decide) (fun c_5 => ?_) (fun c_5 => ?_)
    · have hw := hw.1 c_5
      refine at_iload_n C dX7_spare_146 rfl rfl ?_
      exact at_iret C rfl hw dX7_spare_147
    · have hw := hw.2 c_5
      refine at_aload_n C dX7_spare_57 rfl rfl ?_
      refine at_aload_n C dX7_spare_58 rfl rfl ?_
      refine at_getr (j := 14) (r := 4) C (Nat.le_of_ble_eq_true rfl) rfl rfl in_X7 (Nat.le_of_ble_eq_true rfl) rfl q701 dX7_spare_59 ?_
      refine at_bipush C dX7_spare_62 bp_45 ?_
      refine at_iald C (Nat.le_of_ble_eq_true rfl) rfl vk_45_49 tk_45 dX7_spare_64 ?_
      refine at_iload C dX7_spare_65 rfl ?_
      refine at_calli (run_V (rest := []) (As := [.int (w 4 45), .int x5]) C (metX7_goesBy l D dA ad  hw) (lw_V q865 q867 qs36 q65 q868) dsX7_goesBy (gR_ok (Nat.le_of_ble_eq_true rfl) (Nat.le_of_ble_eq_true rfl)) ⟨rfl, rfl⟩ ⟨Nat.le_refl 0, Nat.le_refl 0⟩ (Nat.le_of_ble_eq_true rfl) rfl rfl rfl rfl (Nat.le_of_ble_eq_true rfl) dX7_spare_67) (fun r_6 w_7 hw => ?_)
      refine at_istore (L' := [(0, .ref (ad 0)), (1, .int x1), (2, .int x2), (3, .int x3), (4, .int x4), (5, .int x5), (6, .int r_6)]) C dX7_spare_70 (Nat.le_of_ble_eq_true rfl) rfl ?_
      refine at_iconst C dX7_spare_72 ic_1 ?_
      refine at_iload C dX7_spare_73 rfl ?_
      refine at_bipush C dX7_spare_75 bp_40 ?_
      refine at_irem C dX7_spare_77 nz_40 ?_
      refine at_iadd C dX7_spare_78 ?_
      refine at_topi (fun v7_8 e7_8 => ?_)
      have hw := hw v7_8 e7_8
      refine at_istore (L' := [(0, .ref (ad 0)), (1, .int x1), (2, .int x2), (3, .int x3), (4, .int x4), (5, .int x5), (6, .int r_6), (7, .int v7_8)]) C dX7_spare_79 (Nat.le_of_ble_eq_true rfl) rfl ?_
      refine at_iload_n C dX7_spare_81 rfl rfl ?_
      refine at_iload C dX7_spare_82 rfl ?_
      refine at_iconst C dX7_spare_84 ic_m1 ?_
      refine at_ixor C dX7_spare_85 ?_
      refine at_iand C dX7_spare_86 ?_
      refine at_if_ne (tgt := 108) C dX7_spare_87 (by decide) (fun c_9 => ?_) (fun c_9 => ?_)
      · have hw := hw.1 c_9
        exact at_sub (lv_pickm [0, 1, 2, 3, 4, 5, 7] rfl) (tX7_spare_108 C ih hw)
      · have hw := hw.2 c_9
        refine at_iload_n C dX7_spare_90 rfl rfl ?_
        refine at_iload C dX7_spare_91 rfl ?_
        refine at_iand C dX7_spare_93 ?_
        refine at_if_ne (tgt := 108) C dX7_spare_94 (by decide) (fun c_10 => ?_) (fun c_10 => ?_)
        · have hw := hw.1 c_10
          exact at_sub (lv_pickm [0, 1, 2, 3, 4, 5, 7] rfl) (tX7_spare_108 C ih hw)
        · have hw := hw.2 c_10
          refine at_iload C dX7_spare_97 rfl ?_
          refine at_iload C dX7_spare_99 rfl ?_
          refine at_icmp_ge (tgt := 108) C dX7_spare_101 (by decide) (fun c_11 => ?_) (fun c_11 => ?_)
          · have hw := hw.1 c_11
            exact at_sub (lv_pickm [0, 1, 2, 3, 4, 5, 7] rfl) (tX7_spare_108 C ih hw)
          · have hw := hw.2 c_11
            refine at_iconst C dX7_spare_104 ic_1 ?_
            refine at_goto (tgt := 109) C dX7_spare_105 (by decide) ?_
            exact at_sub (lv_pickm [0, 1, 2, 3, 4, 5, 7] rfl) (tX7_spare_109 C ih hw)
set_option maxHeartbeats 4000000 in
theorem metX7_spare   (l : Launch) (D : va_G) (dA : Nat → ClassId) (ad : Nat → Nat)    {x1 : Int32} {x2 : Int32} {w : GW} {Q : Int32 → GW → Prop} (hw : PX7_spare x1 x2 w Q) : Met l yX7_spare (ws_ yX7_spare cX7_spare 9 (some .int)) (gR 6) (va_Pc [.ref (ad 0), .int x1, .int x2] (gB D dA 20 ad layM w)) (va_Qi Q (gZ D dA 20 ad layM) (gA 20 ad)) 0 0 (gA 20 ad) := by
  refine gm_of (L := [(0, .ref (ad 0)), (1, .int x1), (2, .int x2)]) (own := RX7) (by decide +kernel) rfl (Nat.le_of_ble_eq_true rfl) rfl rfl (fun p e s m below meth c C => ?_)
  unfold PX7_spare at hw
  refine at_aload_n C dX7_spare_0 rfl rfl ?_
  refine at_iconst C dX7_spare_1 ic_0 ?_
  refine at_puti (j := 0) C (Nat.le_of_ble_eq_true rfl) rfl rfl in_X7 (Nat.le_of_ble_eq_true rfl) rfl q687 tyX7 tyX7_ok nmX7 rfl rfl rfl dX7_spare_2 (fun w_12 ew_12 => ?_)
  have hw := hw w_12 ew_12
  refine at_aload_n C dX7_spare_5 rfl rfl ?_
  refine at_iload_n C dX7_spare_6 rfl rfl ?_
  refine at_callp (run_V (rest := []) (As := [.int x1]) C (metX7_isSet l D dA ad  hw) (lw_V q1009 q1011 qs54 q65 q1012) dsX7_isSet (gR_ok (Nat.le_of_ble_eq_true rfl) (Nat.le_of_ble_eq_true rfl)) ⟨rfl, rfl⟩ ⟨Nat.le_refl 0, Nat.le_refl 0⟩ (Nat.le_of_ble_eq_true rfl) rfl rfl rfl rfl (Nat.le_of_ble_eq_true rfl) dX7_spare_7) (fun r_13  hw => ?_)
  refine at_if_eq (tgt := 21) C dX7_spare_10 (by decide) (fun c_14 => ?_) (fun c_14 => ?_)
  · have hw := hw.1 c_14
    refine at_ldc C q928 dX7_spare_21 ?_
    exact at_iret C rfl hw dX7_spare_23
  · have hw := hw.2 c_14
    refine at_aload_n C dX7_spare_13 rfl rfl ?_
    refine at_iload_n C dX7_spare_14 rfl rfl ?_
    refine at_callp (run_V (rest := []) (As := [.int x2]) C (metX7_isSet l D dA ad  hw) (lw_V q1009 q1011 qs54 q65 q1012) dsX7_isSet (gR_ok (Nat.le_of_ble_eq_true rfl) (Nat.le_of_ble_eq_true rfl)) ⟨rfl, rfl⟩ ⟨Nat.le_refl 0, Nat.le_refl 0⟩ (Nat.le_of_ble_eq_true rfl) rfl rfl rfl rfl (Nat.le_of_ble_eq_true rfl) dX7_spare_15) (fun r_15  hw => ?_)
    refine at_if_ne (tgt := 24) C dX7_spare_18 (by decide) (fun c_16 => ?_) (fun c_16 => ?_)
    · have hw := hw.1 c_16
      refine at_aload_n C dX7_spare_24 rfl rfl ?_
      refine at_geti (j := 7) C (Nat.le_of_ble_eq_true rfl) rfl rfl in_X7 (Nat.le_of_ble_eq_true rfl) rfl q694 dX7_spare_25 ?_
      refine at_if_ne (tgt := 34) C dX7_spare_28 (by decide) (fun c_17 => ?_) (fun c_17 => ?_)
      · have hw := hw.1 c_17
        refine at_aload_n C dX7_spare_34 rfl rfl ?_
        refine at_iconst C dX7_spare_35 ic_0 ?_
        refine at_iconst C dX7_spare_36 ic_0 ?_
        refine at_callv (run_V (rest := []) (As := [.int 0, .int 0]) C (metX7_sets l D dA ad  hw) (lw_V q854 q856 qs34 q65 q857) dsX7_sets (gR_ok (Nat.le_of_ble_eq_true rfl) (Nat.le_of_ble_eq_true rfl)) ⟨rfl, rfl⟩ ⟨Nat.le_refl 0, Nat.le_refl 0⟩ (Nat.le_of_ble_eq_true rfl) rfl rfl rfl rfl (Nat.le_of_ble_eq_true rfl) dX7_spare_37) (fun  w_19 hw => ?_)
        refine at_iconst C dX7_spare_40 ic_m1 ?_
        refine at_istore_n (L' := [(0, .ref (ad 0)), (1, .int x1), (2, .int x2), (3, .int (-1))]) C dX7_spare_41 rfl (Nat.le_of_ble_eq_true rfl) rfl ?_
        refine at_bipush C dX7_spare_42 bp_41 ?_
        refine at_istore (L' := [(0, .ref (ad 0)), (1, .int x1), (2, .int x2), (3, .int (-1)), (4, .int 41)]) C dX7_spare_44 (Nat.le_of_ble_eq_true rfl) rfl ?_
        refine at_iconst C dX7_spare_46 ic_0 ?_
        refine at_istore (L' := [(0, .ref (ad 0)), (1, .int x1), (2, .int x2), (3, .int (-1)), (4, .int 41), (5, .int 0)]) C dX7_spare_47 (Nat.le_of_ble_eq_true rfl) rfl ?_
        obtain ⟨n_20, hw⟩ := hw
        exact (tX7_spare_49 C  _ _ _ _ _ hw)
      · have hw := hw.2 c_17
        refine at_ldc C q952 dX7_spare_31 ?_
        exact at_iret C rfl hw dX7_spare_33
    · have hw := hw.2 c_16
      refine at_ldc C q928 dX7_spare_21 ?_
      exact at_iret C rfl hw dX7_spare_23
set_option maxHeartbeats 4000000 in
theorem tX7_allDown_290     {Q : Int32 → GW → Prop} (C : Cx p s m args meth c D dA cX7_allDown 8 (some .int) RX7)    {x1 : Int32} {w : GW}  (hw : PX7_allDown_290 Q x1 w) : gAtM p l e s m args below meth c D dA ad 6 (va_Qi Q (gZ D dA 20 ad layM) (gA 20 ad)) 8 290 [(0, .ref (ad 0)), (1, .int x1)] [] w := by
  unfold PX7_allDown_290 at hw
  refine at_iload_n C dX7_allDown_290 rfl rfl ?_
  refine at_if_ne (tgt := 303) C dX7_allDown_291 (by decide) (fun c_1 => ?_) (fun c_1 => ?_)
  · have hw := hw.1 c_1
    refine at_aload_n C dX7_allDown_303 rfl rfl ?_
    refine at_getr (j := 33) (r := 18) C (Nat.le_of_ble_eq_true rfl) rfl rfl in_X7 (Nat.le_of_ble_eq_true rfl) rfl q720 dX7_allDown_304 ?_
    refine at_iconst C dX7_allDown_307 ic_0 ?_
    refine at_iald C (Nat.le_of_ble_eq_true rfl) rfl vk_0_512 tk_0 dX7_allDown_308 ?_
    exact at_iret C rfl hw dX7_allDown_309
  · have hw := hw.2 c_1
    refine at_aload_n C dX7_allDown_294 rfl rfl ?_
    refine at_getr (j := 32) (r := 17) C (Nat.le_of_ble_eq_true rfl) rfl rfl in_X7 (Nat.le_of_ble_eq_true rfl) rfl q719 dX7_allDown_295 ?_
    refine at_iconst C dX7_allDown_298 ic_0 ?_
    refine at_iald C (Nat.le_of_ble_eq_true rfl) rfl vk_0_512 tk_0 dX7_allDown_299 ?_
    refine at_goto (tgt := 309) C dX7_allDown_300 (by decide) ?_
    exact at_iret C rfl hw dX7_allDown_309
set_option maxHeartbeats 4000000 in
theorem tX7_allDown_186    {K92 : Int32 → Int32 → GW → Prop} {K138 : Int32 → Int32 → GW → Prop} {Q : Int32 → GW → Prop} (C : Cx p s m args meth c D dA cX7_allDown 8 (some .int) RX7)    {x1 : Int32} {x2 : Int32} {x3 : Int32} {x4 : Int32} {x5 : Int32} {x6 : Int32} {s0 : Int32} {w : GW} (hK92 : ∀ (x2 : Int32) (x3 : Int32) (w : GW), K92 x2 x3 w → gAtM p l e s m args below meth c D dA ad 6 (va_Qi Q (gZ D dA 20 ad layM) (gA 20 ad)) 8 92 [(0, .ref (ad 0)), (1, .int x1), (2, .int x2), (3, .int x3)] [] w) (hK138 : ∀ (x2 : Int32) (x5 : Int32) (w : GW), K138 x2 x5 w → gAtM p l e s m args below meth c D dA ad 6 (va_Qi Q (gZ D dA 20 ad layM) (gA 20 ad)) 8 138 [(0, .ref (ad 0)), (1, .int x1), (2, .int x2), (3, .int x3), (4, .int x4), (5, .int x5)] [] w) (hw : PX7_allDown_186 K92 K138 Q x1 x2 x3 x4 x5 x6 s0 w) : gAtM p l e s m args below meth c D dA ad 6 (va_Qi Q (gZ D dA 20 ad layM) (gA 20 ad)) 8 186 [(0, .ref (ad 0)), (1, .int x1), (2, .int x2), (3, .int x3), (4, .int x4), (5, .int x5), (6, .int x6)] [.int s0] w := by
  unfold PX7_allDown_186 at hw
  refine at_istore (L' := [(0, .ref (ad 0)), (1, .int x1), (2, .int x2), (3, .int x3), (4, .int x4), (5, .int x5), (6, .int x6), (7, .int s0)]) C dX7_allDown_186 (Nat.le_of_ble_eq_true rfl) rfl ?_
  refine at_aload_n C dX7_allDown_188 rfl rfl ?_
  refine at_getr (j := 32) (r := 17) C (Nat.le_of_ble_eq_true rfl) rfl rfl in_X7 (Nat.le_of_ble_eq_true rfl) rfl q719 dX7_allDown_189 ?_
  refine at_iload C dX7_allDown_192 rfl ?_
  refine at_iald C (Nat.le_of_ble_eq_true rfl) rfl hw.1 rfl dX7_allDown_194 ?_
  have hw := hw.2
  refine at_iconst C dX7_allDown_195 ic_m1 ?_
  refine at_icmp_ne (tgt := 238) C dX7_allDown_196 (by decide) (fun c_2 => ?_) (fun c_2 => ?_)
  · have hw := hw.1 c_2
    refine at_aload_n C dX7_allDown_238 rfl rfl ?_
    refine at_getr (j := 32) (r := 17) C (Nat.le_of_ble_eq_true rfl) rfl rfl in_X7 (Nat.le_of_ble_eq_true rfl) rfl q719 dX7_allDown_239 ?_
    refine at_iload C dX7_allDown_242 rfl ?_
    refine at_iald C (Nat.le_of_ble_eq_true rfl) rfl hw.1 rfl dX7_allDown_244 ?_
    have hw := hw.2
    refine at_aload_n C dX7_allDown_245 rfl rfl ?_
    refine at_getr (j := 32) (r := 17) C (Nat.le_of_ble_eq_true rfl) rfl rfl in_X7 (Nat.le_of_ble_eq_true rfl) rfl q719 dX7_allDown_246 ?_
    refine at_iload C dX7_allDown_249 rfl ?_
    refine at_iald C (Nat.le_of_ble_eq_true rfl) rfl hw.1 rfl dX7_allDown_251 ?_
    have hw := hw.2
    refine at_iconst C dX7_allDown_252 ic_1 ?_
    refine at_iadd C dX7_allDown_253 ?_
    refine at_icmp_ne (tgt := 278) C dX7_allDown_254 (by decide) (fun c_3 => ?_) (fun c_3 => ?_)
    · have hw := hw.1 c_3
      refine at_iinc (F := fun z_ => [(0, .ref (ad 0)), (1, .int x1), (2, .int x2), (3, .int x3), (4, .int x4), (5, .int z_), (6, .int x6), (7, .int s0)]) C dX7_allDown_278 rfl ic_1 (Nat.le_of_ble_eq_true rfl) (fun _ => rfl) (fun v5_4 e5_4 => ?_)
      have hw := hw v5_4 e5_4
      refine at_goto (tgt := 138) C dX7_allDown_281 (by decide) ?_
      exact at_sub (lv_pickm [0, 1, 2, 3, 4, 5] rfl) (hK138 _ _ _ hw)
    · have hw := hw.2 c_3
      refine at_iload C dX7_allDown_257 rfl ?_
      refine at_aload_n C dX7_allDown_259 rfl rfl ?_
      refine at_getr (j := 33) (r := 18) C (Nat.le_of_ble_eq_true rfl) rfl rfl in_X7 (Nat.le_of_ble_eq_true rfl) rfl q720 dX7_allDown_260 ?_
      refine at_iload C dX7_allDown_263 rfl ?_
      refine at_iald C (Nat.le_of_ble_eq_true rfl) rfl hw.1 rfl dX7_allDown_265 ?_
      have hw := hw.2
      refine at_icmp_ge (tgt := 278) C dX7_allDown_266 (by decide) (fun c_5 => ?_) (fun c_5 => ?_)
      · have hw := hw.1 c_5
        refine at_iinc (F := fun z_ => [(0, .ref (ad 0)), (1, .int x1), (2, .int x2), (3, .int x3), (4, .int x4), (5, .int z_), (6, .int x6), (7, .int s0)]) C dX7_allDown_278 rfl ic_1 (Nat.le_of_ble_eq_true rfl) (fun _ => rfl) (fun v5_6 e5_6 => ?_)
        have hw := hw v5_6 e5_6
        refine at_goto (tgt := 138) C dX7_allDown_281 (by decide) ?_
        exact at_sub (lv_pickm [0, 1, 2, 3, 4, 5] rfl) (hK138 _ _ _ hw)
      · have hw := hw.2 c_5
        refine at_aload_n C dX7_allDown_269 rfl rfl ?_
        refine at_getr (j := 33) (r := 18) C (Nat.le_of_ble_eq_true rfl) rfl rfl in_X7 (Nat.le_of_ble_eq_true rfl) rfl q720 dX7_allDown_270 ?_
        refine at_iload C dX7_allDown_273 rfl ?_
        refine at_iload C dX7_allDown_275 rfl ?_
        refine at_iast C (Nat.le_of_ble_eq_true rfl) rfl hw.1 rfl dX7_allDown_277 (fun w_7 ew_7 => ?_)
        have hw := hw.2 w_7 ew_7
        refine at_iinc (F := fun z_ => [(0, .ref (ad 0)), (1, .int x1), (2, .int x2), (3, .int x3), (4, .int x4), (5, .int z_), (6, .int x6), (7, .int s0)]) C dX7_allDown_278 rfl ic_1 (Nat.le_of_ble_eq_true rfl) (fun _ => rfl) (fun v5_8 e5_8 => ?_)
        have hw := hw v5_8 e5_8
        refine at_goto (tgt := 138) C dX7_allDown_281 (by decide) ?_
        exact at_sub (lv_pickm [0, 1, 2, 3, 4, 5] rfl) (hK138 _ _ _ hw)
  · have hw := hw.2 c_2
    refine at_aload_n C dX7_allDown_199 rfl rfl ?_
    refine at_getr (j := 32) (r := 17) C (Nat.le_of_ble_eq_true rfl) rfl rfl in_X7 (Nat.le_of_ble_eq_true rfl) rfl q719 dX7_allDown_200 ?_
    refine at_iload C dX7_allDown_203 rfl ?_
    refine at_aload_n C dX7_allDown_205 rfl rfl ?_
    refine at_getr (j := 32) (r := 17) C (Nat.le_of_ble_eq_true rfl) rfl rfl in_X7 (Nat.le_of_ble_eq_true rfl) rfl q719 dX7_allDown_206 ?_
    refine at_iload C dX7_allDown_209 rfl ?_
    refine at_iald C (Nat.le_of_ble_eq_true rfl) rfl hw.1 rfl dX7_allDown_211 ?_
    have hw := hw.2
    refine at_iconst C dX7_allDown_212 ic_1 ?_
    refine at_iadd C dX7_allDown_213 ?_
    refine at_iast C (Nat.le_of_ble_eq_true rfl) rfl hw.1 rfl dX7_allDown_214 (fun w_9 ew_9 => ?_)
    have hw := hw.2 w_9 ew_9
    refine at_aload_n C dX7_allDown_215 rfl rfl ?_
    refine at_getr (j := 33) (r := 18) C (Nat.le_of_ble_eq_true rfl) rfl rfl in_X7 (Nat.le_of_ble_eq_true rfl) rfl q720 dX7_allDown_216 ?_
    refine at_iload C dX7_allDown_219 rfl ?_
    refine at_iload C dX7_allDown_221 rfl ?_
    refine at_iast C (Nat.le_of_ble_eq_true rfl) rfl hw.1 rfl dX7_allDown_223 (fun w_10 ew_10 => ?_)
    have hw := hw.2 w_10 ew_10
    refine at_aload_n C dX7_allDown_224 rfl rfl ?_
    refine at_getr (j := 34) (r := 19) C (Nat.le_of_ble_eq_true rfl) rfl rfl in_X7 (Nat.le_of_ble_eq_true rfl) rfl q721 dX7_allDown_225 ?_
    refine at_iload_n C dX7_allDown_228 rfl rfl ?_
    refine at_iload C dX7_allDown_229 rfl ?_
    refine at_iast C (Nat.le_of_ble_eq_true rfl) rfl hw.1 rfl dX7_allDown_231 (fun w_11 ew_11 => ?_)
    have hw := hw.2 w_11 ew_11
    refine at_iinc (F := fun z_ => [(0, .ref (ad 0)), (1, .int x1), (2, .int z_), (3, .int x3), (4, .int x4), (5, .int x5), (6, .int x6), (7, .int s0)]) C dX7_allDown_232 rfl ic_1 (Nat.le_of_ble_eq_true rfl) (fun _ => rfl) (fun v2_12 e2_12 => ?_)
    have hw := hw v2_12 e2_12
    refine at_goto (tgt := 278) C dX7_allDown_235 (by decide) ?_
    refine at_iinc (F := fun z_ => [(0, .ref (ad 0)), (1, .int x1), (2, .int v2_12), (3, .int x3), (4, .int x4), (5, .int z_), (6, .int x6), (7, .int s0)]) C dX7_allDown_278 rfl ic_1 (Nat.le_of_ble_eq_true rfl) (fun _ => rfl) (fun v5_13 e5_13 => ?_)
    have hw := hw v5_13 e5_13
    refine at_goto (tgt := 138) C dX7_allDown_281 (by decide) ?_
    exact at_sub (lv_pickm [0, 1, 2, 3, 4, 5] rfl) (hK138 _ _ _ hw)
set_option maxHeartbeats 4000000 in
theorem tX7_allDown_138    {K92 : Int32 → Int32 → GW → Prop} {Q : Int32 → GW → Prop} (C : Cx p s m args meth c D dA cX7_allDown 8 (some .int) RX7)    {x1 : Int32} {x3 : Int32} {x4 : Int32}  (hK92 : ∀ (x2 : Int32) (x3 : Int32) (w : GW), K92 x2 x3 w → gAtM p l e s m args below meth c D dA ad 6 (va_Qi Q (gZ D dA 20 ad layM) (gA 20 ad)) 8 92 [(0, .ref (ad 0)), (1, .int x1), (2, .int x2), (3, .int x3)] [] w) : ∀ (n : Nat) (x2 : Int32) (x5 : Int32) (w : GW), PX7_allDown_138 K92 Q x1 x3 x4 n x2 x5 w → gAtM p l e s m args below meth c D dA ad 6 (va_Qi Q (gZ D dA 20 ad layM) (gA 20 ad)) 8 138 [(0, .ref (ad 0)), (1, .int x1), (2, .int x2), (3, .int x3), (4, .int x4), (5, .int x5)] [] w := by
  intro n
  induction n with
  | zero => intro x2 x5 w hw; exact False.elim hw
  | succ n ih =>
    intro x2 x5 w hw
    unfold PX7_allDown_138 at hw
    refine at_iload C dX7_allDown_138 rfl ?_
    refine at_sipush C dX7_allDown_140 sp_600 ?_
    refine at_icmp_ge (tgt := 284) C dX7_allDown_143 (by decide) (fun c_14 => ?_) (fun c_14 => ?_)
    · have hw := hw.1 c_14
      refine at_iinc (F := fun z_ => [(0, .ref (ad 0)), (1, .int x1), (2, .int x2), (3, .int z_), (4, .int x4), (5, .int x5)]) C dX7_allDown_284 rfl ic_1 (Nat.le_of_ble_eq_true rfl) (fun _ => rfl) (fun v3_15 e3_15 => ?_)
      have hw := hw v3_15 e3_15
      refine at_goto (tgt := 92) C dX7_allDown_287 (by decide) ?_
      exact at_sub (lv_pickm [0, 1, 2, 3] rfl) (hK92 _ _ _ hw)
    · have hw := hw.2 c_14
      refine at_iload C dX7_allDown_146 rfl ?_
      refine at_aload_n C dX7_allDown_148 rfl rfl ?_
      refine at_iload C dX7_allDown_149 rfl ?_
      refine at_iload C dX7_allDown_151 rfl ?_
      refine at_calli (run_V (rest := [.int x4]) (As := [.int x4, .int x5]) C (metX7_goesBy l D dA ad  hw) (lw_V q865 q867 qs36 q65 q868) dsX7_goesBy (gR_ok (Nat.le_of_ble_eq_true rfl) (Nat.le_of_ble_eq_true rfl)) ⟨rfl, rfl⟩ ⟨Nat.le_refl 0, Nat.le_refl 0⟩ (Nat.le_of_ble_eq_true rfl) rfl rfl rfl rfl (Nat.le_of_ble_eq_true rfl) dX7_allDown_153) (fun r_16 w_17 hw => ?_)
      refine at_iconst C dX7_allDown_156 ic_m1 ?_
      refine at_ixor C dX7_allDown_157 ?_
      refine at_iand C dX7_allDown_158 ?_
      refine at_topi (fun v6_18 e6_18 => ?_)
      have hw := hw v6_18 e6_18
      refine at_istore (L' := [(0, .ref (ad 0)), (1, .int x1), (2, .int x2), (3, .int x3), (4, .int x4), (5, .int x5), (6, .int v6_18)]) C dX7_allDown_159 (Nat.le_of_ble_eq_true rfl) rfl ?_
      refine at_aload_n C dX7_allDown_161 rfl rfl ?_
      refine at_getr (j := 32) (r := 17) C (Nat.le_of_ble_eq_true rfl) rfl rfl in_X7 (Nat.le_of_ble_eq_true rfl) rfl q719 dX7_allDown_162 ?_
      refine at_iload C dX7_allDown_165 rfl ?_
      refine at_iald C (Nat.le_of_ble_eq_true rfl) rfl hw.1 rfl dX7_allDown_167 ?_
      have hw := hw.2
      refine at_if_ne (tgt := 179) C dX7_allDown_168 (by decide) (fun c_19 => ?_) (fun c_19 => ?_)
      · have hw := hw.1 c_19
        refine at_aload_n C dX7_allDown_179 rfl rfl ?_
        refine at_getr (j := 33) (r := 18) C (Nat.le_of_ble_eq_true rfl) rfl rfl in_X7 (Nat.le_of_ble_eq_true rfl) rfl q720 dX7_allDown_180 ?_
        refine at_iload C dX7_allDown_183 rfl ?_
        refine at_iald C (Nat.le_of_ble_eq_true rfl) rfl hw.1 rfl dX7_allDown_185 ?_
        have hw := hw.2
        exact (tX7_allDown_186 C hK92 ih hw)
      · have hw := hw.2 c_19
        refine at_iload C dX7_allDown_171 rfl ?_
        refine at_callp (run_S (rest := []) (As := [.int x5]) C (metX7_numberOf l D dA ad  hw) (lw_S q901 q902 q65 q903) dsX7_numberOf (gR_ok (Nat.le_of_ble_eq_true rfl) (Nat.le_of_ble_eq_true rfl)) ⟨rfl, rfl⟩ ⟨Nat.le_refl 0, Nat.le_refl 0⟩ rfl rfl (Nat.le_of_ble_eq_true rfl) dX7_allDown_173) (fun r_20  hw => ?_)
        refine at_goto (tgt := 186) C dX7_allDown_176 (by decide) ?_
        exact (tX7_allDown_186 C hK92 ih hw)
set_option maxHeartbeats 4000000 in
theorem tX7_allDown_127    {K92 : Int32 → Int32 → GW → Prop} {Q : Int32 → GW → Prop} (C : Cx p s m args meth c D dA cX7_allDown 8 (some .int) RX7)    {x1 : Int32} {x2 : Int32} {x3 : Int32} {w : GW} (hK92 : ∀ (x2 : Int32) (x3 : Int32) (w : GW), K92 x2 x3 w → gAtM p l e s m args below meth c D dA ad 6 (va_Qi Q (gZ D dA 20 ad layM) (gA 20 ad)) 8 92 [(0, .ref (ad 0)), (1, .int x1), (2, .int x2), (3, .int x3)] [] w) (hw : PX7_allDown_127 K92 Q x1 x2 x3 w) : gAtM p l e s m args below meth c D dA ad 6 (va_Qi Q (gZ D dA 20 ad layM) (gA 20 ad)) 8 127 [(0, .ref (ad 0)), (1, .int x1), (2, .int x2), (3, .int x3)] [] w := by
  unfold PX7_allDown_127 at hw
  refine at_aload_n C dX7_allDown_127 rfl rfl ?_
  refine at_getr (j := 34) (r := 19) C (Nat.le_of_ble_eq_true rfl) rfl rfl in_X7 (Nat.le_of_ble_eq_true rfl) rfl q721 dX7_allDown_128 ?_
  refine at_iload_n C dX7_allDown_131 rfl rfl ?_
  refine at_iald C (Nat.le_of_ble_eq_true rfl) rfl hw.1 rfl dX7_allDown_132 ?_
  have hw := hw.2
  refine at_topi (fun v4_21 e4_21 => ?_)
  have hw := hw v4_21 e4_21
  refine at_istore (L' := [(0, .ref (ad 0)), (1, .int x1), (2, .int x2), (3, .int x3), (4, .int v4_21)]) C dX7_allDown_133 (Nat.le_of_ble_eq_true rfl) rfl ?_
  refine at_iconst C dX7_allDown_135 ic_0 ?_
  refine at_istore (L' := [(0, .ref (ad 0)), (1, .int x1), (2, .int x2), (3, .int x3), (4, .int v4_21), (5, .int 0)]) C dX7_allDown_136 (Nat.le_of_ble_eq_true rfl) rfl ?_
  obtain ⟨n_22, hw⟩ := hw
  exact (tX7_allDown_138 C hK92 _ _ _ _ hw)
set_option maxHeartbeats 4000000 in
theorem tX7_allDown_92     {Q : Int32 → GW → Prop} (C : Cx p s m args meth c D dA cX7_allDown 8 (some .int) RX7)    {x1 : Int32}   : ∀ (n : Nat) (x2 : Int32) (x3 : Int32) (w : GW), PX7_allDown_92 Q x1 n x2 x3 w → gAtM p l e s m args below meth c D dA ad 6 (va_Qi Q (gZ D dA 20 ad layM) (gA 20 ad)) 8 92 [(0, .ref (ad 0)), (1, .int x1), (2, .int x2), (3, .int x3)] [] w := by
  intro n
  induction n with
  | zero => intro x2 x3 w hw; exact False.elim hw
  | succ n ih =>
    intro x2 x3 w hw
    unfold PX7_allDown_92 at hw
    refine at_iload_n C dX7_allDown_92 rfl rfl ?_
    refine at_iload_n C dX7_allDown_93 rfl rfl ?_
    refine at_icmp_ge (tgt := 290) C dX7_allDown_94 (by decide) (fun c_23 => ?_) (fun c_23 => ?_)
    · have hw := hw.1 c_23
      exact at_sub (lv_pickm [0, 1] rfl) (tX7_allDown_290 C  hw)
    · have hw := hw.2 c_23
      refine at_aload_n C dX7_allDown_97 rfl rfl ?_
      refine at_getr (j := 32) (r := 17) C (Nat.le_of_ble_eq_true rfl) rfl rfl in_X7 (Nat.le_of_ble_eq_true rfl) rfl q719 dX7_allDown_98 ?_
      refine at_iconst C dX7_allDown_101 ic_0 ?_
      refine at_iald C (Nat.le_of_ble_eq_true rfl) rfl vk_0_512 tk_0 dX7_allDown_102 ?_
      refine at_iconst C dX7_allDown_103 ic_m1 ?_
      refine at_icmp_eq (tgt := 127) C dX7_allDown_104 (by decide) (fun c_24 => ?_) (fun c_24 => ?_)
      · have hw := hw.1 c_24
        exact (tX7_allDown_127 C ih hw)
      · have hw := hw.2 c_24
        refine at_aload_n C dX7_allDown_107 rfl rfl ?_
        refine at_getr (j := 32) (r := 17) C (Nat.le_of_ble_eq_true rfl) rfl rfl in_X7 (Nat.le_of_ble_eq_true rfl) rfl q719 dX7_allDown_108 ?_
        refine at_aload_n C dX7_allDown_111 rfl rfl ?_
        refine at_getr (j := 34) (r := 19) C (Nat.le_of_ble_eq_true rfl) rfl rfl in_X7 (Nat.le_of_ble_eq_true rfl) rfl q721 dX7_allDown_112 ?_
        refine at_iload_n C dX7_allDown_115 rfl rfl ?_
        refine at_iald C (Nat.le_of_ble_eq_true rfl) rfl hw.1 rfl dX7_allDown_116 ?_
        have hw := hw.2
        refine at_iald C (Nat.le_of_ble_eq_true rfl) rfl hw.1 rfl dX7_allDown_117 ?_
        have hw := hw.2
        refine at_aload_n C dX7_allDown_118 rfl rfl ?_
        refine at_getr (j := 32) (r := 17) C (Nat.le_of_ble_eq_true rfl) rfl rfl in_X7 (Nat.le_of_ble_eq_true rfl) rfl q719 dX7_allDown_119 ?_
        refine at_iconst C dX7_allDown_122 ic_0 ?_
        refine at_iald C (Nat.le_of_ble_eq_true rfl) rfl vk_0_512 tk_0 dX7_allDown_123 ?_
        refine at_icmp_ge (tgt := 290) C dX7_allDown_124 (by decide) (fun c_25 => ?_) (fun c_25 => ?_)
        · have hw := hw.1 c_25
          exact at_sub (lv_pickm [0, 1] rfl) (tX7_allDown_290 C  hw)
        · have hw := hw.2 c_25
          exact (tX7_allDown_127 C ih hw)
set_option maxHeartbeats 4000000 in
theorem tX7_allDown_35     {Q : Int32 → GW → Prop} (C : Cx p s m args meth c D dA cX7_allDown 8 (some .int) RX7)    {x1 : Int32}   : ∀ (n : Nat) (x2 : Int32) (w : GW), PX7_allDown_35 Q x1 n x2 w → gAtM p l e s m args below meth c D dA ad 6 (va_Qi Q (gZ D dA 20 ad layM) (gA 20 ad)) 8 35 [(0, .ref (ad 0)), (1, .int x1), (2, .int x2)] [] w := by
  intro n
  induction n with
  | zero => intro x2 w hw; exact False.elim hw
  | succ n ih =>
    intro x2 w hw
    unfold PX7_allDown_35 at hw
    refine at_iload_n C dX7_allDown_35 rfl rfl ?_
    refine at_sipush C dX7_allDown_36 sp_512 ?_
    refine at_icmp_ge (tgt := 62) C dX7_allDown_39 (by decide) (fun c_26 => ?_) (fun c_26 => ?_)
    · have hw := hw.1 c_26
      refine at_aload_n C dX7_allDown_62 rfl rfl ?_
      refine at_getr (j := 32) (r := 17) C (Nat.le_of_ble_eq_true rfl) rfl rfl in_X7 (Nat.le_of_ble_eq_true rfl) rfl q719 dX7_allDown_63 ?_
      refine at_aload_n C dX7_allDown_66 rfl rfl ?_
      refine at_getr (j := 14) (r := 4) C (Nat.le_of_ble_eq_true rfl) rfl rfl in_X7 (Nat.le_of_ble_eq_true rfl) rfl q701 dX7_allDown_67 ?_
      refine at_bipush C dX7_allDown_70 bp_45 ?_
      refine at_iald C (Nat.le_of_ble_eq_true rfl) rfl vk_45_49 tk_45 dX7_allDown_72 ?_
      refine at_iconst C dX7_allDown_73 ic_0 ?_
      refine at_iast C (Nat.le_of_ble_eq_true rfl) rfl hw.1 rfl dX7_allDown_74 (fun w_27 ew_27 => ?_)
      have hw := hw.2 w_27 ew_27
      refine at_aload_n C dX7_allDown_75 rfl rfl ?_
      refine at_getr (j := 34) (r := 19) C (Nat.le_of_ble_eq_true rfl) rfl rfl in_X7 (Nat.le_of_ble_eq_true rfl) rfl q721 dX7_allDown_76 ?_
      refine at_iconst C dX7_allDown_79 ic_0 ?_
      refine at_aload_n C dX7_allDown_80 rfl rfl ?_
      refine at_getr (j := 14) (r := 4) C (Nat.le_of_ble_eq_true rfl) rfl rfl in_X7 (Nat.le_of_ble_eq_true rfl) rfl q701 dX7_allDown_81 ?_
      refine at_bipush C dX7_allDown_84 bp_45 ?_
      refine at_iald C (Nat.le_of_ble_eq_true rfl) rfl vk_45_49 tk_45 dX7_allDown_86 ?_
      refine at_iast C (Nat.le_of_ble_eq_true rfl) rfl vk_0_512 tk_0 dX7_allDown_87 (fun w_28 ew_28 => ?_)
      have hw := hw w_28 ew_28
      refine at_iconst C dX7_allDown_88 ic_1 ?_
      refine at_istore_n (L' := [(0, .ref (ad 0)), (1, .int x1), (2, .int 1)]) C dX7_allDown_89 rfl (Nat.le_of_ble_eq_true rfl) rfl ?_
      refine at_iconst C dX7_allDown_90 ic_0 ?_
      refine at_istore_n (L' := [(0, .ref (ad 0)), (1, .int x1), (2, .int 1), (3, .int 0)]) C dX7_allDown_91 rfl (Nat.le_of_ble_eq_true rfl) rfl ?_
      obtain ⟨n_29, hw⟩ := hw
      exact (tX7_allDown_92 C  _ _ _ _ hw)
    · have hw := hw.2 c_26
      refine at_aload_n C dX7_allDown_42 rfl rfl ?_
      refine at_getr (j := 32) (r := 17) C (Nat.le_of_ble_eq_true rfl) rfl rfl in_X7 (Nat.le_of_ble_eq_true rfl) rfl q719 dX7_allDown_43 ?_
      refine at_iload_n C dX7_allDown_46 rfl rfl ?_
      refine at_iconst C dX7_allDown_47 ic_m1 ?_
      refine at_iast C (Nat.le_of_ble_eq_true rfl) rfl hw.1 rfl dX7_allDown_48 (fun w_30 ew_30 => ?_)
      have hw := hw.2 w_30 ew_30
      refine at_aload_n C dX7_allDown_49 rfl rfl ?_
      refine at_getr (j := 33) (r := 18) C (Nat.le_of_ble_eq_true rfl) rfl rfl in_X7 (Nat.le_of_ble_eq_true rfl) rfl q720 dX7_allDown_50 ?_
      refine at_iload_n C dX7_allDown_53 rfl rfl ?_
      refine at_iconst C dX7_allDown_54 ic_m1 ?_
      refine at_iast C (Nat.le_of_ble_eq_true rfl) rfl hw.1 rfl dX7_allDown_55 (fun w_31 ew_31 => ?_)
      have hw := hw.2 w_31 ew_31
      refine at_iinc (F := fun z_ => [(0, .ref (ad 0)), (1, .int x1), (2, .int z_)]) C dX7_allDown_56 rfl ic_1 (Nat.le_of_ble_eq_true rfl) (fun _ => rfl) (fun v2_32 e2_32 => ?_)
      have hw := hw v2_32 e2_32
      refine at_goto (tgt := 35) C dX7_allDown_59 (by decide) ?_
      exact ih _ _ hw
set_option maxHeartbeats 4000000 in
theorem metX7_allDown   (l : Launch) (D : va_G) (dA : Nat → ClassId) (ad : Nat → Nat)    {x1 : Int32} {w : GW} {Q : Int32 → GW → Prop} (hw : PX7_allDown x1 w Q) : Met l yX7_allDown (ws_ yX7_allDown cX7_allDown 8 (some .int)) (gR 6) (va_Pc [.ref (ad 0), .int x1] (gB D dA 20 ad layM w)) (va_Qi Q (gZ D dA 20 ad layM) (gA 20 ad)) 0 0 (gA 20 ad) := by
  refine gm_of (L := [(0, .ref (ad 0)), (1, .int x1)]) (own := RX7) (by decide +kernel) rfl (Nat.le_of_ble_eq_true rfl) rfl rfl (fun p e s m below meth c C => ?_)
  unfold PX7_allDown at hw
  refine at_aload_n C dX7_allDown_0 rfl rfl ?_
  refine at_iconst C dX7_allDown_1 ic_0 ?_
  refine at_puti (j := 0) C (Nat.le_of_ble_eq_true rfl) rfl rfl in_X7 (Nat.le_of_ble_eq_true rfl) rfl q687 tyX7 tyX7_ok nmX7 rfl rfl rfl dX7_allDown_2 (fun w_33 ew_33 => ?_)
  have hw := hw w_33 ew_33
  refine at_iload_n C dX7_allDown_5 rfl rfl ?_
  refine at_iconst C dX7_allDown_6 ic_0 ?_
  refine at_iconst C dX7_allDown_7 ic_1 ?_
  refine at_callp (run_S (rest := []) (As := [.int x1, .int 0, .int 1]) C (metX7_in l D dA ad  hw) (lw_S q797 q798 q65 q799) dsX7_in (gR_ok (Nat.le_of_ble_eq_true rfl) (Nat.le_of_ble_eq_true rfl)) ⟨rfl, rfl⟩ ⟨Nat.le_refl 0, Nat.le_refl 0⟩ rfl rfl (Nat.le_of_ble_eq_true rfl) dX7_allDown_8) (fun r_34  hw => ?_)
  refine at_if_ne (tgt := 17) C dX7_allDown_11 (by decide) (fun c_35 => ?_) (fun c_35 => ?_)
  · have hw := hw.1 c_35
    refine at_aload_n C dX7_allDown_17 rfl rfl ?_
    refine at_geti (j := 7) C (Nat.le_of_ble_eq_true rfl) rfl rfl in_X7 (Nat.le_of_ble_eq_true rfl) rfl q694 dX7_allDown_18 ?_
    refine at_if_ne (tgt := 27) C dX7_allDown_21 (by decide) (fun c_36 => ?_) (fun c_36 => ?_)
    · have hw := hw.1 c_36
      refine at_aload_n C dX7_allDown_27 rfl rfl ?_
      refine at_iconst C dX7_allDown_28 ic_0 ?_
      refine at_iconst C dX7_allDown_29 ic_0 ?_
      refine at_callv (run_V (rest := []) (As := [.int 0, .int 0]) C (metX7_sets l D dA ad  hw) (lw_V q854 q856 qs34 q65 q857) dsX7_sets (gR_ok (Nat.le_of_ble_eq_true rfl) (Nat.le_of_ble_eq_true rfl)) ⟨rfl, rfl⟩ ⟨Nat.le_refl 0, Nat.le_refl 0⟩ (Nat.le_of_ble_eq_true rfl) rfl rfl rfl rfl (Nat.le_of_ble_eq_true rfl) dX7_allDown_30) (fun  w_38 hw => ?_)
      refine at_iconst C dX7_allDown_33 ic_0 ?_
      refine at_istore_n (L' := [(0, .ref (ad 0)), (1, .int x1), (2, .int 0)]) C dX7_allDown_34 rfl (Nat.le_of_ble_eq_true rfl) rfl ?_
      obtain ⟨n_39, hw⟩ := hw
      exact (tX7_allDown_35 C  _ _ _ hw)
    · have hw := hw.2 c_36
      refine at_ldc C q952 dX7_allDown_24 ?_
      exact at_iret C rfl hw dX7_allDown_26
  · have hw := hw.2 c_35
    refine at_ldc C q800 dX7_allDown_14 ?_
    exact at_iret C rfl hw dX7_allDown_16
set_option maxHeartbeats 4000000 in
theorem tX7_mend_131    {K48 : Int32 → Int32 → Int32 → GW → Prop} {K61 : Int32 → Int32 → Int32 → GW → Prop} {Q : Int32 → GW → Prop} (C : Cx p s m args meth c D dA cX7_mend 10 (some .int) RX7)    {x1 : Int32} {x2 : Int32} {x3 : Int32} {x4 : Int32} {x5 : Int32} {x7 : Int32} {x8 : Int32} {s0 : Int32} {w : GW} (hK48 : ∀ (x5 : Int32) (x6 : Int32) (x7 : Int32) (w : GW), K48 x5 x6 x7 w → gAtM p l e s m args below meth c D dA ad 5 (va_Qi Q (gZ D dA 20 ad layM) (gA 20 ad)) 10 48 [(0, .ref (ad 0)), (1, .int x1), (2, .int x2), (3, .int x3), (4, .int x4), (5, .int x5), (6, .int x6), (7, .int x7)] [] w) (hK61 : ∀ (x5 : Int32) (x6 : Int32) (x8 : Int32) (w : GW), K61 x5 x6 x8 w → gAtM p l e s m args below meth c D dA ad 5 (va_Qi Q (gZ D dA 20 ad layM) (gA 20 ad)) 10 61 [(0, .ref (ad 0)), (1, .int x1), (2, .int x2), (3, .int x3), (4, .int x4), (5, .int x5), (6, .int x6), (7, .int x7), (8, .int x8)] [] w) (hw : PX7_mend_131 K48 K61 Q x1 x2 x3 x4 x5 x7 x8 s0 w) : gAtM p l e s m args below meth c D dA ad 5 (va_Qi Q (gZ D dA 20 ad layM) (gA 20 ad)) 10 131 [(0, .ref (ad 0)), (1, .int x1), (2, .int x2), (3, .int x3), (4, .int x4), (5, .int x5), (7, .int x7), (8, .int x8)] [.int s0] w := by
  unfold PX7_mend_131 at hw
  refine at_istore (L' := [(0, .ref (ad 0)), (1, .int x1), (2, .int x2), (3, .int x3), (4, .int x4), (5, .int x5), (6, .int s0), (7, .int x7), (8, .int x8)]) C dX7_mend_131 (Nat.le_of_ble_eq_true rfl) rfl ?_
  refine at_iinc (F := fun z_ => [(0, .ref (ad 0)), (1, .int x1), (2, .int x2), (3, .int x3), (4, .int x4), (5, .int x5), (6, .int s0), (7, .int x7), (8, .int z_)]) C dX7_mend_133 rfl ic_1 (Nat.le_of_ble_eq_true rfl) (fun _ => rfl) (fun v8_1 e8_1 => ?_)
  have hw := hw v8_1 e8_1
  refine at_goto (tgt := 61) C dX7_mend_136 (by decide) ?_
  exact hK61 _ _ _ _ hw
set_option maxHeartbeats 4000000 in
theorem tX7_mend_115    {K48 : Int32 → Int32 → Int32 → GW → Prop} {K61 : Int32 → Int32 → Int32 → GW → Prop} {Q : Int32 → GW → Prop} (C : Cx p s m args meth c D dA cX7_mend 10 (some .int) RX7)    {x1 : Int32} {x2 : Int32} {x3 : Int32} {x4 : Int32} {x6 : Int32} {x7 : Int32} {x8 : Int32} {x9 : Int32} {s0 : Int32} {w : GW} (hK48 : ∀ (x5 : Int32) (x6 : Int32) (x7 : Int32) (w : GW), K48 x5 x6 x7 w → gAtM p l e s m args below meth c D dA ad 5 (va_Qi Q (gZ D dA 20 ad layM) (gA 20 ad)) 10 48 [(0, .ref (ad 0)), (1, .int x1), (2, .int x2), (3, .int x3), (4, .int x4), (5, .int x5), (6, .int x6), (7, .int x7)] [] w) (hK61 : ∀ (x5 : Int32) (x6 : Int32) (x8 : Int32) (w : GW), K61 x5 x6 x8 w → gAtM p l e s m args below meth c D dA ad 5 (va_Qi Q (gZ D dA 20 ad layM) (gA 20 ad)) 10 61 [(0, .ref (ad 0)), (1, .int x1), (2, .int x2), (3, .int x3), (4, .int x4), (5, .int x5), (6, .int x6), (7, .int x7), (8, .int x8)] [] w) (hw : PX7_mend_115 K48 K61 Q x1 x2 x3 x4 x6 x7 x8 x9 s0 w) : gAtM p l e s m args below meth c D dA ad 5 (va_Qi Q (gZ D dA 20 ad layM) (gA 20 ad)) 10 115 [(0, .ref (ad 0)), (1, .int x1), (2, .int x2), (3, .int x3), (4, .int x4), (6, .int x6), (7, .int x7), (8, .int x8), (9, .int x9)] [.int s0] w := by
  unfold PX7_mend_115 at hw
  refine at_istore (L' := [(0, .ref (ad 0)), (1, .int x1), (2, .int x2), (3, .int x3), (4, .int x4), (5, .int s0), (6, .int x6), (7, .int x7), (8, .int x8), (9, .int x9)]) C dX7_mend_115 (Nat.le_of_ble_eq_true rfl) rfl ?_
  refine at_iload C dX7_mend_117 rfl ?_
  refine at_iload C dX7_mend_119 rfl ?_
  refine at_icmp_ge (tgt := 129) C dX7_mend_121 (by decide) (fun c_2 => ?_) (fun c_2 => ?_)
  · have hw := hw.1 c_2
    refine at_iload C dX7_mend_129 rfl ?_
    exact at_sub (lv_pickm [0, 1, 2, 3, 4, 5, 7, 8] rfl) (tX7_mend_131 C hK48 hK61 hw)
  · have hw := hw.2 c_2
    refine at_iload C dX7_mend_124 rfl ?_
    refine at_goto (tgt := 131) C dX7_mend_126 (by decide) ?_
    exact at_sub (lv_pickm [0, 1, 2, 3, 4, 5, 7, 8] rfl) (tX7_mend_131 C hK48 hK61 hw)
set_option maxHeartbeats 4000000 in
theorem tX7_mend_61    {K48 : Int32 → Int32 → Int32 → GW → Prop} {Q : Int32 → GW → Prop} (C : Cx p s m args meth c D dA cX7_mend 10 (some .int) RX7)    {x1 : Int32} {x2 : Int32} {x3 : Int32} {x4 : Int32} {x7 : Int32}  (hK48 : ∀ (x5 : Int32) (x6 : Int32) (x7 : Int32) (w : GW), K48 x5 x6 x7 w → gAtM p l e s m args below meth c D dA ad 5 (va_Qi Q (gZ D dA 20 ad layM) (gA 20 ad)) 10 48 [(0, .ref (ad 0)), (1, .int x1), (2, .int x2), (3, .int x3), (4, .int x4), (5, .int x5), (6, .int x6), (7, .int x7)] [] w) : ∀ (n : Nat) (x5 : Int32) (x6 : Int32) (x8 : Int32) (w : GW), PX7_mend_61 K48 Q x1 x2 x3 x4 x7 n x5 x6 x8 w → gAtM p l e s m args below meth c D dA ad 5 (va_Qi Q (gZ D dA 20 ad layM) (gA 20 ad)) 10 61 [(0, .ref (ad 0)), (1, .int x1), (2, .int x2), (3, .int x3), (4, .int x4), (5, .int x5), (6, .int x6), (7, .int x7), (8, .int x8)] [] w := by
  intro n
  induction n with
  | zero => intro x5 x6 x8 w hw; exact False.elim hw
  | succ n ih =>
    intro x5 x6 x8 w hw
    unfold PX7_mend_61 at hw
    refine at_iload C dX7_mend_61 rfl ?_
    refine at_bipush C dX7_mend_63 bp_9 ?_
    refine at_icmp_ge (tgt := 139) C dX7_mend_65 (by decide) (fun c_3 => ?_) (fun c_3 => ?_)
    · have hw := hw.1 c_3
      refine at_iinc (F := fun z_ => [(0, .ref (ad 0)), (1, .int x1), (2, .int x2), (3, .int x3), (4, .int x4), (5, .int x5), (6, .int x6), (7, .int z_), (8, .int x8)]) C dX7_mend_139 rfl ic_1 (Nat.le_of_ble_eq_true rfl) (fun _ => rfl) (fun v7_4 e7_4 => ?_)
      have hw := hw v7_4 e7_4
      refine at_goto (tgt := 48) C dX7_mend_142 (by decide) ?_
      exact at_sub (lv_pickm [0, 1, 2, 3, 4, 5, 6, 7] rfl) (hK48 _ _ _ _ hw)
    · have hw := hw.2 c_3
      refine at_aload_n C dX7_mend_68 rfl rfl ?_
      refine at_iload C dX7_mend_69 rfl ?_
      refine at_iload C dX7_mend_71 rfl ?_
      refine at_callv (run_V (rest := []) (As := [.int x7, .int x8]) C (metX7_sets l D dA ad  hw) (lw_V q854 q856 qs34 q65 q857) dsX7_sets (gR_ok (Nat.le_of_ble_eq_true rfl) (Nat.le_of_ble_eq_true rfl)) ⟨rfl, rfl⟩ ⟨Nat.le_refl 0, Nat.le_refl 0⟩ (Nat.le_of_ble_eq_true rfl) rfl rfl rfl rfl (Nat.le_of_ble_eq_true rfl) dX7_mend_73) (fun  w_6 hw => ?_)
      refine at_aload_n C dX7_mend_76 rfl rfl ?_
      refine at_aload_n C dX7_mend_77 rfl rfl ?_
      refine at_getr (j := 14) (r := 4) C (Nat.le_of_ble_eq_true rfl) rfl rfl in_X7 (Nat.le_of_ble_eq_true rfl) rfl q701 dX7_mend_78 ?_
      refine at_bipush C dX7_mend_81 bp_45 ?_
      refine at_iald C (Nat.le_of_ble_eq_true rfl) rfl vk_45_49 tk_45 dX7_mend_83 ?_
      refine at_iload_n C dX7_mend_84 rfl rfl ?_
      refine at_iload_n C dX7_mend_85 rfl rfl ?_
      refine at_iload_n C dX7_mend_86 rfl rfl ?_
      refine at_calli (run_V (rest := []) (As := [.int (w_6 4 45), .int x1, .int x2, .int x3]) C (metX7_goes l D dA ad  hw) (lw_V q869 q871 qs37 q65 q872) dsX7_goes (gR_ok (Nat.le_of_ble_eq_true rfl) (Nat.le_of_ble_eq_true rfl)) ⟨rfl, rfl⟩ ⟨Nat.le_refl 0, Nat.le_refl 0⟩ (Nat.le_of_ble_eq_true rfl) rfl rfl rfl rfl (Nat.le_of_ble_eq_true rfl) dX7_mend_87) (fun r_7 w_8 hw => ?_)
      refine at_callp (run_S (rest := []) (As := [.int r_7]) C (metX7_ones l D dA ad  hw) (lw_S q898 q899 q65 q900) dsX7_ones (gR_ok (Nat.le_of_ble_eq_true rfl) (Nat.le_of_ble_eq_true rfl)) ⟨rfl, rfl⟩ ⟨Nat.le_refl 0, Nat.le_refl 0⟩ rfl rfl (Nat.le_of_ble_eq_true rfl) dX7_mend_90) (fun r_9  hw => ?_)
      refine at_istore (L' := [(0, .ref (ad 0)), (1, .int x1), (2, .int x2), (3, .int x3), (4, .int x4), (5, .int x5), (6, .int x6), (7, .int x7), (8, .int x8), (9, .int r_9)]) C dX7_mend_93 (Nat.le_of_ble_eq_true rfl) rfl ?_
      refine at_iload C dX7_mend_95 rfl ?_
      refine at_iload C dX7_mend_97 rfl ?_
      refine at_icmp_ge (tgt := 113) C dX7_mend_99 (by decide) (fun c_10 => ?_) (fun c_10 => ?_)
      · have hw := hw.1 c_10
        refine at_iload C dX7_mend_113 rfl ?_
        exact at_sub (lv_pickm [0, 1, 2, 3, 4, 6, 7, 8, 9] rfl) (tX7_mend_115 C hK48 ih hw)
      · have hw := hw.2 c_10
        refine at_bipush C dX7_mend_102 bp_10 ?_
        refine at_iload C dX7_mend_104 rfl ?_
        refine at_imul C dX7_mend_106 ?_
        refine at_iload C dX7_mend_107 rfl ?_
        refine at_iadd C dX7_mend_109 ?_
        refine at_goto (tgt := 115) C dX7_mend_110 (by decide) ?_
        exact at_sub (lv_pickm [0, 1, 2, 3, 4, 6, 7, 8, 9] rfl) (tX7_mend_115 C hK48 ih hw)
set_option maxHeartbeats 4000000 in
theorem tX7_mend_48     {Q : Int32 → GW → Prop} (C : Cx p s m args meth c D dA cX7_mend 10 (some .int) RX7)    {x1 : Int32} {x2 : Int32} {x3 : Int32} {x4 : Int32}   : ∀ (n : Nat) (x5 : Int32) (x6 : Int32) (x7 : Int32) (w : GW), PX7_mend_48 Q x1 x2 x3 x4 n x5 x6 x7 w → gAtM p l e s m args below meth c D dA ad 5 (va_Qi Q (gZ D dA 20 ad layM) (gA 20 ad)) 10 48 [(0, .ref (ad 0)), (1, .int x1), (2, .int x2), (3, .int x3), (4, .int x4), (5, .int x5), (6, .int x6), (7, .int x7)] [] w := by
  intro n
  induction n with
  | zero => intro x5 x6 x7 w hw; exact False.elim hw
  | succ n ih =>
    intro x5 x6 x7 w hw
    unfold PX7_mend_48 at hw
    refine at_iload C dX7_mend_48 rfl ?_
    refine at_bipush C dX7_mend_50 bp_9 ?_
    refine at_icmp_ge (tgt := 145) C dX7_mend_52 (by decide) (fun c_11 => ?_) (fun c_11 => ?_)
    · have hw := hw.1 c_11
      refine at_iload C dX7_mend_145 rfl ?_
      refine at_if_ne (tgt := 155) C dX7_mend_147 (by decide) (fun c_12 => ?_) (fun c_12 => ?_)
      · have hw := hw.1 c_12
        refine at_iload C dX7_mend_155 rfl ?_
        exact at_iret C rfl hw dX7_mend_157
      · have hw := hw.2 c_12
        refine at_iload C dX7_mend_150 rfl ?_
        refine at_goto (tgt := 157) C dX7_mend_152 (by decide) ?_
        exact at_iret C rfl hw dX7_mend_157
    · have hw := hw.2 c_11
      refine at_iload C dX7_mend_55 rfl ?_
      refine at_iconst C dX7_mend_57 ic_1 ?_
      refine at_iadd C dX7_mend_58 ?_
      refine at_topi (fun v8_13 e8_13 => ?_)
      have hw := hw v8_13 e8_13
      refine at_istore (L' := [(0, .ref (ad 0)), (1, .int x1), (2, .int x2), (3, .int x3), (4, .int x4), (5, .int x5), (6, .int x6), (7, .int x7), (8, .int v8_13)]) C dX7_mend_59 (Nat.le_of_ble_eq_true rfl) rfl ?_
      obtain ⟨n_14, hw⟩ := hw
      exact (tX7_mend_61 C ih _ _ _ _ _ hw)
set_option maxHeartbeats 4000000 in
theorem metX7_mend   (l : Launch) (D : va_G) (dA : Nat → ClassId) (ad : Nat → Nat)    {x1 : Int32} {x2 : Int32} {x3 : Int32} {x4 : Int32} {w : GW} {Q : Int32 → GW → Prop} (hw : PX7_mend x1 x2 x3 x4 w Q) : Met l yX7_mend (ws_ yX7_mend cX7_mend 10 (some .int)) (gR 5) (va_Pc [.ref (ad 0), .int x1, .int x2, .int x3, .int x4] (gB D dA 20 ad layM w)) (va_Qi Q (gZ D dA 20 ad layM) (gA 20 ad)) 0 0 (gA 20 ad) := by
  refine gm_of (L := [(0, .ref (ad 0)), (1, .int x1), (2, .int x2), (3, .int x3), (4, .int x4)]) (own := RX7) (by decide +kernel) rfl (Nat.le_of_ble_eq_true rfl) rfl rfl (fun p e s m below meth c C => ?_)
  unfold PX7_mend at hw
  refine at_aload_n C dX7_mend_0 rfl rfl ?_
  refine at_iconst C dX7_mend_1 ic_0 ?_
  refine at_puti (j := 0) C (Nat.le_of_ble_eq_true rfl) rfl rfl in_X7 (Nat.le_of_ble_eq_true rfl) rfl q687 tyX7 tyX7_ok nmX7 rfl rfl rfl dX7_mend_2 (fun w_15 ew_15 => ?_)
  have hw := hw w_15 ew_15
  refine at_aload_n C dX7_mend_5 rfl rfl ?_
  refine at_iload_n C dX7_mend_6 rfl rfl ?_
  refine at_iload_n C dX7_mend_7 rfl rfl ?_
  refine at_iload_n C dX7_mend_8 rfl rfl ?_
  refine at_callp (run_V (rest := []) (As := [.int x1, .int x2, .int x3]) C (metX7_isBall l D dA ad  hw) (lw_V q948 q950 qs49 q65 q951) dsX7_isBall (gR_ok (Nat.le_of_ble_eq_true rfl) (Nat.le_of_ble_eq_true rfl)) ⟨rfl, rfl⟩ ⟨Nat.le_refl 0, Nat.le_refl 0⟩ (Nat.le_of_ble_eq_true rfl) rfl rfl rfl rfl (Nat.le_of_ble_eq_true rfl) dX7_mend_9) (fun r_16  hw => ?_)
  refine at_if_eq (tgt := 25) C dX7_mend_12 (by decide) (fun c_17 => ?_) (fun c_17 => ?_)
  · have hw := hw.1 c_17
    refine at_ldc C q800 dX7_mend_25 ?_
    exact at_iret C rfl hw dX7_mend_27
  · have hw := hw.2 c_17
    refine at_iload C dX7_mend_15 rfl ?_
    refine at_iconst C dX7_mend_17 ic_0 ?_
    refine at_iconst C dX7_mend_18 ic_1 ?_
    refine at_callp (run_S (rest := []) (As := [.int x4, .int 0, .int 1]) C (metX7_in l D dA ad  hw) (lw_S q797 q798 q65 q799) dsX7_in (gR_ok (Nat.le_of_ble_eq_true rfl) (Nat.le_of_ble_eq_true rfl)) ⟨rfl, rfl⟩ ⟨Nat.le_refl 0, Nat.le_refl 0⟩ rfl rfl (Nat.le_of_ble_eq_true rfl) dX7_mend_19) (fun r_18  hw => ?_)
    refine at_if_ne (tgt := 28) C dX7_mend_22 (by decide) (fun c_19 => ?_) (fun c_19 => ?_)
    · have hw := hw.1 c_19
      refine at_aload_n C dX7_mend_28 rfl rfl ?_
      refine at_geti (j := 7) C (Nat.le_of_ble_eq_true rfl) rfl rfl in_X7 (Nat.le_of_ble_eq_true rfl) rfl q694 dX7_mend_29 ?_
      refine at_if_ne (tgt := 38) C dX7_mend_32 (by decide) (fun c_20 => ?_) (fun c_20 => ?_)
      · have hw := hw.1 c_20
        refine at_iconst C dX7_mend_38 ic_m1 ?_
        refine at_istore (L' := [(0, .ref (ad 0)), (1, .int x1), (2, .int x2), (3, .int x3), (4, .int x4), (5, .int (-1))]) C dX7_mend_39 (Nat.le_of_ble_eq_true rfl) rfl ?_
        refine at_bipush C dX7_mend_41 bp_10 ?_
        refine at_istore (L' := [(0, .ref (ad 0)), (1, .int x1), (2, .int x2), (3, .int x3), (4, .int x4), (5, .int (-1)), (6, .int 10)]) C dX7_mend_43 (Nat.le_of_ble_eq_true rfl) rfl ?_
        refine at_iconst C dX7_mend_45 ic_0 ?_
        refine at_istore (L' := [(0, .ref (ad 0)), (1, .int x1), (2, .int x2), (3, .int x3), (4, .int x4), (5, .int (-1)), (6, .int 10), (7, .int 0)]) C dX7_mend_46 (Nat.le_of_ble_eq_true rfl) rfl ?_
        obtain ⟨n_21, hw⟩ := hw
        exact (tX7_mend_48 C  _ _ _ _ _ hw)
      · have hw := hw.2 c_20
        refine at_ldc C q952 dX7_mend_35 ?_
        exact at_iret C rfl hw dX7_mend_37
    · have hw := hw.2 c_19
      refine at_ldc C q800 dX7_mend_25 ?_
      exact at_iret C rfl hw dX7_mend_27
set_option maxHeartbeats 4000000 in
theorem tX7_hand_70    {K36 : Int32 → Int32 → GW → Prop} {Q : Int32 → GW → Prop} (C : Cx p s m args meth c D dA cX7_hand 4 (some .int) RX7)    {x1 : Int32} {x3 : Int32} {s0 : Int32} {s1 : Int32} {w : GW} (hK36 : ∀ (x2 : Int32) (x3 : Int32) (w : GW), K36 x2 x3 w → gAtM p l e s m args below meth c D dA ad 6 (va_Qi Q (gZ D dA 20 ad layM) (gA 20 ad)) 4 36 [(0, .ref (ad 0)), (1, .int x1), (2, .int x2), (3, .int x3)] [] w) (hw : PX7_hand_70 K36 Q x1 x3 s0 s1 w) : gAtM p l e s m args below meth c D dA ad 6 (va_Qi Q (gZ D dA 20 ad layM) (gA 20 ad)) 4 70 [(0, .ref (ad 0)), (1, .int x1), (3, .int x3)] [.int s1, .int s0] w := by
  unfold PX7_hand_70 at hw
  refine at_ior C dX7_hand_70 ?_
  refine at_topi (fun v2_1 e2_1 => ?_)
  have hw := hw v2_1 e2_1
  refine at_istore_n (L' := [(0, .ref (ad 0)), (1, .int x1), (2, .int v2_1), (3, .int x3)]) C dX7_hand_71 rfl (Nat.le_of_ble_eq_true rfl) rfl ?_
  refine at_iinc (F := fun z_ => [(0, .ref (ad 0)), (1, .int x1), (2, .int v2_1), (3, .int z_)]) C dX7_hand_72 rfl ic_1 (Nat.le_of_ble_eq_true rfl) (fun _ => rfl) (fun v3_2 e3_2 => ?_)
  have hw := hw v3_2 e3_2
  refine at_goto (tgt := 36) C dX7_hand_75 (by decide) ?_
  exact hK36 _ _ _ hw
set_option maxHeartbeats 4000000 in
theorem tX7_hand_36     {Q : Int32 → GW → Prop} (C : Cx p s m args meth c D dA cX7_hand 4 (some .int) RX7)    {x1 : Int32}   : ∀ (n : Nat) (x2 : Int32) (x3 : Int32) (w : GW), PX7_hand_36 Q x1 n x2 x3 w → gAtM p l e s m args below meth c D dA ad 6 (va_Qi Q (gZ D dA 20 ad layM) (gA 20 ad)) 4 36 [(0, .ref (ad 0)), (1, .int x1), (2, .int x2), (3, .int x3)] [] w := by
  intro n
  induction n with
  | zero => intro x2 x3 w hw; exact False.elim hw
  | succ n ih =>
    intro x2 x3 w hw
    unfold PX7_hand_36 at hw
    refine at_iload_n C dX7_hand_36 rfl rfl ?_
    refine at_sipush C dX7_hand_37 sp_600 ?_
    refine at_icmp_ge (tgt := 78) C dX7_hand_40 (by decide) (fun c_3 => ?_) (fun c_3 => ?_)
    · have hw := hw.1 c_3
      refine at_iload_n C dX7_hand_78 rfl rfl ?_
      exact at_iret C rfl hw dX7_hand_79
    · have hw := hw.2 c_3
      refine at_iload_n C dX7_hand_43 rfl rfl ?_
      refine at_aload_n C dX7_hand_44 rfl rfl ?_
      refine at_aload_n C dX7_hand_45 rfl rfl ?_
      refine at_getr (j := 14) (r := 4) C (Nat.le_of_ble_eq_true rfl) rfl rfl in_X7 (Nat.le_of_ble_eq_true rfl) rfl q701 dX7_hand_46 ?_
      refine at_bipush C dX7_hand_49 bp_45 ?_
      refine at_iald C (Nat.le_of_ble_eq_true rfl) rfl vk_45_49 tk_45 dX7_hand_51 ?_
      refine at_iload_n C dX7_hand_52 rfl rfl ?_
      refine at_calli (run_V (rest := [.int x2]) (As := [.int (w 4 45), .int x3]) C (metX7_goesBy l D dA ad  hw) (lw_V q865 q867 qs36 q65 q868) dsX7_goesBy (gR_ok (Nat.le_of_ble_eq_true rfl) (Nat.le_of_ble_eq_true rfl)) ⟨rfl, rfl⟩ ⟨Nat.le_refl 0, Nat.le_refl 0⟩ (Nat.le_of_ble_eq_true rfl) rfl rfl rfl rfl (Nat.le_of_ble_eq_true rfl) dX7_hand_53) (fun r_4 w_5 hw => ?_)
      refine at_iload_n C dX7_hand_56 rfl rfl ?_
      refine at_icmp_ne (tgt := 69) C dX7_hand_57 (by decide) (fun c_6 => ?_) (fun c_6 => ?_)
      · have hw := hw.1 c_6
        refine at_iconst C dX7_hand_69 ic_0 ?_
        exact at_sub (lv_pickm [0, 1, 3] rfl) (tX7_hand_70 C ih hw)
      · have hw := hw.2 c_6
        refine at_iconst C dX7_hand_60 ic_1 ?_
        refine at_iload_n C dX7_hand_61 rfl rfl ?_
        refine at_bipush C dX7_hand_62 bp_120 ?_
        refine at_idiv C dX7_hand_64 nz_120 ?_
        refine at_ishl C dX7_hand_65 ?_
        refine at_goto (tgt := 70) C dX7_hand_66 (by decide) ?_
        exact at_sub (lv_pickm [0, 1, 3] rfl) (tX7_hand_70 C ih hw)
set_option maxHeartbeats 4000000 in
theorem metX7_hand   (l : Launch) (D : va_G) (dA : Nat → ClassId) (ad : Nat → Nat)    {x1 : Int32} {w : GW} {Q : Int32 → GW → Prop} (hw : PX7_hand x1 w Q) : Met l yX7_hand (ws_ yX7_hand cX7_hand 4 (some .int)) (gR 6) (va_Pc [.ref (ad 0), .int x1] (gB D dA 20 ad layM w)) (va_Qi Q (gZ D dA 20 ad layM) (gA 20 ad)) 0 0 (gA 20 ad) := by
  refine gm_of (L := [(0, .ref (ad 0)), (1, .int x1)]) (own := RX7) (by decide +kernel) rfl (Nat.le_of_ble_eq_true rfl) rfl rfl (fun p e s m below meth c C => ?_)
  unfold PX7_hand at hw
  refine at_aload_n C dX7_hand_0 rfl rfl ?_
  refine at_iconst C dX7_hand_1 ic_0 ?_
  refine at_puti (j := 0) C (Nat.le_of_ble_eq_true rfl) rfl rfl in_X7 (Nat.le_of_ble_eq_true rfl) rfl q687 tyX7 tyX7_ok nmX7 rfl rfl rfl dX7_hand_2 (fun w_7 ew_7 => ?_)
  have hw := hw w_7 ew_7
  refine at_aload_n C dX7_hand_5 rfl rfl ?_
  refine at_iload_n C dX7_hand_6 rfl rfl ?_
  refine at_callp (run_V (rest := []) (As := [.int x1]) C (metX7_isSet l D dA ad  hw) (lw_V q1009 q1011 qs54 q65 q1012) dsX7_isSet (gR_ok (Nat.le_of_ble_eq_true rfl) (Nat.le_of_ble_eq_true rfl)) ⟨rfl, rfl⟩ ⟨Nat.le_refl 0, Nat.le_refl 0⟩ (Nat.le_of_ble_eq_true rfl) rfl rfl rfl rfl (Nat.le_of_ble_eq_true rfl) dX7_hand_7) (fun r_8  hw => ?_)
  refine at_if_ne (tgt := 16) C dX7_hand_10 (by decide) (fun c_9 => ?_) (fun c_9 => ?_)
  · have hw := hw.1 c_9
    refine at_aload_n C dX7_hand_16 rfl rfl ?_
    refine at_geti (j := 7) C (Nat.le_of_ble_eq_true rfl) rfl rfl in_X7 (Nat.le_of_ble_eq_true rfl) rfl q694 dX7_hand_17 ?_
    refine at_if_ne (tgt := 26) C dX7_hand_20 (by decide) (fun c_10 => ?_) (fun c_10 => ?_)
    · have hw := hw.1 c_10
      refine at_aload_n C dX7_hand_26 rfl rfl ?_
      refine at_iconst C dX7_hand_27 ic_0 ?_
      refine at_iconst C dX7_hand_28 ic_0 ?_
      refine at_callv (run_V (rest := []) (As := [.int 0, .int 0]) C (metX7_sets l D dA ad  hw) (lw_V q854 q856 qs34 q65 q857) dsX7_sets (gR_ok (Nat.le_of_ble_eq_true rfl) (Nat.le_of_ble_eq_true rfl)) ⟨rfl, rfl⟩ ⟨Nat.le_refl 0, Nat.le_refl 0⟩ (Nat.le_of_ble_eq_true rfl) rfl rfl rfl rfl (Nat.le_of_ble_eq_true rfl) dX7_hand_29) (fun  w_12 hw => ?_)
      refine at_iconst C dX7_hand_32 ic_0 ?_
      refine at_istore_n (L' := [(0, .ref (ad 0)), (1, .int x1), (2, .int 0)]) C dX7_hand_33 rfl (Nat.le_of_ble_eq_true rfl) rfl ?_
      refine at_iconst C dX7_hand_34 ic_0 ?_
      refine at_istore_n (L' := [(0, .ref (ad 0)), (1, .int x1), (2, .int 0), (3, .int 0)]) C dX7_hand_35 rfl (Nat.le_of_ble_eq_true rfl) rfl ?_
      obtain ⟨n_13, hw⟩ := hw
      exact (tX7_hand_36 C  _ _ _ _ hw)
    · have hw := hw.2 c_10
      refine at_ldc C q952 dX7_hand_23 ?_
      exact at_iret C rfl hw dX7_hand_25
  · have hw := hw.2 c_9
    refine at_ldc C q928 dX7_hand_13 ?_
    exact at_iret C rfl hw dX7_hand_15
set_option maxHeartbeats 4000000 in
theorem tX7_ask_152    {K41 : Int32 → Int32 → Int32 → GW → Prop} {Q : Int32 → GW → Prop} (C : Cx p s m args meth c D dA cX7_ask 7 (some .int) RX7)    {x1 : Int32} {x2 : Int32} {x4 : Int32} {s0 : Int32} {w : GW} (hK41 : ∀ (x2 : Int32) (x3 : Int32) (x4 : Int32) (w : GW), K41 x2 x3 x4 w → gAtM p l e s m args below meth c D dA ad 6 (va_Qi Q (gZ D dA 20 ad layM) (gA 20 ad)) 7 41 [(0, .ref (ad 0)), (1, .int x1), (2, .int x2), (3, .int x3), (4, .int x4)] [] w) (hw : PX7_ask_152 K41 Q x1 x2 x4 s0 w) : gAtM p l e s m args below meth c D dA ad 6 (va_Qi Q (gZ D dA 20 ad layM) (gA 20 ad)) 7 152 [(0, .ref (ad 0)), (1, .int x1), (2, .int x2), (4, .int x4)] [.int s0] w := by
  unfold PX7_ask_152 at hw
  refine at_istore_n (L' := [(0, .ref (ad 0)), (1, .int x1), (2, .int x2), (3, .int s0), (4, .int x4)]) C dX7_ask_152 rfl (Nat.le_of_ble_eq_true rfl) rfl ?_
  refine at_iinc (F := fun z_ => [(0, .ref (ad 0)), (1, .int x1), (2, .int x2), (3, .int s0), (4, .int z_)]) C dX7_ask_153 rfl ic_1 (Nat.le_of_ble_eq_true rfl) (fun _ => rfl) (fun v4_1 e4_1 => ?_)
  have hw := hw v4_1 e4_1
  refine at_goto (tgt := 41) C dX7_ask_156 (by decide) ?_
  exact hK41 _ _ _ _ hw
set_option maxHeartbeats 4000000 in
theorem tX7_ask_139    {K41 : Int32 → Int32 → Int32 → GW → Prop} {Q : Int32 → GW → Prop} (C : Cx p s m args meth c D dA cX7_ask 7 (some .int) RX7)    {x1 : Int32} {x3 : Int32} {x4 : Int32} {x6 : Int32} {s0 : Int32} {w : GW} (hK41 : ∀ (x2 : Int32) (x3 : Int32) (x4 : Int32) (w : GW), K41 x2 x3 x4 w → gAtM p l e s m args below meth c D dA ad 6 (va_Qi Q (gZ D dA 20 ad layM) (gA 20 ad)) 7 41 [(0, .ref (ad 0)), (1, .int x1), (2, .int x2), (3, .int x3), (4, .int x4)] [] w) (hw : PX7_ask_139 K41 Q x1 x3 x4 x6 s0 w) : gAtM p l e s m args below meth c D dA ad 6 (va_Qi Q (gZ D dA 20 ad layM) (gA 20 ad)) 7 139 [(0, .ref (ad 0)), (1, .int x1), (3, .int x3), (4, .int x4), (6, .int x6)] [.int s0] w := by
  unfold PX7_ask_139 at hw
  refine at_istore_n (L' := [(0, .ref (ad 0)), (1, .int x1), (2, .int s0), (3, .int x3), (4, .int x4), (6, .int x6)]) C dX7_ask_139 rfl (Nat.le_of_ble_eq_true rfl) rfl ?_
  refine at_iload C dX7_ask_140 rfl ?_
  refine at_iload_n C dX7_ask_142 rfl rfl ?_
  refine at_icmp_ge (tgt := 151) C dX7_ask_143 (by decide) (fun c_2 => ?_) (fun c_2 => ?_)
  · have hw := hw.1 c_2
    refine at_iload_n C dX7_ask_151 rfl rfl ?_
    exact at_sub (lv_pickm [0, 1, 2, 4] rfl) (tX7_ask_152 C hK41 hw)
  · have hw := hw.2 c_2
    refine at_iload C dX7_ask_146 rfl ?_
    refine at_goto (tgt := 152) C dX7_ask_148 (by decide) ?_
    exact at_sub (lv_pickm [0, 1, 2, 4] rfl) (tX7_ask_152 C hK41 hw)
set_option maxHeartbeats 4000000 in
theorem tX7_ask_125    {K41 : Int32 → Int32 → Int32 → GW → Prop} {Q : Int32 → GW → Prop} (C : Cx p s m args meth c D dA cX7_ask 7 (some .int) RX7)    {x1 : Int32} {x2 : Int32} {x3 : Int32} {x4 : Int32} {s0 : Int32} {w : GW} (hK41 : ∀ (x2 : Int32) (x3 : Int32) (x4 : Int32) (w : GW), K41 x2 x3 x4 w → gAtM p l e s m args below meth c D dA ad 6 (va_Qi Q (gZ D dA 20 ad layM) (gA 20 ad)) 7 41 [(0, .ref (ad 0)), (1, .int x1), (2, .int x2), (3, .int x3), (4, .int x4)] [] w) (hw : PX7_ask_125 K41 Q x1 x2 x3 x4 s0 w) : gAtM p l e s m args below meth c D dA ad 6 (va_Qi Q (gZ D dA 20 ad layM) (gA 20 ad)) 7 125 [(0, .ref (ad 0)), (1, .int x1), (2, .int x2), (3, .int x3), (4, .int x4)] [.int s0] w := by
  unfold PX7_ask_125 at hw
  refine at_istore (L' := [(0, .ref (ad 0)), (1, .int x1), (2, .int x2), (3, .int x3), (4, .int x4), (6, .int s0)]) C dX7_ask_125 (Nat.le_of_ble_eq_true rfl) rfl ?_
  refine at_iload C dX7_ask_127 rfl ?_
  refine at_iload_n C dX7_ask_129 rfl rfl ?_
  refine at_icmp_ge (tgt := 138) C dX7_ask_130 (by decide) (fun c_3 => ?_) (fun c_3 => ?_)
  · have hw := hw.1 c_3
    refine at_iload_n C dX7_ask_138 rfl rfl ?_
    exact at_sub (lv_pickm [0, 1, 3, 4, 5] rfl) (tX7_ask_139 C hK41 hw)
  · have hw := hw.2 c_3
    refine at_iload C dX7_ask_133 rfl ?_
    refine at_goto (tgt := 139) C dX7_ask_135 (by decide) ?_
    exact at_sub (lv_pickm [0, 1, 3, 4, 5] rfl) (tX7_ask_139 C hK41 hw)
set_option maxHeartbeats 4000000 in
theorem tX7_ask_96    {K41 : Int32 → Int32 → Int32 → GW → Prop} {K56 : Int32 → Int32 → GW → Prop} {Q : Int32 → GW → Prop} (C : Cx p s m args meth c D dA cX7_ask 7 (some .int) RX7)    {x1 : Int32} {x2 : Int32} {x3 : Int32} {x4 : Int32} {x6 : Int32} {s0 : Int32} {s1 : Int32} {w : GW} (hK41 : ∀ (x2 : Int32) (x3 : Int32) (x4 : Int32) (w : GW), K41 x2 x3 x4 w → gAtM p l e s m args below meth c D dA ad 6 (va_Qi Q (gZ D dA 20 ad layM) (gA 20 ad)) 7 41 [(0, .ref (ad 0)), (1, .int x1), (2, .int x2), (3, .int x3), (4, .int x4)] [] w) (hK56 : ∀ (x5 : Int32) (x6 : Int32) (w : GW), K56 x5 x6 w → gAtM p l e s m args below meth c D dA ad 6 (va_Qi Q (gZ D dA 20 ad layM) (gA 20 ad)) 7 56 [(0, .ref (ad 0)), (1, .int x1), (2, .int x2), (3, .int x3), (4, .int x4), (5, .int x5), (6, .int x6)] [] w) (hw : PX7_ask_96 K41 K56 Q x1 x2 x3 x4 x6 s0 s1 w) : gAtM p l e s m args below meth c D dA ad 6 (va_Qi Q (gZ D dA 20 ad layM) (gA 20 ad)) 7 96 [(0, .ref (ad 0)), (1, .int x1), (2, .int x2), (3, .int x3), (4, .int x4), (6, .int x6)] [.int s1, .int s0] w := by
  unfold PX7_ask_96 at hw
  refine at_iadd C dX7_ask_96 ?_
  refine at_topi (fun v5_4 e5_4 => ?_)
  have hw := hw v5_4 e5_4
  refine at_istore (L' := [(0, .ref (ad 0)), (1, .int x1), (2, .int x2), (3, .int x3), (4, .int x4), (5, .int v5_4), (6, .int x6)]) C dX7_ask_97 (Nat.le_of_ble_eq_true rfl) rfl ?_
  refine at_iinc (F := fun z_ => [(0, .ref (ad 0)), (1, .int x1), (2, .int x2), (3, .int x3), (4, .int x4), (5, .int v5_4), (6, .int z_)]) C dX7_ask_99 rfl ic_1 (Nat.le_of_ble_eq_true rfl) (fun _ => rfl) (fun v6_5 e6_5 => ?_)
  have hw := hw v6_5 e6_5
  refine at_goto (tgt := 56) C dX7_ask_102 (by decide) ?_
  exact hK56 _ _ _ hw
set_option maxHeartbeats 4000000 in
theorem tX7_ask_56    {K41 : Int32 → Int32 → Int32 → GW → Prop} {Q : Int32 → GW → Prop} (C : Cx p s m args meth c D dA cX7_ask 7 (some .int) RX7)    {x1 : Int32} {x2 : Int32} {x3 : Int32} {x4 : Int32}  (hK41 : ∀ (x2 : Int32) (x3 : Int32) (x4 : Int32) (w : GW), K41 x2 x3 x4 w → gAtM p l e s m args below meth c D dA ad 6 (va_Qi Q (gZ D dA 20 ad layM) (gA 20 ad)) 7 41 [(0, .ref (ad 0)), (1, .int x1), (2, .int x2), (3, .int x3), (4, .int x4)] [] w) : ∀ (n : Nat) (x5 : Int32) (x6 : Int32) (w : GW), PX7_ask_56 K41 Q x1 x2 x3 x4 n x5 x6 w → gAtM p l e s m args below meth c D dA ad 6 (va_Qi Q (gZ D dA 20 ad layM) (gA 20 ad)) 7 56 [(0, .ref (ad 0)), (1, .int x1), (2, .int x2), (3, .int x3), (4, .int x4), (5, .int x5), (6, .int x6)] [] w := by
  intro n
  induction n with
  | zero => intro x5 x6 w hw; exact False.elim hw
  | succ n ih =>
    intro x5 x6 w hw
    unfold PX7_ask_56 at hw
    refine at_iload C dX7_ask_56 rfl ?_
    refine at_bipush C dX7_ask_58 bp_120 ?_
    refine at_icmp_ge (tgt := 105) C dX7_ask_60 (by decide) (fun c_6 => ?_) (fun c_6 => ?_)
    · have hw := hw.1 c_6
      refine at_iload C dX7_ask_105 rfl ?_
      refine at_bipush C dX7_ask_107 bp_120 ?_
      refine at_iload C dX7_ask_109 rfl ?_
      refine at_isub C dX7_ask_111 ?_
      refine at_icmp_le (tgt := 120) C dX7_ask_112 (by decide) (fun c_7 => ?_) (fun c_7 => ?_)
      · have hw := hw.1 c_7
        refine at_bipush C dX7_ask_120 bp_120 ?_
        refine at_iload C dX7_ask_122 rfl ?_
        refine at_isub C dX7_ask_124 ?_
        exact at_sub (lv_pickm [0, 1, 2, 3, 4] rfl) (tX7_ask_125 C hK41 hw)
      · have hw := hw.2 c_7
        refine at_iload C dX7_ask_115 rfl ?_
        refine at_goto (tgt := 125) C dX7_ask_117 (by decide) ?_
        exact at_sub (lv_pickm [0, 1, 2, 3, 4] rfl) (tX7_ask_125 C hK41 hw)
    · have hw := hw.2 c_6
      refine at_iload C dX7_ask_63 rfl ?_
      refine at_aload_n C dX7_ask_65 rfl rfl ?_
      refine at_aload_n C dX7_ask_66 rfl rfl ?_
      refine at_getr (j := 14) (r := 4) C (Nat.le_of_ble_eq_true rfl) rfl rfl in_X7 (Nat.le_of_ble_eq_true rfl) rfl q701 dX7_ask_67 ?_
      refine at_bipush C dX7_ask_70 bp_45 ?_
      refine at_iald C (Nat.le_of_ble_eq_true rfl) rfl vk_45_49 tk_45 dX7_ask_72 ?_
      refine at_bipush C dX7_ask_73 bp_120 ?_
      refine at_iload_n C dX7_ask_75 rfl rfl ?_
      refine at_imul C dX7_ask_76 ?_
      refine at_iload C dX7_ask_77 rfl ?_
      refine at_iadd C dX7_ask_79 ?_
      refine at_calli (run_V (rest := [.int x5]) (As := [.int (w 4 45), .int ((120 * x1) + x6)]) C (metX7_goesBy l D dA ad  hw) (lw_V q865 q867 qs36 q65 q868) dsX7_goesBy (gR_ok (Nat.le_of_ble_eq_true rfl) (Nat.le_of_ble_eq_true rfl)) ⟨rfl, rfl⟩ ⟨Nat.le_refl 0, Nat.le_refl 0⟩ (Nat.le_of_ble_eq_true rfl) rfl rfl rfl rfl (Nat.le_of_ble_eq_true rfl) dX7_ask_80) (fun r_8 w_9 hw => ?_)
      refine at_iload C dX7_ask_83 rfl ?_
      refine at_callp (run_S (rest := [.int x5]) (As := [.int r_8, .int x4]) C (metX7_has l D dA ad  hw) (lw_S q879 q880 q65 q881) dsX7_has (gR_ok (Nat.le_of_ble_eq_true rfl) (Nat.le_of_ble_eq_true rfl)) ⟨rfl, rfl⟩ ⟨Nat.le_refl 0, Nat.le_refl 0⟩ rfl rfl (Nat.le_of_ble_eq_true rfl) dX7_ask_85) (fun r_10  hw => ?_)
      refine at_if_eq (tgt := 95) C dX7_ask_88 (by decide) (fun c_11 => ?_) (fun c_11 => ?_)
      · have hw := hw.1 c_11
        refine at_iconst C dX7_ask_95 ic_0 ?_
        exact at_sub (lv_pickm [0, 1, 2, 3, 4, 6] rfl) (tX7_ask_96 C hK41 ih hw)
      · have hw := hw.2 c_11
        refine at_iconst C dX7_ask_91 ic_1 ?_
        refine at_goto (tgt := 96) C dX7_ask_92 (by decide) ?_
        exact at_sub (lv_pickm [0, 1, 2, 3, 4, 6] rfl) (tX7_ask_96 C hK41 ih hw)
set_option maxHeartbeats 4000000 in
theorem tX7_ask_41     {Q : Int32 → GW → Prop} (C : Cx p s m args meth c D dA cX7_ask 7 (some .int) RX7)    {x1 : Int32}   : ∀ (n : Nat) (x2 : Int32) (x3 : Int32) (x4 : Int32) (w : GW), PX7_ask_41 Q x1 n x2 x3 x4 w → gAtM p l e s m args below meth c D dA ad 6 (va_Qi Q (gZ D dA 20 ad layM) (gA 20 ad)) 7 41 [(0, .ref (ad 0)), (1, .int x1), (2, .int x2), (3, .int x3), (4, .int x4)] [] w := by
  intro n
  induction n with
  | zero => intro x2 x3 x4 w hw; exact False.elim hw
  | succ n ih =>
    intro x2 x3 x4 w hw
    unfold PX7_ask_41 at hw
    refine at_iload C dX7_ask_41 rfl ?_
    refine at_aload_n C dX7_ask_43 rfl rfl ?_
    refine at_geti (j := 9) C (Nat.le_of_ble_eq_true rfl) rfl rfl in_X7 (Nat.le_of_ble_eq_true rfl) rfl q696 dX7_ask_44 ?_
    refine at_icmp_ge (tgt := 159) C dX7_ask_47 (by decide) (fun c_12 => ?_) (fun c_12 => ?_)
    · have hw := hw.1 c_12
      refine at_iload_n C dX7_ask_159 rfl rfl ?_
      exact at_iret C rfl hw dX7_ask_160
    · have hw := hw.2 c_12
      refine at_iconst C dX7_ask_50 ic_0 ?_
      refine at_istore (L' := [(0, .ref (ad 0)), (1, .int x1), (2, .int x2), (3, .int x3), (4, .int x4), (5, .int 0)]) C dX7_ask_51 (Nat.le_of_ble_eq_true rfl) rfl ?_
      refine at_iconst C dX7_ask_53 ic_0 ?_
      refine at_istore (L' := [(0, .ref (ad 0)), (1, .int x1), (2, .int x2), (3, .int x3), (4, .int x4), (5, .int 0), (6, .int 0)]) C dX7_ask_54 (Nat.le_of_ble_eq_true rfl) rfl ?_
      obtain ⟨n_13, hw⟩ := hw
      exact (tX7_ask_56 C ih _ _ _ _ hw)
set_option maxHeartbeats 4000000 in
theorem metX7_ask   (l : Launch) (D : va_G) (dA : Nat → ClassId) (ad : Nat → Nat)    {x1 : Int32} {w : GW} {Q : Int32 → GW → Prop} (hw : PX7_ask x1 w Q) : Met l yX7_ask (ws_ yX7_ask cX7_ask 7 (some .int)) (gR 6) (va_Pc [.ref (ad 0), .int x1] (gB D dA 20 ad layM w)) (va_Qi Q (gZ D dA 20 ad layM) (gA 20 ad)) 0 0 (gA 20 ad) := by
  refine gm_of (L := [(0, .ref (ad 0)), (1, .int x1)]) (own := RX7) (by decide +kernel) rfl (Nat.le_of_ble_eq_true rfl) rfl rfl (fun p e s m below meth c C => ?_)
  unfold PX7_ask at hw
  refine at_aload_n C dX7_ask_0 rfl rfl ?_
  refine at_iconst C dX7_ask_1 ic_0 ?_
  refine at_puti (j := 0) C (Nat.le_of_ble_eq_true rfl) rfl rfl in_X7 (Nat.le_of_ble_eq_true rfl) rfl q687 tyX7 tyX7_ok nmX7 rfl rfl rfl dX7_ask_2 (fun w_14 ew_14 => ?_)
  have hw := hw w_14 ew_14
  refine at_iload_n C dX7_ask_5 rfl rfl ?_
  refine at_iconst C dX7_ask_6 ic_0 ?_
  refine at_iconst C dX7_ask_7 ic_4 ?_
  refine at_callp (run_S (rest := []) (As := [.int x1, .int 0, .int 4]) C (metX7_in l D dA ad  hw) (lw_S q797 q798 q65 q799) dsX7_in (gR_ok (Nat.le_of_ble_eq_true rfl) (Nat.le_of_ble_eq_true rfl)) ⟨rfl, rfl⟩ ⟨Nat.le_refl 0, Nat.le_refl 0⟩ rfl rfl (Nat.le_of_ble_eq_true rfl) dX7_ask_8) (fun r_15  hw => ?_)
  refine at_if_ne (tgt := 17) C dX7_ask_11 (by decide) (fun c_16 => ?_) (fun c_16 => ?_)
  · have hw := hw.1 c_16
    refine at_aload_n C dX7_ask_17 rfl rfl ?_
    refine at_geti (j := 7) C (Nat.le_of_ble_eq_true rfl) rfl rfl in_X7 (Nat.le_of_ble_eq_true rfl) rfl q694 dX7_ask_18 ?_
    refine at_if_ne (tgt := 27) C dX7_ask_21 (by decide) (fun c_17 => ?_) (fun c_17 => ?_)
    · have hw := hw.1 c_17
      refine at_aload_n C dX7_ask_27 rfl rfl ?_
      refine at_iconst C dX7_ask_28 ic_0 ?_
      refine at_iconst C dX7_ask_29 ic_0 ?_
      refine at_callv (run_V (rest := []) (As := [.int 0, .int 0]) C (metX7_sets l D dA ad  hw) (lw_V q854 q856 qs34 q65 q857) dsX7_sets (gR_ok (Nat.le_of_ble_eq_true rfl) (Nat.le_of_ble_eq_true rfl)) ⟨rfl, rfl⟩ ⟨Nat.le_refl 0, Nat.le_refl 0⟩ (Nat.le_of_ble_eq_true rfl) rfl rfl rfl rfl (Nat.le_of_ble_eq_true rfl) dX7_ask_30) (fun  w_19 hw => ?_)
      refine at_iconst C dX7_ask_33 ic_m1 ?_
      refine at_istore_n (L' := [(0, .ref (ad 0)), (1, .int x1), (2, .int (-1))]) C dX7_ask_34 rfl (Nat.le_of_ble_eq_true rfl) rfl ?_
      refine at_bipush C dX7_ask_35 bp_120 ?_
      refine at_istore_n (L' := [(0, .ref (ad 0)), (1, .int x1), (2, .int (-1)), (3, .int 120)]) C dX7_ask_37 rfl (Nat.le_of_ble_eq_true rfl) rfl ?_
      refine at_iconst C dX7_ask_38 ic_0 ?_
      refine at_istore (L' := [(0, .ref (ad 0)), (1, .int x1), (2, .int (-1)), (3, .int 120), (4, .int 0)]) C dX7_ask_39 (Nat.le_of_ble_eq_true rfl) rfl ?_
      obtain ⟨n_20, hw⟩ := hw
      exact (tX7_ask_41 C  _ _ _ _ _ hw)
    · have hw := hw.2 c_17
      refine at_ldc C q952 dX7_ask_24 ?_
      exact at_iret C rfl hw dX7_ask_26
  · have hw := hw.2 c_16
    refine at_ldc C q800 dX7_ask_14 ?_
    exact at_iret C rfl hw dX7_ask_16
set_option maxHeartbeats 4000000 in
theorem tX7_calm_35     {Q : Int32 → GW → Prop} (C : Cx p s m args meth c D dA cX7_calm 6 (some .int) RX7)    {x1 : Int32} {x2 : Int32} {w : GW}  : ∀ (n : Nat) (x3 : Int64) (x5 : Int32), PX7_calm_35 Q x1 x2 w n x3 x5 → gAtM p l e s m args below meth c D dA ad 2 (va_Qi Q (gZ D dA 20 ad layM) (gA 20 ad)) 6 35 [(1, .int x1), (2, .int x2), (3, .long x3), (5, .int x5)] [] w := by
  intro n
  induction n with
  | zero => intro x3 x5 hw; exact False.elim hw
  | succ n ih =>
    intro x3 x5 hw
    unfold PX7_calm_35 at hw
    refine at_iload C dX7_calm_35 rfl ?_
    refine at_iload_n C dX7_calm_37 rfl rfl ?_
    refine at_icmp_ge (tgt := 56) C dX7_calm_38 (by decide) (fun c_1 => ?_) (fun c_1 => ?_)
    · have hw := hw.1 c_1
      refine at_lload_n C dX7_calm_56 rfl rfl ?_
      refine at_l2i C dX7_calm_57 ?_
      exact at_iret C rfl hw dX7_calm_58
    · have hw := hw.2 c_1
      refine at_lload_n C dX7_calm_41 rfl rfl ?_
      refine at_iload_n C dX7_calm_42 rfl rfl ?_
      refine at_i2l C dX7_calm_43 ?_
      refine at_lmul C dX7_calm_44 ?_
      refine at_ldc2 C q1038 dX7_calm_45 ?_
      refine at_ldiv C dX7_calm_48 (by decide) ?_
      refine at_topl (fun v3_2 e3_2 => ?_)
      have hw := hw v3_2 e3_2
      refine at_lstore_n (L' := [(1, .int x1), (2, .int x2), (3, .long v3_2), (5, .int x5)]) C dX7_calm_49 rfl (Nat.le_of_ble_eq_true rfl) rfl ?_
      refine at_iinc (F := fun z_ => [(1, .int x1), (2, .int x2), (3, .long v3_2), (5, .int z_)]) C dX7_calm_50 rfl ic_1 (Nat.le_of_ble_eq_true rfl) (fun _ => rfl) (fun v5_3 e5_3 => ?_)
      have hw := hw v5_3 e5_3
      refine at_goto (tgt := 35) C dX7_calm_53 (by decide) ?_
      exact ih _ _ hw
set_option maxHeartbeats 4000000 in
theorem metX7_calm   (l : Launch) (D : va_G) (dA : Nat → ClassId) (ad : Nat → Nat)    {x1 : Int32} {x2 : Int32} {w : GW} {Q : Int32 → GW → Prop} (hw : PX7_calm x1 x2 w Q) : Met l yX7_calm (ws_ yX7_calm cX7_calm 6 (some .int)) (gR 2) (va_Pc [.ref (ad 0), .int x1, .int x2] (gB D dA 20 ad layM w)) (va_Qi Q (gZ D dA 20 ad layM) (gA 20 ad)) 0 0 (gA 20 ad) := by
  refine gm_of (L := [(0, .ref (ad 0)), (1, .int x1), (2, .int x2)]) (own := RX7) (by decide +kernel) rfl (Nat.le_of_ble_eq_true rfl) rfl rfl (fun p e s m below meth c C => ?_)
  unfold PX7_calm at hw
  refine at_aload_n C dX7_calm_0 rfl rfl ?_
  refine at_iconst C dX7_calm_1 ic_0 ?_
  refine at_puti (j := 0) C (Nat.le_of_ble_eq_true rfl) rfl rfl in_X7 (Nat.le_of_ble_eq_true rfl) rfl q687 tyX7 tyX7_ok nmX7 rfl rfl rfl dX7_calm_2 (fun w_4 ew_4 => ?_)
  have hw := hw w_4 ew_4
  refine at_iload_n C dX7_calm_5 rfl rfl ?_
  refine at_iconst C dX7_calm_6 ic_0 ?_
  refine at_bipush C dX7_calm_7 bp_60 ?_
  refine at_callp (run_S (rest := []) (As := [.int x1, .int 0, .int 60]) C (metX7_in l D dA ad  hw) (lw_S q797 q798 q65 q799) dsX7_in (gR_ok (Nat.le_of_ble_eq_true rfl) (Nat.le_of_ble_eq_true rfl)) ⟨rfl, rfl⟩ ⟨Nat.le_refl 0, Nat.le_refl 0⟩ rfl rfl (Nat.le_of_ble_eq_true rfl) dX7_calm_9) (fun r_5  hw => ?_)
  refine at_if_eq (tgt := 25) C dX7_calm_12 (by decide) (fun c_6 => ?_) (fun c_6 => ?_)
  · have hw := hw.1 c_6
    refine at_ldc C q800 dX7_calm_25 ?_
    exact at_iret C rfl hw dX7_calm_27
  · have hw := hw.2 c_6
    refine at_iload_n C dX7_calm_15 rfl rfl ?_
    refine at_iconst C dX7_calm_16 ic_0 ?_
    refine at_bipush C dX7_calm_17 bp_100 ?_
    refine at_callp (run_S (rest := []) (As := [.int x2, .int 0, .int 100]) C (metX7_in l D dA ad  hw) (lw_S q797 q798 q65 q799) dsX7_in (gR_ok (Nat.le_of_ble_eq_true rfl) (Nat.le_of_ble_eq_true rfl)) ⟨rfl, rfl⟩ ⟨Nat.le_refl 0, Nat.le_refl 0⟩ rfl rfl (Nat.le_of_ble_eq_true rfl) dX7_calm_19) (fun r_7  hw => ?_)
    refine at_if_ne (tgt := 28) C dX7_calm_22 (by decide) (fun c_8 => ?_) (fun c_8 => ?_)
    · have hw := hw.1 c_8
      refine at_ldc2 C q1037 dX7_calm_28 ?_
      refine at_topl (fun v3_9 e3_9 => ?_)
      have hw := hw v3_9 e3_9
      refine at_lstore_n (L' := [(0, .ref (ad 0)), (1, .int x1), (2, .int x2), (3, .long v3_9)]) C dX7_calm_31 rfl (Nat.le_of_ble_eq_true rfl) rfl ?_
      refine at_iconst C dX7_calm_32 ic_0 ?_
      refine at_istore (L' := [(0, .ref (ad 0)), (1, .int x1), (2, .int x2), (3, .long v3_9), (5, .int 0)]) C dX7_calm_33 (Nat.le_of_ble_eq_true rfl) rfl ?_
      obtain ⟨n_10, hw⟩ := hw
      exact at_sub (lv_pickm [1, 2, 3, 4] rfl) (tX7_calm_35 C  _ _ _ hw)
    · have hw := hw.2 c_8
      refine at_ldc C q800 dX7_calm_25 ?_
      exact at_iret C rfl hw dX7_calm_27
end GWalk
