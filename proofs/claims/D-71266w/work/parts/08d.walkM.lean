/-! the walks of the reference -/
set_option maxRecDepth 100000
section GWalk
variable {p : Program} {l : Launch} {e : Env} {s : State} {m : MethodId} {args : Array Value} {below : List Frame} {meth : Method} {c : Code} {D : va_G} {dA : Nat → ClassId} {ad : Nat → Nat}
set_option maxHeartbeats 4000000 in
theorem metX7_write   (l : Launch) (D : va_G) (dA : Nat → ClassId) (ad : Nat → Nat)    {x1 : Int32} {x2 : Int32} {w : GW} {Q : Int32 → GW → Prop} (hw : PX7_write x1 x2 w Q) : Met l yX7_write (ws_ yX7_write cX7_write 3 (some .int)) (gR 3) (va_Pc [.ref (ad 0), .int x1, .int x2] (gB D dA 20 ad layM w)) (va_Qi Q (gZ D dA 20 ad layM) (gA 20 ad)) 0 0 (gA 20 ad) := by
  refine gm_of (L := [(0, .ref (ad 0)), (1, .int x1), (2, .int x2)]) (own := RX7) (by decide +kernel) rfl (Nat.le_of_ble_eq_true rfl) rfl rfl (fun p e s m below meth c C => ?_)
  unfold PX7_write at hw
  refine at_aload_n C dX7_write_0 rfl rfl ?_
  refine at_iconst C dX7_write_1 ic_0 ?_
  refine at_puti (j := 0) C (Nat.le_of_ble_eq_true rfl) rfl rfl in_X7 (Nat.le_of_ble_eq_true rfl) rfl q687 tyX7 tyX7_ok nmX7 rfl rfl rfl dX7_write_2 (fun w_1 ew_1 => ?_)
  have hw := hw w_1 ew_1
  refine at_aload_n C dX7_write_5 rfl rfl ?_
  refine at_iload_n C dX7_write_6 rfl rfl ?_
  refine at_callp (run_V (rest := []) (As := [.int x1]) C (metX7_isSkittle l D dA ad  hw) (lw_V q924 q926 qs46 q65 q927) dsX7_isSkittle (gR_ok (Nat.le_of_ble_eq_true rfl) (Nat.le_of_ble_eq_true rfl)) ⟨rfl, rfl⟩ ⟨Nat.le_refl 0, Nat.le_refl 0⟩ (Nat.le_of_ble_eq_true rfl) rfl rfl rfl rfl (Nat.le_of_ble_eq_true rfl) dX7_write_7) (fun r_2  hw => ?_)
  refine at_if_ne (tgt := 16) C dX7_write_10 (by decide) (fun c_3 => ?_) (fun c_3 => ?_)
  · have hw := hw.1 c_3
    refine at_aload_n C dX7_write_16 rfl rfl ?_
    refine at_geti (j := 21) C (Nat.le_of_ble_eq_true rfl) rfl rfl in_X7 (Nat.le_of_ble_eq_true rfl) rfl q708 dX7_write_17 ?_
    refine at_bipush C dX7_write_20 bp_15 ?_
    refine at_icmp_ne (tgt := 28) C dX7_write_22 (by decide) (fun c_4 => ?_) (fun c_4 => ?_)
    · have hw := hw.1 c_4
      refine at_aload_n C dX7_write_28 rfl rfl ?_
      refine at_getr (j := 19) (r := 8) C (Nat.le_of_ble_eq_true rfl) rfl rfl in_X7 (Nat.le_of_ble_eq_true rfl) rfl q706 dX7_write_29 ?_
      refine at_aload_n C dX7_write_32 rfl rfl ?_
      refine at_geti (j := 21) C (Nat.le_of_ble_eq_true rfl) rfl rfl in_X7 (Nat.le_of_ble_eq_true rfl) rfl q708 dX7_write_33 ?_
      refine at_iload_n C dX7_write_36 rfl rfl ?_
      refine at_iast C (Nat.le_of_ble_eq_true rfl) rfl hw.1 rfl dX7_write_37 (fun w_5 ew_5 => ?_)
      have hw := hw.2 w_5 ew_5
      refine at_aload_n C dX7_write_38 rfl rfl ?_
      refine at_getr (j := 20) (r := 9) C (Nat.le_of_ble_eq_true rfl) rfl rfl in_X7 (Nat.le_of_ble_eq_true rfl) rfl q707 dX7_write_39 ?_
      refine at_aload_n C dX7_write_42 rfl rfl ?_
      refine at_geti (j := 21) C (Nat.le_of_ble_eq_true rfl) rfl rfl in_X7 (Nat.le_of_ble_eq_true rfl) rfl q708 dX7_write_43 ?_
      refine at_iload_n C dX7_write_46 rfl rfl ?_
      have hz_w_6 := hw.1
      have hw := hw.2
      refine at_zast C (Nat.le_of_ble_eq_true rfl) rfl hw.1 rfl (gBool_vp hz_w_6) dX7_write_47 (fun w_6 ew_6 => ?_)
      have hw := hw.2 w_6 ew_6
      refine at_aload_n C dX7_write_48 rfl rfl ?_
      refine at_dup C dX7_write_49 rfl ?_
      refine at_geti (j := 21) C (Nat.le_of_ble_eq_true rfl) rfl rfl in_X7 (Nat.le_of_ble_eq_true rfl) rfl q708 dX7_write_50 ?_
      refine at_iconst C dX7_write_53 ic_1 ?_
      refine at_iadd C dX7_write_54 ?_
      refine at_puti (j := 21) C (Nat.le_of_ble_eq_true rfl) rfl rfl in_X7 (Nat.le_of_ble_eq_true rfl) rfl q708 tyX7 tyX7_ok nmX7 rfl rfl rfl dX7_write_55 (fun w_7 ew_7 => ?_)
      have hw := hw w_7 ew_7
      refine at_aload_n C dX7_write_58 rfl rfl ?_
      refine at_geti (j := 21) C (Nat.le_of_ble_eq_true rfl) rfl rfl in_X7 (Nat.le_of_ble_eq_true rfl) rfl q708 dX7_write_59 ?_
      exact at_iret C rfl hw dX7_write_62
    · have hw := hw.2 c_4
      refine at_ldc C q801 dX7_write_25 ?_
      exact at_iret C rfl hw dX7_write_27
  · have hw := hw.2 c_3
    refine at_ldc C q928 dX7_write_13 ?_
    exact at_iret C rfl hw dX7_write_15
set_option maxHeartbeats 4000000 in
theorem metX7_tear   (l : Launch) (D : va_G) (dA : Nat → ClassId) (ad : Nat → Nat)     {w : GW} {Q : Int32 → GW → Prop} (hw : PX7_tear w Q) : Met l yX7_tear (ws_ yX7_tear cX7_tear 2 (some .int)) (gR 1) (va_Pc [.ref (ad 0)] (gB D dA 20 ad layM w)) (va_Qi Q (gZ D dA 20 ad layM) (gA 20 ad)) 0 0 (gA 20 ad) := by
  refine gm_of (L := [(0, .ref (ad 0))]) (own := RX7) (by decide +kernel) rfl (Nat.le_of_ble_eq_true rfl) rfl rfl (fun p e s m below meth c C => ?_)
  unfold PX7_tear at hw
  refine at_aload_n C dX7_tear_0 rfl rfl ?_
  refine at_iconst C dX7_tear_1 ic_0 ?_
  refine at_puti (j := 0) C (Nat.le_of_ble_eq_true rfl) rfl rfl in_X7 (Nat.le_of_ble_eq_true rfl) rfl q687 tyX7 tyX7_ok nmX7 rfl rfl rfl dX7_tear_2 (fun w_1 ew_1 => ?_)
  have hw := hw w_1 ew_1
  refine at_aload_n C dX7_tear_5 rfl rfl ?_
  refine at_geti (j := 21) C (Nat.le_of_ble_eq_true rfl) rfl rfl in_X7 (Nat.le_of_ble_eq_true rfl) rfl q708 dX7_tear_6 ?_
  refine at_topi (fun v1_2 e1_2 => ?_)
  have hw := hw v1_2 e1_2
  refine at_istore_n (L' := [(0, .ref (ad 0)), (1, .int v1_2)]) C dX7_tear_9 rfl (Nat.le_of_ble_eq_true rfl) rfl ?_
  refine at_aload_n C dX7_tear_10 rfl rfl ?_
  refine at_iconst C dX7_tear_11 ic_0 ?_
  refine at_puti (j := 21) C (Nat.le_of_ble_eq_true rfl) rfl rfl in_X7 (Nat.le_of_ble_eq_true rfl) rfl q708 tyX7 tyX7_ok nmX7 rfl rfl rfl dX7_tear_12 (fun w_3 ew_3 => ?_)
  have hw := hw w_3 ew_3
  refine at_iload_n C dX7_tear_15 rfl rfl ?_
  exact at_iret C rfl hw dX7_tear_16
set_option maxHeartbeats 4000000 in
theorem tX7_judge_7     {Q : Int32 → GW → Prop} (C : Cx p s m args meth c D dA cX7_judge 2 (some .int) RX7)     {w : GW}  : ∀ (n : Nat) (x1 : Int32), PX7_judge_7 Q w n x1 → gAtM p l e s m args below meth c D dA ad 2 (va_Qi Q (gZ D dA 20 ad layM) (gA 20 ad)) 2 7 [(0, .ref (ad 0)), (1, .int x1)] [] w := by
  intro n
  induction n with
  | zero => intro x1 hw; exact False.elim hw
  | succ n ih =>
    intro x1 hw
    unfold PX7_judge_7 at hw
    refine at_iload_n C dX7_judge_7 rfl rfl ?_
    refine at_aload_n C dX7_judge_8 rfl rfl ?_
    refine at_geti (j := 21) C (Nat.le_of_ble_eq_true rfl) rfl rfl in_X7 (Nat.le_of_ble_eq_true rfl) rfl q708 dX7_judge_9 ?_
    refine at_icmp_ge (tgt := 48) C dX7_judge_12 (by decide) (fun c_1 => ?_) (fun c_1 => ?_)
    · have hw := hw.1 c_1
      refine at_iconst C dX7_judge_48 ic_m1 ?_
      exact at_iret C rfl hw dX7_judge_49
    · have hw := hw.2 c_1
      refine at_aload_n C dX7_judge_15 rfl rfl ?_
      refine at_getr (j := 14) (r := 4) C (Nat.le_of_ble_eq_true rfl) rfl rfl in_X7 (Nat.le_of_ble_eq_true rfl) rfl q701 dX7_judge_16 ?_
      refine at_bipush C dX7_judge_19 bp_45 ?_
      refine at_iald C (Nat.le_of_ble_eq_true rfl) rfl vk_45_49 tk_45 dX7_judge_21 ?_
      refine at_aload_n C dX7_judge_22 rfl rfl ?_
      refine at_getr (j := 19) (r := 8) C (Nat.le_of_ble_eq_true rfl) rfl rfl in_X7 (Nat.le_of_ble_eq_true rfl) rfl q706 dX7_judge_23 ?_
      refine at_iload_n C dX7_judge_26 rfl rfl ?_
      refine at_iald C (Nat.le_of_ble_eq_true rfl) rfl hw.1 rfl dX7_judge_27 ?_
      have hw := hw.2
      refine at_callp (run_S (rest := []) (As := [.int (w 4 45), .int (w 8 (x1).toNatClampNeg)]) C (metX7_has l D dA ad  hw) (lw_S q879 q880 q65 q881) dsX7_has (gR_ok (Nat.le_of_ble_eq_true rfl) (Nat.le_of_ble_eq_true rfl)) ⟨rfl, rfl⟩ ⟨Nat.le_refl 0, Nat.le_refl 0⟩ rfl rfl (Nat.le_of_ble_eq_true rfl) dX7_judge_28) (fun r_2  hw => ?_)
      refine at_aload_n C dX7_judge_31 rfl rfl ?_
      refine at_getr (j := 20) (r := 9) C (Nat.le_of_ble_eq_true rfl) rfl rfl in_X7 (Nat.le_of_ble_eq_true rfl) rfl q707 dX7_judge_32 ?_
      refine at_iload_n C dX7_judge_35 rfl rfl ?_
      refine at_zald C (Nat.le_of_ble_eq_true rfl) rfl hw.1 rfl dX7_judge_36 ?_
      have hw := hw.2
      refine at_icmp_eq (tgt := 42) C dX7_judge_37 (by decide) (fun c_3 => ?_) (fun c_3 => ?_)
      · have hw := hw.1 c_3
        refine at_iinc (F := fun z_ => [(0, .ref (ad 0)), (1, .int z_)]) C dX7_judge_42 rfl ic_1 (Nat.le_of_ble_eq_true rfl) (fun _ => rfl) (fun v1_4 e1_4 => ?_)
        have hw := hw v1_4 e1_4
        refine at_goto (tgt := 7) C dX7_judge_45 (by decide) ?_
        exact ih _ hw
      · have hw := hw.2 c_3
        refine at_iload_n C dX7_judge_40 rfl rfl ?_
        exact at_iret C rfl hw dX7_judge_41
set_option maxHeartbeats 4000000 in
theorem metX7_judge   (l : Launch) (D : va_G) (dA : Nat → ClassId) (ad : Nat → Nat)     {w : GW} {Q : Int32 → GW → Prop} (hw : PX7_judge w Q) : Met l yX7_judge (ws_ yX7_judge cX7_judge 2 (some .int)) (gR 2) (va_Pc [.ref (ad 0)] (gB D dA 20 ad layM w)) (va_Qi Q (gZ D dA 20 ad layM) (gA 20 ad)) 0 0 (gA 20 ad) := by
  refine gm_of (L := [(0, .ref (ad 0))]) (own := RX7) (by decide +kernel) rfl (Nat.le_of_ble_eq_true rfl) rfl rfl (fun p e s m below meth c C => ?_)
  unfold PX7_judge at hw
  refine at_aload_n C dX7_judge_0 rfl rfl ?_
  refine at_iconst C dX7_judge_1 ic_0 ?_
  refine at_puti (j := 0) C (Nat.le_of_ble_eq_true rfl) rfl rfl in_X7 (Nat.le_of_ble_eq_true rfl) rfl q687 tyX7 tyX7_ok nmX7 rfl rfl rfl dX7_judge_2 (fun w_5 ew_5 => ?_)
  have hw := hw w_5 ew_5
  refine at_iconst C dX7_judge_5 ic_0 ?_
  refine at_istore_n (L' := [(0, .ref (ad 0)), (1, .int 0)]) C dX7_judge_6 rfl (Nat.le_of_ble_eq_true rfl) rfl ?_
  obtain ⟨n_6, hw⟩ := hw
  exact (tX7_judge_7 C  _ _ hw)
set_option maxHeartbeats 4000000 in
theorem metX7_seed   (l : Launch) (D : va_G) (dA : Nat → ClassId) (ad : Nat → Nat)    {x1 : Int32} {w : GW} {Q : Int32 → GW → Prop} (hw : PX7_seed x1 w Q) : Met l yX7_seed (ws_ yX7_seed cX7_seed 3 (some .int)) (gR 1) (va_Pc [.ref (ad 0), .int x1] (gB D dA 20 ad layM w)) (va_Qi Q (gZ D dA 20 ad layM) (gA 20 ad)) 0 0 (gA 20 ad) := by
  refine gm_of (L := [(0, .ref (ad 0)), (1, .int x1)]) (own := RX7) (by decide +kernel) rfl (Nat.le_of_ble_eq_true rfl) rfl rfl (fun p e s m below meth c C => ?_)
  unfold PX7_seed at hw
  refine at_aload_n C dX7_seed_0 rfl rfl ?_
  refine at_iconst C dX7_seed_1 ic_0 ?_
  refine at_puti (j := 0) C (Nat.le_of_ble_eq_true rfl) rfl rfl in_X7 (Nat.le_of_ble_eq_true rfl) rfl q687 tyX7 tyX7_ok nmX7 rfl rfl rfl dX7_seed_2 (fun w_1 ew_1 => ?_)
  have hw := hw w_1 ew_1
  refine at_iload_n C dX7_seed_5 rfl rfl ?_
  refine at_if_ge (tgt := 12) C dX7_seed_6 (by decide) (fun c_2 => ?_) (fun c_2 => ?_)
  · have hw := hw.1 c_2
    refine at_aload_n C dX7_seed_12 rfl rfl ?_
    refine at_getr (j := 14) (r := 4) C (Nat.le_of_ble_eq_true rfl) rfl rfl in_X7 (Nat.le_of_ble_eq_true rfl) rfl q701 dX7_seed_13 ?_
    refine at_bipush C dX7_seed_16 bp_48 ?_
    refine at_iald C (Nat.le_of_ble_eq_true rfl) rfl vk_48_49 tk_48 dX7_seed_18 ?_
    refine at_topi (fun v2_3 e2_3 => ?_)
    have hw := hw v2_3 e2_3
    refine at_istore_n (L' := [(0, .ref (ad 0)), (1, .int x1), (2, .int v2_3)]) C dX7_seed_19 rfl (Nat.le_of_ble_eq_true rfl) rfl ?_
    refine at_aload_n C dX7_seed_20 rfl rfl ?_
    refine at_getr (j := 14) (r := 4) C (Nat.le_of_ble_eq_true rfl) rfl rfl in_X7 (Nat.le_of_ble_eq_true rfl) rfl q701 dX7_seed_21 ?_
    refine at_bipush C dX7_seed_24 bp_48 ?_
    refine at_iload_n C dX7_seed_26 rfl rfl ?_
    refine at_iast C (Nat.le_of_ble_eq_true rfl) rfl vk_48_49 tk_48 dX7_seed_27 (fun w_4 ew_4 => ?_)
    have hw := hw w_4 ew_4
    refine at_iload_n C dX7_seed_28 rfl rfl ?_
    exact at_iret C rfl hw dX7_seed_29
  · have hw := hw.2 c_2
    refine at_ldc C q800 dX7_seed_9 ?_
    exact at_iret C rfl hw dX7_seed_11
set_option maxHeartbeats 4000000 in
theorem tX7_keep_19     {Q : Int32 → GW → Prop} (C : Cx p s m args meth c D dA cX7_keep 3 (some .int) RX7)    {x1 : Int32}   : ∀ (n : Nat) (x2 : Int32) (w : GW), PX7_keep_19 Q x1 n x2 w → gAtM p l e s m args below meth c D dA ad 2 (va_Qi Q (gZ D dA 20 ad layM) (gA 20 ad)) 3 19 [(0, .ref (ad 0)), (1, .int x1), (2, .int x2)] [] w := by
  intro n
  induction n with
  | zero => intro x2 w hw; exact False.elim hw
  | succ n ih =>
    intro x2 w hw
    unfold PX7_keep_19 at hw
    refine at_iload_n C dX7_keep_19 rfl rfl ?_
    refine at_bipush C dX7_keep_20 bp_49 ?_
    refine at_icmp_ge (tgt := 48) C dX7_keep_22 (by decide) (fun c_1 => ?_) (fun c_1 => ?_)
    · have hw := hw.1 c_1
      refine at_aload_n C dX7_keep_48 rfl rfl ?_
      refine at_getr (j := 16) (r := 6) C (Nat.le_of_ble_eq_true rfl) rfl rfl in_X7 (Nat.le_of_ble_eq_true rfl) rfl q703 dX7_keep_49 ?_
      refine at_iload_n C dX7_keep_52 rfl rfl ?_
      refine at_iconst C dX7_keep_53 ic_1 ?_
      refine at_zast C (Nat.le_of_ble_eq_true rfl) rfl hw.1 rfl rfl dX7_keep_54 (fun w_2 ew_2 => ?_)
      have hw := hw.2 w_2 ew_2
      refine at_aload_n C dX7_keep_55 rfl rfl ?_
      refine at_iconst C dX7_keep_56 ic_0 ?_
      refine at_puti (j := 18) C (Nat.le_of_ble_eq_true rfl) rfl rfl in_X7 (Nat.le_of_ble_eq_true rfl) rfl q705 tyX7 tyX7_ok nmX7 rfl rfl rfl dX7_keep_57 (fun w_3 ew_3 => ?_)
      have hw := hw w_3 ew_3
      refine at_iconst C dX7_keep_60 ic_1 ?_
      exact at_iret C rfl hw dX7_keep_61
    · have hw := hw.2 c_1
      refine at_aload_n C dX7_keep_25 rfl rfl ?_
      refine at_getr (j := 15) (r := 5) C (Nat.le_of_ble_eq_true rfl) rfl rfl in_X7 (Nat.le_of_ble_eq_true rfl) rfl q702 dX7_keep_26 ?_
      refine at_bipush C dX7_keep_29 bp_49 ?_
      refine at_iload_n C dX7_keep_31 rfl rfl ?_
      refine at_imul C dX7_keep_32 ?_
      refine at_iload_n C dX7_keep_33 rfl rfl ?_
      refine at_iadd C dX7_keep_34 ?_
      refine at_aload_n C dX7_keep_35 rfl rfl ?_
      refine at_getr (j := 14) (r := 4) C (Nat.le_of_ble_eq_true rfl) rfl rfl in_X7 (Nat.le_of_ble_eq_true rfl) rfl q701 dX7_keep_36 ?_
      refine at_iload_n C dX7_keep_39 rfl rfl ?_
      refine at_iald C (Nat.le_of_ble_eq_true rfl) rfl hw.1 rfl dX7_keep_40 ?_
      have hw := hw.2
      refine at_iast C (Nat.le_of_ble_eq_true rfl) rfl hw.1 rfl dX7_keep_41 (fun w_4 ew_4 => ?_)
      have hw := hw.2 w_4 ew_4
      refine at_iinc (F := fun z_ => [(0, .ref (ad 0)), (1, .int x1), (2, .int z_)]) C dX7_keep_42 rfl ic_1 (Nat.le_of_ble_eq_true rfl) (fun _ => rfl) (fun v2_5 e2_5 => ?_)
      have hw := hw v2_5 e2_5
      refine at_goto (tgt := 19) C dX7_keep_45 (by decide) ?_
      exact ih _ _ hw
set_option maxHeartbeats 4000000 in
theorem metX7_keep   (l : Launch) (D : va_G) (dA : Nat → ClassId) (ad : Nat → Nat)    {x1 : Int32} {w : GW} {Q : Int32 → GW → Prop} (hw : PX7_keep x1 w Q) : Met l yX7_keep (ws_ yX7_keep cX7_keep 3 (some .int)) (gR 2) (va_Pc [.ref (ad 0), .int x1] (gB D dA 20 ad layM w)) (va_Qi Q (gZ D dA 20 ad layM) (gA 20 ad)) 0 0 (gA 20 ad) := by
  refine gm_of (L := [(0, .ref (ad 0)), (1, .int x1)]) (own := RX7) (by decide +kernel) rfl (Nat.le_of_ble_eq_true rfl) rfl rfl (fun p e s m below meth c C => ?_)
  unfold PX7_keep at hw
  refine at_aload_n C dX7_keep_0 rfl rfl ?_
  refine at_iconst C dX7_keep_1 ic_0 ?_
  refine at_puti (j := 0) C (Nat.le_of_ble_eq_true rfl) rfl rfl in_X7 (Nat.le_of_ble_eq_true rfl) rfl q687 tyX7 tyX7_ok nmX7 rfl rfl rfl dX7_keep_2 (fun w_6 ew_6 => ?_)
  have hw := hw w_6 ew_6
  refine at_iload_n C dX7_keep_5 rfl rfl ?_
  refine at_iconst C dX7_keep_6 ic_0 ?_
  refine at_iconst C dX7_keep_7 ic_1 ?_
  refine at_callp (run_S (rest := []) (As := [.int x1, .int 0, .int 1]) C (metX7_in l D dA ad  hw) (lw_S q797 q798 q65 q799) dsX7_in (gR_ok (Nat.le_of_ble_eq_true rfl) (Nat.le_of_ble_eq_true rfl)) ⟨rfl, rfl⟩ ⟨Nat.le_refl 0, Nat.le_refl 0⟩ rfl rfl (Nat.le_of_ble_eq_true rfl) dX7_keep_8) (fun r_7  hw => ?_)
  refine at_if_ne (tgt := 17) C dX7_keep_11 (by decide) (fun c_8 => ?_) (fun c_8 => ?_)
  · have hw := hw.1 c_8
    refine at_iconst C dX7_keep_17 ic_0 ?_
    refine at_istore_n (L' := [(0, .ref (ad 0)), (1, .int x1), (2, .int 0)]) C dX7_keep_18 rfl (Nat.le_of_ble_eq_true rfl) rfl ?_
    obtain ⟨n_9, hw⟩ := hw
    exact (tX7_keep_19 C  _ _ _ hw)
  · have hw := hw.2 c_8
    refine at_ldc C q928 dX7_keep_14 ?_
    exact at_iret C rfl hw dX7_keep_16
set_option maxHeartbeats 4000000 in
theorem tX7_goBack_31     {Q : Int32 → GW → Prop} (C : Cx p s m args meth c D dA cX7_goBack 3 (some .int) RX7)    {x1 : Int32}   : ∀ (n : Nat) (x2 : Int32) (w : GW), PX7_goBack_31 Q x1 n x2 w → gAtM p l e s m args below meth c D dA ad 2 (va_Qi Q (gZ D dA 20 ad layM) (gA 20 ad)) 3 31 [(0, .ref (ad 0)), (1, .int x1), (2, .int x2)] [] w := by
  intro n
  induction n with
  | zero => intro x2 w hw; exact False.elim hw
  | succ n ih =>
    intro x2 w hw
    unfold PX7_goBack_31 at hw
    refine at_iload_n C dX7_goBack_31 rfl rfl ?_
    refine at_bipush C dX7_goBack_32 bp_49 ?_
    refine at_icmp_ge (tgt := 60) C dX7_goBack_34 (by decide) (fun c_1 => ?_) (fun c_1 => ?_)
    · have hw := hw.1 c_1
      refine at_aload_n C dX7_goBack_60 rfl rfl ?_
      refine at_iconst C dX7_goBack_61 ic_0 ?_
      refine at_puti (j := 18) C (Nat.le_of_ble_eq_true rfl) rfl rfl in_X7 (Nat.le_of_ble_eq_true rfl) rfl q705 tyX7 tyX7_ok nmX7 rfl rfl rfl dX7_goBack_62 (fun w_2 ew_2 => ?_)
      have hw := hw w_2 ew_2
      refine at_iconst C dX7_goBack_65 ic_1 ?_
      exact at_iret C rfl hw dX7_goBack_66
    · have hw := hw.2 c_1
      refine at_aload_n C dX7_goBack_37 rfl rfl ?_
      refine at_getr (j := 14) (r := 4) C (Nat.le_of_ble_eq_true rfl) rfl rfl in_X7 (Nat.le_of_ble_eq_true rfl) rfl q701 dX7_goBack_38 ?_
      refine at_iload_n C dX7_goBack_41 rfl rfl ?_
      refine at_aload_n C dX7_goBack_42 rfl rfl ?_
      refine at_getr (j := 15) (r := 5) C (Nat.le_of_ble_eq_true rfl) rfl rfl in_X7 (Nat.le_of_ble_eq_true rfl) rfl q702 dX7_goBack_43 ?_
      refine at_bipush C dX7_goBack_46 bp_49 ?_
      refine at_iload_n C dX7_goBack_48 rfl rfl ?_
      refine at_imul C dX7_goBack_49 ?_
      refine at_iload_n C dX7_goBack_50 rfl rfl ?_
      refine at_iadd C dX7_goBack_51 ?_
      refine at_iald C (Nat.le_of_ble_eq_true rfl) rfl hw.1 rfl dX7_goBack_52 ?_
      have hw := hw.2
      refine at_iast C (Nat.le_of_ble_eq_true rfl) rfl hw.1 rfl dX7_goBack_53 (fun w_3 ew_3 => ?_)
      have hw := hw.2 w_3 ew_3
      refine at_iinc (F := fun z_ => [(0, .ref (ad 0)), (1, .int x1), (2, .int z_)]) C dX7_goBack_54 rfl ic_1 (Nat.le_of_ble_eq_true rfl) (fun _ => rfl) (fun v2_4 e2_4 => ?_)
      have hw := hw v2_4 e2_4
      refine at_goto (tgt := 31) C dX7_goBack_57 (by decide) ?_
      exact ih _ _ hw
set_option maxHeartbeats 4000000 in
theorem metX7_goBack   (l : Launch) (D : va_G) (dA : Nat → ClassId) (ad : Nat → Nat)    {x1 : Int32} {w : GW} {Q : Int32 → GW → Prop} (hw : PX7_goBack x1 w Q) : Met l yX7_goBack (ws_ yX7_goBack cX7_goBack 3 (some .int)) (gR 2) (va_Pc [.ref (ad 0), .int x1] (gB D dA 20 ad layM w)) (va_Qi Q (gZ D dA 20 ad layM) (gA 20 ad)) 0 0 (gA 20 ad) := by
  refine gm_of (L := [(0, .ref (ad 0)), (1, .int x1)]) (own := RX7) (by decide +kernel) rfl (Nat.le_of_ble_eq_true rfl) rfl rfl (fun p e s m below meth c C => ?_)
  unfold PX7_goBack at hw
  refine at_aload_n C dX7_goBack_0 rfl rfl ?_
  refine at_iconst C dX7_goBack_1 ic_0 ?_
  refine at_puti (j := 0) C (Nat.le_of_ble_eq_true rfl) rfl rfl in_X7 (Nat.le_of_ble_eq_true rfl) rfl q687 tyX7 tyX7_ok nmX7 rfl rfl rfl dX7_goBack_2 (fun w_5 ew_5 => ?_)
  have hw := hw w_5 ew_5
  refine at_iload_n C dX7_goBack_5 rfl rfl ?_
  refine at_iconst C dX7_goBack_6 ic_0 ?_
  refine at_iconst C dX7_goBack_7 ic_1 ?_
  refine at_callp (run_S (rest := []) (As := [.int x1, .int 0, .int 1]) C (metX7_in l D dA ad  hw) (lw_S q797 q798 q65 q799) dsX7_in (gR_ok (Nat.le_of_ble_eq_true rfl) (Nat.le_of_ble_eq_true rfl)) ⟨rfl, rfl⟩ ⟨Nat.le_refl 0, Nat.le_refl 0⟩ rfl rfl (Nat.le_of_ble_eq_true rfl) dX7_goBack_8) (fun r_6  hw => ?_)
  refine at_if_ne (tgt := 17) C dX7_goBack_11 (by decide) (fun c_7 => ?_) (fun c_7 => ?_)
  · have hw := hw.1 c_7
    refine at_aload_n C dX7_goBack_17 rfl rfl ?_
    refine at_getr (j := 16) (r := 6) C (Nat.le_of_ble_eq_true rfl) rfl rfl in_X7 (Nat.le_of_ble_eq_true rfl) rfl q703 dX7_goBack_18 ?_
    refine at_iload_n C dX7_goBack_21 rfl rfl ?_
    refine at_zald C (Nat.le_of_ble_eq_true rfl) rfl hw.1 rfl dX7_goBack_22 ?_
    have hw := hw.2
    refine at_if_ne (tgt := 29) C dX7_goBack_23 (by decide) (fun c_8 => ?_) (fun c_8 => ?_)
    · have hw := hw.1 c_8
      refine at_iconst C dX7_goBack_29 ic_0 ?_
      refine at_istore_n (L' := [(0, .ref (ad 0)), (1, .int x1), (2, .int 0)]) C dX7_goBack_30 rfl (Nat.le_of_ble_eq_true rfl) rfl ?_
      obtain ⟨n_9, hw⟩ := hw
      exact (tX7_goBack_31 C  _ _ _ hw)
    · have hw := hw.2 c_8
      refine at_ldc C q952 dX7_goBack_26 ?_
      exact at_iret C rfl hw dX7_goBack_28
  · have hw := hw.2 c_7
    refine at_ldc C q928 dX7_goBack_14 ?_
    exact at_iret C rfl hw dX7_goBack_16
end GWalk
