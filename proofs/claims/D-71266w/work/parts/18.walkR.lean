/-! the walks of the Reader -/
set_option maxRecDepth 100000
section GWalk
variable {p : Program} {l : Launch} {e : Env} {s : State} {m : MethodId} {args : Array Value} {below : List Frame} {meth : Method} {c : Code} {D : va_G} {dA : Nat → ClassId} {ad : Nat → Nat}
set_option maxHeartbeats 4000000 in
theorem tX8_here_38     {Q : Int32 → GW → Prop} (C : Cx p s m args meth c D dA cX8_here 1 (some .int) RX8)     {w : GW}  (hw : PX8_here_38 Q w) : gAtG 142 layF p l e s m args below meth c D dA ad 1 (va_Qi Q (gZ D dA 142 ad layF) (gA 142 ad)) 1 38 [(0, .ref (ad 137))] [] w := by
  unfold PX8_here_38 at hw
  refine at_aload_n C dX8_here_38 rfl rfl ?_
  refine at_geti (j := 3) C (Nat.le_of_ble_eq_true rfl) rfl rfl in_X8 (Nat.le_of_ble_eq_true rfl) rfl q287 dX8_here_39 ?_
  refine at_aload_n C dX8_here_42 rfl rfl ?_
  refine at_geti (j := 1) C (Nat.le_of_ble_eq_true rfl) rfl rfl in_X8 (Nat.le_of_ble_eq_true rfl) rfl q285 dX8_here_43 ?_
  refine at_icmp_ge (tgt := 65) C dX8_here_46 (by decide) (fun c_1 => ?_) (fun c_1 => ?_)
  · have hw := hw.1 c_1
    refine at_iconst C dX8_here_65 ic_m1 ?_
    exact at_iret C rfl hw dX8_here_66
  · have hw := hw.2 c_1
    refine at_aload_n C dX8_here_49 rfl rfl ?_
    refine at_getr (j := 0) (r := 21) C (Nat.le_of_ble_eq_true rfl) rfl rfl in_X8 (Nat.le_of_ble_eq_true rfl) rfl q284 dX8_here_50 ?_
    refine at_aload_n C dX8_here_53 rfl rfl ?_
    refine at_geti (j := 3) C (Nat.le_of_ble_eq_true rfl) rfl rfl in_X8 (Nat.le_of_ble_eq_true rfl) rfl q287 dX8_here_54 ?_
    refine at_bald C (Nat.le_of_ble_eq_true rfl) rfl hw.1 rfl dX8_here_57 ?_
    have hw := hw.2
    refine at_sipush C dX8_here_58 sp_255 ?_
    refine at_iand C dX8_here_61 ?_
    refine at_goto (tgt := 66) C dX8_here_62 (by decide) ?_
    exact at_iret C rfl hw dX8_here_66
set_option maxHeartbeats 4000000 in
theorem tX8_here_0     {Q : Int32 → GW → Prop} (C : Cx p s m args meth c D dA cX8_here 1 (some .int) RX8)       : ∀ (n : Nat) (w : GW), PX8_here_0 Q n w → gAtG 142 layF p l e s m args below meth c D dA ad 1 (va_Qi Q (gZ D dA 142 ad layF) (gA 142 ad)) 1 0 [(0, .ref (ad 137))] [] w := by
  intro n
  induction n with
  | zero => intro w hw; exact False.elim hw
  | succ n ih =>
    intro w hw
    unfold PX8_here_0 at hw
    refine at_aload_n C dX8_here_0 rfl rfl ?_
    refine at_geti (j := 3) C (Nat.le_of_ble_eq_true rfl) rfl rfl in_X8 (Nat.le_of_ble_eq_true rfl) rfl q287 dX8_here_1 ?_
    refine at_aload_n C dX8_here_4 rfl rfl ?_
    refine at_geti (j := 1) C (Nat.le_of_ble_eq_true rfl) rfl rfl in_X8 (Nat.le_of_ble_eq_true rfl) rfl q285 dX8_here_5 ?_
    refine at_icmp_ge (tgt := 38) C dX8_here_8 (by decide) (fun c_2 => ?_) (fun c_2 => ?_)
    · have hw := hw.1 c_2
      exact (tX8_here_38 C  hw)
    · have hw := hw.2 c_2
      refine at_aload_n C dX8_here_11 rfl rfl ?_
      refine at_getr (j := 0) (r := 21) C (Nat.le_of_ble_eq_true rfl) rfl rfl in_X8 (Nat.le_of_ble_eq_true rfl) rfl q284 dX8_here_12 ?_
      refine at_aload_n C dX8_here_15 rfl rfl ?_
      refine at_geti (j := 3) C (Nat.le_of_ble_eq_true rfl) rfl rfl in_X8 (Nat.le_of_ble_eq_true rfl) rfl q287 dX8_here_16 ?_
      refine at_bald C (Nat.le_of_ble_eq_true rfl) rfl hw.1 rfl dX8_here_19 ?_
      have hw := hw.2
      refine at_bipush C dX8_here_20 bp_32 ?_
      refine at_icmp_ne (tgt := 38) C dX8_here_22 (by decide) (fun c_3 => ?_) (fun c_3 => ?_)
      · have hw := hw.1 c_3
        exact (tX8_here_38 C  hw)
      · have hw := hw.2 c_3
        refine at_aload_n C dX8_here_25 rfl rfl ?_
        refine at_dup C dX8_here_26 rfl ?_
        refine at_geti (j := 3) C (Nat.le_of_ble_eq_true rfl) rfl rfl in_X8 (Nat.le_of_ble_eq_true rfl) rfl q287 dX8_here_27 ?_
        refine at_iconst C dX8_here_30 ic_1 ?_
        refine at_iadd C dX8_here_31 ?_
        refine at_puti (j := 3) C (Nat.le_of_ble_eq_true rfl) rfl rfl in_X8 (Nat.le_of_ble_eq_true rfl) rfl q287 tyX8 tyX8_ok nmX8 rfl rfl rfl dX8_here_32 (fun w_4 ew_4 => ?_)
        have hw := hw w_4 ew_4
        refine at_goto (tgt := 0) C dX8_here_35 (by decide) ?_
        exact ih _ hw
set_option maxHeartbeats 4000000 in
theorem metX8_here   (l : Launch) (D : va_G) (dA : Nat → ClassId) (ad : Nat → Nat)     {w : GW} {Q : Int32 → GW → Prop} (hw : PX8_here w Q) : Met l yX8_here (ws_ yX8_here cX8_here 1 (some .int)) (gR 1) (va_Pc [.ref (ad 137)] (gB D dA 142 ad layF w)) (va_Qi Q (gZ D dA 142 ad layF) (gA 142 ad)) 0 0 (gA 142 ad) := by
  refine gm_of (L := [(0, .ref (ad 137))]) (own := RX8) (by decide +kernel) rfl (Nat.le_of_ble_eq_true rfl) rfl rfl (fun p e s m below meth c C => ?_)
  unfold PX8_here at hw
  obtain ⟨n_5, hw⟩ := hw
  exact (tX8_here_0 C  _ _ hw)
set_option maxHeartbeats 4000000 in
theorem metX8_want (l : Launch) (D : va_G) (dA : Nat → ClassId) (ad : Nat → Nat) (sz : Nat) {x0 : Int32} {x1 : Int32} {x2 : Int32} {w : GW} {Q : GW → Prop} {X : Int32 → Int32 → GW → Prop} (hw : PX8_want x0 x1 x2 w Q X) : vx_Met l yX8_want (ws_ yX8_want cX8_want 3 none) (gRc 6 1 8) (va_Pc [.int x0, .int x1, .int x2] (gBx D dA ad sz w)) (va_Qv Q (gZ D dA 142 ad layF) (gXA ad sz)) (gXC D dA ad sz X) 1 8 (gXA ad sz) := by
  refine gm_ofX (L := [(0, .int x0), (1, .int x1), (2, .int x2)]) (own := RX8) (by decide +kernel) rfl (Nat.le_of_ble_eq_true rfl) rfl (fun p e s m below meth c C Z => ?_)
  unfold PX8_want at hw
  refine at_iload_n C dX8_want_0 rfl rfl ?_
  refine at_if_ne (tgt := 14) C dX8_want_1 (by decide) (fun c_1 => ?_) (fun c_1 => ?_)
  · have hw := hw.1 c_1
    exact at_vretX C rfl hw (by decide) (by decide) dX8_want_14
  · have hw := hw.2 c_1
    refine at_newL (ci := 9) (fs := [.null, .null, .null, .null, .null, .int 0, .int 0, .int 0]) C Z.hA rfl in_X9 tyX9 tyX9_ok q312 q313 q69 hfs_9 (Nat.le_of_ble_eq_true rfl) (Nat.le_of_ble_eq_true rfl) dX8_want_4 (fun qf => ?_)
    refine at_dup C dX8_want_7 rfl ?_
    refine at_iload_n C dX8_want_8 rfl rfl ?_
    refine at_iload_n C dX8_want_9 rfl rfl ?_
    refine at_sufv (rest := [.ref qf]) (res := fun _ : Unit => gF qf x1 x2) (post := fun _ => True) Z.hA (fun _ _ h => h) (fun _ _ h => h) (run_IZ (wc := [(qf, .inr (9, [.null, .null, .null, .null, .null, .int 0, .int 0, .int 0]))]) (As := [.int x1, .int x2]) (rest := [.ref qf]) (nn := 2) C Z.hA Z.2.1 (fun z => metX9_init l D dA qf z _ _) q349 q69 q350 q351 rfl ⟨rfl, rfl⟩ ⟨by decide +kernel, by decide +kernel, by decide +kernel⟩ ⟨(Nat.le_of_ble_eq_true rfl), (Nat.le_of_ble_eq_true rfl)⟩ rfl rfl (Nat.le_of_ble_eq_true rfl) dX8_want_10 ⟨(Nat.le_of_ble_eq_true rfl), (Nat.le_of_ble_eq_true rfl)⟩) (fun _ _ => ?_)
    exact at_throwF C Z hw (by decide) (by decide) dX8_want_13
set_option maxHeartbeats 4000000 in
theorem tX8_number_121     {Q : Int32 → GW → Prop} {sz : Nat} {X : Int32 → Int32 → GW → Prop} (C : Cx p s m args meth c D dA cX8_number 5 (some .int) RX8) (Z : Cz ad sz s c)    {x3 : Int32} {x4 : Int32} {s0 : Int32} {w : GW}  (hw : PX8_number_121 Q X x3 x4 s0 w) : gAtR p l e s m args below meth c D dA ad 7 2 16 (va_Qi Q (gZ D dA 142 ad layF) (gXA ad sz)) X sz 5 1 8 121 [(3, .int x3), (4, .int x4)] [.int s0] w := by
  unfold PX8_number_121 at hw
  refine at_iconst C dX8_number_121 ic_2 ?_
  refine at_iload_n C dX8_number_122 rfl rfl ?_
  refine at_callxv C Z (run_SX (rest := []) (As := [.int s0, .int 2, .int x3]) C Z (metX8_want l D dA ad sz hw) (lw_S q309 q310 q66 q311) dsX8_want ⟨(Nat.le_of_ble_eq_true rfl), (Nat.le_of_ble_eq_true rfl)⟩ ⟨rfl, rfl⟩ ⟨(Nat.le_of_ble_eq_true rfl), (Nat.le_of_ble_eq_true rfl)⟩ rfl rfl (Nat.le_of_ble_eq_true rfl) dX8_number_123) (Nat.le_of_ble_eq_true rfl) (Nat.le_of_ble_eq_true rfl) (fun w_2 hw => ?_)
  refine at_iload C dX8_number_126 rfl ?_
  exact at_iretX C rfl hw (by decide) (by decide) dX8_number_128
set_option maxHeartbeats 4000000 in
theorem tX8_number_120     {Q : Int32 → GW → Prop} {sz : Nat} {X : Int32 → Int32 → GW → Prop} (C : Cx p s m args meth c D dA cX8_number 5 (some .int) RX8) (Z : Cz ad sz s c)    {x3 : Int32} {x4 : Int32} {w : GW}  (hw : PX8_number_120 Q X x3 x4 w) : gAtR p l e s m args below meth c D dA ad 7 2 16 (va_Qi Q (gZ D dA 142 ad layF) (gXA ad sz)) X sz 5 1 8 120 [(3, .int x3), (4, .int x4)] [] w := by
  unfold PX8_number_120 at hw
  refine at_iconst C dX8_number_120 ic_0 ?_
  refine at_wid (k := 1) (n := 8) (by decide) (by decide) ?_
  exact (tX8_number_121 C Z  hw)
set_option maxHeartbeats 4000000 in
theorem tX8_number_96     {Q : Int32 → GW → Prop} {sz : Nat} {X : Int32 → Int32 → GW → Prop} (C : Cx p s m args meth c D dA cX8_number 5 (some .int) RX8) (Z : Cz ad sz s c)    {x1 : Int32} {x2 : Int32} {x3 : Int32} {x4 : Int32} {w : GW}  (hw : PX8_number_96 Q X x1 x2 x3 x4 w) : gAtR p l e s m args below meth c D dA ad 7 2 16 (va_Qi Q (gZ D dA 142 ad layF) (gXA ad sz)) X sz 5 1 8 96 [(0, .ref (ad 137)), (1, .int x1), (2, .int x2), (3, .int x3), (4, .int x4)] [] w := by
  unfold PX8_number_96 at hw
  refine at_aload_n C dX8_number_96 rfl rfl ?_
  refine at_geti (j := 3) C (Nat.le_of_ble_eq_true rfl) rfl rfl in_X8 (Nat.le_of_ble_eq_true rfl) rfl q287 dX8_number_97 ?_
  refine at_iload_n C dX8_number_100 rfl rfl ?_
  refine at_iconst C dX8_number_101 ic_3 ?_
  refine at_iadd C dX8_number_102 ?_
  refine at_icmp_gt (tgt := 120) C dX8_number_103 (by decide) (fun c_3 => ?_) (fun c_3 => ?_)
  · have hw := hw.1 c_3
    refine at_wid (k := 1) (n := 8) (by decide) (by decide) ?_
    exact at_sub (lv_pickm [3, 4] rfl) (tX8_number_120 C Z  hw)
  · have hw := hw.2 c_3
    refine at_iload C dX8_number_106 rfl ?_
    refine at_iload_n C dX8_number_108 rfl rfl ?_
    refine at_iload_n C dX8_number_109 rfl rfl ?_
    refine at_callp (run_SN (rest := []) (As := [.int x4, .int x1, .int x2]) C (metX0_isIn l D dA ad  hw) q387 q268 q56 q267 dsX0_isIn ⟨(Nat.le_of_ble_eq_true rfl), (Nat.le_of_ble_eq_true rfl)⟩ ⟨rfl, rfl⟩ ⟨(Nat.le_of_ble_eq_true rfl), (Nat.le_of_ble_eq_true rfl)⟩ rfl rfl (Nat.le_of_ble_eq_true rfl) dX8_number_110) (fun r_4  hw => ?_)
    refine at_if_eq (tgt := 120) C dX8_number_113 (by decide) (fun c_5 => ?_) (fun c_5 => ?_)
    · have hw := hw.1 c_5
      refine at_wid (k := 1) (n := 8) (by decide) (by decide) ?_
      exact at_sub (lv_pickm [3, 4] rfl) (tX8_number_120 C Z  hw)
    · have hw := hw.2 c_5
      refine at_iconst C dX8_number_116 ic_1 ?_
      refine at_goto (tgt := 121) C dX8_number_117 (by decide) ?_
      refine at_wid (k := 1) (n := 8) (by decide) (by decide) ?_
      exact at_sub (lv_pickm [3, 4] rfl) (tX8_number_121 C Z  hw)
set_option maxHeartbeats 4000000 in
theorem tX8_number_27     {Q : Int32 → GW → Prop} {sz : Nat} {X : Int32 → Int32 → GW → Prop} (C : Cx p s m args meth c D dA cX8_number 5 (some .int) RX8) (Z : Cz ad sz s c)    {x1 : Int32} {x2 : Int32} {x3 : Int32}   : ∀ (n : Nat) (x4 : Int32) (w : GW), PX8_number_27 Q X x1 x2 x3 n x4 w → gAtR p l e s m args below meth c D dA ad 7 2 16 (va_Qi Q (gZ D dA 142 ad layF) (gXA ad sz)) X sz 5 1 8 27 [(0, .ref (ad 137)), (1, .int x1), (2, .int x2), (3, .int x3), (4, .int x4)] [] w := by
  intro n
  induction n with
  | zero => intro x4 w hw; exact False.elim hw
  | succ n ih =>
    intro x4 w hw
    unfold PX8_number_27 at hw
    refine at_aload_n C dX8_number_27 rfl rfl ?_
    refine at_geti (j := 3) C (Nat.le_of_ble_eq_true rfl) rfl rfl in_X8 (Nat.le_of_ble_eq_true rfl) rfl q287 dX8_number_28 ?_
    refine at_aload_n C dX8_number_31 rfl rfl ?_
    refine at_geti (j := 1) C (Nat.le_of_ble_eq_true rfl) rfl rfl in_X8 (Nat.le_of_ble_eq_true rfl) rfl q285 dX8_number_32 ?_
    refine at_icmp_ge (tgt := 96) C dX8_number_35 (by decide) (fun c_6 => ?_) (fun c_6 => ?_)
    · have hw := hw.1 c_6
      refine at_wid (k := 1) (n := 8) (by decide) (by decide) ?_
      exact (tX8_number_96 C Z  hw)
    · have hw := hw.2 c_6
      refine at_aload_n C dX8_number_38 rfl rfl ?_
      refine at_getr (j := 0) (r := 21) C (Nat.le_of_ble_eq_true rfl) rfl rfl in_X8 (Nat.le_of_ble_eq_true rfl) rfl q284 dX8_number_39 ?_
      refine at_aload_n C dX8_number_42 rfl rfl ?_
      refine at_geti (j := 3) C (Nat.le_of_ble_eq_true rfl) rfl rfl in_X8 (Nat.le_of_ble_eq_true rfl) rfl q287 dX8_number_43 ?_
      refine at_bald C (Nat.le_of_ble_eq_true rfl) rfl hw.1 rfl dX8_number_46 ?_
      have hw := hw.2
      refine at_bipush C dX8_number_47 bp_48 ?_
      refine at_bipush C dX8_number_49 bp_57 ?_
      refine at_callp (run_SN (rest := []) (As := [.int (w 21 ((w 137 3)).toNatClampNeg), .int 48, .int 57]) C (metX0_isIn l D dA ad  hw) q387 q268 q56 q267 dsX0_isIn ⟨(Nat.le_of_ble_eq_true rfl), (Nat.le_of_ble_eq_true rfl)⟩ ⟨rfl, rfl⟩ ⟨(Nat.le_of_ble_eq_true rfl), (Nat.le_of_ble_eq_true rfl)⟩ rfl rfl (Nat.le_of_ble_eq_true rfl) dX8_number_51) (fun r_7  hw => ?_)
      refine at_if_eq (tgt := 96) C dX8_number_54 (by decide) (fun c_8 => ?_) (fun c_8 => ?_)
      · have hw := hw.1 c_8
        refine at_wid (k := 1) (n := 8) (by decide) (by decide) ?_
        exact (tX8_number_96 C Z  hw)
      · have hw := hw.2 c_8
        refine at_sipush C dX8_number_57 sp_9999 ?_
        refine at_bipush C dX8_number_60 bp_10 ?_
        refine at_iload C dX8_number_62 rfl ?_
        refine at_imul C dX8_number_64 ?_
        refine at_aload_n C dX8_number_65 rfl rfl ?_
        refine at_getr (j := 0) (r := 21) C (Nat.le_of_ble_eq_true rfl) rfl rfl in_X8 (Nat.le_of_ble_eq_true rfl) rfl q284 dX8_number_66 ?_
        refine at_aload_n C dX8_number_69 rfl rfl ?_
        refine at_geti (j := 3) C (Nat.le_of_ble_eq_true rfl) rfl rfl in_X8 (Nat.le_of_ble_eq_true rfl) rfl q287 dX8_number_70 ?_
        refine at_bald C (Nat.le_of_ble_eq_true rfl) rfl hw.1 rfl dX8_number_73 ?_
        have hw := hw.2
        refine at_iadd C dX8_number_74 ?_
        refine at_bipush C dX8_number_75 bp_48 ?_
        refine at_isub C dX8_number_77 ?_
        refine at_mmin C q388 q389 q70 q390 (Nat.le_of_ble_eq_true rfl) (Nat.le_of_ble_eq_true rfl) (Nat.le_of_ble_eq_true rfl) (Nat.le_of_ble_eq_true rfl) (Nat.le_of_ble_eq_true rfl) dX8_number_78 ?_
        refine at_topi (fun v4_9 e4_9 => ?_)
        have hw := hw v4_9 e4_9
        refine at_istore (L' := [(0, .ref (ad 137)), (1, .int x1), (2, .int x2), (3, .int x3), (4, .int v4_9)]) C dX8_number_81 (Nat.le_of_ble_eq_true rfl) rfl ?_
        refine at_aload_n C dX8_number_83 rfl rfl ?_
        refine at_dup C dX8_number_84 rfl ?_
        refine at_geti (j := 3) C (Nat.le_of_ble_eq_true rfl) rfl rfl in_X8 (Nat.le_of_ble_eq_true rfl) rfl q287 dX8_number_85 ?_
        refine at_iconst C dX8_number_88 ic_1 ?_
        refine at_iadd C dX8_number_89 ?_
        refine at_puti (j := 3) C (Nat.le_of_ble_eq_true rfl) rfl rfl in_X8 (Nat.le_of_ble_eq_true rfl) rfl q287 tyX8 tyX8_ok nmX8 rfl rfl rfl dX8_number_90 (fun w_10 ew_10 => ?_)
        have hw := hw w_10 ew_10
        refine at_goto (tgt := 27) C dX8_number_93 (by decide) ?_
        refine at_wid (k := 1) (n := 8) (by decide) (by decide) ?_
        exact ih _ _ hw
set_option maxHeartbeats 4000000 in
theorem metX8_number (l : Launch) (D : va_G) (dA : Nat → ClassId) (ad : Nat → Nat) (sz : Nat) {x1 : Int32} {x2 : Int32} {w : GW} {Q : Int32 → GW → Prop} {X : Int32 → Int32 → GW → Prop} (hw : PX8_number x1 x2 w Q X) : vx_Met l yX8_number (ws_ yX8_number cX8_number 5 (some .int)) (gRc 7 2 16) (va_Pc [.ref (ad 137), .int x1, .int x2] (gBx D dA ad sz w)) (va_Qi Q (gZ D dA 142 ad layF) (gXA ad sz)) (gXC D dA ad sz X) 2 16 (gXA ad sz) := by
  refine gm_ofX (L := [(0, .ref (ad 137)), (1, .int x1), (2, .int x2)]) (own := RX8) (by decide +kernel) rfl (Nat.le_of_ble_eq_true rfl) rfl (fun p e s m below meth c C Z => ?_)
  unfold PX8_number at hw
  refine at_aload_n C dX8_number_0 rfl rfl ?_
  refine at_calli (run_V (rest := []) (As := []) C (metX8_here l D dA ad  hw) (lw_V q301 q303 qs0 q66 q304) dsX8_here ⟨(Nat.le_of_ble_eq_true rfl), (Nat.le_of_ble_eq_true rfl)⟩ ⟨rfl, rfl⟩ ⟨(Nat.le_of_ble_eq_true rfl), (Nat.le_of_ble_eq_true rfl)⟩ (Nat.le_of_ble_eq_true rfl) rfl rfl rfl rfl (Nat.le_of_ble_eq_true rfl) dX8_number_1) (fun r_11 w_12 hw => ?_)
  refine at_bipush C dX8_number_4 bp_48 ?_
  refine at_bipush C dX8_number_6 bp_57 ?_
  refine at_callp (run_SN (rest := []) (As := [.int r_11, .int 48, .int 57]) C (metX0_isIn l D dA ad  hw) q387 q268 q56 q267 dsX0_isIn ⟨(Nat.le_of_ble_eq_true rfl), (Nat.le_of_ble_eq_true rfl)⟩ ⟨rfl, rfl⟩ ⟨(Nat.le_of_ble_eq_true rfl), (Nat.le_of_ble_eq_true rfl)⟩ rfl rfl (Nat.le_of_ble_eq_true rfl) dX8_number_8) (fun r_13  hw => ?_)
  refine at_iconst C dX8_number_11 ic_1 ?_
  refine at_aload_n C dX8_number_12 rfl rfl ?_
  refine at_geti (j := 3) C (Nat.le_of_ble_eq_true rfl) rfl rfl in_X8 (Nat.le_of_ble_eq_true rfl) rfl q287 dX8_number_13 ?_
  refine at_callxv C Z (run_SX (rest := []) (As := [.int r_13, .int 1, .int (w_12 137 3)]) C Z (metX8_want l D dA ad sz hw) (lw_S q309 q310 q66 q311) dsX8_want ⟨(Nat.le_of_ble_eq_true rfl), (Nat.le_of_ble_eq_true rfl)⟩ ⟨rfl, rfl⟩ ⟨(Nat.le_of_ble_eq_true rfl), (Nat.le_of_ble_eq_true rfl)⟩ rfl rfl (Nat.le_of_ble_eq_true rfl) dX8_number_16) (Nat.le_of_ble_eq_true rfl) (Nat.le_of_ble_eq_true rfl) (fun w_15 hw => ?_)
  refine at_aload_n C dX8_number_19 rfl rfl ?_
  refine at_geti (j := 3) C (Nat.le_of_ble_eq_true rfl) rfl rfl in_X8 (Nat.le_of_ble_eq_true rfl) rfl q287 dX8_number_20 ?_
  refine at_topi (fun v3_16 e3_16 => ?_)
  have hw := hw v3_16 e3_16
  refine at_istore_n (L' := [(0, .ref (ad 137)), (1, .int x1), (2, .int x2), (3, .int v3_16)]) C dX8_number_23 rfl (Nat.le_of_ble_eq_true rfl) rfl ?_
  refine at_iconst C dX8_number_24 ic_0 ?_
  refine at_istore (L' := [(0, .ref (ad 137)), (1, .int x1), (2, .int x2), (3, .int v3_16), (4, .int 0)]) C dX8_number_25 (Nat.le_of_ble_eq_true rfl) rfl ?_
  refine at_wid (k := 1) (n := 8) (by decide) (by decide) ?_
  obtain ⟨n_17, hw⟩ := hw
  exact (tX8_number_27 C Z  _ _ _ hw)
set_option maxHeartbeats 4000000 in
theorem tX8_floor_16     {Q : GW → Prop} {sz : Nat} {X : Int32 → Int32 → GW → Prop} (C : Cx p s m args meth c D dA cX8_floor 2 none RX8) (Z : Cz ad sz s c)    {x1 : Int32} {s0 : Int32} {w : GW}  (hw : PX8_floor_16 Q X x1 s0 w) : gAtR p l e s m args below meth c D dA ad 8 3 24 (va_Qv Q (gZ D dA 142 ad layF) (gXA ad sz)) X sz 2 0 0 16 [(0, .ref (ad 137)), (1, .int x1)] [.int s0] w := by
  unfold PX8_floor_16 at hw
  refine at_iconst C dX8_floor_16 ic_3 ?_
  refine at_iload_n C dX8_floor_17 rfl rfl ?_
  refine at_callxv C Z (run_SX (rest := []) (As := [.int s0, .int 3, .int x1]) C Z (metX8_want l D dA ad sz hw) (lw_S q309 q310 q66 q311) dsX8_want ⟨(Nat.le_of_ble_eq_true rfl), (Nat.le_of_ble_eq_true rfl)⟩ ⟨rfl, rfl⟩ ⟨(Nat.le_of_ble_eq_true rfl), (Nat.le_of_ble_eq_true rfl)⟩ rfl rfl (Nat.le_of_ble_eq_true rfl) dX8_floor_18) (Nat.le_of_ble_eq_true rfl) (Nat.le_of_ble_eq_true rfl) (fun w_2 hw => ?_)
  refine at_aload_n C dX8_floor_21 rfl rfl ?_
  refine at_getr (j := 2) (r := 138) C (Nat.le_of_ble_eq_true rfl) rfl rfl in_X8 (Nat.le_of_ble_eq_true rfl) rfl q286 dX8_floor_22 ?_
  refine at_aload_n C dX8_floor_25 rfl rfl ?_
  refine at_iconst C dX8_floor_26 ic_0 ?_
  refine at_bipush C dX8_floor_27 bp_9 ?_
  refine at_callxi C Z (run_VX (rest := [.ref (ad 138)]) (As := [.int 0, .int 9]) C Z (metX8_number l D dA ad sz hw) (lw_V q383 q385 qs4 q66 q386) dsX8_number ⟨(Nat.le_of_ble_eq_true rfl), (Nat.le_of_ble_eq_true rfl)⟩ ⟨rfl, rfl⟩ ⟨(Nat.le_of_ble_eq_true rfl), (Nat.le_of_ble_eq_true rfl)⟩ (Nat.le_of_ble_eq_true rfl) rfl rfl rfl rfl (Nat.le_of_ble_eq_true rfl) dX8_floor_29) (Nat.le_of_ble_eq_true rfl) (Nat.le_of_ble_eq_true rfl) (fun r_3 w_4 hw => ?_)
  refine at_putiN (j := 0) C (Nat.le_of_ble_eq_true rfl) rfl rfl in_X1 (Nat.le_of_ble_eq_true rfl) rfl q89 tyX1 tyX1_ok nmX1 rfl rfl rfl dX8_floor_32 (fun w_5 ew_5 => ?_)
  have hw := hw w_5 ew_5
  exact at_vretX C rfl hw (by decide) (by decide) dX8_floor_35
set_option maxHeartbeats 4000000 in
theorem metX8_floor (l : Launch) (D : va_G) (dA : Nat → ClassId) (ad : Nat → Nat) (sz : Nat) {x1 : Int32} {w : GW} {Q : GW → Prop} {X : Int32 → Int32 → GW → Prop} (hw : PX8_floor x1 w Q X) : vx_Met l yX8_floor (ws_ yX8_floor cX8_floor 2 none) (gRc 8 3 24) (va_Pc [.ref (ad 137), .int x1] (gBx D dA ad sz w)) (va_Qv Q (gZ D dA 142 ad layF) (gXA ad sz)) (gXC D dA ad sz X) 3 24 (gXA ad sz) := by
  refine gm_ofX (L := [(0, .ref (ad 137)), (1, .int x1)]) (own := RX8) (by decide +kernel) rfl (Nat.le_of_ble_eq_true rfl) rfl (fun p e s m below meth c C Z => ?_)
  unfold PX8_floor at hw
  refine at_aload_n C dX8_floor_0 rfl rfl ?_
  refine at_getr (j := 2) (r := 138) C (Nat.le_of_ble_eq_true rfl) rfl rfl in_X8 (Nat.le_of_ble_eq_true rfl) rfl q286 dX8_floor_1 ?_
  refine at_getiN (j := 0) C (Nat.le_of_ble_eq_true rfl) rfl rfl in_X1 (Nat.le_of_ble_eq_true rfl) rfl q89 dX8_floor_4 ?_
  refine at_iconst C dX8_floor_7 ic_m1 ?_
  refine at_icmp_ne (tgt := 15) C dX8_floor_8 (by decide) (fun c_6 => ?_) (fun c_6 => ?_)
  · have hw := hw.1 c_6
    refine at_iconst C dX8_floor_15 ic_0 ?_
    refine at_wid (k := 0) (n := 0) (by decide) (by decide) ?_
    exact (tX8_floor_16 C Z  hw)
  · have hw := hw.2 c_6
    refine at_iconst C dX8_floor_11 ic_1 ?_
    refine at_goto (tgt := 16) C dX8_floor_12 (by decide) ?_
    refine at_wid (k := 0) (n := 0) (by decide) (by decide) ?_
    exact (tX8_floor_16 C Z  hw)
set_option maxHeartbeats 4000000 in
theorem tX8_skittle_19     {Q : GW → Prop} {sz : Nat} {X : Int32 → Int32 → GW → Prop} (C : Cx p s m args meth c D dA cX8_skittle 3 none RX8) (Z : Cz ad sz s c)    {x1 : Int32} {x2 : Int32} {s0 : Int32} {w : GW}  (hw : PX8_skittle_19 Q X x1 x2 s0 w) : gAtR p l e s m args below meth c D dA ad 8 7 56 (va_Qv Q (gZ D dA 142 ad layF) (gXA ad sz)) X sz 3 0 0 19 [(0, .ref (ad 137)), (1, .int x1), (2, .int x2)] [.int s0] w := by
  unfold PX8_skittle_19 at hw
  refine at_iconst C dX8_skittle_19 ic_3 ?_
  refine at_iload_n C dX8_skittle_20 rfl rfl ?_
  refine at_callxv C Z (run_SX (rest := []) (As := [.int s0, .int 3, .int x1]) C Z (metX8_want l D dA ad sz hw) (lw_S q309 q310 q66 q311) dsX8_want ⟨(Nat.le_of_ble_eq_true rfl), (Nat.le_of_ble_eq_true rfl)⟩ ⟨rfl, rfl⟩ ⟨(Nat.le_of_ble_eq_true rfl), (Nat.le_of_ble_eq_true rfl)⟩ rfl rfl (Nat.le_of_ble_eq_true rfl) dX8_skittle_21) (Nat.le_of_ble_eq_true rfl) (Nat.le_of_ble_eq_true rfl) (fun w_2 hw => ?_)
  refine at_aload_n C dX8_skittle_24 rfl rfl ?_
  refine at_getr (j := 2) (r := 138) C (Nat.le_of_ble_eq_true rfl) rfl rfl in_X8 (Nat.le_of_ble_eq_true rfl) rfl q286 dX8_skittle_25 ?_
  refine at_getrN (j := 1) (r := 139) C (Nat.le_of_ble_eq_true rfl) rfl rfl in_X1 (Nat.le_of_ble_eq_true rfl) rfl q94 dX8_skittle_28 ?_
  refine at_iload_n C dX8_skittle_31 rfl rfl ?_
  refine at_aload_n C dX8_skittle_32 rfl rfl ?_
  refine at_iconst C dX8_skittle_33 ic_0 ?_
  refine at_iconst C dX8_skittle_34 ic_3 ?_
  refine at_callxi C Z (run_VX (rest := [.int x2, .ref (ad 139)]) (As := [.int 0, .int 3]) C Z (metX8_number l D dA ad sz hw) (lw_V q383 q385 qs4 q66 q386) dsX8_number ⟨(Nat.le_of_ble_eq_true rfl), (Nat.le_of_ble_eq_true rfl)⟩ ⟨rfl, rfl⟩ ⟨(Nat.le_of_ble_eq_true rfl), (Nat.le_of_ble_eq_true rfl)⟩ (Nat.le_of_ble_eq_true rfl) rfl rfl rfl rfl (Nat.le_of_ble_eq_true rfl) dX8_skittle_35) (Nat.le_of_ble_eq_true rfl) (Nat.le_of_ble_eq_true rfl) (fun r_3 w_4 hw => ?_)
  refine at_iast C (Nat.le_of_ble_eq_true rfl) rfl hw.1 rfl dX8_skittle_38 (fun w_5 ew_5 => ?_)
  have hw := hw.2 w_5 ew_5
  refine at_aload_n C dX8_skittle_39 rfl rfl ?_
  refine at_getr (j := 2) (r := 138) C (Nat.le_of_ble_eq_true rfl) rfl rfl in_X8 (Nat.le_of_ble_eq_true rfl) rfl q286 dX8_skittle_40 ?_
  refine at_getrN (j := 2) (r := 140) C (Nat.le_of_ble_eq_true rfl) rfl rfl in_X1 (Nat.le_of_ble_eq_true rfl) rfl q97 dX8_skittle_43 ?_
  refine at_iload_n C dX8_skittle_46 rfl rfl ?_
  refine at_aload_n C dX8_skittle_47 rfl rfl ?_
  refine at_iconst C dX8_skittle_48 ic_1 ?_
  refine at_bipush C dX8_skittle_49 bp_20 ?_
  refine at_callxi C Z (run_VX (rest := [.int x2, .ref (ad 140)]) (As := [.int 1, .int 20]) C Z (metX8_number l D dA ad sz hw) (lw_V q383 q385 qs4 q66 q386) dsX8_number ⟨(Nat.le_of_ble_eq_true rfl), (Nat.le_of_ble_eq_true rfl)⟩ ⟨rfl, rfl⟩ ⟨(Nat.le_of_ble_eq_true rfl), (Nat.le_of_ble_eq_true rfl)⟩ (Nat.le_of_ble_eq_true rfl) rfl rfl rfl rfl (Nat.le_of_ble_eq_true rfl) dX8_skittle_51) (Nat.le_of_ble_eq_true rfl) (Nat.le_of_ble_eq_true rfl) (fun r_6 w_7 hw => ?_)
  refine at_iast C (Nat.le_of_ble_eq_true rfl) rfl hw.1 rfl dX8_skittle_54 (fun w_8 ew_8 => ?_)
  have hw := hw.2 w_8 ew_8
  refine at_aload_n C dX8_skittle_55 rfl rfl ?_
  refine at_getr (j := 2) (r := 138) C (Nat.le_of_ble_eq_true rfl) rfl rfl in_X8 (Nat.le_of_ble_eq_true rfl) rfl q286 dX8_skittle_56 ?_
  refine at_getrN (j := 3) (r := 141) C (Nat.le_of_ble_eq_true rfl) rfl rfl in_X1 (Nat.le_of_ble_eq_true rfl) rfl q101 dX8_skittle_59 ?_
  refine at_iload_n C dX8_skittle_62 rfl rfl ?_
  refine at_aload_n C dX8_skittle_63 rfl rfl ?_
  refine at_iconst C dX8_skittle_64 ic_0 ?_
  refine at_bipush C dX8_skittle_65 bp_9 ?_
  refine at_callxi C Z (run_VX (rest := [.int x2, .ref (ad 141)]) (As := [.int 0, .int 9]) C Z (metX8_number l D dA ad sz hw) (lw_V q383 q385 qs4 q66 q386) dsX8_number ⟨(Nat.le_of_ble_eq_true rfl), (Nat.le_of_ble_eq_true rfl)⟩ ⟨rfl, rfl⟩ ⟨(Nat.le_of_ble_eq_true rfl), (Nat.le_of_ble_eq_true rfl)⟩ (Nat.le_of_ble_eq_true rfl) rfl rfl rfl rfl (Nat.le_of_ble_eq_true rfl) dX8_skittle_67) (Nat.le_of_ble_eq_true rfl) (Nat.le_of_ble_eq_true rfl) (fun r_9 w_10 hw => ?_)
  refine at_iast C (Nat.le_of_ble_eq_true rfl) rfl hw.1 rfl dX8_skittle_70 (fun w_11 ew_11 => ?_)
  have hw := hw.2 w_11 ew_11
  refine at_aload_n C dX8_skittle_71 rfl rfl ?_
  refine at_getr (j := 2) (r := 138) C (Nat.le_of_ble_eq_true rfl) rfl rfl in_X8 (Nat.le_of_ble_eq_true rfl) rfl q286 dX8_skittle_72 ?_
  refine at_dup C dX8_skittle_75 rfl ?_
  refine at_getiN (j := 4) C (Nat.le_of_ble_eq_true rfl) rfl rfl in_X1 (Nat.le_of_ble_eq_true rfl) rfl q103 dX8_skittle_76 ?_
  refine at_iconst C dX8_skittle_79 ic_1 ?_
  refine at_iadd C dX8_skittle_80 ?_
  refine at_putiN (j := 4) C (Nat.le_of_ble_eq_true rfl) rfl rfl in_X1 (Nat.le_of_ble_eq_true rfl) rfl q103 tyX1 tyX1_ok nmX1 rfl rfl rfl dX8_skittle_81 (fun w_12 ew_12 => ?_)
  have hw := hw w_12 ew_12
  exact at_vretX C rfl hw (by decide) (by decide) dX8_skittle_84
set_option maxHeartbeats 4000000 in
theorem metX8_skittle (l : Launch) (D : va_G) (dA : Nat → ClassId) (ad : Nat → Nat) (sz : Nat) {x1 : Int32} {w : GW} {Q : GW → Prop} {X : Int32 → Int32 → GW → Prop} (hw : PX8_skittle x1 w Q X) : vx_Met l yX8_skittle (ws_ yX8_skittle cX8_skittle 3 none) (gRc 8 7 56) (va_Pc [.ref (ad 137), .int x1] (gBx D dA ad sz w)) (va_Qv Q (gZ D dA 142 ad layF) (gXA ad sz)) (gXC D dA ad sz X) 7 56 (gXA ad sz) := by
  refine gm_ofX (L := [(0, .ref (ad 137)), (1, .int x1)]) (own := RX8) (by decide +kernel) rfl (Nat.le_of_ble_eq_true rfl) rfl (fun p e s m below meth c C Z => ?_)
  unfold PX8_skittle at hw
  refine at_aload_n C dX8_skittle_0 rfl rfl ?_
  refine at_getr (j := 2) (r := 138) C (Nat.le_of_ble_eq_true rfl) rfl rfl in_X8 (Nat.le_of_ble_eq_true rfl) rfl q286 dX8_skittle_1 ?_
  refine at_getiN (j := 4) C (Nat.le_of_ble_eq_true rfl) rfl rfl in_X1 (Nat.le_of_ble_eq_true rfl) rfl q103 dX8_skittle_4 ?_
  refine at_topi (fun v2_13 e2_13 => ?_)
  have hw := hw v2_13 e2_13
  refine at_istore_n (L' := [(0, .ref (ad 137)), (1, .int x1), (2, .int v2_13)]) C dX8_skittle_7 rfl (Nat.le_of_ble_eq_true rfl) rfl ?_
  refine at_iload_n C dX8_skittle_8 rfl rfl ?_
  refine at_bipush C dX8_skittle_9 bp_9 ?_
  refine at_icmp_ge (tgt := 18) C dX8_skittle_11 (by decide) (fun c_14 => ?_) (fun c_14 => ?_)
  · have hw := hw.1 c_14
    refine at_iconst C dX8_skittle_18 ic_0 ?_
    refine at_wid (k := 0) (n := 0) (by decide) (by decide) ?_
    exact (tX8_skittle_19 C Z  hw)
  · have hw := hw.2 c_14
    refine at_iconst C dX8_skittle_14 ic_1 ?_
    refine at_goto (tgt := 19) C dX8_skittle_15 (by decide) ?_
    refine at_wid (k := 0) (n := 0) (by decide) (by decide) ?_
    exact (tX8_skittle_19 C Z  hw)
set_option maxHeartbeats 4000000 in
theorem tX8_clause_22     {Q : GW → Prop} {sz : Nat} {X : Int32 → Int32 → GW → Prop} (C : Cx p s m args meth c D dA cX8_clause 3 none RX8) (Z : Cz ad sz s c)    {x1 : Int32} {x2 : Int32} {s0 : Int32} {w : GW}  (hw : PX8_clause_22 Q X x1 x2 s0 w) : gAtR p l e s m args below meth c D dA ad 9 8 64 (va_Qv Q (gZ D dA 142 ad layF) (gXA ad sz)) X sz 3 0 0 22 [(0, .ref (ad 137)), (1, .int x1), (2, .int x2)] [.int s0] w := by
  unfold PX8_clause_22 at hw
  refine at_iconst C dX8_clause_22 ic_1 ?_
  refine at_iload_n C dX8_clause_23 rfl rfl ?_
  refine at_callxv C Z (run_SX (rest := []) (As := [.int s0, .int 1, .int x2]) C Z (metX8_want l D dA ad sz hw) (lw_S q309 q310 q66 q311) dsX8_want ⟨(Nat.le_of_ble_eq_true rfl), (Nat.le_of_ble_eq_true rfl)⟩ ⟨rfl, rfl⟩ ⟨(Nat.le_of_ble_eq_true rfl), (Nat.le_of_ble_eq_true rfl)⟩ rfl rfl (Nat.le_of_ble_eq_true rfl) dX8_clause_24) (Nat.le_of_ble_eq_true rfl) (Nat.le_of_ble_eq_true rfl) (fun w_2 hw => ?_)
  refine at_iload_n C dX8_clause_27 rfl rfl ?_
  by_cases c_3_103 : x1 = 103
  · have hw := hw.1 c_3_103
    refine at_lookup (tgt := 56) (off := 28) C dX8_clause_28 (by decide) (by rw [c_3_103]; decide) (by decide) ?_
    refine at_aload_n C dX8_clause_56 rfl rfl ?_
    refine at_iload_n C dX8_clause_57 rfl rfl ?_
    refine at_callxv C Z (run_VX (rest := []) (As := [.int x2]) C Z (metX8_floor l D dA ad sz hw) (lw_V q379 q381 qs3 q66 q382) dsX8_floor ⟨(Nat.le_of_ble_eq_true rfl), (Nat.le_of_ble_eq_true rfl)⟩ ⟨rfl, rfl⟩ ⟨(Nat.le_of_ble_eq_true rfl), (Nat.le_of_ble_eq_true rfl)⟩ (Nat.le_of_ble_eq_true rfl) rfl rfl rfl rfl (Nat.le_of_ble_eq_true rfl) dX8_clause_58) (Nat.le_of_ble_eq_true rfl) (Nat.le_of_ble_eq_true rfl) (fun w_5 hw => ?_)
    refine at_goto (tgt := 82) C dX8_clause_61 (by decide) ?_
    exact at_vretX C rfl hw (by decide) (by decide) dX8_clause_82
  · have hw := hw.2 c_3_103
    by_cases c_3_115 : x1 = 115
    · have hw := hw.1 c_3_115
      refine at_lookup (tgt := 64) (off := 36) C dX8_clause_28 (by decide) (by rw [c_3_115]; decide) (by decide) ?_
      refine at_aload_n C dX8_clause_64 rfl rfl ?_
      refine at_iload_n C dX8_clause_65 rfl rfl ?_
      refine at_callxv C Z (run_VX (rest := []) (As := [.int x2]) C Z (metX8_skittle l D dA ad sz hw) (lw_V q391 q393 qs5 q66 q394) dsX8_skittle ⟨(Nat.le_of_ble_eq_true rfl), (Nat.le_of_ble_eq_true rfl)⟩ ⟨rfl, rfl⟩ ⟨(Nat.le_of_ble_eq_true rfl), (Nat.le_of_ble_eq_true rfl)⟩ (Nat.le_of_ble_eq_true rfl) rfl rfl rfl rfl (Nat.le_of_ble_eq_true rfl) dX8_clause_66) (Nat.le_of_ble_eq_true rfl) (Nat.le_of_ble_eq_true rfl) (fun w_7 hw => ?_)
      refine at_goto (tgt := 82) C dX8_clause_69 (by decide) ?_
      exact at_vretX C rfl hw (by decide) (by decide) dX8_clause_82
    · have hw := hw.2 c_3_115
      refine at_lookup (tgt := 72) (off := 44) C dX8_clause_28 (by decide) ((lv_osw c_3_103 (by decide)).trans ((lv_osw c_3_115 (by decide)).trans rfl)) (by decide) ?_
      refine at_newL (ci := 9) (fs := [.null, .null, .null, .null, .null, .int 0, .int 0, .int 0]) C Z.hA rfl in_X9 tyX9 tyX9_ok q312 q313 q69 hfs_9 (Nat.le_of_ble_eq_true rfl) (Nat.le_of_ble_eq_true rfl) dX8_clause_72 (fun qf => ?_)
      refine at_dup C dX8_clause_75 rfl ?_
      refine at_iconst C dX8_clause_76 ic_1 ?_
      refine at_iload_n C dX8_clause_77 rfl rfl ?_
      refine at_sufv (rest := [.ref qf]) (res := fun _ : Unit => gF qf 1 x2) (post := fun _ => True) Z.hA (fun _ _ h => h) (fun _ _ h => h) (run_IZ (wc := [(qf, .inr (9, [.null, .null, .null, .null, .null, .int 0, .int 0, .int 0]))]) (As := [.int 1, .int x2]) (rest := [.ref qf]) (nn := 2) C Z.hA Z.2.1 (fun z => metX9_init l D dA qf z _ _) q349 q69 q350 q351 rfl ⟨rfl, rfl⟩ ⟨by decide +kernel, by decide +kernel, by decide +kernel⟩ ⟨(Nat.le_of_ble_eq_true rfl), (Nat.le_of_ble_eq_true rfl)⟩ rfl rfl (Nat.le_of_ble_eq_true rfl) dX8_clause_78 ⟨(Nat.le_of_ble_eq_true rfl), (Nat.le_of_ble_eq_true rfl)⟩) (fun _ _ => ?_)
      exact at_throwF C Z hw (by decide) (by decide) dX8_clause_81
set_option maxHeartbeats 4000000 in
theorem tX8_clause_17     {Q : GW → Prop} {sz : Nat} {X : Int32 → Int32 → GW → Prop} (C : Cx p s m args meth c D dA cX8_clause 3 none RX8) (Z : Cz ad sz s c)    {x1 : Int32} {x2 : Int32} {w : GW}  (hw : PX8_clause_17 Q X x1 x2 w) : gAtR p l e s m args below meth c D dA ad 9 8 64 (va_Qv Q (gZ D dA 142 ad layF) (gXA ad sz)) X sz 3 0 0 17 [(0, .ref (ad 137)), (1, .int x1), (2, .int x2)] [] w := by
  unfold PX8_clause_17 at hw
  refine at_iconst C dX8_clause_17 ic_1 ?_
  refine at_goto (tgt := 22) C dX8_clause_18 (by decide) ?_
  refine at_wid (k := 0) (n := 0) (by decide) (by decide) ?_
  exact (tX8_clause_22 C Z  hw)
set_option maxHeartbeats 4000000 in
theorem metX8_clause (l : Launch) (D : va_G) (dA : Nat → ClassId) (ad : Nat → Nat) (sz : Nat) {x1 : Int32} {x2 : Int32} {w : GW} {Q : GW → Prop} {X : Int32 → Int32 → GW → Prop} (hw : PX8_clause x1 x2 w Q X) : vx_Met l yX8_clause (ws_ yX8_clause cX8_clause 3 none) (gRc 9 8 64) (va_Pc [.ref (ad 137), .int x1, .int x2] (gBx D dA ad sz w)) (va_Qv Q (gZ D dA 142 ad layF) (gXA ad sz)) (gXC D dA ad sz X) 8 64 (gXA ad sz) := by
  refine gm_ofX (L := [(0, .ref (ad 137)), (1, .int x1), (2, .int x2)]) (own := RX8) (by decide +kernel) rfl (Nat.le_of_ble_eq_true rfl) rfl (fun p e s m below meth c C Z => ?_)
  unfold PX8_clause at hw
  refine at_iload_n C dX8_clause_0 rfl rfl ?_
  refine at_bipush C dX8_clause_1 bp_103 ?_
  refine at_icmp_eq (tgt := 17) C dX8_clause_3 (by decide) (fun c_8 => ?_) (fun c_8 => ?_)
  · have hw := hw.1 c_8
    refine at_wid (k := 0) (n := 0) (by decide) (by decide) ?_
    exact (tX8_clause_17 C Z  hw)
  · have hw := hw.2 c_8
    refine at_aload_n C dX8_clause_6 rfl rfl ?_
    refine at_getr (j := 2) (r := 138) C (Nat.le_of_ble_eq_true rfl) rfl rfl in_X8 (Nat.le_of_ble_eq_true rfl) rfl q286 dX8_clause_7 ?_
    refine at_getiN (j := 0) C (Nat.le_of_ble_eq_true rfl) rfl rfl in_X1 (Nat.le_of_ble_eq_true rfl) rfl q89 dX8_clause_10 ?_
    refine at_iconst C dX8_clause_13 ic_m1 ?_
    refine at_icmp_eq (tgt := 21) C dX8_clause_14 (by decide) (fun c_9 => ?_) (fun c_9 => ?_)
    · have hw := hw.1 c_9
      refine at_iconst C dX8_clause_21 ic_0 ?_
      refine at_wid (k := 0) (n := 0) (by decide) (by decide) ?_
      exact (tX8_clause_22 C Z  hw)
    · have hw := hw.2 c_9
      refine at_wid (k := 0) (n := 0) (by decide) (by decide) ?_
      exact (tX8_clause_17 C Z  hw)
end GWalk
