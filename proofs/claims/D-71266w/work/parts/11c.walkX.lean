/-! the walks of the system -/
set_option maxRecDepth 100000
section GWalk
variable {p : Program} {l : Launch} {e : Env} {s : State} {m : MethodId} {args : Array Value} {below : List Frame} {meth : Method} {c : Code} {D : va_G} {dA : Nat → ClassId} {ad : Nat → Nat}
set_option maxHeartbeats 4000000 in
theorem tX0_balls_110    {K45 : Int32 → Int32 → Int32 → Prop} {Q : Int32 → GW → Prop} (C : Cx p s m args meth c D dA cX0_balls 7 (some .int) RX0)    {x1 : Int32} {x2 : Int32} {x3 : Int32} {x5 : Int32} {s0 : Int32} {w : GW} (hK45 : ∀ (x3 : Int32) (x4 : Int32) (x5 : Int32), K45 x3 x4 x5 → gAtX p l e s m args below meth c D dA ad 27 (va_Qi Q (gZ D dA 137 ad layX) (gA 137 ad)) 7 45 [(0, .ref (ad 0)), (1, .int x1), (2, .int x2), (3, .int x3), (4, .int x4), (5, .int x5)] [] w) (hw : PX0_balls_110 K45 Q x1 x2 x3 x5 s0 w) : gAtX p l e s m args below meth c D dA ad 27 (va_Qi Q (gZ D dA 137 ad layX) (gA 137 ad)) 7 110 [(0, .ref (ad 0)), (1, .int x1), (2, .int x2), (3, .int x3), (5, .int x5)] [.int s0] w := by
  unfold PX0_balls_110 at hw
  refine at_istore (L' := [(0, .ref (ad 0)), (1, .int x1), (2, .int x2), (3, .int x3), (4, .int s0), (5, .int x5)]) C dX0_balls_110 (Nat.le_of_ble_eq_true rfl) rfl ?_
  refine at_iinc (F := fun z_ => [(0, .ref (ad 0)), (1, .int x1), (2, .int x2), (3, .int x3), (4, .int s0), (5, .int z_)]) C dX0_balls_112 rfl ic_1 (Nat.le_of_ble_eq_true rfl) (fun _ => rfl) (fun v5_1 e5_1 => ?_)
  have hw := hw v5_1 e5_1
  refine at_goto (tgt := 45) C dX0_balls_115 (by decide) ?_
  exact hK45 _ _ _ hw
set_option maxHeartbeats 4000000 in
theorem tX0_balls_108    {K45 : Int32 → Int32 → Int32 → Prop} {Q : Int32 → GW → Prop} (C : Cx p s m args meth c D dA cX0_balls 7 (some .int) RX0)    {x1 : Int32} {x2 : Int32} {x3 : Int32} {x4 : Int32} {x5 : Int32} {w : GW} (hK45 : ∀ (x3 : Int32) (x4 : Int32) (x5 : Int32), K45 x3 x4 x5 → gAtX p l e s m args below meth c D dA ad 27 (va_Qi Q (gZ D dA 137 ad layX) (gA 137 ad)) 7 45 [(0, .ref (ad 0)), (1, .int x1), (2, .int x2), (3, .int x3), (4, .int x4), (5, .int x5)] [] w) (hw : PX0_balls_108 K45 Q x1 x2 x3 x4 x5 w) : gAtX p l e s m args below meth c D dA ad 27 (va_Qi Q (gZ D dA 137 ad layX) (gA 137 ad)) 7 108 [(0, .ref (ad 0)), (1, .int x1), (2, .int x2), (3, .int x3), (4, .int x4), (5, .int x5)] [] w := by
  unfold PX0_balls_108 at hw
  refine at_iload C dX0_balls_108 rfl ?_
  exact at_sub (lv_pickm [0, 1, 2, 3, 5] rfl) (tX0_balls_110 C hK45 hw)
set_option maxHeartbeats 4000000 in
theorem tX0_balls_90    {K45 : Int32 → Int32 → Int32 → Prop} {Q : Int32 → GW → Prop} (C : Cx p s m args meth c D dA cX0_balls 7 (some .int) RX0)    {x1 : Int32} {x2 : Int32} {x4 : Int32} {x5 : Int32} {x6 : Int32} {s0 : Int32} {s1 : Int32} {w : GW} (hK45 : ∀ (x3 : Int32) (x4 : Int32) (x5 : Int32), K45 x3 x4 x5 → gAtX p l e s m args below meth c D dA ad 27 (va_Qi Q (gZ D dA 137 ad layX) (gA 137 ad)) 7 45 [(0, .ref (ad 0)), (1, .int x1), (2, .int x2), (3, .int x3), (4, .int x4), (5, .int x5)] [] w) (hw : PX0_balls_90 K45 Q x1 x2 x4 x5 x6 s0 s1 w) : gAtX p l e s m args below meth c D dA ad 27 (va_Qi Q (gZ D dA 137 ad layX) (gA 137 ad)) 7 90 [(0, .ref (ad 0)), (1, .int x1), (2, .int x2), (4, .int x4), (5, .int x5), (6, .int x6)] [.int s1, .int s0] w := by
  unfold PX0_balls_90 at hw
  refine at_iadd C dX0_balls_90 ?_
  refine at_topi (fun v3_2 e3_2 => ?_)
  have hw := hw v3_2 e3_2
  refine at_istore_n (L' := [(0, .ref (ad 0)), (1, .int x1), (2, .int x2), (3, .int v3_2), (4, .int x4), (5, .int x5), (6, .int x6)]) C dX0_balls_91 rfl (Nat.le_of_ble_eq_true rfl) rfl ?_
  refine at_iload C dX0_balls_92 rfl ?_
  refine at_if_eq (tgt := 108) C dX0_balls_94 (by decide) (fun c_3 => ?_) (fun c_3 => ?_)
  · have hw := hw.1 c_3
    exact at_sub (lv_pickm [0, 1, 2, 3, 4, 5] rfl) (tX0_balls_108 C hK45 hw)
  · have hw := hw.2 c_3
    refine at_iload C dX0_balls_97 rfl ?_
    refine at_iconst C dX0_balls_99 ic_m1 ?_
    refine at_icmp_ne (tgt := 108) C dX0_balls_100 (by decide) (fun c_4 => ?_) (fun c_4 => ?_)
    · have hw := hw.1 c_4
      exact at_sub (lv_pickm [0, 1, 2, 3, 4, 5] rfl) (tX0_balls_108 C hK45 hw)
    · have hw := hw.2 c_4
      refine at_iload C dX0_balls_103 rfl ?_
      refine at_goto (tgt := 110) C dX0_balls_105 (by decide) ?_
      exact at_sub (lv_pickm [0, 1, 2, 3, 5] rfl) (tX0_balls_110 C hK45 hw)
set_option maxHeartbeats 4000000 in
theorem tX0_balls_77    {K45 : Int32 → Int32 → Int32 → Prop} {Q : Int32 → GW → Prop} (C : Cx p s m args meth c D dA cX0_balls 7 (some .int) RX0)    {x1 : Int32} {x2 : Int32} {x3 : Int32} {x4 : Int32} {x5 : Int32} {s0 : Int32} {w : GW} (hK45 : ∀ (x3 : Int32) (x4 : Int32) (x5 : Int32), K45 x3 x4 x5 → gAtX p l e s m args below meth c D dA ad 27 (va_Qi Q (gZ D dA 137 ad layX) (gA 137 ad)) 7 45 [(0, .ref (ad 0)), (1, .int x1), (2, .int x2), (3, .int x3), (4, .int x4), (5, .int x5)] [] w) (hw : PX0_balls_77 K45 Q x1 x2 x3 x4 x5 s0 w) : gAtX p l e s m args below meth c D dA ad 27 (va_Qi Q (gZ D dA 137 ad layX) (gA 137 ad)) 7 77 [(0, .ref (ad 0)), (1, .int x1), (2, .int x2), (3, .int x3), (4, .int x4), (5, .int x5)] [.int s0] w := by
  unfold PX0_balls_77 at hw
  refine at_istore (L' := [(0, .ref (ad 0)), (1, .int x1), (2, .int x2), (3, .int x3), (4, .int x4), (5, .int x5), (6, .int s0)]) C dX0_balls_77 (Nat.le_of_ble_eq_true rfl) rfl ?_
  refine at_iload_n C dX0_balls_79 rfl rfl ?_
  refine at_iload C dX0_balls_80 rfl ?_
  refine at_if_eq (tgt := 89) C dX0_balls_82 (by decide) (fun c_5 => ?_) (fun c_5 => ?_)
  · have hw := hw.1 c_5
    refine at_iconst C dX0_balls_89 ic_0 ?_
    exact at_sub (lv_pickm [0, 1, 2, 4, 5, 6] rfl) (tX0_balls_90 C hK45 hw)
  · have hw := hw.2 c_5
    refine at_iconst C dX0_balls_85 ic_1 ?_
    refine at_goto (tgt := 90) C dX0_balls_86 (by decide) ?_
    exact at_sub (lv_pickm [0, 1, 2, 4, 5, 6] rfl) (tX0_balls_90 C hK45 hw)
set_option maxHeartbeats 4000000 in
theorem tX0_balls_76    {K45 : Int32 → Int32 → Int32 → Prop} {Q : Int32 → GW → Prop} (C : Cx p s m args meth c D dA cX0_balls 7 (some .int) RX0)    {x1 : Int32} {x2 : Int32} {x3 : Int32} {x4 : Int32} {x5 : Int32} {w : GW} (hK45 : ∀ (x3 : Int32) (x4 : Int32) (x5 : Int32), K45 x3 x4 x5 → gAtX p l e s m args below meth c D dA ad 27 (va_Qi Q (gZ D dA 137 ad layX) (gA 137 ad)) 7 45 [(0, .ref (ad 0)), (1, .int x1), (2, .int x2), (3, .int x3), (4, .int x4), (5, .int x5)] [] w) (hw : PX0_balls_76 K45 Q x1 x2 x3 x4 x5 w) : gAtX p l e s m args below meth c D dA ad 27 (va_Qi Q (gZ D dA 137 ad layX) (gA 137 ad)) 7 76 [(0, .ref (ad 0)), (1, .int x1), (2, .int x2), (3, .int x3), (4, .int x4), (5, .int x5)] [] w := by
  unfold PX0_balls_76 at hw
  refine at_iconst C dX0_balls_76 ic_0 ?_
  exact (tX0_balls_77 C hK45 hw)
set_option maxHeartbeats 4000000 in
theorem tX0_balls_45     {Q : Int32 → GW → Prop} (C : Cx p s m args meth c D dA cX0_balls 7 (some .int) RX0)    {x1 : Int32} {x2 : Int32} {w : GW}  : ∀ (n : Nat) (x3 : Int32) (x4 : Int32) (x5 : Int32), PX0_balls_45 Q x1 x2 w n x3 x4 x5 → gAtX p l e s m args below meth c D dA ad 27 (va_Qi Q (gZ D dA 137 ad layX) (gA 137 ad)) 7 45 [(0, .ref (ad 0)), (1, .int x1), (2, .int x2), (3, .int x3), (4, .int x4), (5, .int x5)] [] w := by
  intro n
  induction n with
  | zero => intro x3 x4 x5 hw; exact False.elim hw
  | succ n ih =>
    intro x3 x4 x5 hw
    unfold PX0_balls_45 at hw
    refine at_iload C dX0_balls_45 rfl ?_
    refine at_sipush C dX0_balls_47 sp_4300 ?_
    refine at_icmp_ge (tgt := 118) C dX0_balls_50 (by decide) (fun c_6 => ?_) (fun c_6 => ?_)
    · have hw := hw.1 c_6
      refine at_iload_n C dX0_balls_118 rfl rfl ?_
      refine at_if_ne (tgt := 126) C dX0_balls_119 (by decide) (fun c_7 => ?_) (fun c_7 => ?_)
      · have hw := hw.1 c_7
        refine at_iload C dX0_balls_126 rfl ?_
        exact at_iret C rfl hw dX0_balls_128
      · have hw := hw.2 c_7
        refine at_iload_n C dX0_balls_122 rfl rfl ?_
        refine at_goto (tgt := 128) C dX0_balls_123 (by decide) ?_
        exact at_iret C rfl hw dX0_balls_128
    · have hw := hw.2 c_6
      refine at_iload C dX0_balls_53 rfl ?_
      refine at_callp (run_S (rest := []) (As := [.int x5]) C (metX0_isBall l D dA ad  hw) (lw_S q419 q420 q56 q421) dsX0_isBall (gR_ok (Nat.le_of_ble_eq_true rfl) (Nat.le_of_ble_eq_true rfl)) ⟨rfl, rfl⟩ ⟨(Nat.le_of_ble_eq_true rfl), (Nat.le_of_ble_eq_true rfl)⟩ rfl rfl (Nat.le_of_ble_eq_true rfl) dX0_balls_55) (fun r_8  hw => ?_)
      refine at_if_eq (tgt := 76) C dX0_balls_58 (by decide) (fun c_9 => ?_) (fun c_9 => ?_)
      · have hw := hw.1 c_9
        exact (tX0_balls_76 C ih hw)
      · have hw := hw.2 c_9
        refine at_aload_n C dX0_balls_61 rfl rfl ?_
        refine at_getr (j := 12) (r := 22) C (Nat.le_of_ble_eq_true rfl) rfl rfl in_X0 (Nat.le_of_ble_eq_true rfl) rfl q228 dX0_balls_62 ?_
        refine at_iload C dX0_balls_65 rfl ?_
        refine at_iald C (Nat.le_of_ble_eq_true rfl) rfl hw.1 rfl dX0_balls_67 ?_
        have hw := hw.2
        refine at_iload_n C dX0_balls_68 rfl rfl ?_
        refine at_icmp_ne (tgt := 76) C dX0_balls_69 (by decide) (fun c_10 => ?_) (fun c_10 => ?_)
        · have hw := hw.1 c_10
          exact (tX0_balls_76 C ih hw)
        · have hw := hw.2 c_10
          refine at_iconst C dX0_balls_72 ic_1 ?_
          refine at_goto (tgt := 77) C dX0_balls_73 (by decide) ?_
          exact (tX0_balls_77 C ih hw)
set_option maxHeartbeats 4000000 in
theorem metX0_balls   (l : Launch) (D : va_G) (dA : Nat → ClassId) (ad : Nat → Nat)    {x1 : Int32} {x2 : Int32} {w : GW} {Q : Int32 → GW → Prop} (hw : PX0_balls x1 x2 w Q) : Met l yX0_balls (ws_ yX0_balls cX0_balls 7 (some .int)) (gR 27) (va_Pc [.ref (ad 0), .int x1, .int x2] (gB D dA 137 ad layX w)) (va_Qi Q (gZ D dA 137 ad layX) (gA 137 ad)) 0 0 (gA 137 ad) := by
  refine gm_of (L := [(0, .ref (ad 0)), (1, .int x1), (2, .int x2)]) (own := RX0) (by decide +kernel) rfl (Nat.le_of_ble_eq_true rfl) rfl rfl (fun p e s m below meth c C => ?_)
  unfold PX0_balls at hw
  refine at_aload_n C dX0_balls_0 rfl rfl ?_
  refine at_iload_n C dX0_balls_1 rfl rfl ?_
  refine at_callp (run_V (rest := []) (As := [.int x1]) C (metX0_isSet l D dA ad  hw) (lw_V q617 q619 qs21 q56 q620) dsX0_isSet (gR_ok (Nat.le_of_ble_eq_true rfl) (Nat.le_of_ble_eq_true rfl)) ⟨rfl, rfl⟩ ⟨(Nat.le_of_ble_eq_true rfl), (Nat.le_of_ble_eq_true rfl)⟩ (Nat.le_of_ble_eq_true rfl) rfl rfl rfl rfl (Nat.le_of_ble_eq_true rfl) dX0_balls_2) (fun r_11  hw => ?_)
  refine at_if_ne (tgt := 11) C dX0_balls_5 (by decide) (fun c_12 => ?_) (fun c_12 => ?_)
  · have hw := hw.1 c_12
    refine at_iload_n C dX0_balls_11 rfl rfl ?_
    refine at_iconst C dX0_balls_12 ic_0 ?_
    refine at_iconst C dX0_balls_13 ic_1 ?_
    refine at_callp (run_S (rest := []) (As := [.int x2, .int 0, .int 1]) C (metX0_isIn l D dA ad  hw) (lw_S q266 q267 q56 q268) dsX0_isIn (gR_ok (Nat.le_of_ble_eq_true rfl) (Nat.le_of_ble_eq_true rfl)) ⟨rfl, rfl⟩ ⟨(Nat.le_of_ble_eq_true rfl), (Nat.le_of_ble_eq_true rfl)⟩ rfl rfl (Nat.le_of_ble_eq_true rfl) dX0_balls_14) (fun r_13  hw => ?_)
    refine at_if_ne (tgt := 23) C dX0_balls_17 (by decide) (fun c_14 => ?_) (fun c_14 => ?_)
    · have hw := hw.1 c_14
      refine at_aload_n C dX0_balls_23 rfl rfl ?_
      refine at_callp (run_V (rest := []) (As := []) C (metX0_isCounty l D dA ad  hw) (lw_V q407 q409 qs7 q56 q410) dsX0_isCounty (gR_ok (Nat.le_of_ble_eq_true rfl) (Nat.le_of_ble_eq_true rfl)) ⟨rfl, rfl⟩ ⟨(Nat.le_of_ble_eq_true rfl), (Nat.le_of_ble_eq_true rfl)⟩ (Nat.le_of_ble_eq_true rfl) rfl rfl rfl rfl (Nat.le_of_ble_eq_true rfl) dX0_balls_24) (fun r_15  hw => ?_)
      refine at_if_ne (tgt := 33) C dX0_balls_27 (by decide) (fun c_16 => ?_) (fun c_16 => ?_)
      · have hw := hw.1 c_16
        refine at_aload_n C dX0_balls_33 rfl rfl ?_
        refine at_callv (run_V (rest := []) (As := []) C (metX0_layFells l D dA ad  hw) (lw_V q415 q417 qs9 q56 q418) dsX0_layFells (gR_ok (Nat.le_of_ble_eq_true rfl) (Nat.le_of_ble_eq_true rfl)) ⟨rfl, rfl⟩ ⟨(Nat.le_of_ble_eq_true rfl), (Nat.le_of_ble_eq_true rfl)⟩ (Nat.le_of_ble_eq_true rfl) rfl rfl rfl rfl (Nat.le_of_ble_eq_true rfl) dX0_balls_34) (fun  w_18 hw => ?_)
        refine at_iconst C dX0_balls_37 ic_0 ?_
        refine at_istore_n (L' := [(0, .ref (ad 0)), (1, .int x1), (2, .int x2), (3, .int 0)]) C dX0_balls_38 rfl (Nat.le_of_ble_eq_true rfl) rfl ?_
        refine at_iconst C dX0_balls_39 ic_m1 ?_
        refine at_istore (L' := [(0, .ref (ad 0)), (1, .int x1), (2, .int x2), (3, .int 0), (4, .int (-1))]) C dX0_balls_40 (Nat.le_of_ble_eq_true rfl) rfl ?_
        refine at_iconst C dX0_balls_42 ic_0 ?_
        refine at_istore (L' := [(0, .ref (ad 0)), (1, .int x1), (2, .int x2), (3, .int 0), (4, .int (-1)), (5, .int 0)]) C dX0_balls_43 (Nat.le_of_ble_eq_true rfl) rfl ?_
        obtain ⟨n_19, hw⟩ := hw
        exact (tX0_balls_45 C  _ _ _ _ hw)
      · have hw := hw.2 c_16
        refine at_ldc C q547 dX0_balls_30 ?_
        exact at_iret C rfl hw dX0_balls_32
    · have hw := hw.2 c_14
      refine at_ldc C q269 dX0_balls_20 ?_
      exact at_iret C rfl hw dX0_balls_22
  · have hw := hw.2 c_12
    refine at_ldc C q525 dX0_balls_8 ?_
    exact at_iret C rfl hw dX0_balls_10
set_option maxHeartbeats 4000000 in
theorem tX0_spare_127    {K38 : Int32 → Int32 → Prop} {Q : Int32 → GW → Prop} (C : Cx p s m args meth c D dA cX0_spare 7 (some .int) RX0)    {x1 : Int32} {x2 : Int32} {x4 : Int32} {s0 : Int32} {w : GW} (hK38 : ∀ (x3 : Int32) (x4 : Int32), K38 x3 x4 → gAtX p l e s m args below meth c D dA ad 27 (va_Qi Q (gZ D dA 137 ad layX) (gA 137 ad)) 7 38 [(0, .ref (ad 0)), (1, .int x1), (2, .int x2), (3, .int x3), (4, .int x4)] [] w) (hw : PX0_spare_127 K38 Q x1 x2 x4 s0 w) : gAtX p l e s m args below meth c D dA ad 27 (va_Qi Q (gZ D dA 137 ad layX) (gA 137 ad)) 7 127 [(0, .ref (ad 0)), (1, .int x1), (2, .int x2), (4, .int x4)] [.int s0] w := by
  unfold PX0_spare_127 at hw
  refine at_istore_n (L' := [(0, .ref (ad 0)), (1, .int x1), (2, .int x2), (3, .int s0), (4, .int x4)]) C dX0_spare_127 rfl (Nat.le_of_ble_eq_true rfl) rfl ?_
  refine at_iinc (F := fun z_ => [(0, .ref (ad 0)), (1, .int x1), (2, .int x2), (3, .int s0), (4, .int z_)]) C dX0_spare_128 rfl ic_1 (Nat.le_of_ble_eq_true rfl) (fun _ => rfl) (fun v4_1 e4_1 => ?_)
  have hw := hw v4_1 e4_1
  refine at_goto (tgt := 38) C dX0_spare_131 (by decide) ?_
  exact hK38 _ _ hw
set_option maxHeartbeats 4000000 in
theorem tX0_spare_126    {K38 : Int32 → Int32 → Prop} {Q : Int32 → GW → Prop} (C : Cx p s m args meth c D dA cX0_spare 7 (some .int) RX0)    {x1 : Int32} {x2 : Int32} {x3 : Int32} {x4 : Int32} {w : GW} (hK38 : ∀ (x3 : Int32) (x4 : Int32), K38 x3 x4 → gAtX p l e s m args below meth c D dA ad 27 (va_Qi Q (gZ D dA 137 ad layX) (gA 137 ad)) 7 38 [(0, .ref (ad 0)), (1, .int x1), (2, .int x2), (3, .int x3), (4, .int x4)] [] w) (hw : PX0_spare_126 K38 Q x1 x2 x3 x4 w) : gAtX p l e s m args below meth c D dA ad 27 (va_Qi Q (gZ D dA 137 ad layX) (gA 137 ad)) 7 126 [(0, .ref (ad 0)), (1, .int x1), (2, .int x2), (3, .int x3), (4, .int x4)] [] w := by
  unfold PX0_spare_126 at hw
  refine at_iload_n C dX0_spare_126 rfl rfl ?_
  exact at_sub (lv_pickm [0, 1, 2, 4] rfl) (tX0_spare_127 C hK38 hw)
set_option maxHeartbeats 4000000 in
theorem tX0_spare_109    {K38 : Int32 → Int32 → Prop} {Q : Int32 → GW → Prop} (C : Cx p s m args meth c D dA cX0_spare 7 (some .int) RX0)    {x1 : Int32} {x2 : Int32} {x3 : Int32} {x4 : Int32} {x5 : Int32} {s0 : Int32} {w : GW} (hK38 : ∀ (x3 : Int32) (x4 : Int32), K38 x3 x4 → gAtX p l e s m args below meth c D dA ad 27 (va_Qi Q (gZ D dA 137 ad layX) (gA 137 ad)) 7 38 [(0, .ref (ad 0)), (1, .int x1), (2, .int x2), (3, .int x3), (4, .int x4)] [] w) (hw : PX0_spare_109 K38 Q x1 x2 x3 x4 x5 s0 w) : gAtX p l e s m args below meth c D dA ad 27 (va_Qi Q (gZ D dA 137 ad layX) (gA 137 ad)) 7 109 [(0, .ref (ad 0)), (1, .int x1), (2, .int x2), (3, .int x3), (4, .int x4), (5, .int x5)] [.int s0] w := by
  unfold PX0_spare_109 at hw
  refine at_istore (L' := [(0, .ref (ad 0)), (1, .int x1), (2, .int x2), (3, .int x3), (4, .int x4), (5, .int x5), (6, .int s0)]) C dX0_spare_109 (Nat.le_of_ble_eq_true rfl) rfl ?_
  refine at_iload C dX0_spare_111 rfl ?_
  refine at_if_eq (tgt := 126) C dX0_spare_113 (by decide) (fun c_2 => ?_) (fun c_2 => ?_)
  · have hw := hw.1 c_2
    exact at_sub (lv_pickm [0, 1, 2, 3, 4] rfl) (tX0_spare_126 C hK38 hw)
  · have hw := hw.2 c_2
    refine at_iload C dX0_spare_116 rfl ?_
    refine at_if_eq (tgt := 126) C dX0_spare_118 (by decide) (fun c_3 => ?_) (fun c_3 => ?_)
    · have hw := hw.1 c_3
      exact at_sub (lv_pickm [0, 1, 2, 3, 4] rfl) (tX0_spare_126 C hK38 hw)
    · have hw := hw.2 c_3
      refine at_iload C dX0_spare_121 rfl ?_
      refine at_goto (tgt := 127) C dX0_spare_123 (by decide) ?_
      exact at_sub (lv_pickm [0, 1, 2, 4] rfl) (tX0_spare_127 C hK38 hw)
set_option maxHeartbeats 4000000 in
theorem tX0_spare_104    {K38 : Int32 → Int32 → Prop} {Q : Int32 → GW → Prop} (C : Cx p s m args meth c D dA cX0_spare 7 (some .int) RX0)    {x1 : Int32} {x2 : Int32} {x3 : Int32} {x4 : Int32} {x5 : Int32} {w : GW} (hK38 : ∀ (x3 : Int32) (x4 : Int32), K38 x3 x4 → gAtX p l e s m args below meth c D dA ad 27 (va_Qi Q (gZ D dA 137 ad layX) (gA 137 ad)) 7 38 [(0, .ref (ad 0)), (1, .int x1), (2, .int x2), (3, .int x3), (4, .int x4)] [] w) (hw : PX0_spare_104 K38 Q x1 x2 x3 x4 x5 w) : gAtX p l e s m args below meth c D dA ad 27 (va_Qi Q (gZ D dA 137 ad layX) (gA 137 ad)) 7 104 [(0, .ref (ad 0)), (1, .int x1), (2, .int x2), (3, .int x3), (4, .int x4), (5, .int x5)] [] w := by
  unfold PX0_spare_104 at hw
  refine at_iconst C dX0_spare_104 ic_1 ?_
  refine at_goto (tgt := 109) C dX0_spare_105 (by decide) ?_
  exact (tX0_spare_109 C hK38 hw)
set_option maxHeartbeats 4000000 in
theorem tX0_spare_85    {K38 : Int32 → Int32 → Prop} {Q : Int32 → GW → Prop} (C : Cx p s m args meth c D dA cX0_spare 7 (some .int) RX0)    {x1 : Int32} {x2 : Int32} {x3 : Int32} {x4 : Int32} {s0 : Int32} {w : GW} (hK38 : ∀ (x3 : Int32) (x4 : Int32), K38 x3 x4 → gAtX p l e s m args below meth c D dA ad 27 (va_Qi Q (gZ D dA 137 ad layX) (gA 137 ad)) 7 38 [(0, .ref (ad 0)), (1, .int x1), (2, .int x2), (3, .int x3), (4, .int x4)] [] w) (hw : PX0_spare_85 K38 Q x1 x2 x3 x4 s0 w) : gAtX p l e s m args below meth c D dA ad 27 (va_Qi Q (gZ D dA 137 ad layX) (gA 137 ad)) 7 85 [(0, .ref (ad 0)), (1, .int x1), (2, .int x2), (3, .int x3), (4, .int x4)] [.int s0] w := by
  unfold PX0_spare_85 at hw
  refine at_istore (L' := [(0, .ref (ad 0)), (1, .int x1), (2, .int x2), (3, .int x3), (4, .int x4), (5, .int s0)]) C dX0_spare_85 (Nat.le_of_ble_eq_true rfl) rfl ?_
  refine at_iload_n C dX0_spare_87 rfl rfl ?_
  refine at_iconst C dX0_spare_88 ic_m1 ?_
  refine at_icmp_eq (tgt := 104) C dX0_spare_89 (by decide) (fun c_4 => ?_) (fun c_4 => ?_)
  · have hw := hw.1 c_4
    exact (tX0_spare_104 C hK38 hw)
  · have hw := hw.2 c_4
    refine at_iload C dX0_spare_92 rfl ?_
    refine at_bipush C dX0_spare_94 bp_100 ?_
    refine at_irem C dX0_spare_96 nz_100 ?_
    refine at_iload_n C dX0_spare_97 rfl rfl ?_
    refine at_bipush C dX0_spare_98 bp_100 ?_
    refine at_irem C dX0_spare_100 nz_100 ?_
    refine at_icmp_ge (tgt := 108) C dX0_spare_101 (by decide) (fun c_5 => ?_) (fun c_5 => ?_)
    · have hw := hw.1 c_5
      refine at_iconst C dX0_spare_108 ic_0 ?_
      exact (tX0_spare_109 C hK38 hw)
    · have hw := hw.2 c_5
      exact (tX0_spare_104 C hK38 hw)
set_option maxHeartbeats 4000000 in
theorem tX0_spare_84    {K38 : Int32 → Int32 → Prop} {Q : Int32 → GW → Prop} (C : Cx p s m args meth c D dA cX0_spare 7 (some .int) RX0)    {x1 : Int32} {x2 : Int32} {x3 : Int32} {x4 : Int32} {w : GW} (hK38 : ∀ (x3 : Int32) (x4 : Int32), K38 x3 x4 → gAtX p l e s m args below meth c D dA ad 27 (va_Qi Q (gZ D dA 137 ad layX) (gA 137 ad)) 7 38 [(0, .ref (ad 0)), (1, .int x1), (2, .int x2), (3, .int x3), (4, .int x4)] [] w) (hw : PX0_spare_84 K38 Q x1 x2 x3 x4 w) : gAtX p l e s m args below meth c D dA ad 27 (va_Qi Q (gZ D dA 137 ad layX) (gA 137 ad)) 7 84 [(0, .ref (ad 0)), (1, .int x1), (2, .int x2), (3, .int x3), (4, .int x4)] [] w := by
  unfold PX0_spare_84 at hw
  refine at_iconst C dX0_spare_84 ic_0 ?_
  exact (tX0_spare_85 C hK38 hw)
set_option maxHeartbeats 4000000 in
theorem tX0_spare_38     {Q : Int32 → GW → Prop} (C : Cx p s m args meth c D dA cX0_spare 7 (some .int) RX0)    {x1 : Int32} {x2 : Int32} {w : GW}  : ∀ (n : Nat) (x3 : Int32) (x4 : Int32), PX0_spare_38 Q x1 x2 w n x3 x4 → gAtX p l e s m args below meth c D dA ad 27 (va_Qi Q (gZ D dA 137 ad layX) (gA 137 ad)) 7 38 [(0, .ref (ad 0)), (1, .int x1), (2, .int x2), (3, .int x3), (4, .int x4)] [] w := by
  intro n
  induction n with
  | zero => intro x3 x4 hw; exact False.elim hw
  | succ n ih =>
    intro x3 x4 hw
    unfold PX0_spare_38 at hw
    refine at_iload C dX0_spare_38 rfl ?_
    refine at_sipush C dX0_spare_40 sp_4300 ?_
    refine at_icmp_ge (tgt := 134) C dX0_spare_43 (by decide) (fun c_6 => ?_) (fun c_6 => ?_)
    · have hw := hw.1 c_6
      refine at_iload_n C dX0_spare_134 rfl rfl ?_
      exact at_iret C rfl hw dX0_spare_135
    · have hw := hw.2 c_6
      refine at_iload C dX0_spare_46 rfl ?_
      refine at_callp (run_S (rest := []) (As := [.int x4]) C (metX0_isBall l D dA ad  hw) (lw_S q419 q420 q56 q421) dsX0_isBall (gR_ok (Nat.le_of_ble_eq_true rfl) (Nat.le_of_ble_eq_true rfl)) ⟨rfl, rfl⟩ ⟨(Nat.le_of_ble_eq_true rfl), (Nat.le_of_ble_eq_true rfl)⟩ rfl rfl (Nat.le_of_ble_eq_true rfl) dX0_spare_48) (fun r_7  hw => ?_)
      refine at_if_eq (tgt := 84) C dX0_spare_51 (by decide) (fun c_8 => ?_) (fun c_8 => ?_)
      · have hw := hw.1 c_8
        exact (tX0_spare_84 C ih hw)
      · have hw := hw.2 c_8
        refine at_iload_n C dX0_spare_54 rfl rfl ?_
        refine at_aload_n C dX0_spare_55 rfl rfl ?_
        refine at_getr (j := 12) (r := 22) C (Nat.le_of_ble_eq_true rfl) rfl rfl in_X0 (Nat.le_of_ble_eq_true rfl) rfl q228 dX0_spare_56 ?_
        refine at_iload C dX0_spare_59 rfl ?_
        refine at_iald C (Nat.le_of_ble_eq_true rfl) rfl hw.1 rfl dX0_spare_61 ?_
        have hw := hw.2
        refine at_iconst C dX0_spare_62 ic_m1 ?_
        refine at_ixor C dX0_spare_63 ?_
        refine at_iand C dX0_spare_64 ?_
        refine at_if_ne (tgt := 84) C dX0_spare_65 (by decide) (fun c_9 => ?_) (fun c_9 => ?_)
        · have hw := hw.1 c_9
          exact (tX0_spare_84 C ih hw)
        · have hw := hw.2 c_9
          refine at_iload_n C dX0_spare_68 rfl rfl ?_
          refine at_aload_n C dX0_spare_69 rfl rfl ?_
          refine at_getr (j := 12) (r := 22) C (Nat.le_of_ble_eq_true rfl) rfl rfl in_X0 (Nat.le_of_ble_eq_true rfl) rfl q228 dX0_spare_70 ?_
          refine at_iload C dX0_spare_73 rfl ?_
          refine at_iald C (Nat.le_of_ble_eq_true rfl) rfl hw.1 rfl dX0_spare_75 ?_
          have hw := hw.2
          refine at_iand C dX0_spare_76 ?_
          refine at_if_ne (tgt := 84) C dX0_spare_77 (by decide) (fun c_10 => ?_) (fun c_10 => ?_)
          · have hw := hw.1 c_10
            exact (tX0_spare_84 C ih hw)
          · have hw := hw.2 c_10
            refine at_iconst C dX0_spare_80 ic_1 ?_
            refine at_goto (tgt := 85) C dX0_spare_81 (by decide) ?_
            exact (tX0_spare_85 C ih hw)
set_option maxHeartbeats 4000000 in
theorem metX0_spare   (l : Launch) (D : va_G) (dA : Nat → ClassId) (ad : Nat → Nat)    {x1 : Int32} {x2 : Int32} {w : GW} {Q : Int32 → GW → Prop} (hw : PX0_spare x1 x2 w Q) : Met l yX0_spare (ws_ yX0_spare cX0_spare 7 (some .int)) (gR 27) (va_Pc [.ref (ad 0), .int x1, .int x2] (gB D dA 137 ad layX w)) (va_Qi Q (gZ D dA 137 ad layX) (gA 137 ad)) 0 0 (gA 137 ad) := by
  refine gm_of (L := [(0, .ref (ad 0)), (1, .int x1), (2, .int x2)]) (own := RX0) (by decide +kernel) rfl (Nat.le_of_ble_eq_true rfl) rfl rfl (fun p e s m below meth c C => ?_)
  unfold PX0_spare at hw
  refine at_aload_n C dX0_spare_0 rfl rfl ?_
  refine at_iload_n C dX0_spare_1 rfl rfl ?_
  refine at_callp (run_V (rest := []) (As := [.int x1]) C (metX0_isSet l D dA ad  hw) (lw_V q617 q619 qs21 q56 q620) dsX0_isSet (gR_ok (Nat.le_of_ble_eq_true rfl) (Nat.le_of_ble_eq_true rfl)) ⟨rfl, rfl⟩ ⟨(Nat.le_of_ble_eq_true rfl), (Nat.le_of_ble_eq_true rfl)⟩ (Nat.le_of_ble_eq_true rfl) rfl rfl rfl rfl (Nat.le_of_ble_eq_true rfl) dX0_spare_2) (fun r_11  hw => ?_)
  refine at_if_eq (tgt := 16) C dX0_spare_5 (by decide) (fun c_12 => ?_) (fun c_12 => ?_)
  · have hw := hw.1 c_12
    refine at_ldc C q525 dX0_spare_16 ?_
    exact at_iret C rfl hw dX0_spare_18
  · have hw := hw.2 c_12
    refine at_aload_n C dX0_spare_8 rfl rfl ?_
    refine at_iload_n C dX0_spare_9 rfl rfl ?_
    refine at_callp (run_V (rest := []) (As := [.int x2]) C (metX0_isSet l D dA ad  hw) (lw_V q617 q619 qs21 q56 q620) dsX0_isSet (gR_ok (Nat.le_of_ble_eq_true rfl) (Nat.le_of_ble_eq_true rfl)) ⟨rfl, rfl⟩ ⟨(Nat.le_of_ble_eq_true rfl), (Nat.le_of_ble_eq_true rfl)⟩ (Nat.le_of_ble_eq_true rfl) rfl rfl rfl rfl (Nat.le_of_ble_eq_true rfl) dX0_spare_10) (fun r_13  hw => ?_)
    refine at_if_ne (tgt := 19) C dX0_spare_13 (by decide) (fun c_14 => ?_) (fun c_14 => ?_)
    · have hw := hw.1 c_14
      refine at_aload_n C dX0_spare_19 rfl rfl ?_
      refine at_callp (run_V (rest := []) (As := []) C (metX0_isCounty l D dA ad  hw) (lw_V q407 q409 qs7 q56 q410) dsX0_isCounty (gR_ok (Nat.le_of_ble_eq_true rfl) (Nat.le_of_ble_eq_true rfl)) ⟨rfl, rfl⟩ ⟨(Nat.le_of_ble_eq_true rfl), (Nat.le_of_ble_eq_true rfl)⟩ (Nat.le_of_ble_eq_true rfl) rfl rfl rfl rfl (Nat.le_of_ble_eq_true rfl) dX0_spare_20) (fun r_15  hw => ?_)
      refine at_if_ne (tgt := 29) C dX0_spare_23 (by decide) (fun c_16 => ?_) (fun c_16 => ?_)
      · have hw := hw.1 c_16
        refine at_aload_n C dX0_spare_29 rfl rfl ?_
        refine at_callv (run_V (rest := []) (As := []) C (metX0_layFells l D dA ad  hw) (lw_V q415 q417 qs9 q56 q418) dsX0_layFells (gR_ok (Nat.le_of_ble_eq_true rfl) (Nat.le_of_ble_eq_true rfl)) ⟨rfl, rfl⟩ ⟨(Nat.le_of_ble_eq_true rfl), (Nat.le_of_ble_eq_true rfl)⟩ (Nat.le_of_ble_eq_true rfl) rfl rfl rfl rfl (Nat.le_of_ble_eq_true rfl) dX0_spare_30) (fun  w_18 hw => ?_)
        refine at_iconst C dX0_spare_33 ic_m1 ?_
        refine at_istore_n (L' := [(0, .ref (ad 0)), (1, .int x1), (2, .int x2), (3, .int (-1))]) C dX0_spare_34 rfl (Nat.le_of_ble_eq_true rfl) rfl ?_
        refine at_iconst C dX0_spare_35 ic_0 ?_
        refine at_istore (L' := [(0, .ref (ad 0)), (1, .int x1), (2, .int x2), (3, .int (-1)), (4, .int 0)]) C dX0_spare_36 (Nat.le_of_ble_eq_true rfl) rfl ?_
        obtain ⟨n_19, hw⟩ := hw
        exact (tX0_spare_38 C  _ _ _ hw)
      · have hw := hw.2 c_16
        refine at_ldc C q547 dX0_spare_26 ?_
        exact at_iret C rfl hw dX0_spare_28
    · have hw := hw.2 c_14
      refine at_ldc C q525 dX0_spare_16 ?_
      exact at_iret C rfl hw dX0_spare_18
set_option maxHeartbeats 4000000 in
theorem metX0_resultOf   (l : Launch) (D : va_G) (dA : Nat → ClassId) (ad : Nat → Nat)    {x1 : Int32} {x2 : Int32} {w : GW} {Q : Int32 → GW → Prop} (hw : PX0_resultOf x1 x2 w Q) : Met l yX0_resultOf (ws_ yX0_resultOf cX0_resultOf 4 (some .int)) (gR 25) (va_Pc [.ref (ad 0), .int x1, .int x2] (gB D dA 137 ad layX w)) (va_Qi Q (gZ D dA 137 ad layX) (gA 137 ad)) 0 0 (gA 137 ad) := by
  refine gm_of (L := [(0, .ref (ad 0)), (1, .int x1), (2, .int x2)]) (own := RX0) (by decide +kernel) rfl (Nat.le_of_ble_eq_true rfl) rfl rfl (fun p e s m below meth c C => ?_)
  unfold PX0_resultOf at hw
  refine at_aload_n C dX0_resultOf_0 rfl rfl ?_
  refine at_getr (j := 3) (r := 12) C (Nat.le_of_ble_eq_true rfl) rfl rfl in_X0 (Nat.le_of_ble_eq_true rfl) rfl q219 dX0_resultOf_1 ?_
  refine at_iload_n C dX0_resultOf_4 rfl rfl ?_
  refine at_putiN (j := 5) C (gSt_k0 gSt_tried) (layX_0 gSt_tried) rfl in_X2 (Nat.le_of_ble_eq_true rfl) rfl q134 tyX2 tyX2_ok nmX2 rfl rfl rfl dX0_resultOf_5 (fun w_1 ew_1 => ?_)
  have hw := hw w_1 ew_1
  refine at_aload_n C dX0_resultOf_8 rfl rfl ?_
  refine at_getr (j := 3) (r := 12) C (Nat.le_of_ble_eq_true rfl) rfl rfl in_X0 (Nat.le_of_ble_eq_true rfl) rfl q219 dX0_resultOf_9 ?_
  refine at_iload_n C dX0_resultOf_12 rfl rfl ?_
  refine at_calli (run_V (rest := []) (As := [.int x2]) C (metX2_rollBall l D dA ad gSt_tried hw) (lw_V q430 q431 q432 q58 q433) dsX2_rollBall (gR_ok (Nat.le_of_ble_eq_true rfl) (Nat.le_of_ble_eq_true rfl)) ⟨rfl, rfl⟩ ⟨(Nat.le_of_ble_eq_true rfl), (Nat.le_of_ble_eq_true rfl)⟩ (gSt_k0 gSt_tried) (layX_0 gSt_tried) rfl rfl rfl (Nat.le_of_ble_eq_true rfl) dX0_resultOf_13) (fun r_2 w_3 hw => ?_)
  refine at_istore_n (L' := [(0, .ref (ad 0)), (1, .int x1), (2, .int x2), (3, .int r_2)]) C dX0_resultOf_16 rfl (Nat.le_of_ble_eq_true rfl) rfl ?_
  refine at_aload_n C dX0_resultOf_17 rfl rfl ?_
  refine at_getr (j := 3) (r := 12) C (Nat.le_of_ble_eq_true rfl) rfl rfl in_X0 (Nat.le_of_ble_eq_true rfl) rfl q219 dX0_resultOf_18 ?_
  refine at_getiN (j := 5) C (gSt_k0 gSt_tried) (layX_0 gSt_tried) rfl in_X2 (Nat.le_of_ble_eq_true rfl) rfl q134 dX0_resultOf_21 ?_
  exact at_iret C rfl hw dX0_resultOf_24
set_option maxHeartbeats 4000000 in
theorem tX0_needOf_93   {Rec : Int32 → GW → (Int32 → GW → Prop) → Prop} {rk : Nat}  {Q : Int32 → GW → Prop} (C : Cx p s m args meth c D dA cX0_needOf 4 (some .int) RX0)  (hrk : 26 ≤ rk) (hRec : ∀  (x1 : Int32) (w : GW) (Q : Int32 → GW → Prop), Rec x1 w Q → Met l yX0_needOf (ws_ yX0_needOf cX0_needOf 4 (some .int)) (gR rk) (va_Pc [.ref (ad 0), .int x1] (gB D dA 137 ad layX w)) (va_Qi Q (gZ D dA 137 ad layX) (gA 137 ad)) 0 0 (gA 137 ad))  {x1 : Int32} {w : GW}  (hw : PX0_needOf_93 Rec Q x1 w) : gAtX p l e s m args below meth c D dA ad (rk + 1) (va_Qi Q (gZ D dA 137 ad layX) (gA 137 ad)) 4 93 [(0, .ref (ad 0)), (1, .int x1)] [] w := by
  unfold PX0_needOf_93 at hw
  refine at_aload_n C dX0_needOf_93 rfl rfl ?_
  refine at_getr (j := 13) (r := 23) C (Nat.le_of_ble_eq_true rfl) rfl rfl in_X0 (Nat.le_of_ble_eq_true rfl) rfl q229 dX0_needOf_94 ?_
  refine at_iload_n C dX0_needOf_97 rfl rfl ?_
  refine at_iald C (Nat.le_of_ble_eq_true rfl) rfl hw.1 rfl dX0_needOf_98 ?_
  have hw := hw.2
  exact at_iret C rfl hw dX0_needOf_99
set_option maxHeartbeats 4000000 in
theorem tX0_needOf_86   {Rec : Int32 → GW → (Int32 → GW → Prop) → Prop} {rk : Nat} {K26 : Int32 → GW → Prop} {Q : Int32 → GW → Prop} (C : Cx p s m args meth c D dA cX0_needOf 4 (some .int) RX0)  (hrk : 26 ≤ rk) (hRec : ∀  (x1 : Int32) (w : GW) (Q : Int32 → GW → Prop), Rec x1 w Q → Met l yX0_needOf (ws_ yX0_needOf cX0_needOf 4 (some .int)) (gR rk) (va_Pc [.ref (ad 0), .int x1] (gB D dA 137 ad layX w)) (va_Qi Q (gZ D dA 137 ad layX) (gA 137 ad)) 0 0 (gA 137 ad))  {x1 : Int32} {x2 : Int32} {s1 : Int32} {s2 : Int32} {w : GW} (hK26 : ∀ (x2 : Int32) (w : GW), K26 x2 w → gAtX p l e s m args below meth c D dA ad (rk + 1) (va_Qi Q (gZ D dA 137 ad layX) (gA 137 ad)) 4 26 [(0, .ref (ad 0)), (1, .int x1), (2, .int x2)] [] w) (hw : PX0_needOf_86 Rec K26 Q x1 x2 s1 s2 w) : gAtX p l e s m args below meth c D dA ad (rk + 1) (va_Qi Q (gZ D dA 137 ad layX) (gA 137 ad)) 4 86 [(0, .ref (ad 0)), (1, .int x1), (2, .int x2)] [.int s2, .int s1, .ref (ad 23)] w := by
  unfold PX0_needOf_86 at hw
  refine at_iast C (Nat.le_of_ble_eq_true rfl) rfl hw.1 rfl dX0_needOf_86 (fun w_1 ew_1 => ?_)
  have hw := hw.2 w_1 ew_1
  refine at_iinc (F := fun z_ => [(0, .ref (ad 0)), (1, .int x1), (2, .int z_)]) C dX0_needOf_87 rfl ic_1 (Nat.le_of_ble_eq_true rfl) (fun _ => rfl) (fun v2_2 e2_2 => ?_)
  have hw := hw v2_2 e2_2
  refine at_goto (tgt := 26) C dX0_needOf_90 (by decide) ?_
  exact hK26 _ _ hw
set_option maxHeartbeats 4000000 in
theorem tX0_needOf_50   {Rec : Int32 → GW → (Int32 → GW → Prop) → Prop} {rk : Nat} {K26 : Int32 → GW → Prop} {Q : Int32 → GW → Prop} (C : Cx p s m args meth c D dA cX0_needOf 4 (some .int) RX0)  (hrk : 26 ≤ rk) (hRec : ∀  (x1 : Int32) (w : GW) (Q : Int32 → GW → Prop), Rec x1 w Q → Met l yX0_needOf (ws_ yX0_needOf cX0_needOf 4 (some .int)) (gR rk) (va_Pc [.ref (ad 0), .int x1] (gB D dA 137 ad layX w)) (va_Qi Q (gZ D dA 137 ad layX) (gA 137 ad)) 0 0 (gA 137 ad))  {x1 : Int32} {x2 : Int32} {s0 : Int32} {w : GW} (hK26 : ∀ (x2 : Int32) (w : GW), K26 x2 w → gAtX p l e s m args below meth c D dA ad (rk + 1) (va_Qi Q (gZ D dA 137 ad layX) (gA 137 ad)) 4 26 [(0, .ref (ad 0)), (1, .int x1), (2, .int x2)] [] w) (hw : PX0_needOf_50 Rec K26 Q x1 x2 s0 w) : gAtX p l e s m args below meth c D dA ad (rk + 1) (va_Qi Q (gZ D dA 137 ad layX) (gA 137 ad)) 4 50 [(0, .ref (ad 0)), (1, .int x1), (2, .int x2)] [.int s0] w := by
  unfold PX0_needOf_50 at hw
  refine at_istore_n (L' := [(0, .ref (ad 0)), (1, .int x1), (2, .int x2), (3, .int s0)]) C dX0_needOf_50 rfl (Nat.le_of_ble_eq_true rfl) rfl ?_
  refine at_aload_n C dX0_needOf_51 rfl rfl ?_
  refine at_getr (j := 13) (r := 23) C (Nat.le_of_ble_eq_true rfl) rfl rfl in_X0 (Nat.le_of_ble_eq_true rfl) rfl q229 dX0_needOf_52 ?_
  refine at_iload_n C dX0_needOf_55 rfl rfl ?_
  refine at_iload_n C dX0_needOf_56 rfl rfl ?_
  refine at_iload_n C dX0_needOf_57 rfl rfl ?_
  refine at_icmp_ne (tgt := 70) C dX0_needOf_58 (by decide) (fun c_3 => ?_) (fun c_3 => ?_)
  · have hw := hw.1 c_3
    refine at_aload_n C dX0_needOf_70 rfl rfl ?_
    refine at_getr (j := 13) (r := 23) C (Nat.le_of_ble_eq_true rfl) rfl rfl in_X0 (Nat.le_of_ble_eq_true rfl) rfl q229 dX0_needOf_71 ?_
    refine at_iload_n C dX0_needOf_74 rfl rfl ?_
    refine at_iald C (Nat.le_of_ble_eq_true rfl) rfl hw.1 rfl dX0_needOf_75 ?_
    have hw := hw.2
    refine at_aload_n C dX0_needOf_76 rfl rfl ?_
    refine at_iload_n C dX0_needOf_77 rfl rfl ?_
    refine at_calli (run_V (rest := [.int (w 23 (x1).toNatClampNeg), .int x1, .ref (ad 23)]) (As := [.int s0]) C (hRec _ _ _  hw) (lw_V q630 q632 qs22 q56 q633) dsX0_needOf (gR_ok (by omega) (Nat.le_of_ble_eq_true rfl)) ⟨rfl, rfl⟩ ⟨(Nat.le_of_ble_eq_true rfl), (Nat.le_of_ble_eq_true rfl)⟩ (Nat.le_of_ble_eq_true rfl) rfl rfl rfl rfl (Nat.le_of_ble_eq_true rfl) dX0_needOf_78) (fun r_4 w_5 hw => ?_)
    refine at_iconst C dX0_needOf_81 ic_1 ?_
    refine at_iadd C dX0_needOf_82 ?_
    refine at_mmin C q509 q389 q70 q390 (by show 1 ≤ (rk + 1); omega) (by show 23 ≤ 32 * (rk + 1); omega) (Nat.le_of_ble_eq_true rfl) (Nat.le_of_ble_eq_true rfl) (Nat.le_of_ble_eq_true rfl) dX0_needOf_83 ?_
    exact at_sub (lv_pickm [0, 1, 2] rfl) (tX0_needOf_86 C hrk hRec hK26 hw)
  · have hw := hw.2 c_3
    refine at_aload_n C dX0_needOf_61 rfl rfl ?_
    refine at_getr (j := 13) (r := 23) C (Nat.le_of_ble_eq_true rfl) rfl rfl in_X0 (Nat.le_of_ble_eq_true rfl) rfl q229 dX0_needOf_62 ?_
    refine at_iload_n C dX0_needOf_65 rfl rfl ?_
    refine at_iald C (Nat.le_of_ble_eq_true rfl) rfl hw.1 rfl dX0_needOf_66 ?_
    have hw := hw.2
    refine at_goto (tgt := 86) C dX0_needOf_67 (by decide) ?_
    exact at_sub (lv_pickm [0, 1, 2] rfl) (tX0_needOf_86 C hrk hRec hK26 hw)
set_option maxHeartbeats 4000000 in
theorem tX0_needOf_26   {Rec : Int32 → GW → (Int32 → GW → Prop) → Prop} {rk : Nat}  {Q : Int32 → GW → Prop} (C : Cx p s m args meth c D dA cX0_needOf 4 (some .int) RX0)  (hrk : 26 ≤ rk) (hRec : ∀  (x1 : Int32) (w : GW) (Q : Int32 → GW → Prop), Rec x1 w Q → Met l yX0_needOf (ws_ yX0_needOf cX0_needOf 4 (some .int)) (gR rk) (va_Pc [.ref (ad 0), .int x1] (gB D dA 137 ad layX w)) (va_Qi Q (gZ D dA 137 ad layX) (gA 137 ad)) 0 0 (gA 137 ad))  {x1 : Int32}   : ∀ (n : Nat) (x2 : Int32) (w : GW), PX0_needOf_26 Rec Q x1 n x2 w → gAtX p l e s m args below meth c D dA ad (rk + 1) (va_Qi Q (gZ D dA 137 ad layX) (gA 137 ad)) 4 26 [(0, .ref (ad 0)), (1, .int x1), (2, .int x2)] [] w := by
  intro n
  induction n with
  | zero => intro x2 w hw; exact False.elim hw
  | succ n ih =>
    intro x2 w hw
    unfold PX0_needOf_26 at hw
    refine at_iload_n C dX0_needOf_26 rfl rfl ?_
    refine at_sipush C dX0_needOf_27 sp_4300 ?_
    refine at_icmp_ge (tgt := 93) C dX0_needOf_30 (by decide) (fun c_6 => ?_) (fun c_6 => ?_)
    · have hw := hw.1 c_6
      exact at_sub (lv_pickm [0, 1] rfl) (tX0_needOf_93 C hrk hRec hw)
    · have hw := hw.2 c_6
      refine at_iload_n C dX0_needOf_33 rfl rfl ?_
      refine at_callp (run_S (rest := []) (As := [.int x2]) C (metX0_isBall l D dA ad  hw) (lw_S q419 q420 q56 q421) dsX0_isBall (gR_ok (by omega) (Nat.le_of_ble_eq_true rfl)) ⟨rfl, rfl⟩ ⟨(Nat.le_of_ble_eq_true rfl), (Nat.le_of_ble_eq_true rfl)⟩ rfl rfl (Nat.le_of_ble_eq_true rfl) dX0_needOf_34) (fun r_7  hw => ?_)
      refine at_if_eq (tgt := 49) C dX0_needOf_37 (by decide) (fun c_8 => ?_) (fun c_8 => ?_)
      · have hw := hw.1 c_8
        refine at_iload_n C dX0_needOf_49 rfl rfl ?_
        exact (tX0_needOf_50 C hrk hRec ih hw)
      · have hw := hw.2 c_8
        refine at_aload_n C dX0_needOf_40 rfl rfl ?_
        refine at_iload_n C dX0_needOf_41 rfl rfl ?_
        refine at_iload_n C dX0_needOf_42 rfl rfl ?_
        refine at_calli (run_V (rest := []) (As := [.int x1, .int x2]) C (metX0_resultOf l D dA ad  hw) (lw_V q634 q636 qs23 q56 q637) dsX0_resultOf (gR_ok (by omega) (Nat.le_of_ble_eq_true rfl)) ⟨rfl, rfl⟩ ⟨(Nat.le_of_ble_eq_true rfl), (Nat.le_of_ble_eq_true rfl)⟩ (Nat.le_of_ble_eq_true rfl) rfl rfl rfl rfl (Nat.le_of_ble_eq_true rfl) dX0_needOf_43) (fun r_9 w_10 hw => ?_)
        refine at_goto (tgt := 50) C dX0_needOf_46 (by decide) ?_
        exact (tX0_needOf_50 C hrk hRec ih hw)
set_option maxHeartbeats 4000000 in
theorem metX0_needOf_body  (Rec : Int32 → GW → (Int32 → GW → Prop) → Prop) (rk : Nat) (l : Launch) (D : va_G) (dA : Nat → ClassId) (ad : Nat → Nat) (hrk : 26 ≤ rk) (hRec : ∀  (x1 : Int32) (w : GW) (Q : Int32 → GW → Prop), Rec x1 w Q → Met l yX0_needOf (ws_ yX0_needOf cX0_needOf 4 (some .int)) (gR rk) (va_Pc [.ref (ad 0), .int x1] (gB D dA 137 ad layX w)) (va_Qi Q (gZ D dA 137 ad layX) (gA 137 ad)) 0 0 (gA 137 ad))   {x1 : Int32} {w : GW} {Q : Int32 → GW → Prop} (hw : PX0_needOf_body Rec x1 w Q) : Met l yX0_needOf (ws_ yX0_needOf cX0_needOf 4 (some .int)) (gR (rk + 1)) (va_Pc [.ref (ad 0), .int x1] (gB D dA 137 ad layX w)) (va_Qi Q (gZ D dA 137 ad layX) (gA 137 ad)) 0 0 (gA 137 ad) := by
  refine gm_of (L := [(0, .ref (ad 0)), (1, .int x1)]) (own := RX0) (by decide +kernel) rfl (Nat.le_of_ble_eq_true rfl) rfl rfl (fun p e s m below meth c C => ?_)
  unfold PX0_needOf_body at hw
  refine at_iload_n C dX0_needOf_0 rfl rfl ?_
  refine at_if_ne (tgt := 6) C dX0_needOf_1 (by decide) (fun c_11 => ?_) (fun c_11 => ?_)
  · have hw := hw.1 c_11
    refine at_aload_n C dX0_needOf_6 rfl rfl ?_
    refine at_getr (j := 13) (r := 23) C (Nat.le_of_ble_eq_true rfl) rfl rfl in_X0 (Nat.le_of_ble_eq_true rfl) rfl q229 dX0_needOf_7 ?_
    refine at_iload_n C dX0_needOf_10 rfl rfl ?_
    refine at_iald C (Nat.le_of_ble_eq_true rfl) rfl hw.1 rfl dX0_needOf_11 ?_
    have hw := hw.2
    refine at_iconst C dX0_needOf_12 ic_m1 ?_
    refine at_icmp_ne (tgt := 93) C dX0_needOf_13 (by decide) (fun c_12 => ?_) (fun c_12 => ?_)
    · have hw := hw.1 c_12
      exact (tX0_needOf_93 C hrk hRec hw)
    · have hw := hw.2 c_12
      refine at_aload_n C dX0_needOf_16 rfl rfl ?_
      refine at_getr (j := 13) (r := 23) C (Nat.le_of_ble_eq_true rfl) rfl rfl in_X0 (Nat.le_of_ble_eq_true rfl) rfl q229 dX0_needOf_17 ?_
      refine at_iload_n C dX0_needOf_20 rfl rfl ?_
      refine at_ldc C q503 dX0_needOf_21 ?_
      refine at_iast C (Nat.le_of_ble_eq_true rfl) rfl hw.1 rfl dX0_needOf_23 (fun w_13 ew_13 => ?_)
      have hw := hw.2 w_13 ew_13
      refine at_iconst C dX0_needOf_24 ic_0 ?_
      refine at_istore_n (L' := [(0, .ref (ad 0)), (1, .int x1), (2, .int 0)]) C dX0_needOf_25 rfl (Nat.le_of_ble_eq_true rfl) rfl ?_
      obtain ⟨n_14, hw⟩ := hw
      exact (tX0_needOf_26 C hrk hRec _ _ _ hw)
  · have hw := hw.2 c_11
    refine at_iconst C dX0_needOf_4 ic_0 ?_
    exact at_iret C rfl hw dX0_needOf_5
theorem metX0_needOf_all (l : Launch) (D : va_G) (dA : Nat → ClassId) (ad : Nat → Nat) : ∀ (d : Nat)  (x1 : Int32) (w : GW) (Q : Int32 → GW → Prop), PX0_needOf d x1 w Q → Met l yX0_needOf (ws_ yX0_needOf cX0_needOf 4 (some .int)) (gR (26 + 1 * d)) (va_Pc [.ref (ad 0), .int x1] (gB D dA 137 ad layX w)) (va_Qi Q (gZ D dA 137 ad layX) (gA 137 ad)) 0 0 (gA 137 ad) := by
  intro d
  induction d with
  | zero => intro x1 w Q  hw; exact False.elim hw
  | succ d ih =>
    intro x1 w Q  hw
    exact metX0_needOf_body (PX0_needOf d) (26 + 1 * d) l D dA ad (by omega) ih  hw
theorem metX0_needOf (d : Nat) (l : Launch) (D : va_G) (dA : Nat → ClassId) (ad : Nat → Nat)   {x1 : Int32} {w : GW} {Q : Int32 → GW → Prop} (hw : PX0_needOf d x1 w Q) : Met l yX0_needOf (ws_ yX0_needOf cX0_needOf 4 (some .int)) (gR (26 + 1 * d)) (va_Pc [.ref (ad 0), .int x1] (gB D dA 137 ad layX w)) (va_Qi Q (gZ D dA 137 ad layX) (gA 137 ad)) 0 0 (gA 137 ad) := metX0_needOf_all l D dA ad d _ _ _  hw
set_option maxHeartbeats 4000000 in
theorem tX0_allDown_67     {Q : Int32 → GW → Prop} (C : Cx p s m args meth c D dA cX0_allDown 4 (some .int) RX0)    {x1 : Int32} {x2 : Int32} {w : GW}  (hw : PX0_allDown_67 Q x1 x2 w) : gAtX p l e s m args below meth c D dA ad 39 (va_Qi Q (gZ D dA 137 ad layX) (gA 137 ad)) 4 67 [(1, .int x1), (2, .int x2)] [] w := by
  unfold PX0_allDown_67 at hw
  refine at_iload_n C dX0_allDown_67 rfl rfl ?_
  refine at_if_ne (tgt := 81) C dX0_allDown_68 (by decide) (fun c_1 => ?_) (fun c_1 => ?_)
  · have hw := hw.1 c_1
    refine at_iconst C dX0_allDown_81 ic_m1 ?_
    exact at_iret C rfl hw dX0_allDown_82
  · have hw := hw.2 c_1
    refine at_iload_n C dX0_allDown_71 rfl rfl ?_
    refine at_ldc C q503 dX0_allDown_72 ?_
    refine at_icmp_ge (tgt := 81) C dX0_allDown_74 (by decide) (fun c_2 => ?_) (fun c_2 => ?_)
    · have hw := hw.1 c_2
      refine at_iconst C dX0_allDown_81 ic_m1 ?_
      exact at_iret C rfl hw dX0_allDown_82
    · have hw := hw.2 c_2
      refine at_iload_n C dX0_allDown_77 rfl rfl ?_
      refine at_goto (tgt := 82) C dX0_allDown_78 (by decide) ?_
      exact at_iret C rfl hw dX0_allDown_82
set_option maxHeartbeats 4000000 in
theorem tX0_allDown_85     {Q : Int32 → GW → Prop} (C : Cx p s m args meth c D dA cX0_allDown 4 (some .int) RX0)    {x2 : Int32}   : ∀ (n : Nat) (x3 : Int32) (w : GW), PX0_allDown_85 Q x2 n x3 w → gAtX p l e s m args below meth c D dA ad 39 (va_Qi Q (gZ D dA 137 ad layX) (gA 137 ad)) 4 85 [(0, .ref (ad 0)), (2, .int x2), (3, .int x3)] [] w := by
  intro n
  induction n with
  | zero => intro x3 w hw; exact False.elim hw
  | succ n ih =>
    intro x3 w hw
    unfold PX0_allDown_85 at hw
    refine at_iload_n C dX0_allDown_85 rfl rfl ?_
    refine at_callp (run_S (rest := []) (As := [.int x3]) C (metX0_isBall l D dA ad  hw) (lw_S q419 q420 q56 q421) dsX0_isBall (gR_ok (Nat.le_of_ble_eq_true rfl) (Nat.le_of_ble_eq_true rfl)) ⟨rfl, rfl⟩ ⟨(Nat.le_of_ble_eq_true rfl), (Nat.le_of_ble_eq_true rfl)⟩ rfl rfl (Nat.le_of_ble_eq_true rfl) dX0_allDown_86) (fun r_3  hw => ?_)
    refine at_if_eq (tgt := 114) C dX0_allDown_89 (by decide) (fun c_4 => ?_) (fun c_4 => ?_)
    · have hw := hw.1 c_4
      refine at_iinc (F := fun z_ => [(0, .ref (ad 0)), (2, .int x2), (3, .int z_)]) C dX0_allDown_114 rfl ic_1 (Nat.le_of_ble_eq_true rfl) (fun _ => rfl) (fun v3_5 e3_5 => ?_)
      have hw := hw v3_5 e3_5
      refine at_goto (tgt := 85) C dX0_allDown_117 (by decide) ?_
      exact ih _ _ hw
    · have hw := hw.2 c_4
      refine at_aload_n C dX0_allDown_92 rfl rfl ?_
      refine at_aload_n C dX0_allDown_93 rfl rfl ?_
      refine at_aload_n C dX0_allDown_94 rfl rfl ?_
      refine at_getr (j := 2) (r := 6) C (Nat.le_of_ble_eq_true rfl) rfl rfl in_X0 (Nat.le_of_ble_eq_true rfl) rfl q218 dX0_allDown_95 ?_
      refine at_getiN (j := 5) C (gSt_k0 gSt_now) (layX_0 gSt_now) rfl in_X2 (Nat.le_of_ble_eq_true rfl) rfl q134 dX0_allDown_98 ?_
      refine at_iload_n C dX0_allDown_101 rfl rfl ?_
      refine at_calli (run_V (rest := [.ref (ad 0)]) (As := [.int (w 6 5), .int x3]) C (metX0_resultOf l D dA ad  hw) (lw_V q634 q636 qs23 q56 q637) dsX0_resultOf (gR_ok (Nat.le_of_ble_eq_true rfl) (Nat.le_of_ble_eq_true rfl)) ⟨rfl, rfl⟩ ⟨(Nat.le_of_ble_eq_true rfl), (Nat.le_of_ble_eq_true rfl)⟩ (Nat.le_of_ble_eq_true rfl) rfl rfl rfl rfl (Nat.le_of_ble_eq_true rfl) dX0_allDown_102) (fun r_6 w_7 hw => ?_)
      refine at_calli (run_V (rest := []) (As := [.int r_6]) C (metX0_needOf 12 l D dA ad  hw) (lw_V q630 q632 qs22 q56 q633) dsX0_needOf (gR_ok (Nat.le_of_ble_eq_true rfl) (Nat.le_of_ble_eq_true rfl)) ⟨rfl, rfl⟩ ⟨(Nat.le_of_ble_eq_true rfl), (Nat.le_of_ble_eq_true rfl)⟩ (Nat.le_of_ble_eq_true rfl) rfl rfl rfl rfl (Nat.le_of_ble_eq_true rfl) dX0_allDown_105) (fun r_8 w_9 hw => ?_)
      refine at_iload_n C dX0_allDown_108 rfl rfl ?_
      refine at_iconst C dX0_allDown_109 ic_1 ?_
      refine at_isub C dX0_allDown_110 ?_
      refine at_icmp_eq (tgt := 120) C dX0_allDown_111 (by decide) (fun c_10 => ?_) (fun c_10 => ?_)
      · have hw := hw.1 c_10
        refine at_iload_n C dX0_allDown_120 rfl rfl ?_
        exact at_iret C rfl hw dX0_allDown_121
      · have hw := hw.2 c_10
        refine at_iinc (F := fun z_ => [(0, .ref (ad 0)), (2, .int x2), (3, .int z_)]) C dX0_allDown_114 rfl ic_1 (Nat.le_of_ble_eq_true rfl) (fun _ => rfl) (fun v3_11 e3_11 => ?_)
        have hw := hw v3_11 e3_11
        refine at_goto (tgt := 85) C dX0_allDown_117 (by decide) ?_
        exact ih _ _ hw
set_option maxHeartbeats 4000000 in
theorem metX0_allDown   (l : Launch) (D : va_G) (dA : Nat → ClassId) (ad : Nat → Nat)    {x1 : Int32} {w : GW} {Q : Int32 → GW → Prop} (hw : PX0_allDown x1 w Q) : Met l yX0_allDown (ws_ yX0_allDown cX0_allDown 4 (some .int)) (gR 39) (va_Pc [.ref (ad 0), .int x1] (gB D dA 137 ad layX w)) (va_Qi Q (gZ D dA 137 ad layX) (gA 137 ad)) 0 0 (gA 137 ad) := by
  refine gm_of (L := [(0, .ref (ad 0)), (1, .int x1)]) (own := RX0) (by decide +kernel) rfl (Nat.le_of_ble_eq_true rfl) rfl rfl (fun p e s m below meth c C => ?_)
  unfold PX0_allDown at hw
  refine at_iload_n C dX0_allDown_0 rfl rfl ?_
  refine at_iconst C dX0_allDown_1 ic_0 ?_
  refine at_iconst C dX0_allDown_2 ic_1 ?_
  refine at_callp (run_S (rest := []) (As := [.int x1, .int 0, .int 1]) C (metX0_isIn l D dA ad  hw) (lw_S q266 q267 q56 q268) dsX0_isIn (gR_ok (Nat.le_of_ble_eq_true rfl) (Nat.le_of_ble_eq_true rfl)) ⟨rfl, rfl⟩ ⟨(Nat.le_of_ble_eq_true rfl), (Nat.le_of_ble_eq_true rfl)⟩ rfl rfl (Nat.le_of_ble_eq_true rfl) dX0_allDown_3) (fun r_12  hw => ?_)
  refine at_if_ne (tgt := 12) C dX0_allDown_6 (by decide) (fun c_13 => ?_) (fun c_13 => ?_)
  · have hw := hw.1 c_13
    refine at_aload_n C dX0_allDown_12 rfl rfl ?_
    refine at_callp (run_V (rest := []) (As := []) C (metX0_isCounty l D dA ad  hw) (lw_V q407 q409 qs7 q56 q410) dsX0_isCounty (gR_ok (Nat.le_of_ble_eq_true rfl) (Nat.le_of_ble_eq_true rfl)) ⟨rfl, rfl⟩ ⟨(Nat.le_of_ble_eq_true rfl), (Nat.le_of_ble_eq_true rfl)⟩ (Nat.le_of_ble_eq_true rfl) rfl rfl rfl rfl (Nat.le_of_ble_eq_true rfl) dX0_allDown_13) (fun r_14  hw => ?_)
    refine at_if_ne (tgt := 22) C dX0_allDown_16 (by decide) (fun c_15 => ?_) (fun c_15 => ?_)
    · have hw := hw.1 c_15
      refine at_aload_n C dX0_allDown_22 rfl rfl ?_
      refine at_getr (j := 13) (r := 23) C (Nat.le_of_ble_eq_true rfl) rfl rfl in_X0 (Nat.le_of_ble_eq_true rfl) rfl q229 dX0_allDown_23 ?_
      refine at_iconst C dX0_allDown_26 ic_m1 ?_
      refine at_callv (run_S (rest := []) (As := [.ref (ad 23), .int (-1)]) C (metJ0_fill l D dA ad (Nat.le_of_ble_eq_true rfl) rfl (by decide) hw) (lw_S q629 q212 q64 q213) dsJ0_fill (gR_ok (Nat.le_of_ble_eq_true rfl) (Nat.le_of_ble_eq_true rfl)) ⟨rfl, rfl⟩ ⟨(Nat.le_of_ble_eq_true rfl), (Nat.le_of_ble_eq_true rfl)⟩ rfl rfl (Nat.le_of_ble_eq_true rfl) dX0_allDown_27) (fun  w_17 hw => ?_)
      refine at_aload_n C dX0_allDown_30 rfl rfl ?_
      refine at_getr (j := 3) (r := 12) C (Nat.le_of_ble_eq_true rfl) rfl rfl in_X0 (Nat.le_of_ble_eq_true rfl) rfl q219 dX0_allDown_31 ?_
      refine at_aload_n C dX0_allDown_34 rfl rfl ?_
      refine at_getr (j := 2) (r := 6) C (Nat.le_of_ble_eq_true rfl) rfl rfl in_X0 (Nat.le_of_ble_eq_true rfl) rfl q218 dX0_allDown_35 ?_
      refine at_callv (run_V (rest := []) (As := [.ref (ad 6)]) C (metX2_set l D dA ad gSt_tried gSt_now hw) (lw_V q426 q427 q428 q58 q429) dsX2_set (gR_ok (Nat.le_of_ble_eq_true rfl) (Nat.le_of_ble_eq_true rfl)) ⟨rfl, rfl⟩ ⟨(Nat.le_of_ble_eq_true rfl), (Nat.le_of_ble_eq_true rfl)⟩ (gSt_k0 gSt_tried) (layX_0 gSt_tried) rfl rfl rfl (Nat.le_of_ble_eq_true rfl) dX0_allDown_38) (fun  w_19 hw => ?_)
      refine at_aload_n C dX0_allDown_41 rfl rfl ?_
      refine at_aload_n C dX0_allDown_42 rfl rfl ?_
      refine at_getr (j := 2) (r := 6) C (Nat.le_of_ble_eq_true rfl) rfl rfl in_X0 (Nat.le_of_ble_eq_true rfl) rfl q218 dX0_allDown_43 ?_
      refine at_getiN (j := 5) C (gSt_k0 gSt_now) (layX_0 gSt_now) rfl in_X2 (Nat.le_of_ble_eq_true rfl) rfl q134 dX0_allDown_46 ?_
      refine at_calli (run_V (rest := []) (As := [.int (w_19 6 5)]) C (metX0_needOf 12 l D dA ad  hw) (lw_V q630 q632 qs22 q56 q633) dsX0_needOf (gR_ok (Nat.le_of_ble_eq_true rfl) (Nat.le_of_ble_eq_true rfl)) ⟨rfl, rfl⟩ ⟨(Nat.le_of_ble_eq_true rfl), (Nat.le_of_ble_eq_true rfl)⟩ (Nat.le_of_ble_eq_true rfl) rfl rfl rfl rfl (Nat.le_of_ble_eq_true rfl) dX0_allDown_49) (fun r_20 w_21 hw => ?_)
      refine at_istore_n (L' := [(0, .ref (ad 0)), (1, .int x1), (2, .int r_20)]) C dX0_allDown_52 rfl (Nat.le_of_ble_eq_true rfl) rfl ?_
      refine at_iload_n C dX0_allDown_53 rfl rfl ?_
      refine at_if_eq (tgt := 67) C dX0_allDown_54 (by decide) (fun c_22 => ?_) (fun c_22 => ?_)
      · have hw := hw.1 c_22
        exact at_sub (lv_pickm [1, 2] rfl) (tX0_allDown_67 C  hw)
      · have hw := hw.2 c_22
        refine at_iload_n C dX0_allDown_57 rfl rfl ?_
        refine at_ldc C q503 dX0_allDown_58 ?_
        refine at_icmp_ge (tgt := 67) C dX0_allDown_60 (by decide) (fun c_23 => ?_) (fun c_23 => ?_)
        · have hw := hw.1 c_23
          exact at_sub (lv_pickm [1, 2] rfl) (tX0_allDown_67 C  hw)
        · have hw := hw.2 c_23
          refine at_iload_n C dX0_allDown_63 rfl rfl ?_
          refine at_if_ne (tgt := 83) C dX0_allDown_64 (by decide) (fun c_24 => ?_) (fun c_24 => ?_)
          · have hw := hw.1 c_24
            refine at_iconst C dX0_allDown_83 ic_0 ?_
            refine at_istore_n (L' := [(0, .ref (ad 0)), (1, .int x1), (2, .int r_20), (3, .int 0)]) C dX0_allDown_84 rfl (Nat.le_of_ble_eq_true rfl) rfl ?_
            obtain ⟨n_25, hw⟩ := hw
            exact at_sub (lv_pickm [0, 2, 3] rfl) (tX0_allDown_85 C  _ _ _ hw)
          · have hw := hw.2 c_24
            exact at_sub (lv_pickm [1, 2] rfl) (tX0_allDown_67 C  hw)
    · have hw := hw.2 c_15
      refine at_ldc C q547 dX0_allDown_19 ?_
      exact at_iret C rfl hw dX0_allDown_21
  · have hw := hw.2 c_13
    refine at_ldc C q269 dX0_allDown_9 ?_
    exact at_iret C rfl hw dX0_allDown_11
set_option maxHeartbeats 4000000 in
theorem tX0_mend_118    {K41 : Int32 → Int32 → Int32 → GW → Prop} {K54 : Int32 → Int32 → Int32 → GW → Prop} {Q : Int32 → GW → Prop} (C : Cx p s m args meth c D dA cX0_mend 10 (some .int) RX0)    {x1 : Int32} {x2 : Int32} {x3 : Int32} {x4 : Int32} {x6 : Int32} {x7 : Int32} {x8 : Int32} {x9 : Int32} {s0 : Int32} {w : GW} (hK41 : ∀ (x5 : Int32) (x6 : Int32) (x7 : Int32) (w : GW), K41 x5 x6 x7 w → gAtX p l e s m args below meth c D dA ad 24 (va_Qi Q (gZ D dA 137 ad layX) (gA 137 ad)) 10 41 [(0, .ref (ad 0)), (1, .int x1), (2, .int x2), (3, .int x3), (4, .int x4), (5, .int x5), (6, .int x6), (7, .int x7)] [] w) (hK54 : ∀ (x5 : Int32) (x6 : Int32) (x8 : Int32) (w : GW), K54 x5 x6 x8 w → gAtX p l e s m args below meth c D dA ad 24 (va_Qi Q (gZ D dA 137 ad layX) (gA 137 ad)) 10 54 [(0, .ref (ad 0)), (1, .int x1), (2, .int x2), (3, .int x3), (4, .int x4), (5, .int x5), (6, .int x6), (7, .int x7), (8, .int x8)] [] w) (hw : PX0_mend_118 K41 K54 Q x1 x2 x3 x4 x6 x7 x8 x9 s0 w) : gAtX p l e s m args below meth c D dA ad 24 (va_Qi Q (gZ D dA 137 ad layX) (gA 137 ad)) 10 118 [(0, .ref (ad 0)), (1, .int x1), (2, .int x2), (3, .int x3), (4, .int x4), (6, .int x6), (7, .int x7), (8, .int x8), (9, .int x9)] [.int s0] w := by
  unfold PX0_mend_118 at hw
  refine at_istore (L' := [(0, .ref (ad 0)), (1, .int x1), (2, .int x2), (3, .int x3), (4, .int x4), (5, .int s0), (6, .int x6), (7, .int x7), (8, .int x8), (9, .int x9)]) C dX0_mend_118 (Nat.le_of_ble_eq_true rfl) rfl ?_
  refine at_iload C dX0_mend_120 rfl ?_
  refine at_iload C dX0_mend_122 rfl ?_
  refine at_mmin C q509 q389 q70 q390 (Nat.le_of_ble_eq_true rfl) (Nat.le_of_ble_eq_true rfl) (Nat.le_of_ble_eq_true rfl) (Nat.le_of_ble_eq_true rfl) (Nat.le_of_ble_eq_true rfl) dX0_mend_124 ?_
  refine at_topi (fun v6_1 e6_1 => ?_)
  have hw := hw v6_1 e6_1
  refine at_istore (L' := [(0, .ref (ad 0)), (1, .int x1), (2, .int x2), (3, .int x3), (4, .int x4), (5, .int s0), (6, .int v6_1), (7, .int x7), (8, .int x8), (9, .int x9)]) C dX0_mend_127 (Nat.le_of_ble_eq_true rfl) rfl ?_
  refine at_iinc (F := fun z_ => [(0, .ref (ad 0)), (1, .int x1), (2, .int x2), (3, .int x3), (4, .int x4), (5, .int s0), (6, .int v6_1), (7, .int x7), (8, .int z_), (9, .int x9)]) C dX0_mend_129 rfl ic_1 (Nat.le_of_ble_eq_true rfl) (fun _ => rfl) (fun v8_2 e8_2 => ?_)
  have hw := hw v8_2 e8_2
  refine at_goto (tgt := 54) C dX0_mend_132 (by decide) ?_
  exact at_sub (lv_pickm [0, 1, 2, 3, 4, 5, 6, 7, 8] rfl) (hK54 _ _ _ _ hw)
set_option maxHeartbeats 4000000 in
theorem tX0_mend_54    {K41 : Int32 → Int32 → Int32 → GW → Prop} {Q : Int32 → GW → Prop} (C : Cx p s m args meth c D dA cX0_mend 10 (some .int) RX0)    {x1 : Int32} {x2 : Int32} {x3 : Int32} {x4 : Int32} {x7 : Int32}  (hK41 : ∀ (x5 : Int32) (x6 : Int32) (x7 : Int32) (w : GW), K41 x5 x6 x7 w → gAtX p l e s m args below meth c D dA ad 24 (va_Qi Q (gZ D dA 137 ad layX) (gA 137 ad)) 10 41 [(0, .ref (ad 0)), (1, .int x1), (2, .int x2), (3, .int x3), (4, .int x4), (5, .int x5), (6, .int x6), (7, .int x7)] [] w) : ∀ (n : Nat) (x5 : Int32) (x6 : Int32) (x8 : Int32) (w : GW), PX0_mend_54 K41 Q x1 x2 x3 x4 x7 n x5 x6 x8 w → gAtX p l e s m args below meth c D dA ad 24 (va_Qi Q (gZ D dA 137 ad layX) (gA 137 ad)) 10 54 [(0, .ref (ad 0)), (1, .int x1), (2, .int x2), (3, .int x3), (4, .int x4), (5, .int x5), (6, .int x6), (7, .int x7), (8, .int x8)] [] w := by
  intro n
  induction n with
  | zero => intro x5 x6 x8 w hw; exact False.elim hw
  | succ n ih =>
    intro x5 x6 x8 w hw
    unfold PX0_mend_54 at hw
    refine at_iload C dX0_mend_54 rfl ?_
    refine at_bipush C dX0_mend_56 bp_9 ?_
    refine at_icmp_ge (tgt := 135) C dX0_mend_58 (by decide) (fun c_3 => ?_) (fun c_3 => ?_)
    · have hw := hw.1 c_3
      refine at_iinc (F := fun z_ => [(0, .ref (ad 0)), (1, .int x1), (2, .int x2), (3, .int x3), (4, .int x4), (5, .int x5), (6, .int x6), (7, .int z_), (8, .int x8)]) C dX0_mend_135 rfl ic_1 (Nat.le_of_ble_eq_true rfl) (fun _ => rfl) (fun v7_4 e7_4 => ?_)
      have hw := hw v7_4 e7_4
      refine at_goto (tgt := 41) C dX0_mend_138 (by decide) ?_
      exact at_sub (lv_pickm [0, 1, 2, 3, 4, 5, 6, 7] rfl) (hK41 _ _ _ _ hw)
    · have hw := hw.2 c_3
      refine at_aload_n C dX0_mend_61 rfl rfl ?_
      refine at_getr (j := 3) (r := 12) C (Nat.le_of_ble_eq_true rfl) rfl rfl in_X0 (Nat.le_of_ble_eq_true rfl) rfl q219 dX0_mend_62 ?_
      refine at_aload_n C dX0_mend_65 rfl rfl ?_
      refine at_getr (j := 2) (r := 6) C (Nat.le_of_ble_eq_true rfl) rfl rfl in_X0 (Nat.le_of_ble_eq_true rfl) rfl q218 dX0_mend_66 ?_
      refine at_callv (run_V (rest := []) (As := [.ref (ad 6)]) C (metX2_set l D dA ad gSt_tried gSt_now hw) (lw_V q426 q427 q428 q58 q429) dsX2_set (gR_ok (Nat.le_of_ble_eq_true rfl) (Nat.le_of_ble_eq_true rfl)) ⟨rfl, rfl⟩ ⟨(Nat.le_of_ble_eq_true rfl), (Nat.le_of_ble_eq_true rfl)⟩ (gSt_k0 gSt_tried) (layX_0 gSt_tried) rfl rfl rfl (Nat.le_of_ble_eq_true rfl) dX0_mend_69) (fun  w_6 hw => ?_)
      refine at_aload_n C dX0_mend_72 rfl rfl ?_
      refine at_getr (j := 3) (r := 12) C (Nat.le_of_ble_eq_true rfl) rfl rfl in_X0 (Nat.le_of_ble_eq_true rfl) rfl q219 dX0_mend_73 ?_
      refine at_iload C dX0_mend_76 rfl ?_
      refine at_iload C dX0_mend_78 rfl ?_
      refine at_callv (run_V (rest := []) (As := [.int x7, .int x8]) C (metX2_change l D dA ad gSt_tried hw) (lw_V q573 q574 q575 q58 q576) dsX2_change (gR_ok (Nat.le_of_ble_eq_true rfl) (Nat.le_of_ble_eq_true rfl)) ⟨rfl, rfl⟩ ⟨(Nat.le_of_ble_eq_true rfl), (Nat.le_of_ble_eq_true rfl)⟩ (gSt_k0 gSt_tried) (layX_0 gSt_tried) rfl rfl rfl (Nat.le_of_ble_eq_true rfl) dX0_mend_80) (fun  w_8 hw => ?_)
      refine at_aload_n C dX0_mend_83 rfl rfl ?_
      refine at_getr (j := 3) (r := 12) C (Nat.le_of_ble_eq_true rfl) rfl rfl in_X0 (Nat.le_of_ble_eq_true rfl) rfl q219 dX0_mend_84 ?_
      refine at_iload_n C dX0_mend_87 rfl rfl ?_
      refine at_iload_n C dX0_mend_88 rfl rfl ?_
      refine at_iload_n C dX0_mend_89 rfl rfl ?_
      refine at_calli (run_V (rest := []) (As := [.int x1, .int x2, .int x3]) C (metX2_roll l D dA ad gSt_tried hw) (lw_V q612 q435 q436 q58 q437) dsX2_roll (gR_ok (Nat.le_of_ble_eq_true rfl) (Nat.le_of_ble_eq_true rfl)) ⟨rfl, rfl⟩ ⟨(Nat.le_of_ble_eq_true rfl), (Nat.le_of_ble_eq_true rfl)⟩ (gSt_k0 gSt_tried) (layX_0 gSt_tried) rfl rfl rfl (Nat.le_of_ble_eq_true rfl) dX0_mend_90) (fun r_9 w_10 hw => ?_)
      refine at_callp (run_S (rest := []) (As := [.int r_9]) C (metJ4_bitCount l D dA ad  hw) (lw_S q493 q494 q71 q495) dsJ4_bitCount (gR_ok (Nat.le_of_ble_eq_true rfl) (Nat.le_of_ble_eq_true rfl)) ⟨rfl, rfl⟩ ⟨(Nat.le_of_ble_eq_true rfl), (Nat.le_of_ble_eq_true rfl)⟩ rfl rfl (Nat.le_of_ble_eq_true rfl) dX0_mend_93) (fun r_11  hw => ?_)
      refine at_istore (L' := [(0, .ref (ad 0)), (1, .int x1), (2, .int x2), (3, .int x3), (4, .int x4), (5, .int x5), (6, .int x6), (7, .int x7), (8, .int x8), (9, .int r_11)]) C dX0_mend_96 (Nat.le_of_ble_eq_true rfl) rfl ?_
      refine at_iload C dX0_mend_98 rfl ?_
      refine at_iload C dX0_mend_100 rfl ?_
      refine at_icmp_ge (tgt := 116) C dX0_mend_102 (by decide) (fun c_12 => ?_) (fun c_12 => ?_)
      · have hw := hw.1 c_12
        refine at_iload C dX0_mend_116 rfl ?_
        exact at_sub (lv_pickm [0, 1, 2, 3, 4, 6, 7, 8, 9] rfl) (tX0_mend_118 C hK41 ih hw)
      · have hw := hw.2 c_12
        refine at_bipush C dX0_mend_105 bp_10 ?_
        refine at_iload C dX0_mend_107 rfl ?_
        refine at_imul C dX0_mend_109 ?_
        refine at_iload C dX0_mend_110 rfl ?_
        refine at_iadd C dX0_mend_112 ?_
        refine at_goto (tgt := 118) C dX0_mend_113 (by decide) ?_
        exact at_sub (lv_pickm [0, 1, 2, 3, 4, 6, 7, 8, 9] rfl) (tX0_mend_118 C hK41 ih hw)
set_option maxHeartbeats 4000000 in
theorem tX0_mend_41     {Q : Int32 → GW → Prop} (C : Cx p s m args meth c D dA cX0_mend 10 (some .int) RX0)    {x1 : Int32} {x2 : Int32} {x3 : Int32} {x4 : Int32}   : ∀ (n : Nat) (x5 : Int32) (x6 : Int32) (x7 : Int32) (w : GW), PX0_mend_41 Q x1 x2 x3 x4 n x5 x6 x7 w → gAtX p l e s m args below meth c D dA ad 24 (va_Qi Q (gZ D dA 137 ad layX) (gA 137 ad)) 10 41 [(0, .ref (ad 0)), (1, .int x1), (2, .int x2), (3, .int x3), (4, .int x4), (5, .int x5), (6, .int x6), (7, .int x7)] [] w := by
  intro n
  induction n with
  | zero => intro x5 x6 x7 w hw; exact False.elim hw
  | succ n ih =>
    intro x5 x6 x7 w hw
    unfold PX0_mend_41 at hw
    refine at_iload C dX0_mend_41 rfl ?_
    refine at_bipush C dX0_mend_43 bp_9 ?_
    refine at_icmp_ge (tgt := 141) C dX0_mend_45 (by decide) (fun c_13 => ?_) (fun c_13 => ?_)
    · have hw := hw.1 c_13
      refine at_iload C dX0_mend_141 rfl ?_
      refine at_if_ne (tgt := 151) C dX0_mend_143 (by decide) (fun c_14 => ?_) (fun c_14 => ?_)
      · have hw := hw.1 c_14
        refine at_iload C dX0_mend_151 rfl ?_
        exact at_iret C rfl hw dX0_mend_153
      · have hw := hw.2 c_14
        refine at_iload C dX0_mend_146 rfl ?_
        refine at_goto (tgt := 153) C dX0_mend_148 (by decide) ?_
        exact at_iret C rfl hw dX0_mend_153
    · have hw := hw.2 c_13
      refine at_iload C dX0_mend_48 rfl ?_
      refine at_iconst C dX0_mend_50 ic_1 ?_
      refine at_iadd C dX0_mend_51 ?_
      refine at_topi (fun v8_15 e8_15 => ?_)
      have hw := hw v8_15 e8_15
      refine at_istore (L' := [(0, .ref (ad 0)), (1, .int x1), (2, .int x2), (3, .int x3), (4, .int x4), (5, .int x5), (6, .int x6), (7, .int x7), (8, .int v8_15)]) C dX0_mend_52 (Nat.le_of_ble_eq_true rfl) rfl ?_
      obtain ⟨n_16, hw⟩ := hw
      exact (tX0_mend_54 C ih _ _ _ _ _ hw)
set_option maxHeartbeats 4000000 in
theorem metX0_mend   (l : Launch) (D : va_G) (dA : Nat → ClassId) (ad : Nat → Nat)    {x1 : Int32} {x2 : Int32} {x3 : Int32} {x4 : Int32} {w : GW} {Q : Int32 → GW → Prop} (hw : PX0_mend x1 x2 x3 x4 w Q) : Met l yX0_mend (ws_ yX0_mend cX0_mend 10 (some .int)) (gR 24) (va_Pc [.ref (ad 0), .int x1, .int x2, .int x3, .int x4] (gB D dA 137 ad layX w)) (va_Qi Q (gZ D dA 137 ad layX) (gA 137 ad)) 0 0 (gA 137 ad) := by
  refine gm_of (L := [(0, .ref (ad 0)), (1, .int x1), (2, .int x2), (3, .int x3), (4, .int x4)]) (own := RX0) (by decide +kernel) rfl (Nat.le_of_ble_eq_true rfl) rfl rfl (fun p e s m below meth c C => ?_)
  unfold PX0_mend at hw
  refine at_iload C dX0_mend_0 rfl ?_
  refine at_iconst C dX0_mend_2 ic_0 ?_
  refine at_iconst C dX0_mend_3 ic_1 ?_
  refine at_callp (run_S (rest := []) (As := [.int x4, .int 0, .int 1]) C (metX0_isIn l D dA ad  hw) (lw_S q266 q267 q56 q268) dsX0_isIn (gR_ok (Nat.le_of_ble_eq_true rfl) (Nat.le_of_ble_eq_true rfl)) ⟨rfl, rfl⟩ ⟨(Nat.le_of_ble_eq_true rfl), (Nat.le_of_ble_eq_true rfl)⟩ rfl rfl (Nat.le_of_ble_eq_true rfl) dX0_mend_4) (fun r_17  hw => ?_)
  refine at_if_ne (tgt := 13) C dX0_mend_7 (by decide) (fun c_18 => ?_) (fun c_18 => ?_)
  · have hw := hw.1 c_18
    refine at_aload_n C dX0_mend_13 rfl rfl ?_
    refine at_iload_n C dX0_mend_14 rfl rfl ?_
    refine at_iload_n C dX0_mend_15 rfl rfl ?_
    refine at_iload_n C dX0_mend_16 rfl rfl ?_
    refine at_callp (run_V (rest := []) (As := [.int x1, .int x2, .int x3]) C (metX0_refusedBall l D dA ad  hw) (lw_V q543 q545 qs19 q56 q546) dsX0_refusedBall (gR_ok (Nat.le_of_ble_eq_true rfl) (Nat.le_of_ble_eq_true rfl)) ⟨rfl, rfl⟩ ⟨(Nat.le_of_ble_eq_true rfl), (Nat.le_of_ble_eq_true rfl)⟩ (Nat.le_of_ble_eq_true rfl) rfl rfl rfl rfl (Nat.le_of_ble_eq_true rfl) dX0_mend_17) (fun r_19  hw => ?_)
    refine at_if_ge (tgt := 31) C dX0_mend_20 (by decide) (fun c_20 => ?_) (fun c_20 => ?_)
    · have hw := hw.1 c_20
      refine at_iconst C dX0_mend_31 ic_m1 ?_
      refine at_istore (L' := [(0, .ref (ad 0)), (1, .int x1), (2, .int x2), (3, .int x3), (4, .int x4), (5, .int (-1))]) C dX0_mend_32 (Nat.le_of_ble_eq_true rfl) rfl ?_
      refine at_ldc C q503 dX0_mend_34 ?_
      refine at_istore (L' := [(0, .ref (ad 0)), (1, .int x1), (2, .int x2), (3, .int x3), (4, .int x4), (5, .int (-1)), (6, .int 99999999)]) C dX0_mend_36 (Nat.le_of_ble_eq_true rfl) rfl ?_
      refine at_iconst C dX0_mend_38 ic_0 ?_
      refine at_istore (L' := [(0, .ref (ad 0)), (1, .int x1), (2, .int x2), (3, .int x3), (4, .int x4), (5, .int (-1)), (6, .int 99999999), (7, .int 0)]) C dX0_mend_39 (Nat.le_of_ble_eq_true rfl) rfl ?_
      obtain ⟨n_21, hw⟩ := hw
      exact (tX0_mend_41 C  _ _ _ _ _ hw)
    · have hw := hw.2 c_20
      refine at_aload_n C dX0_mend_23 rfl rfl ?_
      refine at_iload_n C dX0_mend_24 rfl rfl ?_
      refine at_iload_n C dX0_mend_25 rfl rfl ?_
      refine at_iload_n C dX0_mend_26 rfl rfl ?_
      refine at_callp (run_V (rest := []) (As := [.int x1, .int x2, .int x3]) C (metX0_refusedBall l D dA ad  hw) (lw_V q543 q545 qs19 q56 q546) dsX0_refusedBall (gR_ok (Nat.le_of_ble_eq_true rfl) (Nat.le_of_ble_eq_true rfl)) ⟨rfl, rfl⟩ ⟨(Nat.le_of_ble_eq_true rfl), (Nat.le_of_ble_eq_true rfl)⟩ (Nat.le_of_ble_eq_true rfl) rfl rfl rfl rfl (Nat.le_of_ble_eq_true rfl) dX0_mend_27) (fun r_22  hw => ?_)
      exact at_iret C rfl hw dX0_mend_30
  · have hw := hw.2 c_18
    refine at_ldc C q269 dX0_mend_10 ?_
    exact at_iret C rfl hw dX0_mend_12
set_option maxHeartbeats 4000000 in
theorem tX0_hand_65    {K29 : Int32 → Int32 → Prop} {Q : Int32 → GW → Prop} (C : Cx p s m args meth c D dA cX0_hand 4 (some .int) RX0)    {x1 : Int32} {x3 : Int32} {s0 : Int32} {s1 : Int32} {w : GW} (hK29 : ∀ (x2 : Int32) (x3 : Int32), K29 x2 x3 → gAtX p l e s m args below meth c D dA ad 27 (va_Qi Q (gZ D dA 137 ad layX) (gA 137 ad)) 4 29 [(0, .ref (ad 0)), (1, .int x1), (2, .int x2), (3, .int x3)] [] w) (hw : PX0_hand_65 K29 Q x1 x3 s0 s1 w) : gAtX p l e s m args below meth c D dA ad 27 (va_Qi Q (gZ D dA 137 ad layX) (gA 137 ad)) 4 65 [(0, .ref (ad 0)), (1, .int x1), (3, .int x3)] [.int s1, .int s0] w := by
  unfold PX0_hand_65 at hw
  refine at_ior C dX0_hand_65 ?_
  refine at_topi (fun v2_1 e2_1 => ?_)
  have hw := hw v2_1 e2_1
  refine at_istore_n (L' := [(0, .ref (ad 0)), (1, .int x1), (2, .int v2_1), (3, .int x3)]) C dX0_hand_66 rfl (Nat.le_of_ble_eq_true rfl) rfl ?_
  refine at_iinc (F := fun z_ => [(0, .ref (ad 0)), (1, .int x1), (2, .int v2_1), (3, .int z_)]) C dX0_hand_67 rfl ic_1 (Nat.le_of_ble_eq_true rfl) (fun _ => rfl) (fun v3_2 e3_2 => ?_)
  have hw := hw v3_2 e3_2
  refine at_goto (tgt := 29) C dX0_hand_70 (by decide) ?_
  exact hK29 _ _ hw
set_option maxHeartbeats 4000000 in
theorem tX0_hand_64    {K29 : Int32 → Int32 → Prop} {Q : Int32 → GW → Prop} (C : Cx p s m args meth c D dA cX0_hand 4 (some .int) RX0)    {x1 : Int32} {x3 : Int32} {s0 : Int32} {w : GW} (hK29 : ∀ (x2 : Int32) (x3 : Int32), K29 x2 x3 → gAtX p l e s m args below meth c D dA ad 27 (va_Qi Q (gZ D dA 137 ad layX) (gA 137 ad)) 4 29 [(0, .ref (ad 0)), (1, .int x1), (2, .int x2), (3, .int x3)] [] w) (hw : PX0_hand_64 K29 Q x1 x3 s0 w) : gAtX p l e s m args below meth c D dA ad 27 (va_Qi Q (gZ D dA 137 ad layX) (gA 137 ad)) 4 64 [(0, .ref (ad 0)), (1, .int x1), (3, .int x3)] [.int s0] w := by
  unfold PX0_hand_64 at hw
  refine at_iconst C dX0_hand_64 ic_0 ?_
  exact (tX0_hand_65 C hK29 hw)
set_option maxHeartbeats 4000000 in
theorem tX0_hand_29     {Q : Int32 → GW → Prop} (C : Cx p s m args meth c D dA cX0_hand 4 (some .int) RX0)    {x1 : Int32} {w : GW}  : ∀ (n : Nat) (x2 : Int32) (x3 : Int32), PX0_hand_29 Q x1 w n x2 x3 → gAtX p l e s m args below meth c D dA ad 27 (va_Qi Q (gZ D dA 137 ad layX) (gA 137 ad)) 4 29 [(0, .ref (ad 0)), (1, .int x1), (2, .int x2), (3, .int x3)] [] w := by
  intro n
  induction n with
  | zero => intro x2 x3 hw; exact False.elim hw
  | succ n ih =>
    intro x2 x3 hw
    unfold PX0_hand_29 at hw
    refine at_iload_n C dX0_hand_29 rfl rfl ?_
    refine at_sipush C dX0_hand_30 sp_4300 ?_
    refine at_icmp_ge (tgt := 73) C dX0_hand_33 (by decide) (fun c_3 => ?_) (fun c_3 => ?_)
    · have hw := hw.1 c_3
      refine at_iload_n C dX0_hand_73 rfl rfl ?_
      exact at_iret C rfl hw dX0_hand_74
    · have hw := hw.2 c_3
      refine at_iload_n C dX0_hand_36 rfl rfl ?_
      refine at_iload_n C dX0_hand_37 rfl rfl ?_
      refine at_callp (run_S (rest := [.int x2]) (As := [.int x3]) C (metX0_isBall l D dA ad  hw) (lw_S q419 q420 q56 q421) dsX0_isBall (gR_ok (Nat.le_of_ble_eq_true rfl) (Nat.le_of_ble_eq_true rfl)) ⟨rfl, rfl⟩ ⟨(Nat.le_of_ble_eq_true rfl), (Nat.le_of_ble_eq_true rfl)⟩ rfl rfl (Nat.le_of_ble_eq_true rfl) dX0_hand_38) (fun r_4  hw => ?_)
      refine at_if_eq (tgt := 64) C dX0_hand_41 (by decide) (fun c_5 => ?_) (fun c_5 => ?_)
      · have hw := hw.1 c_5
        exact at_sub (lv_pickm [0, 1, 3] rfl) (tX0_hand_64 C ih hw)
      · have hw := hw.2 c_5
        refine at_aload_n C dX0_hand_44 rfl rfl ?_
        refine at_getr (j := 12) (r := 22) C (Nat.le_of_ble_eq_true rfl) rfl rfl in_X0 (Nat.le_of_ble_eq_true rfl) rfl q228 dX0_hand_45 ?_
        refine at_iload_n C dX0_hand_48 rfl rfl ?_
        refine at_iald C (Nat.le_of_ble_eq_true rfl) rfl hw.1 rfl dX0_hand_49 ?_
        have hw := hw.2
        refine at_iload_n C dX0_hand_50 rfl rfl ?_
        refine at_icmp_ne (tgt := 64) C dX0_hand_51 (by decide) (fun c_6 => ?_) (fun c_6 => ?_)
        · have hw := hw.1 c_6
          exact at_sub (lv_pickm [0, 1, 3] rfl) (tX0_hand_64 C ih hw)
        · have hw := hw.2 c_6
          refine at_iconst C dX0_hand_54 ic_1 ?_
          refine at_iload_n C dX0_hand_55 rfl rfl ?_
          refine at_sipush C dX0_hand_56 sp_1000 ?_
          refine at_idiv C dX0_hand_59 nz_1000 ?_
          refine at_ishl C dX0_hand_60 ?_
          refine at_goto (tgt := 65) C dX0_hand_61 (by decide) ?_
          exact at_sub (lv_pickm [0, 1, 3] rfl) (tX0_hand_65 C ih hw)
set_option maxHeartbeats 4000000 in
theorem metX0_hand   (l : Launch) (D : va_G) (dA : Nat → ClassId) (ad : Nat → Nat)    {x1 : Int32} {w : GW} {Q : Int32 → GW → Prop} (hw : PX0_hand x1 w Q) : Met l yX0_hand (ws_ yX0_hand cX0_hand 4 (some .int)) (gR 27) (va_Pc [.ref (ad 0), .int x1] (gB D dA 137 ad layX w)) (va_Qi Q (gZ D dA 137 ad layX) (gA 137 ad)) 0 0 (gA 137 ad) := by
  refine gm_of (L := [(0, .ref (ad 0)), (1, .int x1)]) (own := RX0) (by decide +kernel) rfl (Nat.le_of_ble_eq_true rfl) rfl rfl (fun p e s m below meth c C => ?_)
  unfold PX0_hand at hw
  refine at_aload_n C dX0_hand_0 rfl rfl ?_
  refine at_iload_n C dX0_hand_1 rfl rfl ?_
  refine at_callp (run_V (rest := []) (As := [.int x1]) C (metX0_isSet l D dA ad  hw) (lw_V q617 q619 qs21 q56 q620) dsX0_isSet (gR_ok (Nat.le_of_ble_eq_true rfl) (Nat.le_of_ble_eq_true rfl)) ⟨rfl, rfl⟩ ⟨(Nat.le_of_ble_eq_true rfl), (Nat.le_of_ble_eq_true rfl)⟩ (Nat.le_of_ble_eq_true rfl) rfl rfl rfl rfl (Nat.le_of_ble_eq_true rfl) dX0_hand_2) (fun r_7  hw => ?_)
  refine at_if_ne (tgt := 11) C dX0_hand_5 (by decide) (fun c_8 => ?_) (fun c_8 => ?_)
  · have hw := hw.1 c_8
    refine at_aload_n C dX0_hand_11 rfl rfl ?_
    refine at_callp (run_V (rest := []) (As := []) C (metX0_isCounty l D dA ad  hw) (lw_V q407 q409 qs7 q56 q410) dsX0_isCounty (gR_ok (Nat.le_of_ble_eq_true rfl) (Nat.le_of_ble_eq_true rfl)) ⟨rfl, rfl⟩ ⟨(Nat.le_of_ble_eq_true rfl), (Nat.le_of_ble_eq_true rfl)⟩ (Nat.le_of_ble_eq_true rfl) rfl rfl rfl rfl (Nat.le_of_ble_eq_true rfl) dX0_hand_12) (fun r_9  hw => ?_)
    refine at_if_ne (tgt := 21) C dX0_hand_15 (by decide) (fun c_10 => ?_) (fun c_10 => ?_)
    · have hw := hw.1 c_10
      refine at_aload_n C dX0_hand_21 rfl rfl ?_
      refine at_callv (run_V (rest := []) (As := []) C (metX0_layFells l D dA ad  hw) (lw_V q415 q417 qs9 q56 q418) dsX0_layFells (gR_ok (Nat.le_of_ble_eq_true rfl) (Nat.le_of_ble_eq_true rfl)) ⟨rfl, rfl⟩ ⟨(Nat.le_of_ble_eq_true rfl), (Nat.le_of_ble_eq_true rfl)⟩ (Nat.le_of_ble_eq_true rfl) rfl rfl rfl rfl (Nat.le_of_ble_eq_true rfl) dX0_hand_22) (fun  w_12 hw => ?_)
      refine at_iconst C dX0_hand_25 ic_0 ?_
      refine at_istore_n (L' := [(0, .ref (ad 0)), (1, .int x1), (2, .int 0)]) C dX0_hand_26 rfl (Nat.le_of_ble_eq_true rfl) rfl ?_
      refine at_iconst C dX0_hand_27 ic_0 ?_
      refine at_istore_n (L' := [(0, .ref (ad 0)), (1, .int x1), (2, .int 0), (3, .int 0)]) C dX0_hand_28 rfl (Nat.le_of_ble_eq_true rfl) rfl ?_
      obtain ⟨n_13, hw⟩ := hw
      exact (tX0_hand_29 C  _ _ _ hw)
    · have hw := hw.2 c_10
      refine at_ldc C q547 dX0_hand_18 ?_
      exact at_iret C rfl hw dX0_hand_20
  · have hw := hw.2 c_8
    refine at_ldc C q525 dX0_hand_8 ?_
    exact at_iret C rfl hw dX0_hand_10
set_option maxHeartbeats 4000000 in
theorem tX0_ask_140    {K37 : Int32 → Int32 → Int32 → Prop} {Q : Int32 → GW → Prop} (C : Cx p s m args meth c D dA cX0_ask 8 (some .int) RX0)    {x1 : Int32} {x2 : Int32} {x4 : Int32} {x5 : Int32} {x7 : Int32} {s0 : Int32} {w : GW} (hK37 : ∀ (x3 : Int32) (x4 : Int32) (x5 : Int32), K37 x3 x4 x5 → gAtX p l e s m args below meth c D dA ad 27 (va_Qi Q (gZ D dA 137 ad layX) (gA 137 ad)) 8 37 [(0, .ref (ad 0)), (1, .int x1), (2, .int x2), (3, .int x3), (4, .int x4), (5, .int x5)] [] w) (hw : PX0_ask_140 K37 Q x1 x2 x4 x5 x7 s0 w) : gAtX p l e s m args below meth c D dA ad 27 (va_Qi Q (gZ D dA 137 ad layX) (gA 137 ad)) 8 140 [(0, .ref (ad 0)), (1, .int x1), (2, .int x2), (4, .int x4), (5, .int x5), (7, .int x7)] [.int s0] w := by
  unfold PX0_ask_140 at hw
  refine at_istore_n (L' := [(0, .ref (ad 0)), (1, .int x1), (2, .int x2), (3, .int s0), (4, .int x4), (5, .int x5), (7, .int x7)]) C dX0_ask_140 rfl (Nat.le_of_ble_eq_true rfl) rfl ?_
  refine at_iload C dX0_ask_141 rfl ?_
  refine at_iload C dX0_ask_143 rfl ?_
  refine at_mmin C q509 q389 q70 q390 (Nat.le_of_ble_eq_true rfl) (Nat.le_of_ble_eq_true rfl) (Nat.le_of_ble_eq_true rfl) (Nat.le_of_ble_eq_true rfl) (Nat.le_of_ble_eq_true rfl) dX0_ask_145 ?_
  refine at_topi (fun v4_1 e4_1 => ?_)
  have hw := hw v4_1 e4_1
  refine at_istore (L' := [(0, .ref (ad 0)), (1, .int x1), (2, .int x2), (3, .int s0), (4, .int v4_1), (5, .int x5), (7, .int x7)]) C dX0_ask_148 (Nat.le_of_ble_eq_true rfl) rfl ?_
  refine at_iinc (F := fun z_ => [(0, .ref (ad 0)), (1, .int x1), (2, .int x2), (3, .int s0), (4, .int v4_1), (5, .int z_), (7, .int x7)]) C dX0_ask_150 rfl ic_1 (Nat.le_of_ble_eq_true rfl) (fun _ => rfl) (fun v5_2 e5_2 => ?_)
  have hw := hw v5_2 e5_2
  refine at_goto (tgt := 37) C dX0_ask_153 (by decide) ?_
  exact at_sub (lv_pickm [0, 1, 2, 3, 4, 5] rfl) (hK37 _ _ _ hw)
set_option maxHeartbeats 4000000 in
theorem tX0_ask_107    {K37 : Int32 → Int32 → Int32 → Prop} {K59 : Int32 → Int32 → Prop} {Q : Int32 → GW → Prop} (C : Cx p s m args meth c D dA cX0_ask 8 (some .int) RX0)    {x1 : Int32} {x2 : Int32} {x3 : Int32} {x4 : Int32} {x5 : Int32} {x7 : Int32} {s0 : Int32} {s1 : Int32} {w : GW} (hK37 : ∀ (x3 : Int32) (x4 : Int32) (x5 : Int32), K37 x3 x4 x5 → gAtX p l e s m args below meth c D dA ad 27 (va_Qi Q (gZ D dA 137 ad layX) (gA 137 ad)) 8 37 [(0, .ref (ad 0)), (1, .int x1), (2, .int x2), (3, .int x3), (4, .int x4), (5, .int x5)] [] w) (hK59 : ∀ (x6 : Int32) (x7 : Int32), K59 x6 x7 → gAtX p l e s m args below meth c D dA ad 27 (va_Qi Q (gZ D dA 137 ad layX) (gA 137 ad)) 8 59 [(0, .ref (ad 0)), (1, .int x1), (2, .int x2), (3, .int x3), (4, .int x4), (5, .int x5), (6, .int x6), (7, .int x7)] [] w) (hw : PX0_ask_107 K37 K59 Q x1 x2 x3 x4 x5 x7 s0 s1 w) : gAtX p l e s m args below meth c D dA ad 27 (va_Qi Q (gZ D dA 137 ad layX) (gA 137 ad)) 8 107 [(0, .ref (ad 0)), (1, .int x1), (2, .int x2), (3, .int x3), (4, .int x4), (5, .int x5), (7, .int x7)] [.int s1, .int s0] w := by
  unfold PX0_ask_107 at hw
  refine at_iadd C dX0_ask_107 ?_
  refine at_topi (fun v6_3 e6_3 => ?_)
  have hw := hw v6_3 e6_3
  refine at_istore (L' := [(0, .ref (ad 0)), (1, .int x1), (2, .int x2), (3, .int x3), (4, .int x4), (5, .int x5), (6, .int v6_3), (7, .int x7)]) C dX0_ask_108 (Nat.le_of_ble_eq_true rfl) rfl ?_
  refine at_iinc (F := fun z_ => [(0, .ref (ad 0)), (1, .int x1), (2, .int x2), (3, .int x3), (4, .int x4), (5, .int x5), (6, .int v6_3), (7, .int z_)]) C dX0_ask_110 rfl ic_1 (Nat.le_of_ble_eq_true rfl) (fun _ => rfl) (fun v7_4 e7_4 => ?_)
  have hw := hw v7_4 e7_4
  refine at_goto (tgt := 59) C dX0_ask_113 (by decide) ?_
  exact hK59 _ _ hw
set_option maxHeartbeats 4000000 in
theorem tX0_ask_106    {K37 : Int32 → Int32 → Int32 → Prop} {K59 : Int32 → Int32 → Prop} {Q : Int32 → GW → Prop} (C : Cx p s m args meth c D dA cX0_ask 8 (some .int) RX0)    {x1 : Int32} {x2 : Int32} {x3 : Int32} {x4 : Int32} {x5 : Int32} {x7 : Int32} {s0 : Int32} {w : GW} (hK37 : ∀ (x3 : Int32) (x4 : Int32) (x5 : Int32), K37 x3 x4 x5 → gAtX p l e s m args below meth c D dA ad 27 (va_Qi Q (gZ D dA 137 ad layX) (gA 137 ad)) 8 37 [(0, .ref (ad 0)), (1, .int x1), (2, .int x2), (3, .int x3), (4, .int x4), (5, .int x5)] [] w) (hK59 : ∀ (x6 : Int32) (x7 : Int32), K59 x6 x7 → gAtX p l e s m args below meth c D dA ad 27 (va_Qi Q (gZ D dA 137 ad layX) (gA 137 ad)) 8 59 [(0, .ref (ad 0)), (1, .int x1), (2, .int x2), (3, .int x3), (4, .int x4), (5, .int x5), (6, .int x6), (7, .int x7)] [] w) (hw : PX0_ask_106 K37 K59 Q x1 x2 x3 x4 x5 x7 s0 w) : gAtX p l e s m args below meth c D dA ad 27 (va_Qi Q (gZ D dA 137 ad layX) (gA 137 ad)) 8 106 [(0, .ref (ad 0)), (1, .int x1), (2, .int x2), (3, .int x3), (4, .int x4), (5, .int x5), (7, .int x7)] [.int s0] w := by
  unfold PX0_ask_106 at hw
  refine at_iconst C dX0_ask_106 ic_0 ?_
  exact (tX0_ask_107 C hK37 hK59 hw)
set_option maxHeartbeats 4000000 in
theorem tX0_ask_59    {K37 : Int32 → Int32 → Int32 → Prop} {Q : Int32 → GW → Prop} (C : Cx p s m args meth c D dA cX0_ask 8 (some .int) RX0)    {x1 : Int32} {x2 : Int32} {x3 : Int32} {x4 : Int32} {x5 : Int32} {w : GW} (hK37 : ∀ (x3 : Int32) (x4 : Int32) (x5 : Int32), K37 x3 x4 x5 → gAtX p l e s m args below meth c D dA ad 27 (va_Qi Q (gZ D dA 137 ad layX) (gA 137 ad)) 8 37 [(0, .ref (ad 0)), (1, .int x1), (2, .int x2), (3, .int x3), (4, .int x4), (5, .int x5)] [] w) : ∀ (n : Nat) (x6 : Int32) (x7 : Int32), PX0_ask_59 K37 Q x1 x2 x3 x4 x5 w n x6 x7 → gAtX p l e s m args below meth c D dA ad 27 (va_Qi Q (gZ D dA 137 ad layX) (gA 137 ad)) 8 59 [(0, .ref (ad 0)), (1, .int x1), (2, .int x2), (3, .int x3), (4, .int x4), (5, .int x5), (6, .int x6), (7, .int x7)] [] w := by
  intro n
  induction n with
  | zero => intro x6 x7 hw; exact False.elim hw
  | succ n ih =>
    intro x6 x7 hw
    unfold PX0_ask_59 at hw
    refine at_iload C dX0_ask_59 rfl ?_
    refine at_sipush C dX0_ask_61 sp_4300 ?_
    refine at_sipush C dX0_ask_64 sp_1000 ?_
    refine at_iload_n C dX0_ask_67 rfl rfl ?_
    refine at_iconst C dX0_ask_68 ic_1 ?_
    refine at_iadd C dX0_ask_69 ?_
    refine at_imul C dX0_ask_70 ?_
    refine at_mmin C q509 q389 q70 q390 (Nat.le_of_ble_eq_true rfl) (Nat.le_of_ble_eq_true rfl) (Nat.le_of_ble_eq_true rfl) (Nat.le_of_ble_eq_true rfl) (Nat.le_of_ble_eq_true rfl) dX0_ask_71 ?_
    refine at_icmp_ge (tgt := 116) C dX0_ask_74 (by decide) (fun c_5 => ?_) (fun c_5 => ?_)
    · have hw := hw.1 c_5
      refine at_iload C dX0_ask_116 rfl ?_
      refine at_iload_n C dX0_ask_118 rfl rfl ?_
      refine at_iload C dX0_ask_119 rfl ?_
      refine at_isub C dX0_ask_121 ?_
      refine at_mmax C q650 q485 q70 q486 (Nat.le_of_ble_eq_true rfl) (Nat.le_of_ble_eq_true rfl) (Nat.le_of_ble_eq_true rfl) (Nat.le_of_ble_eq_true rfl) (Nat.le_of_ble_eq_true rfl) dX0_ask_122 ?_
      refine at_topi (fun v7_6 e7_6 => ?_)
      have hw := hw v7_6 e7_6
      refine at_istore (L' := [(0, .ref (ad 0)), (1, .int x1), (2, .int x2), (3, .int x3), (4, .int x4), (5, .int x5), (6, .int x6), (7, .int v7_6)]) C dX0_ask_125 (Nat.le_of_ble_eq_true rfl) rfl ?_
      refine at_iload C dX0_ask_127 rfl ?_
      refine at_iload C dX0_ask_129 rfl ?_
      refine at_icmp_ge (tgt := 139) C dX0_ask_131 (by decide) (fun c_7 => ?_) (fun c_7 => ?_)
      · have hw := hw.1 c_7
        refine at_iload_n C dX0_ask_139 rfl rfl ?_
        exact at_sub (lv_pickm [0, 1, 2, 4, 5, 7] rfl) (tX0_ask_140 C hK37 hw)
      · have hw := hw.2 c_7
        refine at_iload C dX0_ask_134 rfl ?_
        refine at_goto (tgt := 140) C dX0_ask_136 (by decide) ?_
        exact at_sub (lv_pickm [0, 1, 2, 4, 5, 7] rfl) (tX0_ask_140 C hK37 hw)
    · have hw := hw.2 c_5
      refine at_iload C dX0_ask_77 rfl ?_
      refine at_iload C dX0_ask_79 rfl ?_
      refine at_callp (run_S (rest := [.int x6]) (As := [.int x7]) C (metX0_isBall l D dA ad  hw) (lw_S q419 q420 q56 q421) dsX0_isBall (gR_ok (Nat.le_of_ble_eq_true rfl) (Nat.le_of_ble_eq_true rfl)) ⟨rfl, rfl⟩ ⟨(Nat.le_of_ble_eq_true rfl), (Nat.le_of_ble_eq_true rfl)⟩ rfl rfl (Nat.le_of_ble_eq_true rfl) dX0_ask_81) (fun r_8  hw => ?_)
      refine at_if_eq (tgt := 106) C dX0_ask_84 (by decide) (fun c_9 => ?_) (fun c_9 => ?_)
      · have hw := hw.1 c_9
        exact at_sub (lv_pickm [0, 1, 2, 3, 4, 5, 7] rfl) (tX0_ask_106 C hK37 ih hw)
      · have hw := hw.2 c_9
        refine at_aload_n C dX0_ask_87 rfl rfl ?_
        refine at_getr (j := 12) (r := 22) C (Nat.le_of_ble_eq_true rfl) rfl rfl in_X0 (Nat.le_of_ble_eq_true rfl) rfl q228 dX0_ask_88 ?_
        refine at_iload C dX0_ask_91 rfl ?_
        refine at_iald C (Nat.le_of_ble_eq_true rfl) rfl hw.1 rfl dX0_ask_93 ?_
        have hw := hw.2
        refine at_iload C dX0_ask_94 rfl ?_
        refine at_callp (run_S (rest := [.int x6]) (As := [.int (w 22 (x7).toNatClampNeg), .int x5]) C (metX0_has l D dA ad  hw) (lw_S q504 q456 q56 q457) dsX0_has (gR_ok (Nat.le_of_ble_eq_true rfl) (Nat.le_of_ble_eq_true rfl)) ⟨rfl, rfl⟩ ⟨(Nat.le_of_ble_eq_true rfl), (Nat.le_of_ble_eq_true rfl)⟩ rfl rfl (Nat.le_of_ble_eq_true rfl) dX0_ask_96) (fun r_10  hw => ?_)
        refine at_if_eq (tgt := 106) C dX0_ask_99 (by decide) (fun c_11 => ?_) (fun c_11 => ?_)
        · have hw := hw.1 c_11
          exact at_sub (lv_pickm [0, 1, 2, 3, 4, 5, 7] rfl) (tX0_ask_106 C hK37 ih hw)
        · have hw := hw.2 c_11
          refine at_iconst C dX0_ask_102 ic_1 ?_
          refine at_goto (tgt := 107) C dX0_ask_103 (by decide) ?_
          exact at_sub (lv_pickm [0, 1, 2, 3, 4, 5, 7] rfl) (tX0_ask_107 C hK37 ih hw)
set_option maxHeartbeats 4000000 in
theorem tX0_ask_37     {Q : Int32 → GW → Prop} (C : Cx p s m args meth c D dA cX0_ask 8 (some .int) RX0)    {x1 : Int32} {x2 : Int32} {w : GW}  : ∀ (n : Nat) (x3 : Int32) (x4 : Int32) (x5 : Int32), PX0_ask_37 Q x1 x2 w n x3 x4 x5 → gAtX p l e s m args below meth c D dA ad 27 (va_Qi Q (gZ D dA 137 ad layX) (gA 137 ad)) 8 37 [(0, .ref (ad 0)), (1, .int x1), (2, .int x2), (3, .int x3), (4, .int x4), (5, .int x5)] [] w := by
  intro n
  induction n with
  | zero => intro x3 x4 x5 hw; exact False.elim hw
  | succ n ih =>
    intro x3 x4 x5 hw
    unfold PX0_ask_37 at hw
    refine at_iload C dX0_ask_37 rfl ?_
    refine at_aload_n C dX0_ask_39 rfl rfl ?_
    refine at_getr (j := 1) (r := 2) C (Nat.le_of_ble_eq_true rfl) rfl rfl in_X0 (Nat.le_of_ble_eq_true rfl) rfl q217 dX0_ask_40 ?_
    refine at_getiN (j := 4) C (Nat.le_of_ble_eq_true rfl) rfl rfl in_X1 (Nat.le_of_ble_eq_true rfl) rfl q104 dX0_ask_43 ?_
    refine at_icmp_ge (tgt := 156) C dX0_ask_46 (by decide) (fun c_12 => ?_) (fun c_12 => ?_)
    · have hw := hw.1 c_12
      refine at_iload_n C dX0_ask_156 rfl rfl ?_
      exact at_iret C rfl hw dX0_ask_157
    · have hw := hw.2 c_12
      refine at_iconst C dX0_ask_49 ic_0 ?_
      refine at_istore (L' := [(0, .ref (ad 0)), (1, .int x1), (2, .int x2), (3, .int x3), (4, .int x4), (5, .int x5), (6, .int 0)]) C dX0_ask_50 (Nat.le_of_ble_eq_true rfl) rfl ?_
      refine at_sipush C dX0_ask_52 sp_1000 ?_
      refine at_iload_n C dX0_ask_55 rfl rfl ?_
      refine at_imul C dX0_ask_56 ?_
      refine at_topi (fun v7_13 e7_13 => ?_)
      have hw := hw v7_13 e7_13
      refine at_istore (L' := [(0, .ref (ad 0)), (1, .int x1), (2, .int x2), (3, .int x3), (4, .int x4), (5, .int x5), (6, .int 0), (7, .int v7_13)]) C dX0_ask_57 (Nat.le_of_ble_eq_true rfl) rfl ?_
      obtain ⟨n_14, hw⟩ := hw
      exact (tX0_ask_59 C ih _ _ _ hw)
set_option maxHeartbeats 4000000 in
theorem metX0_ask   (l : Launch) (D : va_G) (dA : Nat → ClassId) (ad : Nat → Nat)    {x1 : Int32} {w : GW} {Q : Int32 → GW → Prop} (hw : PX0_ask x1 w Q) : Met l yX0_ask (ws_ yX0_ask cX0_ask 8 (some .int)) (gR 27) (va_Pc [.ref (ad 0), .int x1] (gB D dA 137 ad layX w)) (va_Qi Q (gZ D dA 137 ad layX) (gA 137 ad)) 0 0 (gA 137 ad) := by
  refine gm_of (L := [(0, .ref (ad 0)), (1, .int x1)]) (own := RX0) (by decide +kernel) rfl (Nat.le_of_ble_eq_true rfl) rfl rfl (fun p e s m below meth c C => ?_)
  unfold PX0_ask at hw
  refine at_iload_n C dX0_ask_0 rfl rfl ?_
  refine at_iconst C dX0_ask_1 ic_0 ?_
  refine at_iconst C dX0_ask_2 ic_4 ?_
  refine at_callp (run_S (rest := []) (As := [.int x1, .int 0, .int 4]) C (metX0_isIn l D dA ad  hw) (lw_S q266 q267 q56 q268) dsX0_isIn (gR_ok (Nat.le_of_ble_eq_true rfl) (Nat.le_of_ble_eq_true rfl)) ⟨rfl, rfl⟩ ⟨(Nat.le_of_ble_eq_true rfl), (Nat.le_of_ble_eq_true rfl)⟩ rfl rfl (Nat.le_of_ble_eq_true rfl) dX0_ask_3) (fun r_15  hw => ?_)
  refine at_if_ne (tgt := 12) C dX0_ask_6 (by decide) (fun c_16 => ?_) (fun c_16 => ?_)
  · have hw := hw.1 c_16
    refine at_aload_n C dX0_ask_12 rfl rfl ?_
    refine at_callp (run_V (rest := []) (As := []) C (metX0_isCounty l D dA ad  hw) (lw_V q407 q409 qs7 q56 q410) dsX0_isCounty (gR_ok (Nat.le_of_ble_eq_true rfl) (Nat.le_of_ble_eq_true rfl)) ⟨rfl, rfl⟩ ⟨(Nat.le_of_ble_eq_true rfl), (Nat.le_of_ble_eq_true rfl)⟩ (Nat.le_of_ble_eq_true rfl) rfl rfl rfl rfl (Nat.le_of_ble_eq_true rfl) dX0_ask_13) (fun r_17  hw => ?_)
    refine at_if_ne (tgt := 22) C dX0_ask_16 (by decide) (fun c_18 => ?_) (fun c_18 => ?_)
    · have hw := hw.1 c_18
      refine at_aload_n C dX0_ask_22 rfl rfl ?_
      refine at_callv (run_V (rest := []) (As := []) C (metX0_layFells l D dA ad  hw) (lw_V q415 q417 qs9 q56 q418) dsX0_layFells (gR_ok (Nat.le_of_ble_eq_true rfl) (Nat.le_of_ble_eq_true rfl)) ⟨rfl, rfl⟩ ⟨(Nat.le_of_ble_eq_true rfl), (Nat.le_of_ble_eq_true rfl)⟩ (Nat.le_of_ble_eq_true rfl) rfl rfl rfl rfl (Nat.le_of_ble_eq_true rfl) dX0_ask_23) (fun  w_20 hw => ?_)
      refine at_bipush C dX0_ask_26 bp_120 ?_
      refine at_istore_n (L' := [(0, .ref (ad 0)), (1, .int x1), (2, .int 120)]) C dX0_ask_28 rfl (Nat.le_of_ble_eq_true rfl) rfl ?_
      refine at_iconst C dX0_ask_29 ic_m1 ?_
      refine at_istore_n (L' := [(0, .ref (ad 0)), (1, .int x1), (2, .int 120), (3, .int (-1))]) C dX0_ask_30 rfl (Nat.le_of_ble_eq_true rfl) rfl ?_
      refine at_iload_n C dX0_ask_31 rfl rfl ?_
      refine at_istore (L' := [(0, .ref (ad 0)), (1, .int x1), (2, .int 120), (3, .int (-1)), (4, .int 120)]) C dX0_ask_32 (Nat.le_of_ble_eq_true rfl) rfl ?_
      refine at_iconst C dX0_ask_34 ic_0 ?_
      refine at_istore (L' := [(0, .ref (ad 0)), (1, .int x1), (2, .int 120), (3, .int (-1)), (4, .int 120), (5, .int 0)]) C dX0_ask_35 (Nat.le_of_ble_eq_true rfl) rfl ?_
      obtain ⟨n_21, hw⟩ := hw
      exact (tX0_ask_37 C  _ _ _ _ hw)
    · have hw := hw.2 c_18
      refine at_ldc C q547 dX0_ask_19 ?_
      exact at_iret C rfl hw dX0_ask_21
  · have hw := hw.2 c_16
    refine at_ldc C q269 dX0_ask_9 ?_
    exact at_iret C rfl hw dX0_ask_11
set_option maxHeartbeats 4000000 in
theorem tX0_calm_30     {Q : Int32 → Prop} (C : Cx p s m args meth c D dA cX0_calm 6 (some .int) RX0)    {x1 : Int32} {x2 : Int32} {w : GW}  : ∀ (n : Nat) (x3 : Int64) (x5 : Int32), PX0_calm_30 Q x1 x2 n x3 x5 → gAtX p l e s m args below meth c D dA ad 2 (va_Qi (gQ1 Q w) (gZ D dA 137 ad layX) (gA 137 ad)) 6 30 [(1, .int x1), (2, .int x2), (3, .long x3), (5, .int x5)] [] w := by
  intro n
  induction n with
  | zero => intro x3 x5 hw; exact False.elim hw
  | succ n ih =>
    intro x3 x5 hw
    unfold PX0_calm_30 at hw
    refine at_iload C dX0_calm_30 rfl ?_
    refine at_iload_n C dX0_calm_32 rfl rfl ?_
    refine at_icmp_ge (tgt := 51) C dX0_calm_33 (by decide) (fun c_1 => ?_) (fun c_1 => ?_)
    · have hw := hw.1 c_1
      refine at_lload_n C dX0_calm_51 rfl rfl ?_
      refine at_l2i C dX0_calm_52 ?_
      exact at_iret C rfl ⟨hw, rfl⟩ dX0_calm_53
    · have hw := hw.2 c_1
      refine at_lload_n C dX0_calm_36 rfl rfl ?_
      refine at_iload_n C dX0_calm_37 rfl rfl ?_
      refine at_i2l C dX0_calm_38 ?_
      refine at_lmul C dX0_calm_39 ?_
      refine at_ldc2 C q656 dX0_calm_40 ?_
      refine at_ldiv C dX0_calm_43 (by decide) ?_
      refine at_topl (fun v3_2 e3_2 => ?_)
      have hw := hw v3_2 e3_2
      refine at_lstore_n (L' := [(1, .int x1), (2, .int x2), (3, .long v3_2), (5, .int x5)]) C dX0_calm_44 rfl (Nat.le_of_ble_eq_true rfl) rfl ?_
      refine at_iinc (F := fun z_ => [(1, .int x1), (2, .int x2), (3, .long v3_2), (5, .int z_)]) C dX0_calm_45 rfl ic_1 (Nat.le_of_ble_eq_true rfl) (fun _ => rfl) (fun v5_3 e5_3 => ?_)
      have hw := hw v5_3 e5_3
      refine at_goto (tgt := 30) C dX0_calm_48 (by decide) ?_
      exact ih _ _ hw
set_option maxHeartbeats 4000000 in
theorem metX0_calm   (l : Launch) (D : va_G) (dA : Nat → ClassId) (ad : Nat → Nat)    {x1 : Int32} {x2 : Int32} {w : GW} {Q : Int32 → Prop} (hw : PX0_calm x1 x2 Q) : Met l yX0_calm (ws_ yX0_calm cX0_calm 6 (some .int)) (gR 2) (va_Pc [.ref (ad 0), .int x1, .int x2] (gB D dA 137 ad layX w)) (va_Qi (gQ1 Q w) (gZ D dA 137 ad layX) (gA 137 ad)) 0 0 (gA 137 ad) := by
  refine gm_of (L := [(0, .ref (ad 0)), (1, .int x1), (2, .int x2)]) (own := RX0) (by decide +kernel) rfl (Nat.le_of_ble_eq_true rfl) rfl rfl (fun p e s m below meth c C => ?_)
  unfold PX0_calm at hw
  refine at_iload_n C dX0_calm_0 rfl rfl ?_
  refine at_iconst C dX0_calm_1 ic_0 ?_
  refine at_bipush C dX0_calm_2 bp_60 ?_
  refine at_callp (run_S (rest := []) (As := [.int x1, .int 0, .int 60]) C (metX0_isIn l D dA ad  hw) (lw_S q266 q267 q56 q268) dsX0_isIn (gR_ok (Nat.le_of_ble_eq_true rfl) (Nat.le_of_ble_eq_true rfl)) ⟨rfl, rfl⟩ ⟨(Nat.le_of_ble_eq_true rfl), (Nat.le_of_ble_eq_true rfl)⟩ rfl rfl (Nat.le_of_ble_eq_true rfl) dX0_calm_4) (fun r_4  hw => ?_)
  refine at_if_eq (tgt := 20) C dX0_calm_7 (by decide) (fun c_5 => ?_) (fun c_5 => ?_)
  · have hw := hw.1 c_5
    refine at_ldc C q269 dX0_calm_20 ?_
    exact at_iret C rfl ⟨hw, rfl⟩ dX0_calm_22
  · have hw := hw.2 c_5
    refine at_iload_n C dX0_calm_10 rfl rfl ?_
    refine at_iconst C dX0_calm_11 ic_0 ?_
    refine at_bipush C dX0_calm_12 bp_100 ?_
    refine at_callp (run_S (rest := []) (As := [.int x2, .int 0, .int 100]) C (metX0_isIn l D dA ad  hw) (lw_S q266 q267 q56 q268) dsX0_isIn (gR_ok (Nat.le_of_ble_eq_true rfl) (Nat.le_of_ble_eq_true rfl)) ⟨rfl, rfl⟩ ⟨(Nat.le_of_ble_eq_true rfl), (Nat.le_of_ble_eq_true rfl)⟩ rfl rfl (Nat.le_of_ble_eq_true rfl) dX0_calm_14) (fun r_6  hw => ?_)
    refine at_if_ne (tgt := 23) C dX0_calm_17 (by decide) (fun c_7 => ?_) (fun c_7 => ?_)
    · have hw := hw.1 c_7
      refine at_ldc2 C q655 dX0_calm_23 ?_
      refine at_topl (fun v3_8 e3_8 => ?_)
      have hw := hw v3_8 e3_8
      refine at_lstore_n (L' := [(0, .ref (ad 0)), (1, .int x1), (2, .int x2), (3, .long v3_8)]) C dX0_calm_26 rfl (Nat.le_of_ble_eq_true rfl) rfl ?_
      refine at_iconst C dX0_calm_27 ic_0 ?_
      refine at_istore (L' := [(0, .ref (ad 0)), (1, .int x1), (2, .int x2), (3, .long v3_8), (5, .int 0)]) C dX0_calm_28 (Nat.le_of_ble_eq_true rfl) rfl ?_
      obtain ⟨n_9, hw⟩ := hw
      exact at_sub (lv_pickm [1, 2, 3, 4] rfl) (tX0_calm_30 C  _ _ _ hw)
    · have hw := hw.2 c_7
      refine at_ldc C q269 dX0_calm_20 ?_
      exact at_iret C rfl ⟨hw, rfl⟩ dX0_calm_22
set_option maxHeartbeats 4000000 in
theorem metX0_write   (l : Launch) (D : va_G) (dA : Nat → ClassId) (ad : Nat → Nat)    {x1 : Int32} {x2 : Int32} {w : GW} {Q : Int32 → GW → Prop} (hw : PX0_write x1 x2 w Q) : Met l yX0_write (ws_ yX0_write cX0_write 3 (some .int)) (gR 3) (va_Pc [.ref (ad 0), .int x1, .int x2] (gB D dA 137 ad layX w)) (va_Qi Q (gZ D dA 137 ad layX) (gA 137 ad)) 0 0 (gA 137 ad) := by
  refine gm_of (L := [(0, .ref (ad 0)), (1, .int x1), (2, .int x2)]) (own := RX0) (by decide +kernel) rfl (Nat.le_of_ble_eq_true rfl) rfl rfl (fun p e s m below meth c C => ?_)
  unfold PX0_write at hw
  refine at_aload_n C dX0_write_0 rfl rfl ?_
  refine at_iload_n C dX0_write_1 rfl rfl ?_
  refine at_callp (run_V (rest := []) (As := [.int x1]) C (metX0_isSkittle l D dA ad  hw) (lw_V q521 q523 qs17 q56 q524) dsX0_isSkittle (gR_ok (Nat.le_of_ble_eq_true rfl) (Nat.le_of_ble_eq_true rfl)) ⟨rfl, rfl⟩ ⟨(Nat.le_of_ble_eq_true rfl), (Nat.le_of_ble_eq_true rfl)⟩ (Nat.le_of_ble_eq_true rfl) rfl rfl rfl rfl (Nat.le_of_ble_eq_true rfl) dX0_write_2) (fun r_1  hw => ?_)
  refine at_if_ne (tgt := 11) C dX0_write_5 (by decide) (fun c_2 => ?_) (fun c_2 => ?_)
  · have hw := hw.1 c_2
    refine at_aload_n C dX0_write_11 rfl rfl ?_
    refine at_geti (j := 8) C (Nat.le_of_ble_eq_true rfl) rfl rfl in_X0 (Nat.le_of_ble_eq_true rfl) rfl q224 dX0_write_12 ?_
    refine at_bipush C dX0_write_15 bp_15 ?_
    refine at_icmp_ne (tgt := 23) C dX0_write_17 (by decide) (fun c_3 => ?_) (fun c_3 => ?_)
    · have hw := hw.1 c_3
      refine at_aload_n C dX0_write_23 rfl rfl ?_
      refine at_getr (j := 6) (r := 19) C (Nat.le_of_ble_eq_true rfl) rfl rfl in_X0 (Nat.le_of_ble_eq_true rfl) rfl q222 dX0_write_24 ?_
      refine at_aload_n C dX0_write_27 rfl rfl ?_
      refine at_geti (j := 8) C (Nat.le_of_ble_eq_true rfl) rfl rfl in_X0 (Nat.le_of_ble_eq_true rfl) rfl q224 dX0_write_28 ?_
      refine at_iload_n C dX0_write_31 rfl rfl ?_
      refine at_iast C (Nat.le_of_ble_eq_true rfl) rfl hw.1 rfl dX0_write_32 (fun w_4 ew_4 => ?_)
      have hw := hw.2 w_4 ew_4
      refine at_aload_n C dX0_write_33 rfl rfl ?_
      refine at_getr (j := 7) (r := 20) C (Nat.le_of_ble_eq_true rfl) rfl rfl in_X0 (Nat.le_of_ble_eq_true rfl) rfl q223 dX0_write_34 ?_
      refine at_aload_n C dX0_write_37 rfl rfl ?_
      refine at_geti (j := 8) C (Nat.le_of_ble_eq_true rfl) rfl rfl in_X0 (Nat.le_of_ble_eq_true rfl) rfl q224 dX0_write_38 ?_
      refine at_iload_n C dX0_write_41 rfl rfl ?_
      have hz_w_5 := hw.1
      have hw := hw.2
      refine at_zast C (Nat.le_of_ble_eq_true rfl) rfl hw.1 rfl (gBool_vp hz_w_5) dX0_write_42 (fun w_5 ew_5 => ?_)
      have hw := hw.2 w_5 ew_5
      refine at_aload_n C dX0_write_43 rfl rfl ?_
      refine at_dup C dX0_write_44 rfl ?_
      refine at_geti (j := 8) C (Nat.le_of_ble_eq_true rfl) rfl rfl in_X0 (Nat.le_of_ble_eq_true rfl) rfl q224 dX0_write_45 ?_
      refine at_iconst C dX0_write_48 ic_1 ?_
      refine at_iadd C dX0_write_49 ?_
      refine at_puti (j := 8) C (Nat.le_of_ble_eq_true rfl) rfl rfl in_X0 (Nat.le_of_ble_eq_true rfl) rfl q224 tyX0 tyX0_ok nmX0 rfl rfl rfl dX0_write_50 (fun w_6 ew_6 => ?_)
      have hw := hw w_6 ew_6
      refine at_aload_n C dX0_write_53 rfl rfl ?_
      refine at_geti (j := 8) C (Nat.le_of_ble_eq_true rfl) rfl rfl in_X0 (Nat.le_of_ble_eq_true rfl) rfl q224 dX0_write_54 ?_
      exact at_iret C rfl hw dX0_write_57
    · have hw := hw.2 c_3
      refine at_ldc C q270 dX0_write_20 ?_
      exact at_iret C rfl hw dX0_write_22
  · have hw := hw.2 c_2
    refine at_ldc C q525 dX0_write_8 ?_
    exact at_iret C rfl hw dX0_write_10
set_option maxHeartbeats 4000000 in
theorem metX0_tear   (l : Launch) (D : va_G) (dA : Nat → ClassId) (ad : Nat → Nat)     {w : GW} {Q : Int32 → GW → Prop} (hw : PX0_tear w Q) : Met l yX0_tear (ws_ yX0_tear cX0_tear 2 (some .int)) (gR 1) (va_Pc [.ref (ad 0)] (gB D dA 137 ad layX w)) (va_Qi Q (gZ D dA 137 ad layX) (gA 137 ad)) 0 0 (gA 137 ad) := by
  refine gm_of (L := [(0, .ref (ad 0))]) (own := RX0) (by decide +kernel) rfl (Nat.le_of_ble_eq_true rfl) rfl rfl (fun p e s m below meth c C => ?_)
  unfold PX0_tear at hw
  refine at_aload_n C dX0_tear_0 rfl rfl ?_
  refine at_geti (j := 8) C (Nat.le_of_ble_eq_true rfl) rfl rfl in_X0 (Nat.le_of_ble_eq_true rfl) rfl q224 dX0_tear_1 ?_
  refine at_topi (fun v1_1 e1_1 => ?_)
  have hw := hw v1_1 e1_1
  refine at_istore_n (L' := [(0, .ref (ad 0)), (1, .int v1_1)]) C dX0_tear_4 rfl (Nat.le_of_ble_eq_true rfl) rfl ?_
  refine at_aload_n C dX0_tear_5 rfl rfl ?_
  refine at_iconst C dX0_tear_6 ic_0 ?_
  refine at_puti (j := 8) C (Nat.le_of_ble_eq_true rfl) rfl rfl in_X0 (Nat.le_of_ble_eq_true rfl) rfl q224 tyX0 tyX0_ok nmX0 rfl rfl rfl dX0_tear_7 (fun w_2 ew_2 => ?_)
  have hw := hw w_2 ew_2
  refine at_iload_n C dX0_tear_10 rfl rfl ?_
  exact at_iret C rfl hw dX0_tear_11
set_option maxHeartbeats 4000000 in
theorem tX0_judge_2     {Q : Int32 → Prop} (C : Cx p s m args meth c D dA cX0_judge 2 (some .int) RX0)     {w : GW}  : ∀ (n : Nat) (x1 : Int32), PX0_judge_2 Q w n x1 → gAtX p l e s m args below meth c D dA ad 2 (va_Qi (gQ1 Q w) (gZ D dA 137 ad layX) (gA 137 ad)) 2 2 [(0, .ref (ad 0)), (1, .int x1)] [] w := by
  intro n
  induction n with
  | zero => intro x1 hw; exact False.elim hw
  | succ n ih =>
    intro x1 hw
    unfold PX0_judge_2 at hw
    refine at_iload_n C dX0_judge_2 rfl rfl ?_
    refine at_aload_n C dX0_judge_3 rfl rfl ?_
    refine at_geti (j := 8) C (Nat.le_of_ble_eq_true rfl) rfl rfl in_X0 (Nat.le_of_ble_eq_true rfl) rfl q224 dX0_judge_4 ?_
    refine at_icmp_ge (tgt := 43) C dX0_judge_7 (by decide) (fun c_1 => ?_) (fun c_1 => ?_)
    · have hw := hw.1 c_1
      refine at_iconst C dX0_judge_43 ic_m1 ?_
      exact at_iret C rfl ⟨hw, rfl⟩ dX0_judge_44
    · have hw := hw.2 c_1
      refine at_aload_n C dX0_judge_10 rfl rfl ?_
      refine at_getr (j := 2) (r := 6) C (Nat.le_of_ble_eq_true rfl) rfl rfl in_X0 (Nat.le_of_ble_eq_true rfl) rfl q218 dX0_judge_11 ?_
      refine at_getiN (j := 5) C (gSt_k0 gSt_now) (layX_0 gSt_now) rfl in_X2 (Nat.le_of_ble_eq_true rfl) rfl q134 dX0_judge_14 ?_
      refine at_aload_n C dX0_judge_17 rfl rfl ?_
      refine at_getr (j := 6) (r := 19) C (Nat.le_of_ble_eq_true rfl) rfl rfl in_X0 (Nat.le_of_ble_eq_true rfl) rfl q222 dX0_judge_18 ?_
      refine at_iload_n C dX0_judge_21 rfl rfl ?_
      refine at_iald C (Nat.le_of_ble_eq_true rfl) rfl hw.1 rfl dX0_judge_22 ?_
      have hw := hw.2
      refine at_callp (run_S (rest := []) (As := [.int (w 6 5), .int (w 19 (x1).toNatClampNeg)]) C (metX0_has l D dA ad  hw) (lw_S q504 q456 q56 q457) dsX0_has (gR_ok (Nat.le_of_ble_eq_true rfl) (Nat.le_of_ble_eq_true rfl)) ⟨rfl, rfl⟩ ⟨(Nat.le_of_ble_eq_true rfl), (Nat.le_of_ble_eq_true rfl)⟩ rfl rfl (Nat.le_of_ble_eq_true rfl) dX0_judge_23) (fun r_2  hw => ?_)
      refine at_aload_n C dX0_judge_26 rfl rfl ?_
      refine at_getr (j := 7) (r := 20) C (Nat.le_of_ble_eq_true rfl) rfl rfl in_X0 (Nat.le_of_ble_eq_true rfl) rfl q223 dX0_judge_27 ?_
      refine at_iload_n C dX0_judge_30 rfl rfl ?_
      refine at_zald C (Nat.le_of_ble_eq_true rfl) rfl hw.1 rfl dX0_judge_31 ?_
      have hw := hw.2
      refine at_icmp_eq (tgt := 37) C dX0_judge_32 (by decide) (fun c_3 => ?_) (fun c_3 => ?_)
      · have hw := hw.1 c_3
        refine at_iinc (F := fun z_ => [(0, .ref (ad 0)), (1, .int z_)]) C dX0_judge_37 rfl ic_1 (Nat.le_of_ble_eq_true rfl) (fun _ => rfl) (fun v1_4 e1_4 => ?_)
        have hw := hw v1_4 e1_4
        refine at_goto (tgt := 2) C dX0_judge_40 (by decide) ?_
        exact ih _ hw
      · have hw := hw.2 c_3
        refine at_iload_n C dX0_judge_35 rfl rfl ?_
        exact at_iret C rfl ⟨hw, rfl⟩ dX0_judge_36
set_option maxHeartbeats 4000000 in
theorem metX0_judge   (l : Launch) (D : va_G) (dA : Nat → ClassId) (ad : Nat → Nat)     {w : GW} {Q : Int32 → Prop} (hw : PX0_judge w Q) : Met l yX0_judge (ws_ yX0_judge cX0_judge 2 (some .int)) (gR 2) (va_Pc [.ref (ad 0)] (gB D dA 137 ad layX w)) (va_Qi (gQ1 Q w) (gZ D dA 137 ad layX) (gA 137 ad)) 0 0 (gA 137 ad) := by
  refine gm_of (L := [(0, .ref (ad 0))]) (own := RX0) (by decide +kernel) rfl (Nat.le_of_ble_eq_true rfl) rfl rfl (fun p e s m below meth c C => ?_)
  unfold PX0_judge at hw
  refine at_iconst C dX0_judge_0 ic_0 ?_
  refine at_istore_n (L' := [(0, .ref (ad 0)), (1, .int 0)]) C dX0_judge_1 rfl (Nat.le_of_ble_eq_true rfl) rfl ?_
  obtain ⟨n_5, hw⟩ := hw
  exact (tX0_judge_2 C  _ _ hw)
set_option maxHeartbeats 4000000 in
theorem metX0_seed   (l : Launch) (D : va_G) (dA : Nat → ClassId) (ad : Nat → Nat)    {x1 : Int32} {w : GW} {Q : Int32 → GW → Prop} (hw : PX0_seed x1 w Q) : Met l yX0_seed (ws_ yX0_seed cX0_seed 3 (some .int)) (gR 1) (va_Pc [.ref (ad 0), .int x1] (gB D dA 137 ad layX w)) (va_Qi Q (gZ D dA 137 ad layX) (gA 137 ad)) 0 0 (gA 137 ad) := by
  refine gm_of (L := [(0, .ref (ad 0)), (1, .int x1)]) (own := RX0) (by decide +kernel) rfl (Nat.le_of_ble_eq_true rfl) rfl rfl (fun p e s m below meth c C => ?_)
  unfold PX0_seed at hw
  refine at_iload_n C dX0_seed_0 rfl rfl ?_
  refine at_if_ge (tgt := 7) C dX0_seed_1 (by decide) (fun c_1 => ?_) (fun c_1 => ?_)
  · have hw := hw.1 c_1
    refine at_aload_n C dX0_seed_7 rfl rfl ?_
    refine at_getr (j := 2) (r := 6) C (Nat.le_of_ble_eq_true rfl) rfl rfl in_X0 (Nat.le_of_ble_eq_true rfl) rfl q218 dX0_seed_8 ?_
    refine at_getiN (j := 8) C (gSt_k0 gSt_now) (layX_0 gSt_now) rfl in_X2 (Nat.le_of_ble_eq_true rfl) rfl q140 dX0_seed_11 ?_
    refine at_topi (fun v2_2 e2_2 => ?_)
    have hw := hw v2_2 e2_2
    refine at_istore_n (L' := [(0, .ref (ad 0)), (1, .int x1), (2, .int v2_2)]) C dX0_seed_14 rfl (Nat.le_of_ble_eq_true rfl) rfl ?_
    refine at_aload_n C dX0_seed_15 rfl rfl ?_
    refine at_getr (j := 2) (r := 6) C (Nat.le_of_ble_eq_true rfl) rfl rfl in_X0 (Nat.le_of_ble_eq_true rfl) rfl q218 dX0_seed_16 ?_
    refine at_iload_n C dX0_seed_19 rfl rfl ?_
    refine at_putiN (j := 8) C (gSt_k0 gSt_now) (layX_0 gSt_now) rfl in_X2 (Nat.le_of_ble_eq_true rfl) rfl q140 tyX2 tyX2_ok nmX2 rfl rfl rfl dX0_seed_20 (fun w_3 ew_3 => ?_)
    have hw := hw w_3 ew_3
    refine at_iload_n C dX0_seed_23 rfl rfl ?_
    exact at_iret C rfl hw dX0_seed_24
  · have hw := hw.2 c_1
    refine at_ldc C q269 dX0_seed_4 ?_
    exact at_iret C rfl hw dX0_seed_6
set_option maxHeartbeats 4000000 in
theorem metX0_keep   (l : Launch) (D : va_G) (dA : Nat → ClassId) (ad : Nat → Nat)    {x1 : Int32} {w : GW} {Q : Int32 → GW → Prop} (hw : PX0_keep x1 w Q) : Met l yX0_keep (ws_ yX0_keep cX0_keep 2 (some .int)) (gR 3) (va_Pc [.ref (ad 0), .int x1] (gB D dA 137 ad layX w)) (va_Qi Q (gZ D dA 137 ad layX) (gA 137 ad)) 0 0 (gA 137 ad) := by
  refine gm_of (L := [(0, .ref (ad 0)), (1, .int x1)]) (own := RX0) (by decide +kernel) rfl (Nat.le_of_ble_eq_true rfl) rfl rfl (fun p e s m below meth c C => ?_)
  unfold PX0_keep at hw
  refine at_iload_n C dX0_keep_0 rfl rfl ?_
  refine at_iconst C dX0_keep_1 ic_0 ?_
  refine at_iconst C dX0_keep_2 ic_1 ?_
  refine at_callp (run_S (rest := []) (As := [.int x1, .int 0, .int 1]) C (metX0_isIn l D dA ad  hw) (lw_S q266 q267 q56 q268) dsX0_isIn (gR_ok (Nat.le_of_ble_eq_true rfl) (Nat.le_of_ble_eq_true rfl)) ⟨rfl, rfl⟩ ⟨(Nat.le_of_ble_eq_true rfl), (Nat.le_of_ble_eq_true rfl)⟩ rfl rfl (Nat.le_of_ble_eq_true rfl) dX0_keep_3) (fun r_1  hw => ?_)
  refine at_if_ne (tgt := 12) C dX0_keep_6 (by decide) (fun c_2 => ?_) (fun c_2 => ?_)
  · have hw := hw.1 c_2
    refine at_aload_n C dX0_keep_12 rfl rfl ?_
    refine at_getr (j := 14) (r := 24) C (Nat.le_of_ble_eq_true rfl) rfl rfl in_X0 (Nat.le_of_ble_eq_true rfl) rfl q230 dX0_keep_13 ?_
    refine at_iload_n C dX0_keep_16 rfl rfl ?_
    have hk_3 := hw.1
    have hw := hw.2
    refine at_aldq (r := gIm x1) C (Nat.le_of_ble_eq_true rfl) rfl rfl hk_3 (gIm_rd hk_3) dX0_keep_17 ?_
    refine at_aload_n C dX0_keep_18 rfl rfl ?_
    refine at_getr (j := 2) (r := 6) C (Nat.le_of_ble_eq_true rfl) rfl rfl in_X0 (Nat.le_of_ble_eq_true rfl) rfl q218 dX0_keep_19 ?_
    refine at_callv (run_V (rest := []) (As := [.ref (ad 6)]) C (metX2_set l D dA ad (gIm_ok hk_3) gSt_now hw) (lw_V q426 q427 q428 q58 q429) dsX2_set (gR_ok (Nat.le_of_ble_eq_true rfl) (Nat.le_of_ble_eq_true rfl)) ⟨rfl, rfl⟩ ⟨(Nat.le_of_ble_eq_true rfl), (Nat.le_of_ble_eq_true rfl)⟩ (gSt_k0 (gIm_ok hk_3)) (layX_0 (gIm_ok hk_3)) rfl rfl rfl (Nat.le_of_ble_eq_true rfl) dX0_keep_22) (fun  w_5 hw => ?_)
    refine at_aload_n C dX0_keep_25 rfl rfl ?_
    refine at_getr (j := 14) (r := 24) C (Nat.le_of_ble_eq_true rfl) rfl rfl in_X0 (Nat.le_of_ble_eq_true rfl) rfl q230 dX0_keep_26 ?_
    refine at_iload_n C dX0_keep_29 rfl rfl ?_
    have hk_6 := hw.1
    have hw := hw.2
    refine at_aldq (r := gIm x1) C (Nat.le_of_ble_eq_true rfl) rfl rfl hk_6 (gIm_rd hk_6) dX0_keep_30 ?_
    refine at_iconst C dX0_keep_31 ic_1 ?_
    refine at_putiN (j := 9) C (gSt_k0 (gIm_ok hk_6)) (layX_0 (gIm_ok hk_6)) rfl in_X2 (Nat.le_of_ble_eq_true rfl) rfl q141 tyX2 tyX2_ok nmX2 rfl rfl rfl dX0_keep_32 (fun w_7 ew_7 => ?_)
    have hw := hw w_7 ew_7
    refine at_aload_n C dX0_keep_35 rfl rfl ?_
    refine at_iconst C dX0_keep_36 ic_0 ?_
    refine at_puti (j := 5) C (Nat.le_of_ble_eq_true rfl) rfl rfl in_X0 (Nat.le_of_ble_eq_true rfl) rfl q221 tyX0 tyX0_ok nmX0 rfl rfl rfl dX0_keep_37 (fun w_8 ew_8 => ?_)
    have hw := hw w_8 ew_8
    refine at_iconst C dX0_keep_40 ic_1 ?_
    exact at_iret C rfl hw dX0_keep_41
  · have hw := hw.2 c_2
    refine at_ldc C q525 dX0_keep_9 ?_
    exact at_iret C rfl hw dX0_keep_11
set_option maxHeartbeats 4000000 in
theorem metX0_goBack   (l : Launch) (D : va_G) (dA : Nat → ClassId) (ad : Nat → Nat)    {x1 : Int32} {w : GW} {Q : Int32 → GW → Prop} (hw : PX0_goBack x1 w Q) : Met l yX0_goBack (ws_ yX0_goBack cX0_goBack 2 (some .int)) (gR 3) (va_Pc [.ref (ad 0), .int x1] (gB D dA 137 ad layX w)) (va_Qi Q (gZ D dA 137 ad layX) (gA 137 ad)) 0 0 (gA 137 ad) := by
  refine gm_of (L := [(0, .ref (ad 0)), (1, .int x1)]) (own := RX0) (by decide +kernel) rfl (Nat.le_of_ble_eq_true rfl) rfl rfl (fun p e s m below meth c C => ?_)
  unfold PX0_goBack at hw
  refine at_iload_n C dX0_goBack_0 rfl rfl ?_
  refine at_iconst C dX0_goBack_1 ic_0 ?_
  refine at_iconst C dX0_goBack_2 ic_1 ?_
  refine at_callp (run_S (rest := []) (As := [.int x1, .int 0, .int 1]) C (metX0_isIn l D dA ad  hw) (lw_S q266 q267 q56 q268) dsX0_isIn (gR_ok (Nat.le_of_ble_eq_true rfl) (Nat.le_of_ble_eq_true rfl)) ⟨rfl, rfl⟩ ⟨(Nat.le_of_ble_eq_true rfl), (Nat.le_of_ble_eq_true rfl)⟩ rfl rfl (Nat.le_of_ble_eq_true rfl) dX0_goBack_3) (fun r_1  hw => ?_)
  refine at_if_ne (tgt := 12) C dX0_goBack_6 (by decide) (fun c_2 => ?_) (fun c_2 => ?_)
  · have hw := hw.1 c_2
    refine at_aload_n C dX0_goBack_12 rfl rfl ?_
    refine at_getr (j := 14) (r := 24) C (Nat.le_of_ble_eq_true rfl) rfl rfl in_X0 (Nat.le_of_ble_eq_true rfl) rfl q230 dX0_goBack_13 ?_
    refine at_iload_n C dX0_goBack_16 rfl rfl ?_
    have hk_3 := hw.1
    have hw := hw.2
    refine at_aldq (r := gIm x1) C (Nat.le_of_ble_eq_true rfl) rfl rfl hk_3 (gIm_rd hk_3) dX0_goBack_17 ?_
    refine at_getiN (j := 9) C (gSt_k0 (gIm_ok hk_3)) (layX_0 (gIm_ok hk_3)) rfl in_X2 (Nat.le_of_ble_eq_true rfl) rfl q141 dX0_goBack_18 ?_
    refine at_if_ne (tgt := 27) C dX0_goBack_21 (by decide) (fun c_4 => ?_) (fun c_4 => ?_)
    · have hw := hw.1 c_4
      refine at_aload_n C dX0_goBack_27 rfl rfl ?_
      refine at_getr (j := 2) (r := 6) C (Nat.le_of_ble_eq_true rfl) rfl rfl in_X0 (Nat.le_of_ble_eq_true rfl) rfl q218 dX0_goBack_28 ?_
      refine at_aload_n C dX0_goBack_31 rfl rfl ?_
      refine at_getr (j := 14) (r := 24) C (Nat.le_of_ble_eq_true rfl) rfl rfl in_X0 (Nat.le_of_ble_eq_true rfl) rfl q230 dX0_goBack_32 ?_
      refine at_iload_n C dX0_goBack_35 rfl rfl ?_
      have hk_5 := hw.1
      have hw := hw.2
      refine at_aldq (r := gIm x1) C (Nat.le_of_ble_eq_true rfl) rfl rfl hk_5 (gIm_rd hk_5) dX0_goBack_36 ?_
      refine at_callv (run_V (rest := []) (As := [.ref (ad (gIm x1))]) C (metX2_set l D dA ad gSt_now (gIm_ok hk_5) hw) (lw_V q426 q427 q428 q58 q429) dsX2_set (gR_ok (Nat.le_of_ble_eq_true rfl) (Nat.le_of_ble_eq_true rfl)) ⟨rfl, rfl⟩ ⟨(Nat.le_of_ble_eq_true rfl), (Nat.le_of_ble_eq_true rfl)⟩ (gSt_k0 gSt_now) (layX_0 gSt_now) rfl rfl rfl (Nat.le_of_ble_eq_true rfl) dX0_goBack_37) (fun  w_7 hw => ?_)
      refine at_aload_n C dX0_goBack_40 rfl rfl ?_
      refine at_iconst C dX0_goBack_41 ic_0 ?_
      refine at_puti (j := 5) C (Nat.le_of_ble_eq_true rfl) rfl rfl in_X0 (Nat.le_of_ble_eq_true rfl) rfl q221 tyX0 tyX0_ok nmX0 rfl rfl rfl dX0_goBack_42 (fun w_8 ew_8 => ?_)
      have hw := hw w_8 ew_8
      refine at_iconst C dX0_goBack_45 ic_1 ?_
      exact at_iret C rfl hw dX0_goBack_46
    · have hw := hw.2 c_4
      refine at_ldc C q547 dX0_goBack_24 ?_
      exact at_iret C rfl hw dX0_goBack_26
  · have hw := hw.2 c_2
    refine at_ldc C q525 dX0_goBack_9 ?_
    exact at_iret C rfl hw dX0_goBack_11
end GWalk
