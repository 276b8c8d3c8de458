/-! the walks of the system -/
set_option maxRecDepth 100000
section GWalk
variable {p : Program} {l : Launch} {e : Env} {s : State} {m : MethodId} {args : Array Value} {below : List Frame} {meth : Method} {c : Code} {D : va_G} {dA : Nat → ClassId} {ad : Nat → Nat}
set_option maxHeartbeats 4000000 in
theorem tX0_worst_63    {K8 : Int32 → Int32 → Prop} {Q : Int32 → GW → Prop} (C : Cx p s m args meth c D dA cX0_worst 4 (some .int) RX0)    {x2 : Int32} {s0 : Int32} {w : GW} (hK8 : ∀ (x1 : Int32) (x2 : Int32), K8 x1 x2 → gAtX p l e s m args below meth c D dA ad 27 (va_Qi Q (gZ D dA 137 ad layX) (gA 137 ad)) 4 8 [(0, .ref (ad 0)), (1, .int x1), (2, .int x2)] [] w) (hw : PX0_worst_63 K8 Q x2 s0 w) : gAtX p l e s m args below meth c D dA ad 27 (va_Qi Q (gZ D dA 137 ad layX) (gA 137 ad)) 4 63 [(0, .ref (ad 0)), (2, .int x2)] [.int s0] w := by
  unfold PX0_worst_63 at hw
  refine at_istore_n (L' := [(0, .ref (ad 0)), (1, .int s0), (2, .int x2)]) C dX0_worst_63 rfl (Nat.le_of_ble_eq_true rfl) rfl ?_
  refine at_iinc (F := fun z_ => [(0, .ref (ad 0)), (1, .int s0), (2, .int z_)]) C dX0_worst_64 rfl ic_1 (Nat.le_of_ble_eq_true rfl) (fun _ => rfl) (fun v2_1 e2_1 => ?_)
  have hw := hw v2_1 e2_1
  refine at_goto (tgt := 8) C dX0_worst_67 (by decide) ?_
  exact hK8 _ _ hw
set_option maxHeartbeats 4000000 in
theorem tX0_worst_53    {K8 : Int32 → Int32 → Prop} {Q : Int32 → GW → Prop} (C : Cx p s m args meth c D dA cX0_worst 4 (some .int) RX0)    {x1 : Int32} {x2 : Int32} {s0 : Int32} {w : GW} (hK8 : ∀ (x1 : Int32) (x2 : Int32), K8 x1 x2 → gAtX p l e s m args below meth c D dA ad 27 (va_Qi Q (gZ D dA 137 ad layX) (gA 137 ad)) 4 8 [(0, .ref (ad 0)), (1, .int x1), (2, .int x2)] [] w) (hw : PX0_worst_53 K8 Q x1 x2 s0 w) : gAtX p l e s m args below meth c D dA ad 27 (va_Qi Q (gZ D dA 137 ad layX) (gA 137 ad)) 4 53 [(0, .ref (ad 0)), (1, .int x1), (2, .int x2)] [.int s0] w := by
  unfold PX0_worst_53 at hw
  refine at_istore_n (L' := [(0, .ref (ad 0)), (1, .int x1), (2, .int x2), (3, .int s0)]) C dX0_worst_53 rfl (Nat.le_of_ble_eq_true rfl) rfl ?_
  refine at_iload_n C dX0_worst_54 rfl rfl ?_
  refine at_if_eq (tgt := 62) C dX0_worst_55 (by decide) (fun c_2 => ?_) (fun c_2 => ?_)
  · have hw := hw.1 c_2
    refine at_iload_n C dX0_worst_62 rfl rfl ?_
    exact at_sub (lv_pickm [0, 2] rfl) (tX0_worst_63 C hK8 hw)
  · have hw := hw.2 c_2
    refine at_iload_n C dX0_worst_58 rfl rfl ?_
    refine at_goto (tgt := 63) C dX0_worst_59 (by decide) ?_
    exact at_sub (lv_pickm [0, 2] rfl) (tX0_worst_63 C hK8 hw)
set_option maxHeartbeats 4000000 in
theorem tX0_worst_52    {K8 : Int32 → Int32 → Prop} {Q : Int32 → GW → Prop} (C : Cx p s m args meth c D dA cX0_worst 4 (some .int) RX0)    {x1 : Int32} {x2 : Int32} {w : GW} (hK8 : ∀ (x1 : Int32) (x2 : Int32), K8 x1 x2 → gAtX p l e s m args below meth c D dA ad 27 (va_Qi Q (gZ D dA 137 ad layX) (gA 137 ad)) 4 8 [(0, .ref (ad 0)), (1, .int x1), (2, .int x2)] [] w) (hw : PX0_worst_52 K8 Q x1 x2 w) : gAtX p l e s m args below meth c D dA ad 27 (va_Qi Q (gZ D dA 137 ad layX) (gA 137 ad)) 4 52 [(0, .ref (ad 0)), (1, .int x1), (2, .int x2)] [] w := by
  unfold PX0_worst_52 at hw
  refine at_iconst C dX0_worst_52 ic_0 ?_
  exact (tX0_worst_53 C hK8 hw)
set_option maxHeartbeats 4000000 in
theorem tX0_worst_48    {K8 : Int32 → Int32 → Prop} {Q : Int32 → GW → Prop} (C : Cx p s m args meth c D dA cX0_worst 4 (some .int) RX0)    {x1 : Int32} {x2 : Int32} {w : GW} (hK8 : ∀ (x1 : Int32) (x2 : Int32), K8 x1 x2 → gAtX p l e s m args below meth c D dA ad 27 (va_Qi Q (gZ D dA 137 ad layX) (gA 137 ad)) 4 8 [(0, .ref (ad 0)), (1, .int x1), (2, .int x2)] [] w) (hw : PX0_worst_48 K8 Q x1 x2 w) : gAtX p l e s m args below meth c D dA ad 27 (va_Qi Q (gZ D dA 137 ad layX) (gA 137 ad)) 4 48 [(0, .ref (ad 0)), (1, .int x1), (2, .int x2)] [] w := by
  unfold PX0_worst_48 at hw
  refine at_iconst C dX0_worst_48 ic_1 ?_
  refine at_goto (tgt := 53) C dX0_worst_49 (by decide) ?_
  exact (tX0_worst_53 C hK8 hw)
set_option maxHeartbeats 4000000 in
theorem tX0_worst_8     {Q : Int32 → GW → Prop} (C : Cx p s m args meth c D dA cX0_worst 4 (some .int) RX0)     {w : GW}  : ∀ (n : Nat) (x1 : Int32) (x2 : Int32), PX0_worst_8 Q w n x1 x2 → gAtX p l e s m args below meth c D dA ad 27 (va_Qi Q (gZ D dA 137 ad layX) (gA 137 ad)) 4 8 [(0, .ref (ad 0)), (1, .int x1), (2, .int x2)] [] w := by
  intro n
  induction n with
  | zero => intro x1 x2 hw; exact False.elim hw
  | succ n ih =>
    intro x1 x2 hw
    unfold PX0_worst_8 at hw
    refine at_iload_n C dX0_worst_8 rfl rfl ?_
    refine at_sipush C dX0_worst_9 sp_4300 ?_
    refine at_icmp_ge (tgt := 70) C dX0_worst_12 (by decide) (fun c_3 => ?_) (fun c_3 => ?_)
    · have hw := hw.1 c_3
      refine at_iload_n C dX0_worst_70 rfl rfl ?_
      exact at_iret C rfl hw dX0_worst_71
    · have hw := hw.2 c_3
      refine at_iload_n C dX0_worst_15 rfl rfl ?_
      refine at_callp (run_S (rest := []) (As := [.int x2]) C (metX0_isBall l D dA ad  hw) (lw_S q419 q420 q56 q421) dsX0_isBall (gR_ok (Nat.le_of_ble_eq_true rfl) (Nat.le_of_ble_eq_true rfl)) ⟨rfl, rfl⟩ ⟨(Nat.le_of_ble_eq_true rfl), (Nat.le_of_ble_eq_true rfl)⟩ rfl rfl (Nat.le_of_ble_eq_true rfl) dX0_worst_16) (fun r_4  hw => ?_)
      refine at_if_eq (tgt := 52) C dX0_worst_19 (by decide) (fun c_5 => ?_) (fun c_5 => ?_)
      · have hw := hw.1 c_5
        exact (tX0_worst_52 C ih hw)
      · have hw := hw.2 c_5
        refine at_iload_n C dX0_worst_22 rfl rfl ?_
        refine at_iconst C dX0_worst_23 ic_m1 ?_
        refine at_icmp_eq (tgt := 48) C dX0_worst_24 (by decide) (fun c_6 => ?_) (fun c_6 => ?_)
        · have hw := hw.1 c_6
          exact (tX0_worst_48 C ih hw)
        · have hw := hw.2 c_6
          refine at_aload_n C dX0_worst_27 rfl rfl ?_
          refine at_getr (j := 12) (r := 22) C (Nat.le_of_ble_eq_true rfl) rfl rfl in_X0 (Nat.le_of_ble_eq_true rfl) rfl q228 dX0_worst_28 ?_
          refine at_iload_n C dX0_worst_31 rfl rfl ?_
          refine at_iald C (Nat.le_of_ble_eq_true rfl) rfl hw.1 rfl dX0_worst_32 ?_
          have hw := hw.2
          refine at_callp (run_S (rest := []) (As := [.int (w 22 (x2).toNatClampNeg)]) C (metJ4_bitCount l D dA ad  hw) (lw_S q493 q494 q71 q495) dsJ4_bitCount (gR_ok (Nat.le_of_ble_eq_true rfl) (Nat.le_of_ble_eq_true rfl)) ⟨rfl, rfl⟩ ⟨(Nat.le_of_ble_eq_true rfl), (Nat.le_of_ble_eq_true rfl)⟩ rfl rfl (Nat.le_of_ble_eq_true rfl) dX0_worst_33) (fun r_7  hw => ?_)
          refine at_aload_n C dX0_worst_36 rfl rfl ?_
          refine at_getr (j := 12) (r := 22) C (Nat.le_of_ble_eq_true rfl) rfl rfl in_X0 (Nat.le_of_ble_eq_true rfl) rfl q228 dX0_worst_37 ?_
          refine at_iload_n C dX0_worst_40 rfl rfl ?_
          refine at_iald C (Nat.le_of_ble_eq_true rfl) rfl hw.1 rfl dX0_worst_41 ?_
          have hw := hw.2
          refine at_callp (run_S (rest := [.int r_7]) (As := [.int (w 22 (x1).toNatClampNeg)]) C (metJ4_bitCount l D dA ad  hw) (lw_S q493 q494 q71 q495) dsJ4_bitCount (gR_ok (Nat.le_of_ble_eq_true rfl) (Nat.le_of_ble_eq_true rfl)) ⟨rfl, rfl⟩ ⟨(Nat.le_of_ble_eq_true rfl), (Nat.le_of_ble_eq_true rfl)⟩ rfl rfl (Nat.le_of_ble_eq_true rfl) dX0_worst_42) (fun r_8  hw => ?_)
          refine at_icmp_le (tgt := 52) C dX0_worst_45 (by decide) (fun c_9 => ?_) (fun c_9 => ?_)
          · have hw := hw.1 c_9
            exact (tX0_worst_52 C ih hw)
          · have hw := hw.2 c_9
            exact (tX0_worst_48 C ih hw)
set_option maxHeartbeats 4000000 in
theorem metX0_worst   (l : Launch) (D : va_G) (dA : Nat → ClassId) (ad : Nat → Nat)     {w : GW} {Q : Int32 → GW → Prop} (hw : PX0_worst w Q) : Met l yX0_worst (ws_ yX0_worst cX0_worst 4 (some .int)) (gR 27) (va_Pc [.ref (ad 0)] (gB D dA 137 ad layX w)) (va_Qi Q (gZ D dA 137 ad layX) (gA 137 ad)) 0 0 (gA 137 ad) := by
  refine gm_of (L := [(0, .ref (ad 0))]) (own := RX0) (by decide +kernel) rfl (Nat.le_of_ble_eq_true rfl) rfl rfl (fun p e s m below meth c C => ?_)
  unfold PX0_worst at hw
  refine at_aload_n C dX0_worst_0 rfl rfl ?_
  refine at_callv (run_V (rest := []) (As := []) C (metX0_layFells l D dA ad  hw) (lw_V q415 q417 qs9 q56 q418) dsX0_layFells (gR_ok (Nat.le_of_ble_eq_true rfl) (Nat.le_of_ble_eq_true rfl)) ⟨rfl, rfl⟩ ⟨(Nat.le_of_ble_eq_true rfl), (Nat.le_of_ble_eq_true rfl)⟩ (Nat.le_of_ble_eq_true rfl) rfl rfl rfl rfl (Nat.le_of_ble_eq_true rfl) dX0_worst_1) (fun  w_11 hw => ?_)
  refine at_iconst C dX0_worst_4 ic_m1 ?_
  refine at_istore_n (L' := [(0, .ref (ad 0)), (1, .int (-1))]) C dX0_worst_5 rfl (Nat.le_of_ble_eq_true rfl) rfl ?_
  refine at_iconst C dX0_worst_6 ic_0 ?_
  refine at_istore_n (L' := [(0, .ref (ad 0)), (1, .int (-1)), (2, .int 0)]) C dX0_worst_7 rfl (Nat.le_of_ble_eq_true rfl) rfl ?_
  obtain ⟨n_12, hw⟩ := hw
  exact (tX0_worst_8 C  _ _ _ hw)
set_option maxHeartbeats 4000000 in
theorem tX0_ballsThatFell_66    {K4 : Int32 → Int32 → Prop} {Q : Int32 → Prop} (C : Cx p s m args meth c D dA cX0_ballsThatFell 5 (some .int) RX0)    {x1 : Int32} {x3 : Int32} {s0 : Int32} {s1 : Int32} {w : GW} (hK4 : ∀ (x2 : Int32) (x3 : Int32), K4 x2 x3 → gAtX p l e s m args below meth c D dA ad 3 (va_Qi (gQ1 Q w) (gZ D dA 137 ad layX) (gA 137 ad)) 5 4 [(0, .ref (ad 0)), (1, .int x1), (2, .int x2), (3, .int x3)] [] w) (hw : PX0_ballsThatFell_66 K4 Q x1 x3 s0 s1 w) : gAtX p l e s m args below meth c D dA ad 3 (va_Qi (gQ1 Q w) (gZ D dA 137 ad layX) (gA 137 ad)) 5 66 [(0, .ref (ad 0)), (1, .int x1), (3, .int x3)] [.int s1, .int s0] w := by
  unfold PX0_ballsThatFell_66 at hw
  refine at_iadd C dX0_ballsThatFell_66 ?_
  refine at_topi (fun v2_1 e2_1 => ?_)
  have hw := hw v2_1 e2_1
  refine at_istore_n (L' := [(0, .ref (ad 0)), (1, .int x1), (2, .int v2_1), (3, .int x3)]) C dX0_ballsThatFell_67 rfl (Nat.le_of_ble_eq_true rfl) rfl ?_
  refine at_iinc (F := fun z_ => [(0, .ref (ad 0)), (1, .int x1), (2, .int v2_1), (3, .int z_)]) C dX0_ballsThatFell_68 rfl ic_1 (Nat.le_of_ble_eq_true rfl) (fun _ => rfl) (fun v3_2 e3_2 => ?_)
  have hw := hw v3_2 e3_2
  refine at_goto (tgt := 4) C dX0_ballsThatFell_71 (by decide) ?_
  exact hK4 _ _ hw
set_option maxHeartbeats 4000000 in
theorem tX0_ballsThatFell_53    {K4 : Int32 → Int32 → Prop} {Q : Int32 → Prop} (C : Cx p s m args meth c D dA cX0_ballsThatFell 5 (some .int) RX0)    {x1 : Int32} {x2 : Int32} {x3 : Int32} {s0 : Int32} {w : GW} (hK4 : ∀ (x2 : Int32) (x3 : Int32), K4 x2 x3 → gAtX p l e s m args below meth c D dA ad 3 (va_Qi (gQ1 Q w) (gZ D dA 137 ad layX) (gA 137 ad)) 5 4 [(0, .ref (ad 0)), (1, .int x1), (2, .int x2), (3, .int x3)] [] w) (hw : PX0_ballsThatFell_53 K4 Q x1 x2 x3 s0 w) : gAtX p l e s m args below meth c D dA ad 3 (va_Qi (gQ1 Q w) (gZ D dA 137 ad layX) (gA 137 ad)) 5 53 [(0, .ref (ad 0)), (1, .int x1), (2, .int x2), (3, .int x3)] [.int s0] w := by
  unfold PX0_ballsThatFell_53 at hw
  refine at_istore (L' := [(0, .ref (ad 0)), (1, .int x1), (2, .int x2), (3, .int x3), (4, .int s0)]) C dX0_ballsThatFell_53 (Nat.le_of_ble_eq_true rfl) rfl ?_
  refine at_iload_n C dX0_ballsThatFell_55 rfl rfl ?_
  refine at_iload C dX0_ballsThatFell_56 rfl ?_
  refine at_if_eq (tgt := 65) C dX0_ballsThatFell_58 (by decide) (fun c_3 => ?_) (fun c_3 => ?_)
  · have hw := hw.1 c_3
    refine at_iconst C dX0_ballsThatFell_65 ic_0 ?_
    exact at_sub (lv_pickm [0, 1, 3] rfl) (tX0_ballsThatFell_66 C hK4 hw)
  · have hw := hw.2 c_3
    refine at_iconst C dX0_ballsThatFell_61 ic_1 ?_
    refine at_goto (tgt := 66) C dX0_ballsThatFell_62 (by decide) ?_
    exact at_sub (lv_pickm [0, 1, 3] rfl) (tX0_ballsThatFell_66 C hK4 hw)
set_option maxHeartbeats 4000000 in
theorem tX0_ballsThatFell_52    {K4 : Int32 → Int32 → Prop} {Q : Int32 → Prop} (C : Cx p s m args meth c D dA cX0_ballsThatFell 5 (some .int) RX0)    {x1 : Int32} {x2 : Int32} {x3 : Int32} {w : GW} (hK4 : ∀ (x2 : Int32) (x3 : Int32), K4 x2 x3 → gAtX p l e s m args below meth c D dA ad 3 (va_Qi (gQ1 Q w) (gZ D dA 137 ad layX) (gA 137 ad)) 5 4 [(0, .ref (ad 0)), (1, .int x1), (2, .int x2), (3, .int x3)] [] w) (hw : PX0_ballsThatFell_52 K4 Q x1 x2 x3 w) : gAtX p l e s m args below meth c D dA ad 3 (va_Qi (gQ1 Q w) (gZ D dA 137 ad layX) (gA 137 ad)) 5 52 [(0, .ref (ad 0)), (1, .int x1), (2, .int x2), (3, .int x3)] [] w := by
  unfold PX0_ballsThatFell_52 at hw
  refine at_iconst C dX0_ballsThatFell_52 ic_0 ?_
  exact (tX0_ballsThatFell_53 C hK4 hw)
set_option maxHeartbeats 4000000 in
theorem tX0_ballsThatFell_48    {K4 : Int32 → Int32 → Prop} {Q : Int32 → Prop} (C : Cx p s m args meth c D dA cX0_ballsThatFell 5 (some .int) RX0)    {x1 : Int32} {x2 : Int32} {x3 : Int32} {w : GW} (hK4 : ∀ (x2 : Int32) (x3 : Int32), K4 x2 x3 → gAtX p l e s m args below meth c D dA ad 3 (va_Qi (gQ1 Q w) (gZ D dA 137 ad layX) (gA 137 ad)) 5 4 [(0, .ref (ad 0)), (1, .int x1), (2, .int x2), (3, .int x3)] [] w) (hw : PX0_ballsThatFell_48 K4 Q x1 x2 x3 w) : gAtX p l e s m args below meth c D dA ad 3 (va_Qi (gQ1 Q w) (gZ D dA 137 ad layX) (gA 137 ad)) 5 48 [(0, .ref (ad 0)), (1, .int x1), (2, .int x2), (3, .int x3)] [] w := by
  unfold PX0_ballsThatFell_48 at hw
  refine at_iconst C dX0_ballsThatFell_48 ic_1 ?_
  refine at_goto (tgt := 53) C dX0_ballsThatFell_49 (by decide) ?_
  exact (tX0_ballsThatFell_53 C hK4 hw)
set_option maxHeartbeats 4000000 in
theorem tX0_ballsThatFell_4     {Q : Int32 → Prop} (C : Cx p s m args meth c D dA cX0_ballsThatFell 5 (some .int) RX0)    {x1 : Int32} {w : GW}  : ∀ (n : Nat) (x2 : Int32) (x3 : Int32), PX0_ballsThatFell_4 Q x1 w n x2 x3 → gAtX p l e s m args below meth c D dA ad 3 (va_Qi (gQ1 Q w) (gZ D dA 137 ad layX) (gA 137 ad)) 5 4 [(0, .ref (ad 0)), (1, .int x1), (2, .int x2), (3, .int x3)] [] w := by
  intro n
  induction n with
  | zero => intro x2 x3 hw; exact False.elim hw
  | succ n ih =>
    intro x2 x3 hw
    unfold PX0_ballsThatFell_4 at hw
    refine at_iload_n C dX0_ballsThatFell_4 rfl rfl ?_
    refine at_sipush C dX0_ballsThatFell_5 sp_4300 ?_
    refine at_icmp_ge (tgt := 74) C dX0_ballsThatFell_8 (by decide) (fun c_4 => ?_) (fun c_4 => ?_)
    · have hw := hw.1 c_4
      refine at_iload_n C dX0_ballsThatFell_74 rfl rfl ?_
      exact at_iret C rfl ⟨hw, rfl⟩ dX0_ballsThatFell_75
    · have hw := hw.2 c_4
      refine at_iload_n C dX0_ballsThatFell_11 rfl rfl ?_
      refine at_callp (run_S (rest := []) (As := [.int x3]) C (metX0_isBall l D dA ad  hw) (lw_S q419 q420 q56 q421) dsX0_isBall (gR_ok (Nat.le_of_ble_eq_true rfl) (Nat.le_of_ble_eq_true rfl)) ⟨rfl, rfl⟩ ⟨(Nat.le_of_ble_eq_true rfl), (Nat.le_of_ble_eq_true rfl)⟩ rfl rfl (Nat.le_of_ble_eq_true rfl) dX0_ballsThatFell_12) (fun r_5  hw => ?_)
      refine at_if_eq (tgt := 52) C dX0_ballsThatFell_15 (by decide) (fun c_6 => ?_) (fun c_6 => ?_)
      · have hw := hw.1 c_6
        exact (tX0_ballsThatFell_52 C ih hw)
      · have hw := hw.2 c_6
        refine at_iload_n C dX0_ballsThatFell_18 rfl rfl ?_
        refine at_iconst C dX0_ballsThatFell_19 ic_m1 ?_
        refine at_icmp_ne (tgt := 35) C dX0_ballsThatFell_20 (by decide) (fun c_7 => ?_) (fun c_7 => ?_)
        · have hw := hw.1 c_7
          refine at_aload_n C dX0_ballsThatFell_35 rfl rfl ?_
          refine at_getr (j := 12) (r := 22) C (Nat.le_of_ble_eq_true rfl) rfl rfl in_X0 (Nat.le_of_ble_eq_true rfl) rfl q228 dX0_ballsThatFell_36 ?_
          refine at_iload_n C dX0_ballsThatFell_39 rfl rfl ?_
          refine at_iald C (Nat.le_of_ble_eq_true rfl) rfl hw.1 rfl dX0_ballsThatFell_40 ?_
          have hw := hw.2
          refine at_iload_n C dX0_ballsThatFell_41 rfl rfl ?_
          refine at_callp (run_S (rest := []) (As := [.int (w 22 (x3).toNatClampNeg), .int x1]) C (metX0_has l D dA ad  hw) (lw_S q504 q456 q56 q457) dsX0_has (gR_ok (Nat.le_of_ble_eq_true rfl) (Nat.le_of_ble_eq_true rfl)) ⟨rfl, rfl⟩ ⟨(Nat.le_of_ble_eq_true rfl), (Nat.le_of_ble_eq_true rfl)⟩ rfl rfl (Nat.le_of_ble_eq_true rfl) dX0_ballsThatFell_42) (fun r_8  hw => ?_)
          refine at_if_eq (tgt := 52) C dX0_ballsThatFell_45 (by decide) (fun c_9 => ?_) (fun c_9 => ?_)
          · have hw := hw.1 c_9
            exact (tX0_ballsThatFell_52 C ih hw)
          · have hw := hw.2 c_9
            exact (tX0_ballsThatFell_48 C ih hw)
        · have hw := hw.2 c_7
          refine at_aload_n C dX0_ballsThatFell_23 rfl rfl ?_
          refine at_getr (j := 12) (r := 22) C (Nat.le_of_ble_eq_true rfl) rfl rfl in_X0 (Nat.le_of_ble_eq_true rfl) rfl q228 dX0_ballsThatFell_24 ?_
          refine at_iload_n C dX0_ballsThatFell_27 rfl rfl ?_
          refine at_iald C (Nat.le_of_ble_eq_true rfl) rfl hw.1 rfl dX0_ballsThatFell_28 ?_
          have hw := hw.2
          refine at_if_ne (tgt := 52) C dX0_ballsThatFell_29 (by decide) (fun c_10 => ?_) (fun c_10 => ?_)
          · have hw := hw.1 c_10
            exact (tX0_ballsThatFell_52 C ih hw)
          · have hw := hw.2 c_10
            refine at_goto (tgt := 48) C dX0_ballsThatFell_32 (by decide) ?_
            exact (tX0_ballsThatFell_48 C ih hw)
set_option maxHeartbeats 4000000 in
theorem metX0_ballsThatFell   (l : Launch) (D : va_G) (dA : Nat → ClassId) (ad : Nat → Nat)    {x1 : Int32} {w : GW} {Q : Int32 → Prop} (hw : PX0_ballsThatFell x1 w Q) : Met l yX0_ballsThatFell (ws_ yX0_ballsThatFell cX0_ballsThatFell 5 (some .int)) (gR 3) (va_Pc [.ref (ad 0), .int x1] (gB D dA 137 ad layX w)) (va_Qi (gQ1 Q w) (gZ D dA 137 ad layX) (gA 137 ad)) 0 0 (gA 137 ad) := by
  refine gm_of (L := [(0, .ref (ad 0)), (1, .int x1)]) (own := RX0) (by decide +kernel) rfl (Nat.le_of_ble_eq_true rfl) rfl rfl (fun p e s m below meth c C => ?_)
  unfold PX0_ballsThatFell at hw
  refine at_iconst C dX0_ballsThatFell_0 ic_0 ?_
  refine at_istore_n (L' := [(0, .ref (ad 0)), (1, .int x1), (2, .int 0)]) C dX0_ballsThatFell_1 rfl (Nat.le_of_ble_eq_true rfl) rfl ?_
  refine at_iconst C dX0_ballsThatFell_2 ic_0 ?_
  refine at_istore_n (L' := [(0, .ref (ad 0)), (1, .int x1), (2, .int 0), (3, .int 0)]) C dX0_ballsThatFell_3 rfl (Nat.le_of_ble_eq_true rfl) rfl ?_
  obtain ⟨n_11, hw⟩ := hw
  exact (tX0_ballsThatFell_4 C  _ _ _ hw)
set_option maxHeartbeats 4000000 in
theorem tX0_safest_59    {K11 : Int32 → Int32 → Int32 → Prop} {Q : Int32 → GW → Prop} (C : Cx p s m args meth c D dA cX0_safest 5 (some .int) RX0)    {x2 : Int32} {x3 : Int32} {x4 : Int32} {s0 : Int32} {w : GW} (hK11 : ∀ (x1 : Int32) (x2 : Int32) (x3 : Int32), K11 x1 x2 x3 → gAtX p l e s m args below meth c D dA ad 27 (va_Qi Q (gZ D dA 137 ad layX) (gA 137 ad)) 5 11 [(0, .ref (ad 0)), (1, .int x1), (2, .int x2), (3, .int x3)] [] w) (hw : PX0_safest_59 K11 Q x2 x3 x4 s0 w) : gAtX p l e s m args below meth c D dA ad 27 (va_Qi Q (gZ D dA 137 ad layX) (gA 137 ad)) 5 59 [(0, .ref (ad 0)), (2, .int x2), (3, .int x3), (4, .int x4)] [.int s0] w := by
  unfold PX0_safest_59 at hw
  refine at_istore_n (L' := [(0, .ref (ad 0)), (1, .int s0), (2, .int x2), (3, .int x3), (4, .int x4)]) C dX0_safest_59 rfl (Nat.le_of_ble_eq_true rfl) rfl ?_
  refine at_iload_n C dX0_safest_60 rfl rfl ?_
  refine at_iload C dX0_safest_61 rfl ?_
  refine at_mmin C q509 q389 q70 q390 (Nat.le_of_ble_eq_true rfl) (Nat.le_of_ble_eq_true rfl) (Nat.le_of_ble_eq_true rfl) (Nat.le_of_ble_eq_true rfl) (Nat.le_of_ble_eq_true rfl) dX0_safest_63 ?_
  refine at_topi (fun v2_1 e2_1 => ?_)
  have hw := hw v2_1 e2_1
  refine at_istore_n (L' := [(0, .ref (ad 0)), (1, .int s0), (2, .int v2_1), (3, .int x3), (4, .int x4)]) C dX0_safest_66 rfl (Nat.le_of_ble_eq_true rfl) rfl ?_
  refine at_iinc (F := fun z_ => [(0, .ref (ad 0)), (1, .int s0), (2, .int v2_1), (3, .int z_), (4, .int x4)]) C dX0_safest_67 rfl ic_1 (Nat.le_of_ble_eq_true rfl) (fun _ => rfl) (fun v3_2 e3_2 => ?_)
  have hw := hw v3_2 e3_2
  refine at_goto (tgt := 11) C dX0_safest_70 (by decide) ?_
  exact at_sub (lv_pickm [0, 1, 2, 3] rfl) (hK11 _ _ _ hw)
set_option maxHeartbeats 4000000 in
theorem tX0_safest_46    {K11 : Int32 → Int32 → Int32 → Prop} {Q : Int32 → GW → Prop} (C : Cx p s m args meth c D dA cX0_safest 5 (some .int) RX0)    {x1 : Int32} {x2 : Int32} {x3 : Int32} {s0 : Int32} {w : GW} (hK11 : ∀ (x1 : Int32) (x2 : Int32) (x3 : Int32), K11 x1 x2 x3 → gAtX p l e s m args below meth c D dA ad 27 (va_Qi Q (gZ D dA 137 ad layX) (gA 137 ad)) 5 11 [(0, .ref (ad 0)), (1, .int x1), (2, .int x2), (3, .int x3)] [] w) (hw : PX0_safest_46 K11 Q x1 x2 x3 s0 w) : gAtX p l e s m args below meth c D dA ad 27 (va_Qi Q (gZ D dA 137 ad layX) (gA 137 ad)) 5 46 [(0, .ref (ad 0)), (1, .int x1), (2, .int x2), (3, .int x3)] [.int s0] w := by
  unfold PX0_safest_46 at hw
  refine at_istore (L' := [(0, .ref (ad 0)), (1, .int x1), (2, .int x2), (3, .int x3), (4, .int s0)]) C dX0_safest_46 (Nat.le_of_ble_eq_true rfl) rfl ?_
  refine at_iload C dX0_safest_48 rfl ?_
  refine at_iload_n C dX0_safest_50 rfl rfl ?_
  refine at_icmp_ge (tgt := 58) C dX0_safest_51 (by decide) (fun c_3 => ?_) (fun c_3 => ?_)
  · have hw := hw.1 c_3
    refine at_iload_n C dX0_safest_58 rfl rfl ?_
    exact at_sub (lv_pickm [0, 2, 3, 4] rfl) (tX0_safest_59 C hK11 hw)
  · have hw := hw.2 c_3
    refine at_iload_n C dX0_safest_54 rfl rfl ?_
    refine at_goto (tgt := 59) C dX0_safest_55 (by decide) ?_
    exact at_sub (lv_pickm [0, 2, 3, 4] rfl) (tX0_safest_59 C hK11 hw)
set_option maxHeartbeats 4000000 in
theorem tX0_safest_11     {Q : Int32 → GW → Prop} (C : Cx p s m args meth c D dA cX0_safest 5 (some .int) RX0)     {w : GW}  : ∀ (n : Nat) (x1 : Int32) (x2 : Int32) (x3 : Int32), PX0_safest_11 Q w n x1 x2 x3 → gAtX p l e s m args below meth c D dA ad 27 (va_Qi Q (gZ D dA 137 ad layX) (gA 137 ad)) 5 11 [(0, .ref (ad 0)), (1, .int x1), (2, .int x2), (3, .int x3)] [] w := by
  intro n
  induction n with
  | zero => intro x1 x2 x3 hw; exact False.elim hw
  | succ n ih =>
    intro x1 x2 x3 hw
    unfold PX0_safest_11 at hw
    refine at_iload_n C dX0_safest_11 rfl rfl ?_
    refine at_aload_n C dX0_safest_12 rfl rfl ?_
    refine at_getr (j := 1) (r := 2) C (Nat.le_of_ble_eq_true rfl) rfl rfl in_X0 (Nat.le_of_ble_eq_true rfl) rfl q217 dX0_safest_13 ?_
    refine at_getiN (j := 4) C (Nat.le_of_ble_eq_true rfl) rfl rfl in_X1 (Nat.le_of_ble_eq_true rfl) rfl q104 dX0_safest_16 ?_
    refine at_icmp_ge (tgt := 73) C dX0_safest_19 (by decide) (fun c_4 => ?_) (fun c_4 => ?_)
    · have hw := hw.1 c_4
      refine at_iload_n C dX0_safest_73 rfl rfl ?_
      exact at_iret C rfl hw dX0_safest_74
    · have hw := hw.2 c_4
      refine at_aload_n C dX0_safest_22 rfl rfl ?_
      refine at_getr (j := 2) (r := 6) C (Nat.le_of_ble_eq_true rfl) rfl rfl in_X0 (Nat.le_of_ble_eq_true rfl) rfl q218 dX0_safest_23 ?_
      refine at_getiN (j := 5) C (gSt_k0 gSt_now) (layX_0 gSt_now) rfl in_X2 (Nat.le_of_ble_eq_true rfl) rfl q134 dX0_safest_26 ?_
      refine at_iload_n C dX0_safest_29 rfl rfl ?_
      refine at_callp (run_S (rest := []) (As := [.int (w 6 5), .int x3]) C (metX0_has l D dA ad  hw) (lw_S q504 q456 q56 q457) dsX0_has (gR_ok (Nat.le_of_ble_eq_true rfl) (Nat.le_of_ble_eq_true rfl)) ⟨rfl, rfl⟩ ⟨(Nat.le_of_ble_eq_true rfl), (Nat.le_of_ble_eq_true rfl)⟩ rfl rfl (Nat.le_of_ble_eq_true rfl) dX0_safest_30) (fun r_5  hw => ?_)
      refine at_if_eq (tgt := 44) C dX0_safest_33 (by decide) (fun c_6 => ?_) (fun c_6 => ?_)
      · have hw := hw.1 c_6
        refine at_ldc C q503 dX0_safest_44 ?_
        exact (tX0_safest_46 C ih hw)
      · have hw := hw.2 c_6
        refine at_aload_n C dX0_safest_36 rfl rfl ?_
        refine at_iload_n C dX0_safest_37 rfl rfl ?_
        refine at_callp (run_V (rest := []) (As := [.int x3]) C (metX0_ballsThatFell l D dA ad  hw) (lw_V q505 q507 qs15 q56 q508) dsX0_ballsThatFell (gR_ok (Nat.le_of_ble_eq_true rfl) (Nat.le_of_ble_eq_true rfl)) ⟨rfl, rfl⟩ ⟨(Nat.le_of_ble_eq_true rfl), (Nat.le_of_ble_eq_true rfl)⟩ (Nat.le_of_ble_eq_true rfl) rfl rfl rfl rfl (Nat.le_of_ble_eq_true rfl) dX0_safest_38) (fun r_7  hw => ?_)
        refine at_goto (tgt := 46) C dX0_safest_41 (by decide) ?_
        exact (tX0_safest_46 C ih hw)
set_option maxHeartbeats 4000000 in
theorem metX0_safest   (l : Launch) (D : va_G) (dA : Nat → ClassId) (ad : Nat → Nat)     {w : GW} {Q : Int32 → GW → Prop} (hw : PX0_safest w Q) : Met l yX0_safest (ws_ yX0_safest cX0_safest 5 (some .int)) (gR 27) (va_Pc [.ref (ad 0)] (gB D dA 137 ad layX w)) (va_Qi Q (gZ D dA 137 ad layX) (gA 137 ad)) 0 0 (gA 137 ad) := by
  refine gm_of (L := [(0, .ref (ad 0))]) (own := RX0) (by decide +kernel) rfl (Nat.le_of_ble_eq_true rfl) rfl rfl (fun p e s m below meth c C => ?_)
  unfold PX0_safest at hw
  refine at_aload_n C dX0_safest_0 rfl rfl ?_
  refine at_callv (run_V (rest := []) (As := []) C (metX0_layFells l D dA ad  hw) (lw_V q415 q417 qs9 q56 q418) dsX0_layFells (gR_ok (Nat.le_of_ble_eq_true rfl) (Nat.le_of_ble_eq_true rfl)) ⟨rfl, rfl⟩ ⟨(Nat.le_of_ble_eq_true rfl), (Nat.le_of_ble_eq_true rfl)⟩ (Nat.le_of_ble_eq_true rfl) rfl rfl rfl rfl (Nat.le_of_ble_eq_true rfl) dX0_safest_1) (fun  w_9 hw => ?_)
  refine at_iconst C dX0_safest_4 ic_m1 ?_
  refine at_istore_n (L' := [(0, .ref (ad 0)), (1, .int (-1))]) C dX0_safest_5 rfl (Nat.le_of_ble_eq_true rfl) rfl ?_
  refine at_ldc C q503 dX0_safest_6 ?_
  refine at_istore_n (L' := [(0, .ref (ad 0)), (1, .int (-1)), (2, .int 99999999)]) C dX0_safest_8 rfl (Nat.le_of_ble_eq_true rfl) rfl ?_
  refine at_iconst C dX0_safest_9 ic_0 ?_
  refine at_istore_n (L' := [(0, .ref (ad 0)), (1, .int (-1)), (2, .int 99999999), (3, .int 0)]) C dX0_safest_10 rfl (Nat.le_of_ble_eq_true rfl) rfl ?_
  obtain ⟨n_10, hw⟩ := hw
  exact (tX0_safest_11 C  _ _ _ _ hw)
set_option maxHeartbeats 4000000 in
theorem tX0_toldOfBalls_26     {Q : Int32 → GW → Prop} (C : Cx p s m args meth c D dA cX0_toldOfBalls 3 (some .int) RX0)    {x1 : Int32} {s0 : Int32} {w : GW}  (hw : PX0_toldOfBalls_26 Q x1 s0 w) : gAtX p l e s m args below meth c D dA ad 28 (va_Qi Q (gZ D dA 137 ad layX) (gA 137 ad)) 3 26 [(0, .ref (ad 0)), (1, .int x1)] [.int s0] w := by
  unfold PX0_toldOfBalls_26 at hw
  refine at_istore_n (L' := [(0, .ref (ad 0)), (1, .int x1), (2, .int s0)]) C dX0_toldOfBalls_26 rfl (Nat.le_of_ble_eq_true rfl) rfl ?_
  refine at_iload_n C dX0_toldOfBalls_27 rfl rfl ?_
  by_cases c_1_6 : x1 = 6
  · have hw := hw.1 c_1_6
    refine at_tin (tgt := 60) (v := 6) C dX0_toldOfBalls_28 c_1_6 (by decide) (by decide) rfl (by decide) ?_
    refine at_iload_n C dX0_toldOfBalls_60 rfl rfl ?_
    exact at_iret C rfl hw dX0_toldOfBalls_61
  · have hw := hw.2 c_1_6
    by_cases c_1_7 : x1 = 7
    · have hw := hw.1 c_1_7
      refine at_tin (tgt := 62) (v := 7) C dX0_toldOfBalls_28 c_1_7 (by decide) (by decide) rfl (by decide) ?_
      refine at_aload_n C dX0_toldOfBalls_62 rfl rfl ?_
      refine at_getr (j := 12) (r := 22) C (Nat.le_of_ble_eq_true rfl) rfl rfl in_X0 (Nat.le_of_ble_eq_true rfl) rfl q228 dX0_toldOfBalls_63 ?_
      refine at_iload_n C dX0_toldOfBalls_66 rfl rfl ?_
      refine at_iald C (Nat.le_of_ble_eq_true rfl) rfl hw.1 rfl dX0_toldOfBalls_67 ?_
      have hw := hw.2
      refine at_callp (run_S (rest := []) (As := [.int (w 22 (s0).toNatClampNeg)]) C (metJ4_bitCount l D dA ad  hw) (lw_S q493 q494 q71 q495) dsJ4_bitCount (gR_ok (Nat.le_of_ble_eq_true rfl) (Nat.le_of_ble_eq_true rfl)) ⟨rfl, rfl⟩ ⟨(Nat.le_of_ble_eq_true rfl), (Nat.le_of_ble_eq_true rfl)⟩ rfl rfl (Nat.le_of_ble_eq_true rfl) dX0_toldOfBalls_68) (fun r_2  hw => ?_)
      exact at_iret C rfl hw dX0_toldOfBalls_71
    · have hw := hw.2 c_1_7
      by_cases c_1_8 : x1 = 8
      · have hw := hw.1 c_1_8
        refine at_tin (tgt := 60) (v := 8) C dX0_toldOfBalls_28 c_1_8 (by decide) (by decide) rfl (by decide) ?_
        refine at_iload_n C dX0_toldOfBalls_60 rfl rfl ?_
        exact at_iret C rfl hw dX0_toldOfBalls_61
      · have hw := hw.2 c_1_8
        by_cases c_1_9 : x1 = 9
        · have hw := hw.1 c_1_9
          refine at_tin (tgt := 72) (v := 9) C dX0_toldOfBalls_28 c_1_9 (by decide) (by decide) rfl (by decide) ?_
          refine at_iload_n C dX0_toldOfBalls_72 rfl rfl ?_
          refine at_iconst C dX0_toldOfBalls_73 ic_m1 ?_
          refine at_icmp_ne (tgt := 81) C dX0_toldOfBalls_74 (by decide) (fun c_3 => ?_) (fun c_3 => ?_)
          · have hw := hw.1 c_3
            refine at_aload_n C dX0_toldOfBalls_81 rfl rfl ?_
            refine at_iload_n C dX0_toldOfBalls_82 rfl rfl ?_
            refine at_callp (run_V (rest := []) (As := [.int s0]) C (metX0_ballsThatFell l D dA ad  hw) (lw_V q505 q507 qs15 q56 q508) dsX0_ballsThatFell (gR_ok (Nat.le_of_ble_eq_true rfl) (Nat.le_of_ble_eq_true rfl)) ⟨rfl, rfl⟩ ⟨(Nat.le_of_ble_eq_true rfl), (Nat.le_of_ble_eq_true rfl)⟩ (Nat.le_of_ble_eq_true rfl) rfl rfl rfl rfl (Nat.le_of_ble_eq_true rfl) dX0_toldOfBalls_83) (fun r_4  hw => ?_)
            exact at_iret C rfl hw dX0_toldOfBalls_86
          · have hw := hw.2 c_3
            refine at_iconst C dX0_toldOfBalls_77 ic_m1 ?_
            refine at_goto (tgt := 86) C dX0_toldOfBalls_78 (by decide) ?_
            exact at_iret C rfl hw dX0_toldOfBalls_86
        · have hw := hw.2 c_1_9
          refine at_tout (tgt := 87) C dX0_toldOfBalls_28 (by have h6 := lv_neT (a := 6) c_1_6 (by decide); have h7 := lv_neT (a := 7) c_1_7 (by decide); have h8 := lv_neT (a := 8) c_1_8 (by decide); have h9 := lv_neT (a := 9) c_1_9 (by decide); omega) (by decide) ?_
          refine at_aload_n C dX0_toldOfBalls_87 rfl rfl ?_
          refine at_iconst C dX0_toldOfBalls_88 ic_m1 ?_
          refine at_callp (run_V (rest := []) (As := [.int (-1)]) C (metX0_ballsThatFell l D dA ad  hw) (lw_V q505 q507 qs15 q56 q508) dsX0_ballsThatFell (gR_ok (Nat.le_of_ble_eq_true rfl) (Nat.le_of_ble_eq_true rfl)) ⟨rfl, rfl⟩ ⟨(Nat.le_of_ble_eq_true rfl), (Nat.le_of_ble_eq_true rfl)⟩ (Nat.le_of_ble_eq_true rfl) rfl rfl rfl rfl (Nat.le_of_ble_eq_true rfl) dX0_toldOfBalls_89) (fun r_5  hw => ?_)
          exact at_iret C rfl hw dX0_toldOfBalls_92
set_option maxHeartbeats 4000000 in
theorem metX0_toldOfBalls   (l : Launch) (D : va_G) (dA : Nat → ClassId) (ad : Nat → Nat)    {x1 : Int32} {w : GW} {Q : Int32 → GW → Prop} (hw : PX0_toldOfBalls x1 w Q) : Met l yX0_toldOfBalls (ws_ yX0_toldOfBalls cX0_toldOfBalls 3 (some .int)) (gR 28) (va_Pc [.ref (ad 0), .int x1] (gB D dA 137 ad layX w)) (va_Qi Q (gZ D dA 137 ad layX) (gA 137 ad)) 0 0 (gA 137 ad) := by
  refine gm_of (L := [(0, .ref (ad 0)), (1, .int x1)]) (own := RX0) (by decide +kernel) rfl (Nat.le_of_ble_eq_true rfl) rfl rfl (fun p e s m below meth c C => ?_)
  unfold PX0_toldOfBalls at hw
  refine at_aload_n C dX0_toldOfBalls_0 rfl rfl ?_
  refine at_callp (run_V (rest := []) (As := []) C (metX0_isCounty l D dA ad  hw) (lw_V q407 q409 qs7 q56 q410) dsX0_isCounty (gR_ok (Nat.le_of_ble_eq_true rfl) (Nat.le_of_ble_eq_true rfl)) ⟨rfl, rfl⟩ ⟨(Nat.le_of_ble_eq_true rfl), (Nat.le_of_ble_eq_true rfl)⟩ (Nat.le_of_ble_eq_true rfl) rfl rfl rfl rfl (Nat.le_of_ble_eq_true rfl) dX0_toldOfBalls_1) (fun r_6  hw => ?_)
  refine at_if_ne (tgt := 9) C dX0_toldOfBalls_4 (by decide) (fun c_7 => ?_) (fun c_7 => ?_)
  · have hw := hw.1 c_7
    refine at_iload_n C dX0_toldOfBalls_9 rfl rfl ?_
    refine at_bipush C dX0_toldOfBalls_10 bp_8 ?_
    refine at_icmp_ge (tgt := 22) C dX0_toldOfBalls_12 (by decide) (fun c_8 => ?_) (fun c_8 => ?_)
    · have hw := hw.1 c_8
      refine at_aload_n C dX0_toldOfBalls_22 rfl rfl ?_
      refine at_calli (run_V (rest := []) (As := []) C (metX0_safest l D dA ad  hw) (lw_V q499 q501 qs14 q56 q502) dsX0_safest (gR_ok (Nat.le_of_ble_eq_true rfl) (Nat.le_of_ble_eq_true rfl)) ⟨rfl, rfl⟩ ⟨(Nat.le_of_ble_eq_true rfl), (Nat.le_of_ble_eq_true rfl)⟩ (Nat.le_of_ble_eq_true rfl) rfl rfl rfl rfl (Nat.le_of_ble_eq_true rfl) dX0_toldOfBalls_23) (fun r_9 w_10 hw => ?_)
      exact (tX0_toldOfBalls_26 C  hw)
    · have hw := hw.2 c_8
      refine at_aload_n C dX0_toldOfBalls_15 rfl rfl ?_
      refine at_calli (run_V (rest := []) (As := []) C (metX0_worst l D dA ad  hw) (lw_V q411 q413 qs8 q56 q414) dsX0_worst (gR_ok (Nat.le_of_ble_eq_true rfl) (Nat.le_of_ble_eq_true rfl)) ⟨rfl, rfl⟩ ⟨(Nat.le_of_ble_eq_true rfl), (Nat.le_of_ble_eq_true rfl)⟩ (Nat.le_of_ble_eq_true rfl) rfl rfl rfl rfl (Nat.le_of_ble_eq_true rfl) dX0_toldOfBalls_16) (fun r_11 w_12 hw => ?_)
      refine at_goto (tgt := 26) C dX0_toldOfBalls_19 (by decide) ?_
      exact (tX0_toldOfBalls_26 C  hw)
  · have hw := hw.2 c_7
    refine at_iconst C dX0_toldOfBalls_7 ic_m1 ?_
    exact at_iret C rfl hw dX0_toldOfBalls_8
set_option maxHeartbeats 4000000 in
theorem tX0_talk_148    {K4 : Int32 → Int32 → Prop} {K19 : Int32 → Int32 → Prop} {Q : Int32 → Prop} (C : Cx p s m args meth c D dA cX0_talk 7 (some .int) RX0)    {x2 : Int32} {x3 : Int32} {s0 : Int32} {s1 : Int32} {w : GW} (hK4 : ∀ (x1 : Int32) (x2 : Int32), K4 x1 x2 → gAtX p l e s m args below meth c D dA ad 2 (va_Qi (gQ1 Q w) (gZ D dA 137 ad layX) (gA 137 ad)) 7 4 [(0, .ref (ad 0)), (1, .int x1), (2, .int x2)] [] w) (hK19 : ∀ (x1 : Int32) (x3 : Int32), K19 x1 x3 → gAtX p l e s m args below meth c D dA ad 2 (va_Qi (gQ1 Q w) (gZ D dA 137 ad layX) (gA 137 ad)) 7 19 [(0, .ref (ad 0)), (1, .int x1), (2, .int x2), (3, .int x3)] [] w) (hw : PX0_talk_148 K4 K19 Q x2 x3 s0 s1 w) : gAtX p l e s m args below meth c D dA ad 2 (va_Qi (gQ1 Q w) (gZ D dA 137 ad layX) (gA 137 ad)) 7 148 [(0, .ref (ad 0)), (2, .int x2), (3, .int x3)] [.int s1, .int s0] w := by
  unfold PX0_talk_148 at hw
  refine at_iadd C dX0_talk_148 ?_
  refine at_topi (fun v1_1 e1_1 => ?_)
  have hw := hw v1_1 e1_1
  refine at_istore_n (L' := [(0, .ref (ad 0)), (1, .int v1_1), (2, .int x2), (3, .int x3)]) C dX0_talk_149 rfl (Nat.le_of_ble_eq_true rfl) rfl ?_
  refine at_iinc (F := fun z_ => [(0, .ref (ad 0)), (1, .int v1_1), (2, .int x2), (3, .int z_)]) C dX0_talk_150 rfl ic_1 (Nat.le_of_ble_eq_true rfl) (fun _ => rfl) (fun v3_2 e3_2 => ?_)
  have hw := hw v3_2 e3_2
  refine at_goto (tgt := 19) C dX0_talk_153 (by decide) ?_
  exact hK19 _ _ hw
set_option maxHeartbeats 4000000 in
theorem tX0_talk_147    {K4 : Int32 → Int32 → Prop} {K19 : Int32 → Int32 → Prop} {Q : Int32 → Prop} (C : Cx p s m args meth c D dA cX0_talk 7 (some .int) RX0)    {x2 : Int32} {x3 : Int32} {s0 : Int32} {w : GW} (hK4 : ∀ (x1 : Int32) (x2 : Int32), K4 x1 x2 → gAtX p l e s m args below meth c D dA ad 2 (va_Qi (gQ1 Q w) (gZ D dA 137 ad layX) (gA 137 ad)) 7 4 [(0, .ref (ad 0)), (1, .int x1), (2, .int x2)] [] w) (hK19 : ∀ (x1 : Int32) (x3 : Int32), K19 x1 x3 → gAtX p l e s m args below meth c D dA ad 2 (va_Qi (gQ1 Q w) (gZ D dA 137 ad layX) (gA 137 ad)) 7 19 [(0, .ref (ad 0)), (1, .int x1), (2, .int x2), (3, .int x3)] [] w) (hw : PX0_talk_147 K4 K19 Q x2 x3 s0 w) : gAtX p l e s m args below meth c D dA ad 2 (va_Qi (gQ1 Q w) (gZ D dA 137 ad layX) (gA 137 ad)) 7 147 [(0, .ref (ad 0)), (2, .int x2), (3, .int x3)] [.int s0] w := by
  unfold PX0_talk_147 at hw
  refine at_iconst C dX0_talk_147 ic_0 ?_
  exact (tX0_talk_148 C hK4 hK19 hw)
set_option maxHeartbeats 4000000 in
theorem tX0_talk_123    {K4 : Int32 → Int32 → Prop} {K19 : Int32 → Int32 → Prop} {Q : Int32 → Prop} (C : Cx p s m args meth c D dA cX0_talk 7 (some .int) RX0)    {x1 : Int32} {x2 : Int32} {x3 : Int32} {x4 : Int32} {x5 : Int32} {s0 : Int32} {w : GW} (hK4 : ∀ (x1 : Int32) (x2 : Int32), K4 x1 x2 → gAtX p l e s m args below meth c D dA ad 2 (va_Qi (gQ1 Q w) (gZ D dA 137 ad layX) (gA 137 ad)) 7 4 [(0, .ref (ad 0)), (1, .int x1), (2, .int x2)] [] w) (hK19 : ∀ (x1 : Int32) (x3 : Int32), K19 x1 x3 → gAtX p l e s m args below meth c D dA ad 2 (va_Qi (gQ1 Q w) (gZ D dA 137 ad layX) (gA 137 ad)) 7 19 [(0, .ref (ad 0)), (1, .int x1), (2, .int x2), (3, .int x3)] [] w) (hw : PX0_talk_123 K4 K19 Q x1 x2 x3 x4 x5 s0 w) : gAtX p l e s m args below meth c D dA ad 2 (va_Qi (gQ1 Q w) (gZ D dA 137 ad layX) (gA 137 ad)) 7 123 [(0, .ref (ad 0)), (1, .int x1), (2, .int x2), (3, .int x3), (4, .int x4), (5, .int x5)] [.int s0] w := by
  unfold PX0_talk_123 at hw
  refine at_istore (L' := [(0, .ref (ad 0)), (1, .int x1), (2, .int x2), (3, .int x3), (4, .int x4), (5, .int x5), (6, .int s0)]) C dX0_talk_123 (Nat.le_of_ble_eq_true rfl) rfl ?_
  refine at_iload_n C dX0_talk_125 rfl rfl ?_
  refine at_iload C dX0_talk_126 rfl ?_
  refine at_if_eq (tgt := 147) C dX0_talk_128 (by decide) (fun c_3 => ?_) (fun c_3 => ?_)
  · have hw := hw.1 c_3
    exact at_sub (lv_pickm [0, 2, 3] rfl) (tX0_talk_147 C hK4 hK19 hw)
  · have hw := hw.2 c_3
    refine at_iload C dX0_talk_131 rfl ?_
    refine at_iconst C dX0_talk_133 ic_1 ?_
    refine at_icmp_ne (tgt := 147) C dX0_talk_134 (by decide) (fun c_4 => ?_) (fun c_4 => ?_)
    · have hw := hw.1 c_4
      exact at_sub (lv_pickm [0, 2, 3] rfl) (tX0_talk_147 C hK4 hK19 hw)
    · have hw := hw.2 c_4
      refine at_iload C dX0_talk_137 rfl ?_
      refine at_iconst C dX0_talk_139 ic_1 ?_
      refine at_icmp_ne (tgt := 147) C dX0_talk_140 (by decide) (fun c_5 => ?_) (fun c_5 => ?_)
      · have hw := hw.1 c_5
        exact at_sub (lv_pickm [0, 2, 3] rfl) (tX0_talk_147 C hK4 hK19 hw)
      · have hw := hw.2 c_5
        refine at_iconst C dX0_talk_143 ic_1 ?_
        refine at_goto (tgt := 148) C dX0_talk_144 (by decide) ?_
        exact at_sub (lv_pickm [0, 2, 3] rfl) (tX0_talk_148 C hK4 hK19 hw)
set_option maxHeartbeats 4000000 in
theorem tX0_talk_122    {K4 : Int32 → Int32 → Prop} {K19 : Int32 → Int32 → Prop} {Q : Int32 → Prop} (C : Cx p s m args meth c D dA cX0_talk 7 (some .int) RX0)    {x1 : Int32} {x2 : Int32} {x3 : Int32} {x4 : Int32} {x5 : Int32} {w : GW} (hK4 : ∀ (x1 : Int32) (x2 : Int32), K4 x1 x2 → gAtX p l e s m args below meth c D dA ad 2 (va_Qi (gQ1 Q w) (gZ D dA 137 ad layX) (gA 137 ad)) 7 4 [(0, .ref (ad 0)), (1, .int x1), (2, .int x2)] [] w) (hK19 : ∀ (x1 : Int32) (x3 : Int32), K19 x1 x3 → gAtX p l e s m args below meth c D dA ad 2 (va_Qi (gQ1 Q w) (gZ D dA 137 ad layX) (gA 137 ad)) 7 19 [(0, .ref (ad 0)), (1, .int x1), (2, .int x2), (3, .int x3)] [] w) (hw : PX0_talk_122 K4 K19 Q x1 x2 x3 x4 x5 w) : gAtX p l e s m args below meth c D dA ad 2 (va_Qi (gQ1 Q w) (gZ D dA 137 ad layX) (gA 137 ad)) 7 122 [(0, .ref (ad 0)), (1, .int x1), (2, .int x2), (3, .int x3), (4, .int x4), (5, .int x5)] [] w := by
  unfold PX0_talk_122 at hw
  refine at_iconst C dX0_talk_122 ic_0 ?_
  exact (tX0_talk_123 C hK4 hK19 hw)
set_option maxHeartbeats 4000000 in
theorem tX0_talk_19    {K4 : Int32 → Int32 → Prop} {Q : Int32 → Prop} (C : Cx p s m args meth c D dA cX0_talk 7 (some .int) RX0)    {x2 : Int32} {w : GW} (hK4 : ∀ (x1 : Int32) (x2 : Int32), K4 x1 x2 → gAtX p l e s m args below meth c D dA ad 2 (va_Qi (gQ1 Q w) (gZ D dA 137 ad layX) (gA 137 ad)) 7 4 [(0, .ref (ad 0)), (1, .int x1), (2, .int x2)] [] w) : ∀ (n : Nat) (x1 : Int32) (x3 : Int32), PX0_talk_19 K4 Q x2 w n x1 x3 → gAtX p l e s m args below meth c D dA ad 2 (va_Qi (gQ1 Q w) (gZ D dA 137 ad layX) (gA 137 ad)) 7 19 [(0, .ref (ad 0)), (1, .int x1), (2, .int x2), (3, .int x3)] [] w := by
  intro n
  induction n with
  | zero => intro x1 x3 hw; exact False.elim hw
  | succ n ih =>
    intro x1 x3 hw
    unfold PX0_talk_19 at hw
    refine at_iload_n C dX0_talk_19 rfl rfl ?_
    refine at_aload_n C dX0_talk_20 rfl rfl ?_
    refine at_getr (j := 1) (r := 2) C (Nat.le_of_ble_eq_true rfl) rfl rfl in_X0 (Nat.le_of_ble_eq_true rfl) rfl q217 dX0_talk_21 ?_
    refine at_getiN (j := 4) C (Nat.le_of_ble_eq_true rfl) rfl rfl in_X1 (Nat.le_of_ble_eq_true rfl) rfl q104 dX0_talk_24 ?_
    refine at_icmp_ge (tgt := 156) C dX0_talk_27 (by decide) (fun c_6 => ?_) (fun c_6 => ?_)
    · have hw := hw.1 c_6
      refine at_iinc (F := fun z_ => [(0, .ref (ad 0)), (1, .int x1), (2, .int z_), (3, .int x3)]) C dX0_talk_156 rfl ic_1 (Nat.le_of_ble_eq_true rfl) (fun _ => rfl) (fun v2_7 e2_7 => ?_)
      have hw := hw v2_7 e2_7
      refine at_goto (tgt := 4) C dX0_talk_159 (by decide) ?_
      exact at_sub (lv_pickm [0, 1, 2] rfl) (hK4 _ _ hw)
    · have hw := hw.2 c_6
      refine at_aload_n C dX0_talk_30 rfl rfl ?_
      refine at_getr (j := 2) (r := 6) C (Nat.le_of_ble_eq_true rfl) rfl rfl in_X0 (Nat.le_of_ble_eq_true rfl) rfl q218 dX0_talk_31 ?_
      refine at_getrN (j := 2) (r := 9) C (gSt_k0 gSt_now) (layX_0 gSt_now) rfl in_X2 (Nat.le_of_ble_eq_true rfl) rfl q128 dX0_talk_34 ?_
      refine at_iload_n C dX0_talk_37 rfl rfl ?_
      refine at_iald C (gSt_k3 gSt_now) (layX_3 gSt_now) hw.1 rfl dX0_talk_38 ?_
      have hw := hw.2
      refine at_callp (run_S (rest := []) (As := [.int (w 9 (x2).toNatClampNeg)]) C (metX0_rowOf l D dA ad  hw) (lw_S q445 q446 q56 q447) dsX0_rowOf (gR_ok (Nat.le_of_ble_eq_true rfl) (Nat.le_of_ble_eq_true rfl)) ⟨rfl, rfl⟩ ⟨(Nat.le_of_ble_eq_true rfl), (Nat.le_of_ble_eq_true rfl)⟩ rfl rfl (Nat.le_of_ble_eq_true rfl) dX0_talk_39) (fun r_8  hw => ?_)
      refine at_aload_n C dX0_talk_42 rfl rfl ?_
      refine at_getr (j := 2) (r := 6) C (Nat.le_of_ble_eq_true rfl) rfl rfl in_X0 (Nat.le_of_ble_eq_true rfl) rfl q218 dX0_talk_43 ?_
      refine at_getrN (j := 2) (r := 9) C (gSt_k0 gSt_now) (layX_0 gSt_now) rfl in_X2 (Nat.le_of_ble_eq_true rfl) rfl q128 dX0_talk_46 ?_
      refine at_iload_n C dX0_talk_49 rfl rfl ?_
      refine at_iald C (gSt_k3 gSt_now) (layX_3 gSt_now) hw.1 rfl dX0_talk_50 ?_
      have hw := hw.2
      refine at_callp (run_S (rest := [.int r_8]) (As := [.int (w 9 (x3).toNatClampNeg)]) C (metX0_rowOf l D dA ad  hw) (lw_S q445 q446 q56 q447) dsX0_rowOf (gR_ok (Nat.le_of_ble_eq_true rfl) (Nat.le_of_ble_eq_true rfl)) ⟨rfl, rfl⟩ ⟨(Nat.le_of_ble_eq_true rfl), (Nat.le_of_ble_eq_true rfl)⟩ rfl rfl (Nat.le_of_ble_eq_true rfl) dX0_talk_51) (fun r_9  hw => ?_)
      refine at_isub C dX0_talk_54 ?_
      refine at_mabs C q514 q515 q70 q516 (Nat.le_of_ble_eq_true rfl) (Nat.le_of_ble_eq_true rfl) (Nat.le_of_ble_eq_true rfl) (Nat.le_of_ble_eq_true rfl) (Nat.le_of_ble_eq_true rfl) dX0_talk_55 ?_
      refine at_topi (fun v4_10 e4_10 => ?_)
      have hw := hw v4_10 e4_10
      refine at_istore (L' := [(0, .ref (ad 0)), (1, .int x1), (2, .int x2), (3, .int x3), (4, .int v4_10)]) C dX0_talk_58 (Nat.le_of_ble_eq_true rfl) rfl ?_
      refine at_aload_n C dX0_talk_60 rfl rfl ?_
      refine at_getr (j := 2) (r := 6) C (Nat.le_of_ble_eq_true rfl) rfl rfl in_X0 (Nat.le_of_ble_eq_true rfl) rfl q218 dX0_talk_61 ?_
      refine at_getrN (j := 2) (r := 9) C (gSt_k0 gSt_now) (layX_0 gSt_now) rfl in_X2 (Nat.le_of_ble_eq_true rfl) rfl q128 dX0_talk_64 ?_
      refine at_iload_n C dX0_talk_67 rfl rfl ?_
      refine at_iald C (gSt_k3 gSt_now) (layX_3 gSt_now) hw.1 rfl dX0_talk_68 ?_
      have hw := hw.2
      refine at_callp (run_S (rest := []) (As := [.int (w 9 (x2).toNatClampNeg)]) C (metX0_columnOf l D dA ad  hw) (lw_S q448 q449 q56 q450) dsX0_columnOf (gR_ok (Nat.le_of_ble_eq_true rfl) (Nat.le_of_ble_eq_true rfl)) ⟨rfl, rfl⟩ ⟨(Nat.le_of_ble_eq_true rfl), (Nat.le_of_ble_eq_true rfl)⟩ rfl rfl (Nat.le_of_ble_eq_true rfl) dX0_talk_69) (fun r_11  hw => ?_)
      refine at_aload_n C dX0_talk_72 rfl rfl ?_
      refine at_getr (j := 2) (r := 6) C (Nat.le_of_ble_eq_true rfl) rfl rfl in_X0 (Nat.le_of_ble_eq_true rfl) rfl q218 dX0_talk_73 ?_
      refine at_getrN (j := 2) (r := 9) C (gSt_k0 gSt_now) (layX_0 gSt_now) rfl in_X2 (Nat.le_of_ble_eq_true rfl) rfl q128 dX0_talk_76 ?_
      refine at_iload_n C dX0_talk_79 rfl rfl ?_
      refine at_iald C (gSt_k3 gSt_now) (layX_3 gSt_now) hw.1 rfl dX0_talk_80 ?_
      have hw := hw.2
      refine at_callp (run_S (rest := [.int r_11]) (As := [.int (w 9 (x3).toNatClampNeg)]) C (metX0_columnOf l D dA ad  hw) (lw_S q448 q449 q56 q450) dsX0_columnOf (gR_ok (Nat.le_of_ble_eq_true rfl) (Nat.le_of_ble_eq_true rfl)) ⟨rfl, rfl⟩ ⟨(Nat.le_of_ble_eq_true rfl), (Nat.le_of_ble_eq_true rfl)⟩ rfl rfl (Nat.le_of_ble_eq_true rfl) dX0_talk_81) (fun r_12  hw => ?_)
      refine at_isub C dX0_talk_84 ?_
      refine at_mabs C q514 q515 q70 q516 (Nat.le_of_ble_eq_true rfl) (Nat.le_of_ble_eq_true rfl) (Nat.le_of_ble_eq_true rfl) (Nat.le_of_ble_eq_true rfl) (Nat.le_of_ble_eq_true rfl) dX0_talk_85 ?_
      refine at_topi (fun v5_13 e5_13 => ?_)
      have hw := hw v5_13 e5_13
      refine at_istore (L' := [(0, .ref (ad 0)), (1, .int x1), (2, .int x2), (3, .int x3), (4, .int v4_10), (5, .int v5_13)]) C dX0_talk_88 (Nat.le_of_ble_eq_true rfl) rfl ?_
      refine at_aload_n C dX0_talk_90 rfl rfl ?_
      refine at_getr (j := 2) (r := 6) C (Nat.le_of_ble_eq_true rfl) rfl rfl in_X0 (Nat.le_of_ble_eq_true rfl) rfl q218 dX0_talk_91 ?_
      refine at_getiN (j := 5) C (gSt_k0 gSt_now) (layX_0 gSt_now) rfl in_X2 (Nat.le_of_ble_eq_true rfl) rfl q134 dX0_talk_94 ?_
      refine at_iload_n C dX0_talk_97 rfl rfl ?_
      refine at_callp (run_S (rest := []) (As := [.int (w 6 5), .int x2]) C (metX0_has l D dA ad  hw) (lw_S q504 q456 q56 q457) dsX0_has (gR_ok (Nat.le_of_ble_eq_true rfl) (Nat.le_of_ble_eq_true rfl)) ⟨rfl, rfl⟩ ⟨(Nat.le_of_ble_eq_true rfl), (Nat.le_of_ble_eq_true rfl)⟩ rfl rfl (Nat.le_of_ble_eq_true rfl) dX0_talk_98) (fun r_14  hw => ?_)
      refine at_if_ne (tgt := 122) C dX0_talk_101 (by decide) (fun c_15 => ?_) (fun c_15 => ?_)
      · have hw := hw.1 c_15
        exact (tX0_talk_122 C hK4 ih hw)
      · have hw := hw.2 c_15
        refine at_aload_n C dX0_talk_104 rfl rfl ?_
        refine at_getr (j := 2) (r := 6) C (Nat.le_of_ble_eq_true rfl) rfl rfl in_X0 (Nat.le_of_ble_eq_true rfl) rfl q218 dX0_talk_105 ?_
        refine at_getiN (j := 5) C (gSt_k0 gSt_now) (layX_0 gSt_now) rfl in_X2 (Nat.le_of_ble_eq_true rfl) rfl q134 dX0_talk_108 ?_
        refine at_iload_n C dX0_talk_111 rfl rfl ?_
        refine at_callp (run_S (rest := []) (As := [.int (w 6 5), .int x3]) C (metX0_has l D dA ad  hw) (lw_S q504 q456 q56 q457) dsX0_has (gR_ok (Nat.le_of_ble_eq_true rfl) (Nat.le_of_ble_eq_true rfl)) ⟨rfl, rfl⟩ ⟨(Nat.le_of_ble_eq_true rfl), (Nat.le_of_ble_eq_true rfl)⟩ rfl rfl (Nat.le_of_ble_eq_true rfl) dX0_talk_112) (fun r_16  hw => ?_)
        refine at_if_ne (tgt := 122) C dX0_talk_115 (by decide) (fun c_17 => ?_) (fun c_17 => ?_)
        · have hw := hw.1 c_17
          exact (tX0_talk_122 C hK4 ih hw)
        · have hw := hw.2 c_17
          refine at_iconst C dX0_talk_118 ic_1 ?_
          refine at_goto (tgt := 123) C dX0_talk_119 (by decide) ?_
          exact (tX0_talk_123 C hK4 ih hw)
set_option maxHeartbeats 4000000 in
theorem tX0_talk_4     {Q : Int32 → Prop} (C : Cx p s m args meth c D dA cX0_talk 7 (some .int) RX0)     {w : GW}  : ∀ (n : Nat) (x1 : Int32) (x2 : Int32), PX0_talk_4 Q w n x1 x2 → gAtX p l e s m args below meth c D dA ad 2 (va_Qi (gQ1 Q w) (gZ D dA 137 ad layX) (gA 137 ad)) 7 4 [(0, .ref (ad 0)), (1, .int x1), (2, .int x2)] [] w := by
  intro n
  induction n with
  | zero => intro x1 x2 hw; exact False.elim hw
  | succ n ih =>
    intro x1 x2 hw
    unfold PX0_talk_4 at hw
    refine at_iload_n C dX0_talk_4 rfl rfl ?_
    refine at_aload_n C dX0_talk_5 rfl rfl ?_
    refine at_getr (j := 1) (r := 2) C (Nat.le_of_ble_eq_true rfl) rfl rfl in_X0 (Nat.le_of_ble_eq_true rfl) rfl q217 dX0_talk_6 ?_
    refine at_getiN (j := 4) C (Nat.le_of_ble_eq_true rfl) rfl rfl in_X1 (Nat.le_of_ble_eq_true rfl) rfl q104 dX0_talk_9 ?_
    refine at_icmp_ge (tgt := 162) C dX0_talk_12 (by decide) (fun c_18 => ?_) (fun c_18 => ?_)
    · have hw := hw.1 c_18
      refine at_iload_n C dX0_talk_162 rfl rfl ?_
      exact at_iret C rfl ⟨hw, rfl⟩ dX0_talk_163
    · have hw := hw.2 c_18
      refine at_iload_n C dX0_talk_15 rfl rfl ?_
      refine at_iconst C dX0_talk_16 ic_1 ?_
      refine at_iadd C dX0_talk_17 ?_
      refine at_topi (fun v3_19 e3_19 => ?_)
      have hw := hw v3_19 e3_19
      refine at_istore_n (L' := [(0, .ref (ad 0)), (1, .int x1), (2, .int x2), (3, .int v3_19)]) C dX0_talk_18 rfl (Nat.le_of_ble_eq_true rfl) rfl ?_
      obtain ⟨n_20, hw⟩ := hw
      exact (tX0_talk_19 C ih _ _ _ hw)
set_option maxHeartbeats 4000000 in
theorem metX0_talk   (l : Launch) (D : va_G) (dA : Nat → ClassId) (ad : Nat → Nat)     {w : GW} {Q : Int32 → Prop} (hw : PX0_talk w Q) : Met l yX0_talk (ws_ yX0_talk cX0_talk 7 (some .int)) (gR 2) (va_Pc [.ref (ad 0)] (gB D dA 137 ad layX w)) (va_Qi (gQ1 Q w) (gZ D dA 137 ad layX) (gA 137 ad)) 0 0 (gA 137 ad) := by
  refine gm_of (L := [(0, .ref (ad 0))]) (own := RX0) (by decide +kernel) rfl (Nat.le_of_ble_eq_true rfl) rfl rfl (fun p e s m below meth c C => ?_)
  unfold PX0_talk at hw
  refine at_iconst C dX0_talk_0 ic_0 ?_
  refine at_istore_n (L' := [(0, .ref (ad 0)), (1, .int 0)]) C dX0_talk_1 rfl (Nat.le_of_ble_eq_true rfl) rfl ?_
  refine at_iconst C dX0_talk_2 ic_0 ?_
  refine at_istore_n (L' := [(0, .ref (ad 0)), (1, .int 0), (2, .int 0)]) C dX0_talk_3 rfl (Nat.le_of_ble_eq_true rfl) rfl ?_
  obtain ⟨n_21, hw⟩ := hw
  exact (tX0_talk_4 C  _ _ _ hw)
set_option maxHeartbeats 4000000 in
theorem metX0_told   (l : Launch) (D : va_G) (dA : Nat → ClassId) (ad : Nat → Nat)    {x1 : Int32} {w : GW} {Q : Int32 → GW → Prop} (hw : PX0_told x1 w Q) : Met l yX0_told (ws_ yX0_told cX0_told 2 (some .int)) (gR 29) (va_Pc [.ref (ad 0), .int x1] (gB D dA 137 ad layX w)) (va_Qi Q (gZ D dA 137 ad layX) (gA 137 ad)) 0 0 (gA 137 ad) := by
  refine gm_of (L := [(0, .ref (ad 0)), (1, .int x1)]) (own := RX0) (by decide +kernel) rfl (Nat.le_of_ble_eq_true rfl) rfl rfl (fun p e s m below meth c C => ?_)
  unfold PX0_told at hw
  refine at_iload_n C dX0_told_0 rfl rfl ?_
  refine at_bipush C dX0_told_1 bp_6 ?_
  refine at_bipush C dX0_told_3 bp_10 ?_
  refine at_callp (run_S (rest := []) (As := [.int x1, .int 6, .int 10]) C (metX0_isIn l D dA ad  hw) (lw_S q266 q267 q56 q268) dsX0_isIn (gR_ok (Nat.le_of_ble_eq_true rfl) (Nat.le_of_ble_eq_true rfl)) ⟨rfl, rfl⟩ ⟨(Nat.le_of_ble_eq_true rfl), (Nat.le_of_ble_eq_true rfl)⟩ rfl rfl (Nat.le_of_ble_eq_true rfl) dX0_told_5) (fun r_1  hw => ?_)
  refine at_if_eq (tgt := 17) C dX0_told_8 (by decide) (fun c_2 => ?_) (fun c_2 => ?_)
  · have hw := hw.1 c_2
    refine at_iload_n C dX0_told_17 rfl rfl ?_
    by_cases c_3_0 : x1 = 0
    · have hw := hw.1 c_3_0
      refine at_tin (tgt := 88) (v := 0) C dX0_told_18 c_3_0 (by decide) (by decide) rfl (by decide) ?_
      refine at_aload_n C dX0_told_88 rfl rfl ?_
      refine at_getr (j := 1) (r := 2) C (Nat.le_of_ble_eq_true rfl) rfl rfl in_X0 (Nat.le_of_ble_eq_true rfl) rfl q217 dX0_told_89 ?_
      refine at_getiN (j := 0) C (Nat.le_of_ble_eq_true rfl) rfl rfl in_X1 (Nat.le_of_ble_eq_true rfl) rfl q91 dX0_told_92 ?_
      exact at_iret C rfl hw dX0_told_95
    · have hw := hw.2 c_3_0
      by_cases c_3_1 : x1 = 1
      · have hw := hw.1 c_3_1
        refine at_tin (tgt := 96) (v := 1) C dX0_told_18 c_3_1 (by decide) (by decide) rfl (by decide) ?_
        refine at_aload_n C dX0_told_96 rfl rfl ?_
        refine at_getr (j := 1) (r := 2) C (Nat.le_of_ble_eq_true rfl) rfl rfl in_X0 (Nat.le_of_ble_eq_true rfl) rfl q217 dX0_told_97 ?_
        refine at_getiN (j := 4) C (Nat.le_of_ble_eq_true rfl) rfl rfl in_X1 (Nat.le_of_ble_eq_true rfl) rfl q104 dX0_told_100 ?_
        exact at_iret C rfl hw dX0_told_103
      · have hw := hw.2 c_3_1
        by_cases c_3_2 : x1 = 2
        · have hw := hw.1 c_3_2
          refine at_tin (tgt := 104) (v := 2) C dX0_told_18 c_3_2 (by decide) (by decide) rfl (by decide) ?_
          refine at_aload_n C dX0_told_104 rfl rfl ?_
          refine at_geti (j := 10) C (Nat.le_of_ble_eq_true rfl) rfl rfl in_X0 (Nat.le_of_ble_eq_true rfl) rfl q226 dX0_told_105 ?_
          exact at_iret C rfl hw dX0_told_108
        · have hw := hw.2 c_3_2
          by_cases c_3_3 : x1 = 3
          · have hw := hw.1 c_3_3
            refine at_tin (tgt := 109) (v := 3) C dX0_told_18 c_3_3 (by decide) (by decide) rfl (by decide) ?_
            refine at_aload_n C dX0_told_109 rfl rfl ?_
            refine at_getr (j := 2) (r := 6) C (Nat.le_of_ble_eq_true rfl) rfl rfl in_X0 (Nat.le_of_ble_eq_true rfl) rfl q218 dX0_told_110 ?_
            refine at_getiN (j := 5) C (gSt_k0 gSt_now) (layX_0 gSt_now) rfl in_X2 (Nat.le_of_ble_eq_true rfl) rfl q134 dX0_told_113 ?_
            exact at_iret C rfl hw dX0_told_116
          · have hw := hw.2 c_3_3
            by_cases c_3_4 : x1 = 4
            · have hw := hw.1 c_3_4
              refine at_tin (tgt := 117) (v := 4) C dX0_told_18 c_3_4 (by decide) (by decide) rfl (by decide) ?_
              refine at_aload_n C dX0_told_117 rfl rfl ?_
              refine at_getr (j := 2) (r := 6) C (Nat.le_of_ble_eq_true rfl) rfl rfl in_X0 (Nat.le_of_ble_eq_true rfl) rfl q218 dX0_told_118 ?_
              refine at_getiN (j := 6) C (gSt_k0 gSt_now) (layX_0 gSt_now) rfl in_X2 (Nat.le_of_ble_eq_true rfl) rfl q136 dX0_told_121 ?_
              exact at_iret C rfl hw dX0_told_124
            · have hw := hw.2 c_3_4
              by_cases c_3_5 : x1 = 5
              · have hw := hw.1 c_3_5
                refine at_tin (tgt := 125) (v := 5) C dX0_told_18 c_3_5 (by decide) (by decide) rfl (by decide) ?_
                refine at_aload_n C dX0_told_125 rfl rfl ?_
                refine at_getr (j := 2) (r := 6) C (Nat.le_of_ble_eq_true rfl) rfl rfl in_X0 (Nat.le_of_ble_eq_true rfl) rfl q218 dX0_told_126 ?_
                refine at_getiN (j := 7) C (gSt_k0 gSt_now) (layX_0 gSt_now) rfl in_X2 (Nat.le_of_ble_eq_true rfl) rfl q138 dX0_told_129 ?_
                exact at_iret C rfl hw dX0_told_132
              · have hw := hw.2 c_3_5
                by_cases c_3_11 : x1 = 11
                · have hw := hw.1 c_3_11
                  refine at_tin (tgt := 133) (v := 11) C dX0_told_18 c_3_11 (by decide) (by decide) rfl (by decide) ?_
                  refine at_aload_n C dX0_told_133 rfl rfl ?_
                  refine at_callp (run_V (rest := []) (As := []) C (metX0_talk l D dA ad  hw) (lw_V q510 q512 qs16 q56 q513) dsX0_talk (gR_ok (Nat.le_of_ble_eq_true rfl) (Nat.le_of_ble_eq_true rfl)) ⟨rfl, rfl⟩ ⟨(Nat.le_of_ble_eq_true rfl), (Nat.le_of_ble_eq_true rfl)⟩ (Nat.le_of_ble_eq_true rfl) rfl rfl rfl rfl (Nat.le_of_ble_eq_true rfl) dX0_told_134) (fun r_4  hw => ?_)
                  exact at_iret C rfl hw dX0_told_137
                · have hw := hw.2 c_3_11
                  by_cases c_3_12 : x1 = 12
                  · have hw := hw.1 c_3_12
                    refine at_tin (tgt := 138) (v := 12) C dX0_told_18 c_3_12 (by decide) (by decide) rfl (by decide) ?_
                    refine at_aload_n C dX0_told_138 rfl rfl ?_
                    refine at_geti (j := 8) C (Nat.le_of_ble_eq_true rfl) rfl rfl in_X0 (Nat.le_of_ble_eq_true rfl) rfl q224 dX0_told_139 ?_
                    exact at_iret C rfl hw dX0_told_142
                  · have hw := hw.2 c_3_12
                    by_cases c_3_13 : x1 = 13
                    · have hw := hw.1 c_3_13
                      refine at_tin (tgt := 143) (v := 13) C dX0_told_18 c_3_13 (by decide) (by decide) rfl (by decide) ?_
                      refine at_aload_n C dX0_told_143 rfl rfl ?_
                      refine at_geti (j := 5) C (Nat.le_of_ble_eq_true rfl) rfl rfl in_X0 (Nat.le_of_ble_eq_true rfl) rfl q221 dX0_told_144 ?_
                      exact at_iret C rfl hw dX0_told_147
                    · have hw := hw.2 c_3_13
                      by_cases c_3_6 : x1 = 6
                      · refine at_tin (tgt := 148) (v := 6) C dX0_told_18 c_3_6 (by decide) (by decide) rfl (by decide) ?_
                        refine at_ldc C q269 dX0_told_148 ?_
                        exact at_iret C rfl hw dX0_told_150
                      · skip
                        by_cases c_3_7 : x1 = 7
                        · refine at_tin (tgt := 148) (v := 7) C dX0_told_18 c_3_7 (by decide) (by decide) rfl (by decide) ?_
                          refine at_ldc C q269 dX0_told_148 ?_
                          exact at_iret C rfl hw dX0_told_150
                        · skip
                          by_cases c_3_8 : x1 = 8
                          · refine at_tin (tgt := 148) (v := 8) C dX0_told_18 c_3_8 (by decide) (by decide) rfl (by decide) ?_
                            refine at_ldc C q269 dX0_told_148 ?_
                            exact at_iret C rfl hw dX0_told_150
                          · skip
                            by_cases c_3_9 : x1 = 9
                            · refine at_tin (tgt := 148) (v := 9) C dX0_told_18 c_3_9 (by decide) (by decide) rfl (by decide) ?_
                              refine at_ldc C q269 dX0_told_148 ?_
                              exact at_iret C rfl hw dX0_told_150
                            · skip
                              by_cases c_3_10 : x1 = 10
                              · refine at_tin (tgt := 148) (v := 10) C dX0_told_18 c_3_10 (by decide) (by decide) rfl (by decide) ?_
                                refine at_ldc C q269 dX0_told_148 ?_
                                exact at_iret C rfl hw dX0_told_150
                              · skip
                                refine at_tout (tgt := 148) C dX0_told_18 (by have h0 := lv_neT (a := 0) c_3_0 (by decide); have h1 := lv_neT (a := 1) c_3_1 (by decide); have h2 := lv_neT (a := 2) c_3_2 (by decide); have h3 := lv_neT (a := 3) c_3_3 (by decide); have h4 := lv_neT (a := 4) c_3_4 (by decide); have h5 := lv_neT (a := 5) c_3_5 (by decide); have h6 := lv_neT (a := 6) c_3_6 (by decide); have h7 := lv_neT (a := 7) c_3_7 (by decide); have h8 := lv_neT (a := 8) c_3_8 (by decide); have h9 := lv_neT (a := 9) c_3_9 (by decide); have h10 := lv_neT (a := 10) c_3_10 (by decide); have h11 := lv_neT (a := 11) c_3_11 (by decide); have h12 := lv_neT (a := 12) c_3_12 (by decide); have h13 := lv_neT (a := 13) c_3_13 (by decide); omega) (by decide) ?_
                                refine at_ldc C q269 dX0_told_148 ?_
                                exact at_iret C rfl hw dX0_told_150
  · have hw := hw.2 c_2
    refine at_aload_n C dX0_told_11 rfl rfl ?_
    refine at_iload_n C dX0_told_12 rfl rfl ?_
    refine at_calli (run_V (rest := []) (As := [.int x1]) C (metX0_toldOfBalls l D dA ad  hw) (lw_V q403 q405 qs6 q56 q406) dsX0_toldOfBalls (gR_ok (Nat.le_of_ble_eq_true rfl) (Nat.le_of_ble_eq_true rfl)) ⟨rfl, rfl⟩ ⟨(Nat.le_of_ble_eq_true rfl), (Nat.le_of_ble_eq_true rfl)⟩ (Nat.le_of_ble_eq_true rfl) rfl rfl rfl rfl (Nat.le_of_ble_eq_true rfl) dX0_told_13) (fun r_5 w_6 hw => ?_)
    exact at_iret C rfl hw dX0_told_16
set_option maxHeartbeats 4000000 in
theorem metX0_isSkittle   (l : Launch) (D : va_G) (dA : Nat → ClassId) (ad : Nat → Nat)    {x1 : Int32} {w : GW} {Q : Int32 → Prop} (hw : PX0_isSkittle x1 w Q) : Met l yX0_isSkittle (ws_ yX0_isSkittle cX0_isSkittle 2 (some .boolean)) (gR 2) (va_Pc [.ref (ad 0), .int x1] (gB D dA 137 ad layX w)) (va_Qi (gQ1 Q w) (gZ D dA 137 ad layX) (gA 137 ad)) 0 0 (gA 137 ad) := by
  refine gm_of (L := [(0, .ref (ad 0)), (1, .int x1)]) (own := RX0) (by decide +kernel) rfl (Nat.le_of_ble_eq_true rfl) rfl rfl (fun p e s m below meth c C => ?_)
  unfold PX0_isSkittle at hw
  refine at_iload_n C dX0_isSkittle_0 rfl rfl ?_
  refine at_iconst C dX0_isSkittle_1 ic_0 ?_
  refine at_aload_n C dX0_isSkittle_2 rfl rfl ?_
  refine at_getr (j := 1) (r := 2) C (Nat.le_of_ble_eq_true rfl) rfl rfl in_X0 (Nat.le_of_ble_eq_true rfl) rfl q217 dX0_isSkittle_3 ?_
  refine at_getiN (j := 4) C (Nat.le_of_ble_eq_true rfl) rfl rfl in_X1 (Nat.le_of_ble_eq_true rfl) rfl q104 dX0_isSkittle_6 ?_
  refine at_iconst C dX0_isSkittle_9 ic_1 ?_
  refine at_isub C dX0_isSkittle_10 ?_
  refine at_callp (run_S (rest := []) (As := [.int x1, .int 0, .int ((w 2 4) - 1)]) C (metX0_isIn l D dA ad  hw) (lw_S q266 q267 q56 q268) dsX0_isIn (gR_ok (Nat.le_of_ble_eq_true rfl) (Nat.le_of_ble_eq_true rfl)) ⟨rfl, rfl⟩ ⟨(Nat.le_of_ble_eq_true rfl), (Nat.le_of_ble_eq_true rfl)⟩ rfl rfl (Nat.le_of_ble_eq_true rfl) dX0_isSkittle_11) (fun r_1  hw => ?_)
  exact at_zret C rfl hw.1 ⟨hw.2, rfl⟩ dX0_isSkittle_14
set_option maxHeartbeats 4000000 in
theorem tX0_firstOf_4     {Q : Int32 → Prop} (C : Cx p s m args meth c D dA cX0_firstOf 4 (some .int) RX0)     {w : GW}  : ∀ (n : Nat) (x2 : Int32) (x3 : Int32), PX0_firstOf_4 Q w n x2 x3 → gAtX p l e s m args below meth c D dA ad 1 (va_Qi (gQ1 Q w) (gZ D dA 137 ad layX) (gA 137 ad)) 4 4 [(0, .ref (ad 0)), (2, .int x2), (3, .int x3)] [] w := by
  intro n
  induction n with
  | zero => intro x2 x3 hw; exact False.elim hw
  | succ n ih =>
    intro x2 x3 hw
    unfold PX0_firstOf_4 at hw
    refine at_iload_n C dX0_firstOf_4 rfl rfl ?_
    refine at_bipush C dX0_firstOf_5 bp_9 ?_
    refine at_icmp_ge (tgt := 39) C dX0_firstOf_7 (by decide) (fun c_1 => ?_) (fun c_1 => ?_)
    · have hw := hw.1 c_1
      refine at_iload_n C dX0_firstOf_39 rfl rfl ?_
      exact at_iret C rfl ⟨hw, rfl⟩ dX0_firstOf_40
    · have hw := hw.2 c_1
      refine at_aload_n C dX0_firstOf_10 rfl rfl ?_
      refine at_getr (j := 2) (r := 6) C (Nat.le_of_ble_eq_true rfl) rfl rfl in_X0 (Nat.le_of_ble_eq_true rfl) rfl q218 dX0_firstOf_11 ?_
      refine at_getrN (j := 4) (r := 11) C (gSt_k0 gSt_now) (layX_0 gSt_now) rfl in_X2 (Nat.le_of_ble_eq_true rfl) rfl q132 dX0_firstOf_14 ?_
      refine at_iload_n C dX0_firstOf_17 rfl rfl ?_
      refine at_iald C (gSt_k5 gSt_now) (layX_5 gSt_now) hw.1 rfl dX0_firstOf_18 ?_
      have hw := hw.2
      refine at_iconst C dX0_firstOf_19 ic_m1 ?_
      refine at_icmp_eq (tgt := 39) C dX0_firstOf_20 (by decide) (fun c_2 => ?_) (fun c_2 => ?_)
      · have hw := hw.1 c_2
        refine at_iload_n C dX0_firstOf_39 rfl rfl ?_
        exact at_iret C rfl ⟨hw, rfl⟩ dX0_firstOf_40
      · have hw := hw.2 c_2
        refine at_aload_n C dX0_firstOf_23 rfl rfl ?_
        refine at_getr (j := 2) (r := 6) C (Nat.le_of_ble_eq_true rfl) rfl rfl in_X0 (Nat.le_of_ble_eq_true rfl) rfl q218 dX0_firstOf_24 ?_
        refine at_getrN (j := 4) (r := 11) C (gSt_k0 gSt_now) (layX_0 gSt_now) rfl in_X2 (Nat.le_of_ble_eq_true rfl) rfl q132 dX0_firstOf_27 ?_
        refine at_iload_n C dX0_firstOf_30 rfl rfl ?_
        refine at_iald C (gSt_k5 gSt_now) (layX_5 gSt_now) hw.1 rfl dX0_firstOf_31 ?_
        have hw := hw.2
        refine at_topi (fun v2_3 e2_3 => ?_)
        have hw := hw v2_3 e2_3
        refine at_istore_n (L' := [(0, .ref (ad 0)), (2, .int v2_3), (3, .int x3)]) C dX0_firstOf_32 rfl (Nat.le_of_ble_eq_true rfl) rfl ?_
        refine at_iinc (F := fun z_ => [(0, .ref (ad 0)), (2, .int v2_3), (3, .int z_)]) C dX0_firstOf_33 rfl ic_1 (Nat.le_of_ble_eq_true rfl) (fun _ => rfl) (fun v3_4 e3_4 => ?_)
        have hw := hw v3_4 e3_4
        refine at_goto (tgt := 4) C dX0_firstOf_36 (by decide) ?_
        exact ih _ _ hw
set_option maxHeartbeats 4000000 in
theorem metX0_firstOf   (l : Launch) (D : va_G) (dA : Nat → ClassId) (ad : Nat → Nat)    {x1 : Int32} {w : GW} {Q : Int32 → Prop} (hw : PX0_firstOf x1 w Q) : Met l yX0_firstOf (ws_ yX0_firstOf cX0_firstOf 4 (some .int)) (gR 1) (va_Pc [.ref (ad 0), .int x1] (gB D dA 137 ad layX w)) (va_Qi (gQ1 Q w) (gZ D dA 137 ad layX) (gA 137 ad)) 0 0 (gA 137 ad) := by
  refine gm_of (L := [(0, .ref (ad 0)), (1, .int x1)]) (own := RX0) (by decide +kernel) rfl (Nat.le_of_ble_eq_true rfl) rfl rfl (fun p e s m below meth c C => ?_)
  unfold PX0_firstOf at hw
  refine at_iload_n C dX0_firstOf_0 rfl rfl ?_
  refine at_istore_n (L' := [(0, .ref (ad 0)), (1, .int x1), (2, .int x1)]) C dX0_firstOf_1 rfl (Nat.le_of_ble_eq_true rfl) rfl ?_
  refine at_iconst C dX0_firstOf_2 ic_0 ?_
  refine at_istore_n (L' := [(0, .ref (ad 0)), (1, .int x1), (2, .int x1), (3, .int 0)]) C dX0_firstOf_3 rfl (Nat.le_of_ble_eq_true rfl) rfl ?_
  obtain ⟨n_5, hw⟩ := hw
  exact at_sub (lv_pickm [0, 2, 3] rfl) (tX0_firstOf_4 C  _ _ _ hw)
set_option maxHeartbeats 4000000 in
theorem metX0_skittle   (l : Launch) (D : va_G) (dA : Nat → ClassId) (ad : Nat → Nat)    {x1 : Int32} {x2 : Int32} {w : GW} {Q : Int32 → Prop} (hw : PX0_skittle x1 x2 w Q) : Met l yX0_skittle (ws_ yX0_skittle cX0_skittle 3 (some .int)) (gR 5) (va_Pc [.ref (ad 0), .int x1, .int x2] (gB D dA 137 ad layX w)) (va_Qi (gQ1 Q w) (gZ D dA 137 ad layX) (gA 137 ad)) 0 0 (gA 137 ad) := by
  refine gm_of (L := [(0, .ref (ad 0)), (1, .int x1), (2, .int x2)]) (own := RX0) (by decide +kernel) rfl (Nat.le_of_ble_eq_true rfl) rfl rfl (fun p e s m below meth c C => ?_)
  unfold PX0_skittle at hw
  refine at_aload_n C dX0_skittle_0 rfl rfl ?_
  refine at_iload_n C dX0_skittle_1 rfl rfl ?_
  refine at_callp (run_V (rest := []) (As := [.int x1]) C (metX0_isSkittle l D dA ad  hw) (lw_V q521 q523 qs17 q56 q524) dsX0_isSkittle (gR_ok (Nat.le_of_ble_eq_true rfl) (Nat.le_of_ble_eq_true rfl)) ⟨rfl, rfl⟩ ⟨(Nat.le_of_ble_eq_true rfl), (Nat.le_of_ble_eq_true rfl)⟩ (Nat.le_of_ble_eq_true rfl) rfl rfl rfl rfl (Nat.le_of_ble_eq_true rfl) dX0_skittle_2) (fun r_1  hw => ?_)
  refine at_if_ne (tgt := 11) C dX0_skittle_5 (by decide) (fun c_2 => ?_) (fun c_2 => ?_)
  · have hw := hw.1 c_2
    refine at_iload_n C dX0_skittle_11 rfl rfl ?_
    by_cases c_3_0 : x2 = 0
    · have hw := hw.1 c_3_0
      refine at_tin (tgt := 64) (v := 0) C dX0_skittle_12 c_3_0 (by decide) (by decide) rfl (by decide) ?_
      refine at_aload_n C dX0_skittle_64 rfl rfl ?_
      refine at_getr (j := 2) (r := 6) C (Nat.le_of_ble_eq_true rfl) rfl rfl in_X0 (Nat.le_of_ble_eq_true rfl) rfl q218 dX0_skittle_65 ?_
      refine at_getrN (j := 0) (r := 7) C (gSt_k0 gSt_now) (layX_0 gSt_now) rfl in_X2 (Nat.le_of_ble_eq_true rfl) rfl q124 dX0_skittle_68 ?_
      refine at_iload_n C dX0_skittle_71 rfl rfl ?_
      refine at_iald C (gSt_k1 gSt_now) (layX_1 gSt_now) hw.1 rfl dX0_skittle_72 ?_
      have hw := hw.2
      exact at_iret C rfl ⟨hw, rfl⟩ dX0_skittle_73
    · have hw := hw.2 c_3_0
      by_cases c_3_1 : x2 = 1
      · have hw := hw.1 c_3_1
        refine at_tin (tgt := 74) (v := 1) C dX0_skittle_12 c_3_1 (by decide) (by decide) rfl (by decide) ?_
        refine at_aload_n C dX0_skittle_74 rfl rfl ?_
        refine at_getr (j := 1) (r := 2) C (Nat.le_of_ble_eq_true rfl) rfl rfl in_X0 (Nat.le_of_ble_eq_true rfl) rfl q217 dX0_skittle_75 ?_
        refine at_getrN (j := 2) (r := 4) C (Nat.le_of_ble_eq_true rfl) rfl rfl in_X1 (Nat.le_of_ble_eq_true rfl) rfl q98 dX0_skittle_78 ?_
        refine at_iload_n C dX0_skittle_81 rfl rfl ?_
        refine at_iald C (Nat.le_of_ble_eq_true rfl) rfl hw.1 rfl dX0_skittle_82 ?_
        have hw := hw.2
        exact at_iret C rfl ⟨hw, rfl⟩ dX0_skittle_83
      · have hw := hw.2 c_3_1
        by_cases c_3_2 : x2 = 2
        · have hw := hw.1 c_3_2
          refine at_tin (tgt := 84) (v := 2) C dX0_skittle_12 c_3_2 (by decide) (by decide) rfl (by decide) ?_
          refine at_aload_n C dX0_skittle_84 rfl rfl ?_
          refine at_getr (j := 2) (r := 6) C (Nat.le_of_ble_eq_true rfl) rfl rfl in_X0 (Nat.le_of_ble_eq_true rfl) rfl q218 dX0_skittle_85 ?_
          refine at_getrN (j := 1) (r := 8) C (gSt_k0 gSt_now) (layX_0 gSt_now) rfl in_X2 (Nat.le_of_ble_eq_true rfl) rfl q126 dX0_skittle_88 ?_
          refine at_iload_n C dX0_skittle_91 rfl rfl ?_
          refine at_iald C (gSt_k2 gSt_now) (layX_2 gSt_now) hw.1 rfl dX0_skittle_92 ?_
          have hw := hw.2
          exact at_iret C rfl ⟨hw, rfl⟩ dX0_skittle_93
        · have hw := hw.2 c_3_2
          by_cases c_3_3 : x2 = 3
          · have hw := hw.1 c_3_3
            refine at_tin (tgt := 94) (v := 3) C dX0_skittle_12 c_3_3 (by decide) (by decide) rfl (by decide) ?_
            refine at_aload_n C dX0_skittle_94 rfl rfl ?_
            refine at_getr (j := 2) (r := 6) C (Nat.le_of_ble_eq_true rfl) rfl rfl in_X0 (Nat.le_of_ble_eq_true rfl) rfl q218 dX0_skittle_95 ?_
            refine at_getrN (j := 2) (r := 9) C (gSt_k0 gSt_now) (layX_0 gSt_now) rfl in_X2 (Nat.le_of_ble_eq_true rfl) rfl q128 dX0_skittle_98 ?_
            refine at_iload_n C dX0_skittle_101 rfl rfl ?_
            refine at_iald C (gSt_k3 gSt_now) (layX_3 gSt_now) hw.1 rfl dX0_skittle_102 ?_
            have hw := hw.2
            exact at_iret C rfl ⟨hw, rfl⟩ dX0_skittle_103
          · have hw := hw.2 c_3_3
            by_cases c_3_4 : x2 = 4
            · have hw := hw.1 c_3_4
              refine at_tin (tgt := 104) (v := 4) C dX0_skittle_12 c_3_4 (by decide) (by decide) rfl (by decide) ?_
              refine at_aload_n C dX0_skittle_104 rfl rfl ?_
              refine at_getr (j := 2) (r := 6) C (Nat.le_of_ble_eq_true rfl) rfl rfl in_X0 (Nat.le_of_ble_eq_true rfl) rfl q218 dX0_skittle_105 ?_
              refine at_getiN (j := 5) C (gSt_k0 gSt_now) (layX_0 gSt_now) rfl in_X2 (Nat.le_of_ble_eq_true rfl) rfl q134 dX0_skittle_108 ?_
              refine at_iload_n C dX0_skittle_111 rfl rfl ?_
              refine at_ishr C dX0_skittle_112 ?_
              refine at_iconst C dX0_skittle_113 ic_1 ?_
              refine at_iand C dX0_skittle_114 ?_
              exact at_iret C rfl ⟨hw, rfl⟩ dX0_skittle_115
            · have hw := hw.2 c_3_4
              by_cases c_3_5 : x2 = 5
              · have hw := hw.1 c_3_5
                refine at_tin (tgt := 116) (v := 5) C dX0_skittle_12 c_3_5 (by decide) (by decide) rfl (by decide) ?_
                refine at_aload_n C dX0_skittle_116 rfl rfl ?_
                refine at_getr (j := 2) (r := 6) C (Nat.le_of_ble_eq_true rfl) rfl rfl in_X0 (Nat.le_of_ble_eq_true rfl) rfl q218 dX0_skittle_117 ?_
                refine at_getrN (j := 3) (r := 10) C (gSt_k0 gSt_now) (layX_0 gSt_now) rfl in_X2 (Nat.le_of_ble_eq_true rfl) rfl q130 dX0_skittle_120 ?_
                refine at_iload_n C dX0_skittle_123 rfl rfl ?_
                refine at_iald C (gSt_k4 gSt_now) (layX_4 gSt_now) hw.1 rfl dX0_skittle_124 ?_
                have hw := hw.2
                exact at_iret C rfl ⟨hw, rfl⟩ dX0_skittle_125
              · have hw := hw.2 c_3_5
                by_cases c_3_6 : x2 = 6
                · have hw := hw.1 c_3_6
                  refine at_tin (tgt := 126) (v := 6) C dX0_skittle_12 c_3_6 (by decide) (by decide) rfl (by decide) ?_
                  refine at_aload_n C dX0_skittle_126 rfl rfl ?_
                  refine at_getr (j := 2) (r := 6) C (Nat.le_of_ble_eq_true rfl) rfl rfl in_X0 (Nat.le_of_ble_eq_true rfl) rfl q218 dX0_skittle_127 ?_
                  refine at_getrN (j := 4) (r := 11) C (gSt_k0 gSt_now) (layX_0 gSt_now) rfl in_X2 (Nat.le_of_ble_eq_true rfl) rfl q132 dX0_skittle_130 ?_
                  refine at_iload_n C dX0_skittle_133 rfl rfl ?_
                  refine at_iald C (gSt_k5 gSt_now) (layX_5 gSt_now) hw.1 rfl dX0_skittle_134 ?_
                  have hw := hw.2
                  exact at_iret C rfl ⟨hw, rfl⟩ dX0_skittle_135
                · have hw := hw.2 c_3_6
                  by_cases c_3_7 : x2 = 7
                  · have hw := hw.1 c_3_7
                    refine at_tin (tgt := 136) (v := 7) C dX0_skittle_12 c_3_7 (by decide) (by decide) rfl (by decide) ?_
                    refine at_aload_n C dX0_skittle_136 rfl rfl ?_
                    refine at_iload_n C dX0_skittle_137 rfl rfl ?_
                    refine at_callp (run_V (rest := []) (As := [.int x1]) C (metX0_firstOf l D dA ad  hw) (lw_V q526 q528 qs18 q56 q529) dsX0_firstOf (gR_ok (Nat.le_of_ble_eq_true rfl) (Nat.le_of_ble_eq_true rfl)) ⟨rfl, rfl⟩ ⟨(Nat.le_of_ble_eq_true rfl), (Nat.le_of_ble_eq_true rfl)⟩ (Nat.le_of_ble_eq_true rfl) rfl rfl rfl rfl (Nat.le_of_ble_eq_true rfl) dX0_skittle_138) (fun r_4  hw => ?_)
                    exact at_iret C rfl ⟨hw, rfl⟩ dX0_skittle_141
                  · have hw := hw.2 c_3_7
                    by_cases c_3_8 : x2 = 8
                    · have hw := hw.1 c_3_8
                      refine at_tin (tgt := 142) (v := 8) C dX0_skittle_12 c_3_8 (by decide) (by decide) rfl (by decide) ?_
                      refine at_aload_n C dX0_skittle_142 rfl rfl ?_
                      refine at_getr (j := 2) (r := 6) C (Nat.le_of_ble_eq_true rfl) rfl rfl in_X0 (Nat.le_of_ble_eq_true rfl) rfl q218 dX0_skittle_143 ?_
                      refine at_iload_n C dX0_skittle_146 rfl rfl ?_
                      refine at_callp (run_V (rest := []) (As := [.int x1]) C (metX2_bears l D dA ad gSt_now hw) (lw_V q530 q463 q464 q58 q465) dsX2_bears (gR_ok (Nat.le_of_ble_eq_true rfl) (Nat.le_of_ble_eq_true rfl)) ⟨rfl, rfl⟩ ⟨(Nat.le_of_ble_eq_true rfl), (Nat.le_of_ble_eq_true rfl)⟩ (gSt_k0 gSt_now) (layX_0 gSt_now) rfl rfl rfl (Nat.le_of_ble_eq_true rfl) dX0_skittle_147) (fun r_5  hw => ?_)
                      exact at_iret C rfl ⟨hw, rfl⟩ dX0_skittle_150
                    · have hw := hw.2 c_3_8
                      refine at_tout (tgt := 151) C dX0_skittle_12 (by have h0 := lv_neT (a := 0) c_3_0 (by decide); have h1 := lv_neT (a := 1) c_3_1 (by decide); have h2 := lv_neT (a := 2) c_3_2 (by decide); have h3 := lv_neT (a := 3) c_3_3 (by decide); have h4 := lv_neT (a := 4) c_3_4 (by decide); have h5 := lv_neT (a := 5) c_3_5 (by decide); have h6 := lv_neT (a := 6) c_3_6 (by decide); have h7 := lv_neT (a := 7) c_3_7 (by decide); have h8 := lv_neT (a := 8) c_3_8 (by decide); omega) (by decide) ?_
                      refine at_ldc C q269 dX0_skittle_151 ?_
                      exact at_iret C rfl ⟨hw, rfl⟩ dX0_skittle_153
  · have hw := hw.2 c_2
    refine at_ldc C q525 dX0_skittle_8 ?_
    exact at_iret C rfl ⟨hw, rfl⟩ dX0_skittle_10
set_option maxHeartbeats 4000000 in
theorem metX0_isPlate {N : Nat} {lay : Nat → gD}  (l : Launch) (D : va_G) (dA : Nat → ClassId) (ad : Nat → Nat)    {x0 : Int32} {w : GW} {Q : Int32 → Prop} (hw : PX0_isPlate x0 Q) : Met l yX0_isPlate (ws_ yX0_isPlate cX0_isPlate 1 (some .boolean)) (gR 2) (va_Pc [.int x0] (gB D dA N ad lay w)) (va_Qi (gQ1 Q w) (gZ D dA N ad lay) (gA N ad)) 0 0 (gA N ad) := by
  refine gm_of (L := [(0, .int x0)]) (own := RX0) (by decide +kernel) rfl (Nat.le_of_ble_eq_true rfl) rfl rfl (fun p e s m below meth c C => ?_)
  unfold PX0_isPlate at hw
  refine at_iload_n C dX0_isPlate_0 rfl rfl ?_
  refine at_iconst C dX0_isPlate_1 ic_0 ?_
  refine at_bipush C dX0_isPlate_2 bp_8 ?_
  refine at_callp (run_S (rest := []) (As := [.int x0, .int 0, .int 8]) C (metX0_isIn l D dA ad  hw) (lw_S q266 q267 q56 q268) dsX0_isIn (gR_ok (Nat.le_of_ble_eq_true rfl) (Nat.le_of_ble_eq_true rfl)) ⟨rfl, rfl⟩ ⟨(Nat.le_of_ble_eq_true rfl), (Nat.le_of_ble_eq_true rfl)⟩ rfl rfl (Nat.le_of_ble_eq_true rfl) dX0_isPlate_4) (fun r_1  hw => ?_)
  exact at_zret C rfl hw.1 ⟨hw.2, rfl⟩ dX0_isPlate_7
set_option maxHeartbeats 4000000 in
theorem metX0_plate   (l : Launch) (D : va_G) (dA : Nat → ClassId) (ad : Nat → Nat)    {x1 : Int32} {w : GW} {Q : Int32 → Prop} (hw : PX0_plate x1 w Q) : Met l yX0_plate (ws_ yX0_plate cX0_plate 2 (some .int)) (gR 3) (va_Pc [.ref (ad 0), .int x1] (gB D dA 137 ad layX w)) (va_Qi (gQ1 Q w) (gZ D dA 137 ad layX) (gA 137 ad)) 0 0 (gA 137 ad) := by
  refine gm_of (L := [(0, .ref (ad 0)), (1, .int x1)]) (own := RX0) (by decide +kernel) rfl (Nat.le_of_ble_eq_true rfl) rfl rfl (fun p e s m below meth c C => ?_)
  unfold PX0_plate at hw
  refine at_iload_n C dX0_plate_0 rfl rfl ?_
  refine at_callp (run_S (rest := []) (As := [.int x1]) C (metX0_isPlate l D dA ad  hw) (lw_S q535 q536 q56 q537) dsX0_isPlate (gR_ok (Nat.le_of_ble_eq_true rfl) (Nat.le_of_ble_eq_true rfl)) ⟨rfl, rfl⟩ ⟨(Nat.le_of_ble_eq_true rfl), (Nat.le_of_ble_eq_true rfl)⟩ rfl rfl (Nat.le_of_ble_eq_true rfl) dX0_plate_1) (fun r_1  hw => ?_)
  refine at_if_eq (tgt := 18) C dX0_plate_4 (by decide) (fun c_2 => ?_) (fun c_2 => ?_)
  · have hw := hw.1 c_2
    refine at_ldc C q525 dX0_plate_18 ?_
    exact at_iret C rfl ⟨hw, rfl⟩ dX0_plate_20
  · have hw := hw.2 c_2
    refine at_aload_n C dX0_plate_7 rfl rfl ?_
    refine at_getr (j := 2) (r := 6) C (Nat.le_of_ble_eq_true rfl) rfl rfl in_X0 (Nat.le_of_ble_eq_true rfl) rfl q218 dX0_plate_8 ?_
    refine at_iload_n C dX0_plate_11 rfl rfl ?_
    refine at_callp (run_V (rest := []) (As := [.int x1]) C (metX2_onPlate l D dA ad gSt_now hw) (lw_V q538 q452 q453 q58 q454) dsX2_onPlate (gR_ok (Nat.le_of_ble_eq_true rfl) (Nat.le_of_ble_eq_true rfl)) ⟨rfl, rfl⟩ ⟨(Nat.le_of_ble_eq_true rfl), (Nat.le_of_ble_eq_true rfl)⟩ (gSt_k0 gSt_now) (layX_0 gSt_now) rfl rfl rfl (Nat.le_of_ble_eq_true rfl) dX0_plate_12) (fun r_3  hw => ?_)
    refine at_goto (tgt := 20) C dX0_plate_15 (by decide) ?_
    exact at_iret C rfl ⟨hw, rfl⟩ dX0_plate_20
set_option maxHeartbeats 4000000 in
theorem tX0_refusedBall_33     {Q : Int32 → Prop} (C : Cx p s m args meth c D dA cX0_refusedBall 5 (some .int) RX0)    {s0 : Int32} {w : GW}  (hw : PX0_refusedBall_33 Q s0 w) : gAtX p l e s m args below meth c D dA ad 2 (va_Qi (gQ1 Q w) (gZ D dA 137 ad layX) (gA 137 ad)) 5 33 [(0, .ref (ad 0))] [.int s0] w := by
  unfold PX0_refusedBall_33 at hw
  refine at_istore (L' := [(0, .ref (ad 0)), (4, .int s0)]) C dX0_refusedBall_33 (Nat.le_of_ble_eq_true rfl) rfl ?_
  refine at_iload C dX0_refusedBall_35 rfl ?_
  refine at_if_ne (tgt := 45) C dX0_refusedBall_37 (by decide) (fun c_1 => ?_) (fun c_1 => ?_)
  · have hw := hw.1 c_1
    refine at_aload_n C dX0_refusedBall_45 rfl rfl ?_
    refine at_callp (run_V (rest := []) (As := []) C (metX0_isCounty l D dA ad  hw) (lw_V q407 q409 qs7 q56 q410) dsX0_isCounty (gR_ok (Nat.le_of_ble_eq_true rfl) (Nat.le_of_ble_eq_true rfl)) ⟨rfl, rfl⟩ ⟨(Nat.le_of_ble_eq_true rfl), (Nat.le_of_ble_eq_true rfl)⟩ (Nat.le_of_ble_eq_true rfl) rfl rfl rfl rfl (Nat.le_of_ble_eq_true rfl) dX0_refusedBall_46) (fun r_2  hw => ?_)
    refine at_if_ne (tgt := 57) C dX0_refusedBall_49 (by decide) (fun c_3 => ?_) (fun c_3 => ?_)
    · have hw := hw.1 c_3
      refine at_iconst C dX0_refusedBall_57 ic_0 ?_
      exact at_iret C rfl ⟨hw, rfl⟩ dX0_refusedBall_58
    · have hw := hw.2 c_3
      refine at_ldc C q547 dX0_refusedBall_52 ?_
      refine at_goto (tgt := 58) C dX0_refusedBall_54 (by decide) ?_
      exact at_iret C rfl ⟨hw, rfl⟩ dX0_refusedBall_58
  · have hw := hw.2 c_1
    refine at_ldc C q269 dX0_refusedBall_40 ?_
    refine at_goto (tgt := 58) C dX0_refusedBall_42 (by decide) ?_
    exact at_iret C rfl ⟨hw, rfl⟩ dX0_refusedBall_58
set_option maxHeartbeats 4000000 in
theorem tX0_refusedBall_32     {Q : Int32 → Prop} (C : Cx p s m args meth c D dA cX0_refusedBall 5 (some .int) RX0)     {w : GW}  (hw : PX0_refusedBall_32 Q w) : gAtX p l e s m args below meth c D dA ad 2 (va_Qi (gQ1 Q w) (gZ D dA 137 ad layX) (gA 137 ad)) 5 32 [(0, .ref (ad 0))] [] w := by
  unfold PX0_refusedBall_32 at hw
  refine at_iconst C dX0_refusedBall_32 ic_0 ?_
  exact (tX0_refusedBall_33 C  hw)
set_option maxHeartbeats 4000000 in
theorem metX0_refusedBall   (l : Launch) (D : va_G) (dA : Nat → ClassId) (ad : Nat → Nat)    {x1 : Int32} {x2 : Int32} {x3 : Int32} {w : GW} {Q : Int32 → Prop} (hw : PX0_refusedBall x1 x2 x3 w Q) : Met l yX0_refusedBall (ws_ yX0_refusedBall cX0_refusedBall 5 (some .int)) (gR 2) (va_Pc [.ref (ad 0), .int x1, .int x2, .int x3] (gB D dA 137 ad layX w)) (va_Qi (gQ1 Q w) (gZ D dA 137 ad layX) (gA 137 ad)) 0 0 (gA 137 ad) := by
  refine gm_of (L := [(0, .ref (ad 0)), (1, .int x1), (2, .int x2), (3, .int x3)]) (own := RX0) (by decide +kernel) rfl (Nat.le_of_ble_eq_true rfl) rfl rfl (fun p e s m below meth c C => ?_)
  unfold PX0_refusedBall at hw
  refine at_iload_n C dX0_refusedBall_0 rfl rfl ?_
  refine at_iconst C dX0_refusedBall_1 ic_0 ?_
  refine at_iconst C dX0_refusedBall_2 ic_4 ?_
  refine at_callp (run_S (rest := []) (As := [.int x1, .int 0, .int 4]) C (metX0_isIn l D dA ad  hw) (lw_S q266 q267 q56 q268) dsX0_isIn (gR_ok (Nat.le_of_ble_eq_true rfl) (Nat.le_of_ble_eq_true rfl)) ⟨rfl, rfl⟩ ⟨(Nat.le_of_ble_eq_true rfl), (Nat.le_of_ble_eq_true rfl)⟩ rfl rfl (Nat.le_of_ble_eq_true rfl) dX0_refusedBall_3) (fun r_4  hw => ?_)
  refine at_if_eq (tgt := 32) C dX0_refusedBall_6 (by decide) (fun c_5 => ?_) (fun c_5 => ?_)
  · have hw := hw.1 c_5
    exact at_sub (lv_pickm [0] rfl) (tX0_refusedBall_32 C  hw)
  · have hw := hw.2 c_5
    refine at_iload_n C dX0_refusedBall_9 rfl rfl ?_
    refine at_iconst C dX0_refusedBall_10 ic_0 ?_
    refine at_iconst C dX0_refusedBall_11 ic_2 ?_
    refine at_callp (run_S (rest := []) (As := [.int x2, .int 0, .int 2]) C (metX0_isIn l D dA ad  hw) (lw_S q266 q267 q56 q268) dsX0_isIn (gR_ok (Nat.le_of_ble_eq_true rfl) (Nat.le_of_ble_eq_true rfl)) ⟨rfl, rfl⟩ ⟨(Nat.le_of_ble_eq_true rfl), (Nat.le_of_ble_eq_true rfl)⟩ rfl rfl (Nat.le_of_ble_eq_true rfl) dX0_refusedBall_12) (fun r_6  hw => ?_)
    refine at_if_eq (tgt := 32) C dX0_refusedBall_15 (by decide) (fun c_7 => ?_) (fun c_7 => ?_)
    · have hw := hw.1 c_7
      exact at_sub (lv_pickm [0] rfl) (tX0_refusedBall_32 C  hw)
    · have hw := hw.2 c_7
      refine at_iload_n C dX0_refusedBall_18 rfl rfl ?_
      refine at_iconst C dX0_refusedBall_19 ic_1 ?_
      refine at_bipush C dX0_refusedBall_20 bp_40 ?_
      refine at_callp (run_S (rest := []) (As := [.int x3, .int 1, .int 40]) C (metX0_isIn l D dA ad  hw) (lw_S q266 q267 q56 q268) dsX0_isIn (gR_ok (Nat.le_of_ble_eq_true rfl) (Nat.le_of_ble_eq_true rfl)) ⟨rfl, rfl⟩ ⟨(Nat.le_of_ble_eq_true rfl), (Nat.le_of_ble_eq_true rfl)⟩ rfl rfl (Nat.le_of_ble_eq_true rfl) dX0_refusedBall_22) (fun r_8  hw => ?_)
      refine at_if_eq (tgt := 32) C dX0_refusedBall_25 (by decide) (fun c_9 => ?_) (fun c_9 => ?_)
      · have hw := hw.1 c_9
        exact at_sub (lv_pickm [0] rfl) (tX0_refusedBall_32 C  hw)
      · have hw := hw.2 c_9
        refine at_iconst C dX0_refusedBall_28 ic_1 ?_
        refine at_goto (tgt := 33) C dX0_refusedBall_29 (by decide) ?_
        exact at_sub (lv_pickm [0] rfl) (tX0_refusedBall_33 C  hw)
set_option maxHeartbeats 4000000 in
theorem tX0_remember_50     {Q : GW → Prop} (C : Cx p s m args meth c D dA cX0_remember 2 none RX0)     {w : GW}  (hw : PX0_remember_50 Q w) : gAtX p l e s m args below meth c D dA ad 3 (va_Qv Q (gZ D dA 137 ad layX) (gA 137 ad)) 2 50 [(0, .ref (ad 0))] [] w := by
  unfold PX0_remember_50 at hw
  refine at_aload_n C dX0_remember_50 rfl rfl ?_
  refine at_getr (j := 4) (r := 18) C (Nat.le_of_ble_eq_true rfl) rfl rfl in_X0 (Nat.le_of_ble_eq_true rfl) rfl q220 dX0_remember_51 ?_
  refine at_aload_n C dX0_remember_54 rfl rfl ?_
  refine at_geti (j := 5) C (Nat.le_of_ble_eq_true rfl) rfl rfl in_X0 (Nat.le_of_ble_eq_true rfl) rfl q221 dX0_remember_55 ?_
  have hk_1 := hw.1
  have hw := hw.2
  refine at_aldq (r := gUn (w 0 5)) C (Nat.le_of_ble_eq_true rfl) rfl rfl hk_1 (gUn_rd hk_1) dX0_remember_58 ?_
  refine at_aload_n C dX0_remember_59 rfl rfl ?_
  refine at_getr (j := 2) (r := 6) C (Nat.le_of_ble_eq_true rfl) rfl rfl in_X0 (Nat.le_of_ble_eq_true rfl) rfl q218 dX0_remember_60 ?_
  refine at_callv (run_V (rest := []) (As := [.ref (ad 6)]) C (metX2_set l D dA ad (gUn_ok hk_1) gSt_now hw) (lw_V q426 q427 q428 q58 q429) dsX2_set (gR_ok (Nat.le_of_ble_eq_true rfl) (Nat.le_of_ble_eq_true rfl)) ⟨rfl, rfl⟩ ⟨(Nat.le_of_ble_eq_true rfl), (Nat.le_of_ble_eq_true rfl)⟩ (gSt_k0 (gUn_ok hk_1)) (layX_0 (gUn_ok hk_1)) rfl rfl rfl (Nat.le_of_ble_eq_true rfl) dX0_remember_63) (fun  w_3 hw => ?_)
  refine at_aload_n C dX0_remember_66 rfl rfl ?_
  refine at_dup C dX0_remember_67 rfl ?_
  refine at_geti (j := 5) C (Nat.le_of_ble_eq_true rfl) rfl rfl in_X0 (Nat.le_of_ble_eq_true rfl) rfl q221 dX0_remember_68 ?_
  refine at_iconst C dX0_remember_71 ic_1 ?_
  refine at_iadd C dX0_remember_72 ?_
  refine at_puti (j := 5) C (Nat.le_of_ble_eq_true rfl) rfl rfl in_X0 (Nat.le_of_ble_eq_true rfl) rfl q221 tyX0 tyX0_ok nmX0 rfl rfl rfl dX0_remember_73 (fun w_4 ew_4 => ?_)
  have hw := hw w_4 ew_4
  exact at_vret C rfl hw dX0_remember_76
set_option maxHeartbeats 4000000 in
theorem tX0_remember_11     {Q : GW → Prop} (C : Cx p s m args meth c D dA cX0_remember 2 none RX0)       : ∀ (n : Nat) (x1 : Int32) (w : GW), PX0_remember_11 Q n x1 w → gAtX p l e s m args below meth c D dA ad 3 (va_Qv Q (gZ D dA 137 ad layX) (gA 137 ad)) 2 11 [(0, .ref (ad 0)), (1, .int x1)] [] w := by
  intro n
  induction n with
  | zero => intro x1 w hw; exact False.elim hw
  | succ n ih =>
    intro x1 w hw
    unfold PX0_remember_11 at hw
    refine at_iload_n C dX0_remember_11 rfl rfl ?_
    refine at_bipush C dX0_remember_12 bp_16 ?_
    refine at_icmp_ge (tgt := 40) C dX0_remember_14 (by decide) (fun c_5 => ?_) (fun c_5 => ?_)
    · have hw := hw.1 c_5
      refine at_aload_n C dX0_remember_40 rfl rfl ?_
      refine at_dup C dX0_remember_41 rfl ?_
      refine at_geti (j := 5) C (Nat.le_of_ble_eq_true rfl) rfl rfl in_X0 (Nat.le_of_ble_eq_true rfl) rfl q221 dX0_remember_42 ?_
      refine at_iconst C dX0_remember_45 ic_1 ?_
      refine at_isub C dX0_remember_46 ?_
      refine at_puti (j := 5) C (Nat.le_of_ble_eq_true rfl) rfl rfl in_X0 (Nat.le_of_ble_eq_true rfl) rfl q221 tyX0 tyX0_ok nmX0 rfl rfl rfl dX0_remember_47 (fun w_6 ew_6 => ?_)
      have hw := hw w_6 ew_6
      exact at_sub (lv_pickm [0] rfl) (tX0_remember_50 C  hw)
    · have hw := hw.2 c_5
      refine at_aload_n C dX0_remember_17 rfl rfl ?_
      refine at_getr (j := 4) (r := 18) C (Nat.le_of_ble_eq_true rfl) rfl rfl in_X0 (Nat.le_of_ble_eq_true rfl) rfl q220 dX0_remember_18 ?_
      refine at_iload_n C dX0_remember_21 rfl rfl ?_
      refine at_iconst C dX0_remember_22 ic_1 ?_
      refine at_isub C dX0_remember_23 ?_
      have hk_7 := hw.1
      have hw := hw.2
      refine at_aldq (r := gUn (x1 - 1)) C (Nat.le_of_ble_eq_true rfl) rfl rfl hk_7 (gUn_rd hk_7) dX0_remember_24 ?_
      refine at_aload_n C dX0_remember_25 rfl rfl ?_
      refine at_getr (j := 4) (r := 18) C (Nat.le_of_ble_eq_true rfl) rfl rfl in_X0 (Nat.le_of_ble_eq_true rfl) rfl q220 dX0_remember_26 ?_
      refine at_iload_n C dX0_remember_29 rfl rfl ?_
      have hk_8 := hw.1
      have hw := hw.2
      refine at_aldq (r := gUn x1) C (Nat.le_of_ble_eq_true rfl) rfl rfl hk_8 (gUn_rd hk_8) dX0_remember_30 ?_
      refine at_callv (run_V (rest := []) (As := [.ref (ad (gUn x1))]) C (metX2_set l D dA ad (gUn_ok hk_7) (gUn_ok hk_8) hw) (lw_V q426 q427 q428 q58 q429) dsX2_set (gR_ok (Nat.le_of_ble_eq_true rfl) (Nat.le_of_ble_eq_true rfl)) ⟨rfl, rfl⟩ ⟨(Nat.le_of_ble_eq_true rfl), (Nat.le_of_ble_eq_true rfl)⟩ (gSt_k0 (gUn_ok hk_7)) (layX_0 (gUn_ok hk_7)) rfl rfl rfl (Nat.le_of_ble_eq_true rfl) dX0_remember_31) (fun  w_10 hw => ?_)
      refine at_iinc (F := fun z_ => [(0, .ref (ad 0)), (1, .int z_)]) C dX0_remember_34 rfl ic_1 (Nat.le_of_ble_eq_true rfl) (fun _ => rfl) (fun v1_11 e1_11 => ?_)
      have hw := hw v1_11 e1_11
      refine at_goto (tgt := 11) C dX0_remember_37 (by decide) ?_
      exact ih _ _ hw
set_option maxHeartbeats 4000000 in
theorem metX0_remember   (l : Launch) (D : va_G) (dA : Nat → ClassId) (ad : Nat → Nat)     {w : GW} {Q : GW → Prop} (hw : PX0_remember w Q) : Met l yX0_remember (ws_ yX0_remember cX0_remember 2 none) (gR 3) (va_Pc [.ref (ad 0)] (gB D dA 137 ad layX w)) (va_Qv Q (gZ D dA 137 ad layX) (gA 137 ad)) 0 0 (gA 137 ad) := by
  refine gm_of (L := [(0, .ref (ad 0))]) (own := RX0) (by decide +kernel) rfl (Nat.le_of_ble_eq_true rfl) rfl rfl (fun p e s m below meth c C => ?_)
  unfold PX0_remember at hw
  refine at_aload_n C dX0_remember_0 rfl rfl ?_
  refine at_geti (j := 5) C (Nat.le_of_ble_eq_true rfl) rfl rfl in_X0 (Nat.le_of_ble_eq_true rfl) rfl q221 dX0_remember_1 ?_
  refine at_bipush C dX0_remember_4 bp_16 ?_
  refine at_icmp_ne (tgt := 50) C dX0_remember_6 (by decide) (fun c_12 => ?_) (fun c_12 => ?_)
  · have hw := hw.1 c_12
    exact (tX0_remember_50 C  hw)
  · have hw := hw.2 c_12
    refine at_iconst C dX0_remember_9 ic_1 ?_
    refine at_istore_n (L' := [(0, .ref (ad 0)), (1, .int 1)]) C dX0_remember_10 rfl (Nat.le_of_ble_eq_true rfl) rfl ?_
    obtain ⟨n_13, hw⟩ := hw
    exact (tX0_remember_11 C  _ _ _ hw)
set_option maxHeartbeats 4000000 in
theorem metX0_ball   (l : Launch) (D : va_G) (dA : Nat → ClassId) (ad : Nat → Nat)    {x1 : Int32} {x2 : Int32} {x3 : Int32} {w : GW} {Q : Int32 → GW → Prop} (hw : PX0_ball x1 x2 x3 w Q) : Met l yX0_ball (ws_ yX0_ball cX0_ball 4 (some .int)) (gR 25) (va_Pc [.ref (ad 0), .int x1, .int x2, .int x3] (gB D dA 137 ad layX w)) (va_Qi Q (gZ D dA 137 ad layX) (gA 137 ad)) 0 0 (gA 137 ad) := by
  refine gm_of (L := [(0, .ref (ad 0)), (1, .int x1), (2, .int x2), (3, .int x3)]) (own := RX0) (by decide +kernel) rfl (Nat.le_of_ble_eq_true rfl) rfl rfl (fun p e s m below meth c C => ?_)
  unfold PX0_ball at hw
  refine at_aload_n C dX0_ball_0 rfl rfl ?_
  refine at_iload_n C dX0_ball_1 rfl rfl ?_
  refine at_iload_n C dX0_ball_2 rfl rfl ?_
  refine at_iload_n C dX0_ball_3 rfl rfl ?_
  refine at_callp (run_V (rest := []) (As := [.int x1, .int x2, .int x3]) C (metX0_refusedBall l D dA ad  hw) (lw_V q543 q545 qs19 q56 q546) dsX0_refusedBall (gR_ok (Nat.le_of_ble_eq_true rfl) (Nat.le_of_ble_eq_true rfl)) ⟨rfl, rfl⟩ ⟨(Nat.le_of_ble_eq_true rfl), (Nat.le_of_ble_eq_true rfl)⟩ (Nat.le_of_ble_eq_true rfl) rfl rfl rfl rfl (Nat.le_of_ble_eq_true rfl) dX0_ball_4) (fun r_1  hw => ?_)
  refine at_if_ge (tgt := 18) C dX0_ball_7 (by decide) (fun c_2 => ?_) (fun c_2 => ?_)
  · have hw := hw.1 c_2
    refine at_aload_n C dX0_ball_18 rfl rfl ?_
    refine at_callv (run_V (rest := []) (As := []) C (metX0_remember l D dA ad  hw) (lw_V q548 q550 qs20 q56 q551) dsX0_remember (gR_ok (Nat.le_of_ble_eq_true rfl) (Nat.le_of_ble_eq_true rfl)) ⟨rfl, rfl⟩ ⟨(Nat.le_of_ble_eq_true rfl), (Nat.le_of_ble_eq_true rfl)⟩ (Nat.le_of_ble_eq_true rfl) rfl rfl rfl rfl (Nat.le_of_ble_eq_true rfl) dX0_ball_19) (fun  w_4 hw => ?_)
    refine at_aload_n C dX0_ball_22 rfl rfl ?_
    refine at_getr (j := 2) (r := 6) C (Nat.le_of_ble_eq_true rfl) rfl rfl in_X0 (Nat.le_of_ble_eq_true rfl) rfl q218 dX0_ball_23 ?_
    refine at_iload_n C dX0_ball_26 rfl rfl ?_
    refine at_iload_n C dX0_ball_27 rfl rfl ?_
    refine at_iload_n C dX0_ball_28 rfl rfl ?_
    refine at_calli (run_V (rest := []) (As := [.int x1, .int x2, .int x3]) C (metX2_throwBall l D dA ad gSt_now hw) (lw_V q552 q553 q554 q58 q555) dsX2_throwBall (gR_ok (Nat.le_of_ble_eq_true rfl) (Nat.le_of_ble_eq_true rfl)) ⟨rfl, rfl⟩ ⟨(Nat.le_of_ble_eq_true rfl), (Nat.le_of_ble_eq_true rfl)⟩ (gSt_k0 gSt_now) (layX_0 gSt_now) rfl rfl rfl (Nat.le_of_ble_eq_true rfl) dX0_ball_29) (fun r_5 w_6 hw => ?_)
    exact at_iret C rfl hw dX0_ball_32
  · have hw := hw.2 c_2
    refine at_aload_n C dX0_ball_10 rfl rfl ?_
    refine at_iload_n C dX0_ball_11 rfl rfl ?_
    refine at_iload_n C dX0_ball_12 rfl rfl ?_
    refine at_iload_n C dX0_ball_13 rfl rfl ?_
    refine at_callp (run_V (rest := []) (As := [.int x1, .int x2, .int x3]) C (metX0_refusedBall l D dA ad  hw) (lw_V q543 q545 qs19 q56 q546) dsX0_refusedBall (gR_ok (Nat.le_of_ble_eq_true rfl) (Nat.le_of_ble_eq_true rfl)) ⟨rfl, rfl⟩ ⟨(Nat.le_of_ble_eq_true rfl), (Nat.le_of_ble_eq_true rfl)⟩ (Nat.le_of_ble_eq_true rfl) rfl rfl rfl rfl (Nat.le_of_ble_eq_true rfl) dX0_ball_14) (fun r_7  hw => ?_)
    exact at_iret C rfl hw dX0_ball_17
set_option maxHeartbeats 4000000 in
theorem metX0_setUp   (l : Launch) (D : va_G) (dA : Nat → ClassId) (ad : Nat → Nat)     {w : GW} {Q : Int32 → GW → Prop} (hw : PX0_setUp w Q) : Met l yX0_setUp (ws_ yX0_setUp cX0_setUp 1 (some .int)) (gR 4) (va_Pc [.ref (ad 0)] (gB D dA 137 ad layX w)) (va_Qi Q (gZ D dA 137 ad layX) (gA 137 ad)) 0 0 (gA 137 ad) := by
  refine gm_of (L := [(0, .ref (ad 0))]) (own := RX0) (by decide +kernel) rfl (Nat.le_of_ble_eq_true rfl) rfl rfl (fun p e s m below meth c C => ?_)
  unfold PX0_setUp at hw
  refine at_aload_n C dX0_setUp_0 rfl rfl ?_
  refine at_callp (run_V (rest := []) (As := []) C (metX0_isCounty l D dA ad  hw) (lw_V q407 q409 qs7 q56 q410) dsX0_isCounty (gR_ok (Nat.le_of_ble_eq_true rfl) (Nat.le_of_ble_eq_true rfl)) ⟨rfl, rfl⟩ ⟨(Nat.le_of_ble_eq_true rfl), (Nat.le_of_ble_eq_true rfl)⟩ (Nat.le_of_ble_eq_true rfl) rfl rfl rfl rfl (Nat.le_of_ble_eq_true rfl) dX0_setUp_1) (fun r_1  hw => ?_)
  refine at_if_ne (tgt := 10) C dX0_setUp_4 (by decide) (fun c_2 => ?_) (fun c_2 => ?_)
  · have hw := hw.1 c_2
    refine at_aload_n C dX0_setUp_10 rfl rfl ?_
    refine at_callv (run_V (rest := []) (As := []) C (metX0_remember l D dA ad  hw) (lw_V q548 q550 qs20 q56 q551) dsX0_remember (gR_ok (Nat.le_of_ble_eq_true rfl) (Nat.le_of_ble_eq_true rfl)) ⟨rfl, rfl⟩ ⟨(Nat.le_of_ble_eq_true rfl), (Nat.le_of_ble_eq_true rfl)⟩ (Nat.le_of_ble_eq_true rfl) rfl rfl rfl rfl (Nat.le_of_ble_eq_true rfl) dX0_setUp_11) (fun  w_4 hw => ?_)
    refine at_aload_n C dX0_setUp_14 rfl rfl ?_
    refine at_getr (j := 2) (r := 6) C (Nat.le_of_ble_eq_true rfl) rfl rfl in_X0 (Nat.le_of_ble_eq_true rfl) rfl q218 dX0_setUp_15 ?_
    refine at_calli (run_V (rest := []) (As := []) C (metX2_setUp l D dA ad gSt_now hw) (lw_V q560 q561 q562 q58 q563) dsX2_setUp (gR_ok (Nat.le_of_ble_eq_true rfl) (Nat.le_of_ble_eq_true rfl)) ⟨rfl, rfl⟩ ⟨(Nat.le_of_ble_eq_true rfl), (Nat.le_of_ble_eq_true rfl)⟩ (gSt_k0 gSt_now) (layX_0 gSt_now) rfl rfl rfl (Nat.le_of_ble_eq_true rfl) dX0_setUp_18) (fun r_5 w_6 hw => ?_)
    exact at_iret C rfl hw dX0_setUp_21
  · have hw := hw.2 c_2
    refine at_ldc C q547 dX0_setUp_7 ?_
    exact at_iret C rfl hw dX0_setUp_9
set_option maxHeartbeats 4000000 in
theorem metX0_lift   (l : Launch) (D : va_G) (dA : Nat → ClassId) (ad : Nat → Nat)    {x1 : Int32} {w : GW} {Q : Int32 → GW → Prop} (hw : PX0_lift x1 w Q) : Met l yX0_lift (ws_ yX0_lift cX0_lift 2 (some .int)) (gR 4) (va_Pc [.ref (ad 0), .int x1] (gB D dA 137 ad layX w)) (va_Qi Q (gZ D dA 137 ad layX) (gA 137 ad)) 0 0 (gA 137 ad) := by
  refine gm_of (L := [(0, .ref (ad 0)), (1, .int x1)]) (own := RX0) (by decide +kernel) rfl (Nat.le_of_ble_eq_true rfl) rfl rfl (fun p e s m below meth c C => ?_)
  unfold PX0_lift at hw
  refine at_aload_n C dX0_lift_0 rfl rfl ?_
  refine at_iload_n C dX0_lift_1 rfl rfl ?_
  refine at_callp (run_V (rest := []) (As := [.int x1]) C (metX0_isSkittle l D dA ad  hw) (lw_V q521 q523 qs17 q56 q524) dsX0_isSkittle (gR_ok (Nat.le_of_ble_eq_true rfl) (Nat.le_of_ble_eq_true rfl)) ⟨rfl, rfl⟩ ⟨(Nat.le_of_ble_eq_true rfl), (Nat.le_of_ble_eq_true rfl)⟩ (Nat.le_of_ble_eq_true rfl) rfl rfl rfl rfl (Nat.le_of_ble_eq_true rfl) dX0_lift_2) (fun r_1  hw => ?_)
  refine at_if_ne (tgt := 11) C dX0_lift_5 (by decide) (fun c_2 => ?_) (fun c_2 => ?_)
  · have hw := hw.1 c_2
    refine at_aload_n C dX0_lift_11 rfl rfl ?_
    refine at_getr (j := 2) (r := 6) C (Nat.le_of_ble_eq_true rfl) rfl rfl in_X0 (Nat.le_of_ble_eq_true rfl) rfl q218 dX0_lift_12 ?_
    refine at_getiN (j := 5) C (gSt_k0 gSt_now) (layX_0 gSt_now) rfl in_X2 (Nat.le_of_ble_eq_true rfl) rfl q134 dX0_lift_15 ?_
    refine at_iload_n C dX0_lift_18 rfl rfl ?_
    refine at_callp (run_S (rest := []) (As := [.int (w 6 5), .int x1]) C (metX0_has l D dA ad  hw) (lw_S q504 q456 q56 q457) dsX0_has (gR_ok (Nat.le_of_ble_eq_true rfl) (Nat.le_of_ble_eq_true rfl)) ⟨rfl, rfl⟩ ⟨(Nat.le_of_ble_eq_true rfl), (Nat.le_of_ble_eq_true rfl)⟩ rfl rfl (Nat.le_of_ble_eq_true rfl) dX0_lift_19) (fun r_3  hw => ?_)
    refine at_if_eq (tgt := 28) C dX0_lift_22 (by decide) (fun c_4 => ?_) (fun c_4 => ?_)
    · have hw := hw.1 c_4
      refine at_aload_n C dX0_lift_28 rfl rfl ?_
      refine at_callv (run_V (rest := []) (As := []) C (metX0_remember l D dA ad  hw) (lw_V q548 q550 qs20 q56 q551) dsX0_remember (gR_ok (Nat.le_of_ble_eq_true rfl) (Nat.le_of_ble_eq_true rfl)) ⟨rfl, rfl⟩ ⟨(Nat.le_of_ble_eq_true rfl), (Nat.le_of_ble_eq_true rfl)⟩ (Nat.le_of_ble_eq_true rfl) rfl rfl rfl rfl (Nat.le_of_ble_eq_true rfl) dX0_lift_29) (fun  w_6 hw => ?_)
      refine at_aload_n C dX0_lift_32 rfl rfl ?_
      refine at_getr (j := 2) (r := 6) C (Nat.le_of_ble_eq_true rfl) rfl rfl in_X0 (Nat.le_of_ble_eq_true rfl) rfl q218 dX0_lift_33 ?_
      refine at_dup C dX0_lift_36 rfl ?_
      refine at_getiN (j := 5) C (gSt_k0 gSt_now) (layX_0 gSt_now) rfl in_X2 (Nat.le_of_ble_eq_true rfl) rfl q134 dX0_lift_37 ?_
      refine at_iconst C dX0_lift_40 ic_1 ?_
      refine at_iload_n C dX0_lift_41 rfl rfl ?_
      refine at_ishl C dX0_lift_42 ?_
      refine at_ior C dX0_lift_43 ?_
      refine at_putiN (j := 5) C (gSt_k0 gSt_now) (layX_0 gSt_now) rfl in_X2 (Nat.le_of_ble_eq_true rfl) rfl q134 tyX2 tyX2_ok nmX2 rfl rfl rfl dX0_lift_44 (fun w_7 ew_7 => ?_)
      have hw := hw w_7 ew_7
      refine at_aload_n C dX0_lift_47 rfl rfl ?_
      refine at_getr (j := 2) (r := 6) C (Nat.le_of_ble_eq_true rfl) rfl rfl in_X0 (Nat.le_of_ble_eq_true rfl) rfl q218 dX0_lift_48 ?_
      refine at_getiN (j := 5) C (gSt_k0 gSt_now) (layX_0 gSt_now) rfl in_X2 (Nat.le_of_ble_eq_true rfl) rfl q134 dX0_lift_51 ?_
      refine at_callp (run_S (rest := []) (As := [.int (w_7 6 5)]) C (metJ4_bitCount l D dA ad  hw) (lw_S q493 q494 q71 q495) dsJ4_bitCount (gR_ok (Nat.le_of_ble_eq_true rfl) (Nat.le_of_ble_eq_true rfl)) ⟨rfl, rfl⟩ ⟨(Nat.le_of_ble_eq_true rfl), (Nat.le_of_ble_eq_true rfl)⟩ rfl rfl (Nat.le_of_ble_eq_true rfl) dX0_lift_54) (fun r_8  hw => ?_)
      exact at_iret C rfl hw dX0_lift_57
    · have hw := hw.2 c_4
      refine at_ldc C q547 dX0_lift_25 ?_
      exact at_iret C rfl hw dX0_lift_27
  · have hw := hw.2 c_2
    refine at_ldc C q525 dX0_lift_8 ?_
    exact at_iret C rfl hw dX0_lift_10
set_option maxHeartbeats 4000000 in
theorem metX0_change   (l : Launch) (D : va_G) (dA : Nat → ClassId) (ad : Nat → Nat)    {x1 : Int32} {x2 : Int32} {w : GW} {Q : Int32 → GW → Prop} (hw : PX0_change x1 x2 w Q) : Met l yX0_change (ws_ yX0_change cX0_change 3 (some .int)) (gR 4) (va_Pc [.ref (ad 0), .int x1, .int x2] (gB D dA 137 ad layX w)) (va_Qi Q (gZ D dA 137 ad layX) (gA 137 ad)) 0 0 (gA 137 ad) := by
  refine gm_of (L := [(0, .ref (ad 0)), (1, .int x1), (2, .int x2)]) (own := RX0) (by decide +kernel) rfl (Nat.le_of_ble_eq_true rfl) rfl rfl (fun p e s m below meth c C => ?_)
  unfold PX0_change at hw
  refine at_iload_n C dX0_change_0 rfl rfl ?_
  refine at_callp (run_S (rest := []) (As := [.int x1]) C (metX0_isPlate l D dA ad  hw) (lw_S q535 q536 q56 q537) dsX0_isPlate (gR_ok (Nat.le_of_ble_eq_true rfl) (Nat.le_of_ble_eq_true rfl)) ⟨rfl, rfl⟩ ⟨(Nat.le_of_ble_eq_true rfl), (Nat.le_of_ble_eq_true rfl)⟩ rfl rfl (Nat.le_of_ble_eq_true rfl) dX0_change_1) (fun r_1  hw => ?_)
  refine at_if_eq (tgt := 19) C dX0_change_4 (by decide) (fun c_2 => ?_) (fun c_2 => ?_)
  · have hw := hw.1 c_2
    refine at_ldc C q525 dX0_change_19 ?_
    exact at_iret C rfl hw dX0_change_21
  · have hw := hw.2 c_2
    refine at_iload_n C dX0_change_7 rfl rfl ?_
    refine at_callp (run_S (rest := []) (As := [.int x2]) C (metX0_isPlate l D dA ad  hw) (lw_S q535 q536 q56 q537) dsX0_isPlate (gR_ok (Nat.le_of_ble_eq_true rfl) (Nat.le_of_ble_eq_true rfl)) ⟨rfl, rfl⟩ ⟨(Nat.le_of_ble_eq_true rfl), (Nat.le_of_ble_eq_true rfl)⟩ rfl rfl (Nat.le_of_ble_eq_true rfl) dX0_change_8) (fun r_3  hw => ?_)
    refine at_if_eq (tgt := 19) C dX0_change_11 (by decide) (fun c_4 => ?_) (fun c_4 => ?_)
    · have hw := hw.1 c_4
      refine at_ldc C q525 dX0_change_19 ?_
      exact at_iret C rfl hw dX0_change_21
    · have hw := hw.2 c_4
      refine at_iload_n C dX0_change_14 rfl rfl ?_
      refine at_iload_n C dX0_change_15 rfl rfl ?_
      refine at_icmp_ne (tgt := 22) C dX0_change_16 (by decide) (fun c_5 => ?_) (fun c_5 => ?_)
      · have hw := hw.1 c_5
        refine at_aload_n C dX0_change_22 rfl rfl ?_
        refine at_callv (run_V (rest := []) (As := []) C (metX0_remember l D dA ad  hw) (lw_V q548 q550 qs20 q56 q551) dsX0_remember (gR_ok (Nat.le_of_ble_eq_true rfl) (Nat.le_of_ble_eq_true rfl)) ⟨rfl, rfl⟩ ⟨(Nat.le_of_ble_eq_true rfl), (Nat.le_of_ble_eq_true rfl)⟩ (Nat.le_of_ble_eq_true rfl) rfl rfl rfl rfl (Nat.le_of_ble_eq_true rfl) dX0_change_23) (fun  w_7 hw => ?_)
        refine at_aload_n C dX0_change_26 rfl rfl ?_
        refine at_getr (j := 2) (r := 6) C (Nat.le_of_ble_eq_true rfl) rfl rfl in_X0 (Nat.le_of_ble_eq_true rfl) rfl q218 dX0_change_27 ?_
        refine at_iload_n C dX0_change_30 rfl rfl ?_
        refine at_iload_n C dX0_change_31 rfl rfl ?_
        refine at_callv (run_V (rest := []) (As := [.int x1, .int x2]) C (metX2_change l D dA ad gSt_now hw) (lw_V q573 q574 q575 q58 q576) dsX2_change (gR_ok (Nat.le_of_ble_eq_true rfl) (Nat.le_of_ble_eq_true rfl)) ⟨rfl, rfl⟩ ⟨(Nat.le_of_ble_eq_true rfl), (Nat.le_of_ble_eq_true rfl)⟩ (gSt_k0 gSt_now) (layX_0 gSt_now) rfl rfl rfl (Nat.le_of_ble_eq_true rfl) dX0_change_32) (fun  w_9 hw => ?_)
        refine at_aload_n C dX0_change_35 rfl rfl ?_
        refine at_getr (j := 2) (r := 6) C (Nat.le_of_ble_eq_true rfl) rfl rfl in_X0 (Nat.le_of_ble_eq_true rfl) rfl q218 dX0_change_36 ?_
        refine at_iload_n C dX0_change_39 rfl rfl ?_
        refine at_callp (run_V (rest := []) (As := [.int x1]) C (metX2_onPlate l D dA ad gSt_now hw) (lw_V q538 q452 q453 q58 q454) dsX2_onPlate (gR_ok (Nat.le_of_ble_eq_true rfl) (Nat.le_of_ble_eq_true rfl)) ⟨rfl, rfl⟩ ⟨(Nat.le_of_ble_eq_true rfl), (Nat.le_of_ble_eq_true rfl)⟩ (gSt_k0 gSt_now) (layX_0 gSt_now) rfl rfl rfl (Nat.le_of_ble_eq_true rfl) dX0_change_40) (fun r_10  hw => ?_)
        exact at_iret C rfl hw dX0_change_43
      · have hw := hw.2 c_5
        refine at_ldc C q525 dX0_change_19 ?_
        exact at_iret C rfl hw dX0_change_21
set_option maxHeartbeats 4000000 in
theorem metX0_chip   (l : Launch) (D : va_G) (dA : Nat → ClassId) (ad : Nat → Nat)    {x1 : Int32} {x2 : Int32} {w : GW} {Q : Int32 → GW → Prop} (hw : PX0_chip x1 x2 w Q) : Met l yX0_chip (ws_ yX0_chip cX0_chip 4 (some .int)) (gR 4) (va_Pc [.ref (ad 0), .int x1, .int x2] (gB D dA 137 ad layX w)) (va_Qi Q (gZ D dA 137 ad layX) (gA 137 ad)) 0 0 (gA 137 ad) := by
  refine gm_of (L := [(0, .ref (ad 0)), (1, .int x1), (2, .int x2)]) (own := RX0) (by decide +kernel) rfl (Nat.le_of_ble_eq_true rfl) rfl rfl (fun p e s m below meth c C => ?_)
  unfold PX0_chip at hw
  refine at_aload_n C dX0_chip_0 rfl rfl ?_
  refine at_iload_n C dX0_chip_1 rfl rfl ?_
  refine at_callp (run_V (rest := []) (As := [.int x1]) C (metX0_isSkittle l D dA ad  hw) (lw_V q521 q523 qs17 q56 q524) dsX0_isSkittle (gR_ok (Nat.le_of_ble_eq_true rfl) (Nat.le_of_ble_eq_true rfl)) ⟨rfl, rfl⟩ ⟨(Nat.le_of_ble_eq_true rfl), (Nat.le_of_ble_eq_true rfl)⟩ (Nat.le_of_ble_eq_true rfl) rfl rfl rfl rfl (Nat.le_of_ble_eq_true rfl) dX0_chip_2) (fun r_1  hw => ?_)
  refine at_if_ne (tgt := 11) C dX0_chip_5 (by decide) (fun c_2 => ?_) (fun c_2 => ?_)
  · have hw := hw.1 c_2
    refine at_iload_n C dX0_chip_11 rfl rfl ?_
    refine at_iconst C dX0_chip_12 ic_0 ?_
    refine at_bipush C dX0_chip_13 bp_9 ?_
    refine at_callp (run_S (rest := []) (As := [.int x2, .int 0, .int 9]) C (metX0_isIn l D dA ad  hw) (lw_S q266 q267 q56 q268) dsX0_isIn (gR_ok (Nat.le_of_ble_eq_true rfl) (Nat.le_of_ble_eq_true rfl)) ⟨rfl, rfl⟩ ⟨(Nat.le_of_ble_eq_true rfl), (Nat.le_of_ble_eq_true rfl)⟩ rfl rfl (Nat.le_of_ble_eq_true rfl) dX0_chip_15) (fun r_3  hw => ?_)
    refine at_if_ne (tgt := 24) C dX0_chip_18 (by decide) (fun c_4 => ?_) (fun c_4 => ?_)
    · have hw := hw.1 c_4
      refine at_aload_n C dX0_chip_24 rfl rfl ?_
      refine at_callv (run_V (rest := []) (As := []) C (metX0_remember l D dA ad  hw) (lw_V q548 q550 qs20 q56 q551) dsX0_remember (gR_ok (Nat.le_of_ble_eq_true rfl) (Nat.le_of_ble_eq_true rfl)) ⟨rfl, rfl⟩ ⟨(Nat.le_of_ble_eq_true rfl), (Nat.le_of_ble_eq_true rfl)⟩ (Nat.le_of_ble_eq_true rfl) rfl rfl rfl rfl (Nat.le_of_ble_eq_true rfl) dX0_chip_25) (fun  w_6 hw => ?_)
      refine at_aload_n C dX0_chip_28 rfl rfl ?_
      refine at_getr (j := 2) (r := 6) C (Nat.le_of_ble_eq_true rfl) rfl rfl in_X0 (Nat.le_of_ble_eq_true rfl) rfl q218 dX0_chip_29 ?_
      refine at_getrN (j := 1) (r := 8) C (gSt_k0 gSt_now) (layX_0 gSt_now) rfl in_X2 (Nat.le_of_ble_eq_true rfl) rfl q126 dX0_chip_32 ?_
      refine at_iload_n C dX0_chip_35 rfl rfl ?_
      refine at_iald C (gSt_k2 gSt_now) (layX_2 gSt_now) hw.1 rfl dX0_chip_36 ?_
      have hw := hw.2
      refine at_topi (fun v3_7 e3_7 => ?_)
      have hw := hw v3_7 e3_7
      refine at_istore_n (L' := [(0, .ref (ad 0)), (1, .int x1), (2, .int x2), (3, .int v3_7)]) C dX0_chip_37 rfl (Nat.le_of_ble_eq_true rfl) rfl ?_
      refine at_aload_n C dX0_chip_38 rfl rfl ?_
      refine at_getr (j := 2) (r := 6) C (Nat.le_of_ble_eq_true rfl) rfl rfl in_X0 (Nat.le_of_ble_eq_true rfl) rfl q218 dX0_chip_39 ?_
      refine at_getrN (j := 1) (r := 8) C (gSt_k0 gSt_now) (layX_0 gSt_now) rfl in_X2 (Nat.le_of_ble_eq_true rfl) rfl q126 dX0_chip_42 ?_
      refine at_iload_n C dX0_chip_45 rfl rfl ?_
      refine at_iload_n C dX0_chip_46 rfl rfl ?_
      refine at_iast C (gSt_k2 gSt_now) (layX_2 gSt_now) hw.1 rfl dX0_chip_47 (fun w_8 ew_8 => ?_)
      have hw := hw.2 w_8 ew_8
      refine at_iload_n C dX0_chip_48 rfl rfl ?_
      exact at_iret C rfl hw dX0_chip_49
    · have hw := hw.2 c_4
      refine at_ldc C q269 dX0_chip_21 ?_
      exact at_iret C rfl hw dX0_chip_23
  · have hw := hw.2 c_2
    refine at_ldc C q525 dX0_chip_8 ?_
    exact at_iret C rfl hw dX0_chip_10
set_option maxHeartbeats 4000000 in
theorem metX0_replace   (l : Launch) (D : va_G) (dA : Nat → ClassId) (ad : Nat → Nat)    {x1 : Int32} {w : GW} {Q : Int32 → GW → Prop} (hw : PX0_replace x1 w Q) : Met l yX0_replace (ws_ yX0_replace cX0_replace 3 (some .int)) (gR 4) (va_Pc [.ref (ad 0), .int x1] (gB D dA 137 ad layX w)) (va_Qi Q (gZ D dA 137 ad layX) (gA 137 ad)) 0 0 (gA 137 ad) := by
  refine gm_of (L := [(0, .ref (ad 0)), (1, .int x1)]) (own := RX0) (by decide +kernel) rfl (Nat.le_of_ble_eq_true rfl) rfl rfl (fun p e s m below meth c C => ?_)
  unfold PX0_replace at hw
  refine at_aload_n C dX0_replace_0 rfl rfl ?_
  refine at_iload_n C dX0_replace_1 rfl rfl ?_
  refine at_callp (run_V (rest := []) (As := [.int x1]) C (metX0_isSkittle l D dA ad  hw) (lw_V q521 q523 qs17 q56 q524) dsX0_isSkittle (gR_ok (Nat.le_of_ble_eq_true rfl) (Nat.le_of_ble_eq_true rfl)) ⟨rfl, rfl⟩ ⟨(Nat.le_of_ble_eq_true rfl), (Nat.le_of_ble_eq_true rfl)⟩ (Nat.le_of_ble_eq_true rfl) rfl rfl rfl rfl (Nat.le_of_ble_eq_true rfl) dX0_replace_2) (fun r_1  hw => ?_)
  refine at_if_ne (tgt := 11) C dX0_replace_5 (by decide) (fun c_2 => ?_) (fun c_2 => ?_)
  · have hw := hw.1 c_2
    refine at_aload_n C dX0_replace_11 rfl rfl ?_
    refine at_getr (j := 2) (r := 6) C (Nat.le_of_ble_eq_true rfl) rfl rfl in_X0 (Nat.le_of_ble_eq_true rfl) rfl q218 dX0_replace_12 ?_
    refine at_getrN (j := 0) (r := 7) C (gSt_k0 gSt_now) (layX_0 gSt_now) rfl in_X2 (Nat.le_of_ble_eq_true rfl) rfl q124 dX0_replace_15 ?_
    refine at_iload_n C dX0_replace_18 rfl rfl ?_
    refine at_iald C (gSt_k1 gSt_now) (layX_1 gSt_now) hw.1 rfl dX0_replace_19 ?_
    have hw := hw.2
    refine at_iconst C dX0_replace_20 ic_3 ?_
    refine at_icmp_ne (tgt := 27) C dX0_replace_21 (by decide) (fun c_3 => ?_) (fun c_3 => ?_)
    · have hw := hw.1 c_3
      refine at_aload_n C dX0_replace_27 rfl rfl ?_
      refine at_callv (run_V (rest := []) (As := []) C (metX0_remember l D dA ad  hw) (lw_V q548 q550 qs20 q56 q551) dsX0_remember (gR_ok (Nat.le_of_ble_eq_true rfl) (Nat.le_of_ble_eq_true rfl)) ⟨rfl, rfl⟩ ⟨(Nat.le_of_ble_eq_true rfl), (Nat.le_of_ble_eq_true rfl)⟩ (Nat.le_of_ble_eq_true rfl) rfl rfl rfl rfl (Nat.le_of_ble_eq_true rfl) dX0_replace_28) (fun  w_5 hw => ?_)
      refine at_aload_n C dX0_replace_31 rfl rfl ?_
      refine at_getr (j := 2) (r := 6) C (Nat.le_of_ble_eq_true rfl) rfl rfl in_X0 (Nat.le_of_ble_eq_true rfl) rfl q218 dX0_replace_32 ?_
      refine at_getrN (j := 0) (r := 7) C (gSt_k0 gSt_now) (layX_0 gSt_now) rfl in_X2 (Nat.le_of_ble_eq_true rfl) rfl q124 dX0_replace_35 ?_
      refine at_iload_n C dX0_replace_38 rfl rfl ?_
      refine at_iald C (gSt_k1 gSt_now) (layX_1 gSt_now) hw.1 rfl dX0_replace_39 ?_
      have hw := hw.2
      refine at_topi (fun v2_6 e2_6 => ?_)
      have hw := hw v2_6 e2_6
      refine at_istore_n (L' := [(0, .ref (ad 0)), (1, .int x1), (2, .int v2_6)]) C dX0_replace_40 rfl (Nat.le_of_ble_eq_true rfl) rfl ?_
      refine at_aload_n C dX0_replace_41 rfl rfl ?_
      refine at_getr (j := 2) (r := 6) C (Nat.le_of_ble_eq_true rfl) rfl rfl in_X0 (Nat.le_of_ble_eq_true rfl) rfl q218 dX0_replace_42 ?_
      refine at_getrN (j := 0) (r := 7) C (gSt_k0 gSt_now) (layX_0 gSt_now) rfl in_X2 (Nat.le_of_ble_eq_true rfl) rfl q124 dX0_replace_45 ?_
      refine at_iload_n C dX0_replace_48 rfl rfl ?_
      refine at_iconst C dX0_replace_49 ic_3 ?_
      refine at_iast C (gSt_k1 gSt_now) (layX_1 gSt_now) hw.1 rfl dX0_replace_50 (fun w_7 ew_7 => ?_)
      have hw := hw.2 w_7 ew_7
      refine at_iload_n C dX0_replace_51 rfl rfl ?_
      exact at_iret C rfl hw dX0_replace_52
    · have hw := hw.2 c_3
      refine at_ldc C q547 dX0_replace_24 ?_
      exact at_iret C rfl hw dX0_replace_26
  · have hw := hw.2 c_2
    refine at_ldc C q525 dX0_replace_8 ?_
    exact at_iret C rfl hw dX0_replace_10
set_option maxHeartbeats 4000000 in
theorem tX0_drift_29     {Q : Int32 → GW → Prop} (C : Cx p s m args meth c D dA cX0_drift 3 (some .int) RX0)    {x1 : Int32}   : ∀ (n : Nat) (x2 : Int32) (w : GW), PX0_drift_29 Q x1 n x2 w → gAtX p l e s m args below meth c D dA ad 26 (va_Qi Q (gZ D dA 137 ad layX) (gA 137 ad)) 3 29 [(0, .ref (ad 0)), (1, .int x1), (2, .int x2)] [] w := by
  intro n
  induction n with
  | zero => intro x2 w hw; exact False.elim hw
  | succ n ih =>
    intro x2 w hw
    unfold PX0_drift_29 at hw
    refine at_iload_n C dX0_drift_29 rfl rfl ?_
    refine at_iload_n C dX0_drift_30 rfl rfl ?_
    refine at_icmp_ge (tgt := 47) C dX0_drift_31 (by decide) (fun c_1 => ?_) (fun c_1 => ?_)
    · have hw := hw.1 c_1
      refine at_aload_n C dX0_drift_47 rfl rfl ?_
      refine at_getr (j := 2) (r := 6) C (Nat.le_of_ble_eq_true rfl) rfl rfl in_X0 (Nat.le_of_ble_eq_true rfl) rfl q218 dX0_drift_48 ?_
      refine at_getiN (j := 5) C (gSt_k0 gSt_now) (layX_0 gSt_now) rfl in_X2 (Nat.le_of_ble_eq_true rfl) rfl q134 dX0_drift_51 ?_
      exact at_iret C rfl hw dX0_drift_54
    · have hw := hw.2 c_1
      refine at_aload_n C dX0_drift_34 rfl rfl ?_
      refine at_getr (j := 2) (r := 6) C (Nat.le_of_ble_eq_true rfl) rfl rfl in_X0 (Nat.le_of_ble_eq_true rfl) rfl q218 dX0_drift_35 ?_
      refine at_callv (run_V (rest := []) (As := []) C (metX2_byDraws l D dA ad gSt_now hw) (lw_V q589 q590 q591 q58 q592) dsX2_byDraws (gR_ok (Nat.le_of_ble_eq_true rfl) (Nat.le_of_ble_eq_true rfl)) ⟨rfl, rfl⟩ ⟨(Nat.le_of_ble_eq_true rfl), (Nat.le_of_ble_eq_true rfl)⟩ (gSt_k0 gSt_now) (layX_0 gSt_now) rfl rfl rfl (Nat.le_of_ble_eq_true rfl) dX0_drift_38) (fun  w_3 hw => ?_)
      refine at_iinc (F := fun z_ => [(0, .ref (ad 0)), (1, .int x1), (2, .int z_)]) C dX0_drift_41 rfl ic_1 (Nat.le_of_ble_eq_true rfl) (fun _ => rfl) (fun v2_4 e2_4 => ?_)
      have hw := hw v2_4 e2_4
      refine at_goto (tgt := 29) C dX0_drift_44 (by decide) ?_
      exact ih _ _ hw
set_option maxHeartbeats 4000000 in
theorem metX0_drift   (l : Launch) (D : va_G) (dA : Nat → ClassId) (ad : Nat → Nat)    {x1 : Int32} {w : GW} {Q : Int32 → GW → Prop} (hw : PX0_drift x1 w Q) : Met l yX0_drift (ws_ yX0_drift cX0_drift 3 (some .int)) (gR 26) (va_Pc [.ref (ad 0), .int x1] (gB D dA 137 ad layX w)) (va_Qi Q (gZ D dA 137 ad layX) (gA 137 ad)) 0 0 (gA 137 ad) := by
  refine gm_of (L := [(0, .ref (ad 0)), (1, .int x1)]) (own := RX0) (by decide +kernel) rfl (Nat.le_of_ble_eq_true rfl) rfl rfl (fun p e s m below meth c C => ?_)
  unfold PX0_drift at hw
  refine at_iload_n C dX0_drift_0 rfl rfl ?_
  refine at_iconst C dX0_drift_1 ic_1 ?_
  refine at_bipush C dX0_drift_2 bp_30 ?_
  refine at_callp (run_S (rest := []) (As := [.int x1, .int 1, .int 30]) C (metX0_isIn l D dA ad  hw) (lw_S q266 q267 q56 q268) dsX0_isIn (gR_ok (Nat.le_of_ble_eq_true rfl) (Nat.le_of_ble_eq_true rfl)) ⟨rfl, rfl⟩ ⟨(Nat.le_of_ble_eq_true rfl), (Nat.le_of_ble_eq_true rfl)⟩ rfl rfl (Nat.le_of_ble_eq_true rfl) dX0_drift_4) (fun r_5  hw => ?_)
  refine at_if_ne (tgt := 13) C dX0_drift_7 (by decide) (fun c_6 => ?_) (fun c_6 => ?_)
  · have hw := hw.1 c_6
    refine at_aload_n C dX0_drift_13 rfl rfl ?_
    refine at_callp (run_V (rest := []) (As := []) C (metX0_isCounty l D dA ad  hw) (lw_V q407 q409 qs7 q56 q410) dsX0_isCounty (gR_ok (Nat.le_of_ble_eq_true rfl) (Nat.le_of_ble_eq_true rfl)) ⟨rfl, rfl⟩ ⟨(Nat.le_of_ble_eq_true rfl), (Nat.le_of_ble_eq_true rfl)⟩ (Nat.le_of_ble_eq_true rfl) rfl rfl rfl rfl (Nat.le_of_ble_eq_true rfl) dX0_drift_14) (fun r_7  hw => ?_)
    refine at_if_ne (tgt := 23) C dX0_drift_17 (by decide) (fun c_8 => ?_) (fun c_8 => ?_)
    · have hw := hw.1 c_8
      refine at_aload_n C dX0_drift_23 rfl rfl ?_
      refine at_callv (run_V (rest := []) (As := []) C (metX0_remember l D dA ad  hw) (lw_V q548 q550 qs20 q56 q551) dsX0_remember (gR_ok (Nat.le_of_ble_eq_true rfl) (Nat.le_of_ble_eq_true rfl)) ⟨rfl, rfl⟩ ⟨(Nat.le_of_ble_eq_true rfl), (Nat.le_of_ble_eq_true rfl)⟩ (Nat.le_of_ble_eq_true rfl) rfl rfl rfl rfl (Nat.le_of_ble_eq_true rfl) dX0_drift_24) (fun  w_10 hw => ?_)
      refine at_iconst C dX0_drift_27 ic_0 ?_
      refine at_istore_n (L' := [(0, .ref (ad 0)), (1, .int x1), (2, .int 0)]) C dX0_drift_28 rfl (Nat.le_of_ble_eq_true rfl) rfl ?_
      obtain ⟨n_11, hw⟩ := hw
      exact (tX0_drift_29 C  _ _ _ hw)
    · have hw := hw.2 c_8
      refine at_ldc C q547 dX0_drift_20 ?_
      exact at_iret C rfl hw dX0_drift_22
  · have hw := hw.2 c_6
    refine at_ldc C q269 dX0_drift_10 ?_
    exact at_iret C rfl hw dX0_drift_12
set_option maxHeartbeats 4000000 in
theorem metX0_undo   (l : Launch) (D : va_G) (dA : Nat → ClassId) (ad : Nat → Nat)     {w : GW} {Q : Int32 → GW → Prop} (hw : PX0_undo w Q) : Met l yX0_undo (ws_ yX0_undo cX0_undo 2 (some .int)) (gR 3) (va_Pc [.ref (ad 0)] (gB D dA 137 ad layX w)) (va_Qi Q (gZ D dA 137 ad layX) (gA 137 ad)) 0 0 (gA 137 ad) := by
  refine gm_of (L := [(0, .ref (ad 0))]) (own := RX0) (by decide +kernel) rfl (Nat.le_of_ble_eq_true rfl) rfl rfl (fun p e s m below meth c C => ?_)
  unfold PX0_undo at hw
  refine at_aload_n C dX0_undo_0 rfl rfl ?_
  refine at_geti (j := 5) C (Nat.le_of_ble_eq_true rfl) rfl rfl in_X0 (Nat.le_of_ble_eq_true rfl) rfl q221 dX0_undo_1 ?_
  refine at_if_ne (tgt := 10) C dX0_undo_4 (by decide) (fun c_1 => ?_) (fun c_1 => ?_)
  · have hw := hw.1 c_1
    refine at_aload_n C dX0_undo_10 rfl rfl ?_
    refine at_dup C dX0_undo_11 rfl ?_
    refine at_geti (j := 5) C (Nat.le_of_ble_eq_true rfl) rfl rfl in_X0 (Nat.le_of_ble_eq_true rfl) rfl q221 dX0_undo_12 ?_
    refine at_iconst C dX0_undo_15 ic_1 ?_
    refine at_isub C dX0_undo_16 ?_
    refine at_puti (j := 5) C (Nat.le_of_ble_eq_true rfl) rfl rfl in_X0 (Nat.le_of_ble_eq_true rfl) rfl q221 tyX0 tyX0_ok nmX0 rfl rfl rfl dX0_undo_17 (fun w_2 ew_2 => ?_)
    have hw := hw w_2 ew_2
    refine at_aload_n C dX0_undo_20 rfl rfl ?_
    refine at_getr (j := 2) (r := 6) C (Nat.le_of_ble_eq_true rfl) rfl rfl in_X0 (Nat.le_of_ble_eq_true rfl) rfl q218 dX0_undo_21 ?_
    refine at_getiN (j := 8) C (gSt_k0 gSt_now) (layX_0 gSt_now) rfl in_X2 (Nat.le_of_ble_eq_true rfl) rfl q140 dX0_undo_24 ?_
    refine at_topi (fun v1_3 e1_3 => ?_)
    have hw := hw v1_3 e1_3
    refine at_istore_n (L' := [(0, .ref (ad 0)), (1, .int v1_3)]) C dX0_undo_27 rfl (Nat.le_of_ble_eq_true rfl) rfl ?_
    refine at_aload_n C dX0_undo_28 rfl rfl ?_
    refine at_getr (j := 2) (r := 6) C (Nat.le_of_ble_eq_true rfl) rfl rfl in_X0 (Nat.le_of_ble_eq_true rfl) rfl q218 dX0_undo_29 ?_
    refine at_aload_n C dX0_undo_32 rfl rfl ?_
    refine at_getr (j := 4) (r := 18) C (Nat.le_of_ble_eq_true rfl) rfl rfl in_X0 (Nat.le_of_ble_eq_true rfl) rfl q220 dX0_undo_33 ?_
    refine at_aload_n C dX0_undo_36 rfl rfl ?_
    refine at_geti (j := 5) C (Nat.le_of_ble_eq_true rfl) rfl rfl in_X0 (Nat.le_of_ble_eq_true rfl) rfl q221 dX0_undo_37 ?_
    have hk_4 := hw.1
    have hw := hw.2
    refine at_aldq (r := gUn (w_2 0 5)) C (Nat.le_of_ble_eq_true rfl) rfl rfl hk_4 (gUn_rd hk_4) dX0_undo_40 ?_
    refine at_callv (run_V (rest := []) (As := [.ref (ad (gUn (w_2 0 5)))]) C (metX2_set l D dA ad gSt_now (gUn_ok hk_4) hw) (lw_V q426 q427 q428 q58 q429) dsX2_set (gR_ok (Nat.le_of_ble_eq_true rfl) (Nat.le_of_ble_eq_true rfl)) ⟨rfl, rfl⟩ ⟨(Nat.le_of_ble_eq_true rfl), (Nat.le_of_ble_eq_true rfl)⟩ (gSt_k0 gSt_now) (layX_0 gSt_now) rfl rfl rfl (Nat.le_of_ble_eq_true rfl) dX0_undo_41) (fun  w_6 hw => ?_)
    refine at_aload_n C dX0_undo_44 rfl rfl ?_
    refine at_getr (j := 2) (r := 6) C (Nat.le_of_ble_eq_true rfl) rfl rfl in_X0 (Nat.le_of_ble_eq_true rfl) rfl q218 dX0_undo_45 ?_
    refine at_iload_n C dX0_undo_48 rfl rfl ?_
    refine at_putiN (j := 8) C (gSt_k0 gSt_now) (layX_0 gSt_now) rfl in_X2 (Nat.le_of_ble_eq_true rfl) rfl q140 tyX2 tyX2_ok nmX2 rfl rfl rfl dX0_undo_49 (fun w_7 ew_7 => ?_)
    have hw := hw w_7 ew_7
    refine at_aload_n C dX0_undo_52 rfl rfl ?_
    refine at_geti (j := 5) C (Nat.le_of_ble_eq_true rfl) rfl rfl in_X0 (Nat.le_of_ble_eq_true rfl) rfl q221 dX0_undo_53 ?_
    exact at_iret C rfl hw dX0_undo_56
  · have hw := hw.2 c_1
    refine at_ldc C q547 dX0_undo_7 ?_
    exact at_iret C rfl hw dX0_undo_9
set_option maxHeartbeats 4000000 in
theorem metX0_wouldFall   (l : Launch) (D : va_G) (dA : Nat → ClassId) (ad : Nat → Nat)    {x1 : Int32} {x2 : Int32} {x3 : Int32} {x4 : Int32} {w : GW} {Q : Int32 → GW → Prop} (hw : PX0_wouldFall x1 x2 x3 x4 w Q) : Met l yX0_wouldFall (ws_ yX0_wouldFall cX0_wouldFall 6 (some .int)) (gR 24) (va_Pc [.ref (ad 0), .int x1, .int x2, .int x3, .int x4] (gB D dA 137 ad layX w)) (va_Qi Q (gZ D dA 137 ad layX) (gA 137 ad)) 0 0 (gA 137 ad) := by
  refine gm_of (L := [(0, .ref (ad 0)), (1, .int x1), (2, .int x2), (3, .int x3), (4, .int x4)]) (own := RX0) (by decide +kernel) rfl (Nat.le_of_ble_eq_true rfl) rfl rfl (fun p e s m below meth c C => ?_)
  unfold PX0_wouldFall at hw
  refine at_iload C dX0_wouldFall_0 rfl ?_
  refine at_iconst C dX0_wouldFall_2 ic_0 ?_
  refine at_iconst C dX0_wouldFall_3 ic_2 ?_
  refine at_callp (run_S (rest := []) (As := [.int x4, .int 0, .int 2]) C (metX0_isIn l D dA ad  hw) (lw_S q266 q267 q56 q268) dsX0_isIn (gR_ok (Nat.le_of_ble_eq_true rfl) (Nat.le_of_ble_eq_true rfl)) ⟨rfl, rfl⟩ ⟨(Nat.le_of_ble_eq_true rfl), (Nat.le_of_ble_eq_true rfl)⟩ rfl rfl (Nat.le_of_ble_eq_true rfl) dX0_wouldFall_4) (fun r_1  hw => ?_)
  refine at_if_ne (tgt := 13) C dX0_wouldFall_7 (by decide) (fun c_2 => ?_) (fun c_2 => ?_)
  · have hw := hw.1 c_2
    refine at_aload_n C dX0_wouldFall_13 rfl rfl ?_
    refine at_iload_n C dX0_wouldFall_14 rfl rfl ?_
    refine at_iload_n C dX0_wouldFall_15 rfl rfl ?_
    refine at_iload_n C dX0_wouldFall_16 rfl rfl ?_
    refine at_callp (run_V (rest := []) (As := [.int x1, .int x2, .int x3]) C (metX0_refusedBall l D dA ad  hw) (lw_V q543 q545 qs19 q56 q546) dsX0_refusedBall (gR_ok (Nat.le_of_ble_eq_true rfl) (Nat.le_of_ble_eq_true rfl)) ⟨rfl, rfl⟩ ⟨(Nat.le_of_ble_eq_true rfl), (Nat.le_of_ble_eq_true rfl)⟩ (Nat.le_of_ble_eq_true rfl) rfl rfl rfl rfl (Nat.le_of_ble_eq_true rfl) dX0_wouldFall_17) (fun r_3  hw => ?_)
    refine at_if_ge (tgt := 31) C dX0_wouldFall_20 (by decide) (fun c_4 => ?_) (fun c_4 => ?_)
    · have hw := hw.1 c_4
      refine at_aload_n C dX0_wouldFall_31 rfl rfl ?_
      refine at_getr (j := 3) (r := 12) C (Nat.le_of_ble_eq_true rfl) rfl rfl in_X0 (Nat.le_of_ble_eq_true rfl) rfl q219 dX0_wouldFall_32 ?_
      refine at_aload_n C dX0_wouldFall_35 rfl rfl ?_
      refine at_getr (j := 2) (r := 6) C (Nat.le_of_ble_eq_true rfl) rfl rfl in_X0 (Nat.le_of_ble_eq_true rfl) rfl q218 dX0_wouldFall_36 ?_
      refine at_callv (run_V (rest := []) (As := [.ref (ad 6)]) C (metX2_set l D dA ad gSt_tried gSt_now hw) (lw_V q426 q427 q428 q58 q429) dsX2_set (gR_ok (Nat.le_of_ble_eq_true rfl) (Nat.le_of_ble_eq_true rfl)) ⟨rfl, rfl⟩ ⟨(Nat.le_of_ble_eq_true rfl), (Nat.le_of_ble_eq_true rfl)⟩ (gSt_k0 gSt_tried) (layX_0 gSt_tried) rfl rfl rfl (Nat.le_of_ble_eq_true rfl) dX0_wouldFall_39) (fun  w_6 hw => ?_)
      refine at_aload_n C dX0_wouldFall_42 rfl rfl ?_
      refine at_getr (j := 3) (r := 12) C (Nat.le_of_ble_eq_true rfl) rfl rfl in_X0 (Nat.le_of_ble_eq_true rfl) rfl q219 dX0_wouldFall_43 ?_
      refine at_iload_n C dX0_wouldFall_46 rfl rfl ?_
      refine at_iload_n C dX0_wouldFall_47 rfl rfl ?_
      refine at_iload_n C dX0_wouldFall_48 rfl rfl ?_
      refine at_calli (run_V (rest := []) (As := [.int x1, .int x2, .int x3]) C (metX2_roll l D dA ad gSt_tried hw) (lw_V q612 q435 q436 q58 q437) dsX2_roll (gR_ok (Nat.le_of_ble_eq_true rfl) (Nat.le_of_ble_eq_true rfl)) ⟨rfl, rfl⟩ ⟨(Nat.le_of_ble_eq_true rfl), (Nat.le_of_ble_eq_true rfl)⟩ (gSt_k0 gSt_tried) (layX_0 gSt_tried) rfl rfl rfl (Nat.le_of_ble_eq_true rfl) dX0_wouldFall_49) (fun r_7 w_8 hw => ?_)
      refine at_istore (L' := [(0, .ref (ad 0)), (1, .int x1), (2, .int x2), (3, .int x3), (4, .int x4), (5, .int r_7)]) C dX0_wouldFall_52 (Nat.le_of_ble_eq_true rfl) rfl ?_
      refine at_iload C dX0_wouldFall_54 rfl ?_
      refine at_if_ne (tgt := 64) C dX0_wouldFall_56 (by decide) (fun c_9 => ?_) (fun c_9 => ?_)
      · have hw := hw.1 c_9
        refine at_iload C dX0_wouldFall_64 rfl ?_
        refine at_iconst C dX0_wouldFall_66 ic_1 ?_
        refine at_icmp_ne (tgt := 80) C dX0_wouldFall_67 (by decide) (fun c_10 => ?_) (fun c_10 => ?_)
        · have hw := hw.1 c_10
          refine at_aload_n C dX0_wouldFall_80 rfl rfl ?_
          refine at_getr (j := 3) (r := 12) C (Nat.le_of_ble_eq_true rfl) rfl rfl in_X0 (Nat.le_of_ble_eq_true rfl) rfl q219 dX0_wouldFall_81 ?_
          refine at_getiN (j := 11) C (gSt_k0 gSt_tried) (layX_0 gSt_tried) rfl in_X2 (Nat.le_of_ble_eq_true rfl) rfl q145 dX0_wouldFall_84 ?_
          exact at_iret C rfl hw dX0_wouldFall_87
        · have hw := hw.2 c_10
          refine at_aload_n C dX0_wouldFall_70 rfl rfl ?_
          refine at_getr (j := 3) (r := 12) C (Nat.le_of_ble_eq_true rfl) rfl rfl in_X0 (Nat.le_of_ble_eq_true rfl) rfl q219 dX0_wouldFall_71 ?_
          refine at_getiN (j := 10) C (gSt_k0 gSt_tried) (layX_0 gSt_tried) rfl in_X2 (Nat.le_of_ble_eq_true rfl) rfl q143 dX0_wouldFall_74 ?_
          refine at_goto (tgt := 87) C dX0_wouldFall_77 (by decide) ?_
          exact at_iret C rfl hw dX0_wouldFall_87
      · have hw := hw.2 c_9
        refine at_iload C dX0_wouldFall_59 rfl ?_
        refine at_goto (tgt := 87) C dX0_wouldFall_61 (by decide) ?_
        exact at_iret C rfl hw dX0_wouldFall_87
    · have hw := hw.2 c_4
      refine at_aload_n C dX0_wouldFall_23 rfl rfl ?_
      refine at_iload_n C dX0_wouldFall_24 rfl rfl ?_
      refine at_iload_n C dX0_wouldFall_25 rfl rfl ?_
      refine at_iload_n C dX0_wouldFall_26 rfl rfl ?_
      refine at_callp (run_V (rest := []) (As := [.int x1, .int x2, .int x3]) C (metX0_refusedBall l D dA ad  hw) (lw_V q543 q545 qs19 q56 q546) dsX0_refusedBall (gR_ok (Nat.le_of_ble_eq_true rfl) (Nat.le_of_ble_eq_true rfl)) ⟨rfl, rfl⟩ ⟨(Nat.le_of_ble_eq_true rfl), (Nat.le_of_ble_eq_true rfl)⟩ (Nat.le_of_ble_eq_true rfl) rfl rfl rfl rfl (Nat.le_of_ble_eq_true rfl) dX0_wouldFall_27) (fun r_11  hw => ?_)
      exact at_iret C rfl hw dX0_wouldFall_30
  · have hw := hw.2 c_2
    refine at_ldc C q269 dX0_wouldFall_10 ?_
    exact at_iret C rfl hw dX0_wouldFall_12
set_option maxHeartbeats 4000000 in
theorem metX0_isSet   (l : Launch) (D : va_G) (dA : Nat → ClassId) (ad : Nat → Nat)    {x1 : Int32} {w : GW} {Q : Int32 → Prop} (hw : PX0_isSet x1 w Q) : Met l yX0_isSet (ws_ yX0_isSet cX0_isSet 2 (some .boolean)) (gR 2) (va_Pc [.ref (ad 0), .int x1] (gB D dA 137 ad layX w)) (va_Qi (gQ1 Q w) (gZ D dA 137 ad layX) (gA 137 ad)) 0 0 (gA 137 ad) := by
  refine gm_of (L := [(0, .ref (ad 0)), (1, .int x1)]) (own := RX0) (by decide +kernel) rfl (Nat.le_of_ble_eq_true rfl) rfl rfl (fun p e s m below meth c C => ?_)
  unfold PX0_isSet at hw
  refine at_iload_n C dX0_isSet_0 rfl rfl ?_
  refine at_iconst C dX0_isSet_1 ic_0 ?_
  refine at_iconst C dX0_isSet_2 ic_1 ?_
  refine at_aload_n C dX0_isSet_3 rfl rfl ?_
  refine at_getr (j := 1) (r := 2) C (Nat.le_of_ble_eq_true rfl) rfl rfl in_X0 (Nat.le_of_ble_eq_true rfl) rfl q217 dX0_isSet_4 ?_
  refine at_getiN (j := 4) C (Nat.le_of_ble_eq_true rfl) rfl rfl in_X1 (Nat.le_of_ble_eq_true rfl) rfl q104 dX0_isSet_7 ?_
  refine at_ishl C dX0_isSet_10 ?_
  refine at_iconst C dX0_isSet_11 ic_1 ?_
  refine at_isub C dX0_isSet_12 ?_
  refine at_callp (run_S (rest := []) (As := [.int x1, .int 0, .int ((1 <<< ((w 2 4) &&& 31)) - 1)]) C (metX0_isIn l D dA ad  hw) (lw_S q266 q267 q56 q268) dsX0_isIn (gR_ok (Nat.le_of_ble_eq_true rfl) (Nat.le_of_ble_eq_true rfl)) ⟨rfl, rfl⟩ ⟨(Nat.le_of_ble_eq_true rfl), (Nat.le_of_ble_eq_true rfl)⟩ rfl rfl (Nat.le_of_ble_eq_true rfl) dX0_isSet_13) (fun r_1  hw => ?_)
  exact at_zret C rfl hw.1 ⟨hw.2, rfl⟩ dX0_isSet_16
end GWalk
