/-! the walks of the reference -/
set_option maxRecDepth 100000
section GWalk
variable {p : Program} {l : Launch} {e : Env} {s : State} {m : MethodId} {args : Array Value} {below : List Frame} {meth : Method} {c : Code} {D : va_G} {dA : Nat → ClassId} {ad : Nat → Nat}
set_option maxHeartbeats 4000000 in
theorem tX7_goes_220     {Q : Int32 → GW → Prop} (C : Cx p s m args meth c D dA cX7_goes 10 (some .int) RX7)    {x1 : Int32} {w : GW}  (hw : PX7_goes_220 Q x1 w) : gAtM p l e s m args below meth c D dA ad 4 (va_Qi Q (gZ D dA 20 ad layM) (gA 20 ad)) 10 220 [(0, .ref (ad 0)), (1, .int x1)] [] w := by
  unfold PX7_goes_220 at hw
  refine at_iload_n C dX7_goes_220 rfl rfl ?_
  refine at_aload_n C dX7_goes_221 rfl rfl ?_
  refine at_geti (j := 26) C (Nat.le_of_ble_eq_true rfl) rfl rfl in_X7 (Nat.le_of_ble_eq_true rfl) rfl q713 dX7_goes_222 ?_
  refine at_iconst C dX7_goes_225 ic_m1 ?_
  refine at_ixor C dX7_goes_226 ?_
  refine at_iand C dX7_goes_227 ?_
  exact at_iret C rfl hw dX7_goes_228
set_option maxHeartbeats 4000000 in
theorem tX7_goes_203    {K58 : Int32 → Int32 → Int32 → GW → Prop} {Q : Int32 → GW → Prop} (C : Cx p s m args meth c D dA cX7_goes 10 (some .int) RX7)    {x1 : Int32} {x3 : Int32} {x5 : Int32} {x6 : Int32} {x7 : Int32} {s1 : Int32} {w : GW} (hK58 : ∀ (x5 : Int32) (x6 : Int32) (x7 : Int32) (w : GW), K58 x5 x6 x7 w → gAtM p l e s m args below meth c D dA ad 4 (va_Qi Q (gZ D dA 20 ad layM) (gA 20 ad)) 10 58 [(0, .ref (ad 0)), (1, .int x1), (3, .int x3), (5, .int x5), (6, .int x6), (7, .int x7)] [] w) (hw : PX7_goes_203 K58 Q x1 x3 x5 x6 x7 s1 w) : gAtM p l e s m args below meth c D dA ad 4 (va_Qi Q (gZ D dA 20 ad layM) (gA 20 ad)) 10 203 [(0, .ref (ad 0)), (1, .int x1), (3, .int x3), (5, .int x5), (6, .int x6), (7, .int x7)] [.int s1, .ref (ad 0)] w := by
  unfold PX7_goes_203 at hw
  refine at_puti (j := 28) C (Nat.le_of_ble_eq_true rfl) rfl rfl in_X7 (Nat.le_of_ble_eq_true rfl) rfl q715 tyX7 tyX7_ok nmX7 rfl rfl rfl dX7_goes_203 (fun w_1 ew_1 => ?_)
  have hw := hw w_1 ew_1
  refine at_iload C dX7_goes_206 rfl ?_
  refine at_iload_n C dX7_goes_208 rfl rfl ?_
  refine at_iconst C dX7_goes_209 ic_1 ?_
  refine at_isub C dX7_goes_210 ?_
  refine at_iadd C dX7_goes_211 ?_
  refine at_topi (fun v5_2 e5_2 => ?_)
  have hw := hw v5_2 e5_2
  refine at_istore (L' := [(0, .ref (ad 0)), (1, .int x1), (3, .int x3), (5, .int v5_2), (6, .int x6), (7, .int x7)]) C dX7_goes_212 (Nat.le_of_ble_eq_true rfl) rfl ?_
  refine at_iinc (F := fun z_ => [(0, .ref (ad 0)), (1, .int x1), (3, .int x3), (5, .int v5_2), (6, .int x6), (7, .int z_)]) C dX7_goes_214 rfl ic_1 (Nat.le_of_ble_eq_true rfl) (fun _ => rfl) (fun v7_3 e7_3 => ?_)
  have hw := hw v7_3 e7_3
  refine at_goto (tgt := 58) C dX7_goes_217 (by decide) ?_
  exact hK58 _ _ _ _ hw
set_option maxHeartbeats 4000000 in
theorem tX7_goes_199    {K58 : Int32 → Int32 → Int32 → GW → Prop} {Q : Int32 → GW → Prop} (C : Cx p s m args meth c D dA cX7_goes 10 (some .int) RX7)    {x1 : Int32} {x3 : Int32} {x5 : Int32} {x6 : Int32} {x7 : Int32} {w : GW} (hK58 : ∀ (x5 : Int32) (x6 : Int32) (x7 : Int32) (w : GW), K58 x5 x6 x7 w → gAtM p l e s m args below meth c D dA ad 4 (va_Qi Q (gZ D dA 20 ad layM) (gA 20 ad)) 10 58 [(0, .ref (ad 0)), (1, .int x1), (3, .int x3), (5, .int x5), (6, .int x6), (7, .int x7)] [] w) (hw : PX7_goes_199 K58 Q x1 x3 x5 x6 x7 w) : gAtM p l e s m args below meth c D dA ad 4 (va_Qi Q (gZ D dA 20 ad layM) (gA 20 ad)) 10 199 [(0, .ref (ad 0)), (1, .int x1), (3, .int x3), (5, .int x5), (6, .int x6), (7, .int x7)] [.ref (ad 0)] w := by
  unfold PX7_goes_199 at hw
  refine at_aload_n C dX7_goes_199 rfl rfl ?_
  refine at_geti (j := 28) C (Nat.le_of_ble_eq_true rfl) rfl rfl in_X7 (Nat.le_of_ble_eq_true rfl) rfl q715 dX7_goes_200 ?_
  exact (tX7_goes_203 C hK58 hw)
set_option maxHeartbeats 4000000 in
theorem tX7_goes_169    {K58 : Int32 → Int32 → Int32 → GW → Prop} {Q : Int32 → GW → Prop} (C : Cx p s m args meth c D dA cX7_goes 10 (some .int) RX7)    {x1 : Int32} {x3 : Int32} {x5 : Int32} {x6 : Int32} {x7 : Int32} {w : GW} (hK58 : ∀ (x5 : Int32) (x6 : Int32) (x7 : Int32) (w : GW), K58 x5 x6 x7 w → gAtM p l e s m args below meth c D dA ad 4 (va_Qi Q (gZ D dA 20 ad layM) (gA 20 ad)) 10 58 [(0, .ref (ad 0)), (1, .int x1), (3, .int x3), (5, .int x5), (6, .int x6), (7, .int x7)] [] w) (hw : PX7_goes_169 K58 Q x1 x3 x5 x6 x7 w) : gAtM p l e s m args below meth c D dA ad 4 (va_Qi Q (gZ D dA 20 ad layM) (gA 20 ad)) 10 169 [(0, .ref (ad 0)), (1, .int x1), (3, .int x3), (5, .int x5), (6, .int x6), (7, .int x7)] [] w := by
  unfold PX7_goes_169 at hw
  refine at_iload C dX7_goes_169 rfl ?_
  refine at_aload_n C dX7_goes_171 rfl rfl ?_
  refine at_geti (j := 8) C (Nat.le_of_ble_eq_true rfl) rfl rfl in_X7 (Nat.le_of_ble_eq_true rfl) rfl q695 dX7_goes_172 ?_
  refine at_iconst C dX7_goes_175 ic_3 ?_
  refine at_idiv C dX7_goes_176 nz_3 ?_
  refine at_isub C dX7_goes_177 ?_
  refine at_topi (fun v6_4 e6_4 => ?_)
  have hw := hw v6_4 e6_4
  refine at_istore (L' := [(0, .ref (ad 0)), (1, .int x1), (3, .int x3), (5, .int x5), (6, .int v6_4), (7, .int x7)]) C dX7_goes_178 (Nat.le_of_ble_eq_true rfl) rfl ?_
  refine at_aload_n C dX7_goes_180 rfl rfl ?_
  refine at_aload_n C dX7_goes_181 rfl rfl ?_
  refine at_geti (j := 28) C (Nat.le_of_ble_eq_true rfl) rfl rfl in_X7 (Nat.le_of_ble_eq_true rfl) rfl q715 dX7_goes_182 ?_
  refine at_iconst C dX7_goes_185 ic_m1 ?_
  refine at_icmp_ne (tgt := 199) C dX7_goes_186 (by decide) (fun c_5 => ?_) (fun c_5 => ?_)
  · have hw := hw.1 c_5
    exact (tX7_goes_199 C hK58 hw)
  · have hw := hw.2 c_5
    refine at_iload C dX7_goes_189 rfl ?_
    refine at_if_gt (tgt := 199) C dX7_goes_191 (by decide) (fun c_6 => ?_) (fun c_6 => ?_)
    · have hw := hw.1 c_6
      exact (tX7_goes_199 C hK58 hw)
    · have hw := hw.2 c_6
      refine at_iload C dX7_goes_194 rfl ?_
      refine at_goto (tgt := 203) C dX7_goes_196 (by decide) ?_
      exact (tX7_goes_203 C hK58 hw)
set_option maxHeartbeats 4000000 in
theorem tX7_goes_98    {K58 : Int32 → Int32 → Int32 → GW → Prop} {Q : Int32 → GW → Prop} (C : Cx p s m args meth c D dA cX7_goes 10 (some .int) RX7)    {x1 : Int32} {x3 : Int32} {x5 : Int32} {x6 : Int32} {x7 : Int32} {s0 : Int32} {w : GW} (hK58 : ∀ (x5 : Int32) (x6 : Int32) (x7 : Int32) (w : GW), K58 x5 x6 x7 w → gAtM p l e s m args below meth c D dA ad 4 (va_Qi Q (gZ D dA 20 ad layM) (gA 20 ad)) 10 58 [(0, .ref (ad 0)), (1, .int x1), (3, .int x3), (5, .int x5), (6, .int x6), (7, .int x7)] [] w) (hw : PX7_goes_98 K58 Q x1 x3 x5 x6 x7 s0 w) : gAtM p l e s m args below meth c D dA ad 4 (va_Qi Q (gZ D dA 20 ad layM) (gA 20 ad)) 10 98 [(0, .ref (ad 0)), (1, .int x1), (3, .int x3), (5, .int x5), (6, .int x6), (7, .int x7)] [.int s0] w := by
  unfold PX7_goes_98 at hw
  refine at_istore (L' := [(0, .ref (ad 0)), (1, .int x1), (3, .int x3), (5, .int x5), (6, .int x6), (7, .int x7), (9, .int s0)]) C dX7_goes_98 (Nat.le_of_ble_eq_true rfl) rfl ?_
  refine at_iload C dX7_goes_100 rfl ?_
  refine at_iconst C dX7_goes_102 ic_m1 ?_
  refine at_icmp_eq (tgt := 169) C dX7_goes_103 (by decide) (fun c_7 => ?_) (fun c_7 => ?_)
  · have hw := hw.1 c_7
    exact at_sub (lv_pickm [0, 1, 2, 3, 4, 5] rfl) (tX7_goes_169 C hK58 hw)
  · have hw := hw.2 c_7
    refine at_aload_n C dX7_goes_106 rfl rfl ?_
    refine at_geti (j := 26) C (Nat.le_of_ble_eq_true rfl) rfl rfl in_X7 (Nat.le_of_ble_eq_true rfl) rfl q713 dX7_goes_107 ?_
    refine at_iload C dX7_goes_110 rfl ?_
    refine at_callp (run_S (rest := []) (As := [.int (w 0 26), .int s0]) C (metX7_has l D dA ad  hw) (lw_S q879 q880 q65 q881) dsX7_has (gR_ok (Nat.le_of_ble_eq_true rfl) (Nat.le_of_ble_eq_true rfl)) ⟨rfl, rfl⟩ ⟨Nat.le_refl 0, Nat.le_refl 0⟩ rfl rfl (Nat.le_of_ble_eq_true rfl) dX7_goes_112) (fun r_8  hw => ?_)
    refine at_if_eq (tgt := 169) C dX7_goes_115 (by decide) (fun c_9 => ?_) (fun c_9 => ?_)
    · have hw := hw.1 c_9
      exact at_sub (lv_pickm [0, 1, 2, 3, 4, 5] rfl) (tX7_goes_169 C hK58 hw)
    · have hw := hw.2 c_9
      refine at_iload C dX7_goes_118 rfl ?_
      refine at_aload_n C dX7_goes_120 rfl rfl ?_
      refine at_getr (j := 23) (r := 11) C (Nat.le_of_ble_eq_true rfl) rfl rfl in_X7 (Nat.le_of_ble_eq_true rfl) rfl q710 dX7_goes_121 ?_
      refine at_iload C dX7_goes_124 rfl ?_
      refine at_iald C (Nat.le_of_ble_eq_true rfl) rfl hw.1 rfl dX7_goes_126 ?_
      have hw := hw.2
      refine at_icmp_lt (tgt := 157) C dX7_goes_127 (by decide) (fun c_10 => ?_) (fun c_10 => ?_)
      · have hw := hw.1 c_10
        refine at_aload_n C dX7_goes_157 rfl rfl ?_
        refine at_iload C dX7_goes_158 rfl ?_
        refine at_callv (run_V (rest := []) (As := [.int s0]) C (metX7_rocksNow l D dA ad  hw) (lw_V q894 q896 qs41 q65 q897) dsX7_rocksNow (gR_ok (Nat.le_of_ble_eq_true rfl) (Nat.le_of_ble_eq_true rfl)) ⟨rfl, rfl⟩ ⟨Nat.le_refl 0, Nat.le_refl 0⟩ (Nat.le_of_ble_eq_true rfl) rfl rfl rfl rfl (Nat.le_of_ble_eq_true rfl) dX7_goes_160) (fun  w_12 hw => ?_)
        refine at_aload_n C dX7_goes_163 rfl rfl ?_
        refine at_iload C dX7_goes_164 rfl ?_
        refine at_puti (j := 28) C (Nat.le_of_ble_eq_true rfl) rfl rfl in_X7 (Nat.le_of_ble_eq_true rfl) rfl q715 tyX7 tyX7_ok nmX7 rfl rfl rfl dX7_goes_166 (fun w_13 ew_13 => ?_)
        have hw := hw w_13 ew_13
        exact at_sub (lv_pickm [0, 1, 2, 3, 4, 5] rfl) (tX7_goes_169 C hK58 hw)
      · have hw := hw.2 c_10
        refine at_aload_n C dX7_goes_130 rfl rfl ?_
        refine at_iload C dX7_goes_131 rfl ?_
        refine at_iload C dX7_goes_133 rfl ?_
        refine at_callv (run_V (rest := []) (As := [.int s0, .int x6]) C (metX7_falls l D dA ad  hw) (lw_V q882 q884 qs38 q65 q885) dsX7_falls (gR_ok (Nat.le_of_ble_eq_true rfl) (Nat.le_of_ble_eq_true rfl)) ⟨rfl, rfl⟩ ⟨Nat.le_refl 0, Nat.le_refl 0⟩ (Nat.le_of_ble_eq_true rfl) rfl rfl rfl rfl (Nat.le_of_ble_eq_true rfl) dX7_goes_135) (fun  w_15 hw => ?_)
        refine at_iload C dX7_goes_138 rfl ?_
        refine at_aload_n C dX7_goes_140 rfl rfl ?_
        refine at_getr (j := 23) (r := 11) C (Nat.le_of_ble_eq_true rfl) rfl rfl in_X7 (Nat.le_of_ble_eq_true rfl) rfl q710 dX7_goes_141 ?_
        refine at_iload C dX7_goes_144 rfl ?_
        refine at_iald C (Nat.le_of_ble_eq_true rfl) rfl hw.1 rfl dX7_goes_146 ?_
        have hw := hw.2
        refine at_iconst C dX7_goes_147 ic_2 ?_
        refine at_idiv C dX7_goes_148 nz_2 ?_
        refine at_iconst C dX7_goes_149 ic_1 ?_
        refine at_iadd C dX7_goes_150 ?_
        refine at_isub C dX7_goes_151 ?_
        refine at_topi (fun v6_16 e6_16 => ?_)
        have hw := hw v6_16 e6_16
        refine at_istore (L' := [(0, .ref (ad 0)), (1, .int x1), (3, .int x3), (5, .int x5), (6, .int v6_16), (7, .int x7), (9, .int s0)]) C dX7_goes_152 (Nat.le_of_ble_eq_true rfl) rfl ?_
        refine at_goto (tgt := 169) C dX7_goes_154 (by decide) ?_
        exact at_sub (lv_pickm [0, 1, 2, 3, 4, 5] rfl) (tX7_goes_169 C hK58 hw)
set_option maxHeartbeats 4000000 in
theorem tX7_goes_58     {Q : Int32 → GW → Prop} (C : Cx p s m args meth c D dA cX7_goes 10 (some .int) RX7)    {x1 : Int32} {x3 : Int32}   : ∀ (n : Nat) (x5 : Int32) (x6 : Int32) (x7 : Int32) (w : GW), PX7_goes_58 Q x1 x3 n x5 x6 x7 w → gAtM p l e s m args below meth c D dA ad 4 (va_Qi Q (gZ D dA 20 ad layM) (gA 20 ad)) 10 58 [(0, .ref (ad 0)), (1, .int x1), (3, .int x3), (5, .int x5), (6, .int x6), (7, .int x7)] [] w := by
  intro n
  induction n with
  | zero => intro x5 x6 x7 w hw; exact False.elim hw
  | succ n ih =>
    intro x5 x6 x7 w hw
    unfold PX7_goes_58 at hw
    refine at_iload C dX7_goes_58 rfl ?_
    refine at_iconst C dX7_goes_60 ic_5 ?_
    refine at_icmp_ge (tgt := 220) C dX7_goes_61 (by decide) (fun c_17 => ?_) (fun c_17 => ?_)
    · have hw := hw.1 c_17
      exact at_sub (lv_pickm [0, 1] rfl) (tX7_goes_220 C  hw)
    · have hw := hw.2 c_17
      refine at_aload_n C dX7_goes_64 rfl rfl ?_
      refine at_geti (j := 28) C (Nat.le_of_ble_eq_true rfl) rfl rfl in_X7 (Nat.le_of_ble_eq_true rfl) rfl q715 dX7_goes_65 ?_
      refine at_iconst C dX7_goes_68 ic_m1 ?_
      refine at_icmp_ne (tgt := 220) C dX7_goes_69 (by decide) (fun c_18 => ?_) (fun c_18 => ?_)
      · have hw := hw.1 c_18
        exact at_sub (lv_pickm [0, 1] rfl) (tX7_goes_220 C  hw)
      · have hw := hw.2 c_18
        refine at_iload C dX7_goes_72 rfl ?_
        refine at_iload C dX7_goes_74 rfl ?_
        refine at_callp (run_S (rest := []) (As := [.int x7, .int x5]) C (metX7_plateAt l D dA ad  hw) (lw_S q873 q874 q65 q875) dsX7_plateAt (gR_ok (Nat.le_of_ble_eq_true rfl) (Nat.le_of_ble_eq_true rfl)) ⟨rfl, rfl⟩ ⟨Nat.le_refl 0, Nat.le_refl 0⟩ rfl rfl (Nat.le_of_ble_eq_true rfl) dX7_goes_76) (fun r_19  hw => ?_)
        refine at_istore (L' := [(0, .ref (ad 0)), (1, .int x1), (3, .int x3), (5, .int x5), (6, .int x6), (7, .int x7), (8, .int r_19)]) C dX7_goes_79 (Nat.le_of_ble_eq_true rfl) rfl ?_
        refine at_iload C dX7_goes_81 rfl ?_
        refine at_iconst C dX7_goes_83 ic_m1 ?_
        refine at_icmp_ne (tgt := 91) C dX7_goes_84 (by decide) (fun c_20 => ?_) (fun c_20 => ?_)
        · have hw := hw.1 c_20
          refine at_aload_n C dX7_goes_91 rfl rfl ?_
          refine at_getr (j := 22) (r := 10) C (Nat.le_of_ble_eq_true rfl) rfl rfl in_X7 (Nat.le_of_ble_eq_true rfl) rfl q709 dX7_goes_92 ?_
          refine at_iload C dX7_goes_95 rfl ?_
          refine at_iald C (Nat.le_of_ble_eq_true rfl) rfl hw.1 rfl dX7_goes_97 ?_
          have hw := hw.2
          exact at_sub (lv_pickm [0, 1, 2, 3, 4, 5] rfl) (tX7_goes_98 C ih hw)
        · have hw := hw.2 c_20
          refine at_iconst C dX7_goes_87 ic_m1 ?_
          refine at_goto (tgt := 98) C dX7_goes_88 (by decide) ?_
          exact at_sub (lv_pickm [0, 1, 2, 3, 4, 5] rfl) (tX7_goes_98 C ih hw)
set_option maxHeartbeats 4000000 in
theorem tX7_goes_18     {Q : Int32 → GW → Prop} (C : Cx p s m args meth c D dA cX7_goes 10 (some .int) RX7)    {x1 : Int32} {x2 : Int32} {x3 : Int32} {x4 : Int32}   : ∀ (n : Nat) (x5 : Int32) (w : GW), PX7_goes_18 Q x1 x2 x3 x4 n x5 w → gAtM p l e s m args below meth c D dA ad 4 (va_Qi Q (gZ D dA 20 ad layM) (gA 20 ad)) 10 18 [(0, .ref (ad 0)), (1, .int x1), (2, .int x2), (3, .int x3), (4, .int x4), (5, .int x5)] [] w := by
  intro n
  induction n with
  | zero => intro x5 w hw; exact False.elim hw
  | succ n ih =>
    intro x5 w hw
    unfold PX7_goes_18 at hw
    refine at_iload C dX7_goes_18 rfl ?_
    refine at_bipush C dX7_goes_20 bp_9 ?_
    refine at_icmp_ge (tgt := 48) C dX7_goes_22 (by decide) (fun c_21 => ?_) (fun c_21 => ?_)
    · have hw := hw.1 c_21
      refine at_iload_n C dX7_goes_48 rfl rfl ?_
      refine at_istore (L' := [(0, .ref (ad 0)), (1, .int x1), (2, .int x2), (3, .int x3), (4, .int x4), (5, .int x2)]) C dX7_goes_49 (Nat.le_of_ble_eq_true rfl) rfl ?_
      refine at_iload C dX7_goes_51 rfl ?_
      refine at_istore (L' := [(0, .ref (ad 0)), (1, .int x1), (2, .int x2), (3, .int x3), (4, .int x4), (5, .int x2), (6, .int x4)]) C dX7_goes_53 (Nat.le_of_ble_eq_true rfl) rfl ?_
      refine at_iconst C dX7_goes_55 ic_0 ?_
      refine at_istore (L' := [(0, .ref (ad 0)), (1, .int x1), (2, .int x2), (3, .int x3), (4, .int x4), (5, .int x2), (6, .int x4), (7, .int 0)]) C dX7_goes_56 (Nat.le_of_ble_eq_true rfl) rfl ?_
      obtain ⟨n_22, hw⟩ := hw
      exact at_sub (lv_pickm [0, 1, 3, 5, 6, 7] rfl) (tX7_goes_58 C  _ _ _ _ _ hw)
    · have hw := hw.2 c_21
      refine at_aload_n C dX7_goes_25 rfl rfl ?_
      refine at_getr (j := 24) (r := 12) C (Nat.le_of_ble_eq_true rfl) rfl rfl in_X7 (Nat.le_of_ble_eq_true rfl) rfl q711 dX7_goes_26 ?_
      refine at_iload C dX7_goes_29 rfl ?_
      refine at_iconst C dX7_goes_31 ic_0 ?_
      refine at_iast C (Nat.le_of_ble_eq_true rfl) rfl hw.1 rfl dX7_goes_32 (fun w_23 ew_23 => ?_)
      have hw := hw.2 w_23 ew_23
      refine at_aload_n C dX7_goes_33 rfl rfl ?_
      refine at_getr (j := 25) (r := 13) C (Nat.le_of_ble_eq_true rfl) rfl rfl in_X7 (Nat.le_of_ble_eq_true rfl) rfl q712 dX7_goes_34 ?_
      refine at_iload C dX7_goes_37 rfl ?_
      refine at_bipush C dX7_goes_39 bp_m2 ?_
      refine at_iast C (Nat.le_of_ble_eq_true rfl) rfl hw.1 rfl dX7_goes_41 (fun w_24 ew_24 => ?_)
      have hw := hw.2 w_24 ew_24
      refine at_iinc (F := fun z_ => [(0, .ref (ad 0)), (1, .int x1), (2, .int x2), (3, .int x3), (4, .int x4), (5, .int z_)]) C dX7_goes_42 rfl ic_1 (Nat.le_of_ble_eq_true rfl) (fun _ => rfl) (fun v5_25 e5_25 => ?_)
      have hw := hw v5_25 e5_25
      refine at_goto (tgt := 18) C dX7_goes_45 (by decide) ?_
      exact ih _ _ hw
set_option maxHeartbeats 4000000 in
theorem metX7_goes   (l : Launch) (D : va_G) (dA : Nat → ClassId) (ad : Nat → Nat)    {x1 : Int32} {x2 : Int32} {x3 : Int32} {x4 : Int32} {w : GW} {Q : Int32 → GW → Prop} (hw : PX7_goes x1 x2 x3 x4 w Q) : Met l yX7_goes (ws_ yX7_goes cX7_goes 10 (some .int)) (gR 4) (va_Pc [.ref (ad 0), .int x1, .int x2, .int x3, .int x4] (gB D dA 20 ad layM w)) (va_Qi Q (gZ D dA 20 ad layM) (gA 20 ad)) 0 0 (gA 20 ad) := by
  refine gm_of (L := [(0, .ref (ad 0)), (1, .int x1), (2, .int x2), (3, .int x3), (4, .int x4)]) (own := RX7) (by decide +kernel) rfl (Nat.le_of_ble_eq_true rfl) rfl rfl (fun p e s m below meth c C => ?_)
  unfold PX7_goes at hw
  refine at_aload_n C dX7_goes_0 rfl rfl ?_
  refine at_iload_n C dX7_goes_1 rfl rfl ?_
  refine at_puti (j := 26) C (Nat.le_of_ble_eq_true rfl) rfl rfl in_X7 (Nat.le_of_ble_eq_true rfl) rfl q713 tyX7 tyX7_ok nmX7 rfl rfl rfl dX7_goes_2 (fun w_26 ew_26 => ?_)
  have hw := hw w_26 ew_26
  refine at_aload_n C dX7_goes_5 rfl rfl ?_
  refine at_iconst C dX7_goes_6 ic_0 ?_
  refine at_puti (j := 27) C (Nat.le_of_ble_eq_true rfl) rfl rfl in_X7 (Nat.le_of_ble_eq_true rfl) rfl q714 tyX7 tyX7_ok nmX7 rfl rfl rfl dX7_goes_7 (fun w_27 ew_27 => ?_)
  have hw := hw w_27 ew_27
  refine at_aload_n C dX7_goes_10 rfl rfl ?_
  refine at_iconst C dX7_goes_11 ic_m1 ?_
  refine at_puti (j := 28) C (Nat.le_of_ble_eq_true rfl) rfl rfl in_X7 (Nat.le_of_ble_eq_true rfl) rfl q715 tyX7 tyX7_ok nmX7 rfl rfl rfl dX7_goes_12 (fun w_28 ew_28 => ?_)
  have hw := hw w_28 ew_28
  refine at_iconst C dX7_goes_15 ic_0 ?_
  refine at_istore (L' := [(0, .ref (ad 0)), (1, .int x1), (2, .int x2), (3, .int x3), (4, .int x4), (5, .int 0)]) C dX7_goes_16 (Nat.le_of_ble_eq_true rfl) rfl ?_
  obtain ⟨n_29, hw⟩ := hw
  exact (tX7_goes_18 C  _ _ _ hw)
set_option maxHeartbeats 4000000 in
theorem metX7_goesBy   (l : Launch) (D : va_G) (dA : Nat → ClassId) (ad : Nat → Nat)    {x1 : Int32} {x2 : Int32} {w : GW} {Q : Int32 → GW → Prop} (hw : PX7_goesBy x1 x2 w Q) : Met l yX7_goesBy (ws_ yX7_goesBy cX7_goesBy 3 (some .int)) (gR 5) (va_Pc [.ref (ad 0), .int x1, .int x2] (gB D dA 20 ad layM w)) (va_Qi Q (gZ D dA 20 ad layM) (gA 20 ad)) 0 0 (gA 20 ad) := by
  refine gm_of (L := [(0, .ref (ad 0)), (1, .int x1), (2, .int x2)]) (own := RX7) (by decide +kernel) rfl (Nat.le_of_ble_eq_true rfl) rfl rfl (fun p e s m below meth c C => ?_)
  unfold PX7_goesBy at hw
  refine at_aload_n C dX7_goesBy_0 rfl rfl ?_
  refine at_iload_n C dX7_goesBy_1 rfl rfl ?_
  refine at_iload_n C dX7_goesBy_2 rfl rfl ?_
  refine at_bipush C dX7_goesBy_3 bp_120 ?_
  refine at_idiv C dX7_goesBy_5 nz_120 ?_
  refine at_iload_n C dX7_goesBy_6 rfl rfl ?_
  refine at_bipush C dX7_goesBy_7 bp_40 ?_
  refine at_idiv C dX7_goesBy_9 nz_40 ?_
  refine at_iconst C dX7_goesBy_10 ic_3 ?_
  refine at_irem C dX7_goesBy_11 nz_3 ?_
  refine at_iconst C dX7_goesBy_12 ic_1 ?_
  refine at_iload_n C dX7_goesBy_13 rfl rfl ?_
  refine at_bipush C dX7_goesBy_14 bp_40 ?_
  refine at_irem C dX7_goesBy_16 nz_40 ?_
  refine at_iadd C dX7_goesBy_17 ?_
  refine at_calli (run_V (rest := []) (As := [.int x1, .int (x2 / 120), .int ((x2 / 40) - (x2 / 40) / 3 * 3), .int (1 + (x2 - x2 / 40 * 40))]) C (metX7_goes l D dA ad  hw) (lw_V q869 q871 qs37 q65 q872) dsX7_goes (gR_ok (Nat.le_of_ble_eq_true rfl) (Nat.le_of_ble_eq_true rfl)) ⟨rfl, rfl⟩ ⟨Nat.le_refl 0, Nat.le_refl 0⟩ (Nat.le_of_ble_eq_true rfl) rfl rfl rfl rfl (Nat.le_of_ble_eq_true rfl) dX7_goesBy_18) (fun r_1 w_2 hw => ?_)
  exact at_iret C rfl hw dX7_goesBy_21
set_option maxHeartbeats 4000000 in
theorem tX7_ones_4     {Q : Int32 → Prop} (C : Cx p s m args meth c D dA cX7_ones 3 (some .int) RX7)    {x0 : Int32} {w : GW}  : ∀ (n : Nat) (x1 : Int32) (x2 : Int32), PX7_ones_4 Q x0 n x1 x2 → gAtM p l e s m args below meth c D dA ad 1 (va_Qi (gQ1 Q w) (gZ D dA 20 ad layM) (gA 20 ad)) 3 4 [(0, .int x0), (1, .int x1), (2, .int x2)] [] w := by
  intro n
  induction n with
  | zero => intro x1 x2 hw; exact False.elim hw
  | succ n ih =>
    intro x1 x2 hw
    unfold PX7_ones_4 at hw
    refine at_iload_n C dX7_ones_4 rfl rfl ?_
    refine at_bipush C dX7_ones_5 bp_9 ?_
    refine at_icmp_ge (tgt := 24) C dX7_ones_7 (by decide) (fun c_1 => ?_) (fun c_1 => ?_)
    · have hw := hw.1 c_1
      refine at_iload_n C dX7_ones_24 rfl rfl ?_
      exact at_iret C rfl ⟨hw, rfl⟩ dX7_ones_25
    · have hw := hw.2 c_1
      refine at_iload_n C dX7_ones_10 rfl rfl ?_
      refine at_iload_n C dX7_ones_11 rfl rfl ?_
      refine at_iload_n C dX7_ones_12 rfl rfl ?_
      refine at_ishr C dX7_ones_13 ?_
      refine at_iconst C dX7_ones_14 ic_1 ?_
      refine at_iand C dX7_ones_15 ?_
      refine at_iadd C dX7_ones_16 ?_
      refine at_topi (fun v1_2 e1_2 => ?_)
      have hw := hw v1_2 e1_2
      refine at_istore_n (L' := [(0, .int x0), (1, .int v1_2), (2, .int x2)]) C dX7_ones_17 rfl (Nat.le_of_ble_eq_true rfl) rfl ?_
      refine at_iinc (F := fun z_ => [(0, .int x0), (1, .int v1_2), (2, .int z_)]) C dX7_ones_18 rfl ic_1 (Nat.le_of_ble_eq_true rfl) (fun _ => rfl) (fun v2_3 e2_3 => ?_)
      have hw := hw v2_3 e2_3
      refine at_goto (tgt := 4) C dX7_ones_21 (by decide) ?_
      exact ih _ _ hw
set_option maxHeartbeats 4000000 in
theorem metX7_ones   (l : Launch) (D : va_G) (dA : Nat → ClassId) (ad : Nat → Nat)    {x0 : Int32} {w : GW} {Q : Int32 → Prop} (hw : PX7_ones x0 Q) : Met l yX7_ones (ws_ yX7_ones cX7_ones 3 (some .int)) (gR 1) (va_Pc [.int x0] (gB D dA 20 ad layM w)) (va_Qi (gQ1 Q w) (gZ D dA 20 ad layM) (gA 20 ad)) 0 0 (gA 20 ad) := by
  refine gm_of (L := [(0, .int x0)]) (own := RX7) (by decide +kernel) rfl (Nat.le_of_ble_eq_true rfl) rfl rfl (fun p e s m below meth c C => ?_)
  unfold PX7_ones at hw
  refine at_iconst C dX7_ones_0 ic_0 ?_
  refine at_istore_n (L' := [(0, .int x0), (1, .int 0)]) C dX7_ones_1 rfl (Nat.le_of_ble_eq_true rfl) rfl ?_
  refine at_iconst C dX7_ones_2 ic_0 ?_
  refine at_istore_n (L' := [(0, .int x0), (1, .int 0), (2, .int 0)]) C dX7_ones_3 rfl (Nat.le_of_ble_eq_true rfl) rfl ?_
  obtain ⟨n_4, hw⟩ := hw
  exact (tX7_ones_4 C  _ _ _ hw)
set_option maxHeartbeats 4000000 in
theorem metX7_numberOf   (l : Launch) (D : va_G) (dA : Nat → ClassId) (ad : Nat → Nat)    {x0 : Int32} {w : GW} {Q : Int32 → Prop} (hw : PX7_numberOf x0 Q) : Met l yX7_numberOf (ws_ yX7_numberOf cX7_numberOf 1 (some .int)) (gR 1) (va_Pc [.int x0] (gB D dA 20 ad layM w)) (va_Qi (gQ1 Q w) (gZ D dA 20 ad layM) (gA 20 ad)) 0 0 (gA 20 ad) := by
  refine gm_of (L := [(0, .int x0)]) (own := RX7) (by decide +kernel) rfl (Nat.le_of_ble_eq_true rfl) rfl rfl (fun p e s m below meth c C => ?_)
  unfold PX7_numberOf at hw
  refine at_sipush C dX7_numberOf_0 sp_1000 ?_
  refine at_iload_n C dX7_numberOf_3 rfl rfl ?_
  refine at_bipush C dX7_numberOf_4 bp_120 ?_
  refine at_idiv C dX7_numberOf_6 nz_120 ?_
  refine at_imul C dX7_numberOf_7 ?_
  refine at_bipush C dX7_numberOf_8 bp_100 ?_
  refine at_iload_n C dX7_numberOf_10 rfl rfl ?_
  refine at_bipush C dX7_numberOf_11 bp_40 ?_
  refine at_idiv C dX7_numberOf_13 nz_40 ?_
  refine at_iconst C dX7_numberOf_14 ic_3 ?_
  refine at_irem C dX7_numberOf_15 nz_3 ?_
  refine at_imul C dX7_numberOf_16 ?_
  refine at_iadd C dX7_numberOf_17 ?_
  refine at_iconst C dX7_numberOf_18 ic_1 ?_
  refine at_iadd C dX7_numberOf_19 ?_
  refine at_iload_n C dX7_numberOf_20 rfl rfl ?_
  refine at_bipush C dX7_numberOf_21 bp_40 ?_
  refine at_irem C dX7_numberOf_23 nz_40 ?_
  refine at_iadd C dX7_numberOf_24 ?_
  exact at_iret C rfl ⟨hw, rfl⟩ dX7_numberOf_25
set_option maxHeartbeats 4000000 in
theorem tX7_worst_76    {K22 : Int32 → Int32 → Int32 → GW → Prop} {Q : Int32 → GW → Prop} (C : Cx p s m args meth c D dA cX7_worst 6 (some .int) RX7)    {x1 : Int32} {x2 : Int32} {x4 : Int32} {s0 : Int32} {w : GW} (hK22 : ∀ (x2 : Int32) (x3 : Int32) (x4 : Int32) (w : GW), K22 x2 x3 x4 w → gAtM p l e s m args below meth c D dA ad 6 (va_Qi Q (gZ D dA 20 ad layM) (gA 20 ad)) 6 22 [(0, .ref (ad 0)), (1, .int x1), (2, .int x2), (3, .int x3), (4, .int x4)] [] w) (hw : PX7_worst_76 K22 Q x1 x2 x4 s0 w) : gAtM p l e s m args below meth c D dA ad 6 (va_Qi Q (gZ D dA 20 ad layM) (gA 20 ad)) 6 76 [(0, .ref (ad 0)), (1, .int x1), (2, .int x2), (4, .int x4)] [.int s0] w := by
  unfold PX7_worst_76 at hw
  refine at_istore_n (L' := [(0, .ref (ad 0)), (1, .int x1), (2, .int x2), (3, .int s0), (4, .int x4)]) C dX7_worst_76 rfl (Nat.le_of_ble_eq_true rfl) rfl ?_
  refine at_iinc (F := fun z_ => [(0, .ref (ad 0)), (1, .int x1), (2, .int x2), (3, .int s0), (4, .int z_)]) C dX7_worst_77 rfl ic_1 (Nat.le_of_ble_eq_true rfl) (fun _ => rfl) (fun v4_1 e4_1 => ?_)
  have hw := hw v4_1 e4_1
  refine at_goto (tgt := 22) C dX7_worst_80 (by decide) ?_
  exact hK22 _ _ _ _ hw
set_option maxHeartbeats 4000000 in
theorem tX7_worst_63    {K22 : Int32 → Int32 → Int32 → GW → Prop} {Q : Int32 → GW → Prop} (C : Cx p s m args meth c D dA cX7_worst 6 (some .int) RX7)    {x1 : Int32} {x3 : Int32} {x4 : Int32} {x5 : Int32} {s0 : Int32} {w : GW} (hK22 : ∀ (x2 : Int32) (x3 : Int32) (x4 : Int32) (w : GW), K22 x2 x3 x4 w → gAtM p l e s m args below meth c D dA ad 6 (va_Qi Q (gZ D dA 20 ad layM) (gA 20 ad)) 6 22 [(0, .ref (ad 0)), (1, .int x1), (2, .int x2), (3, .int x3), (4, .int x4)] [] w) (hw : PX7_worst_63 K22 Q x1 x3 x4 x5 s0 w) : gAtM p l e s m args below meth c D dA ad 6 (va_Qi Q (gZ D dA 20 ad layM) (gA 20 ad)) 6 63 [(0, .ref (ad 0)), (1, .int x1), (3, .int x3), (4, .int x4), (5, .int x5)] [.int s0] w := by
  unfold PX7_worst_63 at hw
  refine at_istore_n (L' := [(0, .ref (ad 0)), (1, .int x1), (2, .int s0), (3, .int x3), (4, .int x4), (5, .int x5)]) C dX7_worst_63 rfl (Nat.le_of_ble_eq_true rfl) rfl ?_
  refine at_iload C dX7_worst_64 rfl ?_
  refine at_iload_n C dX7_worst_66 rfl rfl ?_
  refine at_icmp_le (tgt := 75) C dX7_worst_67 (by decide) (fun c_2 => ?_) (fun c_2 => ?_)
  · have hw := hw.1 c_2
    refine at_iload_n C dX7_worst_75 rfl rfl ?_
    exact at_sub (lv_pickm [0, 1, 2, 4] rfl) (tX7_worst_76 C hK22 hw)
  · have hw := hw.2 c_2
    refine at_iload C dX7_worst_70 rfl ?_
    refine at_goto (tgt := 76) C dX7_worst_72 (by decide) ?_
    exact at_sub (lv_pickm [0, 1, 2, 4] rfl) (tX7_worst_76 C hK22 hw)
set_option maxHeartbeats 4000000 in
theorem tX7_worst_22     {Q : Int32 → GW → Prop} (C : Cx p s m args meth c D dA cX7_worst 6 (some .int) RX7)    {x1 : Int32}   : ∀ (n : Nat) (x2 : Int32) (x3 : Int32) (x4 : Int32) (w : GW), PX7_worst_22 Q x1 n x2 x3 x4 w → gAtM p l e s m args below meth c D dA ad 6 (va_Qi Q (gZ D dA 20 ad layM) (gA 20 ad)) 6 22 [(0, .ref (ad 0)), (1, .int x1), (2, .int x2), (3, .int x3), (4, .int x4)] [] w := by
  intro n
  induction n with
  | zero => intro x2 x3 x4 w hw; exact False.elim hw
  | succ n ih =>
    intro x2 x3 x4 w hw
    unfold PX7_worst_22 at hw
    refine at_iload C dX7_worst_22 rfl ?_
    refine at_sipush C dX7_worst_24 sp_600 ?_
    refine at_icmp_ge (tgt := 83) C dX7_worst_27 (by decide) (fun c_3 => ?_) (fun c_3 => ?_)
    · have hw := hw.1 c_3
      refine at_iload_n C dX7_worst_83 rfl rfl ?_
      refine at_if_ne (tgt := 91) C dX7_worst_84 (by decide) (fun c_4 => ?_) (fun c_4 => ?_)
      · have hw := hw.1 c_4
        refine at_iload_n C dX7_worst_91 rfl rfl ?_
        exact at_iret C rfl hw dX7_worst_92
      · have hw := hw.2 c_4
        refine at_iload_n C dX7_worst_87 rfl rfl ?_
        refine at_goto (tgt := 92) C dX7_worst_88 (by decide) ?_
        exact at_iret C rfl hw dX7_worst_92
    · have hw := hw.2 c_3
      refine at_aload_n C dX7_worst_30 rfl rfl ?_
      refine at_aload_n C dX7_worst_31 rfl rfl ?_
      refine at_getr (j := 14) (r := 4) C (Nat.le_of_ble_eq_true rfl) rfl rfl in_X7 (Nat.le_of_ble_eq_true rfl) rfl q701 dX7_worst_32 ?_
      refine at_bipush C dX7_worst_35 bp_45 ?_
      refine at_iald C (Nat.le_of_ble_eq_true rfl) rfl vk_45_49 tk_45 dX7_worst_37 ?_
      refine at_iload C dX7_worst_38 rfl ?_
      refine at_calli (run_V (rest := []) (As := [.int (w 4 45), .int x4]) C (metX7_goesBy l D dA ad  hw) (lw_V q865 q867 qs36 q65 q868) dsX7_goesBy (gR_ok (Nat.le_of_ble_eq_true rfl) (Nat.le_of_ble_eq_true rfl)) ⟨rfl, rfl⟩ ⟨Nat.le_refl 0, Nat.le_refl 0⟩ (Nat.le_of_ble_eq_true rfl) rfl rfl rfl rfl (Nat.le_of_ble_eq_true rfl) dX7_worst_40) (fun r_5 w_6 hw => ?_)
      refine at_callp (run_S (rest := []) (As := [.int r_5]) C (metX7_ones l D dA ad  hw) (lw_S q898 q899 q65 q900) dsX7_ones (gR_ok (Nat.le_of_ble_eq_true rfl) (Nat.le_of_ble_eq_true rfl)) ⟨rfl, rfl⟩ ⟨Nat.le_refl 0, Nat.le_refl 0⟩ rfl rfl (Nat.le_of_ble_eq_true rfl) dX7_worst_43) (fun r_7  hw => ?_)
      refine at_istore (L' := [(0, .ref (ad 0)), (1, .int x1), (2, .int x2), (3, .int x3), (4, .int x4), (5, .int r_7)]) C dX7_worst_46 (Nat.le_of_ble_eq_true rfl) rfl ?_
      refine at_iload C dX7_worst_48 rfl ?_
      refine at_iload_n C dX7_worst_50 rfl rfl ?_
      refine at_icmp_le (tgt := 62) C dX7_worst_51 (by decide) (fun c_8 => ?_) (fun c_8 => ?_)
      · have hw := hw.1 c_8
        refine at_iload_n C dX7_worst_62 rfl rfl ?_
        exact at_sub (lv_pickm [0, 1, 3, 4, 5] rfl) (tX7_worst_63 C ih hw)
      · have hw := hw.2 c_8
        refine at_iload C dX7_worst_54 rfl ?_
        refine at_callp (run_S (rest := []) (As := [.int x4]) C (metX7_numberOf l D dA ad  hw) (lw_S q901 q902 q65 q903) dsX7_numberOf (gR_ok (Nat.le_of_ble_eq_true rfl) (Nat.le_of_ble_eq_true rfl)) ⟨rfl, rfl⟩ ⟨Nat.le_refl 0, Nat.le_refl 0⟩ rfl rfl (Nat.le_of_ble_eq_true rfl) dX7_worst_56) (fun r_9  hw => ?_)
        refine at_goto (tgt := 63) C dX7_worst_59 (by decide) ?_
        exact at_sub (lv_pickm [0, 1, 3, 4, 5] rfl) (tX7_worst_63 C ih hw)
set_option maxHeartbeats 4000000 in
theorem metX7_worst   (l : Launch) (D : va_G) (dA : Nat → ClassId) (ad : Nat → Nat)    {x1 : Int32} {w : GW} {Q : Int32 → GW → Prop} (hw : PX7_worst x1 w Q) : Met l yX7_worst (ws_ yX7_worst cX7_worst 6 (some .int)) (gR 6) (va_Pc [.ref (ad 0), .int x1] (gB D dA 20 ad layM w)) (va_Qi Q (gZ D dA 20 ad layM) (gA 20 ad)) 0 0 (gA 20 ad) := by
  refine gm_of (L := [(0, .ref (ad 0)), (1, .int x1)]) (own := RX7) (by decide +kernel) rfl (Nat.le_of_ble_eq_true rfl) rfl rfl (fun p e s m below meth c C => ?_)
  unfold PX7_worst at hw
  refine at_aload_n C dX7_worst_0 rfl rfl ?_
  refine at_geti (j := 7) C (Nat.le_of_ble_eq_true rfl) rfl rfl in_X7 (Nat.le_of_ble_eq_true rfl) rfl q694 dX7_worst_1 ?_
  refine at_if_ne (tgt := 9) C dX7_worst_4 (by decide) (fun c_10 => ?_) (fun c_10 => ?_)
  · have hw := hw.1 c_10
    refine at_aload_n C dX7_worst_9 rfl rfl ?_
    refine at_iconst C dX7_worst_10 ic_0 ?_
    refine at_iconst C dX7_worst_11 ic_0 ?_
    refine at_callv (run_V (rest := []) (As := [.int 0, .int 0]) C (metX7_sets l D dA ad  hw) (lw_V q854 q856 qs34 q65 q857) dsX7_sets (gR_ok (Nat.le_of_ble_eq_true rfl) (Nat.le_of_ble_eq_true rfl)) ⟨rfl, rfl⟩ ⟨Nat.le_refl 0, Nat.le_refl 0⟩ (Nat.le_of_ble_eq_true rfl) rfl rfl rfl rfl (Nat.le_of_ble_eq_true rfl) dX7_worst_12) (fun  w_12 hw => ?_)
    refine at_iconst C dX7_worst_15 ic_0 ?_
    refine at_istore_n (L' := [(0, .ref (ad 0)), (1, .int x1), (2, .int 0)]) C dX7_worst_16 rfl (Nat.le_of_ble_eq_true rfl) rfl ?_
    refine at_iconst C dX7_worst_17 ic_m1 ?_
    refine at_istore_n (L' := [(0, .ref (ad 0)), (1, .int x1), (2, .int 0), (3, .int (-1))]) C dX7_worst_18 rfl (Nat.le_of_ble_eq_true rfl) rfl ?_
    refine at_iconst C dX7_worst_19 ic_0 ?_
    refine at_istore (L' := [(0, .ref (ad 0)), (1, .int x1), (2, .int 0), (3, .int (-1)), (4, .int 0)]) C dX7_worst_20 (Nat.le_of_ble_eq_true rfl) rfl ?_
    obtain ⟨n_13, hw⟩ := hw
    exact (tX7_worst_22 C  _ _ _ _ _ hw)
  · have hw := hw.2 c_10
    refine at_iconst C dX7_worst_7 ic_m1 ?_
    exact at_iret C rfl hw dX7_worst_8
set_option maxHeartbeats 4000000 in
theorem tX7_safest_134    {K34 : Int32 → Int32 → Int32 → GW → Prop} {Q : Int32 → GW → Prop} (C : Cx p s m args meth c D dA cX7_safest 7 (some .int) RX7)    {x1 : Int32} {x2 : Int32} {x4 : Int32} {s0 : Int32} {w : GW} (hK34 : ∀ (x2 : Int32) (x3 : Int32) (x4 : Int32) (w : GW), K34 x2 x3 x4 w → gAtM p l e s m args below meth c D dA ad 6 (va_Qi Q (gZ D dA 20 ad layM) (gA 20 ad)) 7 34 [(0, .ref (ad 0)), (1, .int x1), (2, .int x2), (3, .int x3), (4, .int x4)] [] w) (hw : PX7_safest_134 K34 Q x1 x2 x4 s0 w) : gAtM p l e s m args below meth c D dA ad 6 (va_Qi Q (gZ D dA 20 ad layM) (gA 20 ad)) 7 134 [(0, .ref (ad 0)), (1, .int x1), (2, .int x2), (4, .int x4)] [.int s0] w := by
  unfold PX7_safest_134 at hw
  refine at_istore_n (L' := [(0, .ref (ad 0)), (1, .int x1), (2, .int x2), (3, .int s0), (4, .int x4)]) C dX7_safest_134 rfl (Nat.le_of_ble_eq_true rfl) rfl ?_
  refine at_iinc (F := fun z_ => [(0, .ref (ad 0)), (1, .int x1), (2, .int x2), (3, .int s0), (4, .int z_)]) C dX7_safest_135 rfl ic_1 (Nat.le_of_ble_eq_true rfl) (fun _ => rfl) (fun v4_1 e4_1 => ?_)
  have hw := hw v4_1 e4_1
  refine at_goto (tgt := 34) C dX7_safest_138 (by decide) ?_
  exact hK34 _ _ _ _ hw
set_option maxHeartbeats 4000000 in
theorem tX7_safest_121    {K34 : Int32 → Int32 → Int32 → GW → Prop} {Q : Int32 → GW → Prop} (C : Cx p s m args meth c D dA cX7_safest 7 (some .int) RX7)    {x1 : Int32} {x3 : Int32} {x4 : Int32} {x5 : Int32} {s0 : Int32} {w : GW} (hK34 : ∀ (x2 : Int32) (x3 : Int32) (x4 : Int32) (w : GW), K34 x2 x3 x4 w → gAtM p l e s m args below meth c D dA ad 6 (va_Qi Q (gZ D dA 20 ad layM) (gA 20 ad)) 7 34 [(0, .ref (ad 0)), (1, .int x1), (2, .int x2), (3, .int x3), (4, .int x4)] [] w) (hw : PX7_safest_121 K34 Q x1 x3 x4 x5 s0 w) : gAtM p l e s m args below meth c D dA ad 6 (va_Qi Q (gZ D dA 20 ad layM) (gA 20 ad)) 7 121 [(0, .ref (ad 0)), (1, .int x1), (3, .int x3), (4, .int x4), (5, .int x5)] [.int s0] w := by
  unfold PX7_safest_121 at hw
  refine at_istore_n (L' := [(0, .ref (ad 0)), (1, .int x1), (2, .int s0), (3, .int x3), (4, .int x4), (5, .int x5)]) C dX7_safest_121 rfl (Nat.le_of_ble_eq_true rfl) rfl ?_
  refine at_iload C dX7_safest_122 rfl ?_
  refine at_iload_n C dX7_safest_124 rfl rfl ?_
  refine at_icmp_ge (tgt := 133) C dX7_safest_125 (by decide) (fun c_2 => ?_) (fun c_2 => ?_)
  · have hw := hw.1 c_2
    refine at_iload_n C dX7_safest_133 rfl rfl ?_
    exact at_sub (lv_pickm [0, 1, 2, 4] rfl) (tX7_safest_134 C hK34 hw)
  · have hw := hw.2 c_2
    refine at_iload C dX7_safest_128 rfl ?_
    refine at_goto (tgt := 134) C dX7_safest_130 (by decide) ?_
    exact at_sub (lv_pickm [0, 1, 2, 4] rfl) (tX7_safest_134 C hK34 hw)
set_option maxHeartbeats 4000000 in
theorem tX7_safest_100    {K34 : Int32 → Int32 → Int32 → GW → Prop} {K64 : Int32 → Int32 → GW → Prop} {Q : Int32 → GW → Prop} (C : Cx p s m args meth c D dA cX7_safest 7 (some .int) RX7)    {x1 : Int32} {x2 : Int32} {x3 : Int32} {x4 : Int32} {x6 : Int32} {s0 : Int32} {s1 : Int32} {w : GW} (hK34 : ∀ (x2 : Int32) (x3 : Int32) (x4 : Int32) (w : GW), K34 x2 x3 x4 w → gAtM p l e s m args below meth c D dA ad 6 (va_Qi Q (gZ D dA 20 ad layM) (gA 20 ad)) 7 34 [(0, .ref (ad 0)), (1, .int x1), (2, .int x2), (3, .int x3), (4, .int x4)] [] w) (hK64 : ∀ (x5 : Int32) (x6 : Int32) (w : GW), K64 x5 x6 w → gAtM p l e s m args below meth c D dA ad 6 (va_Qi Q (gZ D dA 20 ad layM) (gA 20 ad)) 7 64 [(0, .ref (ad 0)), (1, .int x1), (2, .int x2), (3, .int x3), (4, .int x4), (5, .int x5), (6, .int x6)] [] w) (hw : PX7_safest_100 K34 K64 Q x1 x2 x3 x4 x6 s0 s1 w) : gAtM p l e s m args below meth c D dA ad 6 (va_Qi Q (gZ D dA 20 ad layM) (gA 20 ad)) 7 100 [(0, .ref (ad 0)), (1, .int x1), (2, .int x2), (3, .int x3), (4, .int x4), (6, .int x6)] [.int s1, .int s0] w := by
  unfold PX7_safest_100 at hw
  refine at_iadd C dX7_safest_100 ?_
  refine at_topi (fun v5_3 e5_3 => ?_)
  have hw := hw v5_3 e5_3
  refine at_istore (L' := [(0, .ref (ad 0)), (1, .int x1), (2, .int x2), (3, .int x3), (4, .int x4), (5, .int v5_3), (6, .int x6)]) C dX7_safest_101 (Nat.le_of_ble_eq_true rfl) rfl ?_
  refine at_iinc (F := fun z_ => [(0, .ref (ad 0)), (1, .int x1), (2, .int x2), (3, .int x3), (4, .int x4), (5, .int v5_3), (6, .int z_)]) C dX7_safest_103 rfl ic_1 (Nat.le_of_ble_eq_true rfl) (fun _ => rfl) (fun v6_4 e6_4 => ?_)
  have hw := hw v6_4 e6_4
  refine at_goto (tgt := 64) C dX7_safest_106 (by decide) ?_
  exact hK64 _ _ _ hw
set_option maxHeartbeats 4000000 in
theorem tX7_safest_64    {K34 : Int32 → Int32 → Int32 → GW → Prop} {Q : Int32 → GW → Prop} (C : Cx p s m args meth c D dA cX7_safest 7 (some .int) RX7)    {x1 : Int32} {x2 : Int32} {x3 : Int32} {x4 : Int32}  (hK34 : ∀ (x2 : Int32) (x3 : Int32) (x4 : Int32) (w : GW), K34 x2 x3 x4 w → gAtM p l e s m args below meth c D dA ad 6 (va_Qi Q (gZ D dA 20 ad layM) (gA 20 ad)) 7 34 [(0, .ref (ad 0)), (1, .int x1), (2, .int x2), (3, .int x3), (4, .int x4)] [] w) : ∀ (n : Nat) (x5 : Int32) (x6 : Int32) (w : GW), PX7_safest_64 K34 Q x1 x2 x3 x4 n x5 x6 w → gAtM p l e s m args below meth c D dA ad 6 (va_Qi Q (gZ D dA 20 ad layM) (gA 20 ad)) 7 64 [(0, .ref (ad 0)), (1, .int x1), (2, .int x2), (3, .int x3), (4, .int x4), (5, .int x5), (6, .int x6)] [] w := by
  intro n
  induction n with
  | zero => intro x5 x6 w hw; exact False.elim hw
  | succ n ih =>
    intro x5 x6 w hw
    unfold PX7_safest_64 at hw
    refine at_iload C dX7_safest_64 rfl ?_
    refine at_sipush C dX7_safest_66 sp_600 ?_
    refine at_icmp_ge (tgt := 109) C dX7_safest_69 (by decide) (fun c_5 => ?_) (fun c_5 => ?_)
    · have hw := hw.1 c_5
      refine at_iload C dX7_safest_109 rfl ?_
      refine at_iload_n C dX7_safest_111 rfl rfl ?_
      refine at_icmp_ge (tgt := 120) C dX7_safest_112 (by decide) (fun c_6 => ?_) (fun c_6 => ?_)
      · have hw := hw.1 c_6
        refine at_iload_n C dX7_safest_120 rfl rfl ?_
        exact at_sub (lv_pickm [0, 1, 3, 4, 5] rfl) (tX7_safest_121 C hK34 hw)
      · have hw := hw.2 c_6
        refine at_iload C dX7_safest_115 rfl ?_
        refine at_goto (tgt := 121) C dX7_safest_117 (by decide) ?_
        exact at_sub (lv_pickm [0, 1, 3, 4, 5] rfl) (tX7_safest_121 C hK34 hw)
    · have hw := hw.2 c_5
      refine at_iload C dX7_safest_72 rfl ?_
      refine at_aload_n C dX7_safest_74 rfl rfl ?_
      refine at_aload_n C dX7_safest_75 rfl rfl ?_
      refine at_getr (j := 14) (r := 4) C (Nat.le_of_ble_eq_true rfl) rfl rfl in_X7 (Nat.le_of_ble_eq_true rfl) rfl q701 dX7_safest_76 ?_
      refine at_bipush C dX7_safest_79 bp_45 ?_
      refine at_iald C (Nat.le_of_ble_eq_true rfl) rfl vk_45_49 tk_45 dX7_safest_81 ?_
      refine at_iload C dX7_safest_82 rfl ?_
      refine at_calli (run_V (rest := [.int x5]) (As := [.int (w 4 45), .int x6]) C (metX7_goesBy l D dA ad  hw) (lw_V q865 q867 qs36 q65 q868) dsX7_goesBy (gR_ok (Nat.le_of_ble_eq_true rfl) (Nat.le_of_ble_eq_true rfl)) ⟨rfl, rfl⟩ ⟨Nat.le_refl 0, Nat.le_refl 0⟩ (Nat.le_of_ble_eq_true rfl) rfl rfl rfl rfl (Nat.le_of_ble_eq_true rfl) dX7_safest_84) (fun r_7 w_8 hw => ?_)
      refine at_iload C dX7_safest_87 rfl ?_
      refine at_callp (run_S (rest := [.int x5]) (As := [.int r_7, .int x4]) C (metX7_has l D dA ad  hw) (lw_S q879 q880 q65 q881) dsX7_has (gR_ok (Nat.le_of_ble_eq_true rfl) (Nat.le_of_ble_eq_true rfl)) ⟨rfl, rfl⟩ ⟨Nat.le_refl 0, Nat.le_refl 0⟩ rfl rfl (Nat.le_of_ble_eq_true rfl) dX7_safest_89) (fun r_9  hw => ?_)
      refine at_if_eq (tgt := 99) C dX7_safest_92 (by decide) (fun c_10 => ?_) (fun c_10 => ?_)
      · have hw := hw.1 c_10
        refine at_iconst C dX7_safest_99 ic_0 ?_
        exact at_sub (lv_pickm [0, 1, 2, 3, 4, 6] rfl) (tX7_safest_100 C hK34 ih hw)
      · have hw := hw.2 c_10
        refine at_iconst C dX7_safest_95 ic_1 ?_
        refine at_goto (tgt := 100) C dX7_safest_96 (by decide) ?_
        exact at_sub (lv_pickm [0, 1, 2, 3, 4, 6] rfl) (tX7_safest_100 C hK34 ih hw)
set_option maxHeartbeats 4000000 in
theorem tX7_safest_34     {Q : Int32 → GW → Prop} (C : Cx p s m args meth c D dA cX7_safest 7 (some .int) RX7)    {x1 : Int32}   : ∀ (n : Nat) (x2 : Int32) (x3 : Int32) (x4 : Int32) (w : GW), PX7_safest_34 Q x1 n x2 x3 x4 w → gAtM p l e s m args below meth c D dA ad 6 (va_Qi Q (gZ D dA 20 ad layM) (gA 20 ad)) 7 34 [(0, .ref (ad 0)), (1, .int x1), (2, .int x2), (3, .int x3), (4, .int x4)] [] w := by
  intro n
  induction n with
  | zero => intro x2 x3 x4 w hw; exact False.elim hw
  | succ n ih =>
    intro x2 x3 x4 w hw
    unfold PX7_safest_34 at hw
    refine at_iload C dX7_safest_34 rfl ?_
    refine at_aload_n C dX7_safest_36 rfl rfl ?_
    refine at_geti (j := 9) C (Nat.le_of_ble_eq_true rfl) rfl rfl in_X7 (Nat.le_of_ble_eq_true rfl) rfl q696 dX7_safest_37 ?_
    refine at_icmp_ge (tgt := 141) C dX7_safest_40 (by decide) (fun c_11 => ?_) (fun c_11 => ?_)
    · have hw := hw.1 c_11
      refine at_iload_n C dX7_safest_141 rfl rfl ?_
      refine at_if_ne (tgt := 149) C dX7_safest_142 (by decide) (fun c_12 => ?_) (fun c_12 => ?_)
      · have hw := hw.1 c_12
        refine at_iload_n C dX7_safest_149 rfl rfl ?_
        exact at_iret C rfl hw dX7_safest_150
      · have hw := hw.2 c_12
        refine at_iload_n C dX7_safest_145 rfl rfl ?_
        refine at_goto (tgt := 150) C dX7_safest_146 (by decide) ?_
        exact at_iret C rfl hw dX7_safest_150
    · have hw := hw.2 c_11
      refine at_aload_n C dX7_safest_43 rfl rfl ?_
      refine at_getr (j := 14) (r := 4) C (Nat.le_of_ble_eq_true rfl) rfl rfl in_X7 (Nat.le_of_ble_eq_true rfl) rfl q701 dX7_safest_44 ?_
      refine at_bipush C dX7_safest_47 bp_45 ?_
      refine at_iald C (Nat.le_of_ble_eq_true rfl) rfl vk_45_49 tk_45 dX7_safest_49 ?_
      refine at_iload C dX7_safest_50 rfl ?_
      refine at_callp (run_S (rest := []) (As := [.int (w 4 45), .int x4]) C (metX7_has l D dA ad  hw) (lw_S q879 q880 q65 q881) dsX7_has (gR_ok (Nat.le_of_ble_eq_true rfl) (Nat.le_of_ble_eq_true rfl)) ⟨rfl, rfl⟩ ⟨Nat.le_refl 0, Nat.le_refl 0⟩ rfl rfl (Nat.le_of_ble_eq_true rfl) dX7_safest_52) (fun r_13  hw => ?_)
      refine at_if_eq (tgt := 135) C dX7_safest_55 (by decide) (fun c_14 => ?_) (fun c_14 => ?_)
      · have hw := hw.1 c_14
        refine at_iinc (F := fun z_ => [(0, .ref (ad 0)), (1, .int x1), (2, .int x2), (3, .int x3), (4, .int z_)]) C dX7_safest_135 rfl ic_1 (Nat.le_of_ble_eq_true rfl) (fun _ => rfl) (fun v4_15 e4_15 => ?_)
        have hw := hw v4_15 e4_15
        refine at_goto (tgt := 34) C dX7_safest_138 (by decide) ?_
        exact ih _ _ _ _ hw
      · have hw := hw.2 c_14
        refine at_iconst C dX7_safest_58 ic_0 ?_
        refine at_istore (L' := [(0, .ref (ad 0)), (1, .int x1), (2, .int x2), (3, .int x3), (4, .int x4), (5, .int 0)]) C dX7_safest_59 (Nat.le_of_ble_eq_true rfl) rfl ?_
        refine at_iconst C dX7_safest_61 ic_0 ?_
        refine at_istore (L' := [(0, .ref (ad 0)), (1, .int x1), (2, .int x2), (3, .int x3), (4, .int x4), (5, .int 0), (6, .int 0)]) C dX7_safest_62 (Nat.le_of_ble_eq_true rfl) rfl ?_
        obtain ⟨n_16, hw⟩ := hw
        exact (tX7_safest_64 C ih _ _ _ _ hw)
set_option maxHeartbeats 4000000 in
theorem metX7_safest   (l : Launch) (D : va_G) (dA : Nat → ClassId) (ad : Nat → Nat)    {x1 : Int32} {w : GW} {Q : Int32 → GW → Prop} (hw : PX7_safest x1 w Q) : Met l yX7_safest (ws_ yX7_safest cX7_safest 7 (some .int)) (gR 6) (va_Pc [.ref (ad 0), .int x1] (gB D dA 20 ad layM w)) (va_Qi Q (gZ D dA 20 ad layM) (gA 20 ad)) 0 0 (gA 20 ad) := by
  refine gm_of (L := [(0, .ref (ad 0)), (1, .int x1)]) (own := RX7) (by decide +kernel) rfl (Nat.le_of_ble_eq_true rfl) rfl rfl (fun p e s m below meth c C => ?_)
  unfold PX7_safest at hw
  refine at_aload_n C dX7_safest_0 rfl rfl ?_
  refine at_geti (j := 7) C (Nat.le_of_ble_eq_true rfl) rfl rfl in_X7 (Nat.le_of_ble_eq_true rfl) rfl q694 dX7_safest_1 ?_
  refine at_if_eq (tgt := 17) C dX7_safest_4 (by decide) (fun c_17 => ?_) (fun c_17 => ?_)
  · have hw := hw.1 c_17
    refine at_iconst C dX7_safest_17 ic_m1 ?_
    exact at_iret C rfl hw dX7_safest_18
  · have hw := hw.2 c_17
    refine at_aload_n C dX7_safest_7 rfl rfl ?_
    refine at_getr (j := 14) (r := 4) C (Nat.le_of_ble_eq_true rfl) rfl rfl in_X7 (Nat.le_of_ble_eq_true rfl) rfl q701 dX7_safest_8 ?_
    refine at_bipush C dX7_safest_11 bp_45 ?_
    refine at_iald C (Nat.le_of_ble_eq_true rfl) rfl vk_45_49 tk_45 dX7_safest_13 ?_
    refine at_if_ne (tgt := 19) C dX7_safest_14 (by decide) (fun c_18 => ?_) (fun c_18 => ?_)
    · have hw := hw.1 c_18
      refine at_aload_n C dX7_safest_19 rfl rfl ?_
      refine at_iconst C dX7_safest_20 ic_0 ?_
      refine at_iconst C dX7_safest_21 ic_0 ?_
      refine at_callv (run_V (rest := []) (As := [.int 0, .int 0]) C (metX7_sets l D dA ad  hw) (lw_V q854 q856 qs34 q65 q857) dsX7_sets (gR_ok (Nat.le_of_ble_eq_true rfl) (Nat.le_of_ble_eq_true rfl)) ⟨rfl, rfl⟩ ⟨Nat.le_refl 0, Nat.le_refl 0⟩ (Nat.le_of_ble_eq_true rfl) rfl rfl rfl rfl (Nat.le_of_ble_eq_true rfl) dX7_safest_22) (fun  w_20 hw => ?_)
      refine at_iconst C dX7_safest_25 ic_m1 ?_
      refine at_istore_n (L' := [(0, .ref (ad 0)), (1, .int x1), (2, .int (-1))]) C dX7_safest_26 rfl (Nat.le_of_ble_eq_true rfl) rfl ?_
      refine at_sipush C dX7_safest_27 sp_1000 ?_
      refine at_istore_n (L' := [(0, .ref (ad 0)), (1, .int x1), (2, .int (-1)), (3, .int 1000)]) C dX7_safest_30 rfl (Nat.le_of_ble_eq_true rfl) rfl ?_
      refine at_iconst C dX7_safest_31 ic_0 ?_
      refine at_istore (L' := [(0, .ref (ad 0)), (1, .int x1), (2, .int (-1)), (3, .int 1000), (4, .int 0)]) C dX7_safest_32 (Nat.le_of_ble_eq_true rfl) rfl ?_
      obtain ⟨n_21, hw⟩ := hw
      exact (tX7_safest_34 C  _ _ _ _ _ hw)
    · have hw := hw.2 c_18
      refine at_iconst C dX7_safest_17 ic_m1 ?_
      exact at_iret C rfl hw dX7_safest_18
set_option maxHeartbeats 4000000 in
theorem tX7_ballsFor_53    {K14 : Int32 → Int32 → Int32 → GW → Prop} {Q : Int32 → GW → Prop} (C : Cx p s m args meth c D dA cX7_ballsFor 6 (some .int) RX7)    {x1 : Int32} {x2 : Int32} {x3 : Int32} {x5 : Int32} {s0 : Int32} {w : GW} (hK14 : ∀ (x3 : Int32) (x4 : Int32) (x5 : Int32) (w : GW), K14 x3 x4 x5 w → gAtM p l e s m args below meth c D dA ad 6 (va_Qi Q (gZ D dA 20 ad layM) (gA 20 ad)) 6 14 [(0, .ref (ad 0)), (1, .int x1), (2, .int x2), (3, .int x3), (4, .int x4), (5, .int x5)] [] w) (hw : PX7_ballsFor_53 K14 Q x1 x2 x3 x5 s0 w) : gAtM p l e s m args below meth c D dA ad 6 (va_Qi Q (gZ D dA 20 ad layM) (gA 20 ad)) 6 53 [(0, .ref (ad 0)), (1, .int x1), (2, .int x2), (3, .int x3), (5, .int x5)] [.int s0] w := by
  unfold PX7_ballsFor_53 at hw
  refine at_istore (L' := [(0, .ref (ad 0)), (1, .int x1), (2, .int x2), (3, .int x3), (4, .int s0), (5, .int x5)]) C dX7_ballsFor_53 (Nat.le_of_ble_eq_true rfl) rfl ?_
  refine at_iinc (F := fun z_ => [(0, .ref (ad 0)), (1, .int x1), (2, .int x2), (3, .int z_), (4, .int s0), (5, .int x5)]) C dX7_ballsFor_55 rfl ic_1 (Nat.le_of_ble_eq_true rfl) (fun _ => rfl) (fun v3_1 e3_1 => ?_)
  have hw := hw v3_1 e3_1
  refine at_iinc (F := fun z_ => [(0, .ref (ad 0)), (1, .int x1), (2, .int x2), (3, .int v3_1), (4, .int s0), (5, .int z_)]) C dX7_ballsFor_58 rfl ic_1 (Nat.le_of_ble_eq_true rfl) (fun _ => rfl) (fun v5_2 e5_2 => ?_)
  have hw := hw v5_2 e5_2
  refine at_goto (tgt := 14) C dX7_ballsFor_61 (by decide) ?_
  exact hK14 _ _ _ _ hw
set_option maxHeartbeats 4000000 in
theorem tX7_ballsFor_14     {Q : Int32 → GW → Prop} (C : Cx p s m args meth c D dA cX7_ballsFor 6 (some .int) RX7)    {x1 : Int32} {x2 : Int32}   : ∀ (n : Nat) (x3 : Int32) (x4 : Int32) (x5 : Int32) (w : GW), PX7_ballsFor_14 Q x1 x2 n x3 x4 x5 w → gAtM p l e s m args below meth c D dA ad 6 (va_Qi Q (gZ D dA 20 ad layM) (gA 20 ad)) 6 14 [(0, .ref (ad 0)), (1, .int x1), (2, .int x2), (3, .int x3), (4, .int x4), (5, .int x5)] [] w := by
  intro n
  induction n with
  | zero => intro x3 x4 x5 w hw; exact False.elim hw
  | succ n ih =>
    intro x3 x4 x5 w hw
    unfold PX7_ballsFor_14 at hw
    refine at_iload C dX7_ballsFor_14 rfl ?_
    refine at_sipush C dX7_ballsFor_16 sp_600 ?_
    refine at_icmp_ge (tgt := 64) C dX7_ballsFor_19 (by decide) (fun c_3 => ?_) (fun c_3 => ?_)
    · have hw := hw.1 c_3
      refine at_iload_n C dX7_ballsFor_64 rfl rfl ?_
      refine at_if_ne (tgt := 72) C dX7_ballsFor_65 (by decide) (fun c_4 => ?_) (fun c_4 => ?_)
      · have hw := hw.1 c_4
        refine at_iload C dX7_ballsFor_72 rfl ?_
        exact at_iret C rfl hw dX7_ballsFor_74
      · have hw := hw.2 c_4
        refine at_iload_n C dX7_ballsFor_68 rfl rfl ?_
        refine at_goto (tgt := 74) C dX7_ballsFor_69 (by decide) ?_
        exact at_iret C rfl hw dX7_ballsFor_74
    · have hw := hw.2 c_3
      refine at_aload_n C dX7_ballsFor_22 rfl rfl ?_
      refine at_aload_n C dX7_ballsFor_23 rfl rfl ?_
      refine at_getr (j := 14) (r := 4) C (Nat.le_of_ble_eq_true rfl) rfl rfl in_X7 (Nat.le_of_ble_eq_true rfl) rfl q701 dX7_ballsFor_24 ?_
      refine at_bipush C dX7_ballsFor_27 bp_45 ?_
      refine at_iald C (Nat.le_of_ble_eq_true rfl) rfl vk_45_49 tk_45 dX7_ballsFor_29 ?_
      refine at_iload C dX7_ballsFor_30 rfl ?_
      refine at_calli (run_V (rest := []) (As := [.int (w 4 45), .int x5]) C (metX7_goesBy l D dA ad  hw) (lw_V q865 q867 qs36 q65 q868) dsX7_goesBy (gR_ok (Nat.le_of_ble_eq_true rfl) (Nat.le_of_ble_eq_true rfl)) ⟨rfl, rfl⟩ ⟨Nat.le_refl 0, Nat.le_refl 0⟩ (Nat.le_of_ble_eq_true rfl) rfl rfl rfl rfl (Nat.le_of_ble_eq_true rfl) dX7_ballsFor_32) (fun r_5 w_6 hw => ?_)
      refine at_iload_n C dX7_ballsFor_35 rfl rfl ?_
      refine at_icmp_ne (tgt := 58) C dX7_ballsFor_36 (by decide) (fun c_7 => ?_) (fun c_7 => ?_)
      · have hw := hw.1 c_7
        refine at_iinc (F := fun z_ => [(0, .ref (ad 0)), (1, .int x1), (2, .int x2), (3, .int x3), (4, .int x4), (5, .int z_)]) C dX7_ballsFor_58 rfl ic_1 (Nat.le_of_ble_eq_true rfl) (fun _ => rfl) (fun v5_8 e5_8 => ?_)
        have hw := hw v5_8 e5_8
        refine at_goto (tgt := 14) C dX7_ballsFor_61 (by decide) ?_
        exact ih _ _ _ _ hw
      · have hw := hw.2 c_7
        refine at_iload_n C dX7_ballsFor_39 rfl rfl ?_
        refine at_if_ne (tgt := 51) C dX7_ballsFor_40 (by decide) (fun c_9 => ?_) (fun c_9 => ?_)
        · have hw := hw.1 c_9
          refine at_iload C dX7_ballsFor_51 rfl ?_
          exact at_sub (lv_pickm [0, 1, 2, 3, 5] rfl) (tX7_ballsFor_53 C ih hw)
        · have hw := hw.2 c_9
          refine at_iload C dX7_ballsFor_43 rfl ?_
          refine at_callp (run_S (rest := []) (As := [.int x5]) C (metX7_numberOf l D dA ad  hw) (lw_S q901 q902 q65 q903) dsX7_numberOf (gR_ok (Nat.le_of_ble_eq_true rfl) (Nat.le_of_ble_eq_true rfl)) ⟨rfl, rfl⟩ ⟨Nat.le_refl 0, Nat.le_refl 0⟩ rfl rfl (Nat.le_of_ble_eq_true rfl) dX7_ballsFor_45) (fun r_10  hw => ?_)
          refine at_goto (tgt := 53) C dX7_ballsFor_48 (by decide) ?_
          exact at_sub (lv_pickm [0, 1, 2, 3, 5] rfl) (tX7_ballsFor_53 C ih hw)
set_option maxHeartbeats 4000000 in
theorem metX7_ballsFor   (l : Launch) (D : va_G) (dA : Nat → ClassId) (ad : Nat → Nat)    {x1 : Int32} {x2 : Int32} {w : GW} {Q : Int32 → GW → Prop} (hw : PX7_ballsFor x1 x2 w Q) : Met l yX7_ballsFor (ws_ yX7_ballsFor cX7_ballsFor 6 (some .int)) (gR 6) (va_Pc [.ref (ad 0), .int x1, .int x2] (gB D dA 20 ad layM w)) (va_Qi Q (gZ D dA 20 ad layM) (gA 20 ad)) 0 0 (gA 20 ad) := by
  refine gm_of (L := [(0, .ref (ad 0)), (1, .int x1), (2, .int x2)]) (own := RX7) (by decide +kernel) rfl (Nat.le_of_ble_eq_true rfl) rfl rfl (fun p e s m below meth c C => ?_)
  unfold PX7_ballsFor at hw
  refine at_aload_n C dX7_ballsFor_0 rfl rfl ?_
  refine at_iconst C dX7_ballsFor_1 ic_0 ?_
  refine at_iconst C dX7_ballsFor_2 ic_0 ?_
  refine at_callv (run_V (rest := []) (As := [.int 0, .int 0]) C (metX7_sets l D dA ad  hw) (lw_V q854 q856 qs34 q65 q857) dsX7_sets (gR_ok (Nat.le_of_ble_eq_true rfl) (Nat.le_of_ble_eq_true rfl)) ⟨rfl, rfl⟩ ⟨Nat.le_refl 0, Nat.le_refl 0⟩ (Nat.le_of_ble_eq_true rfl) rfl rfl rfl rfl (Nat.le_of_ble_eq_true rfl) dX7_ballsFor_3) (fun  w_12 hw => ?_)
  refine at_iconst C dX7_ballsFor_6 ic_0 ?_
  refine at_istore_n (L' := [(0, .ref (ad 0)), (1, .int x1), (2, .int x2), (3, .int 0)]) C dX7_ballsFor_7 rfl (Nat.le_of_ble_eq_true rfl) rfl ?_
  refine at_iconst C dX7_ballsFor_8 ic_m1 ?_
  refine at_istore (L' := [(0, .ref (ad 0)), (1, .int x1), (2, .int x2), (3, .int 0), (4, .int (-1))]) C dX7_ballsFor_9 (Nat.le_of_ble_eq_true rfl) rfl ?_
  refine at_iconst C dX7_ballsFor_11 ic_0 ?_
  refine at_istore (L' := [(0, .ref (ad 0)), (1, .int x1), (2, .int x2), (3, .int 0), (4, .int (-1)), (5, .int 0)]) C dX7_ballsFor_12 (Nat.le_of_ble_eq_true rfl) rfl ?_
  obtain ⟨n_13, hw⟩ := hw
  exact (tX7_ballsFor_14 C  _ _ _ _ _ hw)
set_option maxHeartbeats 4000000 in
theorem metX7_firm   (l : Launch) (D : va_G) (dA : Nat → ClassId) (ad : Nat → Nat)     {w : GW} {Q : Int32 → GW → Prop} (hw : PX7_firm w Q) : Met l yX7_firm (ws_ yX7_firm cX7_firm 1 (some .int)) (gR 7) (va_Pc [.ref (ad 0)] (gB D dA 20 ad layM w)) (va_Qi Q (gZ D dA 20 ad layM) (gA 20 ad)) 0 0 (gA 20 ad) := by
  refine gm_of (L := [(0, .ref (ad 0))]) (own := RX7) (by decide +kernel) rfl (Nat.le_of_ble_eq_true rfl) rfl rfl (fun p e s m below meth c C => ?_)
  unfold PX7_firm at hw
  refine at_aload_n C dX7_firm_0 rfl rfl ?_
  refine at_geti (j := 7) C (Nat.le_of_ble_eq_true rfl) rfl rfl in_X7 (Nat.le_of_ble_eq_true rfl) rfl q694 dX7_firm_1 ?_
  refine at_if_ne (tgt := 9) C dX7_firm_4 (by decide) (fun c_1 => ?_) (fun c_1 => ?_)
  · have hw := hw.1 c_1
    refine at_aload_n C dX7_firm_9 rfl rfl ?_
    refine at_iconst C dX7_firm_10 ic_0 ?_
    refine at_iconst C dX7_firm_11 ic_0 ?_
    refine at_calli (run_V (rest := []) (As := [.int 0, .int 0]) C (metX7_ballsFor l D dA ad  hw) (lw_V q912 q914 qs44 q65 q915) dsX7_ballsFor (gR_ok (Nat.le_of_ble_eq_true rfl) (Nat.le_of_ble_eq_true rfl)) ⟨rfl, rfl⟩ ⟨Nat.le_refl 0, Nat.le_refl 0⟩ (Nat.le_of_ble_eq_true rfl) rfl rfl rfl rfl (Nat.le_of_ble_eq_true rfl) dX7_firm_12) (fun r_2 w_3 hw => ?_)
    exact at_iret C rfl hw dX7_firm_15
  · have hw := hw.2 c_1
    refine at_iconst C dX7_firm_7 ic_m1 ?_
    exact at_iret C rfl hw dX7_firm_8
set_option maxHeartbeats 4000000 in
theorem tX7_talks_138    {K4 : Int32 → Int32 → Prop} {K16 : Int32 → Int32 → Prop} {Q : Int32 → Prop} (C : Cx p s m args meth c D dA cX7_talks 7 (some .int) RX7)    {x2 : Int32} {x3 : Int32} {s0 : Int32} {s1 : Int32} {w : GW} (hK4 : ∀ (x1 : Int32) (x2 : Int32), K4 x1 x2 → gAtM p l e s m args below meth c D dA ad 2 (va_Qi (gQ1 Q w) (gZ D dA 20 ad layM) (gA 20 ad)) 7 4 [(0, .ref (ad 0)), (1, .int x1), (2, .int x2)] [] w) (hK16 : ∀ (x1 : Int32) (x3 : Int32), K16 x1 x3 → gAtM p l e s m args below meth c D dA ad 2 (va_Qi (gQ1 Q w) (gZ D dA 20 ad layM) (gA 20 ad)) 7 16 [(0, .ref (ad 0)), (1, .int x1), (2, .int x2), (3, .int x3)] [] w) (hw : PX7_talks_138 K4 K16 Q x2 x3 s0 s1 w) : gAtM p l e s m args below meth c D dA ad 2 (va_Qi (gQ1 Q w) (gZ D dA 20 ad layM) (gA 20 ad)) 7 138 [(0, .ref (ad 0)), (2, .int x2), (3, .int x3)] [.int s1, .int s0] w := by
  unfold PX7_talks_138 at hw
  refine at_iadd C dX7_talks_138 ?_
  refine at_topi (fun v1_1 e1_1 => ?_)
  have hw := hw v1_1 e1_1
  refine at_istore_n (L' := [(0, .ref (ad 0)), (1, .int v1_1), (2, .int x2), (3, .int x3)]) C dX7_talks_139 rfl (Nat.le_of_ble_eq_true rfl) rfl ?_
  refine at_iinc (F := fun z_ => [(0, .ref (ad 0)), (1, .int v1_1), (2, .int x2), (3, .int z_)]) C dX7_talks_140 rfl ic_1 (Nat.le_of_ble_eq_true rfl) (fun _ => rfl) (fun v3_2 e3_2 => ?_)
  have hw := hw v3_2 e3_2
  refine at_goto (tgt := 16) C dX7_talks_143 (by decide) ?_
  exact hK16 _ _ hw
set_option maxHeartbeats 4000000 in
theorem tX7_talks_137    {K4 : Int32 → Int32 → Prop} {K16 : Int32 → Int32 → Prop} {Q : Int32 → Prop} (C : Cx p s m args meth c D dA cX7_talks 7 (some .int) RX7)    {x2 : Int32} {x3 : Int32} {s0 : Int32} {w : GW} (hK4 : ∀ (x1 : Int32) (x2 : Int32), K4 x1 x2 → gAtM p l e s m args below meth c D dA ad 2 (va_Qi (gQ1 Q w) (gZ D dA 20 ad layM) (gA 20 ad)) 7 4 [(0, .ref (ad 0)), (1, .int x1), (2, .int x2)] [] w) (hK16 : ∀ (x1 : Int32) (x3 : Int32), K16 x1 x3 → gAtM p l e s m args below meth c D dA ad 2 (va_Qi (gQ1 Q w) (gZ D dA 20 ad layM) (gA 20 ad)) 7 16 [(0, .ref (ad 0)), (1, .int x1), (2, .int x2), (3, .int x3)] [] w) (hw : PX7_talks_137 K4 K16 Q x2 x3 s0 w) : gAtM p l e s m args below meth c D dA ad 2 (va_Qi (gQ1 Q w) (gZ D dA 20 ad layM) (gA 20 ad)) 7 137 [(0, .ref (ad 0)), (2, .int x2), (3, .int x3)] [.int s0] w := by
  unfold PX7_talks_137 at hw
  refine at_iconst C dX7_talks_137 ic_0 ?_
  exact (tX7_talks_138 C hK4 hK16 hw)
set_option maxHeartbeats 4000000 in
theorem tX7_talks_97    {K4 : Int32 → Int32 → Prop} {K16 : Int32 → Int32 → Prop} {Q : Int32 → Prop} (C : Cx p s m args meth c D dA cX7_talks 7 (some .int) RX7)    {x1 : Int32} {x2 : Int32} {x3 : Int32} {s0 : Int32} {w : GW} (hK4 : ∀ (x1 : Int32) (x2 : Int32), K4 x1 x2 → gAtM p l e s m args below meth c D dA ad 2 (va_Qi (gQ1 Q w) (gZ D dA 20 ad layM) (gA 20 ad)) 7 4 [(0, .ref (ad 0)), (1, .int x1), (2, .int x2)] [] w) (hK16 : ∀ (x1 : Int32) (x3 : Int32), K16 x1 x3 → gAtM p l e s m args below meth c D dA ad 2 (va_Qi (gQ1 Q w) (gZ D dA 20 ad layM) (gA 20 ad)) 7 16 [(0, .ref (ad 0)), (1, .int x1), (2, .int x2), (3, .int x3)] [] w) (hw : PX7_talks_97 K4 K16 Q x1 x2 x3 s0 w) : gAtM p l e s m args below meth c D dA ad 2 (va_Qi (gQ1 Q w) (gZ D dA 20 ad layM) (gA 20 ad)) 7 97 [(0, .ref (ad 0)), (1, .int x1), (2, .int x2), (3, .int x3)] [.int s0] w := by
  unfold PX7_talks_97 at hw
  refine at_istore (L' := [(0, .ref (ad 0)), (1, .int x1), (2, .int x2), (3, .int x3), (6, .int s0)]) C dX7_talks_97 (Nat.le_of_ble_eq_true rfl) rfl ?_
  refine at_iload_n C dX7_talks_99 rfl rfl ?_
  refine at_iload C dX7_talks_100 rfl ?_
  refine at_if_eq (tgt := 137) C dX7_talks_102 (by decide) (fun c_3 => ?_) (fun c_3 => ?_)
  · have hw := hw.1 c_3
    exact at_sub (lv_pickm [0, 2, 3] rfl) (tX7_talks_137 C hK4 hK16 hw)
  · have hw := hw.2 c_3
    refine at_aload_n C dX7_talks_105 rfl rfl ?_
    refine at_getr (j := 14) (r := 4) C (Nat.le_of_ble_eq_true rfl) rfl rfl in_X7 (Nat.le_of_ble_eq_true rfl) rfl q701 dX7_talks_106 ?_
    refine at_bipush C dX7_talks_109 bp_45 ?_
    refine at_iald C (Nat.le_of_ble_eq_true rfl) rfl vk_45_49 tk_45 dX7_talks_111 ?_
    refine at_iload_n C dX7_talks_112 rfl rfl ?_
    refine at_callp (run_S (rest := [.int x1]) (As := [.int (w 4 45), .int x2]) C (metX7_has l D dA ad  hw) (lw_S q879 q880 q65 q881) dsX7_has (gR_ok (Nat.le_of_ble_eq_true rfl) (Nat.le_of_ble_eq_true rfl)) ⟨rfl, rfl⟩ ⟨Nat.le_refl 0, Nat.le_refl 0⟩ rfl rfl (Nat.le_of_ble_eq_true rfl) dX7_talks_113) (fun r_4  hw => ?_)
    refine at_if_ne (tgt := 137) C dX7_talks_116 (by decide) (fun c_5 => ?_) (fun c_5 => ?_)
    · have hw := hw.1 c_5
      exact at_sub (lv_pickm [0, 2, 3] rfl) (tX7_talks_137 C hK4 hK16 hw)
    · have hw := hw.2 c_5
      refine at_aload_n C dX7_talks_119 rfl rfl ?_
      refine at_getr (j := 14) (r := 4) C (Nat.le_of_ble_eq_true rfl) rfl rfl in_X7 (Nat.le_of_ble_eq_true rfl) rfl q701 dX7_talks_120 ?_
      refine at_bipush C dX7_talks_123 bp_45 ?_
      refine at_iald C (Nat.le_of_ble_eq_true rfl) rfl vk_45_49 tk_45 dX7_talks_125 ?_
      refine at_iload_n C dX7_talks_126 rfl rfl ?_
      refine at_callp (run_S (rest := [.int x1]) (As := [.int (w 4 45), .int x3]) C (metX7_has l D dA ad  hw) (lw_S q879 q880 q65 q881) dsX7_has (gR_ok (Nat.le_of_ble_eq_true rfl) (Nat.le_of_ble_eq_true rfl)) ⟨rfl, rfl⟩ ⟨Nat.le_refl 0, Nat.le_refl 0⟩ rfl rfl (Nat.le_of_ble_eq_true rfl) dX7_talks_127) (fun r_6  hw => ?_)
      refine at_if_ne (tgt := 137) C dX7_talks_130 (by decide) (fun c_7 => ?_) (fun c_7 => ?_)
      · have hw := hw.1 c_7
        exact at_sub (lv_pickm [0, 2, 3] rfl) (tX7_talks_137 C hK4 hK16 hw)
      · have hw := hw.2 c_7
        refine at_iconst C dX7_talks_133 ic_1 ?_
        refine at_goto (tgt := 138) C dX7_talks_134 (by decide) ?_
        exact at_sub (lv_pickm [0, 2, 3] rfl) (tX7_talks_138 C hK4 hK16 hw)
set_option maxHeartbeats 4000000 in
theorem tX7_talks_96    {K4 : Int32 → Int32 → Prop} {K16 : Int32 → Int32 → Prop} {Q : Int32 → Prop} (C : Cx p s m args meth c D dA cX7_talks 7 (some .int) RX7)    {x1 : Int32} {x2 : Int32} {x3 : Int32} {w : GW} (hK4 : ∀ (x1 : Int32) (x2 : Int32), K4 x1 x2 → gAtM p l e s m args below meth c D dA ad 2 (va_Qi (gQ1 Q w) (gZ D dA 20 ad layM) (gA 20 ad)) 7 4 [(0, .ref (ad 0)), (1, .int x1), (2, .int x2)] [] w) (hK16 : ∀ (x1 : Int32) (x3 : Int32), K16 x1 x3 → gAtM p l e s m args below meth c D dA ad 2 (va_Qi (gQ1 Q w) (gZ D dA 20 ad layM) (gA 20 ad)) 7 16 [(0, .ref (ad 0)), (1, .int x1), (2, .int x2), (3, .int x3)] [] w) (hw : PX7_talks_96 K4 K16 Q x1 x2 x3 w) : gAtM p l e s m args below meth c D dA ad 2 (va_Qi (gQ1 Q w) (gZ D dA 20 ad layM) (gA 20 ad)) 7 96 [(0, .ref (ad 0)), (1, .int x1), (2, .int x2), (3, .int x3)] [] w := by
  unfold PX7_talks_96 at hw
  refine at_iconst C dX7_talks_96 ic_0 ?_
  exact (tX7_talks_97 C hK4 hK16 hw)
set_option maxHeartbeats 4000000 in
theorem tX7_talks_16    {K4 : Int32 → Int32 → Prop} {Q : Int32 → Prop} (C : Cx p s m args meth c D dA cX7_talks 7 (some .int) RX7)    {x2 : Int32} {w : GW} (hK4 : ∀ (x1 : Int32) (x2 : Int32), K4 x1 x2 → gAtM p l e s m args below meth c D dA ad 2 (va_Qi (gQ1 Q w) (gZ D dA 20 ad layM) (gA 20 ad)) 7 4 [(0, .ref (ad 0)), (1, .int x1), (2, .int x2)] [] w) : ∀ (n : Nat) (x1 : Int32) (x3 : Int32), PX7_talks_16 K4 Q x2 w n x1 x3 → gAtM p l e s m args below meth c D dA ad 2 (va_Qi (gQ1 Q w) (gZ D dA 20 ad layM) (gA 20 ad)) 7 16 [(0, .ref (ad 0)), (1, .int x1), (2, .int x2), (3, .int x3)] [] w := by
  intro n
  induction n with
  | zero => intro x1 x3 hw; exact False.elim hw
  | succ n ih =>
    intro x1 x3 hw
    unfold PX7_talks_16 at hw
    refine at_iload_n C dX7_talks_16 rfl rfl ?_
    refine at_aload_n C dX7_talks_17 rfl rfl ?_
    refine at_geti (j := 9) C (Nat.le_of_ble_eq_true rfl) rfl rfl in_X7 (Nat.le_of_ble_eq_true rfl) rfl q696 dX7_talks_18 ?_
    refine at_icmp_ge (tgt := 146) C dX7_talks_21 (by decide) (fun c_8 => ?_) (fun c_8 => ?_)
    · have hw := hw.1 c_8
      refine at_iinc (F := fun z_ => [(0, .ref (ad 0)), (1, .int x1), (2, .int z_), (3, .int x3)]) C dX7_talks_146 rfl ic_1 (Nat.le_of_ble_eq_true rfl) (fun _ => rfl) (fun v2_9 e2_9 => ?_)
      have hw := hw v2_9 e2_9
      refine at_goto (tgt := 4) C dX7_talks_149 (by decide) ?_
      exact at_sub (lv_pickm [0, 1, 2] rfl) (hK4 _ _ hw)
    · have hw := hw.2 c_8
      refine at_aload_n C dX7_talks_24 rfl rfl ?_
      refine at_getr (j := 14) (r := 4) C (Nat.le_of_ble_eq_true rfl) rfl rfl in_X7 (Nat.le_of_ble_eq_true rfl) rfl q701 dX7_talks_25 ?_
      refine at_iconst C dX7_talks_28 ic_0 ?_
      refine at_iload_n C dX7_talks_29 rfl rfl ?_
      refine at_iadd C dX7_talks_30 ?_
      refine at_iald C (Nat.le_of_ble_eq_true rfl) rfl hw.1 rfl dX7_talks_31 ?_
      have hw := hw.2
      refine at_callp (run_S (rest := []) (As := [.int (w 4 ((0 + x2)).toNatClampNeg)]) C (metX7_rowOf l D dA ad  hw) (lw_S q862 q863 q65 q864) dsX7_rowOf (gR_ok (Nat.le_of_ble_eq_true rfl) (Nat.le_of_ble_eq_true rfl)) ⟨rfl, rfl⟩ ⟨Nat.le_refl 0, Nat.le_refl 0⟩ rfl rfl (Nat.le_of_ble_eq_true rfl) dX7_talks_32) (fun r_10  hw => ?_)
      refine at_aload_n C dX7_talks_35 rfl rfl ?_
      refine at_getr (j := 14) (r := 4) C (Nat.le_of_ble_eq_true rfl) rfl rfl in_X7 (Nat.le_of_ble_eq_true rfl) rfl q701 dX7_talks_36 ?_
      refine at_iconst C dX7_talks_39 ic_0 ?_
      refine at_iload_n C dX7_talks_40 rfl rfl ?_
      refine at_iadd C dX7_talks_41 ?_
      refine at_iald C (Nat.le_of_ble_eq_true rfl) rfl hw.1 rfl dX7_talks_42 ?_
      have hw := hw.2
      refine at_callp (run_S (rest := [.int r_10]) (As := [.int (w 4 ((0 + x3)).toNatClampNeg)]) C (metX7_rowOf l D dA ad  hw) (lw_S q862 q863 q65 q864) dsX7_rowOf (gR_ok (Nat.le_of_ble_eq_true rfl) (Nat.le_of_ble_eq_true rfl)) ⟨rfl, rfl⟩ ⟨Nat.le_refl 0, Nat.le_refl 0⟩ rfl rfl (Nat.le_of_ble_eq_true rfl) dX7_talks_43) (fun r_11  hw => ?_)
      refine at_isub C dX7_talks_46 ?_
      refine at_topi (fun v4_12 e4_12 => ?_)
      have hw := hw v4_12 e4_12
      refine at_istore (L' := [(0, .ref (ad 0)), (1, .int x1), (2, .int x2), (3, .int x3), (4, .int v4_12)]) C dX7_talks_47 (Nat.le_of_ble_eq_true rfl) rfl ?_
      refine at_aload_n C dX7_talks_49 rfl rfl ?_
      refine at_getr (j := 14) (r := 4) C (Nat.le_of_ble_eq_true rfl) rfl rfl in_X7 (Nat.le_of_ble_eq_true rfl) rfl q701 dX7_talks_50 ?_
      refine at_iconst C dX7_talks_53 ic_0 ?_
      refine at_iload_n C dX7_talks_54 rfl rfl ?_
      refine at_iadd C dX7_talks_55 ?_
      refine at_iald C (Nat.le_of_ble_eq_true rfl) rfl hw.1 rfl dX7_talks_56 ?_
      have hw := hw.2
      refine at_callp (run_S (rest := []) (As := [.int (w 4 ((0 + x2)).toNatClampNeg)]) C (metX7_columnOf l D dA ad  hw) (lw_S q876 q877 q65 q878) dsX7_columnOf (gR_ok (Nat.le_of_ble_eq_true rfl) (Nat.le_of_ble_eq_true rfl)) ⟨rfl, rfl⟩ ⟨Nat.le_refl 0, Nat.le_refl 0⟩ rfl rfl (Nat.le_of_ble_eq_true rfl) dX7_talks_57) (fun r_13  hw => ?_)
      refine at_aload_n C dX7_talks_60 rfl rfl ?_
      refine at_getr (j := 14) (r := 4) C (Nat.le_of_ble_eq_true rfl) rfl rfl in_X7 (Nat.le_of_ble_eq_true rfl) rfl q701 dX7_talks_61 ?_
      refine at_iconst C dX7_talks_64 ic_0 ?_
      refine at_iload_n C dX7_talks_65 rfl rfl ?_
      refine at_iadd C dX7_talks_66 ?_
      refine at_iald C (Nat.le_of_ble_eq_true rfl) rfl hw.1 rfl dX7_talks_67 ?_
      have hw := hw.2
      refine at_callp (run_S (rest := [.int r_13]) (As := [.int (w 4 ((0 + x3)).toNatClampNeg)]) C (metX7_columnOf l D dA ad  hw) (lw_S q876 q877 q65 q878) dsX7_columnOf (gR_ok (Nat.le_of_ble_eq_true rfl) (Nat.le_of_ble_eq_true rfl)) ⟨rfl, rfl⟩ ⟨Nat.le_refl 0, Nat.le_refl 0⟩ rfl rfl (Nat.le_of_ble_eq_true rfl) dX7_talks_68) (fun r_14  hw => ?_)
      refine at_isub C dX7_talks_71 ?_
      refine at_topi (fun v5_15 e5_15 => ?_)
      have hw := hw v5_15 e5_15
      refine at_istore (L' := [(0, .ref (ad 0)), (1, .int x1), (2, .int x2), (3, .int x3), (4, .int v4_12), (5, .int v5_15)]) C dX7_talks_72 (Nat.le_of_ble_eq_true rfl) rfl ?_
      refine at_iload C dX7_talks_74 rfl ?_
      refine at_iload C dX7_talks_76 rfl ?_
      refine at_imul C dX7_talks_78 ?_
      refine at_iconst C dX7_talks_79 ic_1 ?_
      refine at_icmp_ne (tgt := 96) C dX7_talks_80 (by decide) (fun c_16 => ?_) (fun c_16 => ?_)
      · have hw := hw.1 c_16
        exact at_sub (lv_pickm [0, 1, 2, 3] rfl) (tX7_talks_96 C hK4 ih hw)
      · have hw := hw.2 c_16
        refine at_iload C dX7_talks_83 rfl ?_
        refine at_iload C dX7_talks_85 rfl ?_
        refine at_imul C dX7_talks_87 ?_
        refine at_iconst C dX7_talks_88 ic_1 ?_
        refine at_icmp_ne (tgt := 96) C dX7_talks_89 (by decide) (fun c_17 => ?_) (fun c_17 => ?_)
        · have hw := hw.1 c_17
          exact at_sub (lv_pickm [0, 1, 2, 3] rfl) (tX7_talks_96 C hK4 ih hw)
        · have hw := hw.2 c_17
          refine at_iconst C dX7_talks_92 ic_1 ?_
          refine at_goto (tgt := 97) C dX7_talks_93 (by decide) ?_
          exact at_sub (lv_pickm [0, 1, 2, 3] rfl) (tX7_talks_97 C hK4 ih hw)
set_option maxHeartbeats 4000000 in
theorem tX7_talks_4     {Q : Int32 → Prop} (C : Cx p s m args meth c D dA cX7_talks 7 (some .int) RX7)     {w : GW}  : ∀ (n : Nat) (x1 : Int32) (x2 : Int32), PX7_talks_4 Q w n x1 x2 → gAtM p l e s m args below meth c D dA ad 2 (va_Qi (gQ1 Q w) (gZ D dA 20 ad layM) (gA 20 ad)) 7 4 [(0, .ref (ad 0)), (1, .int x1), (2, .int x2)] [] w := by
  intro n
  induction n with
  | zero => intro x1 x2 hw; exact False.elim hw
  | succ n ih =>
    intro x1 x2 hw
    unfold PX7_talks_4 at hw
    refine at_iload_n C dX7_talks_4 rfl rfl ?_
    refine at_aload_n C dX7_talks_5 rfl rfl ?_
    refine at_geti (j := 9) C (Nat.le_of_ble_eq_true rfl) rfl rfl in_X7 (Nat.le_of_ble_eq_true rfl) rfl q696 dX7_talks_6 ?_
    refine at_icmp_ge (tgt := 152) C dX7_talks_9 (by decide) (fun c_18 => ?_) (fun c_18 => ?_)
    · have hw := hw.1 c_18
      refine at_iload_n C dX7_talks_152 rfl rfl ?_
      exact at_iret C rfl ⟨hw, rfl⟩ dX7_talks_153
    · have hw := hw.2 c_18
      refine at_iload_n C dX7_talks_12 rfl rfl ?_
      refine at_iconst C dX7_talks_13 ic_1 ?_
      refine at_iadd C dX7_talks_14 ?_
      refine at_topi (fun v3_19 e3_19 => ?_)
      have hw := hw v3_19 e3_19
      refine at_istore_n (L' := [(0, .ref (ad 0)), (1, .int x1), (2, .int x2), (3, .int v3_19)]) C dX7_talks_15 rfl (Nat.le_of_ble_eq_true rfl) rfl ?_
      obtain ⟨n_20, hw⟩ := hw
      exact (tX7_talks_16 C ih _ _ _ hw)
set_option maxHeartbeats 4000000 in
theorem metX7_talks   (l : Launch) (D : va_G) (dA : Nat → ClassId) (ad : Nat → Nat)     {w : GW} {Q : Int32 → Prop} (hw : PX7_talks w Q) : Met l yX7_talks (ws_ yX7_talks cX7_talks 7 (some .int)) (gR 2) (va_Pc [.ref (ad 0)] (gB D dA 20 ad layM w)) (va_Qi (gQ1 Q w) (gZ D dA 20 ad layM) (gA 20 ad)) 0 0 (gA 20 ad) := by
  refine gm_of (L := [(0, .ref (ad 0))]) (own := RX7) (by decide +kernel) rfl (Nat.le_of_ble_eq_true rfl) rfl rfl (fun p e s m below meth c C => ?_)
  unfold PX7_talks at hw
  refine at_iconst C dX7_talks_0 ic_0 ?_
  refine at_istore_n (L' := [(0, .ref (ad 0)), (1, .int 0)]) C dX7_talks_1 rfl (Nat.le_of_ble_eq_true rfl) rfl ?_
  refine at_iconst C dX7_talks_2 ic_0 ?_
  refine at_istore_n (L' := [(0, .ref (ad 0)), (1, .int 0), (2, .int 0)]) C dX7_talks_3 rfl (Nat.le_of_ble_eq_true rfl) rfl ?_
  obtain ⟨n_21, hw⟩ := hw
  exact (tX7_talks_4 C  _ _ _ hw)
set_option maxHeartbeats 4000000 in
theorem metX7_told   (l : Launch) (D : va_G) (dA : Nat → ClassId) (ad : Nat → Nat)    {x1 : Int32} {w : GW} {Q : Int32 → GW → Prop} (hw : PX7_told x1 w Q) : Met l yX7_told (ws_ yX7_told cX7_told 2 (some .int)) (gR 8) (va_Pc [.ref (ad 0), .int x1] (gB D dA 20 ad layM w)) (va_Qi Q (gZ D dA 20 ad layM) (gA 20 ad)) 0 0 (gA 20 ad) := by
  refine gm_of (L := [(0, .ref (ad 0)), (1, .int x1)]) (own := RX7) (by decide +kernel) rfl (Nat.le_of_ble_eq_true rfl) rfl rfl (fun p e s m below meth c C => ?_)
  unfold PX7_told at hw
  refine at_aload_n C dX7_told_0 rfl rfl ?_
  refine at_iconst C dX7_told_1 ic_0 ?_
  refine at_puti (j := 0) C (Nat.le_of_ble_eq_true rfl) rfl rfl in_X7 (Nat.le_of_ble_eq_true rfl) rfl q687 tyX7 tyX7_ok nmX7 rfl rfl rfl dX7_told_2 (fun w_1 ew_1 => ?_)
  have hw := hw w_1 ew_1
  refine at_iload_n C dX7_told_5 rfl rfl ?_
  refine at_iconst C dX7_told_6 ic_0 ?_
  refine at_bipush C dX7_told_7 bp_13 ?_
  refine at_callp (run_S (rest := []) (As := [.int x1, .int 0, .int 13]) C (metX7_in l D dA ad  hw) (lw_S q797 q798 q65 q799) dsX7_in (gR_ok (Nat.le_of_ble_eq_true rfl) (Nat.le_of_ble_eq_true rfl)) ⟨rfl, rfl⟩ ⟨Nat.le_refl 0, Nat.le_refl 0⟩ rfl rfl (Nat.le_of_ble_eq_true rfl) dX7_told_9) (fun r_2  hw => ?_)
  refine at_if_ne (tgt := 18) C dX7_told_12 (by decide) (fun c_3 => ?_) (fun c_3 => ?_)
  · have hw := hw.1 c_3
    refine at_iload_n C dX7_told_18 rfl rfl ?_
    refine at_bipush C dX7_told_19 bp_6 ?_
    refine at_icmp_ge (tgt := 108) C dX7_told_21 (by decide) (fun c_4 => ?_) (fun c_4 => ?_)
    · have hw := hw.1 c_4
      refine at_iload_n C dX7_told_108 rfl rfl ?_
      refine at_bipush C dX7_told_109 bp_10 ?_
      refine at_icmp_ge (tgt := 140) C dX7_told_111 (by decide) (fun c_5 => ?_) (fun c_5 => ?_)
      · have hw := hw.1 c_5
        refine at_iload_n C dX7_told_140 rfl rfl ?_
        refine at_bipush C dX7_told_141 bp_10 ?_
        refine at_icmp_ne (tgt := 153) C dX7_told_143 (by decide) (fun c_6 => ?_) (fun c_6 => ?_)
        · have hw := hw.1 c_6
          refine at_iload_n C dX7_told_153 rfl rfl ?_
          refine at_bipush C dX7_told_154 bp_11 ?_
          refine at_icmp_ne (tgt := 166) C dX7_told_156 (by decide) (fun c_7 => ?_) (fun c_7 => ?_)
          · have hw := hw.1 c_7
            refine at_iload_n C dX7_told_166 rfl rfl ?_
            refine at_bipush C dX7_told_167 bp_12 ?_
            refine at_icmp_ne (tgt := 179) C dX7_told_169 (by decide) (fun c_8 => ?_) (fun c_8 => ?_)
            · have hw := hw.1 c_8
              refine at_aload_n C dX7_told_179 rfl rfl ?_
              refine at_geti (j := 18) C (Nat.le_of_ble_eq_true rfl) rfl rfl in_X7 (Nat.le_of_ble_eq_true rfl) rfl q705 dX7_told_180 ?_
              exact at_iret C rfl hw dX7_told_183
            · have hw := hw.2 c_8
              refine at_aload_n C dX7_told_172 rfl rfl ?_
              refine at_geti (j := 21) C (Nat.le_of_ble_eq_true rfl) rfl rfl in_X7 (Nat.le_of_ble_eq_true rfl) rfl q708 dX7_told_173 ?_
              refine at_goto (tgt := 183) C dX7_told_176 (by decide) ?_
              exact at_iret C rfl hw dX7_told_183
          · have hw := hw.2 c_7
            refine at_aload_n C dX7_told_159 rfl rfl ?_
            refine at_callp (run_V (rest := []) (As := []) C (metX7_talks l D dA ad  hw) (lw_V q916 q918 qs45 q65 q919) dsX7_talks (gR_ok (Nat.le_of_ble_eq_true rfl) (Nat.le_of_ble_eq_true rfl)) ⟨rfl, rfl⟩ ⟨Nat.le_refl 0, Nat.le_refl 0⟩ (Nat.le_of_ble_eq_true rfl) rfl rfl rfl rfl (Nat.le_of_ble_eq_true rfl) dX7_told_160) (fun r_9  hw => ?_)
            refine at_goto (tgt := 183) C dX7_told_163 (by decide) ?_
            exact at_iret C rfl hw dX7_told_183
        · have hw := hw.2 c_6
          refine at_aload_n C dX7_told_146 rfl rfl ?_
          refine at_calli (run_V (rest := []) (As := []) C (metX7_firm l D dA ad  hw) (lw_V q908 q910 qs43 q65 q911) dsX7_firm (gR_ok (Nat.le_of_ble_eq_true rfl) (Nat.le_of_ble_eq_true rfl)) ⟨rfl, rfl⟩ ⟨Nat.le_refl 0, Nat.le_refl 0⟩ (Nat.le_of_ble_eq_true rfl) rfl rfl rfl rfl (Nat.le_of_ble_eq_true rfl) dX7_told_147) (fun r_10 w_11 hw => ?_)
          refine at_goto (tgt := 183) C dX7_told_150 (by decide) ?_
          exact at_iret C rfl hw dX7_told_183
      · have hw := hw.2 c_5
        refine at_iload_n C dX7_told_114 rfl rfl ?_
        refine at_bipush C dX7_told_115 bp_8 ?_
        refine at_icmp_ge (tgt := 131) C dX7_told_117 (by decide) (fun c_12 => ?_) (fun c_12 => ?_)
        · have hw := hw.1 c_12
          refine at_aload_n C dX7_told_131 rfl rfl ?_
          refine at_iload_n C dX7_told_132 rfl rfl ?_
          refine at_bipush C dX7_told_133 bp_8 ?_
          refine at_isub C dX7_told_135 ?_
          refine at_calli (run_V (rest := []) (As := [.int (x1 - 8)]) C (metX7_safest l D dA ad  hw) (lw_V q904 q906 qs42 q65 q907) dsX7_safest (gR_ok (Nat.le_of_ble_eq_true rfl) (Nat.le_of_ble_eq_true rfl)) ⟨rfl, rfl⟩ ⟨Nat.le_refl 0, Nat.le_refl 0⟩ (Nat.le_of_ble_eq_true rfl) rfl rfl rfl rfl (Nat.le_of_ble_eq_true rfl) dX7_told_136) (fun r_13 w_14 hw => ?_)
          exact at_iret C rfl hw dX7_told_139
        · have hw := hw.2 c_12
          refine at_aload_n C dX7_told_120 rfl rfl ?_
          refine at_iload_n C dX7_told_121 rfl rfl ?_
          refine at_bipush C dX7_told_122 bp_6 ?_
          refine at_isub C dX7_told_124 ?_
          refine at_calli (run_V (rest := []) (As := [.int (x1 - 6)]) C (metX7_worst l D dA ad  hw) (lw_V q850 q852 qs33 q65 q853) dsX7_worst (gR_ok (Nat.le_of_ble_eq_true rfl) (Nat.le_of_ble_eq_true rfl)) ⟨rfl, rfl⟩ ⟨Nat.le_refl 0, Nat.le_refl 0⟩ (Nat.le_of_ble_eq_true rfl) rfl rfl rfl rfl (Nat.le_of_ble_eq_true rfl) dX7_told_125) (fun r_15 w_16 hw => ?_)
          refine at_goto (tgt := 139) C dX7_told_128 (by decide) ?_
          exact at_iret C rfl hw dX7_told_139
    · have hw := hw.2 c_4
      refine at_iload_n C dX7_told_24 rfl rfl ?_
      refine at_if_ne (tgt := 46) C dX7_told_25 (by decide) (fun c_17 => ?_) (fun c_17 => ?_)
      · have hw := hw.1 c_17
        refine at_iload_n C dX7_told_46 rfl rfl ?_
        refine at_iconst C dX7_told_47 ic_1 ?_
        refine at_icmp_ne (tgt := 58) C dX7_told_48 (by decide) (fun c_18 => ?_) (fun c_18 => ?_)
        · have hw := hw.1 c_18
          refine at_iload_n C dX7_told_58 rfl rfl ?_
          refine at_iconst C dX7_told_59 ic_2 ?_
          refine at_icmp_ne (tgt := 70) C dX7_told_60 (by decide) (fun c_19 => ?_) (fun c_19 => ?_)
          · have hw := hw.1 c_19
            refine at_iload_n C dX7_told_70 rfl rfl ?_
            refine at_iconst C dX7_told_71 ic_3 ?_
            refine at_icmp_ne (tgt := 85) C dX7_told_72 (by decide) (fun c_20 => ?_) (fun c_20 => ?_)
            · have hw := hw.1 c_20
              refine at_iload_n C dX7_told_85 rfl rfl ?_
              refine at_iconst C dX7_told_86 ic_4 ?_
              refine at_icmp_ne (tgt := 100) C dX7_told_87 (by decide) (fun c_21 => ?_) (fun c_21 => ?_)
              · have hw := hw.1 c_21
                refine at_aload_n C dX7_told_100 rfl rfl ?_
                refine at_getr (j := 14) (r := 4) C (Nat.le_of_ble_eq_true rfl) rfl rfl in_X7 (Nat.le_of_ble_eq_true rfl) rfl q701 dX7_told_101 ?_
                refine at_bipush C dX7_told_104 bp_47 ?_
                refine at_iald C (Nat.le_of_ble_eq_true rfl) rfl vk_47_49 tk_47 dX7_told_106 ?_
                exact at_iret C rfl hw dX7_told_107
              · have hw := hw.2 c_21
                refine at_aload_n C dX7_told_90 rfl rfl ?_
                refine at_getr (j := 14) (r := 4) C (Nat.le_of_ble_eq_true rfl) rfl rfl in_X7 (Nat.le_of_ble_eq_true rfl) rfl q701 dX7_told_91 ?_
                refine at_bipush C dX7_told_94 bp_46 ?_
                refine at_iald C (Nat.le_of_ble_eq_true rfl) rfl vk_46_49 tk_46 dX7_told_96 ?_
                refine at_goto (tgt := 107) C dX7_told_97 (by decide) ?_
                exact at_iret C rfl hw dX7_told_107
            · have hw := hw.2 c_20
              refine at_aload_n C dX7_told_75 rfl rfl ?_
              refine at_getr (j := 14) (r := 4) C (Nat.le_of_ble_eq_true rfl) rfl rfl in_X7 (Nat.le_of_ble_eq_true rfl) rfl q701 dX7_told_76 ?_
              refine at_bipush C dX7_told_79 bp_45 ?_
              refine at_iald C (Nat.le_of_ble_eq_true rfl) rfl vk_45_49 tk_45 dX7_told_81 ?_
              refine at_goto (tgt := 107) C dX7_told_82 (by decide) ?_
              exact at_iret C rfl hw dX7_told_107
          · have hw := hw.2 c_19
            refine at_aload_n C dX7_told_63 rfl rfl ?_
            refine at_geti (j := 2) C (Nat.le_of_ble_eq_true rfl) rfl rfl in_X7 (Nat.le_of_ble_eq_true rfl) rfl q689 dX7_told_64 ?_
            refine at_goto (tgt := 107) C dX7_told_67 (by decide) ?_
            exact at_iret C rfl hw dX7_told_107
        · have hw := hw.2 c_18
          refine at_aload_n C dX7_told_51 rfl rfl ?_
          refine at_geti (j := 9) C (Nat.le_of_ble_eq_true rfl) rfl rfl in_X7 (Nat.le_of_ble_eq_true rfl) rfl q696 dX7_told_52 ?_
          refine at_goto (tgt := 107) C dX7_told_55 (by decide) ?_
          exact at_iret C rfl hw dX7_told_107
      · have hw := hw.2 c_17
        refine at_aload_n C dX7_told_28 rfl rfl ?_
        refine at_geti (j := 7) C (Nat.le_of_ble_eq_true rfl) rfl rfl in_X7 (Nat.le_of_ble_eq_true rfl) rfl q694 dX7_told_29 ?_
        refine at_if_eq (tgt := 42) C dX7_told_32 (by decide) (fun c_22 => ?_) (fun c_22 => ?_)
        · have hw := hw.1 c_22
          refine at_iconst C dX7_told_42 ic_m1 ?_
          refine at_goto (tgt := 107) C dX7_told_43 (by decide) ?_
          exact at_iret C rfl hw dX7_told_107
        · have hw := hw.2 c_22
          refine at_aload_n C dX7_told_35 rfl rfl ?_
          refine at_geti (j := 8) C (Nat.le_of_ble_eq_true rfl) rfl rfl in_X7 (Nat.le_of_ble_eq_true rfl) rfl q695 dX7_told_36 ?_
          refine at_goto (tgt := 107) C dX7_told_39 (by decide) ?_
          exact at_iret C rfl hw dX7_told_107
  · have hw := hw.2 c_3
    refine at_ldc C q800 dX7_told_15 ?_
    exact at_iret C rfl hw dX7_told_17
set_option maxHeartbeats 4000000 in
theorem metX7_isSkittle   (l : Launch) (D : va_G) (dA : Nat → ClassId) (ad : Nat → Nat)    {x1 : Int32} {w : GW} {Q : Int32 → Prop} (hw : PX7_isSkittle x1 w Q) : Met l yX7_isSkittle (ws_ yX7_isSkittle cX7_isSkittle 2 (some .boolean)) (gR 2) (va_Pc [.ref (ad 0), .int x1] (gB D dA 20 ad layM w)) (va_Qi (gQ1 Q w) (gZ D dA 20 ad layM) (gA 20 ad)) 0 0 (gA 20 ad) := by
  refine gm_of (L := [(0, .ref (ad 0)), (1, .int x1)]) (own := RX7) (by decide +kernel) rfl (Nat.le_of_ble_eq_true rfl) rfl rfl (fun p e s m below meth c C => ?_)
  unfold PX7_isSkittle at hw
  refine at_iload_n C dX7_isSkittle_0 rfl rfl ?_
  refine at_iconst C dX7_isSkittle_1 ic_0 ?_
  refine at_aload_n C dX7_isSkittle_2 rfl rfl ?_
  refine at_geti (j := 9) C (Nat.le_of_ble_eq_true rfl) rfl rfl in_X7 (Nat.le_of_ble_eq_true rfl) rfl q696 dX7_isSkittle_3 ?_
  refine at_iconst C dX7_isSkittle_6 ic_1 ?_
  refine at_isub C dX7_isSkittle_7 ?_
  refine at_callp (run_S (rest := []) (As := [.int x1, .int 0, .int ((w 0 9) - 1)]) C (metX7_in l D dA ad  hw) (lw_S q797 q798 q65 q799) dsX7_in (gR_ok (Nat.le_of_ble_eq_true rfl) (Nat.le_of_ble_eq_true rfl)) ⟨rfl, rfl⟩ ⟨Nat.le_refl 0, Nat.le_refl 0⟩ rfl rfl (Nat.le_of_ble_eq_true rfl) dX7_isSkittle_8) (fun r_1  hw => ?_)
  exact at_zret C rfl hw.1 ⟨hw.2, rfl⟩ dX7_isSkittle_11
set_option maxHeartbeats 4000000 in
theorem tX7_firstTaker_4     {Q : Int32 → Prop} (C : Cx p s m args meth c D dA cX7_firstTaker 4 (some .int) RX7)     {w : GW}  : ∀ (n : Nat) (x2 : Int32) (x3 : Int32), PX7_firstTaker_4 Q w n x2 x3 → gAtM p l e s m args below meth c D dA ad 1 (va_Qi (gQ1 Q w) (gZ D dA 20 ad layM) (gA 20 ad)) 4 4 [(0, .ref (ad 0)), (2, .int x2), (3, .int x3)] [] w := by
  intro n
  induction n with
  | zero => intro x2 x3 hw; exact False.elim hw
  | succ n ih =>
    intro x2 x3 hw
    unfold PX7_firstTaker_4 at hw
    refine at_iload_n C dX7_firstTaker_4 rfl rfl ?_
    refine at_bipush C dX7_firstTaker_5 bp_9 ?_
    refine at_icmp_ge (tgt := 39) C dX7_firstTaker_7 (by decide) (fun c_1 => ?_) (fun c_1 => ?_)
    · have hw := hw.1 c_1
      refine at_iload_n C dX7_firstTaker_39 rfl rfl ?_
      exact at_iret C rfl ⟨hw, rfl⟩ dX7_firstTaker_40
    · have hw := hw.2 c_1
      refine at_aload_n C dX7_firstTaker_10 rfl rfl ?_
      refine at_getr (j := 14) (r := 4) C (Nat.le_of_ble_eq_true rfl) rfl rfl in_X7 (Nat.le_of_ble_eq_true rfl) rfl q701 dX7_firstTaker_11 ?_
      refine at_bipush C dX7_firstTaker_14 bp_18 ?_
      refine at_iload_n C dX7_firstTaker_16 rfl rfl ?_
      refine at_iadd C dX7_firstTaker_17 ?_
      refine at_iald C (Nat.le_of_ble_eq_true rfl) rfl hw.1 rfl dX7_firstTaker_18 ?_
      have hw := hw.2
      refine at_iconst C dX7_firstTaker_19 ic_m1 ?_
      refine at_icmp_eq (tgt := 39) C dX7_firstTaker_20 (by decide) (fun c_2 => ?_) (fun c_2 => ?_)
      · have hw := hw.1 c_2
        refine at_iload_n C dX7_firstTaker_39 rfl rfl ?_
        exact at_iret C rfl ⟨hw, rfl⟩ dX7_firstTaker_40
      · have hw := hw.2 c_2
        refine at_aload_n C dX7_firstTaker_23 rfl rfl ?_
        refine at_getr (j := 14) (r := 4) C (Nat.le_of_ble_eq_true rfl) rfl rfl in_X7 (Nat.le_of_ble_eq_true rfl) rfl q701 dX7_firstTaker_24 ?_
        refine at_bipush C dX7_firstTaker_27 bp_18 ?_
        refine at_iload_n C dX7_firstTaker_29 rfl rfl ?_
        refine at_iadd C dX7_firstTaker_30 ?_
        refine at_iald C (Nat.le_of_ble_eq_true rfl) rfl hw.1 rfl dX7_firstTaker_31 ?_
        have hw := hw.2
        refine at_topi (fun v2_3 e2_3 => ?_)
        have hw := hw v2_3 e2_3
        refine at_istore_n (L' := [(0, .ref (ad 0)), (2, .int v2_3), (3, .int x3)]) C dX7_firstTaker_32 rfl (Nat.le_of_ble_eq_true rfl) rfl ?_
        refine at_iinc (F := fun z_ => [(0, .ref (ad 0)), (2, .int v2_3), (3, .int z_)]) C dX7_firstTaker_33 rfl ic_1 (Nat.le_of_ble_eq_true rfl) (fun _ => rfl) (fun v3_4 e3_4 => ?_)
        have hw := hw v3_4 e3_4
        refine at_goto (tgt := 4) C dX7_firstTaker_36 (by decide) ?_
        exact ih _ _ hw
set_option maxHeartbeats 4000000 in
theorem metX7_firstTaker   (l : Launch) (D : va_G) (dA : Nat → ClassId) (ad : Nat → Nat)    {x1 : Int32} {w : GW} {Q : Int32 → Prop} (hw : PX7_firstTaker x1 w Q) : Met l yX7_firstTaker (ws_ yX7_firstTaker cX7_firstTaker 4 (some .int)) (gR 1) (va_Pc [.ref (ad 0), .int x1] (gB D dA 20 ad layM w)) (va_Qi (gQ1 Q w) (gZ D dA 20 ad layM) (gA 20 ad)) 0 0 (gA 20 ad) := by
  refine gm_of (L := [(0, .ref (ad 0)), (1, .int x1)]) (own := RX7) (by decide +kernel) rfl (Nat.le_of_ble_eq_true rfl) rfl rfl (fun p e s m below meth c C => ?_)
  unfold PX7_firstTaker at hw
  refine at_iload_n C dX7_firstTaker_0 rfl rfl ?_
  refine at_istore_n (L' := [(0, .ref (ad 0)), (1, .int x1), (2, .int x1)]) C dX7_firstTaker_1 rfl (Nat.le_of_ble_eq_true rfl) rfl ?_
  refine at_iconst C dX7_firstTaker_2 ic_0 ?_
  refine at_istore_n (L' := [(0, .ref (ad 0)), (1, .int x1), (2, .int x1), (3, .int 0)]) C dX7_firstTaker_3 rfl (Nat.le_of_ble_eq_true rfl) rfl ?_
  obtain ⟨n_5, hw⟩ := hw
  exact at_sub (lv_pickm [0, 2, 3] rfl) (tX7_firstTaker_4 C  _ _ _ hw)
set_option maxHeartbeats 4000000 in
theorem metX7_skittle   (l : Launch) (D : va_G) (dA : Nat → ClassId) (ad : Nat → Nat)    {x1 : Int32} {x2 : Int32} {w : GW} {Q : Int32 → GW → Prop} (hw : PX7_skittle x1 x2 w Q) : Met l yX7_skittle (ws_ yX7_skittle cX7_skittle 3 (some .int)) (gR 3) (va_Pc [.ref (ad 0), .int x1, .int x2] (gB D dA 20 ad layM w)) (va_Qi Q (gZ D dA 20 ad layM) (gA 20 ad)) 0 0 (gA 20 ad) := by
  refine gm_of (L := [(0, .ref (ad 0)), (1, .int x1), (2, .int x2)]) (own := RX7) (by decide +kernel) rfl (Nat.le_of_ble_eq_true rfl) rfl rfl (fun p e s m below meth c C => ?_)
  unfold PX7_skittle at hw
  refine at_aload_n C dX7_skittle_0 rfl rfl ?_
  refine at_iconst C dX7_skittle_1 ic_0 ?_
  refine at_puti (j := 0) C (Nat.le_of_ble_eq_true rfl) rfl rfl in_X7 (Nat.le_of_ble_eq_true rfl) rfl q687 tyX7 tyX7_ok nmX7 rfl rfl rfl dX7_skittle_2 (fun w_1 ew_1 => ?_)
  have hw := hw w_1 ew_1
  refine at_aload_n C dX7_skittle_5 rfl rfl ?_
  refine at_iload_n C dX7_skittle_6 rfl rfl ?_
  refine at_callp (run_V (rest := []) (As := [.int x1]) C (metX7_isSkittle l D dA ad  hw) (lw_V q924 q926 qs46 q65 q927) dsX7_isSkittle (gR_ok (Nat.le_of_ble_eq_true rfl) (Nat.le_of_ble_eq_true rfl)) ⟨rfl, rfl⟩ ⟨Nat.le_refl 0, Nat.le_refl 0⟩ (Nat.le_of_ble_eq_true rfl) rfl rfl rfl rfl (Nat.le_of_ble_eq_true rfl) dX7_skittle_7) (fun r_2  hw => ?_)
  refine at_if_ne (tgt := 16) C dX7_skittle_10 (by decide) (fun c_3 => ?_) (fun c_3 => ?_)
  · have hw := hw.1 c_3
    refine at_iload_n C dX7_skittle_16 rfl rfl ?_
    refine at_iconst C dX7_skittle_17 ic_0 ?_
    refine at_bipush C dX7_skittle_18 bp_8 ?_
    refine at_callp (run_S (rest := []) (As := [.int x2, .int 0, .int 8]) C (metX7_in l D dA ad  hw) (lw_S q797 q798 q65 q799) dsX7_in (gR_ok (Nat.le_of_ble_eq_true rfl) (Nat.le_of_ble_eq_true rfl)) ⟨rfl, rfl⟩ ⟨Nat.le_refl 0, Nat.le_refl 0⟩ rfl rfl (Nat.le_of_ble_eq_true rfl) dX7_skittle_20) (fun r_4  hw => ?_)
    refine at_if_ne (tgt := 29) C dX7_skittle_23 (by decide) (fun c_5 => ?_) (fun c_5 => ?_)
    · have hw := hw.1 c_5
      refine at_iload_n C dX7_skittle_29 rfl rfl ?_
      refine at_iconst C dX7_skittle_30 ic_4 ?_
      refine at_icmp_ge (tgt := 90) C dX7_skittle_31 (by decide) (fun c_6 => ?_) (fun c_6 => ?_)
      · have hw := hw.1 c_6
        refine at_iload_n C dX7_skittle_90 rfl rfl ?_
        refine at_bipush C dX7_skittle_91 bp_7 ?_
        refine at_icmp_ge (tgt := 142) C dX7_skittle_93 (by decide) (fun c_7 => ?_) (fun c_7 => ?_)
        · have hw := hw.1 c_7
          refine at_iload_n C dX7_skittle_142 rfl rfl ?_
          refine at_bipush C dX7_skittle_143 bp_7 ?_
          refine at_icmp_ne (tgt := 156) C dX7_skittle_145 (by decide) (fun c_8 => ?_) (fun c_8 => ?_)
          · have hw := hw.1 c_8
            refine at_aload_n C dX7_skittle_156 rfl rfl ?_
            refine at_iload_n C dX7_skittle_157 rfl rfl ?_
            refine at_aload_n C dX7_skittle_158 rfl rfl ?_
            refine at_getr (j := 14) (r := 4) C (Nat.le_of_ble_eq_true rfl) rfl rfl in_X7 (Nat.le_of_ble_eq_true rfl) rfl q701 dX7_skittle_159 ?_
            refine at_iconst C dX7_skittle_162 ic_0 ?_
            refine at_iload_n C dX7_skittle_163 rfl rfl ?_
            refine at_iadd C dX7_skittle_164 ?_
            refine at_iald C (Nat.le_of_ble_eq_true rfl) rfl hw.1 rfl dX7_skittle_165 ?_
            have hw := hw.2
            refine at_callp (run_V (rest := []) (As := [.int x1, .int (w_1 4 ((0 + x1)).toNatClampNeg)]) C (metX7_bearsOn l D dA ad  hw) (lw_V q858 q860 qs35 q65 q861) dsX7_bearsOn (gR_ok (Nat.le_of_ble_eq_true rfl) (Nat.le_of_ble_eq_true rfl)) ⟨rfl, rfl⟩ ⟨Nat.le_refl 0, Nat.le_refl 0⟩ (Nat.le_of_ble_eq_true rfl) rfl rfl rfl rfl (Nat.le_of_ble_eq_true rfl) dX7_skittle_166) (fun r_9  hw => ?_)
            exact at_iret C rfl hw dX7_skittle_169
          · have hw := hw.2 c_8
            refine at_aload_n C dX7_skittle_148 rfl rfl ?_
            refine at_iload_n C dX7_skittle_149 rfl rfl ?_
            refine at_callp (run_V (rest := []) (As := [.int x1]) C (metX7_firstTaker l D dA ad  hw) (lw_V q929 q931 qs47 q65 q932) dsX7_firstTaker (gR_ok (Nat.le_of_ble_eq_true rfl) (Nat.le_of_ble_eq_true rfl)) ⟨rfl, rfl⟩ ⟨Nat.le_refl 0, Nat.le_refl 0⟩ (Nat.le_of_ble_eq_true rfl) rfl rfl rfl rfl (Nat.le_of_ble_eq_true rfl) dX7_skittle_150) (fun r_10  hw => ?_)
            refine at_goto (tgt := 169) C dX7_skittle_153 (by decide) ?_
            exact at_iret C rfl hw dX7_skittle_169
        · have hw := hw.2 c_7
          refine at_iload_n C dX7_skittle_96 rfl rfl ?_
          refine at_iconst C dX7_skittle_97 ic_4 ?_
          refine at_icmp_ne (tgt := 115) C dX7_skittle_98 (by decide) (fun c_11 => ?_) (fun c_11 => ?_)
          · have hw := hw.1 c_11
            refine at_iload_n C dX7_skittle_115 rfl rfl ?_
            refine at_iconst C dX7_skittle_116 ic_5 ?_
            refine at_icmp_ne (tgt := 132) C dX7_skittle_117 (by decide) (fun c_12 => ?_) (fun c_12 => ?_)
            · have hw := hw.1 c_12
              refine at_aload_n C dX7_skittle_132 rfl rfl ?_
              refine at_getr (j := 14) (r := 4) C (Nat.le_of_ble_eq_true rfl) rfl rfl in_X7 (Nat.le_of_ble_eq_true rfl) rfl q701 dX7_skittle_133 ?_
              refine at_bipush C dX7_skittle_136 bp_18 ?_
              refine at_iload_n C dX7_skittle_138 rfl rfl ?_
              refine at_iadd C dX7_skittle_139 ?_
              refine at_iald C (Nat.le_of_ble_eq_true rfl) rfl hw.1 rfl dX7_skittle_140 ?_
              have hw := hw.2
              exact at_iret C rfl hw dX7_skittle_141
            · have hw := hw.2 c_12
              refine at_aload_n C dX7_skittle_120 rfl rfl ?_
              refine at_getr (j := 14) (r := 4) C (Nat.le_of_ble_eq_true rfl) rfl rfl in_X7 (Nat.le_of_ble_eq_true rfl) rfl q701 dX7_skittle_121 ?_
              refine at_bipush C dX7_skittle_124 bp_9 ?_
              refine at_iload_n C dX7_skittle_126 rfl rfl ?_
              refine at_iadd C dX7_skittle_127 ?_
              refine at_iald C (Nat.le_of_ble_eq_true rfl) rfl hw.1 rfl dX7_skittle_128 ?_
              have hw := hw.2
              refine at_goto (tgt := 141) C dX7_skittle_129 (by decide) ?_
              exact at_iret C rfl hw dX7_skittle_141
          · have hw := hw.2 c_11
            refine at_aload_n C dX7_skittle_101 rfl rfl ?_
            refine at_getr (j := 14) (r := 4) C (Nat.le_of_ble_eq_true rfl) rfl rfl in_X7 (Nat.le_of_ble_eq_true rfl) rfl q701 dX7_skittle_102 ?_
            refine at_bipush C dX7_skittle_105 bp_45 ?_
            refine at_iald C (Nat.le_of_ble_eq_true rfl) rfl vk_45_49 tk_45 dX7_skittle_107 ?_
            refine at_iload_n C dX7_skittle_108 rfl rfl ?_
            refine at_ishr C dX7_skittle_109 ?_
            refine at_iconst C dX7_skittle_110 ic_1 ?_
            refine at_iand C dX7_skittle_111 ?_
            refine at_goto (tgt := 141) C dX7_skittle_112 (by decide) ?_
            exact at_iret C rfl hw dX7_skittle_141
      · have hw := hw.2 c_6
        refine at_iload_n C dX7_skittle_34 rfl rfl ?_
        refine at_if_ne (tgt := 50) C dX7_skittle_35 (by decide) (fun c_13 => ?_) (fun c_13 => ?_)
        · have hw := hw.1 c_13
          refine at_iload_n C dX7_skittle_50 rfl rfl ?_
          refine at_iconst C dX7_skittle_51 ic_1 ?_
          refine at_icmp_ne (tgt := 64) C dX7_skittle_52 (by decide) (fun c_14 => ?_) (fun c_14 => ?_)
          · have hw := hw.1 c_14
            refine at_iload_n C dX7_skittle_64 rfl rfl ?_
            refine at_iconst C dX7_skittle_65 ic_2 ?_
            refine at_icmp_ne (tgt := 81) C dX7_skittle_66 (by decide) (fun c_15 => ?_) (fun c_15 => ?_)
            · have hw := hw.1 c_15
              refine at_aload_n C dX7_skittle_81 rfl rfl ?_
              refine at_getr (j := 14) (r := 4) C (Nat.le_of_ble_eq_true rfl) rfl rfl in_X7 (Nat.le_of_ble_eq_true rfl) rfl q701 dX7_skittle_82 ?_
              refine at_iconst C dX7_skittle_85 ic_0 ?_
              refine at_iload_n C dX7_skittle_86 rfl rfl ?_
              refine at_iadd C dX7_skittle_87 ?_
              refine at_iald C (Nat.le_of_ble_eq_true rfl) rfl hw.1 rfl dX7_skittle_88 ?_
              have hw := hw.2
              exact at_iret C rfl hw dX7_skittle_89
            · have hw := hw.2 c_15
              refine at_aload_n C dX7_skittle_69 rfl rfl ?_
              refine at_getr (j := 14) (r := 4) C (Nat.le_of_ble_eq_true rfl) rfl rfl in_X7 (Nat.le_of_ble_eq_true rfl) rfl q701 dX7_skittle_70 ?_
              refine at_bipush C dX7_skittle_73 bp_36 ?_
              refine at_iload_n C dX7_skittle_75 rfl rfl ?_
              refine at_iadd C dX7_skittle_76 ?_
              refine at_iald C (Nat.le_of_ble_eq_true rfl) rfl hw.1 rfl dX7_skittle_77 ?_
              have hw := hw.2
              refine at_goto (tgt := 89) C dX7_skittle_78 (by decide) ?_
              exact at_iret C rfl hw dX7_skittle_89
          · have hw := hw.2 c_14
            refine at_aload_n C dX7_skittle_55 rfl rfl ?_
            refine at_getr (j := 13) (r := 3) C (Nat.le_of_ble_eq_true rfl) rfl rfl in_X7 (Nat.le_of_ble_eq_true rfl) rfl q700 dX7_skittle_56 ?_
            refine at_iload_n C dX7_skittle_59 rfl rfl ?_
            refine at_iald C (Nat.le_of_ble_eq_true rfl) rfl hw.1 rfl dX7_skittle_60 ?_
            have hw := hw.2
            refine at_goto (tgt := 89) C dX7_skittle_61 (by decide) ?_
            exact at_iret C rfl hw dX7_skittle_89
        · have hw := hw.2 c_13
          refine at_aload_n C dX7_skittle_38 rfl rfl ?_
          refine at_getr (j := 14) (r := 4) C (Nat.le_of_ble_eq_true rfl) rfl rfl in_X7 (Nat.le_of_ble_eq_true rfl) rfl q701 dX7_skittle_39 ?_
          refine at_bipush C dX7_skittle_42 bp_27 ?_
          refine at_iload_n C dX7_skittle_44 rfl rfl ?_
          refine at_iadd C dX7_skittle_45 ?_
          refine at_iald C (Nat.le_of_ble_eq_true rfl) rfl hw.1 rfl dX7_skittle_46 ?_
          have hw := hw.2
          refine at_goto (tgt := 89) C dX7_skittle_47 (by decide) ?_
          exact at_iret C rfl hw dX7_skittle_89
    · have hw := hw.2 c_5
      refine at_ldc C q800 dX7_skittle_26 ?_
      exact at_iret C rfl hw dX7_skittle_28
  · have hw := hw.2 c_3
    refine at_ldc C q928 dX7_skittle_13 ?_
    exact at_iret C rfl hw dX7_skittle_15
set_option maxHeartbeats 4000000 in
theorem metX7_isPlate   (l : Launch) (D : va_G) (dA : Nat → ClassId) (ad : Nat → Nat)    {x0 : Int32} {w : GW} {Q : Int32 → Prop} (hw : PX7_isPlate x0 Q) : Met l yX7_isPlate (ws_ yX7_isPlate cX7_isPlate 1 (some .boolean)) (gR 2) (va_Pc [.int x0] (gB D dA 20 ad layM w)) (va_Qi (gQ1 Q w) (gZ D dA 20 ad layM) (gA 20 ad)) 0 0 (gA 20 ad) := by
  refine gm_of (L := [(0, .int x0)]) (own := RX7) (by decide +kernel) rfl (Nat.le_of_ble_eq_true rfl) rfl rfl (fun p e s m below meth c C => ?_)
  unfold PX7_isPlate at hw
  refine at_iload_n C dX7_isPlate_0 rfl rfl ?_
  refine at_iconst C dX7_isPlate_1 ic_0 ?_
  refine at_bipush C dX7_isPlate_2 bp_8 ?_
  refine at_callp (run_S (rest := []) (As := [.int x0, .int 0, .int 8]) C (metX7_in l D dA ad  hw) (lw_S q797 q798 q65 q799) dsX7_in (gR_ok (Nat.le_of_ble_eq_true rfl) (Nat.le_of_ble_eq_true rfl)) ⟨rfl, rfl⟩ ⟨Nat.le_refl 0, Nat.le_refl 0⟩ rfl rfl (Nat.le_of_ble_eq_true rfl) dX7_isPlate_4) (fun r_1  hw => ?_)
  exact at_zret C rfl hw.1 ⟨hw.2, rfl⟩ dX7_isPlate_7
set_option maxHeartbeats 4000000 in
theorem tX7_whoOn_29    {K4 : Int32 → Int32 → Prop} {Q : Int32 → Prop} (C : Cx p s m args meth c D dA cX7_whoOn 4 (some .int) RX7)    {x1 : Int32} {x3 : Int32} {s0 : Int32} {w : GW} (hK4 : ∀ (x2 : Int32) (x3 : Int32), K4 x2 x3 → gAtM p l e s m args below meth c D dA ad 1 (va_Qi (gQ1 Q w) (gZ D dA 20 ad layM) (gA 20 ad)) 4 4 [(0, .ref (ad 0)), (1, .int x1), (2, .int x2), (3, .int x3)] [] w) (hw : PX7_whoOn_29 K4 Q x1 x3 s0 w) : gAtM p l e s m args below meth c D dA ad 1 (va_Qi (gQ1 Q w) (gZ D dA 20 ad layM) (gA 20 ad)) 4 29 [(0, .ref (ad 0)), (1, .int x1), (3, .int x3)] [.int s0] w := by
  unfold PX7_whoOn_29 at hw
  refine at_istore_n (L' := [(0, .ref (ad 0)), (1, .int x1), (2, .int s0), (3, .int x3)]) C dX7_whoOn_29 rfl (Nat.le_of_ble_eq_true rfl) rfl ?_
  refine at_iinc (F := fun z_ => [(0, .ref (ad 0)), (1, .int x1), (2, .int s0), (3, .int z_)]) C dX7_whoOn_30 rfl ic_1 (Nat.le_of_ble_eq_true rfl) (fun _ => rfl) (fun v3_1 e3_1 => ?_)
  have hw := hw v3_1 e3_1
  refine at_goto (tgt := 4) C dX7_whoOn_33 (by decide) ?_
  exact hK4 _ _ hw
set_option maxHeartbeats 4000000 in
theorem tX7_whoOn_4     {Q : Int32 → Prop} (C : Cx p s m args meth c D dA cX7_whoOn 4 (some .int) RX7)    {x1 : Int32} {w : GW}  : ∀ (n : Nat) (x2 : Int32) (x3 : Int32), PX7_whoOn_4 Q x1 w n x2 x3 → gAtM p l e s m args below meth c D dA ad 1 (va_Qi (gQ1 Q w) (gZ D dA 20 ad layM) (gA 20 ad)) 4 4 [(0, .ref (ad 0)), (1, .int x1), (2, .int x2), (3, .int x3)] [] w := by
  intro n
  induction n with
  | zero => intro x2 x3 hw; exact False.elim hw
  | succ n ih =>
    intro x2 x3 hw
    unfold PX7_whoOn_4 at hw
    refine at_iload_n C dX7_whoOn_4 rfl rfl ?_
    refine at_aload_n C dX7_whoOn_5 rfl rfl ?_
    refine at_geti (j := 9) C (Nat.le_of_ble_eq_true rfl) rfl rfl in_X7 (Nat.le_of_ble_eq_true rfl) rfl q696 dX7_whoOn_6 ?_
    refine at_icmp_ge (tgt := 36) C dX7_whoOn_9 (by decide) (fun c_2 => ?_) (fun c_2 => ?_)
    · have hw := hw.1 c_2
      refine at_iload_n C dX7_whoOn_36 rfl rfl ?_
      exact at_iret C rfl ⟨hw, rfl⟩ dX7_whoOn_37
    · have hw := hw.2 c_2
      refine at_aload_n C dX7_whoOn_12 rfl rfl ?_
      refine at_getr (j := 14) (r := 4) C (Nat.le_of_ble_eq_true rfl) rfl rfl in_X7 (Nat.le_of_ble_eq_true rfl) rfl q701 dX7_whoOn_13 ?_
      refine at_iconst C dX7_whoOn_16 ic_0 ?_
      refine at_iload_n C dX7_whoOn_17 rfl rfl ?_
      refine at_iadd C dX7_whoOn_18 ?_
      refine at_iald C (Nat.le_of_ble_eq_true rfl) rfl hw.1 rfl dX7_whoOn_19 ?_
      have hw := hw.2
      refine at_iload_n C dX7_whoOn_20 rfl rfl ?_
      refine at_icmp_ne (tgt := 28) C dX7_whoOn_21 (by decide) (fun c_3 => ?_) (fun c_3 => ?_)
      · have hw := hw.1 c_3
        refine at_iload_n C dX7_whoOn_28 rfl rfl ?_
        exact at_sub (lv_pickm [0, 1, 3] rfl) (tX7_whoOn_29 C ih hw)
      · have hw := hw.2 c_3
        refine at_iload_n C dX7_whoOn_24 rfl rfl ?_
        refine at_goto (tgt := 29) C dX7_whoOn_25 (by decide) ?_
        exact at_sub (lv_pickm [0, 1, 3] rfl) (tX7_whoOn_29 C ih hw)
set_option maxHeartbeats 4000000 in
theorem metX7_whoOn   (l : Launch) (D : va_G) (dA : Nat → ClassId) (ad : Nat → Nat)    {x1 : Int32} {w : GW} {Q : Int32 → Prop} (hw : PX7_whoOn x1 w Q) : Met l yX7_whoOn (ws_ yX7_whoOn cX7_whoOn 4 (some .int)) (gR 1) (va_Pc [.ref (ad 0), .int x1] (gB D dA 20 ad layM w)) (va_Qi (gQ1 Q w) (gZ D dA 20 ad layM) (gA 20 ad)) 0 0 (gA 20 ad) := by
  refine gm_of (L := [(0, .ref (ad 0)), (1, .int x1)]) (own := RX7) (by decide +kernel) rfl (Nat.le_of_ble_eq_true rfl) rfl rfl (fun p e s m below meth c C => ?_)
  unfold PX7_whoOn at hw
  refine at_iconst C dX7_whoOn_0 ic_m1 ?_
  refine at_istore_n (L' := [(0, .ref (ad 0)), (1, .int x1), (2, .int (-1))]) C dX7_whoOn_1 rfl (Nat.le_of_ble_eq_true rfl) rfl ?_
  refine at_iconst C dX7_whoOn_2 ic_0 ?_
  refine at_istore_n (L' := [(0, .ref (ad 0)), (1, .int x1), (2, .int (-1)), (3, .int 0)]) C dX7_whoOn_3 rfl (Nat.le_of_ble_eq_true rfl) rfl ?_
  obtain ⟨n_4, hw⟩ := hw
  exact (tX7_whoOn_4 C  _ _ _ hw)
set_option maxHeartbeats 4000000 in
theorem metX7_plate   (l : Launch) (D : va_G) (dA : Nat → ClassId) (ad : Nat → Nat)    {x1 : Int32} {w : GW} {Q : Int32 → GW → Prop} (hw : PX7_plate x1 w Q) : Met l yX7_plate (ws_ yX7_plate cX7_plate 2 (some .int)) (gR 3) (va_Pc [.ref (ad 0), .int x1] (gB D dA 20 ad layM w)) (va_Qi Q (gZ D dA 20 ad layM) (gA 20 ad)) 0 0 (gA 20 ad) := by
  refine gm_of (L := [(0, .ref (ad 0)), (1, .int x1)]) (own := RX7) (by decide +kernel) rfl (Nat.le_of_ble_eq_true rfl) rfl rfl (fun p e s m below meth c C => ?_)
  unfold PX7_plate at hw
  refine at_aload_n C dX7_plate_0 rfl rfl ?_
  refine at_iconst C dX7_plate_1 ic_0 ?_
  refine at_puti (j := 0) C (Nat.le_of_ble_eq_true rfl) rfl rfl in_X7 (Nat.le_of_ble_eq_true rfl) rfl q687 tyX7 tyX7_ok nmX7 rfl rfl rfl dX7_plate_2 (fun w_1 ew_1 => ?_)
  have hw := hw w_1 ew_1
  refine at_iload_n C dX7_plate_5 rfl rfl ?_
  refine at_callp (run_S (rest := []) (As := [.int x1]) C (metX7_isPlate l D dA ad  hw) (lw_S q937 q938 q65 q939) dsX7_isPlate (gR_ok (Nat.le_of_ble_eq_true rfl) (Nat.le_of_ble_eq_true rfl)) ⟨rfl, rfl⟩ ⟨Nat.le_refl 0, Nat.le_refl 0⟩ rfl rfl (Nat.le_of_ble_eq_true rfl) dX7_plate_6) (fun r_2  hw => ?_)
  refine at_if_eq (tgt := 20) C dX7_plate_9 (by decide) (fun c_3 => ?_) (fun c_3 => ?_)
  · have hw := hw.1 c_3
    refine at_ldc C q928 dX7_plate_20 ?_
    exact at_iret C rfl hw dX7_plate_22
  · have hw := hw.2 c_3
    refine at_aload_n C dX7_plate_12 rfl rfl ?_
    refine at_iload_n C dX7_plate_13 rfl rfl ?_
    refine at_callp (run_V (rest := []) (As := [.int x1]) C (metX7_whoOn l D dA ad  hw) (lw_V q940 q942 qs48 q65 q943) dsX7_whoOn (gR_ok (Nat.le_of_ble_eq_true rfl) (Nat.le_of_ble_eq_true rfl)) ⟨rfl, rfl⟩ ⟨Nat.le_refl 0, Nat.le_refl 0⟩ (Nat.le_of_ble_eq_true rfl) rfl rfl rfl rfl (Nat.le_of_ble_eq_true rfl) dX7_plate_14) (fun r_4  hw => ?_)
    refine at_goto (tgt := 22) C dX7_plate_17 (by decide) ?_
    exact at_iret C rfl hw dX7_plate_22
set_option maxHeartbeats 4000000 in
theorem metX7_isBall   (l : Launch) (D : va_G) (dA : Nat → ClassId) (ad : Nat → Nat)    {x1 : Int32} {x2 : Int32} {x3 : Int32} {w : GW} {Q : Int32 → Prop} (hw : PX7_isBall x1 x2 x3 Q) : Met l yX7_isBall (ws_ yX7_isBall cX7_isBall 4 (some .boolean)) (gR 2) (va_Pc [.ref (ad 0), .int x1, .int x2, .int x3] (gB D dA 20 ad layM w)) (va_Qi (gQ1 Q w) (gZ D dA 20 ad layM) (gA 20 ad)) 0 0 (gA 20 ad) := by
  refine gm_of (L := [(0, .ref (ad 0)), (1, .int x1), (2, .int x2), (3, .int x3)]) (own := RX7) (by decide +kernel) rfl (Nat.le_of_ble_eq_true rfl) rfl rfl (fun p e s m below meth c C => ?_)
  unfold PX7_isBall at hw
  refine at_iload_n C dX7_isBall_0 rfl rfl ?_
  refine at_iconst C dX7_isBall_1 ic_0 ?_
  refine at_iconst C dX7_isBall_2 ic_4 ?_
  refine at_callp (run_S (rest := []) (As := [.int x1, .int 0, .int 4]) C (metX7_in l D dA ad  hw) (lw_S q797 q798 q65 q799) dsX7_in (gR_ok (Nat.le_of_ble_eq_true rfl) (Nat.le_of_ble_eq_true rfl)) ⟨rfl, rfl⟩ ⟨Nat.le_refl 0, Nat.le_refl 0⟩ rfl rfl (Nat.le_of_ble_eq_true rfl) dX7_isBall_3) (fun r_1  hw => ?_)
  refine at_if_eq (tgt := 32) C dX7_isBall_6 (by decide) (fun c_2 => ?_) (fun c_2 => ?_)
  · have hw := hw.1 c_2
    refine at_iconst C dX7_isBall_32 ic_0 ?_
    exact at_zret C rfl gBool_0 ⟨hw, rfl⟩ dX7_isBall_33
  · have hw := hw.2 c_2
    refine at_iload_n C dX7_isBall_9 rfl rfl ?_
    refine at_iconst C dX7_isBall_10 ic_0 ?_
    refine at_iconst C dX7_isBall_11 ic_2 ?_
    refine at_callp (run_S (rest := []) (As := [.int x2, .int 0, .int 2]) C (metX7_in l D dA ad  hw) (lw_S q797 q798 q65 q799) dsX7_in (gR_ok (Nat.le_of_ble_eq_true rfl) (Nat.le_of_ble_eq_true rfl)) ⟨rfl, rfl⟩ ⟨Nat.le_refl 0, Nat.le_refl 0⟩ rfl rfl (Nat.le_of_ble_eq_true rfl) dX7_isBall_12) (fun r_3  hw => ?_)
    refine at_if_eq (tgt := 32) C dX7_isBall_15 (by decide) (fun c_4 => ?_) (fun c_4 => ?_)
    · have hw := hw.1 c_4
      refine at_iconst C dX7_isBall_32 ic_0 ?_
      exact at_zret C rfl gBool_0 ⟨hw, rfl⟩ dX7_isBall_33
    · have hw := hw.2 c_4
      refine at_iload_n C dX7_isBall_18 rfl rfl ?_
      refine at_iconst C dX7_isBall_19 ic_1 ?_
      refine at_bipush C dX7_isBall_20 bp_40 ?_
      refine at_callp (run_S (rest := []) (As := [.int x3, .int 1, .int 40]) C (metX7_in l D dA ad  hw) (lw_S q797 q798 q65 q799) dsX7_in (gR_ok (Nat.le_of_ble_eq_true rfl) (Nat.le_of_ble_eq_true rfl)) ⟨rfl, rfl⟩ ⟨Nat.le_refl 0, Nat.le_refl 0⟩ rfl rfl (Nat.le_of_ble_eq_true rfl) dX7_isBall_22) (fun r_5  hw => ?_)
      refine at_if_eq (tgt := 32) C dX7_isBall_25 (by decide) (fun c_6 => ?_) (fun c_6 => ?_)
      · have hw := hw.1 c_6
        refine at_iconst C dX7_isBall_32 ic_0 ?_
        exact at_zret C rfl gBool_0 ⟨hw, rfl⟩ dX7_isBall_33
      · have hw := hw.2 c_6
        refine at_iconst C dX7_isBall_28 ic_1 ?_
        refine at_goto (tgt := 33) C dX7_isBall_29 (by decide) ?_
        exact at_zret C rfl gBool_1 ⟨hw, rfl⟩ dX7_isBall_33
set_option maxHeartbeats 4000000 in
theorem tX7_notes_47     {Q : GW → Prop} (C : Cx p s m args meth c D dA cX7_notes 2 none RX7)       : ∀ (n : Nat) (x1 : Int32) (w : GW), PX7_notes_47 Q n x1 w → gAtM p l e s m args below meth c D dA ad 1 (va_Qv Q (gZ D dA 20 ad layM) (gA 20 ad)) 2 47 [(0, .ref (ad 0)), (1, .int x1)] [] w := by
  intro n
  induction n with
  | zero => intro x1 w hw; exact False.elim hw
  | succ n ih =>
    intro x1 w hw
    unfold PX7_notes_47 at hw
    refine at_iload_n C dX7_notes_47 rfl rfl ?_
    refine at_bipush C dX7_notes_48 bp_49 ?_
    refine at_icmp_ge (tgt := 79) C dX7_notes_50 (by decide) (fun c_1 => ?_) (fun c_1 => ?_)
    · have hw := hw.1 c_1
      refine at_aload_n C dX7_notes_79 rfl rfl ?_
      refine at_dup C dX7_notes_80 rfl ?_
      refine at_geti (j := 18) C (Nat.le_of_ble_eq_true rfl) rfl rfl in_X7 (Nat.le_of_ble_eq_true rfl) rfl q705 dX7_notes_81 ?_
      refine at_iconst C dX7_notes_84 ic_1 ?_
      refine at_iadd C dX7_notes_85 ?_
      refine at_puti (j := 18) C (Nat.le_of_ble_eq_true rfl) rfl rfl in_X7 (Nat.le_of_ble_eq_true rfl) rfl q705 tyX7 tyX7_ok nmX7 rfl rfl rfl dX7_notes_86 (fun w_2 ew_2 => ?_)
      have hw := hw w_2 ew_2
      exact at_vret C rfl hw dX7_notes_89
    · have hw := hw.2 c_1
      refine at_aload_n C dX7_notes_53 rfl rfl ?_
      refine at_getr (j := 17) (r := 7) C (Nat.le_of_ble_eq_true rfl) rfl rfl in_X7 (Nat.le_of_ble_eq_true rfl) rfl q704 dX7_notes_54 ?_
      refine at_bipush C dX7_notes_57 bp_49 ?_
      refine at_aload_n C dX7_notes_59 rfl rfl ?_
      refine at_geti (j := 18) C (Nat.le_of_ble_eq_true rfl) rfl rfl in_X7 (Nat.le_of_ble_eq_true rfl) rfl q705 dX7_notes_60 ?_
      refine at_imul C dX7_notes_63 ?_
      refine at_iload_n C dX7_notes_64 rfl rfl ?_
      refine at_iadd C dX7_notes_65 ?_
      refine at_aload_n C dX7_notes_66 rfl rfl ?_
      refine at_getr (j := 14) (r := 4) C (Nat.le_of_ble_eq_true rfl) rfl rfl in_X7 (Nat.le_of_ble_eq_true rfl) rfl q701 dX7_notes_67 ?_
      refine at_iload_n C dX7_notes_70 rfl rfl ?_
      refine at_iald C (Nat.le_of_ble_eq_true rfl) rfl hw.1 rfl dX7_notes_71 ?_
      have hw := hw.2
      refine at_iast C (Nat.le_of_ble_eq_true rfl) rfl hw.1 rfl dX7_notes_72 (fun w_3 ew_3 => ?_)
      have hw := hw.2 w_3 ew_3
      refine at_iinc (F := fun z_ => [(0, .ref (ad 0)), (1, .int z_)]) C dX7_notes_73 rfl ic_1 (Nat.le_of_ble_eq_true rfl) (fun _ => rfl) (fun v1_4 e1_4 => ?_)
      have hw := hw v1_4 e1_4
      refine at_goto (tgt := 47) C dX7_notes_76 (by decide) ?_
      exact ih _ _ hw
set_option maxHeartbeats 4000000 in
theorem tX7_notes_45     {Q : GW → Prop} (C : Cx p s m args meth c D dA cX7_notes 2 none RX7)     {w : GW}  (hw : PX7_notes_45 Q w) : gAtM p l e s m args below meth c D dA ad 1 (va_Qv Q (gZ D dA 20 ad layM) (gA 20 ad)) 2 45 [(0, .ref (ad 0))] [] w := by
  unfold PX7_notes_45 at hw
  refine at_iconst C dX7_notes_45 ic_0 ?_
  refine at_istore_n (L' := [(0, .ref (ad 0)), (1, .int 0)]) C dX7_notes_46 rfl (Nat.le_of_ble_eq_true rfl) rfl ?_
  obtain ⟨n_5, hw⟩ := hw
  exact (tX7_notes_47 C  _ _ _ hw)
set_option maxHeartbeats 4000000 in
theorem tX7_notes_11     {Q : GW → Prop} (C : Cx p s m args meth c D dA cX7_notes 2 none RX7)       : ∀ (n : Nat) (x1 : Int32) (w : GW), PX7_notes_11 Q n x1 w → gAtM p l e s m args below meth c D dA ad 1 (va_Qv Q (gZ D dA 20 ad layM) (gA 20 ad)) 2 11 [(0, .ref (ad 0)), (1, .int x1)] [] w := by
  intro n
  induction n with
  | zero => intro x1 w hw; exact False.elim hw
  | succ n ih =>
    intro x1 w hw
    unfold PX7_notes_11 at hw
    refine at_iload_n C dX7_notes_11 rfl rfl ?_
    refine at_sipush C dX7_notes_12 sp_735 ?_
    refine at_icmp_ge (tgt := 39) C dX7_notes_15 (by decide) (fun c_6 => ?_) (fun c_6 => ?_)
    · have hw := hw.1 c_6
      refine at_aload_n C dX7_notes_39 rfl rfl ?_
      refine at_bipush C dX7_notes_40 bp_15 ?_
      refine at_puti (j := 18) C (Nat.le_of_ble_eq_true rfl) rfl rfl in_X7 (Nat.le_of_ble_eq_true rfl) rfl q705 tyX7 tyX7_ok nmX7 rfl rfl rfl dX7_notes_42 (fun w_7 ew_7 => ?_)
      have hw := hw w_7 ew_7
      exact at_sub (lv_pickm [0] rfl) (tX7_notes_45 C  hw)
    · have hw := hw.2 c_6
      refine at_aload_n C dX7_notes_18 rfl rfl ?_
      refine at_getr (j := 17) (r := 7) C (Nat.le_of_ble_eq_true rfl) rfl rfl in_X7 (Nat.le_of_ble_eq_true rfl) rfl q704 dX7_notes_19 ?_
      refine at_iload_n C dX7_notes_22 rfl rfl ?_
      refine at_aload_n C dX7_notes_23 rfl rfl ?_
      refine at_getr (j := 17) (r := 7) C (Nat.le_of_ble_eq_true rfl) rfl rfl in_X7 (Nat.le_of_ble_eq_true rfl) rfl q704 dX7_notes_24 ?_
      refine at_iload_n C dX7_notes_27 rfl rfl ?_
      refine at_bipush C dX7_notes_28 bp_49 ?_
      refine at_iadd C dX7_notes_30 ?_
      refine at_iald C (Nat.le_of_ble_eq_true rfl) rfl hw.1 rfl dX7_notes_31 ?_
      have hw := hw.2
      refine at_iast C (Nat.le_of_ble_eq_true rfl) rfl hw.1 rfl dX7_notes_32 (fun w_8 ew_8 => ?_)
      have hw := hw.2 w_8 ew_8
      refine at_iinc (F := fun z_ => [(0, .ref (ad 0)), (1, .int z_)]) C dX7_notes_33 rfl ic_1 (Nat.le_of_ble_eq_true rfl) (fun _ => rfl) (fun v1_9 e1_9 => ?_)
      have hw := hw v1_9 e1_9
      refine at_goto (tgt := 11) C dX7_notes_36 (by decide) ?_
      exact ih _ _ hw
set_option maxHeartbeats 4000000 in
theorem metX7_notes   (l : Launch) (D : va_G) (dA : Nat → ClassId) (ad : Nat → Nat)     {w : GW} {Q : GW → Prop} (hw : PX7_notes w Q) : Met l yX7_notes (ws_ yX7_notes cX7_notes 2 none) (gR 1) (va_Pc [.ref (ad 0)] (gB D dA 20 ad layM w)) (va_Qv Q (gZ D dA 20 ad layM) (gA 20 ad)) 0 0 (gA 20 ad) := by
  refine gm_of (L := [(0, .ref (ad 0))]) (own := RX7) (by decide +kernel) rfl (Nat.le_of_ble_eq_true rfl) rfl rfl (fun p e s m below meth c C => ?_)
  unfold PX7_notes at hw
  refine at_aload_n C dX7_notes_0 rfl rfl ?_
  refine at_geti (j := 18) C (Nat.le_of_ble_eq_true rfl) rfl rfl in_X7 (Nat.le_of_ble_eq_true rfl) rfl q705 dX7_notes_1 ?_
  refine at_bipush C dX7_notes_4 bp_16 ?_
  refine at_icmp_ne (tgt := 45) C dX7_notes_6 (by decide) (fun c_10 => ?_) (fun c_10 => ?_)
  · have hw := hw.1 c_10
    exact (tX7_notes_45 C  hw)
  · have hw := hw.2 c_10
    refine at_iconst C dX7_notes_9 ic_0 ?_
    refine at_istore_n (L' := [(0, .ref (ad 0)), (1, .int 0)]) C dX7_notes_10 rfl (Nat.le_of_ble_eq_true rfl) rfl ?_
    obtain ⟨n_11, hw⟩ := hw
    exact (tX7_notes_11 C  _ _ _ hw)
set_option maxHeartbeats 4000000 in
theorem tX7_throwsBall_203     {Q : Int32 → GW → Prop} (C : Cx p s m args meth c D dA cX7_throwsBall 8 (some .int) RX7)    {x5 : Int32} {s1 : Int32} {s2 : Int32} {s3 : Int32} {w : GW}  (hw : PX7_throwsBall_203 Q x5 s1 s2 s3 w) : gAtM p l e s m args below meth c D dA ad 5 (va_Qi Q (gZ D dA 20 ad layM) (gA 20 ad)) 8 203 [(5, .int x5)] [.int s3, .int s2, .int s1, .ref (ad 4)] w := by
  unfold PX7_throwsBall_203 at hw
  refine at_iadd C dX7_throwsBall_203 ?_
  refine at_iast C (Nat.le_of_ble_eq_true rfl) rfl hw.1 rfl dX7_throwsBall_204 (fun w_1 ew_1 => ?_)
  have hw := hw.2 w_1 ew_1
  refine at_iload C dX7_throwsBall_205 rfl ?_
  exact at_iret C rfl hw dX7_throwsBall_207
set_option maxHeartbeats 4000000 in
theorem tX7_throwsBall_202     {Q : Int32 → GW → Prop} (C : Cx p s m args meth c D dA cX7_throwsBall 8 (some .int) RX7)    {x5 : Int32} {s1 : Int32} {s2 : Int32} {w : GW}  (hw : PX7_throwsBall_202 Q x5 s1 s2 w) : gAtM p l e s m args below meth c D dA ad 5 (va_Qi Q (gZ D dA 20 ad layM) (gA 20 ad)) 8 202 [(5, .int x5)] [.int s2, .int s1, .ref (ad 4)] w := by
  unfold PX7_throwsBall_202 at hw
  refine at_iconst C dX7_throwsBall_202 ic_0 ?_
  exact (tX7_throwsBall_203 C  hw)
set_option maxHeartbeats 4000000 in
theorem tX7_throwsBall_159    {K65 : Int32 → GW → Prop} {Q : Int32 → GW → Prop} (C : Cx p s m args meth c D dA cX7_throwsBall 8 (some .int) RX7)    {x4 : Int32} {x5 : Int32} {x6 : Int32} {s1 : Int32} {s2 : Int32} {w : GW} (hK65 : ∀ (x6 : Int32) (w : GW), K65 x6 w → gAtM p l e s m args below meth c D dA ad 5 (va_Qi Q (gZ D dA 20 ad layM) (gA 20 ad)) 8 65 [(0, .ref (ad 0)), (4, .int x4), (5, .int x5), (6, .int x6)] [] w) (hw : PX7_throwsBall_159 K65 Q x4 x5 x6 s1 s2 w) : gAtM p l e s m args below meth c D dA ad 5 (va_Qi Q (gZ D dA 20 ad layM) (gA 20 ad)) 8 159 [(0, .ref (ad 0)), (4, .int x4), (5, .int x5), (6, .int x6)] [.int s2, .int s1, .ref (ad 4)] w := by
  unfold PX7_throwsBall_159 at hw
  refine at_iast C (Nat.le_of_ble_eq_true rfl) rfl hw.1 rfl dX7_throwsBall_159 (fun w_2 ew_2 => ?_)
  have hw := hw.2 w_2 ew_2
  refine at_iinc (F := fun z_ => [(0, .ref (ad 0)), (4, .int x4), (5, .int x5), (6, .int z_)]) C dX7_throwsBall_160 rfl ic_1 (Nat.le_of_ble_eq_true rfl) (fun _ => rfl) (fun v6_3 e6_3 => ?_)
  have hw := hw v6_3 e6_3
  refine at_goto (tgt := 65) C dX7_throwsBall_163 (by decide) ?_
  exact hK65 _ _ hw
set_option maxHeartbeats 4000000 in
theorem tX7_throwsBall_117    {K65 : Int32 → GW → Prop} {Q : Int32 → GW → Prop} (C : Cx p s m args meth c D dA cX7_throwsBall 8 (some .int) RX7)    {x4 : Int32} {x5 : Int32} {x6 : Int32} {s1 : Int32} {s2 : Int32} {w : GW} (hK65 : ∀ (x6 : Int32) (w : GW), K65 x6 w → gAtM p l e s m args below meth c D dA ad 5 (va_Qi Q (gZ D dA 20 ad layM) (gA 20 ad)) 8 65 [(0, .ref (ad 0)), (4, .int x4), (5, .int x5), (6, .int x6)] [] w) (hw : PX7_throwsBall_117 K65 Q x4 x5 x6 s1 s2 w) : gAtM p l e s m args below meth c D dA ad 5 (va_Qi Q (gZ D dA 20 ad layM) (gA 20 ad)) 8 117 [(0, .ref (ad 0)), (4, .int x4), (5, .int x5), (6, .int x6)] [.int s2, .int s1, .ref (ad 4)] w := by
  unfold PX7_throwsBall_117 at hw
  refine at_iast C (Nat.le_of_ble_eq_true rfl) rfl hw.1 rfl dX7_throwsBall_117 (fun w_4 ew_4 => ?_)
  have hw := hw.2 w_4 ew_4
  refine at_aload_n C dX7_throwsBall_118 rfl rfl ?_
  refine at_getr (j := 14) (r := 4) C (Nat.le_of_ble_eq_true rfl) rfl rfl in_X7 (Nat.le_of_ble_eq_true rfl) rfl q701 dX7_throwsBall_119 ?_
  refine at_bipush C dX7_throwsBall_122 bp_18 ?_
  refine at_iload C dX7_throwsBall_124 rfl ?_
  refine at_iadd C dX7_throwsBall_126 ?_
  refine at_aload_n C dX7_throwsBall_127 rfl rfl ?_
  refine at_getr (j := 25) (r := 13) C (Nat.le_of_ble_eq_true rfl) rfl rfl in_X7 (Nat.le_of_ble_eq_true rfl) rfl q712 dX7_throwsBall_128 ?_
  refine at_iload C dX7_throwsBall_131 rfl ?_
  refine at_iald C (Nat.le_of_ble_eq_true rfl) rfl hw.1 rfl dX7_throwsBall_133 ?_
  have hw := hw.2
  refine at_bipush C dX7_throwsBall_134 bp_m2 ?_
  refine at_icmp_ne (tgt := 152) C dX7_throwsBall_136 (by decide) (fun c_5 => ?_) (fun c_5 => ?_)
  · have hw := hw.1 c_5
    refine at_aload_n C dX7_throwsBall_152 rfl rfl ?_
    refine at_getr (j := 25) (r := 13) C (Nat.le_of_ble_eq_true rfl) rfl rfl in_X7 (Nat.le_of_ble_eq_true rfl) rfl q712 dX7_throwsBall_153 ?_
    refine at_iload C dX7_throwsBall_156 rfl ?_
    refine at_iald C (Nat.le_of_ble_eq_true rfl) rfl hw.1 rfl dX7_throwsBall_158 ?_
    have hw := hw.2
    exact (tX7_throwsBall_159 C hK65 hw)
  · have hw := hw.2 c_5
    refine at_aload_n C dX7_throwsBall_139 rfl rfl ?_
    refine at_getr (j := 14) (r := 4) C (Nat.le_of_ble_eq_true rfl) rfl rfl in_X7 (Nat.le_of_ble_eq_true rfl) rfl q701 dX7_throwsBall_140 ?_
    refine at_bipush C dX7_throwsBall_143 bp_18 ?_
    refine at_iload C dX7_throwsBall_145 rfl ?_
    refine at_iadd C dX7_throwsBall_147 ?_
    refine at_iald C (Nat.le_of_ble_eq_true rfl) rfl hw.1 rfl dX7_throwsBall_148 ?_
    have hw := hw.2
    refine at_goto (tgt := 159) C dX7_throwsBall_149 (by decide) ?_
    exact (tX7_throwsBall_159 C hK65 hw)
set_option maxHeartbeats 4000000 in
theorem tX7_throwsBall_65     {Q : Int32 → GW → Prop} (C : Cx p s m args meth c D dA cX7_throwsBall 8 (some .int) RX7)    {x4 : Int32} {x5 : Int32}   : ∀ (n : Nat) (x6 : Int32) (w : GW), PX7_throwsBall_65 Q x4 x5 n x6 w → gAtM p l e s m args below meth c D dA ad 5 (va_Qi Q (gZ D dA 20 ad layM) (gA 20 ad)) 8 65 [(0, .ref (ad 0)), (4, .int x4), (5, .int x5), (6, .int x6)] [] w := by
  intro n
  induction n with
  | zero => intro x6 w hw; exact False.elim hw
  | succ n ih =>
    intro x6 w hw
    unfold PX7_throwsBall_65 at hw
    refine at_iload C dX7_throwsBall_65 rfl ?_
    refine at_bipush C dX7_throwsBall_67 bp_9 ?_
    refine at_icmp_ge (tgt := 166) C dX7_throwsBall_69 (by decide) (fun c_6 => ?_) (fun c_6 => ?_)
    · have hw := hw.1 c_6
      refine at_aload_n C dX7_throwsBall_166 rfl rfl ?_
      refine at_getr (j := 14) (r := 4) C (Nat.le_of_ble_eq_true rfl) rfl rfl in_X7 (Nat.le_of_ble_eq_true rfl) rfl q701 dX7_throwsBall_167 ?_
      refine at_bipush C dX7_throwsBall_170 bp_46 ?_
      refine at_dup2 C dX7_throwsBall_172 rfl rfl ?_
      refine at_iald C (Nat.le_of_ble_eq_true rfl) rfl vk_46_49 tk_46 dX7_throwsBall_173 ?_
      refine at_iconst C dX7_throwsBall_174 ic_1 ?_
      refine at_iadd C dX7_throwsBall_175 ?_
      refine at_iast C (Nat.le_of_ble_eq_true rfl) rfl vk_46_49 tk_46 dX7_throwsBall_176 (fun w_7 ew_7 => ?_)
      have hw := hw w_7 ew_7
      refine at_aload_n C dX7_throwsBall_177 rfl rfl ?_
      refine at_getr (j := 14) (r := 4) C (Nat.le_of_ble_eq_true rfl) rfl rfl in_X7 (Nat.le_of_ble_eq_true rfl) rfl q701 dX7_throwsBall_178 ?_
      refine at_bipush C dX7_throwsBall_181 bp_47 ?_
      refine at_dup2 C dX7_throwsBall_183 rfl rfl ?_
      refine at_iald C (Nat.le_of_ble_eq_true rfl) rfl vk_47_49 tk_47 dX7_throwsBall_184 ?_
      refine at_iload C dX7_throwsBall_185 rfl ?_
      refine at_if_eq (tgt := 202) C dX7_throwsBall_187 (by decide) (fun c_8 => ?_) (fun c_8 => ?_)
      · have hw := hw.1 c_8
        exact at_sub (lv_pickm [2] rfl) (tX7_throwsBall_202 C  hw)
      · have hw := hw.2 c_8
        refine at_iload C dX7_throwsBall_190 rfl ?_
        refine at_sipush C dX7_throwsBall_192 sp_511 ?_
        refine at_icmp_ne (tgt := 202) C dX7_throwsBall_195 (by decide) (fun c_9 => ?_) (fun c_9 => ?_)
        · have hw := hw.1 c_9
          exact at_sub (lv_pickm [2] rfl) (tX7_throwsBall_202 C  hw)
        · have hw := hw.2 c_9
          refine at_iconst C dX7_throwsBall_198 ic_1 ?_
          refine at_goto (tgt := 203) C dX7_throwsBall_199 (by decide) ?_
          exact at_sub (lv_pickm [2] rfl) (tX7_throwsBall_203 C  hw)
    · have hw := hw.2 c_6
      refine at_aload_n C dX7_throwsBall_72 rfl rfl ?_
      refine at_getr (j := 14) (r := 4) C (Nat.le_of_ble_eq_true rfl) rfl rfl in_X7 (Nat.le_of_ble_eq_true rfl) rfl q701 dX7_throwsBall_73 ?_
      refine at_bipush C dX7_throwsBall_76 bp_9 ?_
      refine at_iload C dX7_throwsBall_78 rfl ?_
      refine at_iadd C dX7_throwsBall_80 ?_
      refine at_iald C (Nat.le_of_ble_eq_true rfl) rfl hw.1 rfl dX7_throwsBall_81 ?_
      have hw := hw.2
      refine at_aload_n C dX7_throwsBall_82 rfl rfl ?_
      refine at_getr (j := 24) (r := 12) C (Nat.le_of_ble_eq_true rfl) rfl rfl in_X7 (Nat.le_of_ble_eq_true rfl) rfl q711 dX7_throwsBall_83 ?_
      refine at_iload C dX7_throwsBall_86 rfl ?_
      refine at_iald C (Nat.le_of_ble_eq_true rfl) rfl hw.1 rfl dX7_throwsBall_88 ?_
      have hw := hw.2
      refine at_iadd C dX7_throwsBall_89 ?_
      refine at_topi (fun v7_10 e7_10 => ?_)
      have hw := hw v7_10 e7_10
      refine at_istore (L' := [(0, .ref (ad 0)), (4, .int x4), (5, .int x5), (6, .int x6), (7, .int v7_10)]) C dX7_throwsBall_90 (Nat.le_of_ble_eq_true rfl) rfl ?_
      refine at_aload_n C dX7_throwsBall_92 rfl rfl ?_
      refine at_getr (j := 14) (r := 4) C (Nat.le_of_ble_eq_true rfl) rfl rfl in_X7 (Nat.le_of_ble_eq_true rfl) rfl q701 dX7_throwsBall_93 ?_
      refine at_bipush C dX7_throwsBall_96 bp_9 ?_
      refine at_iload C dX7_throwsBall_98 rfl ?_
      refine at_iadd C dX7_throwsBall_100 ?_
      refine at_iload C dX7_throwsBall_101 rfl ?_
      refine at_sipush C dX7_throwsBall_103 sp_9999 ?_
      refine at_icmp_le (tgt := 115) C dX7_throwsBall_106 (by decide) (fun c_11 => ?_) (fun c_11 => ?_)
      · have hw := hw.1 c_11
        refine at_iload C dX7_throwsBall_115 rfl ?_
        exact at_sub (lv_pickm [0, 1, 2, 3] rfl) (tX7_throwsBall_117 C ih hw)
      · have hw := hw.2 c_11
        refine at_sipush C dX7_throwsBall_109 sp_9999 ?_
        refine at_goto (tgt := 117) C dX7_throwsBall_112 (by decide) ?_
        exact at_sub (lv_pickm [0, 1, 2, 3] rfl) (tX7_throwsBall_117 C ih hw)
set_option maxHeartbeats 4000000 in
theorem tX7_throwsBall_33     {Q : Int32 → GW → Prop} (C : Cx p s m args meth c D dA cX7_throwsBall 8 (some .int) RX7)    {x1 : Int32} {x2 : Int32} {x3 : Int32} {s0 : Int32} {w : GW}  (hw : PX7_throwsBall_33 Q x1 x2 x3 s0 w) : gAtM p l e s m args below meth c D dA ad 5 (va_Qi Q (gZ D dA 20 ad layM) (gA 20 ad)) 8 33 [(0, .ref (ad 0)), (1, .int x1), (2, .int x2), (3, .int x3)] [.int s0] w := by
  unfold PX7_throwsBall_33 at hw
  refine at_istore (L' := [(0, .ref (ad 0)), (1, .int x1), (2, .int x2), (3, .int x3), (4, .int s0)]) C dX7_throwsBall_33 (Nat.le_of_ble_eq_true rfl) rfl ?_
  refine at_aload_n C dX7_throwsBall_35 rfl rfl ?_
  refine at_aload_n C dX7_throwsBall_36 rfl rfl ?_
  refine at_getr (j := 14) (r := 4) C (Nat.le_of_ble_eq_true rfl) rfl rfl in_X7 (Nat.le_of_ble_eq_true rfl) rfl q701 dX7_throwsBall_37 ?_
  refine at_bipush C dX7_throwsBall_40 bp_45 ?_
  refine at_iald C (Nat.le_of_ble_eq_true rfl) rfl vk_45_49 tk_45 dX7_throwsBall_42 ?_
  refine at_iload_n C dX7_throwsBall_43 rfl rfl ?_
  refine at_iload_n C dX7_throwsBall_44 rfl rfl ?_
  refine at_iload_n C dX7_throwsBall_45 rfl rfl ?_
  refine at_calli (run_V (rest := []) (As := [.int (w 4 45), .int x1, .int x2, .int x3]) C (metX7_goes l D dA ad  hw) (lw_V q869 q871 qs37 q65 q872) dsX7_goes (gR_ok (Nat.le_of_ble_eq_true rfl) (Nat.le_of_ble_eq_true rfl)) ⟨rfl, rfl⟩ ⟨Nat.le_refl 0, Nat.le_refl 0⟩ (Nat.le_of_ble_eq_true rfl) rfl rfl rfl rfl (Nat.le_of_ble_eq_true rfl) dX7_throwsBall_46) (fun r_12 w_13 hw => ?_)
  refine at_istore (L' := [(0, .ref (ad 0)), (1, .int x1), (2, .int x2), (3, .int x3), (4, .int s0), (5, .int r_12)]) C dX7_throwsBall_49 (Nat.le_of_ble_eq_true rfl) rfl ?_
  refine at_aload_n C dX7_throwsBall_51 rfl rfl ?_
  refine at_getr (j := 14) (r := 4) C (Nat.le_of_ble_eq_true rfl) rfl rfl in_X7 (Nat.le_of_ble_eq_true rfl) rfl q701 dX7_throwsBall_52 ?_
  refine at_bipush C dX7_throwsBall_55 bp_45 ?_
  refine at_aload_n C dX7_throwsBall_57 rfl rfl ?_
  refine at_geti (j := 26) C (Nat.le_of_ble_eq_true rfl) rfl rfl in_X7 (Nat.le_of_ble_eq_true rfl) rfl q713 dX7_throwsBall_58 ?_
  refine at_iast C (Nat.le_of_ble_eq_true rfl) rfl vk_45_49 tk_45 dX7_throwsBall_61 (fun w_14 ew_14 => ?_)
  have hw := hw w_14 ew_14
  refine at_iconst C dX7_throwsBall_62 ic_0 ?_
  refine at_istore (L' := [(0, .ref (ad 0)), (1, .int x1), (2, .int x2), (3, .int x3), (4, .int s0), (5, .int r_12), (6, .int 0)]) C dX7_throwsBall_63 (Nat.le_of_ble_eq_true rfl) rfl ?_
  obtain ⟨n_15, hw⟩ := hw
  exact at_sub (lv_pickm [0, 4, 5, 6] rfl) (tX7_throwsBall_65 C  _ _ _ hw)
set_option maxHeartbeats 4000000 in
theorem tX7_throwsBall_32     {Q : Int32 → GW → Prop} (C : Cx p s m args meth c D dA cX7_throwsBall 8 (some .int) RX7)    {x1 : Int32} {x2 : Int32} {x3 : Int32} {w : GW}  (hw : PX7_throwsBall_32 Q x1 x2 x3 w) : gAtM p l e s m args below meth c D dA ad 5 (va_Qi Q (gZ D dA 20 ad layM) (gA 20 ad)) 8 32 [(0, .ref (ad 0)), (1, .int x1), (2, .int x2), (3, .int x3)] [] w := by
  unfold PX7_throwsBall_32 at hw
  refine at_iconst C dX7_throwsBall_32 ic_0 ?_
  exact (tX7_throwsBall_33 C  hw)
set_option maxHeartbeats 4000000 in
theorem metX7_throwsBall   (l : Launch) (D : va_G) (dA : Nat → ClassId) (ad : Nat → Nat)    {x1 : Int32} {x2 : Int32} {x3 : Int32} {w : GW} {Q : Int32 → GW → Prop} (hw : PX7_throwsBall x1 x2 x3 w Q) : Met l yX7_throwsBall (ws_ yX7_throwsBall cX7_throwsBall 8 (some .int)) (gR 5) (va_Pc [.ref (ad 0), .int x1, .int x2, .int x3] (gB D dA 20 ad layM w)) (va_Qi Q (gZ D dA 20 ad layM) (gA 20 ad)) 0 0 (gA 20 ad) := by
  refine gm_of (L := [(0, .ref (ad 0)), (1, .int x1), (2, .int x2), (3, .int x3)]) (own := RX7) (by decide +kernel) rfl (Nat.le_of_ble_eq_true rfl) rfl rfl (fun p e s m below meth c C => ?_)
  unfold PX7_throwsBall at hw
  refine at_aload_n C dX7_throwsBall_0 rfl rfl ?_
  refine at_iconst C dX7_throwsBall_1 ic_0 ?_
  refine at_iconst C dX7_throwsBall_2 ic_0 ?_
  refine at_callv (run_V (rest := []) (As := [.int 0, .int 0]) C (metX7_sets l D dA ad  hw) (lw_V q854 q856 qs34 q65 q857) dsX7_sets (gR_ok (Nat.le_of_ble_eq_true rfl) (Nat.le_of_ble_eq_true rfl)) ⟨rfl, rfl⟩ ⟨Nat.le_refl 0, Nat.le_refl 0⟩ (Nat.le_of_ble_eq_true rfl) rfl rfl rfl rfl (Nat.le_of_ble_eq_true rfl) dX7_throwsBall_3) (fun  w_17 hw => ?_)
  refine at_aload_n C dX7_throwsBall_6 rfl rfl ?_
  refine at_geti (j := 9) C (Nat.le_of_ble_eq_true rfl) rfl rfl in_X7 (Nat.le_of_ble_eq_true rfl) rfl q696 dX7_throwsBall_7 ?_
  refine at_bipush C dX7_throwsBall_10 bp_9 ?_
  refine at_icmp_ne (tgt := 32) C dX7_throwsBall_12 (by decide) (fun c_18 => ?_) (fun c_18 => ?_)
  · have hw := hw.1 c_18
    exact (tX7_throwsBall_32 C  hw)
  · have hw := hw.2 c_18
    refine at_aload_n C dX7_throwsBall_15 rfl rfl ?_
    refine at_getr (j := 14) (r := 4) C (Nat.le_of_ble_eq_true rfl) rfl rfl in_X7 (Nat.le_of_ble_eq_true rfl) rfl q701 dX7_throwsBall_16 ?_
    refine at_bipush C dX7_throwsBall_19 bp_45 ?_
    refine at_iald C (Nat.le_of_ble_eq_true rfl) rfl vk_45_49 tk_45 dX7_throwsBall_21 ?_
    refine at_sipush C dX7_throwsBall_22 sp_511 ?_
    refine at_icmp_ne (tgt := 32) C dX7_throwsBall_25 (by decide) (fun c_19 => ?_) (fun c_19 => ?_)
    · have hw := hw.1 c_19
      exact (tX7_throwsBall_32 C  hw)
    · have hw := hw.2 c_19
      refine at_iconst C dX7_throwsBall_28 ic_1 ?_
      refine at_goto (tgt := 33) C dX7_throwsBall_29 (by decide) ?_
      exact (tX7_throwsBall_33 C  hw)
set_option maxHeartbeats 4000000 in
theorem metX7_ball   (l : Launch) (D : va_G) (dA : Nat → ClassId) (ad : Nat → Nat)    {x1 : Int32} {x2 : Int32} {x3 : Int32} {w : GW} {Q : Int32 → GW → Prop} (hw : PX7_ball x1 x2 x3 w Q) : Met l yX7_ball (ws_ yX7_ball cX7_ball 4 (some .int)) (gR 6) (va_Pc [.ref (ad 0), .int x1, .int x2, .int x3] (gB D dA 20 ad layM w)) (va_Qi Q (gZ D dA 20 ad layM) (gA 20 ad)) 0 0 (gA 20 ad) := by
  refine gm_of (L := [(0, .ref (ad 0)), (1, .int x1), (2, .int x2), (3, .int x3)]) (own := RX7) (by decide +kernel) rfl (Nat.le_of_ble_eq_true rfl) rfl rfl (fun p e s m below meth c C => ?_)
  unfold PX7_ball at hw
  refine at_aload_n C dX7_ball_0 rfl rfl ?_
  refine at_iconst C dX7_ball_1 ic_0 ?_
  refine at_puti (j := 0) C (Nat.le_of_ble_eq_true rfl) rfl rfl in_X7 (Nat.le_of_ble_eq_true rfl) rfl q687 tyX7 tyX7_ok nmX7 rfl rfl rfl dX7_ball_2 (fun w_1 ew_1 => ?_)
  have hw := hw w_1 ew_1
  refine at_aload_n C dX7_ball_5 rfl rfl ?_
  refine at_iload_n C dX7_ball_6 rfl rfl ?_
  refine at_iload_n C dX7_ball_7 rfl rfl ?_
  refine at_iload_n C dX7_ball_8 rfl rfl ?_
  refine at_callp (run_V (rest := []) (As := [.int x1, .int x2, .int x3]) C (metX7_isBall l D dA ad  hw) (lw_V q948 q950 qs49 q65 q951) dsX7_isBall (gR_ok (Nat.le_of_ble_eq_true rfl) (Nat.le_of_ble_eq_true rfl)) ⟨rfl, rfl⟩ ⟨Nat.le_refl 0, Nat.le_refl 0⟩ (Nat.le_of_ble_eq_true rfl) rfl rfl rfl rfl (Nat.le_of_ble_eq_true rfl) dX7_ball_9) (fun r_2  hw => ?_)
  refine at_if_ne (tgt := 18) C dX7_ball_12 (by decide) (fun c_3 => ?_) (fun c_3 => ?_)
  · have hw := hw.1 c_3
    refine at_aload_n C dX7_ball_18 rfl rfl ?_
    refine at_geti (j := 7) C (Nat.le_of_ble_eq_true rfl) rfl rfl in_X7 (Nat.le_of_ble_eq_true rfl) rfl q694 dX7_ball_19 ?_
    refine at_if_ne (tgt := 28) C dX7_ball_22 (by decide) (fun c_4 => ?_) (fun c_4 => ?_)
    · have hw := hw.1 c_4
      refine at_aload_n C dX7_ball_28 rfl rfl ?_
      refine at_callv (run_V (rest := []) (As := []) C (metX7_notes l D dA ad  hw) (lw_V q953 q955 qs50 q65 q956) dsX7_notes (gR_ok (Nat.le_of_ble_eq_true rfl) (Nat.le_of_ble_eq_true rfl)) ⟨rfl, rfl⟩ ⟨Nat.le_refl 0, Nat.le_refl 0⟩ (Nat.le_of_ble_eq_true rfl) rfl rfl rfl rfl (Nat.le_of_ble_eq_true rfl) dX7_ball_29) (fun  w_6 hw => ?_)
      refine at_aload_n C dX7_ball_32 rfl rfl ?_
      refine at_iload_n C dX7_ball_33 rfl rfl ?_
      refine at_iload_n C dX7_ball_34 rfl rfl ?_
      refine at_iload_n C dX7_ball_35 rfl rfl ?_
      refine at_calli (run_V (rest := []) (As := [.int x1, .int x2, .int x3]) C (metX7_throwsBall l D dA ad  hw) (lw_V q957 q959 qs51 q65 q960) dsX7_throwsBall (gR_ok (Nat.le_of_ble_eq_true rfl) (Nat.le_of_ble_eq_true rfl)) ⟨rfl, rfl⟩ ⟨Nat.le_refl 0, Nat.le_refl 0⟩ (Nat.le_of_ble_eq_true rfl) rfl rfl rfl rfl (Nat.le_of_ble_eq_true rfl) dX7_ball_36) (fun r_7 w_8 hw => ?_)
      exact at_iret C rfl hw dX7_ball_39
    · have hw := hw.2 c_4
      refine at_ldc C q952 dX7_ball_25 ?_
      exact at_iret C rfl hw dX7_ball_27
  · have hw := hw.2 c_3
    refine at_ldc C q800 dX7_ball_15 ?_
    exact at_iret C rfl hw dX7_ball_17
end GWalk
