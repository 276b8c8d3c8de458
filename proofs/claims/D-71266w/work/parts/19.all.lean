/-! Reader.all -/
set_option maxRecDepth 100000
def gQr (D : va_G) (dA : Nat → ClassId) (ad : Nat → Nat) (Q : GW → Prop) (A : Nat → Prop) : Array Value → State → Outcome → State → Prop := va_Qr Q (fun w a t => a = ad 138 ∧ gZ D dA 142 ad layF w t) A
section GWalk
variable {p : Program} {l : Launch} {e : Env} {s : State} {m : MethodId} {args : Array Value} {below : List Frame} {meth : Method} {c : Code} {D : va_G} {dA : Nat → ClassId} {ad : Nat → Nat}
theorem at_aretX {R : Room} {A : Nat → Prop} {cc : ByteArray} {nL kc ks pc mc ms : Nat} {own Cn : String} {L : List (Nat × Value)} {XC : String → Addr → State → State → Prop} {w : GW} (C : Cx p s m args meth c D dA cc nL (some (.object Cn)) own) {Q : GW → Prop} (hq : Q w) (h1 : kc ≤ mc) (h2 : ks ≤ ms) (hd : decode cc pc = .ok (.areturn, 1)) : gAt p l e R s m args below meth c D A (vx_MQ below (gQr D dA ad Q A) XC args s mc ms A) nL kc ks pc L [.ref (ad 138)] (gW dA 142 ad layF w) :=
  at_wid h1 h2 (fun H locs ls hP hD hS hl => vx_ret (W.aret C.1 C.2.1 C.2.2.2.1 (Or.inl ⟨Cn, rfl⟩) (Or.inr ⟨_, rfl⟩) (fun t ht _ => ⟨⟨w, ad 138, rfl, hq, rfl, (by show va_P _ _ _ t.heap; rw [ht]; exact hP)⟩, hS.F ht⟩) hS.2.2 hd (hlocks := C.2.2.2.2.1)))

def PX8_all_48 (K0 : GW → Prop) (Q : GW → Prop) (X : Int32 → Int32 → GW → Prop)  (s0 : Int32) (w : GW) : Prop :=
    (PX8_want s0 1 (w 137 3) w (fun w_2 =>
      (∀ w_3 : GW, w_3 = gS w_2 137 3 ((w_2 137 3) + 1) →
       (K0 w_3))) X)
def PX8_all_0 (Q : GW → Prop) (X : Int32 → Int32 → GW → Prop) : Nat → GW → Prop
  | 0, _ => False
  | n + 1, w =>
    (PX8_here w (fun r_4 w_5 =>
      ((r_4 = (-1) →
        (Q w_5)) ∧
       (¬ r_4 = (-1) →
        (PX8_here w_5 (fun r_7 w_8 =>
          (∀ v2_9 : Int32, v2_9 = (w_8 137 3) →
           (∀ w_10 : GW, w_10 = gS w_8 137 3 ((w_8 137 3) + 1) →
            (PX8_clause r_7 v2_9 w_10 (fun w_12 =>
              (PX8_here w_12 (fun r_13 w_14 =>
                ((¬ r_13 = 59 →
                  (PX8_all_48 (PX8_all_0 Q X n) Q X 0 w_14)) ∧
                 (r_13 = 59 →
                  (PX8_all_48 (PX8_all_0 Q X n) Q X 1 w_14)))))) X)))))))))
def PX8_all (w : GW) (Q : GW → Prop) (X : Int32 → Int32 → GW → Prop) : Prop := ∃ n : Nat, n ≤ 128 ∧ PX8_all_0 Q X n w
set_option maxHeartbeats 4000000 in
theorem tX8_all_48 {sz kb : Nat} {X : Int32 → Int32 → GW → Prop} {K0 Q : GW → Prop} (C : Cx p s m args meth c D dA cX8_all 3 (some (.object "SkittleGentry$County")) RX8) (Z : Cz ad sz s c) (hkb : kb + 9 ≤ 1152)  {s0 : Int32} {w : GW} (hK0 : ∀ w : GW, K0 w → gAtR p l e s m args below meth c D dA ad 10 1152 9216 (gQr D dA ad Q (gXA ad sz)) X sz 3 (kb + 9) (8 * kb + 72) 0 [(0, .ref (ad 137))] [] w) (hw : PX8_all_48 K0 Q X  s0 w) : gAtR p l e s m args below meth c D dA ad 10 1152 9216 (gQr D dA ad Q (gXA ad sz)) X sz 3 (kb + 8) (8 * kb + 64) 48 [(0, .ref (ad 137))] [.int s0] w := by
  unfold PX8_all_48 at hw
  refine at_iconst C dX8_all_48 ic_1 ?_
  refine at_aload_n C dX8_all_49 rfl rfl ?_
  refine at_geti (j := 3) C (Nat.le_of_ble_eq_true rfl) rfl rfl in_X8 (Nat.le_of_ble_eq_true rfl) rfl q287 dX8_all_50 ?_
  refine at_callxv C Z (run_SX (rest := []) (As := [.int s0, .int 1, .int (w 137 3)]) C Z (metX8_want l D dA ad sz hw) (lw_S q309 q310 q66 q311) dsX8_want ⟨(Nat.le_of_ble_eq_true rfl), (Nat.le_of_ble_eq_true rfl)⟩ ⟨rfl, rfl⟩ ⟨(by show _ ≤ 1152; omega), (by show _ ≤ 9216; omega)⟩ rfl rfl (Nat.le_of_ble_eq_true rfl) dX8_all_53) (by omega) (by omega) (fun w_2 hw => ?_)
  refine at_aload_n C dX8_all_56 rfl rfl ?_
  refine at_dup C dX8_all_57 rfl ?_
  refine at_geti (j := 3) C (Nat.le_of_ble_eq_true rfl) rfl rfl in_X8 (Nat.le_of_ble_eq_true rfl) rfl q287 dX8_all_58 ?_
  refine at_iconst C dX8_all_61 ic_1 ?_
  refine at_iadd C dX8_all_62 ?_
  refine at_puti (j := 3) C (Nat.le_of_ble_eq_true rfl) rfl rfl in_X8 (Nat.le_of_ble_eq_true rfl) rfl q287 tyX8 tyX8_ok nmX8 rfl rfl rfl dX8_all_63 (fun w_3 ew_3 => ?_)
  have hw := hw w_3 ew_3
  refine at_goto (tgt := 0) C dX8_all_66 (by decide) ?_
  refine at_wid (k := (kb + 9)) (n := (8 * kb + 72)) (by omega) (by omega) ?_
  exact hK0 _ hw
set_option maxHeartbeats 4000000 in
theorem tX8_all_0 {sz : Nat} {X : Int32 → Int32 → GW → Prop} {Q : GW → Prop} (C : Cx p s m args meth c D dA cX8_all 3 (some (.object "SkittleGentry$County")) RX8) (Z : Cz ad sz s c) : ∀ (n : Nat) (w : GW), n ≤ 128 → PX8_all_0 Q X n w → gAtR p l e s m args below meth c D dA ad 10 1152 9216 (gQr D dA ad Q (gXA ad sz)) X sz 3 (9 * (128 - n)) (8 * (9 * (128 - n))) 0 [(0, .ref (ad 137))] [] w := by
  intro n
  induction n with
  | zero => intro w _ hw; exact False.elim hw
  | succ n ih =>
    intro w hn hw
    unfold PX8_all_0 at hw
    obtain ⟨kb, ekb⟩ : ∃ k, k = 9 * (128 - (n + 1)) := ⟨_, rfl⟩
    have hkb : kb + 9 ≤ 1152 := by omega
    have ih0 : ∀ w : GW, PX8_all_0 Q X n w → gAtR p l e s m args below meth c D dA ad 10 1152 9216 (gQr D dA ad Q (gXA ad sz)) X sz 3 (kb + 9) (8 * kb + 72) 0 [(0, .ref (ad 137))] [] w := fun w h => by
      have h1 := ih w (by omega) h
      rw [show 9 * (128 - n) = kb + 9 by omega, show 8 * (kb + 9) = 8 * kb + 72 by omega] at h1
      exact h1
    rw [← ekb]
    refine at_aload_n C dX8_all_0 rfl rfl ?_
    refine at_calli (run_V (rest := []) (As := []) C (metX8_here l D dA ad  hw) (lw_V q301 q303 qs0 q66 q304) dsX8_here ⟨(Nat.le_of_ble_eq_true rfl), (Nat.le_of_ble_eq_true rfl)⟩ ⟨rfl, rfl⟩ ⟨(by show _ ≤ 1152; omega), (by show _ ≤ 9216; omega)⟩ (Nat.le_of_ble_eq_true rfl) rfl rfl rfl rfl (Nat.le_of_ble_eq_true rfl) dX8_all_1) (fun r_4 w_5 hw => ?_)
    refine at_iconst C dX8_all_4 ic_m1 ?_
    refine at_icmp_eq (tgt := 69) C dX8_all_5 (by decide) (fun c_6 => ?_) (fun c_6 => ?_)
    · have hw := hw.1 c_6
      refine at_aload_n C dX8_all_69 rfl rfl ?_
      refine at_getr (j := 2) (r := 138) C (Nat.le_of_ble_eq_true rfl) rfl rfl in_X8 (Nat.le_of_ble_eq_true rfl) rfl q286 dX8_all_70 ?_
      exact at_aretX C hw (by omega) (by omega) dX8_all_73
    · have hw := hw.2 c_6
      refine at_aload_n C dX8_all_8 rfl rfl ?_
      refine at_calli (run_V (rest := []) (As := []) C (metX8_here l D dA ad  hw) (lw_V q301 q303 qs0 q66 q304) dsX8_here ⟨(Nat.le_of_ble_eq_true rfl), (Nat.le_of_ble_eq_true rfl)⟩ ⟨rfl, rfl⟩ ⟨(by show _ ≤ 1152; omega), (by show _ ≤ 9216; omega)⟩ (Nat.le_of_ble_eq_true rfl) rfl rfl rfl rfl (Nat.le_of_ble_eq_true rfl) dX8_all_9) (fun r_7 w_8 hw => ?_)
      refine at_istore_n (L' := [(0, .ref (ad 137)), (1, .int r_7)]) C dX8_all_12 rfl (Nat.le_of_ble_eq_true rfl) rfl ?_
      refine at_aload_n C dX8_all_13 rfl rfl ?_
      refine at_geti (j := 3) C (Nat.le_of_ble_eq_true rfl) rfl rfl in_X8 (Nat.le_of_ble_eq_true rfl) rfl q287 dX8_all_14 ?_
      refine at_topi (fun v2_9 e2_9 => ?_)
      have hw := hw v2_9 e2_9
      refine at_istore_n (L' := [(0, .ref (ad 137)), (1, .int r_7), (2, .int v2_9)]) C dX8_all_17 rfl (Nat.le_of_ble_eq_true rfl) rfl ?_
      refine at_aload_n C dX8_all_18 rfl rfl ?_
      refine at_dup C dX8_all_19 rfl ?_
      refine at_geti (j := 3) C (Nat.le_of_ble_eq_true rfl) rfl rfl in_X8 (Nat.le_of_ble_eq_true rfl) rfl q287 dX8_all_20 ?_
      refine at_iconst C dX8_all_23 ic_1 ?_
      refine at_iadd C dX8_all_24 ?_
      refine at_puti (j := 3) C (Nat.le_of_ble_eq_true rfl) rfl rfl in_X8 (Nat.le_of_ble_eq_true rfl) rfl q287 tyX8 tyX8_ok nmX8 rfl rfl rfl dX8_all_25 (fun w_10 ew_10 => ?_)
      have hw := hw w_10 ew_10
      refine at_aload_n C dX8_all_28 rfl rfl ?_
      refine at_iload_n C dX8_all_29 rfl rfl ?_
      refine at_iload_n C dX8_all_30 rfl rfl ?_
      refine at_callxv C Z (run_VX (rest := []) (As := [.int r_7, .int v2_9]) C Z (metX8_clause l D dA ad sz hw) (lw_V q305 q307 qs1 q66 q308) dsX8_clause ⟨(Nat.le_of_ble_eq_true rfl), (Nat.le_of_ble_eq_true rfl)⟩ ⟨rfl, rfl⟩ ⟨(by show _ ≤ 1152; omega), (by show _ ≤ 9216; omega)⟩ (Nat.le_of_ble_eq_true rfl) rfl rfl rfl rfl (Nat.le_of_ble_eq_true rfl) dX8_all_31) (by omega) (by omega) (fun w_12 hw => ?_)
      refine at_aload_n C dX8_all_34 rfl rfl ?_
      refine at_calli (run_V (rest := []) (As := []) C (metX8_here l D dA ad  hw) (lw_V q301 q303 qs0 q66 q304) dsX8_here ⟨(Nat.le_of_ble_eq_true rfl), (Nat.le_of_ble_eq_true rfl)⟩ ⟨rfl, rfl⟩ ⟨(by show _ ≤ 1152; omega), (by show _ ≤ 9216; omega)⟩ (Nat.le_of_ble_eq_true rfl) rfl rfl rfl rfl (Nat.le_of_ble_eq_true rfl) dX8_all_35) (fun r_13 w_14 hw => ?_)
      refine at_bipush C dX8_all_38 bp_59 ?_
      refine at_icmp_ne (tgt := 47) C dX8_all_40 (by decide) (fun c_15 => ?_) (fun c_15 => ?_)
      · have hw := hw.1 c_15
        refine at_iconst C dX8_all_47 ic_0 ?_
        refine at_wid (k := (kb + 8)) (n := (8 * kb + 64)) (by omega) (by omega) ?_
        exact at_sub (lv_pickm [0] rfl) (tX8_all_48 C Z hkb ih0 hw)
      · have hw := hw.2 c_15
        refine at_iconst C dX8_all_43 ic_1 ?_
        refine at_goto (tgt := 48) C dX8_all_44 (by decide) ?_
        refine at_wid (k := (kb + 8)) (n := (8 * kb + 64)) (by omega) (by omega) ?_
        exact at_sub (lv_pickm [0] rfl) (tX8_all_48 C Z hkb ih0 hw)
theorem metX8_all (l : Launch) (D : va_G) (dA : Nat → ClassId) (ad : Nat → Nat) (sz : Nat) {w : GW} {Q : GW → Prop} {X : Int32 → Int32 → GW → Prop} (hw : PX8_all w Q X) : vx_Met l yX8_all (ws_ yX8_all cX8_all 3 (some (.object "SkittleGentry$County"))) (gRc 10 1152 9216) (va_Pc [.ref (ad 137)] (gBx D dA ad sz w)) (gQr D dA ad Q (gXA ad sz)) (gXC D dA ad sz X) 1152 9216 (gXA ad sz) := by
  refine gm_ofX (L := [(0, .ref (ad 137))]) (own := RX8) (by decide +kernel) rfl (Nat.le_of_ble_eq_true rfl) rfl (fun p e s m below meth c C Z => ?_)
  obtain ⟨n, hn, hw⟩ := hw
  exact at_wid (Nat.zero_le _) (Nat.zero_le _) (tX8_all_0 C Z n w hn hw)
end GWalk
