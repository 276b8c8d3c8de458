/-! the system's methods as predicates -/
set_option maxRecDepth 100000
def PJ4_bitCount   (x0 : Int32)  (Q : Int32 → Prop) : Prop :=
    (∀ v0_1 : Int32, v0_1 = (x0 - ((((x0).toUInt32 >>> ((1).toUInt32 &&& Int32.toUInt32 31)).toInt32) &&& 1431655765)) →
     (∀ v0_2 : Int32, v0_2 = ((v0_1 &&& 858993459) + ((((v0_1).toUInt32 >>> ((2).toUInt32 &&& Int32.toUInt32 31)).toInt32) &&& 858993459)) →
      (∀ v0_3 : Int32, v0_3 = ((v0_2 + (((v0_2).toUInt32 >>> ((4).toUInt32 &&& Int32.toUInt32 31)).toInt32)) &&& 252645135) →
       (∀ v0_4 : Int32, v0_4 = (v0_3 + (((v0_3).toUInt32 >>> ((8).toUInt32 &&& Int32.toUInt32 31)).toInt32)) →
        (∀ v0_5 : Int32, v0_5 = (v0_4 + (((v0_4).toUInt32 >>> ((16).toUInt32 &&& Int32.toUInt32 31)).toInt32)) →
         (Q (v0_5 &&& 63)))))))
def PJ0_fill_5 (ka : Nat) (na : Nat) (Q : GW → Prop) (x1 : Int32) (x3 : Int32)  : Nat → Int32 → GW → Prop
  | 0, _, _ => False
  | n + 1, x2, w =>
    ((x3 ≤ x2 →
      (Q w)) ∧
     (¬ x3 ≤ x2 →
      (vp_in x2 na ∧
       (∀ w_2 : GW, w_2 = gS w ka (x2).toNatClampNeg x1 →
        (∀ v2_3 : Int32, v2_3 = x2 + 1 →
         ((PJ0_fill_5 ka na Q x1 x3 n) v2_3 w_2))))))
def PJ0_fill  (ka : Nat) (na : Nat) (x1 : Int32) (w : GW) (Q : GW → Prop) : Prop :=
    (∀ v3_4 : Int32, v3_4 = (nI na) →
     (∃ n_5 : Nat, PJ0_fill_5 ka na Q x1 v3_4 n_5 0 w))
def PX3_bears  (b : Nat) (x1 : Int32) (x2 : Int32) (x3 : Int32)  (Q : Int32 → Prop) : Prop :=
    (Q (x1 - x2))
def PX4_bears  (b : Nat) (x1 : Int32) (x2 : Int32) (x3 : Int32)  (Q : Int32 → Prop) : Prop :=
    (PX3_bears b x1 (x2 / 2) x3 (fun r_1 =>
      (Q r_1)))
def PX5_bears  (b : Nat) (x1 : Int32) (x2 : Int32) (x3 : Int32)  (Q : Int32 → Prop) : Prop :=
    (PX3_bears b x1 x2 x3 (fun r_1 =>
      ((¬ x3 = 0 →
        (Q (r_1 + 0))) ∧
       (x3 = 0 →
        (Q (r_1 + 2))))))
def PX6_bears  (b : Nat) (x1 : Int32) (x2 : Int32) (x3 : Int32)  (Q : Int32 → Prop) : Prop :=
    (PX3_bears b x1 0 x3 (fun r_1 =>
      (Q (r_1 / 2))))
/-- kinds[i].bears -/
def PK_bears (i x1 x2 x3 : Int32) (Q : Int32 → Prop) : Prop := (i = 0 → PX3_bears 25 x1 x2 x3 Q) ∧ (i = 1 → PX4_bears 26 x1 x2 x3 Q) ∧ (i = 2 → PX5_bears 27 x1 x2 x3 Q) ∧ (i = 3 → PX6_bears 28 x1 x2 x3 Q)
def PX2_begin_74 (b : Nat) (K44 : Int32 → GW → Prop) (Q : GW → Prop) (x1 : Int32) (s1 : Int32) (s2 : Int32) (w : GW) : Prop :=
    (vp_in s1 9 ∧
     (∀ w_1 : GW, w_1 = gS w (b + 3) (s1).toNatClampNeg s2 →
      (∀ v1_2 : Int32, v1_2 = x1 + 1 →
       (K44 v1_2 w_1))))
def PX2_begin_44 (b : Nat) (Q : GW → Prop)   : Nat → Int32 → GW → Prop
  | 0, _, _ => False
  | n + 1, x1, w =>
    ((9 ≤ x1 →
      (PJ0_fill (b + 4) 9 0 w (fun w_5 =>
        (PJ0_fill (b + 5) 9 (-1) w_5 (fun w_7 =>
          (∀ w_8 : GW, w_8 = gS w_7 b 5 ((1 <<< ((w_7 2 4) &&& 31)) - 1) →
           (∀ w_9 : GW, w_9 = gS w_8 b 6 0 →
            (∀ w_10 : GW, w_10 = gS w_9 b 7 0 →
             (Q w_10))))))))) ∧
     (¬ 9 ≤ x1 →
      (((w 2 4) ≤ x1 →
        (PX2_begin_74 b (PX2_begin_44 b Q n) Q x1 x1 (-1) w)) ∧
       (¬ (w 2 4) ≤ x1 →
        (PX2_begin_74 b (PX2_begin_44 b Q n) Q x1 x1 x1 w)))))
def PX2_begin  (b : Nat)  (w : GW) (Q : GW → Prop) : Prop :=
    (∀ w_12 : GW, w_12 = gC w (b + 1) (va_cpy (w 3) (w (b + 1)) 0 0 9) →
     (∀ w_13 : GW, w_13 = gC w_12 (b + 2) (va_cpy (w_12 5) (w_12 (b + 2)) 0 0 9) →
      (∃ n_14 : Nat, PX2_begin_44 b Q n_14 0 w_13)))
def PX2_set  (b : Nat) (b2 : Nat)  (w : GW) (Q : GW → Prop) : Prop :=
    (∀ w_1 : GW, w_1 = gC w (b + 1) (va_cpy (w (b2 + 1)) (w (b + 1)) 0 0 9) →
     (∀ w_2 : GW, w_2 = gC w_1 (b + 2) (va_cpy (w_1 (b2 + 2)) (w_1 (b + 2)) 0 0 9) →
      (∀ w_3 : GW, w_3 = gC w_2 (b + 3) (va_cpy (w_2 (b2 + 3)) (w_2 (b + 3)) 0 0 9) →
       (∀ w_4 : GW, w_4 = gC w_3 (b + 4) (va_cpy (w_3 (b2 + 4)) (w_3 (b + 4)) 0 0 9) →
        (∀ w_5 : GW, w_5 = gC w_4 (b + 5) (va_cpy (w_4 (b2 + 5)) (w_4 (b + 5)) 0 0 9) →
         (∀ w_6 : GW, w_6 = gS w_5 b 5 (w_5 b2 5) →
          (∀ w_7 : GW, w_7 = gS w_6 b 6 (w_6 b2 6) →
           (∀ w_8 : GW, w_8 = gS w_7 b 7 (w_7 b2 7) →
            (∀ w_9 : GW, w_9 = gS w_8 b 8 (w_8 b2 8) →
             (Q w_9))))))))))
def PX0_rowOf   (x0 : Int32)  (Q : Int32 → Prop) : Prop :=
    ((¬ x0 = 0 →
      ((3 ≤ x0 →
        ((6 ≤ x0 →
          ((8 ≤ x0 →
            (Q 4)) ∧
           (¬ 8 ≤ x0 →
            (Q 3)))) ∧
         (¬ 6 ≤ x0 →
          (Q 2)))) ∧
       (¬ 3 ≤ x0 →
        (Q 1)))) ∧
     (x0 = 0 →
      (Q 0)))
def PX0_columnOf   (x0 : Int32)  (Q : Int32 → Prop) : Prop :=
    ((x0 = 1 →
      (Q 1)) ∧
     (¬ x0 = 1 →
      ((x0 = 2 →
        (Q 3)) ∧
       (¬ x0 = 2 →
        ((x0 = 3 →
          (Q 0)) ∧
         (¬ x0 = 3 →
          ((x0 = 5 →
            (Q 4)) ∧
           (¬ x0 = 5 →
            ((x0 = 6 →
              (Q 1)) ∧
             (¬ x0 = 6 →
              ((x0 = 7 →
                (Q 3)) ∧
               (¬ x0 = 7 →
                (Q 2)))))))))))))
def PX0_plateAt_2 (Q : Int32 → Prop) (x0 : Int32) (x1 : Int32)  : Nat → Int32 → Prop
  | 0, _ => False
  | n + 1, x2 =>
    ((9 ≤ x2 →
      (Q (-1))) ∧
     (¬ 9 ≤ x2 →
      (PX0_rowOf x2 (fun r_2 =>
        ((¬ r_2 = x0 →
          (∀ v2_4 : Int32, v2_4 = x2 + 1 →
           ((PX0_plateAt_2 Q x0 x1 n) v2_4))) ∧
         (r_2 = x0 →
          (PX0_columnOf x2 (fun r_5 =>
            ((¬ r_5 = x1 →
              (∀ v2_7 : Int32, v2_7 = x2 + 1 →
               ((PX0_plateAt_2 Q x0 x1 n) v2_7))) ∧
             (r_5 = x1 →
              (Q x2)))))))))))
def PX0_plateAt   (x0 : Int32) (x1 : Int32)  (Q : Int32 → Prop) : Prop :=
    (∃ n_8 : Nat, PX0_plateAt_2 Q x0 x1 n_8 0)
def PX2_onPlate_33 (b : Nat) (K4 : Int32 → Int32 → Prop) (Q : Int32 → Prop) (x1 : Int32) (x3 : Int32) (s0 : Int32) (w : GW) : Prop :=
    (∀ v3_1 : Int32, v3_1 = x3 + 1 →
     (K4 s0 v3_1))
def PX2_onPlate_4 (b : Nat) (Q : Int32 → Prop) (x1 : Int32) (w : GW) : Nat → Int32 → Int32 → Prop
  | 0, _, _ => False
  | n + 1, x2, x3 =>
    (((w 2 4) ≤ x3 →
      (Q x2)) ∧
     (¬ (w 2 4) ≤ x3 →
      (vp_in x3 9 ∧
       ((¬ (w (b + 3) (x3).toNatClampNeg) = x1 →
         (PX2_onPlate_33 b (PX2_onPlate_4 b Q x1 w n) Q x1 x3 x2 w)) ∧
        ((w (b + 3) (x3).toNatClampNeg) = x1 →
         (PX2_onPlate_33 b (PX2_onPlate_4 b Q x1 w n) Q x1 x3 x3 w))))))
def PX2_onPlate  (b : Nat) (x1 : Int32) (w : GW) (Q : Int32 → Prop) : Prop :=
    (∃ n_4 : Nat, PX2_onPlate_4 b Q x1 w n_4 (-1) 0)
def PX0_has   (x0 : Int32) (x1 : Int32)  (Q : Int32 → Prop) : Prop :=
    ((¬ ((x0 >>> (x1 &&& 31)) &&& 1) = 1 →
      (Q 0)) ∧
     (((x0 >>> (x1 &&& 31)) &&& 1) = 1 →
      (Q 1)))
def PX2_standingAt_20 (b : Nat) (Q : Int32 → Prop) (s0 : Int32) (w : GW) : Prop :=
    ((s0 = (-1) →
      (Q (-1))) ∧
     (¬ s0 = (-1) →
      (PX0_has (w b 5) s0 (fun r_2 =>
        ((r_2 = 0 →
          (Q (-1))) ∧
         (¬ r_2 = 0 →
          (Q s0)))))))
def PX2_standingAt  (b : Nat) (x1 : Int32) (x2 : Int32) (w : GW) (Q : Int32 → Prop) : Prop :=
    (PX0_plateAt x1 x2 (fun r_4 =>
      ((¬ r_4 = (-1) →
        (PX2_onPlate b r_4 w (fun r_6 =>
          (PX2_standingAt_20 b Q r_6 w)))) ∧
       (r_4 = (-1) →
        (PX2_standingAt_20 b Q (-1) w)))))
def PX2_bears  (b : Nat) (x1 : Int32) (w : GW) (Q : Int32 → Prop) : Prop :=
    (vp_in x1 9 ∧
     (vp_in (w (b + 1) (x1).toNatClampNeg) 4 ∧
      (vp_in x1 9 ∧
       (vp_in x1 9 ∧
        (vp_in x1 9 ∧
         (PX0_rowOf (w (b + 3) (x1).toNatClampNeg) (fun r_2 =>
           (PK_bears (w (b + 1) (x1).toNatClampNeg) (w 4 (x1).toNatClampNeg) (w (b + 2) (x1).toNatClampNeg) r_2 (fun r_3 =>
             (Q (gMax 1 r_3)))))))))))
def PX2_strike (Rec : Nat → Int32 → Int32 → Int32 → GW → (Int32 → GW → Prop) → Prop) (b : Nat) (x1 : Int32) (x2 : Int32) (x3 : Int32) (w : GW) (Q : GW → Prop) : Prop :=
    (vp_in x1 9 ∧
     (PX0_rowOf (w (b + 3) (x1).toNatClampNeg) (fun r_1 =>
       (vp_in x1 9 ∧
        (PX0_columnOf (w (b + 3) (x1).toNatClampNeg) (fun r_2 =>
          (PX2_standingAt b (r_1 + 1) (r_2 + x3) w (fun r_3 =>
            ((r_3 = (-1) →
              (Q w)) ∧
             (¬ r_3 = (-1) →
              ((x2 ≤ 0 →
                (Q w)) ∧
               (¬ x2 ≤ 0 →
                (Rec b r_3 x2 x1 w (fun r_6 w_7 =>
                  (Q w_7)))))))))))))))
def PX2_hit_14 (b : Nat) (Rec : Nat → Int32 → Int32 → Int32 → GW → (Int32 → GW → Prop) → Prop) (Q : Int32 → GW → Prop) (x1 : Int32) (x2 : Int32) (x3 : Int32) (s0 : Int32) (w : GW) : Prop :=
    ((s0 = 0 →
      (vp_in x1 9 ∧
       (vp_in x1 9 ∧
        (∀ w_2 : GW, w_2 = gS w (b + 4) (x1).toNatClampNeg (gMin 9999 ((w (b + 4) (x1).toNatClampNeg) + 1)) →
         (∀ w_3 : GW, w_3 = gS w_2 b 10 ((w_2 b 10) + 1) →
          (gBool s0 ∧ (Q s0 w_3))))))) ∧
     (¬ s0 = 0 →
      (∀ w_4 : GW, w_4 = gS w b 5 ((w b 5) &&& ((1 <<< (x1 &&& 31)) ^^^ (-1))) →
       (vp_in x1 9 ∧
        (∀ w_5 : GW, w_5 = gS w_4 (b + 5) (x1).toNatClampNeg x3 →
         (PX2_strike Rec b x1 (x2 / 2) (-1) w_5 (fun w_7 =>
           (PX2_strike Rec b x1 (x2 / 2) 1 w_7 (fun w_9 =>
             (gBool s0 ∧ (Q s0 w_9)))))))))))
def PX2_hit_body (Rec : Nat → Int32 → Int32 → Int32 → GW → (Int32 → GW → Prop) → Prop) (b : Nat) (x1 : Int32) (x2 : Int32) (x3 : Int32) (w : GW) (Q : Int32 → GW → Prop) : Prop :=
    (PX2_bears b x1 w (fun r_10 =>
      ((x2 < r_10 →
        (PX2_hit_14 b Rec Q x1 x2 x3 0 w)) ∧
       (¬ x2 < r_10 →
        (PX2_hit_14 b Rec Q x1 x2 x3 1 w)))))
def PX2_hit : Nat → Nat → Int32 → Int32 → Int32 → GW → (Int32 → GW → Prop) → Prop
  | 0, _, _, _, _, _, _ => False
  | d + 1, b, x1, x2, x3, w, Q => PX2_hit_body (PX2_hit d) b x1 x2 x3 w Q
def PX2_roll_145 (b : Nat) (Q : Int32 → GW → Prop) (x4 : Int32) (w : GW) : Prop :=
    (Q (x4 &&& ((w b 5) ^^^ (-1))) w)
def PX2_roll_136 (b : Nat) (K22 : Int32 → Int32 → GW → Prop) (Q : Int32 → GW → Prop) (x1 : Int32) (x2 : Int32) (x4 : Int32) (x5 : Int32) (x6 : Int32) (s1 : Int32) (w : GW) : Prop :=
    (∀ w_1 : GW, w_1 = gS w b 11 s1 →
     (∀ v6_2 : Int32, v6_2 = x6 + 1 →
      (K22 x5 v6_2 w_1)))
def PX2_roll_130 (b : Nat) (K22 : Int32 → Int32 → GW → Prop) (Q : Int32 → GW → Prop) (x1 : Int32) (x2 : Int32) (x4 : Int32) (x5 : Int32) (x6 : Int32) (w : GW) : Prop :=
    (PX2_roll_136 b K22 Q x1 x2 x4 x5 x6 x6 w)
def PX2_roll_99 (b : Nat) (K22 : Int32 → Int32 → GW → Prop) (Q : Int32 → GW → Prop) (x1 : Int32) (x2 : Int32) (x4 : Int32) (x6 : Int32) (x8 : Int32) (s0 : Int32) (s1 : Int32) (w : GW) : Prop :=
    (∀ v5_3 : Int32, v5_3 = (s0 - s1) →
     (∀ v5_4 : Int32, v5_4 = (v5_3 - ((w 2 0) / 3)) →
      ((x8 = 0 →
        (PX2_roll_130 b K22 Q x1 x2 x4 v5_4 x6 w)) ∧
       (¬ x8 = 0 →
        ((0 < v5_4 →
          (PX2_roll_136 b K22 Q x1 x2 x4 v5_4 x6 (-1) w)) ∧
         (¬ 0 < v5_4 →
          (PX2_roll_130 b K22 Q x1 x2 x4 v5_4 x6 w)))))))
def PX2_roll_75 (b : Nat) (K22 : Int32 → Int32 → GW → Prop) (Q : Int32 → GW → Prop) (x1 : Int32) (x2 : Int32) (x4 : Int32) (x5 : Int32) (x6 : Int32) (x7 : Int32) (s0 : Int32) (w : GW) : Prop :=
    ((¬ x7 = (-1) →
      (PX2_bears b x7 w (fun r_8 =>
        (PX2_roll_99 b K22 Q x1 x2 x4 x6 s0 x5 ((r_8 / 2) + 1) w)))) ∧
     (x7 = (-1) →
      (PX2_roll_99 b K22 Q x1 x2 x4 x6 s0 x5 0 w)))
def PX2_roll_70 (b : Nat) (K22 : Int32 → Int32 → GW → Prop) (Q : Int32 → GW → Prop) (x1 : Int32) (x2 : Int32) (x4 : Int32) (x5 : Int32) (x6 : Int32) (x7 : Int32) (w : GW) : Prop :=
    (PX2_roll_75 b K22 Q x1 x2 x4 x5 x6 x7 1 w)
def PX2_roll_22 (b : Nat) (Q : Int32 → GW → Prop) (x1 : Int32) (x2 : Int32) (x4 : Int32)  : Nat → Int32 → Int32 → GW → Prop
  | 0, _, _, _ => False
  | n + 1, x5, x6, w =>
    ((5 ≤ x6 →
      (PX2_roll_145 b Q x4 w)) ∧
     (¬ 5 ≤ x6 →
      ((¬ (w b 11) = (-1) →
        (PX2_roll_145 b Q x4 w)) ∧
       ((w b 11) = (-1) →
        (PX2_standingAt b x6 (x1 + ((x2 - 1) * x6)) w (fun r_11 =>
          ((r_11 = (-1) →
            (PX2_roll_70 b (PX2_roll_22 b Q x1 x2 x4 n) Q x1 x2 x4 x5 x6 r_11 w)) ∧
           (¬ r_11 = (-1) →
            (PX2_hit 6 b r_11 x5 (-1) w (fun r_13 w_14 =>
              ((r_13 = 0 →
                (PX2_roll_75 b (PX2_roll_22 b Q x1 x2 x4 n) Q x1 x2 x4 x5 x6 r_11 0 w_14)) ∧
               (¬ r_13 = 0 →
                (PX2_roll_70 b (PX2_roll_22 b Q x1 x2 x4 n) Q x1 x2 x4 x5 x6 r_11 w_14)))))))))))))
def PX2_roll  (b : Nat) (x1 : Int32) (x2 : Int32) (x3 : Int32) (w : GW) (Q : Int32 → GW → Prop) : Prop :=
    (∀ v4_16 : Int32, v4_16 = (w b 5) →
     (∀ w_17 : GW, w_17 = gS w b 10 0 →
      (∀ w_18 : GW, w_18 = gS w_17 b 11 (-1) →
       (∃ n_19 : Nat, PX2_roll_22 b Q x1 x2 v4_16 n_19 x3 0 w_18))))
def PX2_rollBall  (b : Nat) (x1 : Int32) (w : GW) (Q : Int32 → GW → Prop) : Prop :=
    (PX2_roll b (x1 / 1000) ((x1 - x1 / 1000 * 1000) / 100) (x1 - x1 / 100 * 100) w (fun r_1 w_2 =>
      (Q r_1 w_2)))
def PX2_throwBall_50 (b : Nat) (Q : Int32 → GW → Prop) (x5 : Int32) (s1 : Int32) (s2 : Int32) (w : GW) : Prop :=
    (∀ w_1 : GW, w_1 = gS w b 7 (s1 + s2) →
     (Q x5 w_1))
def PX2_throwBall_49 (b : Nat) (Q : Int32 → GW → Prop) (x5 : Int32) (s1 : Int32) (w : GW) : Prop :=
    (PX2_throwBall_50 b Q x5 s1 0 w)
def PX2_throwBall  (b : Nat) (x1 : Int32) (x2 : Int32) (x3 : Int32) (w : GW) (Q : Int32 → GW → Prop) : Prop :=
    (∀ v4_2 : Int32, v4_2 = (w b 5) →
     (PX2_roll b x1 x2 x3 w (fun r_3 w_4 =>
       (∀ w_5 : GW, w_5 = gS w_4 b 6 ((w_4 b 6) + 1) →
        ((¬ v4_2 = 511 →
          (PX2_throwBall_49 b Q r_3 (w_5 b 7) w_5)) ∧
         (v4_2 = 511 →
          ((¬ (w_5 b 5) = 0 →
            (PX2_throwBall_49 b Q r_3 (w_5 b 7) w_5)) ∧
           ((w_5 b 5) = 0 →
            (PX2_throwBall_50 b Q r_3 (w_5 b 7) 1 w_5)))))))))
def PX2_setUp  (b : Nat)  (w : GW) (Q : Int32 → GW → Prop) : Prop :=
    (PJ4_bitCount (w b 5) (fun r_1 =>
      (∀ v1_2 : Int32, v1_2 = ((w 2 4) - r_1) →
       (∀ w_3 : GW, w_3 = gS w b 5 ((1 <<< ((w 2 4) &&& 31)) - 1) →
        (Q v1_2 w_3)))))
def PX2_change_25 (b : Nat) (Q : GW → Prop) (x1 : Int32) (x4 : Int32) (w : GW) : Prop :=
    ((x4 = (-1) →
      (Q w)) ∧
     (¬ x4 = (-1) →
      (vp_in x4 9 ∧
       (∀ w_2 : GW, w_2 = gS w (b + 3) (x4).toNatClampNeg x1 →
        (Q w_2)))))
def PX2_change  (b : Nat) (x1 : Int32) (x2 : Int32) (w : GW) (Q : GW → Prop) : Prop :=
    (PX2_onPlate b x1 w (fun r_3 =>
      (PX2_onPlate b x2 w (fun r_4 =>
        ((r_3 = (-1) →
          (PX2_change_25 b Q x1 r_4 w)) ∧
         (¬ r_3 = (-1) →
          (vp_in r_3 9 ∧
           (∀ w_6 : GW, w_6 = gS w (b + 3) (r_3).toNatClampNeg x2 →
            (PX2_change_25 b Q x1 r_4 w_6)))))))))
def PX2_draw  (b : Nat) (x1 : Int32) (w : GW) (Q : Int32 → GW → Prop) : Prop :=
    (∀ w_1 : GW, w_1 = gS w b 8 ((((((w b 8)).toInt64 * (1103515245 : Int64)) + (12345 : Int64)) - ((((w b 8)).toInt64 * (1103515245 : Int64)) + (12345 : Int64)) / (2147483648 : Int64) * (2147483648 : Int64))).toInt32 →
     (¬ x1 = 0 ∧
      (Q (((w_1 b 8) / 65536) - ((w_1 b 8) / 65536) / x1 * x1) w_1)))
def PX2_byDraws  (b : Nat)  (w : GW) (Q : GW → Prop) : Prop :=
    (PX2_draw b 4 w (fun r_1 w_2 =>
      ((2 ≤ r_1 →
        ((¬ r_1 = 2 →
          (PX2_draw b 9 w_2 (fun r_5 w_6 =>
            (PX2_draw b 9 w_6 (fun r_7 w_8 =>
              (PX2_change b r_5 r_7 w_8 (fun w_10 =>
                (Q w_10)))))))) ∧
         (r_1 = 2 →
          (PX2_setUp b w_2 (fun r_11 w_12 =>
            (Q w_12)))))) ∧
       (¬ 2 ≤ r_1 →
        (PX2_draw b 5 w_2 (fun r_13 w_14 =>
          (PX2_draw b 3 w_14 (fun r_15 w_16 =>
            (PX2_draw b 40 w_16 (fun r_17 w_18 =>
              (PX2_throwBall b r_13 r_15 (1 + r_17) w_18 (fun r_19 w_20 =>
                (Q w_20)))))))))))))
def PX0_isIn   (x0 : Int32) (x1 : Int32) (x2 : Int32)  (Q : Int32 → Prop) : Prop :=
    ((x0 < x1 →
      (Q 0)) ∧
     (¬ x0 < x1 →
      ((x2 < x0 →
        (Q 0)) ∧
       (¬ x2 < x0 →
        (Q 1)))))
def PX0_feed   (x1 : Int32) (w : GW) (Q : Int32 → GW → Prop) : Prop :=
    (PX0_isIn x1 0 255 (fun r_1 =>
      ((¬ r_1 = 0 →
        ((¬ (w 0 10) = 240 →
          (vp_in (w 0 10) 240 ∧
           (∀ w_4 : GW, w_4 = gS w 21 ((w 0 10)).toNatClampNeg (x1).toInt8.toInt32 →
            (∀ w_5 : GW, w_5 = gS w_4 0 10 ((w_4 0 10) + 1) →
             (Q (w_5 0 10) w_5))))) ∧
         ((w 0 10) = 240 →
          (Q (-1000000004) w)))) ∧
       (r_1 = 0 →
        (Q (-1000000002) w)))))
def PX0_fault    (w : GW) (Q : Int32 → Prop) : Prop :=
    (Q (w 0 11))
def PX0_isCounty    (w : GW) (Q : Int32 → Prop) : Prop :=
    (((w 2 0) = (-1) →
      (Q 0)) ∧
     (¬ (w 2 0) = (-1) →
      (Q 1)))
def PX0_isBall   (x0 : Int32)  (Q : Int32 → Prop) : Prop :=
    ((5 ≤ (x0 / 1000) →
      (Q 0)) ∧
     (¬ 5 ≤ (x0 / 1000) →
      ((3 ≤ ((x0 - x0 / 1000 * 1000) / 100) →
        (Q 0)) ∧
       (¬ 3 ≤ ((x0 - x0 / 1000 * 1000) / 100) →
        (PX0_isIn (x0 - x0 / 100 * 100) 1 40 (fun r_3 =>
          ((r_3 = 0 →
            (Q 0)) ∧
           (¬ r_3 = 0 →
            (Q 1)))))))))
def PX0_fellsBy   (x1 : Int32) (w : GW) (Q : Int32 → GW → Prop) : Prop :=
    (PX2_set 12 6 w (fun w_2 =>
      (PX2_rollBall 12 x1 w_2 (fun r_3 w_4 =>
        (Q r_3 w_4)))))
def PX0_layFells_30 (K2 : Int32 → GW → Prop) (Q : GW → Prop) (x1 : Int32) (s1 : Int32) (s2 : Int32) (w : GW) : Prop :=
    (vp_in s1 4300 ∧
     (∀ w_1 : GW, w_1 = gS w 22 (s1).toNatClampNeg s2 →
      (∀ v1_2 : Int32, v1_2 = x1 + 1 →
       (K2 v1_2 w_1))))
def PX0_layFells_2 (Q : GW → Prop)   : Nat → Int32 → GW → Prop
  | 0, _, _ => False
  | n + 1, x1, w =>
    ((4300 ≤ x1 →
      (Q w)) ∧
     (¬ 4300 ≤ x1 →
      (PX0_isBall x1 (fun r_4 =>
        ((r_4 = 0 →
          (PX0_layFells_30 (PX0_layFells_2 Q n) Q x1 x1 (-1) w)) ∧
         (¬ r_4 = 0 →
          (PX0_fellsBy x1 w (fun r_6 w_7 =>
            (PX0_layFells_30 (PX0_layFells_2 Q n) Q x1 x1 r_6 w_7)))))))))
def PX0_layFells    (w : GW) (Q : GW → Prop) : Prop :=
    (∃ n_8 : Nat, PX0_layFells_2 Q n_8 0 w)
def PX0_worst_63 (K8 : Int32 → Int32 → Prop) (Q : Int32 → GW → Prop) (x2 : Int32) (s0 : Int32) (w : GW) : Prop :=
    (∀ v2_1 : Int32, v2_1 = x2 + 1 →
     (K8 s0 v2_1))
def PX0_worst_53 (K8 : Int32 → Int32 → Prop) (Q : Int32 → GW → Prop) (x1 : Int32) (x2 : Int32) (s0 : Int32) (w : GW) : Prop :=
    ((s0 = 0 →
      (PX0_worst_63 K8 Q x2 x1 w)) ∧
     (¬ s0 = 0 →
      (PX0_worst_63 K8 Q x2 x2 w)))
def PX0_worst_52 (K8 : Int32 → Int32 → Prop) (Q : Int32 → GW → Prop) (x1 : Int32) (x2 : Int32) (w : GW) : Prop :=
    (PX0_worst_53 K8 Q x1 x2 0 w)
def PX0_worst_48 (K8 : Int32 → Int32 → Prop) (Q : Int32 → GW → Prop) (x1 : Int32) (x2 : Int32) (w : GW) : Prop :=
    (PX0_worst_53 K8 Q x1 x2 1 w)
def PX0_worst_8 (Q : Int32 → GW → Prop)  (w : GW) : Nat → Int32 → Int32 → Prop
  | 0, _, _ => False
  | n + 1, x1, x2 =>
    ((4300 ≤ x2 →
      (Q x1 w)) ∧
     (¬ 4300 ≤ x2 →
      (PX0_isBall x2 (fun r_4 =>
        ((r_4 = 0 →
          (PX0_worst_52 (PX0_worst_8 Q w n) Q x1 x2 w)) ∧
         (¬ r_4 = 0 →
          ((x1 = (-1) →
            (PX0_worst_48 (PX0_worst_8 Q w n) Q x1 x2 w)) ∧
           (¬ x1 = (-1) →
            (vp_in x2 4300 ∧
             (PJ4_bitCount (w 22 (x2).toNatClampNeg) (fun r_7 =>
               (vp_in x1 4300 ∧
                (PJ4_bitCount (w 22 (x1).toNatClampNeg) (fun r_8 =>
                  ((r_7 ≤ r_8 →
                    (PX0_worst_52 (PX0_worst_8 Q w n) Q x1 x2 w)) ∧
                   (¬ r_7 ≤ r_8 →
                    (PX0_worst_48 (PX0_worst_8 Q w n) Q x1 x2 w)))))))))))))))))
def PX0_worst    (w : GW) (Q : Int32 → GW → Prop) : Prop :=
    (PX0_layFells w (fun w_11 =>
      (∃ n_12 : Nat, PX0_worst_8 Q w_11 n_12 (-1) 0)))
def PX0_ballsThatFell_66 (K4 : Int32 → Int32 → Prop) (Q : Int32 → Prop) (x1 : Int32) (x3 : Int32) (s0 : Int32) (s1 : Int32) (w : GW) : Prop :=
    (∀ v2_1 : Int32, v2_1 = (s0 + s1) →
     (∀ v3_2 : Int32, v3_2 = x3 + 1 →
      (K4 v2_1 v3_2)))
def PX0_ballsThatFell_53 (K4 : Int32 → Int32 → Prop) (Q : Int32 → Prop) (x1 : Int32) (x2 : Int32) (x3 : Int32) (s0 : Int32) (w : GW) : Prop :=
    ((s0 = 0 →
      (PX0_ballsThatFell_66 K4 Q x1 x3 x2 0 w)) ∧
     (¬ s0 = 0 →
      (PX0_ballsThatFell_66 K4 Q x1 x3 x2 1 w)))
def PX0_ballsThatFell_52 (K4 : Int32 → Int32 → Prop) (Q : Int32 → Prop) (x1 : Int32) (x2 : Int32) (x3 : Int32) (w : GW) : Prop :=
    (PX0_ballsThatFell_53 K4 Q x1 x2 x3 0 w)
def PX0_ballsThatFell_48 (K4 : Int32 → Int32 → Prop) (Q : Int32 → Prop) (x1 : Int32) (x2 : Int32) (x3 : Int32) (w : GW) : Prop :=
    (PX0_ballsThatFell_53 K4 Q x1 x2 x3 1 w)
def PX0_ballsThatFell_4 (Q : Int32 → Prop) (x1 : Int32) (w : GW) : Nat → Int32 → Int32 → Prop
  | 0, _, _ => False
  | n + 1, x2, x3 =>
    ((4300 ≤ x3 →
      (Q x2)) ∧
     (¬ 4300 ≤ x3 →
      (PX0_isBall x3 (fun r_5 =>
        ((r_5 = 0 →
          (PX0_ballsThatFell_52 (PX0_ballsThatFell_4 Q x1 w n) Q x1 x2 x3 w)) ∧
         (¬ r_5 = 0 →
          ((¬ x1 = (-1) →
            (vp_in x3 4300 ∧
             (PX0_has (w 22 (x3).toNatClampNeg) x1 (fun r_8 =>
               ((r_8 = 0 →
                 (PX0_ballsThatFell_52 (PX0_ballsThatFell_4 Q x1 w n) Q x1 x2 x3 w)) ∧
                (¬ r_8 = 0 →
                 (PX0_ballsThatFell_48 (PX0_ballsThatFell_4 Q x1 w n) Q x1 x2 x3 w))))))) ∧
           (x1 = (-1) →
            (vp_in x3 4300 ∧
             ((¬ (w 22 (x3).toNatClampNeg) = 0 →
               (PX0_ballsThatFell_52 (PX0_ballsThatFell_4 Q x1 w n) Q x1 x2 x3 w)) ∧
              ((w 22 (x3).toNatClampNeg) = 0 →
               (PX0_ballsThatFell_48 (PX0_ballsThatFell_4 Q x1 w n) Q x1 x2 x3 w))))))))))))
def PX0_ballsThatFell   (x1 : Int32) (w : GW) (Q : Int32 → Prop) : Prop :=
    (∃ n_11 : Nat, PX0_ballsThatFell_4 Q x1 w n_11 0 0)
def PX0_safest_59 (K11 : Int32 → Int32 → Int32 → Prop) (Q : Int32 → GW → Prop) (x2 : Int32) (x3 : Int32) (x4 : Int32) (s0 : Int32) (w : GW) : Prop :=
    (∀ v2_1 : Int32, v2_1 = (gMin x2 x4) →
     (∀ v3_2 : Int32, v3_2 = x3 + 1 →
      (K11 s0 v2_1 v3_2)))
def PX0_safest_46 (K11 : Int32 → Int32 → Int32 → Prop) (Q : Int32 → GW → Prop) (x1 : Int32) (x2 : Int32) (x3 : Int32) (s0 : Int32) (w : GW) : Prop :=
    ((x2 ≤ s0 →
      (PX0_safest_59 K11 Q x2 x3 s0 x1 w)) ∧
     (¬ x2 ≤ s0 →
      (PX0_safest_59 K11 Q x2 x3 s0 x3 w)))
def PX0_safest_11 (Q : Int32 → GW → Prop)  (w : GW) : Nat → Int32 → Int32 → Int32 → Prop
  | 0, _, _, _ => False
  | n + 1, x1, x2, x3 =>
    (((w 2 4) ≤ x3 →
      (Q x1 w)) ∧
     (¬ (w 2 4) ≤ x3 →
      (PX0_has (w 6 5) x3 (fun r_5 =>
        ((r_5 = 0 →
          (PX0_safest_46 (PX0_safest_11 Q w n) Q x1 x2 x3 99999999 w)) ∧
         (¬ r_5 = 0 →
          (PX0_ballsThatFell x3 w (fun r_7 =>
            (PX0_safest_46 (PX0_safest_11 Q w n) Q x1 x2 x3 r_7 w)))))))))
def PX0_safest    (w : GW) (Q : Int32 → GW → Prop) : Prop :=
    (PX0_layFells w (fun w_9 =>
      (∃ n_10 : Nat, PX0_safest_11 Q w_9 n_10 (-1) 99999999 0)))
def PX0_toldOfBalls_26 (Q : Int32 → GW → Prop) (x1 : Int32) (s0 : Int32) (w : GW) : Prop :=
    ((x1 = 6 →
      (Q s0 w)) ∧
     (¬ x1 = 6 →
      ((x1 = 7 →
        (vp_in s0 4300 ∧
         (PJ4_bitCount (w 22 (s0).toNatClampNeg) (fun r_2 =>
           (Q r_2 w))))) ∧
       (¬ x1 = 7 →
        ((x1 = 8 →
          (Q s0 w)) ∧
         (¬ x1 = 8 →
          ((x1 = 9 →
            ((¬ s0 = (-1) →
              (PX0_ballsThatFell s0 w (fun r_4 =>
                (Q r_4 w)))) ∧
             (s0 = (-1) →
              (Q (-1) w)))) ∧
           (¬ x1 = 9 →
            (PX0_ballsThatFell (-1) w (fun r_5 =>
              (Q r_5 w)))))))))))
def PX0_toldOfBalls   (x1 : Int32) (w : GW) (Q : Int32 → GW → Prop) : Prop :=
    (PX0_isCounty w (fun r_6 =>
      ((¬ r_6 = 0 →
        ((8 ≤ x1 →
          (PX0_safest w (fun r_9 w_10 =>
            (PX0_toldOfBalls_26 Q x1 r_9 w_10)))) ∧
         (¬ 8 ≤ x1 →
          (PX0_worst w (fun r_11 w_12 =>
            (PX0_toldOfBalls_26 Q x1 r_11 w_12)))))) ∧
       (r_6 = 0 →
        (Q (-1) w)))))
def PX0_talk_148 (K4 : Int32 → Int32 → Prop) (K19 : Int32 → Int32 → Prop) (Q : Int32 → Prop) (x2 : Int32) (x3 : Int32) (s0 : Int32) (s1 : Int32) (w : GW) : Prop :=
    (∀ v1_1 : Int32, v1_1 = (s0 + s1) →
     (∀ v3_2 : Int32, v3_2 = x3 + 1 →
      (K19 v1_1 v3_2)))
def PX0_talk_147 (K4 : Int32 → Int32 → Prop) (K19 : Int32 → Int32 → Prop) (Q : Int32 → Prop) (x2 : Int32) (x3 : Int32) (s0 : Int32) (w : GW) : Prop :=
    (PX0_talk_148 K4 K19 Q x2 x3 s0 0 w)
def PX0_talk_123 (K4 : Int32 → Int32 → Prop) (K19 : Int32 → Int32 → Prop) (Q : Int32 → Prop) (x1 : Int32) (x2 : Int32) (x3 : Int32) (x4 : Int32) (x5 : Int32) (s0 : Int32) (w : GW) : Prop :=
    ((s0 = 0 →
      (PX0_talk_147 K4 K19 Q x2 x3 x1 w)) ∧
     (¬ s0 = 0 →
      ((¬ x4 = 1 →
        (PX0_talk_147 K4 K19 Q x2 x3 x1 w)) ∧
       (x4 = 1 →
        ((¬ x5 = 1 →
          (PX0_talk_147 K4 K19 Q x2 x3 x1 w)) ∧
         (x5 = 1 →
          (PX0_talk_148 K4 K19 Q x2 x3 x1 1 w)))))))
def PX0_talk_122 (K4 : Int32 → Int32 → Prop) (K19 : Int32 → Int32 → Prop) (Q : Int32 → Prop) (x1 : Int32) (x2 : Int32) (x3 : Int32) (x4 : Int32) (x5 : Int32) (w : GW) : Prop :=
    (PX0_talk_123 K4 K19 Q x1 x2 x3 x4 x5 0 w)
def PX0_talk_19 (K4 : Int32 → Int32 → Prop) (Q : Int32 → Prop) (x2 : Int32) (w : GW) : Nat → Int32 → Int32 → Prop
  | 0, _, _ => False
  | n + 1, x1, x3 =>
    (((w 2 4) ≤ x3 →
      (∀ v2_7 : Int32, v2_7 = x2 + 1 →
       (K4 x1 v2_7))) ∧
     (¬ (w 2 4) ≤ x3 →
      (vp_in x2 9 ∧
       (PX0_rowOf (w 9 (x2).toNatClampNeg) (fun r_8 =>
         (vp_in x3 9 ∧
          (PX0_rowOf (w 9 (x3).toNatClampNeg) (fun r_9 =>
            (∀ v4_10 : Int32, v4_10 = (gAbs (r_8 - r_9)) →
             (vp_in x2 9 ∧
              (PX0_columnOf (w 9 (x2).toNatClampNeg) (fun r_11 =>
                (vp_in x3 9 ∧
                 (PX0_columnOf (w 9 (x3).toNatClampNeg) (fun r_12 =>
                   (∀ v5_13 : Int32, v5_13 = (gAbs (r_11 - r_12)) →
                    (PX0_has (w 6 5) x2 (fun r_14 =>
                      ((¬ r_14 = 0 →
                        (PX0_talk_122 K4 (PX0_talk_19 K4 Q x2 w n) Q x1 x2 x3 v4_10 v5_13 w)) ∧
                       (r_14 = 0 →
                        (PX0_has (w 6 5) x3 (fun r_16 =>
                          ((¬ r_16 = 0 →
                            (PX0_talk_122 K4 (PX0_talk_19 K4 Q x2 w n) Q x1 x2 x3 v4_10 v5_13 w)) ∧
                           (r_16 = 0 →
                            (PX0_talk_123 K4 (PX0_talk_19 K4 Q x2 w n) Q x1 x2 x3 v4_10 v5_13 1 w)))))))))))))))))))))))))
def PX0_talk_4 (Q : Int32 → Prop)  (w : GW) : Nat → Int32 → Int32 → Prop
  | 0, _, _ => False
  | n + 1, x1, x2 =>
    (((w 2 4) ≤ x2 →
      (Q x1)) ∧
     (¬ (w 2 4) ≤ x2 →
      (∀ v3_19 : Int32, v3_19 = (x2 + 1) →
       (∃ n_20 : Nat, PX0_talk_19 (PX0_talk_4 Q w n) Q x2 w n_20 x1 v3_19))))
def PX0_talk    (w : GW) (Q : Int32 → Prop) : Prop :=
    (∃ n_21 : Nat, PX0_talk_4 Q w n_21 0 0)
def PX0_told   (x1 : Int32) (w : GW) (Q : Int32 → GW → Prop) : Prop :=
    (PX0_isIn x1 6 10 (fun r_1 =>
      ((r_1 = 0 →
        ((x1 = 0 →
          (Q (w 2 0) w)) ∧
         (¬ x1 = 0 →
          ((x1 = 1 →
            (Q (w 2 4) w)) ∧
           (¬ x1 = 1 →
            ((x1 = 2 →
              (Q (w 0 10) w)) ∧
             (¬ x1 = 2 →
              ((x1 = 3 →
                (Q (w 6 5) w)) ∧
               (¬ x1 = 3 →
                ((x1 = 4 →
                  (Q (w 6 6) w)) ∧
                 (¬ x1 = 4 →
                  ((x1 = 5 →
                    (Q (w 6 7) w)) ∧
                   (¬ x1 = 5 →
                    ((x1 = 11 →
                      (PX0_talk w (fun r_4 =>
                        (Q r_4 w)))) ∧
                     (¬ x1 = 11 →
                      ((x1 = 12 →
                        (Q (w 0 8) w)) ∧
                       (¬ x1 = 12 →
                        ((x1 = 13 →
                          (Q (w 0 5) w)) ∧
                         (¬ x1 = 13 →
                          (Q (-1000000002) w)))))))))))))))))))) ∧
       (¬ r_1 = 0 →
        (PX0_toldOfBalls x1 w (fun r_5 w_6 =>
          (Q r_5 w_6)))))))
def PX0_isSkittle   (x1 : Int32) (w : GW) (Q : Int32 → Prop) : Prop :=
    (PX0_isIn x1 0 ((w 2 4) - 1) (fun r_1 =>
      (gBool r_1 ∧ (Q r_1))))
def PX0_firstOf_4 (Q : Int32 → Prop)  (w : GW) : Nat → Int32 → Int32 → Prop
  | 0, _, _ => False
  | n + 1, x2, x3 =>
    ((9 ≤ x3 →
      (Q x2)) ∧
     (¬ 9 ≤ x3 →
      (vp_in x2 9 ∧
       (((w 11 (x2).toNatClampNeg) = (-1) →
         (Q x2)) ∧
        (¬ (w 11 (x2).toNatClampNeg) = (-1) →
         (vp_in x2 9 ∧
          (∀ v2_3 : Int32, v2_3 = (w 11 (x2).toNatClampNeg) →
           (∀ v3_4 : Int32, v3_4 = x3 + 1 →
            ((PX0_firstOf_4 Q w n) v2_3 v3_4)))))))))
def PX0_firstOf   (x1 : Int32) (w : GW) (Q : Int32 → Prop) : Prop :=
    (∃ n_5 : Nat, PX0_firstOf_4 Q w n_5 x1 0)
def PX0_skittle   (x1 : Int32) (x2 : Int32) (w : GW) (Q : Int32 → Prop) : Prop :=
    (PX0_isSkittle x1 w (fun r_1 =>
      ((¬ r_1 = 0 →
        ((x2 = 0 →
          (vp_in x1 9 ∧
           (Q (w 7 (x1).toNatClampNeg)))) ∧
         (¬ x2 = 0 →
          ((x2 = 1 →
            (vp_in x1 9 ∧
             (Q (w 4 (x1).toNatClampNeg)))) ∧
           (¬ x2 = 1 →
            ((x2 = 2 →
              (vp_in x1 9 ∧
               (Q (w 8 (x1).toNatClampNeg)))) ∧
             (¬ x2 = 2 →
              ((x2 = 3 →
                (vp_in x1 9 ∧
                 (Q (w 9 (x1).toNatClampNeg)))) ∧
               (¬ x2 = 3 →
                ((x2 = 4 →
                  (Q (((w 6 5) >>> (x1 &&& 31)) &&& 1))) ∧
                 (¬ x2 = 4 →
                  ((x2 = 5 →
                    (vp_in x1 9 ∧
                     (Q (w 10 (x1).toNatClampNeg)))) ∧
                   (¬ x2 = 5 →
                    ((x2 = 6 →
                      (vp_in x1 9 ∧
                       (Q (w 11 (x1).toNatClampNeg)))) ∧
                     (¬ x2 = 6 →
                      ((x2 = 7 →
                        (PX0_firstOf x1 w (fun r_4 =>
                          (Q r_4)))) ∧
                       (¬ x2 = 7 →
                        ((x2 = 8 →
                          (PX2_bears 6 x1 w (fun r_5 =>
                            (Q r_5)))) ∧
                         (¬ x2 = 8 →
                          (Q (-1000000002))))))))))))))))))))) ∧
       (r_1 = 0 →
        (Q (-1000000001))))))
def PX0_isPlate   (x0 : Int32)  (Q : Int32 → Prop) : Prop :=
    (PX0_isIn x0 0 8 (fun r_1 =>
      (gBool r_1 ∧ (Q r_1))))
def PX0_plate   (x1 : Int32) (w : GW) (Q : Int32 → Prop) : Prop :=
    (PX0_isPlate x1 (fun r_1 =>
      ((r_1 = 0 →
        (Q (-1000000001))) ∧
       (¬ r_1 = 0 →
        (PX2_onPlate 6 x1 w (fun r_3 =>
          (Q r_3)))))))
def PX0_refusedBall_33 (Q : Int32 → Prop) (s0 : Int32) (w : GW) : Prop :=
    ((¬ s0 = 0 →
      (PX0_isCounty w (fun r_2 =>
        ((¬ r_2 = 0 →
          (Q 0)) ∧
         (r_2 = 0 →
          (Q (-1000000003))))))) ∧
     (s0 = 0 →
      (Q (-1000000002))))
def PX0_refusedBall_32 (Q : Int32 → Prop)  (w : GW) : Prop :=
    (PX0_refusedBall_33 Q 0 w)
def PX0_refusedBall   (x1 : Int32) (x2 : Int32) (x3 : Int32) (w : GW) (Q : Int32 → Prop) : Prop :=
    (PX0_isIn x1 0 4 (fun r_4 =>
      ((r_4 = 0 →
        (PX0_refusedBall_32 Q w)) ∧
       (¬ r_4 = 0 →
        (PX0_isIn x2 0 2 (fun r_6 =>
          ((r_6 = 0 →
            (PX0_refusedBall_32 Q w)) ∧
           (¬ r_6 = 0 →
            (PX0_isIn x3 1 40 (fun r_8 =>
              ((r_8 = 0 →
                (PX0_refusedBall_32 Q w)) ∧
               (¬ r_8 = 0 →
                (PX0_refusedBall_33 Q 1 w)))))))))))))
def PX0_remember_50 (Q : GW → Prop)  (w : GW) : Prop :=
    (vp_in (w 0 5) 16 ∧
     (PX2_set (gUn (w 0 5)) 6 w (fun w_3 =>
       (∀ w_4 : GW, w_4 = gS w_3 0 5 ((w_3 0 5) + 1) →
        (Q w_4)))))
def PX0_remember_11 (Q : GW → Prop)   : Nat → Int32 → GW → Prop
  | 0, _, _ => False
  | n + 1, x1, w =>
    ((16 ≤ x1 →
      (∀ w_6 : GW, w_6 = gS w 0 5 ((w 0 5) - 1) →
       (PX0_remember_50 Q w_6))) ∧
     (¬ 16 ≤ x1 →
      (vp_in (x1 - 1) 16 ∧
       (vp_in x1 16 ∧
        (PX2_set (gUn (x1 - 1)) (gUn x1) w (fun w_10 =>
          (∀ v1_11 : Int32, v1_11 = x1 + 1 →
           ((PX0_remember_11 Q n) v1_11 w_10))))))))
def PX0_remember    (w : GW) (Q : GW → Prop) : Prop :=
    ((¬ (w 0 5) = 16 →
      (PX0_remember_50 Q w)) ∧
     ((w 0 5) = 16 →
      (∃ n_13 : Nat, PX0_remember_11 Q n_13 1 w)))
def PX0_ball   (x1 : Int32) (x2 : Int32) (x3 : Int32) (w : GW) (Q : Int32 → GW → Prop) : Prop :=
    (PX0_refusedBall x1 x2 x3 w (fun r_1 =>
      ((0 ≤ r_1 →
        (PX0_remember w (fun w_4 =>
          (PX2_throwBall 6 x1 x2 x3 w_4 (fun r_5 w_6 =>
            (Q r_5 w_6)))))) ∧
       (¬ 0 ≤ r_1 →
        (PX0_refusedBall x1 x2 x3 w (fun r_7 =>
          (Q r_7 w)))))))
def PX0_setUp    (w : GW) (Q : Int32 → GW → Prop) : Prop :=
    (PX0_isCounty w (fun r_1 =>
      ((¬ r_1 = 0 →
        (PX0_remember w (fun w_4 =>
          (PX2_setUp 6 w_4 (fun r_5 w_6 =>
            (Q r_5 w_6)))))) ∧
       (r_1 = 0 →
        (Q (-1000000003) w)))))
def PX0_lift   (x1 : Int32) (w : GW) (Q : Int32 → GW → Prop) : Prop :=
    (PX0_isSkittle x1 w (fun r_1 =>
      ((¬ r_1 = 0 →
        (PX0_has (w 6 5) x1 (fun r_3 =>
          ((r_3 = 0 →
            (PX0_remember w (fun w_6 =>
              (∀ w_7 : GW, w_7 = gS w_6 6 5 ((w_6 6 5) ||| (1 <<< (x1 &&& 31))) →
               (PJ4_bitCount (w_7 6 5) (fun r_8 =>
                 (Q r_8 w_7))))))) ∧
           (¬ r_3 = 0 →
            (Q (-1000000003) w)))))) ∧
       (r_1 = 0 →
        (Q (-1000000001) w)))))
def PX0_change   (x1 : Int32) (x2 : Int32) (w : GW) (Q : Int32 → GW → Prop) : Prop :=
    (PX0_isPlate x1 (fun r_1 =>
      ((r_1 = 0 →
        (Q (-1000000001) w)) ∧
       (¬ r_1 = 0 →
        (PX0_isPlate x2 (fun r_3 =>
          ((r_3 = 0 →
            (Q (-1000000001) w)) ∧
           (¬ r_3 = 0 →
            ((¬ x1 = x2 →
              (PX0_remember w (fun w_7 =>
                (PX2_change 6 x1 x2 w_7 (fun w_9 =>
                  (PX2_onPlate 6 x1 w_9 (fun r_10 =>
                    (Q r_10 w_9)))))))) ∧
             (x1 = x2 →
              (Q (-1000000001) w)))))))))))
def PX0_chip   (x1 : Int32) (x2 : Int32) (w : GW) (Q : Int32 → GW → Prop) : Prop :=
    (PX0_isSkittle x1 w (fun r_1 =>
      ((¬ r_1 = 0 →
        (PX0_isIn x2 0 9 (fun r_3 =>
          ((¬ r_3 = 0 →
            (PX0_remember w (fun w_6 =>
              (vp_in x1 9 ∧
               (∀ v3_7 : Int32, v3_7 = (w_6 8 (x1).toNatClampNeg) →
                (vp_in x1 9 ∧
                 (∀ w_8 : GW, w_8 = gS w_6 8 (x1).toNatClampNeg x2 →
                  (Q v3_7 w_8)))))))) ∧
           (r_3 = 0 →
            (Q (-1000000002) w)))))) ∧
       (r_1 = 0 →
        (Q (-1000000001) w)))))
def PX0_replace   (x1 : Int32) (w : GW) (Q : Int32 → GW → Prop) : Prop :=
    (PX0_isSkittle x1 w (fun r_1 =>
      ((¬ r_1 = 0 →
        (vp_in x1 9 ∧
         ((¬ (w 7 (x1).toNatClampNeg) = 3 →
           (PX0_remember w (fun w_5 =>
             (vp_in x1 9 ∧
              (∀ v2_6 : Int32, v2_6 = (w_5 7 (x1).toNatClampNeg) →
               (vp_in x1 9 ∧
                (∀ w_7 : GW, w_7 = gS w_5 7 (x1).toNatClampNeg 3 →
                 (Q v2_6 w_7)))))))) ∧
          ((w 7 (x1).toNatClampNeg) = 3 →
           (Q (-1000000003) w))))) ∧
       (r_1 = 0 →
        (Q (-1000000001) w)))))
def PX0_drift_29 (Q : Int32 → GW → Prop) (x1 : Int32)  : Nat → Int32 → GW → Prop
  | 0, _, _ => False
  | n + 1, x2, w =>
    ((x1 ≤ x2 →
      (Q (w 6 5) w)) ∧
     (¬ x1 ≤ x2 →
      (PX2_byDraws 6 w (fun w_3 =>
        (∀ v2_4 : Int32, v2_4 = x2 + 1 →
         ((PX0_drift_29 Q x1 n) v2_4 w_3))))))
def PX0_drift   (x1 : Int32) (w : GW) (Q : Int32 → GW → Prop) : Prop :=
    (PX0_isIn x1 1 30 (fun r_5 =>
      ((¬ r_5 = 0 →
        (PX0_isCounty w (fun r_7 =>
          ((¬ r_7 = 0 →
            (PX0_remember w (fun w_10 =>
              (∃ n_11 : Nat, PX0_drift_29 Q x1 n_11 0 w_10)))) ∧
           (r_7 = 0 →
            (Q (-1000000003) w)))))) ∧
       (r_5 = 0 →
        (Q (-1000000002) w)))))
def PX0_undo    (w : GW) (Q : Int32 → GW → Prop) : Prop :=
    ((¬ (w 0 5) = 0 →
      (∀ w_2 : GW, w_2 = gS w 0 5 ((w 0 5) - 1) →
       (∀ v1_3 : Int32, v1_3 = (w_2 6 8) →
        (vp_in (w_2 0 5) 16 ∧
         (PX2_set 6 (gUn (w_2 0 5)) w_2 (fun w_6 =>
           (∀ w_7 : GW, w_7 = gS w_6 6 8 v1_3 →
            (Q (w_7 0 5) w_7)))))))) ∧
     ((w 0 5) = 0 →
      (Q (-1000000003) w)))
def PX0_wouldFall   (x1 : Int32) (x2 : Int32) (x3 : Int32) (x4 : Int32) (w : GW) (Q : Int32 → GW → Prop) : Prop :=
    (PX0_isIn x4 0 2 (fun r_1 =>
      ((¬ r_1 = 0 →
        (PX0_refusedBall x1 x2 x3 w (fun r_3 =>
          ((0 ≤ r_3 →
            (PX2_set 12 6 w (fun w_6 =>
              (PX2_roll 12 x1 x2 x3 w_6 (fun r_7 w_8 =>
                ((¬ x4 = 0 →
                  ((¬ x4 = 1 →
                    (Q (w_8 12 11) w_8)) ∧
                   (x4 = 1 →
                    (Q (w_8 12 10) w_8)))) ∧
                 (x4 = 0 →
                  (Q r_7 w_8)))))))) ∧
           (¬ 0 ≤ r_3 →
            (PX0_refusedBall x1 x2 x3 w (fun r_11 =>
              (Q r_11 w)))))))) ∧
       (r_1 = 0 →
        (Q (-1000000002) w)))))
def PX0_isSet   (x1 : Int32) (w : GW) (Q : Int32 → Prop) : Prop :=
    (PX0_isIn x1 0 ((1 <<< ((w 2 4) &&& 31)) - 1) (fun r_1 =>
      (gBool r_1 ∧ (Q r_1))))
def PX0_balls_110 (K45 : Int32 → Int32 → Int32 → Prop) (Q : Int32 → GW → Prop) (x1 : Int32) (x2 : Int32) (x3 : Int32) (x5 : Int32) (s0 : Int32) (w : GW) : Prop :=
    (∀ v5_1 : Int32, v5_1 = x5 + 1 →
     (K45 x3 s0 v5_1))
def PX0_balls_108 (K45 : Int32 → Int32 → Int32 → Prop) (Q : Int32 → GW → Prop) (x1 : Int32) (x2 : Int32) (x3 : Int32) (x4 : Int32) (x5 : Int32) (w : GW) : Prop :=
    (PX0_balls_110 K45 Q x1 x2 x3 x5 x4 w)
def PX0_balls_90 (K45 : Int32 → Int32 → Int32 → Prop) (Q : Int32 → GW → Prop) (x1 : Int32) (x2 : Int32) (x4 : Int32) (x5 : Int32) (x6 : Int32) (s0 : Int32) (s1 : Int32) (w : GW) : Prop :=
    (∀ v3_2 : Int32, v3_2 = (s0 + s1) →
     ((x6 = 0 →
       (PX0_balls_108 K45 Q x1 x2 v3_2 x4 x5 w)) ∧
      (¬ x6 = 0 →
       ((¬ x4 = (-1) →
         (PX0_balls_108 K45 Q x1 x2 v3_2 x4 x5 w)) ∧
        (x4 = (-1) →
         (PX0_balls_110 K45 Q x1 x2 v3_2 x5 x5 w))))))
def PX0_balls_77 (K45 : Int32 → Int32 → Int32 → Prop) (Q : Int32 → GW → Prop) (x1 : Int32) (x2 : Int32) (x3 : Int32) (x4 : Int32) (x5 : Int32) (s0 : Int32) (w : GW) : Prop :=
    ((s0 = 0 →
      (PX0_balls_90 K45 Q x1 x2 x4 x5 s0 x3 0 w)) ∧
     (¬ s0 = 0 →
      (PX0_balls_90 K45 Q x1 x2 x4 x5 s0 x3 1 w)))
def PX0_balls_76 (K45 : Int32 → Int32 → Int32 → Prop) (Q : Int32 → GW → Prop) (x1 : Int32) (x2 : Int32) (x3 : Int32) (x4 : Int32) (x5 : Int32) (w : GW) : Prop :=
    (PX0_balls_77 K45 Q x1 x2 x3 x4 x5 0 w)
def PX0_balls_45 (Q : Int32 → GW → Prop) (x1 : Int32) (x2 : Int32) (w : GW) : Nat → Int32 → Int32 → Int32 → Prop
  | 0, _, _, _ => False
  | n + 1, x3, x4, x5 =>
    ((4300 ≤ x5 →
      ((¬ x2 = 0 →
        (Q x4 w)) ∧
       (x2 = 0 →
        (Q x3 w)))) ∧
     (¬ 4300 ≤ x5 →
      (PX0_isBall x5 (fun r_8 =>
        ((r_8 = 0 →
          (PX0_balls_76 (PX0_balls_45 Q x1 x2 w n) Q x1 x2 x3 x4 x5 w)) ∧
         (¬ r_8 = 0 →
          (vp_in x5 4300 ∧
           ((¬ (w 22 (x5).toNatClampNeg) = x1 →
             (PX0_balls_76 (PX0_balls_45 Q x1 x2 w n) Q x1 x2 x3 x4 x5 w)) ∧
            ((w 22 (x5).toNatClampNeg) = x1 →
             (PX0_balls_77 (PX0_balls_45 Q x1 x2 w n) Q x1 x2 x3 x4 x5 1 w))))))))))
def PX0_balls   (x1 : Int32) (x2 : Int32) (w : GW) (Q : Int32 → GW → Prop) : Prop :=
    (PX0_isSet x1 w (fun r_11 =>
      ((¬ r_11 = 0 →
        (PX0_isIn x2 0 1 (fun r_13 =>
          ((¬ r_13 = 0 →
            (PX0_isCounty w (fun r_15 =>
              ((¬ r_15 = 0 →
                (PX0_layFells w (fun w_18 =>
                  (∃ n_19 : Nat, PX0_balls_45 Q x1 x2 w_18 n_19 0 (-1) 0)))) ∧
               (r_15 = 0 →
                (Q (-1000000003) w)))))) ∧
           (r_13 = 0 →
            (Q (-1000000002) w)))))) ∧
       (r_11 = 0 →
        (Q (-1000000001) w)))))
def PX0_spare_127 (K38 : Int32 → Int32 → Prop) (Q : Int32 → GW → Prop) (x1 : Int32) (x2 : Int32) (x4 : Int32) (s0 : Int32) (w : GW) : Prop :=
    (∀ v4_1 : Int32, v4_1 = x4 + 1 →
     (K38 s0 v4_1))
def PX0_spare_126 (K38 : Int32 → Int32 → Prop) (Q : Int32 → GW → Prop) (x1 : Int32) (x2 : Int32) (x3 : Int32) (x4 : Int32) (w : GW) : Prop :=
    (PX0_spare_127 K38 Q x1 x2 x4 x3 w)
def PX0_spare_109 (K38 : Int32 → Int32 → Prop) (Q : Int32 → GW → Prop) (x1 : Int32) (x2 : Int32) (x3 : Int32) (x4 : Int32) (x5 : Int32) (s0 : Int32) (w : GW) : Prop :=
    ((x5 = 0 →
      (PX0_spare_126 K38 Q x1 x2 x3 x4 w)) ∧
     (¬ x5 = 0 →
      ((s0 = 0 →
        (PX0_spare_126 K38 Q x1 x2 x3 x4 w)) ∧
       (¬ s0 = 0 →
        (PX0_spare_127 K38 Q x1 x2 x4 x4 w)))))
def PX0_spare_104 (K38 : Int32 → Int32 → Prop) (Q : Int32 → GW → Prop) (x1 : Int32) (x2 : Int32) (x3 : Int32) (x4 : Int32) (x5 : Int32) (w : GW) : Prop :=
    (PX0_spare_109 K38 Q x1 x2 x3 x4 x5 1 w)
def PX0_spare_85 (K38 : Int32 → Int32 → Prop) (Q : Int32 → GW → Prop) (x1 : Int32) (x2 : Int32) (x3 : Int32) (x4 : Int32) (s0 : Int32) (w : GW) : Prop :=
    ((x3 = (-1) →
      (PX0_spare_104 K38 Q x1 x2 x3 x4 s0 w)) ∧
     (¬ x3 = (-1) →
      (((x3 - x3 / 100 * 100) ≤ (x4 - x4 / 100 * 100) →
        (PX0_spare_109 K38 Q x1 x2 x3 x4 s0 0 w)) ∧
       (¬ (x3 - x3 / 100 * 100) ≤ (x4 - x4 / 100 * 100) →
        (PX0_spare_104 K38 Q x1 x2 x3 x4 s0 w)))))
def PX0_spare_84 (K38 : Int32 → Int32 → Prop) (Q : Int32 → GW → Prop) (x1 : Int32) (x2 : Int32) (x3 : Int32) (x4 : Int32) (w : GW) : Prop :=
    (PX0_spare_85 K38 Q x1 x2 x3 x4 0 w)
def PX0_spare_38 (Q : Int32 → GW → Prop) (x1 : Int32) (x2 : Int32) (w : GW) : Nat → Int32 → Int32 → Prop
  | 0, _, _ => False
  | n + 1, x3, x4 =>
    ((4300 ≤ x4 →
      (Q x3 w)) ∧
     (¬ 4300 ≤ x4 →
      (PX0_isBall x4 (fun r_7 =>
        ((r_7 = 0 →
          (PX0_spare_84 (PX0_spare_38 Q x1 x2 w n) Q x1 x2 x3 x4 w)) ∧
         (¬ r_7 = 0 →
          (vp_in x4 4300 ∧
           ((¬ (x1 &&& ((w 22 (x4).toNatClampNeg) ^^^ (-1))) = 0 →
             (PX0_spare_84 (PX0_spare_38 Q x1 x2 w n) Q x1 x2 x3 x4 w)) ∧
            ((x1 &&& ((w 22 (x4).toNatClampNeg) ^^^ (-1))) = 0 →
             (vp_in x4 4300 ∧
              ((¬ (x2 &&& (w 22 (x4).toNatClampNeg)) = 0 →
                (PX0_spare_84 (PX0_spare_38 Q x1 x2 w n) Q x1 x2 x3 x4 w)) ∧
               ((x2 &&& (w 22 (x4).toNatClampNeg)) = 0 →
                (PX0_spare_85 (PX0_spare_38 Q x1 x2 w n) Q x1 x2 x3 x4 1 w)))))))))))))
def PX0_spare   (x1 : Int32) (x2 : Int32) (w : GW) (Q : Int32 → GW → Prop) : Prop :=
    (PX0_isSet x1 w (fun r_11 =>
      ((r_11 = 0 →
        (Q (-1000000001) w)) ∧
       (¬ r_11 = 0 →
        (PX0_isSet x2 w (fun r_13 =>
          ((¬ r_13 = 0 →
            (PX0_isCounty w (fun r_15 =>
              ((¬ r_15 = 0 →
                (PX0_layFells w (fun w_18 =>
                  (∃ n_19 : Nat, PX0_spare_38 Q x1 x2 w_18 n_19 (-1) 0)))) ∧
               (r_15 = 0 →
                (Q (-1000000003) w)))))) ∧
           (r_13 = 0 →
            (Q (-1000000001) w)))))))))
def PX0_resultOf   (x1 : Int32) (x2 : Int32) (w : GW) (Q : Int32 → GW → Prop) : Prop :=
    (∀ w_1 : GW, w_1 = gS w 12 5 x1 →
     (PX2_rollBall 12 x2 w_1 (fun r_2 w_3 =>
       (Q (w_3 12 5) w_3))))
def PX0_needOf_93 (Rec : Int32 → GW → (Int32 → GW → Prop) → Prop) (Q : Int32 → GW → Prop) (x1 : Int32) (w : GW) : Prop :=
    (vp_in x1 512 ∧
     (Q (w 23 (x1).toNatClampNeg) w))
def PX0_needOf_86 (Rec : Int32 → GW → (Int32 → GW → Prop) → Prop) (K26 : Int32 → GW → Prop) (Q : Int32 → GW → Prop) (x1 : Int32) (x2 : Int32) (s1 : Int32) (s2 : Int32) (w : GW) : Prop :=
    (vp_in s1 512 ∧
     (∀ w_1 : GW, w_1 = gS w 23 (s1).toNatClampNeg s2 →
      (∀ v2_2 : Int32, v2_2 = x2 + 1 →
       (K26 v2_2 w_1))))
def PX0_needOf_50 (Rec : Int32 → GW → (Int32 → GW → Prop) → Prop) (K26 : Int32 → GW → Prop) (Q : Int32 → GW → Prop) (x1 : Int32) (x2 : Int32) (s0 : Int32) (w : GW) : Prop :=
    ((¬ s0 = x1 →
      (vp_in x1 512 ∧
       (Rec s0 w (fun r_4 w_5 =>
         (PX0_needOf_86 Rec K26 Q x1 x2 x1 (gMin (w 23 (x1).toNatClampNeg) (r_4 + 1)) w_5))))) ∧
     (s0 = x1 →
      (vp_in x1 512 ∧
       (PX0_needOf_86 Rec K26 Q x1 x2 x1 (w 23 (x1).toNatClampNeg) w))))
def PX0_needOf_26 (Rec : Int32 → GW → (Int32 → GW → Prop) → Prop) (Q : Int32 → GW → Prop) (x1 : Int32)  : Nat → Int32 → GW → Prop
  | 0, _, _ => False
  | n + 1, x2, w =>
    ((4300 ≤ x2 →
      (PX0_needOf_93 Rec Q x1 w)) ∧
     (¬ 4300 ≤ x2 →
      (PX0_isBall x2 (fun r_7 =>
        ((r_7 = 0 →
          (PX0_needOf_50 Rec (PX0_needOf_26 Rec Q x1 n) Q x1 x2 x1 w)) ∧
         (¬ r_7 = 0 →
          (PX0_resultOf x1 x2 w (fun r_9 w_10 =>
            (PX0_needOf_50 Rec (PX0_needOf_26 Rec Q x1 n) Q x1 x2 r_9 w_10)))))))))
def PX0_needOf_body (Rec : Int32 → GW → (Int32 → GW → Prop) → Prop)  (x1 : Int32) (w : GW) (Q : Int32 → GW → Prop) : Prop :=
    ((¬ x1 = 0 →
      (vp_in x1 512 ∧
       ((¬ (w 23 (x1).toNatClampNeg) = (-1) →
         (PX0_needOf_93 Rec Q x1 w)) ∧
        ((w 23 (x1).toNatClampNeg) = (-1) →
         (vp_in x1 512 ∧
          (∀ w_13 : GW, w_13 = gS w 23 (x1).toNatClampNeg 99999999 →
           (∃ n_14 : Nat, PX0_needOf_26 Rec Q x1 n_14 0 w_13))))))) ∧
     (x1 = 0 →
      (Q 0 w)))
def PX0_needOf : Nat → Int32 → GW → (Int32 → GW → Prop) → Prop
  | 0, _, _, _ => False
  | d + 1, x1, w, Q => PX0_needOf_body (PX0_needOf d) x1 w Q
def PX0_allDown_67 (Q : Int32 → GW → Prop) (x1 : Int32) (x2 : Int32) (w : GW) : Prop :=
    ((¬ x1 = 0 →
      (Q (-1) w)) ∧
     (x1 = 0 →
      ((99999999 ≤ x2 →
        (Q (-1) w)) ∧
       (¬ 99999999 ≤ x2 →
        (Q x2 w)))))
def PX0_allDown_85 (Q : Int32 → GW → Prop) (x2 : Int32)  : Nat → Int32 → GW → Prop
  | 0, _, _ => False
  | n + 1, x3, w =>
    (PX0_isBall x3 (fun r_3 =>
      ((r_3 = 0 →
        (∀ v3_5 : Int32, v3_5 = x3 + 1 →
         ((PX0_allDown_85 Q x2 n) v3_5 w))) ∧
       (¬ r_3 = 0 →
        (PX0_resultOf (w 6 5) x3 w (fun r_6 w_7 =>
          (PX0_needOf 12 r_6 w_7 (fun r_8 w_9 =>
            ((r_8 = (x2 - 1) →
              (Q x3 w_9)) ∧
             (¬ r_8 = (x2 - 1) →
              (∀ v3_11 : Int32, v3_11 = x3 + 1 →
               ((PX0_allDown_85 Q x2 n) v3_11 w_9))))))))))))
def PX0_allDown   (x1 : Int32) (w : GW) (Q : Int32 → GW → Prop) : Prop :=
    (PX0_isIn x1 0 1 (fun r_12 =>
      ((¬ r_12 = 0 →
        (PX0_isCounty w (fun r_14 =>
          ((¬ r_14 = 0 →
            (PJ0_fill 23 512 (-1) w (fun w_17 =>
              (PX2_set 12 6 w_17 (fun w_19 =>
                (PX0_needOf 12 (w_19 6 5) w_19 (fun r_20 w_21 =>
                  ((x1 = 0 →
                    (PX0_allDown_67 Q x1 r_20 w_21)) ∧
                   (¬ x1 = 0 →
                    ((99999999 ≤ r_20 →
                      (PX0_allDown_67 Q x1 r_20 w_21)) ∧
                     (¬ 99999999 ≤ r_20 →
                      ((¬ r_20 = 0 →
                        (∃ n_25 : Nat, PX0_allDown_85 Q r_20 n_25 0 w_21)) ∧
                       (r_20 = 0 →
                        (PX0_allDown_67 Q x1 r_20 w_21)))))))))))))) ∧
           (r_14 = 0 →
            (Q (-1000000003) w)))))) ∧
       (r_12 = 0 →
        (Q (-1000000002) w)))))
def PX0_mend_118 (K41 : Int32 → Int32 → Int32 → GW → Prop) (K54 : Int32 → Int32 → Int32 → GW → Prop) (Q : Int32 → GW → Prop) (x1 : Int32) (x2 : Int32) (x3 : Int32) (x4 : Int32) (x6 : Int32) (x7 : Int32) (x8 : Int32) (x9 : Int32) (s0 : Int32) (w : GW) : Prop :=
    (∀ v6_1 : Int32, v6_1 = (gMin x6 x9) →
     (∀ v8_2 : Int32, v8_2 = x8 + 1 →
      (K54 s0 v6_1 v8_2 w)))
def PX0_mend_54 (K41 : Int32 → Int32 → Int32 → GW → Prop) (Q : Int32 → GW → Prop) (x1 : Int32) (x2 : Int32) (x3 : Int32) (x4 : Int32) (x7 : Int32)  : Nat → Int32 → Int32 → Int32 → GW → Prop
  | 0, _, _, _, _ => False
  | n + 1, x5, x6, x8, w =>
    ((9 ≤ x8 →
      (∀ v7_4 : Int32, v7_4 = x7 + 1 →
       (K41 x5 x6 v7_4 w))) ∧
     (¬ 9 ≤ x8 →
      (PX2_set 12 6 w (fun w_6 =>
        (PX2_change 12 x7 x8 w_6 (fun w_8 =>
          (PX2_roll 12 x1 x2 x3 w_8 (fun r_9 w_10 =>
            (PJ4_bitCount r_9 (fun r_11 =>
              ((x6 ≤ r_11 →
                (PX0_mend_118 K41 (PX0_mend_54 K41 Q x1 x2 x3 x4 x7 n) Q x1 x2 x3 x4 x6 x7 x8 r_11 x5 w_10)) ∧
               (¬ x6 ≤ r_11 →
                (PX0_mend_118 K41 (PX0_mend_54 K41 Q x1 x2 x3 x4 x7 n) Q x1 x2 x3 x4 x6 x7 x8 r_11 ((10 * x7) + x8) w_10)))))))))))))
def PX0_mend_41 (Q : Int32 → GW → Prop) (x1 : Int32) (x2 : Int32) (x3 : Int32) (x4 : Int32)  : Nat → Int32 → Int32 → Int32 → GW → Prop
  | 0, _, _, _, _ => False
  | n + 1, x5, x6, x7, w =>
    ((9 ≤ x7 →
      ((¬ x4 = 0 →
        (Q x6 w)) ∧
       (x4 = 0 →
        (Q x5 w)))) ∧
     (¬ 9 ≤ x7 →
      (∀ v8_15 : Int32, v8_15 = (x7 + 1) →
       (∃ n_16 : Nat, PX0_mend_54 (PX0_mend_41 Q x1 x2 x3 x4 n) Q x1 x2 x3 x4 x7 n_16 x5 x6 v8_15 w))))
def PX0_mend   (x1 : Int32) (x2 : Int32) (x3 : Int32) (x4 : Int32) (w : GW) (Q : Int32 → GW → Prop) : Prop :=
    (PX0_isIn x4 0 1 (fun r_17 =>
      ((¬ r_17 = 0 →
        (PX0_refusedBall x1 x2 x3 w (fun r_19 =>
          ((0 ≤ r_19 →
            (∃ n_21 : Nat, PX0_mend_41 Q x1 x2 x3 x4 n_21 (-1) 99999999 0 w)) ∧
           (¬ 0 ≤ r_19 →
            (PX0_refusedBall x1 x2 x3 w (fun r_22 =>
              (Q r_22 w)))))))) ∧
       (r_17 = 0 →
        (Q (-1000000002) w)))))
def PX0_hand_65 (K29 : Int32 → Int32 → Prop) (Q : Int32 → GW → Prop) (x1 : Int32) (x3 : Int32) (s0 : Int32) (s1 : Int32) (w : GW) : Prop :=
    (∀ v2_1 : Int32, v2_1 = (s0 ||| s1) →
     (∀ v3_2 : Int32, v3_2 = x3 + 1 →
      (K29 v2_1 v3_2)))
def PX0_hand_64 (K29 : Int32 → Int32 → Prop) (Q : Int32 → GW → Prop) (x1 : Int32) (x3 : Int32) (s0 : Int32) (w : GW) : Prop :=
    (PX0_hand_65 K29 Q x1 x3 s0 0 w)
def PX0_hand_29 (Q : Int32 → GW → Prop) (x1 : Int32) (w : GW) : Nat → Int32 → Int32 → Prop
  | 0, _, _ => False
  | n + 1, x2, x3 =>
    ((4300 ≤ x3 →
      (Q x2 w)) ∧
     (¬ 4300 ≤ x3 →
      (PX0_isBall x3 (fun r_4 =>
        ((r_4 = 0 →
          (PX0_hand_64 (PX0_hand_29 Q x1 w n) Q x1 x3 x2 w)) ∧
         (¬ r_4 = 0 →
          (vp_in x3 4300 ∧
           ((¬ (w 22 (x3).toNatClampNeg) = x1 →
             (PX0_hand_64 (PX0_hand_29 Q x1 w n) Q x1 x3 x2 w)) ∧
            ((w 22 (x3).toNatClampNeg) = x1 →
             (PX0_hand_65 (PX0_hand_29 Q x1 w n) Q x1 x3 x2 (1 <<< ((x3 / 1000) &&& 31)) w))))))))))
def PX0_hand   (x1 : Int32) (w : GW) (Q : Int32 → GW → Prop) : Prop :=
    (PX0_isSet x1 w (fun r_7 =>
      ((¬ r_7 = 0 →
        (PX0_isCounty w (fun r_9 =>
          ((¬ r_9 = 0 →
            (PX0_layFells w (fun w_12 =>
              (∃ n_13 : Nat, PX0_hand_29 Q x1 w_12 n_13 0 0)))) ∧
           (r_9 = 0 →
            (Q (-1000000003) w)))))) ∧
       (r_7 = 0 →
        (Q (-1000000001) w)))))
def PX0_ask_140 (K37 : Int32 → Int32 → Int32 → Prop) (Q : Int32 → GW → Prop) (x1 : Int32) (x2 : Int32) (x4 : Int32) (x5 : Int32) (x7 : Int32) (s0 : Int32) (w : GW) : Prop :=
    (∀ v4_1 : Int32, v4_1 = (gMin x4 x7) →
     (∀ v5_2 : Int32, v5_2 = x5 + 1 →
      (K37 s0 v4_1 v5_2)))
def PX0_ask_107 (K37 : Int32 → Int32 → Int32 → Prop) (K59 : Int32 → Int32 → Prop) (Q : Int32 → GW → Prop) (x1 : Int32) (x2 : Int32) (x3 : Int32) (x4 : Int32) (x5 : Int32) (x7 : Int32) (s0 : Int32) (s1 : Int32) (w : GW) : Prop :=
    (∀ v6_3 : Int32, v6_3 = (s0 + s1) →
     (∀ v7_4 : Int32, v7_4 = x7 + 1 →
      (K59 v6_3 v7_4)))
def PX0_ask_106 (K37 : Int32 → Int32 → Int32 → Prop) (K59 : Int32 → Int32 → Prop) (Q : Int32 → GW → Prop) (x1 : Int32) (x2 : Int32) (x3 : Int32) (x4 : Int32) (x5 : Int32) (x7 : Int32) (s0 : Int32) (w : GW) : Prop :=
    (PX0_ask_107 K37 K59 Q x1 x2 x3 x4 x5 x7 s0 0 w)
def PX0_ask_59 (K37 : Int32 → Int32 → Int32 → Prop) (Q : Int32 → GW → Prop) (x1 : Int32) (x2 : Int32) (x3 : Int32) (x4 : Int32) (x5 : Int32) (w : GW) : Nat → Int32 → Int32 → Prop
  | 0, _, _ => False
  | n + 1, x6, x7 =>
    (((gMin 4300 (1000 * (x1 + 1))) ≤ x7 →
      (∀ v7_6 : Int32, v7_6 = (gMax x6 (x2 - x6)) →
       ((x4 ≤ v7_6 →
         (PX0_ask_140 K37 Q x1 x2 x4 x5 v7_6 x3 w)) ∧
        (¬ x4 ≤ v7_6 →
         (PX0_ask_140 K37 Q x1 x2 x4 x5 v7_6 x5 w))))) ∧
     (¬ (gMin 4300 (1000 * (x1 + 1))) ≤ x7 →
      (PX0_isBall x7 (fun r_8 =>
        ((r_8 = 0 →
          (PX0_ask_106 K37 (PX0_ask_59 K37 Q x1 x2 x3 x4 x5 w n) Q x1 x2 x3 x4 x5 x7 x6 w)) ∧
         (¬ r_8 = 0 →
          (vp_in x7 4300 ∧
           (PX0_has (w 22 (x7).toNatClampNeg) x5 (fun r_10 =>
             ((r_10 = 0 →
               (PX0_ask_106 K37 (PX0_ask_59 K37 Q x1 x2 x3 x4 x5 w n) Q x1 x2 x3 x4 x5 x7 x6 w)) ∧
              (¬ r_10 = 0 →
               (PX0_ask_107 K37 (PX0_ask_59 K37 Q x1 x2 x3 x4 x5 w n) Q x1 x2 x3 x4 x5 x7 x6 1 w))))))))))))
def PX0_ask_37 (Q : Int32 → GW → Prop) (x1 : Int32) (x2 : Int32) (w : GW) : Nat → Int32 → Int32 → Int32 → Prop
  | 0, _, _, _ => False
  | n + 1, x3, x4, x5 =>
    (((w 2 4) ≤ x5 →
      (Q x3 w)) ∧
     (¬ (w 2 4) ≤ x5 →
      (∀ v7_13 : Int32, v7_13 = (1000 * x1) →
       (∃ n_14 : Nat, PX0_ask_59 (PX0_ask_37 Q x1 x2 w n) Q x1 x2 x3 x4 x5 w n_14 0 v7_13))))
def PX0_ask   (x1 : Int32) (w : GW) (Q : Int32 → GW → Prop) : Prop :=
    (PX0_isIn x1 0 4 (fun r_15 =>
      ((¬ r_15 = 0 →
        (PX0_isCounty w (fun r_17 =>
          ((¬ r_17 = 0 →
            (PX0_layFells w (fun w_20 =>
              (∃ n_21 : Nat, PX0_ask_37 Q x1 120 w_20 n_21 (-1) 120 0)))) ∧
           (r_17 = 0 →
            (Q (-1000000003) w)))))) ∧
       (r_15 = 0 →
        (Q (-1000000002) w)))))
def PX0_calm_30 (Q : Int32 → Prop) (x1 : Int32) (x2 : Int32)  : Nat → Int64 → Int32 → Prop
  | 0, _, _ => False
  | n + 1, x3, x5 =>
    ((x1 ≤ x5 →
      (Q (x3).toInt32)) ∧
     (¬ x1 ≤ x5 →
      (∀ v3_2 : Int64, v3_2 = ((x3 * (x2).toInt64) / (100 : Int64)) →
       (∀ v5_3 : Int32, v5_3 = x5 + 1 →
        ((PX0_calm_30 Q x1 x2 n) v3_2 v5_3)))))
def PX0_calm   (x1 : Int32) (x2 : Int32)  (Q : Int32 → Prop) : Prop :=
    (PX0_isIn x1 0 60 (fun r_4 =>
      ((r_4 = 0 →
        (Q (-1000000002))) ∧
       (¬ r_4 = 0 →
        (PX0_isIn x2 0 100 (fun r_6 =>
          ((¬ r_6 = 0 →
            (∀ v3_8 : Int64, v3_8 = (1000000000 : Int64) →
             (∃ n_9 : Nat, PX0_calm_30 Q x1 x2 n_9 v3_8 0))) ∧
           (r_6 = 0 →
            (Q (-1000000002))))))))))
def PX0_write   (x1 : Int32) (x2 : Int32) (w : GW) (Q : Int32 → GW → Prop) : Prop :=
    (PX0_isSkittle x1 w (fun r_1 =>
      ((¬ r_1 = 0 →
        ((¬ (w 0 8) = 15 →
          (vp_in (w 0 8) 15 ∧
           (∀ w_4 : GW, w_4 = gS w 19 ((w 0 8)).toNatClampNeg x1 →
            (gBool x2 ∧
             (vp_in (w_4 0 8) 15 ∧
              (∀ w_5 : GW, w_5 = gS w_4 20 ((w_4 0 8)).toNatClampNeg x2 →
               (∀ w_6 : GW, w_6 = gS w_5 0 8 ((w_5 0 8) + 1) →
                (Q (w_6 0 8) w_6)))))))) ∧
         ((w 0 8) = 15 →
          (Q (-1000000004) w)))) ∧
       (r_1 = 0 →
        (Q (-1000000001) w)))))
def PX0_tear    (w : GW) (Q : Int32 → GW → Prop) : Prop :=
    (∀ v1_1 : Int32, v1_1 = (w 0 8) →
     (∀ w_2 : GW, w_2 = gS w 0 8 0 →
      (Q v1_1 w_2)))
def PX0_judge_2 (Q : Int32 → Prop)  (w : GW) : Nat → Int32 → Prop
  | 0, _ => False
  | n + 1, x1 =>
    (((w 0 8) ≤ x1 →
      (Q (-1))) ∧
     (¬ (w 0 8) ≤ x1 →
      (vp_in x1 15 ∧
       (PX0_has (w 6 5) (w 19 (x1).toNatClampNeg) (fun r_2 =>
         (vp_in x1 15 ∧
          ((r_2 = (w 20 (x1).toNatClampNeg) →
            (∀ v1_4 : Int32, v1_4 = x1 + 1 →
             ((PX0_judge_2 Q w n) v1_4))) ∧
           (¬ r_2 = (w 20 (x1).toNatClampNeg) →
            (Q x1)))))))))
def PX0_judge    (w : GW) (Q : Int32 → Prop) : Prop :=
    (∃ n_5 : Nat, PX0_judge_2 Q w n_5 0)
def PX0_seed   (x1 : Int32) (w : GW) (Q : Int32 → GW → Prop) : Prop :=
    ((0 ≤ x1 →
      (∀ v2_2 : Int32, v2_2 = (w 6 8) →
       (∀ w_3 : GW, w_3 = gS w 6 8 x1 →
        (Q v2_2 w_3)))) ∧
     (¬ 0 ≤ x1 →
      (Q (-1000000002) w)))
def PX0_keep   (x1 : Int32) (w : GW) (Q : Int32 → GW → Prop) : Prop :=
    (PX0_isIn x1 0 1 (fun r_1 =>
      ((¬ r_1 = 0 →
        (vp_in x1 2 ∧
         (PX2_set (gIm x1) 6 w (fun w_5 =>
           (vp_in x1 2 ∧
            (∀ w_7 : GW, w_7 = gS w_5 (gIm x1) 9 1 →
             (∀ w_8 : GW, w_8 = gS w_7 0 5 0 →
              (Q 1 w_8)))))))) ∧
       (r_1 = 0 →
        (Q (-1000000001) w)))))
def PX0_goBack   (x1 : Int32) (w : GW) (Q : Int32 → GW → Prop) : Prop :=
    (PX0_isIn x1 0 1 (fun r_1 =>
      ((¬ r_1 = 0 →
        (vp_in x1 2 ∧
         ((¬ (w (gIm x1) 9) = 0 →
           (vp_in x1 2 ∧
            (PX2_set 6 (gIm x1) w (fun w_7 =>
              (∀ w_8 : GW, w_8 = gS w_7 0 5 0 →
               (Q 1 w_8)))))) ∧
          ((w (gIm x1) 9) = 0 →
           (Q (-1000000003) w))))) ∧
       (r_1 = 0 →
        (Q (-1000000001) w)))))
