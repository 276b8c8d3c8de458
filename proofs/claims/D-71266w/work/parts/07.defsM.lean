/-! the reference's methods as predicates: P<method> args world Q: every check on the way holds, and Q of the answer and the world behind it -/
set_option maxRecDepth 100000
def PX7_in   (x0 : Int32) (x1 : Int32) (x2 : Int32)  (Q : Int32 → Prop) : Prop :=
    ((x0 < x1 →
      (Q 0)) ∧
     (¬ x0 < x1 →
      ((x2 < x0 →
        (Q 0)) ∧
       (¬ x2 < x0 →
        (Q 1)))))
def PX7_feed   (x1 : Int32) (w : GW) (Q : Int32 → GW → Prop) : Prop :=
    (∀ w_1 : GW, w_1 = gS w 0 0 0 →
     (PX7_in x1 0 255 (fun r_2 =>
       ((¬ r_2 = 0 →
         ((¬ (w_1 0 2) = 240 →
           (vp_in (w_1 0 2) 240 ∧
            (∀ w_5 : GW, w_5 = gS w_1 1 ((w_1 0 2)).toNatClampNeg x1 →
             (∀ w_6 : GW, w_6 = gS w_5 0 2 ((w_5 0 2) + 1) →
              (Q (w_6 0 2) w_6))))) ∧
          ((w_1 0 2) = 240 →
           (Q (-1000000004) w_1)))) ∧
        (r_2 = 0 →
         (Q (-1000000002) w_1))))))
def PX7_letterAt   (x1 : Int32) (w : GW) (Q : Int32 → Prop) : Prop :=
    (((w 0 2) ≤ x1 →
      (Q (-1))) ∧
     (¬ (w 0 2) ≤ x1 →
      (vp_in x1 240 ∧
       (Q (w 1 (x1).toNatClampNeg)))))
def PX7_blanks_0 (Q : GW → Prop)   : Nat → GW → Prop
  | 0, _ => False
  | n + 1, w =>
    (PX7_letterAt (w 0 3) w (fun r_1 =>
      ((¬ r_1 = 32 →
        (Q w)) ∧
       (r_1 = 32 →
        (∀ w_3 : GW, w_3 = gS w 0 3 ((w 0 3) + 1) →
         ((PX7_blanks_0 Q n) w_3))))))
def PX7_blanks    (w : GW) (Q : GW → Prop) : Prop :=
    (∃ n_4 : Nat, PX7_blanks_0 Q n_4 w)
def PX7_isWell    (w : GW) (Q : Int32 → Prop) : Prop :=
    ((¬ (w 0 4) = 0 →
      (Q 0)) ∧
     ((w 0 4) = 0 →
      (Q 1)))
def PX7_faulty   (x1 : Int32) (x2 : Int32) (w : GW) (Q : GW → Prop) : Prop :=
    (PX7_isWell w (fun r_1 =>
      ((r_1 = 0 →
        (Q w)) ∧
       (¬ r_1 = 0 →
        (∀ w_3 : GW, w_3 = gS w 0 4 x1 →
         (∀ w_4 : GW, w_4 = gS w_3 0 5 x2 →
          (Q w_4)))))))
def PX7_due_112 (Q : Int32 → GW → Prop) (x3 : Int32) (x4 : Int32) (w : GW) : Prop :=
    (PX7_faulty 2 x3 w (fun w_2 =>
      (Q x4 w_2)))
def PX7_due_60 (K12 : Int32 → GW → Prop) (Q : Int32 → GW → Prop) (x1 : Int32) (x2 : Int32) (x3 : Int32) (s0 : Int32) (w : GW) : Prop :=
    (∀ w_3 : GW, w_3 = gS w 0 3 ((w 0 3) + 1) →
     (K12 s0 w_3))
def PX7_due_12 (Q : Int32 → GW → Prop) (x1 : Int32) (x2 : Int32) (x3 : Int32)  : Nat → Int32 → GW → Prop
  | 0, _, _ => False
  | n + 1, x4, w =>
    (PX7_letterAt (w 0 3) w (fun r_4 =>
      (PX7_in r_4 48 57 (fun r_5 =>
        ((r_5 = 0 →
          ((¬ (w 0 3) = x3 →
            ((3 < ((w 0 3) - x3) →
              (PX7_due_112 Q x3 x4 w)) ∧
             (¬ 3 < ((w 0 3) - x3) →
              (PX7_in x4 x1 x2 (fun r_9 =>
                ((¬ r_9 = 0 →
                  (Q x4 w)) ∧
                 (r_9 = 0 →
                  (PX7_due_112 Q x3 x4 w)))))))) ∧
           ((w 0 3) = x3 →
            (PX7_faulty 1 x3 w (fun w_12 =>
              (Q x4 w_12)))))) ∧
         (¬ r_5 = 0 →
          ((x4 ≤ 9999 →
            (PX7_letterAt (w 0 3) w (fun r_14 =>
              (PX7_due_60 (PX7_due_12 Q x1 x2 x3 n) Q x1 x2 x3 (((10 * x4) + r_14) - 48) w)))) ∧
           (¬ x4 ≤ 9999 →
            (PX7_due_60 (PX7_due_12 Q x1 x2 x3 n) Q x1 x2 x3 x4 w)))))))))
def PX7_due   (x1 : Int32) (x2 : Int32) (w : GW) (Q : Int32 → GW → Prop) : Prop :=
    (PX7_blanks w (fun w_16 =>
      (∀ v3_17 : Int32, v3_17 = (w_16 0 3) →
       (∃ n_18 : Nat, PX7_due_12 Q x1 x2 v3_17 n_18 0 w_16))))
def PX7_tells_63 (Q : GW → Prop)  (w : GW) : Prop :=
    (∀ w_1 : GW, w_1 = gS w 0 11 ((w 0 11) + 1) →
     (Q w_1))
def PX7_tells_40 (Q : GW → Prop) (x1 : Int32) (w : GW) : Prop :=
    (PX7_isWell w (fun r_2 =>
      ((r_2 = 0 →
        (PX7_tells_63 Q w)) ∧
       (¬ r_2 = 0 →
        (PX7_due 0 9 w (fun r_4 w_5 =>
          (vp_in (18 + x1) 27 ∧
           (∀ w_6 : GW, w_6 = gS w_5 2 ((18 + x1)).toNatClampNeg r_4 →
            (PX7_tells_63 Q w_6)))))))))
def PX7_tells    (w : GW) (Q : GW → Prop) : Prop :=
    (∀ v1_7 : Int32, v1_7 = (w 0 11) →
     (PX7_due 0 3 w (fun r_8 w_9 =>
       (vp_in v1_7 27 ∧
        (∀ w_10 : GW, w_10 = gS w_9 2 (v1_7).toNatClampNeg r_8 →
         (PX7_isWell w_10 (fun r_11 =>
           ((r_11 = 0 →
             (PX7_tells_40 Q v1_7 w_10)) ∧
            (¬ r_11 = 0 →
             (PX7_due 1 20 w_10 (fun r_13 w_14 =>
               (vp_in (9 + v1_7) 27 ∧
                (∀ w_15 : GW, w_15 = gS w_14 2 ((9 + v1_7)).toNatClampNeg r_13 →
                 (PX7_tells_40 Q v1_7 w_15))))))))))))))
def PX7_ends_26 (Q : GW → Prop)  (w : GW) : Prop :=
    (∀ w_1 : GW, w_1 = gS w 0 3 ((w 0 3) + 1) →
     (Q w_1))
def PX7_ends    (w : GW) (Q : GW → Prop) : Prop :=
    (PX7_blanks w (fun w_3 =>
      (PX7_letterAt (w_3 0 3) w_3 (fun r_4 =>
        ((r_4 = 59 →
          (PX7_ends_26 Q w_3)) ∧
         (¬ r_4 = 59 →
          (PX7_faulty 1 (w_3 0 3) w_3 (fun w_7 =>
            (PX7_ends_26 Q w_7)))))))))
def PX7_reads_144 (K6 : Int32 → GW → Prop) (Q : GW → Prop) (x1 : Int32) (w : GW) : Prop :=
    (PX7_isWell w (fun r_1 =>
      ((r_1 = 0 →
        (K6 x1 w)) ∧
       (¬ r_1 = 0 →
        (PX7_ends w (fun w_4 =>
          (PX7_blanks w_4 (fun w_6 =>
            (K6 x1 w_6)))))))))
def PX7_reads_108 (K6 : Int32 → GW → Prop) (Q : GW → Prop) (x1 : Int32) (x2 : Int32) (w : GW) : Prop :=
    (∀ w_7 : GW, w_7 = gS w 0 3 ((w 0 3) + 1) →
     ((¬ x2 = 103 →
       (PX7_tells w_7 (fun w_10 =>
         (PX7_reads_144 K6 Q x1 w_10)))) ∧
      (x2 = 103 →
       (PX7_due 0 9 w_7 (fun r_11 w_12 =>
         (∀ w_13 : GW, w_13 = gS w_12 0 10 r_11 →
          (PX7_reads_144 K6 Q 1 w_13)))))))
def PX7_reads_96 (K6 : Int32 → GW → Prop) (Q : GW → Prop) (x1 : Int32) (w : GW) : Prop :=
    (PX7_faulty 3 (w 0 3) w (fun w_15 =>
      (K6 x1 w_15)))
def PX7_reads_81 (K6 : Int32 → GW → Prop) (Q : GW → Prop) (x1 : Int32) (x2 : Int32) (w : GW) : Prop :=
    ((¬ x2 = 115 →
      (PX7_reads_108 K6 Q x1 x2 w)) ∧
     (x2 = 115 →
      ((¬ (w 0 11) = 9 →
        (PX7_reads_108 K6 Q x1 x2 w)) ∧
       ((w 0 11) = 9 →
        (PX7_reads_96 K6 Q x1 w)))))
def PX7_reads_54 (K6 : Int32 → GW → Prop) (Q : GW → Prop) (x1 : Int32) (x2 : Int32) (s0 : Int32) (w : GW) : Prop :=
    ((¬ s0 = 0 →
      ((¬ x2 = 103 →
        (PX7_reads_81 K6 Q x1 x2 w)) ∧
       (x2 = 103 →
        ((¬ x1 = 0 →
          (PX7_reads_96 K6 Q x1 w)) ∧
         (x1 = 0 →
          (PX7_reads_81 K6 Q x1 x2 w)))))) ∧
     (s0 = 0 →
      (PX7_faulty 1 (w 0 3) w (fun w_22 =>
        (K6 x1 w_22)))))
def PX7_reads_49 (K6 : Int32 → GW → Prop) (Q : GW → Prop) (x1 : Int32) (x2 : Int32) (w : GW) : Prop :=
    (PX7_reads_54 K6 Q x1 x2 1 w)
def PX7_reads_53 (K6 : Int32 → GW → Prop) (Q : GW → Prop) (x1 : Int32) (x2 : Int32) (w : GW) : Prop :=
    (PX7_reads_54 K6 Q x1 x2 0 w)
def PX7_reads_6 (Q : GW → Prop)   : Nat → Int32 → GW → Prop
  | 0, _, _ => False
  | n + 1, x1, w =>
    (PX7_isWell w (fun r_23 =>
      ((r_23 = 0 →
        (Q w)) ∧
       (¬ r_23 = 0 →
        (((w 0 2) ≤ (w 0 3) →
          (Q w)) ∧
         (¬ (w 0 2) ≤ (w 0 3) →
          (PX7_letterAt (w 0 3) w (fun r_26 =>
            ((r_26 = 103 →
              (PX7_reads_49 (PX7_reads_6 Q n) Q x1 r_26 w)) ∧
             (¬ r_26 = 103 →
              ((¬ r_26 = 115 →
                (PX7_reads_53 (PX7_reads_6 Q n) Q x1 r_26 w)) ∧
               (r_26 = 115 →
                ((x1 = 0 →
                  (PX7_reads_53 (PX7_reads_6 Q n) Q x1 r_26 w)) ∧
                 (¬ x1 = 0 →
                  (PX7_reads_49 (PX7_reads_6 Q n) Q x1 r_26 w)))))))))))))))
def PX7_reads    (w : GW) (Q : GW → Prop) : Prop :=
    (PX7_blanks w (fun w_31 =>
      (∃ n_32 : Nat, PX7_reads_6 Q n_32 0 w_31)))
def PX7_settles_155 (K35 : Int32 → GW → Prop) (Q : GW → Prop) (x1 : Int32) (s1 : Int32) (s2 : Int32) (w : GW) : Prop :=
    (vp_in s1 49 ∧
     (∀ w_1 : GW, w_1 = gS w 4 (s1).toNatClampNeg s2 →
      (∀ v1_2 : Int32, v1_2 = x1 + 1 →
       (K35 v1_2 w_1))))
def PX7_settles_129 (K35 : Int32 → GW → Prop) (Q : GW → Prop) (x1 : Int32) (x2 : Int32) (s1 : Int32) (s2 : Int32) (w : GW) : Prop :=
    (vp_in s1 9 ∧
     (∀ w_3 : GW, w_3 = gS w 3 (s1).toNatClampNeg s2 →
      ((x2 = 0 →
        (PX7_settles_155 K35 Q x1 (36 + x1) 0 w_3)) ∧
       (¬ x2 = 0 →
        (vp_in (18 + x1) 27 ∧
         (PX7_settles_155 K35 Q x1 (36 + x1) (w_3 2 ((18 + x1)).toNatClampNeg) w_3))))))
def PX7_settles_106 (K35 : Int32 → GW → Prop) (Q : GW → Prop) (x1 : Int32) (x2 : Int32) (s1 : Int32) (s2 : Int32) (w : GW) : Prop :=
    (vp_in s1 49 ∧
     (∀ w_5 : GW, w_5 = gS w 4 (s1).toNatClampNeg s2 →
      ((x2 = 0 →
        (PX7_settles_129 K35 Q x1 x2 x1 0 w_5)) ∧
       (¬ x2 = 0 →
        (vp_in (9 + x1) 27 ∧
         (PX7_settles_129 K35 Q x1 x2 x1 (w_5 2 ((9 + x1)).toNatClampNeg) w_5))))))
def PX7_settles_54 (K35 : Int32 → GW → Prop) (Q : GW → Prop) (x1 : Int32) (s0 : Int32) (w : GW) : Prop :=
    (vp_in (0 + x1) 49 ∧
     (∀ w_7 : GW, w_7 = gS w 4 ((0 + x1)).toNatClampNeg x1 →
      (vp_in (9 + x1) 49 ∧
       (∀ w_8 : GW, w_8 = gS w_7 4 ((9 + x1)).toNatClampNeg 0 →
        (vp_in (18 + x1) 49 ∧
         (∀ w_9 : GW, w_9 = gS w_8 4 ((18 + x1)).toNatClampNeg (-1) →
          ((s0 = 0 →
            (PX7_settles_106 K35 Q x1 s0 (27 + x1) 0 w_9)) ∧
           (¬ s0 = 0 →
            (vp_in x1 27 ∧
             (PX7_settles_106 K35 Q x1 s0 (27 + x1) (w_9 2 (x1).toNatClampNeg) w_9))))))))))
def PX7_settles_35 (Q : GW → Prop)   : Nat → Int32 → GW → Prop
  | 0, _, _ => False
  | n + 1, x1, w =>
    ((9 ≤ x1 →
      (∀ w_12 : GW, w_12 = gS w 4 45 ((1 <<< ((w 0 9) &&& 31)) - 1) →
       (∀ w_13 : GW, w_13 = gS w_12 4 46 0 →
        (∀ w_14 : GW, w_14 = gS w_13 4 47 0 →
         (∀ w_15 : GW, w_15 = gS w_14 0 21 0 →
          (∀ w_16 : GW, w_16 = gS w_15 0 18 0 →
           (∀ w_17 : GW, w_17 = gS w_16 6 0 0 →
            (∀ w_18 : GW, w_18 = gS w_17 6 1 0 →
             (Q w_18))))))))) ∧
     (¬ 9 ≤ x1 →
      (((w 0 9) ≤ x1 →
        (PX7_settles_54 (PX7_settles_35 Q n) Q x1 0 w)) ∧
       (¬ (w 0 9) ≤ x1 →
        (PX7_settles_54 (PX7_settles_35 Q n) Q x1 1 w)))))
def PX7_settles_14 (Q : GW → Prop) (s1 : Int32) (w : GW) : Prop :=
    (gBool s1 ∧
     (∀ w_20 : GW, w_20 = gS w 0 7 s1 →
      (∀ w_21 : GW, w_21 = gS w_20 0 8 (w_20 0 10) →
       (∀ w_22 : GW, w_22 = gS w_21 0 9 (w_21 0 11) →
        (∃ n_23 : Nat, PX7_settles_35 Q n_23 0 w_22)))))
def PX7_settles    (w : GW) (Q : GW → Prop) : Prop :=
    (((w 0 10) = (-1) →
      (PX7_settles_14 Q 0 w)) ∧
     (¬ (w 0 10) = (-1) →
      (PX7_settles_14 Q 1 w)))
def PX7_county_50 (Q : Int32 → GW → Prop) (s1 : Int32) (w : GW) : Prop :=
    (∀ w_1 : GW, w_1 = gS w 0 6 s1 →
     (PX7_isWell w_1 (fun r_2 =>
       ((¬ r_2 = 0 →
         (PX7_settles w_1 (fun w_5 =>
           (Q (w_5 0 9) w_5)))) ∧
        (r_2 = 0 →
         (Q ((-10) - (w_1 0 4)) w_1))))))
def PX7_county    (w : GW) (Q : Int32 → GW → Prop) : Prop :=
    (∀ w_6 : GW, w_6 = gS w 0 0 0 →
     (∀ w_7 : GW, w_7 = gS w_6 0 3 0 →
      (∀ w_8 : GW, w_8 = gS w_7 0 4 0 →
       (∀ w_9 : GW, w_9 = gS w_8 0 10 (-1) →
        (∀ w_10 : GW, w_10 = gS w_9 0 11 0 →
         (PX7_reads w_10 (fun w_12 =>
           (∀ w_13 : GW, w_13 = gS w_12 0 2 0 →
            (PX7_isWell w_13 (fun r_14 =>
              ((r_14 = 0 →
                (PX7_county_50 Q (w_13 0 5) w_13)) ∧
               (¬ r_14 = 0 →
                (PX7_county_50 Q (-1) w_13)))))))))))))
def PX7_fault    (w : GW) (Q : Int32 → GW → Prop) : Prop :=
    (∀ w_1 : GW, w_1 = gS w 0 0 0 →
     (Q (w_1 0 6) w_1))
def PX7_rowOf   (x0 : Int32)  (Q : Int32 → Prop) : Prop :=
    ((¬ x0 = 0 →
      ((3 ≤ x0 →
        ((6 ≤ x0 →
          ((8 ≤ x0 →
            (Q 4)) ∧
           (¬ 8 ≤ x0 →
            (Q 3)))) ∧
         (¬ 6 ≤ x0 →
          (Q 2)))) ∧
       (¬ 3 ≤ x0 →
        (Q 1)))) ∧
     (x0 = 0 →
      (Q 0)))
def PX7_bearsOn_79 (Q : Int32 → Prop) (s0 : Int32) (s1 : Int32) (w : GW) : Prop :=
    (∀ v5_1 : Int32, v5_1 = (s0 + s1) →
     ((1 ≤ v5_1 →
       (Q v5_1)) ∧
      (¬ 1 ≤ v5_1 →
       (Q 1))))
def PX7_bearsOn_78 (Q : Int32 → Prop) (s0 : Int32) (w : GW) : Prop :=
    (PX7_bearsOn_79 Q s0 0 w)
def PX7_bearsOn_58 (Q : Int32 → Prop) (x2 : Int32) (x3 : Int32) (s0 : Int32) (w : GW) : Prop :=
    ((¬ x3 = 2 →
      (PX7_bearsOn_78 Q s0 w)) ∧
     (x3 = 2 →
      (PX7_rowOf x2 (fun r_4 =>
        ((¬ r_4 = 0 →
          (PX7_bearsOn_78 Q s0 w)) ∧
         (r_4 = 0 →
          (PX7_bearsOn_79 Q s0 2 w)))))))
def PX7_bearsOn_57 (Q : Int32 → Prop) (x2 : Int32) (x3 : Int32) (s0 : Int32) (s1 : Int32) (w : GW) : Prop :=
    (PX7_bearsOn_58 Q x2 x3 (s0 - s1) w)
def PX7_bearsOn   (x1 : Int32) (x2 : Int32) (w : GW) (Q : Int32 → Prop) : Prop :=
    (vp_in (27 + x1) 49 ∧
     (∀ v3_6 : Int32, v3_6 = (w 4 ((27 + x1)).toNatClampNeg) →
      (vp_in (36 + x1) 49 ∧
       (∀ v4_7 : Int32, v4_7 = (w 4 ((36 + x1)).toNatClampNeg) →
        ((¬ v3_6 = 3 →
          (vp_in x1 9 ∧
           ((¬ v3_6 = 1 →
             (PX7_bearsOn_57 Q x2 v3_6 (w 3 (x1).toNatClampNeg) v4_7 w)) ∧
            (v3_6 = 1 →
             (PX7_bearsOn_57 Q x2 v3_6 (w 3 (x1).toNatClampNeg) (v4_7 / 2) w))))) ∧
         (v3_6 = 3 →
          (vp_in x1 9 ∧
           (PX7_bearsOn_58 Q x2 v3_6 ((w 3 (x1).toNatClampNeg) / 2) w))))))))
def PX7_sets_63 (K23 : Int32 → GW → Prop) (Q : GW → Prop) (x1 : Int32) (x2 : Int32) (x3 : Int32) (s0 : Int32) (w : GW) : Prop :=
    (vp_in s0 9 ∧
     (∀ w_1 : GW, w_1 = gS w 10 (s0).toNatClampNeg x3 →
      (PX7_bearsOn x3 s0 w_1 (fun r_2 =>
        (vp_in x3 9 ∧
         (∀ w_3 : GW, w_3 = gS w_1 11 (x3).toNatClampNeg r_2 →
          (∀ v3_4 : Int32, v3_4 = x3 + 1 →
           (K23 v3_4 w_3))))))))
def PX7_sets_23 (Q : GW → Prop) (x1 : Int32) (x2 : Int32)  : Nat → Int32 → GW → Prop
  | 0, _, _ => False
  | n + 1, x3, w =>
    (((w 0 9) ≤ x3 →
      (Q w)) ∧
     (¬ (w 0 9) ≤ x3 →
      (vp_in (0 + x3) 49 ∧
       (∀ v4_6 : Int32, v4_6 = (w 4 ((0 + x3)).toNatClampNeg) →
        ((¬ v4_6 = x1 →
          ((¬ v4_6 = x2 →
            (PX7_sets_63 (PX7_sets_23 Q x1 x2 n) Q x1 x2 x3 v4_6 w)) ∧
           (v4_6 = x2 →
            (PX7_sets_63 (PX7_sets_23 Q x1 x2 n) Q x1 x2 x3 x1 w)))) ∧
         (v4_6 = x1 →
          (PX7_sets_63 (PX7_sets_23 Q x1 x2 n) Q x1 x2 x3 x2 w)))))))
def PX7_sets_2 (Q : GW → Prop) (x1 : Int32) (x2 : Int32)  : Nat → Int32 → GW → Prop
  | 0, _, _ => False
  | n + 1, x3, w =>
    ((9 ≤ x3 →
      (∃ n_10 : Nat, PX7_sets_23 Q x1 x2 n_10 0 w)) ∧
     (¬ 9 ≤ x3 →
      (vp_in x3 9 ∧
       (∀ w_11 : GW, w_11 = gS w 10 (x3).toNatClampNeg (-1) →
        (∀ v3_12 : Int32, v3_12 = x3 + 1 →
         ((PX7_sets_2 Q x1 x2 n) v3_12 w_11))))))
def PX7_sets   (x1 : Int32) (x2 : Int32) (w : GW) (Q : GW → Prop) : Prop :=
    (∃ n_13 : Nat, PX7_sets_2 Q x1 x2 n_13 0 w)
def PX7_columnOf   (x0 : Int32)  (Q : Int32 → Prop) : Prop :=
    ((x0 = 0 →
      (Q 2)) ∧
     (¬ x0 = 0 →
      ((¬ x0 = 8 →
        ((3 ≤ x0 →
          ((6 ≤ x0 →
            (Q ((2 * x0) - 11))) ∧
           (¬ 6 ≤ x0 →
            (Q ((2 * x0) - 6))))) ∧
         (¬ 3 ≤ x0 →
          (Q ((2 * x0) - 1))))) ∧
       (x0 = 8 →
        (Q 2)))))
def PX7_plateAt_2 (Q : Int32 → Prop) (x0 : Int32) (x1 : Int32)  : Nat → Int32 → Prop
  | 0, _ => False
  | n + 1, x2 =>
    ((9 ≤ x2 →
      (Q (-1))) ∧
     (¬ 9 ≤ x2 →
      (PX7_rowOf x2 (fun r_2 =>
        ((¬ r_2 = x0 →
          (∀ v2_4 : Int32, v2_4 = x2 + 1 →
           ((PX7_plateAt_2 Q x0 x1 n) v2_4))) ∧
         (r_2 = x0 →
          (PX7_columnOf x2 (fun r_5 =>
            ((¬ r_5 = x1 →
              (∀ v2_7 : Int32, v2_7 = x2 + 1 →
               ((PX7_plateAt_2 Q x0 x1 n) v2_7))) ∧
             (r_5 = x1 →
              (Q x2)))))))))))
def PX7_plateAt   (x0 : Int32) (x1 : Int32)  (Q : Int32 → Prop) : Prop :=
    (∃ n_8 : Nat, PX7_plateAt_2 Q x0 x1 n_8 0)
def PX7_has   (x0 : Int32) (x1 : Int32)  (Q : Int32 → Prop) : Prop :=
    ((¬ ((x0 >>> (x1 &&& 31)) &&& 1) = 1 →
      (Q 0)) ∧
     (((x0 >>> (x1 &&& 31)) &&& 1) = 1 →
      (Q 1)))
def PX7_fallsNow   (x1 : Int32) (x2 : Int32) (w : GW) (Q : GW → Prop) : Prop :=
    (∀ w_1 : GW, w_1 = gS w 0 26 ((w 0 26) &&& ((1 <<< (x1 &&& 31)) ^^^ (-1))) →
     (vp_in x1 9 ∧
      (∀ w_2 : GW, w_2 = gS w_1 13 (x1).toNatClampNeg x2 →
       (Q w_2))))
def PX7_plateOf_2 (Q : Int32 → Prop) (x1 : Int32) (w : GW) : Nat → Int32 → Prop
  | 0, _ => False
  | n + 1, x2 =>
    (vp_in x2 9 ∧
     (((w 10 (x2).toNatClampNeg) = x1 →
       (Q x2)) ∧
      (¬ (w 10 (x2).toNatClampNeg) = x1 →
       (∀ v2_2 : Int32, v2_2 = x2 + 1 →
        ((PX7_plateOf_2 Q x1 w n) v2_2)))))
def PX7_plateOf   (x1 : Int32) (w : GW) (Q : Int32 → Prop) : Prop :=
    (∃ n_3 : Nat, PX7_plateOf_2 Q x1 w n_3 0)
def PX7_rocksNow   (x1 : Int32) (w : GW) (Q : GW → Prop) : Prop :=
    (vp_in x1 9 ∧
     (vp_in x1 9 ∧
      (∀ w_1 : GW, w_1 = gS w 12 (x1).toNatClampNeg ((w 12 (x1).toNatClampNeg) + 1) →
       (∀ w_2 : GW, w_2 = gS w_1 0 27 ((w_1 0 27) + 1) →
        (Q w_2)))))
def PX7_falls_122 (K29 : Int32 → GW → Prop) (Q : GW → Prop) (x3 : Int32) (x6 : Int32) (s0 : Int32) (w : GW) : Prop :=
    ((s0 = (-1) →
      (K29 x3 w)) ∧
     (¬ s0 = (-1) →
      (PX7_has (w 0 26) s0 (fun r_2 =>
        ((r_2 = 0 →
          (K29 x3 w)) ∧
         (¬ r_2 = 0 →
          ((x6 ≤ 0 →
            (K29 x3 w)) ∧
           (¬ x6 ≤ 0 →
            (vp_in s0 9 ∧
             ((x6 < (w 11 (s0).toNatClampNeg) →
               (PX7_rocksNow s0 w (fun w_7 =>
                 (K29 x3 w_7)))) ∧
              (¬ x6 < (w 11 (s0).toNatClampNeg) →
               (vp_in x3 10 ∧
                (PX7_fallsNow s0 (w 14 (x3).toNatClampNeg) w (fun w_9 =>
                  (∀ v3_10 : Int32, v3_10 = x3 + 1 →
                   (vp_in v3_10 10 ∧
                    (∀ w_11 : GW, w_11 = gS w_9 14 (v3_10).toNatClampNeg s0 →
                     (vp_in v3_10 10 ∧
                      (∀ w_12 : GW, w_12 = gS w_11 15 (v3_10).toNatClampNeg x6 →
                       (vp_in v3_10 10 ∧
                        (∀ w_13 : GW, w_13 = gS w_12 16 (v3_10).toNatClampNeg (-1) →
                         (K29 v3_10 w_13))))))))))))))))))))))
def PX7_falls_29 (Q : GW → Prop)   : Nat → Int32 → GW → Prop
  | 0, _, _ => False
  | n + 1, x3, w =>
    ((x3 < 0 →
      (Q w)) ∧
     (¬ x3 < 0 →
      (vp_in x3 10 ∧
       (((w 16 (x3).toNatClampNeg) ≤ 1 →
         (vp_in x3 10 ∧
          (PX7_plateOf (w 14 (x3).toNatClampNeg) w (fun r_16 =>
            (PX7_rowOf r_16 (fun r_17 =>
              (PX7_columnOf r_16 (fun r_18 =>
                (vp_in x3 10 ∧
                 (PX7_plateAt (r_17 + 1) (r_18 + (w 16 (x3).toNatClampNeg)) (fun r_19 =>
                   (vp_in x3 10 ∧
                    (∀ v6_20 : Int32, v6_20 = ((w 15 (x3).toNatClampNeg) / 2) →
                     (vp_in x3 10 ∧
                      (vp_in x3 10 ∧
                       (∀ w_21 : GW, w_21 = gS w 16 (x3).toNatClampNeg ((w 16 (x3).toNatClampNeg) + 2) →
                        ((¬ r_19 = (-1) →
                          (vp_in r_19 9 ∧
                           (PX7_falls_122 (PX7_falls_29 Q n) Q x3 v6_20 (w_21 10 (r_19).toNatClampNeg) w_21))) ∧
                         (r_19 = (-1) →
                          (PX7_falls_122 (PX7_falls_29 Q n) Q x3 v6_20 (-1) w_21))))))))))))))))))) ∧
        (¬ (w 16 (x3).toNatClampNeg) ≤ 1 →
         (∀ v3_23 : Int32, v3_23 = x3 + (-1) →
          ((PX7_falls_29 Q n) v3_23 w)))))))
def PX7_falls   (x1 : Int32) (x2 : Int32) (w : GW) (Q : GW → Prop) : Prop :=
    (PX7_fallsNow x1 (-1) w (fun w_25 =>
      (∀ w_26 : GW, w_26 = gS w_25 14 0 x1 →
       (∀ w_27 : GW, w_27 = gS w_26 15 0 x2 →
        (∀ w_28 : GW, w_28 = gS w_27 16 0 (-1) →
         (∃ n_29 : Nat, PX7_falls_29 Q n_29 0 w_28))))))
def PX7_goes_220 (Q : Int32 → GW → Prop) (x1 : Int32) (w : GW) : Prop :=
    (Q (x1 &&& ((w 0 26) ^^^ (-1))) w)
def PX7_goes_203 (K58 : Int32 → Int32 → Int32 → GW → Prop) (Q : Int32 → GW → Prop) (x1 : Int32) (x3 : Int32) (x5 : Int32) (x6 : Int32) (x7 : Int32) (s1 : Int32) (w : GW) : Prop :=
    (∀ w_1 : GW, w_1 = gS w 0 28 s1 →
     (∀ v5_2 : Int32, v5_2 = (x5 + (x3 - 1)) →
      (∀ v7_3 : Int32, v7_3 = x7 + 1 →
       (K58 v5_2 x6 v7_3 w_1))))
def PX7_goes_199 (K58 : Int32 → Int32 → Int32 → GW → Prop) (Q : Int32 → GW → Prop) (x1 : Int32) (x3 : Int32) (x5 : Int32) (x6 : Int32) (x7 : Int32) (w : GW) : Prop :=
    (PX7_goes_203 K58 Q x1 x3 x5 x6 x7 (w 0 28) w)
def PX7_goes_169 (K58 : Int32 → Int32 → Int32 → GW → Prop) (Q : Int32 → GW → Prop) (x1 : Int32) (x3 : Int32) (x5 : Int32) (x6 : Int32) (x7 : Int32) (w : GW) : Prop :=
    (∀ v6_4 : Int32, v6_4 = (x6 - ((w 0 8) / 3)) →
     ((¬ (w 0 28) = (-1) →
       (PX7_goes_199 K58 Q x1 x3 x5 v6_4 x7 w)) ∧
      ((w 0 28) = (-1) →
       ((0 < v6_4 →
         (PX7_goes_199 K58 Q x1 x3 x5 v6_4 x7 w)) ∧
        (¬ 0 < v6_4 →
         (PX7_goes_203 K58 Q x1 x3 x5 v6_4 x7 x7 w))))))
def PX7_goes_98 (K58 : Int32 → Int32 → Int32 → GW → Prop) (Q : Int32 → GW → Prop) (x1 : Int32) (x3 : Int32) (x5 : Int32) (x6 : Int32) (x7 : Int32) (s0 : Int32) (w : GW) : Prop :=
    ((s0 = (-1) →
      (PX7_goes_169 K58 Q x1 x3 x5 x6 x7 w)) ∧
     (¬ s0 = (-1) →
      (PX7_has (w 0 26) s0 (fun r_8 =>
        ((r_8 = 0 →
          (PX7_goes_169 K58 Q x1 x3 x5 x6 x7 w)) ∧
         (¬ r_8 = 0 →
          (vp_in s0 9 ∧
           ((x6 < (w 11 (s0).toNatClampNeg) →
             (PX7_rocksNow s0 w (fun w_12 =>
               (∀ w_13 : GW, w_13 = gS w_12 0 28 x7 →
                (PX7_goes_169 K58 Q x1 x3 x5 x6 x7 w_13))))) ∧
            (¬ x6 < (w 11 (s0).toNatClampNeg) →
             (PX7_falls s0 x6 w (fun w_15 =>
               (vp_in s0 9 ∧
                (∀ v6_16 : Int32, v6_16 = (x6 - (((w_15 11 (s0).toNatClampNeg) / 2) + 1)) →
                 (PX7_goes_169 K58 Q x1 x3 x5 v6_16 x7 w_15))))))))))))))
def PX7_goes_58 (Q : Int32 → GW → Prop) (x1 : Int32) (x3 : Int32)  : Nat → Int32 → Int32 → Int32 → GW → Prop
  | 0, _, _, _, _ => False
  | n + 1, x5, x6, x7, w =>
    ((5 ≤ x7 →
      (PX7_goes_220 Q x1 w)) ∧
     (¬ 5 ≤ x7 →
      ((¬ (w 0 28) = (-1) →
        (PX7_goes_220 Q x1 w)) ∧
       ((w 0 28) = (-1) →
        (PX7_plateAt x7 x5 (fun r_19 =>
          ((¬ r_19 = (-1) →
            (vp_in r_19 9 ∧
             (PX7_goes_98 (PX7_goes_58 Q x1 x3 n) Q x1 x3 x5 x6 x7 (w 10 (r_19).toNatClampNeg) w))) ∧
           (r_19 = (-1) →
            (PX7_goes_98 (PX7_goes_58 Q x1 x3 n) Q x1 x3 x5 x6 x7 (-1) w)))))))))
def PX7_goes_18 (Q : Int32 → GW → Prop) (x1 : Int32) (x2 : Int32) (x3 : Int32) (x4 : Int32)  : Nat → Int32 → GW → Prop
  | 0, _, _ => False
  | n + 1, x5, w =>
    ((9 ≤ x5 →
      (∃ n_22 : Nat, PX7_goes_58 Q x1 x3 n_22 x2 x4 0 w)) ∧
     (¬ 9 ≤ x5 →
      (vp_in x5 9 ∧
       (∀ w_23 : GW, w_23 = gS w 12 (x5).toNatClampNeg 0 →
        (vp_in x5 9 ∧
         (∀ w_24 : GW, w_24 = gS w_23 13 (x5).toNatClampNeg (-2) →
          (∀ v5_25 : Int32, v5_25 = x5 + 1 →
           ((PX7_goes_18 Q x1 x2 x3 x4 n) v5_25 w_24))))))))
def PX7_goes   (x1 : Int32) (x2 : Int32) (x3 : Int32) (x4 : Int32) (w : GW) (Q : Int32 → GW → Prop) : Prop :=
    (∀ w_26 : GW, w_26 = gS w 0 26 x1 →
     (∀ w_27 : GW, w_27 = gS w_26 0 27 0 →
      (∀ w_28 : GW, w_28 = gS w_27 0 28 (-1) →
       (∃ n_29 : Nat, PX7_goes_18 Q x1 x2 x3 x4 n_29 0 w_28))))
def PX7_goesBy   (x1 : Int32) (x2 : Int32) (w : GW) (Q : Int32 → GW → Prop) : Prop :=
    (PX7_goes x1 (x2 / 120) ((x2 / 40) - (x2 / 40) / 3 * 3) (1 + (x2 - x2 / 40 * 40)) w (fun r_1 w_2 =>
      (Q r_1 w_2)))
def PX7_ones_4 (Q : Int32 → Prop) (x0 : Int32)  : Nat → Int32 → Int32 → Prop
  | 0, _, _ => False
  | n + 1, x1, x2 =>
    ((9 ≤ x2 →
      (Q x1)) ∧
     (¬ 9 ≤ x2 →
      (∀ v1_2 : Int32, v1_2 = (x1 + ((x0 >>> (x2 &&& 31)) &&& 1)) →
       (∀ v2_3 : Int32, v2_3 = x2 + 1 →
        ((PX7_ones_4 Q x0 n) v1_2 v2_3)))))
def PX7_ones   (x0 : Int32)  (Q : Int32 → Prop) : Prop :=
    (∃ n_4 : Nat, PX7_ones_4 Q x0 n_4 0 0)
def PX7_numberOf   (x0 : Int32)  (Q : Int32 → Prop) : Prop :=
    (Q ((((1000 * (x0 / 120)) + (100 * ((x0 / 40) - (x0 / 40) / 3 * 3))) + 1) + (x0 - x0 / 40 * 40)))
def PX7_worst_76 (K22 : Int32 → Int32 → Int32 → GW → Prop) (Q : Int32 → GW → Prop) (x1 : Int32) (x2 : Int32) (x4 : Int32) (s0 : Int32) (w : GW) : Prop :=
    (∀ v4_1 : Int32, v4_1 = x4 + 1 →
     (K22 x2 s0 v4_1 w))
def PX7_worst_63 (K22 : Int32 → Int32 → Int32 → GW → Prop) (Q : Int32 → GW → Prop) (x1 : Int32) (x3 : Int32) (x4 : Int32) (x5 : Int32) (s0 : Int32) (w : GW) : Prop :=
    ((x5 ≤ x3 →
      (PX7_worst_76 K22 Q x1 s0 x4 x3 w)) ∧
     (¬ x5 ≤ x3 →
      (PX7_worst_76 K22 Q x1 s0 x4 x5 w)))
def PX7_worst_22 (Q : Int32 → GW → Prop) (x1 : Int32)  : Nat → Int32 → Int32 → Int32 → GW → Prop
  | 0, _, _, _, _ => False
  | n + 1, x2, x3, x4, w =>
    ((600 ≤ x4 →
      ((¬ x1 = 0 →
        (Q x3 w)) ∧
       (x1 = 0 →
        (Q x2 w)))) ∧
     (¬ 600 ≤ x4 →
      (PX7_goesBy (w 4 45) x4 w (fun r_5 w_6 =>
        (PX7_ones r_5 (fun r_7 =>
          ((r_7 ≤ x3 →
            (PX7_worst_63 (PX7_worst_22 Q x1 n) Q x1 x3 x4 r_7 x2 w_6)) ∧
           (¬ r_7 ≤ x3 →
            (PX7_numberOf x4 (fun r_9 =>
              (PX7_worst_63 (PX7_worst_22 Q x1 n) Q x1 x3 x4 r_7 r_9 w_6)))))))))))
def PX7_worst   (x1 : Int32) (w : GW) (Q : Int32 → GW → Prop) : Prop :=
    ((¬ (w 0 7) = 0 →
      (PX7_sets 0 0 w (fun w_12 =>
        (∃ n_13 : Nat, PX7_worst_22 Q x1 n_13 0 (-1) 0 w_12)))) ∧
     ((w 0 7) = 0 →
      (Q (-1) w)))
def PX7_safest_134 (K34 : Int32 → Int32 → Int32 → GW → Prop) (Q : Int32 → GW → Prop) (x1 : Int32) (x2 : Int32) (x4 : Int32) (s0 : Int32) (w : GW) : Prop :=
    (∀ v4_1 : Int32, v4_1 = x4 + 1 →
     (K34 x2 s0 v4_1 w))
def PX7_safest_121 (K34 : Int32 → Int32 → Int32 → GW → Prop) (Q : Int32 → GW → Prop) (x1 : Int32) (x3 : Int32) (x4 : Int32) (x5 : Int32) (s0 : Int32) (w : GW) : Prop :=
    ((x3 ≤ x5 →
      (PX7_safest_134 K34 Q x1 s0 x4 x3 w)) ∧
     (¬ x3 ≤ x5 →
      (PX7_safest_134 K34 Q x1 s0 x4 x5 w)))
def PX7_safest_100 (K34 : Int32 → Int32 → Int32 → GW → Prop) (K64 : Int32 → Int32 → GW → Prop) (Q : Int32 → GW → Prop) (x1 : Int32) (x2 : Int32) (x3 : Int32) (x4 : Int32) (x6 : Int32) (s0 : Int32) (s1 : Int32) (w : GW) : Prop :=
    (∀ v5_3 : Int32, v5_3 = (s0 + s1) →
     (∀ v6_4 : Int32, v6_4 = x6 + 1 →
      (K64 v5_3 v6_4 w)))
def PX7_safest_64 (K34 : Int32 → Int32 → Int32 → GW → Prop) (Q : Int32 → GW → Prop) (x1 : Int32) (x2 : Int32) (x3 : Int32) (x4 : Int32)  : Nat → Int32 → Int32 → GW → Prop
  | 0, _, _, _ => False
  | n + 1, x5, x6, w =>
    ((600 ≤ x6 →
      ((x3 ≤ x5 →
        (PX7_safest_121 K34 Q x1 x3 x4 x5 x2 w)) ∧
       (¬ x3 ≤ x5 →
        (PX7_safest_121 K34 Q x1 x3 x4 x5 x4 w)))) ∧
     (¬ 600 ≤ x6 →
      (PX7_goesBy (w 4 45) x6 w (fun r_7 w_8 =>
        (PX7_has r_7 x4 (fun r_9 =>
          ((r_9 = 0 →
            (PX7_safest_100 K34 (PX7_safest_64 K34 Q x1 x2 x3 x4 n) Q x1 x2 x3 x4 x6 x5 0 w_8)) ∧
           (¬ r_9 = 0 →
            (PX7_safest_100 K34 (PX7_safest_64 K34 Q x1 x2 x3 x4 n) Q x1 x2 x3 x4 x6 x5 1 w_8)))))))))
def PX7_safest_34 (Q : Int32 → GW → Prop) (x1 : Int32)  : Nat → Int32 → Int32 → Int32 → GW → Prop
  | 0, _, _, _, _ => False
  | n + 1, x2, x3, x4, w =>
    (((w 0 9) ≤ x4 →
      ((¬ x1 = 0 →
        (Q x3 w)) ∧
       (x1 = 0 →
        (Q x2 w)))) ∧
     (¬ (w 0 9) ≤ x4 →
      (PX7_has (w 4 45) x4 (fun r_13 =>
        ((r_13 = 0 →
          (∀ v4_15 : Int32, v4_15 = x4 + 1 →
           ((PX7_safest_34 Q x1 n) x2 x3 v4_15 w))) ∧
         (¬ r_13 = 0 →
          (∃ n_16 : Nat, PX7_safest_64 (PX7_safest_34 Q x1 n) Q x1 x2 x3 x4 n_16 0 0 w)))))))
def PX7_safest   (x1 : Int32) (w : GW) (Q : Int32 → GW → Prop) : Prop :=
    (((w 0 7) = 0 →
      (Q (-1) w)) ∧
     (¬ (w 0 7) = 0 →
      ((¬ (w 4 45) = 0 →
        (PX7_sets 0 0 w (fun w_20 =>
          (∃ n_21 : Nat, PX7_safest_34 Q x1 n_21 (-1) 1000 0 w_20)))) ∧
       ((w 4 45) = 0 →
        (Q (-1) w)))))
def PX7_ballsFor_53 (K14 : Int32 → Int32 → Int32 → GW → Prop) (Q : Int32 → GW → Prop) (x1 : Int32) (x2 : Int32) (x3 : Int32) (x5 : Int32) (s0 : Int32) (w : GW) : Prop :=
    (∀ v3_1 : Int32, v3_1 = x3 + 1 →
     (∀ v5_2 : Int32, v5_2 = x5 + 1 →
      (K14 v3_1 s0 v5_2 w)))
def PX7_ballsFor_14 (Q : Int32 → GW → Prop) (x1 : Int32) (x2 : Int32)  : Nat → Int32 → Int32 → Int32 → GW → Prop
  | 0, _, _, _, _ => False
  | n + 1, x3, x4, x5, w =>
    ((600 ≤ x5 →
      ((¬ x2 = 0 →
        (Q x4 w)) ∧
       (x2 = 0 →
        (Q x3 w)))) ∧
     (¬ 600 ≤ x5 →
      (PX7_goesBy (w 4 45) x5 w (fun r_5 w_6 =>
        ((¬ r_5 = x1 →
          (∀ v5_8 : Int32, v5_8 = x5 + 1 →
           ((PX7_ballsFor_14 Q x1 x2 n) x3 x4 v5_8 w_6))) ∧
         (r_5 = x1 →
          ((¬ x3 = 0 →
            (PX7_ballsFor_53 (PX7_ballsFor_14 Q x1 x2 n) Q x1 x2 x3 x5 x4 w_6)) ∧
           (x3 = 0 →
            (PX7_numberOf x5 (fun r_10 =>
              (PX7_ballsFor_53 (PX7_ballsFor_14 Q x1 x2 n) Q x1 x2 x3 x5 r_10 w_6)))))))))))
def PX7_ballsFor   (x1 : Int32) (x2 : Int32) (w : GW) (Q : Int32 → GW → Prop) : Prop :=
    (PX7_sets 0 0 w (fun w_12 =>
      (∃ n_13 : Nat, PX7_ballsFor_14 Q x1 x2 n_13 0 (-1) 0 w_12)))
def PX7_firm    (w : GW) (Q : Int32 → GW → Prop) : Prop :=
    ((¬ (w 0 7) = 0 →
      (PX7_ballsFor 0 0 w (fun r_2 w_3 =>
        (Q r_2 w_3)))) ∧
     ((w 0 7) = 0 →
      (Q (-1) w)))
def PX7_talks_138 (K4 : Int32 → Int32 → Prop) (K16 : Int32 → Int32 → Prop) (Q : Int32 → Prop) (x2 : Int32) (x3 : Int32) (s0 : Int32) (s1 : Int32) (w : GW) : Prop :=
    (∀ v1_1 : Int32, v1_1 = (s0 + s1) →
     (∀ v3_2 : Int32, v3_2 = x3 + 1 →
      (K16 v1_1 v3_2)))
def PX7_talks_137 (K4 : Int32 → Int32 → Prop) (K16 : Int32 → Int32 → Prop) (Q : Int32 → Prop) (x2 : Int32) (x3 : Int32) (s0 : Int32) (w : GW) : Prop :=
    (PX7_talks_138 K4 K16 Q x2 x3 s0 0 w)
def PX7_talks_97 (K4 : Int32 → Int32 → Prop) (K16 : Int32 → Int32 → Prop) (Q : Int32 → Prop) (x1 : Int32) (x2 : Int32) (x3 : Int32) (s0 : Int32) (w : GW) : Prop :=
    ((s0 = 0 →
      (PX7_talks_137 K4 K16 Q x2 x3 x1 w)) ∧
     (¬ s0 = 0 →
      (PX7_has (w 4 45) x2 (fun r_4 =>
        ((¬ r_4 = 0 →
          (PX7_talks_137 K4 K16 Q x2 x3 x1 w)) ∧
         (r_4 = 0 →
          (PX7_has (w 4 45) x3 (fun r_6 =>
            ((¬ r_6 = 0 →
              (PX7_talks_137 K4 K16 Q x2 x3 x1 w)) ∧
             (r_6 = 0 →
              (PX7_talks_138 K4 K16 Q x2 x3 x1 1 w)))))))))))
def PX7_talks_96 (K4 : Int32 → Int32 → Prop) (K16 : Int32 → Int32 → Prop) (Q : Int32 → Prop) (x1 : Int32) (x2 : Int32) (x3 : Int32) (w : GW) : Prop :=
    (PX7_talks_97 K4 K16 Q x1 x2 x3 0 w)
def PX7_talks_16 (K4 : Int32 → Int32 → Prop) (Q : Int32 → Prop) (x2 : Int32) (w : GW) : Nat → Int32 → Int32 → Prop
  | 0, _, _ => False
  | n + 1, x1, x3 =>
    (((w 0 9) ≤ x3 →
      (∀ v2_9 : Int32, v2_9 = x2 + 1 →
       (K4 x1 v2_9))) ∧
     (¬ (w 0 9) ≤ x3 →
      (vp_in (0 + x2) 49 ∧
       (PX7_rowOf (w 4 ((0 + x2)).toNatClampNeg) (fun r_10 =>
         (vp_in (0 + x3) 49 ∧
          (PX7_rowOf (w 4 ((0 + x3)).toNatClampNeg) (fun r_11 =>
            (∀ v4_12 : Int32, v4_12 = (r_10 - r_11) →
             (vp_in (0 + x2) 49 ∧
              (PX7_columnOf (w 4 ((0 + x2)).toNatClampNeg) (fun r_13 =>
                (vp_in (0 + x3) 49 ∧
                 (PX7_columnOf (w 4 ((0 + x3)).toNatClampNeg) (fun r_14 =>
                   (∀ v5_15 : Int32, v5_15 = (r_13 - r_14) →
                    ((¬ (v4_12 * v4_12) = 1 →
                      (PX7_talks_96 K4 (PX7_talks_16 K4 Q x2 w n) Q x1 x2 x3 w)) ∧
                     ((v4_12 * v4_12) = 1 →
                      ((¬ (v5_15 * v5_15) = 1 →
                        (PX7_talks_96 K4 (PX7_talks_16 K4 Q x2 w n) Q x1 x2 x3 w)) ∧
                       ((v5_15 * v5_15) = 1 →
                        (PX7_talks_97 K4 (PX7_talks_16 K4 Q x2 w n) Q x1 x2 x3 1 w)))))))))))))))))))))
def PX7_talks_4 (Q : Int32 → Prop)  (w : GW) : Nat → Int32 → Int32 → Prop
  | 0, _, _ => False
  | n + 1, x1, x2 =>
    (((w 0 9) ≤ x2 →
      (Q x1)) ∧
     (¬ (w 0 9) ≤ x2 →
      (∀ v3_19 : Int32, v3_19 = (x2 + 1) →
       (∃ n_20 : Nat, PX7_talks_16 (PX7_talks_4 Q w n) Q x2 w n_20 x1 v3_19))))
def PX7_talks    (w : GW) (Q : Int32 → Prop) : Prop :=
    (∃ n_21 : Nat, PX7_talks_4 Q w n_21 0 0)
def PX7_told   (x1 : Int32) (w : GW) (Q : Int32 → GW → Prop) : Prop :=
    (∀ w_1 : GW, w_1 = gS w 0 0 0 →
     (PX7_in x1 0 13 (fun r_2 =>
       ((¬ r_2 = 0 →
         ((6 ≤ x1 →
           ((10 ≤ x1 →
             ((¬ x1 = 10 →
               ((¬ x1 = 11 →
                 ((¬ x1 = 12 →
                   (Q (w_1 0 18) w_1)) ∧
                  (x1 = 12 →
                   (Q (w_1 0 21) w_1)))) ∧
                (x1 = 11 →
                 (PX7_talks w_1 (fun r_9 =>
                   (Q r_9 w_1)))))) ∧
              (x1 = 10 →
               (PX7_firm w_1 (fun r_10 w_11 =>
                 (Q r_10 w_11)))))) ∧
            (¬ 10 ≤ x1 →
             ((8 ≤ x1 →
               (PX7_safest (x1 - 8) w_1 (fun r_13 w_14 =>
                 (Q r_13 w_14)))) ∧
              (¬ 8 ≤ x1 →
               (PX7_worst (x1 - 6) w_1 (fun r_15 w_16 =>
                 (Q r_15 w_16)))))))) ∧
          (¬ 6 ≤ x1 →
           ((¬ x1 = 0 →
             ((¬ x1 = 1 →
               ((¬ x1 = 2 →
                 ((¬ x1 = 3 →
                   ((¬ x1 = 4 →
                     (Q (w_1 4 47) w_1)) ∧
                    (x1 = 4 →
                     (Q (w_1 4 46) w_1)))) ∧
                  (x1 = 3 →
                   (Q (w_1 4 45) w_1)))) ∧
                (x1 = 2 →
                 (Q (w_1 0 2) w_1)))) ∧
              (x1 = 1 →
               (Q (w_1 0 9) w_1)))) ∧
            (x1 = 0 →
             (((w_1 0 7) = 0 →
               (Q (-1) w_1)) ∧
              (¬ (w_1 0 7) = 0 →
               (Q (w_1 0 8) w_1)))))))) ∧
        (r_2 = 0 →
         (Q (-1000000002) w_1))))))
def PX7_isSkittle   (x1 : Int32) (w : GW) (Q : Int32 → Prop) : Prop :=
    (PX7_in x1 0 ((w 0 9) - 1) (fun r_1 =>
      (gBool r_1 ∧ (Q r_1))))
def PX7_firstTaker_4 (Q : Int32 → Prop)  (w : GW) : Nat → Int32 → Int32 → Prop
  | 0, _, _ => False
  | n + 1, x2, x3 =>
    ((9 ≤ x3 →
      (Q x2)) ∧
     (¬ 9 ≤ x3 →
      (vp_in (18 + x2) 49 ∧
       (((w 4 ((18 + x2)).toNatClampNeg) = (-1) →
         (Q x2)) ∧
        (¬ (w 4 ((18 + x2)).toNatClampNeg) = (-1) →
         (vp_in (18 + x2) 49 ∧
          (∀ v2_3 : Int32, v2_3 = (w 4 ((18 + x2)).toNatClampNeg) →
           (∀ v3_4 : Int32, v3_4 = x3 + 1 →
            ((PX7_firstTaker_4 Q w n) v2_3 v3_4)))))))))
def PX7_firstTaker   (x1 : Int32) (w : GW) (Q : Int32 → Prop) : Prop :=
    (∃ n_5 : Nat, PX7_firstTaker_4 Q w n_5 x1 0)
def PX7_skittle   (x1 : Int32) (x2 : Int32) (w : GW) (Q : Int32 → GW → Prop) : Prop :=
    (∀ w_1 : GW, w_1 = gS w 0 0 0 →
     (PX7_isSkittle x1 w_1 (fun r_2 =>
       ((¬ r_2 = 0 →
         (PX7_in x2 0 8 (fun r_4 =>
           ((¬ r_4 = 0 →
             ((4 ≤ x2 →
               ((7 ≤ x2 →
                 ((¬ x2 = 7 →
                   (vp_in (0 + x1) 49 ∧
                    (PX7_bearsOn x1 (w_1 4 ((0 + x1)).toNatClampNeg) w_1 (fun r_9 =>
                      (Q r_9 w_1))))) ∧
                  (x2 = 7 →
                   (PX7_firstTaker x1 w_1 (fun r_10 =>
                     (Q r_10 w_1)))))) ∧
                (¬ 7 ≤ x2 →
                 ((¬ x2 = 4 →
                   ((¬ x2 = 5 →
                     (vp_in (18 + x1) 49 ∧
                      (Q (w_1 4 ((18 + x1)).toNatClampNeg) w_1))) ∧
                    (x2 = 5 →
                     (vp_in (9 + x1) 49 ∧
                      (Q (w_1 4 ((9 + x1)).toNatClampNeg) w_1))))) ∧
                  (x2 = 4 →
                   (Q (((w_1 4 45) >>> (x1 &&& 31)) &&& 1) w_1)))))) ∧
              (¬ 4 ≤ x2 →
               ((¬ x2 = 0 →
                 ((¬ x2 = 1 →
                   ((¬ x2 = 2 →
                     (vp_in (0 + x1) 49 ∧
                      (Q (w_1 4 ((0 + x1)).toNatClampNeg) w_1))) ∧
                    (x2 = 2 →
                     (vp_in (36 + x1) 49 ∧
                      (Q (w_1 4 ((36 + x1)).toNatClampNeg) w_1))))) ∧
                  (x2 = 1 →
                   (vp_in x1 9 ∧
                    (Q (w_1 3 (x1).toNatClampNeg) w_1))))) ∧
                (x2 = 0 →
                 (vp_in (27 + x1) 49 ∧
                  (Q (w_1 4 ((27 + x1)).toNatClampNeg) w_1))))))) ∧
            (r_4 = 0 →
             (Q (-1000000002) w_1)))))) ∧
        (r_2 = 0 →
         (Q (-1000000001) w_1))))))
def PX7_isPlate   (x0 : Int32)  (Q : Int32 → Prop) : Prop :=
    (PX7_in x0 0 8 (fun r_1 =>
      (gBool r_1 ∧ (Q r_1))))
def PX7_whoOn_29 (K4 : Int32 → Int32 → Prop) (Q : Int32 → Prop) (x1 : Int32) (x3 : Int32) (s0 : Int32) (w : GW) : Prop :=
    (∀ v3_1 : Int32, v3_1 = x3 + 1 →
     (K4 s0 v3_1))
def PX7_whoOn_4 (Q : Int32 → Prop) (x1 : Int32) (w : GW) : Nat → Int32 → Int32 → Prop
  | 0, _, _ => False
  | n + 1, x2, x3 =>
    (((w 0 9) ≤ x3 →
      (Q x2)) ∧
     (¬ (w 0 9) ≤ x3 →
      (vp_in (0 + x3) 49 ∧
       ((¬ (w 4 ((0 + x3)).toNatClampNeg) = x1 →
         (PX7_whoOn_29 (PX7_whoOn_4 Q x1 w n) Q x1 x3 x2 w)) ∧
        ((w 4 ((0 + x3)).toNatClampNeg) = x1 →
         (PX7_whoOn_29 (PX7_whoOn_4 Q x1 w n) Q x1 x3 x3 w))))))
def PX7_whoOn   (x1 : Int32) (w : GW) (Q : Int32 → Prop) : Prop :=
    (∃ n_4 : Nat, PX7_whoOn_4 Q x1 w n_4 (-1) 0)
def PX7_plate   (x1 : Int32) (w : GW) (Q : Int32 → GW → Prop) : Prop :=
    (∀ w_1 : GW, w_1 = gS w 0 0 0 →
     (PX7_isPlate x1 (fun r_2 =>
       ((r_2 = 0 →
         (Q (-1000000001) w_1)) ∧
        (¬ r_2 = 0 →
         (PX7_whoOn x1 w_1 (fun r_4 =>
           (Q r_4 w_1))))))))
def PX7_isBall   (x1 : Int32) (x2 : Int32) (x3 : Int32)  (Q : Int32 → Prop) : Prop :=
    (PX7_in x1 0 4 (fun r_1 =>
      ((r_1 = 0 →
        (Q 0)) ∧
       (¬ r_1 = 0 →
        (PX7_in x2 0 2 (fun r_3 =>
          ((r_3 = 0 →
            (Q 0)) ∧
           (¬ r_3 = 0 →
            (PX7_in x3 1 40 (fun r_5 =>
              ((r_5 = 0 →
                (Q 0)) ∧
               (¬ r_5 = 0 →
                (Q 1)))))))))))))
def PX7_notes_47 (Q : GW → Prop)   : Nat → Int32 → GW → Prop
  | 0, _, _ => False
  | n + 1, x1, w =>
    ((49 ≤ x1 →
      (∀ w_2 : GW, w_2 = gS w 0 18 ((w 0 18) + 1) →
       (Q w_2))) ∧
     (¬ 49 ≤ x1 →
      (vp_in x1 49 ∧
       (vp_in ((49 * (w 0 18)) + x1) 784 ∧
        (∀ w_3 : GW, w_3 = gS w 7 (((49 * (w 0 18)) + x1)).toNatClampNeg (w 4 (x1).toNatClampNeg) →
         (∀ v1_4 : Int32, v1_4 = x1 + 1 →
          ((PX7_notes_47 Q n) v1_4 w_3)))))))
def PX7_notes_45 (Q : GW → Prop)  (w : GW) : Prop :=
    (∃ n_5 : Nat, PX7_notes_47 Q n_5 0 w)
def PX7_notes_11 (Q : GW → Prop)   : Nat → Int32 → GW → Prop
  | 0, _, _ => False
  | n + 1, x1, w =>
    ((735 ≤ x1 →
      (∀ w_7 : GW, w_7 = gS w 0 18 15 →
       (PX7_notes_45 Q w_7))) ∧
     (¬ 735 ≤ x1 →
      (vp_in (x1 + 49) 784 ∧
       (vp_in x1 784 ∧
        (∀ w_8 : GW, w_8 = gS w 7 (x1).toNatClampNeg (w 7 ((x1 + 49)).toNatClampNeg) →
         (∀ v1_9 : Int32, v1_9 = x1 + 1 →
          ((PX7_notes_11 Q n) v1_9 w_8)))))))
def PX7_notes    (w : GW) (Q : GW → Prop) : Prop :=
    ((¬ (w 0 18) = 16 →
      (PX7_notes_45 Q w)) ∧
     ((w 0 18) = 16 →
      (∃ n_11 : Nat, PX7_notes_11 Q n_11 0 w)))
def PX7_throwsBall_203 (Q : Int32 → GW → Prop) (x5 : Int32) (s1 : Int32) (s2 : Int32) (s3 : Int32) (w : GW) : Prop :=
    (vp_in s1 49 ∧
     (∀ w_1 : GW, w_1 = gS w 4 (s1).toNatClampNeg (s2 + s3) →
      (Q x5 w_1)))
def PX7_throwsBall_202 (Q : Int32 → GW → Prop) (x5 : Int32) (s1 : Int32) (s2 : Int32) (w : GW) : Prop :=
    (PX7_throwsBall_203 Q x5 s1 s2 0 w)
def PX7_throwsBall_159 (K65 : Int32 → GW → Prop) (Q : Int32 → GW → Prop) (x4 : Int32) (x5 : Int32) (x6 : Int32) (s1 : Int32) (s2 : Int32) (w : GW) : Prop :=
    (vp_in s1 49 ∧
     (∀ w_2 : GW, w_2 = gS w 4 (s1).toNatClampNeg s2 →
      (∀ v6_3 : Int32, v6_3 = x6 + 1 →
       (K65 v6_3 w_2))))
def PX7_throwsBall_117 (K65 : Int32 → GW → Prop) (Q : Int32 → GW → Prop) (x4 : Int32) (x5 : Int32) (x6 : Int32) (s1 : Int32) (s2 : Int32) (w : GW) : Prop :=
    (vp_in s1 49 ∧
     (∀ w_4 : GW, w_4 = gS w 4 (s1).toNatClampNeg s2 →
      (vp_in x6 9 ∧
       ((¬ (w_4 13 (x6).toNatClampNeg) = (-2) →
         (vp_in x6 9 ∧
          (PX7_throwsBall_159 K65 Q x4 x5 x6 (18 + x6) (w_4 13 (x6).toNatClampNeg) w_4))) ∧
        ((w_4 13 (x6).toNatClampNeg) = (-2) →
         (vp_in (18 + x6) 49 ∧
          (PX7_throwsBall_159 K65 Q x4 x5 x6 (18 + x6) (w_4 4 ((18 + x6)).toNatClampNeg) w_4)))))))
def PX7_throwsBall_65 (Q : Int32 → GW → Prop) (x4 : Int32) (x5 : Int32)  : Nat → Int32 → GW → Prop
  | 0, _, _ => False
  | n + 1, x6, w =>
    ((9 ≤ x6 →
      (∀ w_7 : GW, w_7 = gS w 4 46 ((w 4 46) + 1) →
       ((x4 = 0 →
         (PX7_throwsBall_202 Q x5 47 (w_7 4 47) w_7)) ∧
        (¬ x4 = 0 →
         ((¬ x5 = 511 →
           (PX7_throwsBall_202 Q x5 47 (w_7 4 47) w_7)) ∧
          (x5 = 511 →
           (PX7_throwsBall_203 Q x5 47 (w_7 4 47) 1 w_7))))))) ∧
     (¬ 9 ≤ x6 →
      (vp_in (9 + x6) 49 ∧
       (vp_in x6 9 ∧
        (∀ v7_10 : Int32, v7_10 = ((w 4 ((9 + x6)).toNatClampNeg) + (w 12 (x6).toNatClampNeg)) →
         ((v7_10 ≤ 9999 →
           (PX7_throwsBall_117 (PX7_throwsBall_65 Q x4 x5 n) Q x4 x5 x6 (9 + x6) v7_10 w)) ∧
          (¬ v7_10 ≤ 9999 →
           (PX7_throwsBall_117 (PX7_throwsBall_65 Q x4 x5 n) Q x4 x5 x6 (9 + x6) 9999 w))))))))
def PX7_throwsBall_33 (Q : Int32 → GW → Prop) (x1 : Int32) (x2 : Int32) (x3 : Int32) (s0 : Int32) (w : GW) : Prop :=
    (PX7_goes (w 4 45) x1 x2 x3 w (fun r_12 w_13 =>
      (∀ w_14 : GW, w_14 = gS w_13 4 45 (w_13 0 26) →
       (∃ n_15 : Nat, PX7_throwsBall_65 Q s0 r_12 n_15 0 w_14))))
def PX7_throwsBall_32 (Q : Int32 → GW → Prop) (x1 : Int32) (x2 : Int32) (x3 : Int32) (w : GW) : Prop :=
    (PX7_throwsBall_33 Q x1 x2 x3 0 w)
def PX7_throwsBall   (x1 : Int32) (x2 : Int32) (x3 : Int32) (w : GW) (Q : Int32 → GW → Prop) : Prop :=
    (PX7_sets 0 0 w (fun w_17 =>
      ((¬ (w_17 0 9) = 9 →
        (PX7_throwsBall_32 Q x1 x2 x3 w_17)) ∧
       ((w_17 0 9) = 9 →
        ((¬ (w_17 4 45) = 511 →
          (PX7_throwsBall_32 Q x1 x2 x3 w_17)) ∧
         ((w_17 4 45) = 511 →
          (PX7_throwsBall_33 Q x1 x2 x3 1 w_17)))))))
def PX7_ball   (x1 : Int32) (x2 : Int32) (x3 : Int32) (w : GW) (Q : Int32 → GW → Prop) : Prop :=
    (∀ w_1 : GW, w_1 = gS w 0 0 0 →
     (PX7_isBall x1 x2 x3 (fun r_2 =>
       ((¬ r_2 = 0 →
         ((¬ (w_1 0 7) = 0 →
           (PX7_notes w_1 (fun w_6 =>
             (PX7_throwsBall x1 x2 x3 w_6 (fun r_7 w_8 =>
               (Q r_7 w_8)))))) ∧
          ((w_1 0 7) = 0 →
           (Q (-1000000003) w_1)))) ∧
        (r_2 = 0 →
         (Q (-1000000002) w_1))))))
def PX7_setUp    (w : GW) (Q : Int32 → GW → Prop) : Prop :=
    (∀ w_1 : GW, w_1 = gS w 0 0 0 →
     ((¬ (w_1 0 7) = 0 →
       (PX7_notes w_1 (fun w_4 =>
         (PX7_ones (w_4 4 45) (fun r_5 =>
           (∀ v1_6 : Int32, v1_6 = ((w_4 0 9) - r_5) →
            (∀ w_7 : GW, w_7 = gS w_4 4 45 ((1 <<< ((w_4 0 9) &&& 31)) - 1) →
             (Q v1_6 w_7)))))))) ∧
      ((w_1 0 7) = 0 →
       (Q (-1000000003) w_1))))
def PX7_lift   (x1 : Int32) (w : GW) (Q : Int32 → GW → Prop) : Prop :=
    (∀ w_1 : GW, w_1 = gS w 0 0 0 →
     (PX7_isSkittle x1 w_1 (fun r_2 =>
       ((¬ r_2 = 0 →
         (PX7_has (w_1 4 45) x1 (fun r_4 =>
           ((r_4 = 0 →
             (PX7_notes w_1 (fun w_7 =>
               (∀ w_8 : GW, w_8 = gS w_7 4 45 ((w_7 4 45) ||| (1 <<< (x1 &&& 31))) →
                (PX7_ones (w_8 4 45) (fun r_9 =>
                  (Q r_9 w_8))))))) ∧
            (¬ r_4 = 0 →
             (Q (-1000000003) w_1)))))) ∧
        (r_2 = 0 →
         (Q (-1000000001) w_1))))))
def PX7_changes_27 (Q : GW → Prop) (x1 : Int32) (x4 : Int32) (w : GW) : Prop :=
    ((x4 = (-1) →
      (Q w)) ∧
     (¬ x4 = (-1) →
      (vp_in (0 + x4) 49 ∧
       (∀ w_2 : GW, w_2 = gS w 4 ((0 + x4)).toNatClampNeg x1 →
        (Q w_2)))))
def PX7_changes   (x1 : Int32) (x2 : Int32) (w : GW) (Q : GW → Prop) : Prop :=
    (PX7_whoOn x1 w (fun r_3 =>
      (PX7_whoOn x2 w (fun r_4 =>
        ((r_3 = (-1) →
          (PX7_changes_27 Q x1 r_4 w)) ∧
         (¬ r_3 = (-1) →
          (vp_in (0 + r_3) 49 ∧
           (∀ w_6 : GW, w_6 = gS w 4 ((0 + r_3)).toNatClampNeg x2 →
            (PX7_changes_27 Q x1 r_4 w_6)))))))))
def PX7_change   (x1 : Int32) (x2 : Int32) (w : GW) (Q : Int32 → GW → Prop) : Prop :=
    (∀ w_1 : GW, w_1 = gS w 0 0 0 →
     (PX7_isPlate x1 (fun r_2 =>
       ((r_2 = 0 →
         (Q (-1000000001) w_1)) ∧
        (¬ r_2 = 0 →
         (PX7_isPlate x2 (fun r_4 =>
           ((r_4 = 0 →
             (Q (-1000000001) w_1)) ∧
            (¬ r_4 = 0 →
             ((¬ x1 = x2 →
               (PX7_notes w_1 (fun w_8 =>
                 (PX7_changes x1 x2 w_8 (fun w_10 =>
                   (PX7_whoOn x1 w_10 (fun r_11 =>
                     (Q r_11 w_10)))))))) ∧
              (x1 = x2 →
               (Q (-1000000001) w_1))))))))))))
def PX7_chip   (x1 : Int32) (x2 : Int32) (w : GW) (Q : Int32 → GW → Prop) : Prop :=
    (∀ w_1 : GW, w_1 = gS w 0 0 0 →
     (PX7_isSkittle x1 w_1 (fun r_2 =>
       ((¬ r_2 = 0 →
         (PX7_in x2 0 9 (fun r_4 =>
           ((¬ r_4 = 0 →
             (PX7_notes w_1 (fun w_7 =>
               (vp_in (36 + x1) 49 ∧
                (∀ v3_8 : Int32, v3_8 = (w_7 4 ((36 + x1)).toNatClampNeg) →
                 (vp_in (36 + x1) 49 ∧
                  (∀ w_9 : GW, w_9 = gS w_7 4 ((36 + x1)).toNatClampNeg x2 →
                   (Q v3_8 w_9)))))))) ∧
            (r_4 = 0 →
             (Q (-1000000002) w_1)))))) ∧
        (r_2 = 0 →
         (Q (-1000000001) w_1))))))
def PX7_replace   (x1 : Int32) (w : GW) (Q : Int32 → GW → Prop) : Prop :=
    (∀ w_1 : GW, w_1 = gS w 0 0 0 →
     (PX7_isSkittle x1 w_1 (fun r_2 =>
       ((¬ r_2 = 0 →
         (vp_in (27 + x1) 49 ∧
          (∀ v2_4 : Int32, v2_4 = (w_1 4 ((27 + x1)).toNatClampNeg) →
           ((¬ v2_4 = 3 →
             (PX7_notes w_1 (fun w_7 =>
               (vp_in (27 + x1) 49 ∧
                (∀ w_8 : GW, w_8 = gS w_7 4 ((27 + x1)).toNatClampNeg 3 →
                 (Q v2_4 w_8)))))) ∧
            (v2_4 = 3 →
             (Q (-1000000003) w_1)))))) ∧
        (r_2 = 0 →
         (Q (-1000000001) w_1))))))
def PX7_draw   (x1 : Int32) (w : GW) (Q : Int32 → GW → Prop) : Prop :=
    (∀ v2_1 : Int64, v2_1 = ((w 4 48)).toInt64 →
     (∀ v2_2 : Int64, v2_2 = (((v2_1 * (1103515245 : Int64)) + (12345 : Int64)) - ((v2_1 * (1103515245 : Int64)) + (12345 : Int64)) / (2147483648 : Int64) * (2147483648 : Int64)) →
      (∀ w_3 : GW, w_3 = gS w 4 48 (v2_2).toInt32 →
       (¬ x1 = 0 ∧
        (Q (((w_3 4 48) / 65536) - ((w_3 4 48) / 65536) / x1 * x1) w_3)))))
def PX7_drift_34 (Q : Int32 → GW → Prop) (x1 : Int32)  : Nat → Int32 → GW → Prop
  | 0, _, _ => False
  | n + 1, x2, w =>
    ((x1 ≤ x2 →
      (Q (w 4 45) w)) ∧
     (¬ x1 ≤ x2 →
      (PX7_draw 4 w (fun r_2 w_3 =>
        ((2 ≤ r_2 →
          ((¬ r_2 = 2 →
            (PX7_draw 9 w_3 (fun r_6 w_7 =>
              (PX7_draw 9 w_7 (fun r_8 w_9 =>
                ((r_6 = r_8 →
                  (∀ v2_11 : Int32, v2_11 = x2 + 1 →
                   ((PX7_drift_34 Q x1 n) v2_11 w_9))) ∧
                 (¬ r_6 = r_8 →
                  (PX7_changes r_6 r_8 w_9 (fun w_13 =>
                    (∀ v2_14 : Int32, v2_14 = x2 + 1 →
                     ((PX7_drift_34 Q x1 n) v2_14 w_13))))))))))) ∧
           (r_2 = 2 →
            (∀ w_15 : GW, w_15 = gS w_3 4 45 ((1 <<< ((w_3 0 9) &&& 31)) - 1) →
             (∀ v2_16 : Int32, v2_16 = x2 + 1 →
              ((PX7_drift_34 Q x1 n) v2_16 w_15)))))) ∧
         (¬ 2 ≤ r_2 →
          (PX7_draw 5 w_3 (fun r_17 w_18 =>
            (PX7_draw 3 w_18 (fun r_19 w_20 =>
              (PX7_draw 40 w_20 (fun r_21 w_22 =>
                (∀ v6_23 : Int32, v6_23 = (1 + r_21) →
                 (PX7_throwsBall r_17 r_19 v6_23 w_22 (fun r_24 w_25 =>
                   (∀ v2_26 : Int32, v2_26 = x2 + 1 →
                    ((PX7_drift_34 Q x1 n) v2_26 w_25)))))))))))))))))
def PX7_drift   (x1 : Int32) (w : GW) (Q : Int32 → GW → Prop) : Prop :=
    (∀ w_27 : GW, w_27 = gS w 0 0 0 →
     (PX7_in x1 1 30 (fun r_28 =>
       ((¬ r_28 = 0 →
         ((¬ (w_27 0 7) = 0 →
           (PX7_notes w_27 (fun w_32 =>
             (∃ n_33 : Nat, PX7_drift_34 Q x1 n_33 0 w_32)))) ∧
          ((w_27 0 7) = 0 →
           (Q (-1000000003) w_27)))) ∧
        (r_28 = 0 →
         (Q (-1000000002) w_27))))))
def PX7_undo_27 (Q : Int32 → GW → Prop)   : Nat → Int32 → GW → Prop
  | 0, _, _ => False
  | n + 1, x1, w =>
    ((48 ≤ x1 →
      (Q (w 0 18) w)) ∧
     (¬ 48 ≤ x1 →
      (vp_in ((49 * (w 0 18)) + x1) 784 ∧
       (vp_in x1 49 ∧
        (∀ w_2 : GW, w_2 = gS w 4 (x1).toNatClampNeg (w 7 (((49 * (w 0 18)) + x1)).toNatClampNeg) →
         (∀ v1_3 : Int32, v1_3 = x1 + 1 →
          ((PX7_undo_27 Q n) v1_3 w_2)))))))
def PX7_undo    (w : GW) (Q : Int32 → GW → Prop) : Prop :=
    (∀ w_4 : GW, w_4 = gS w 0 0 0 →
     ((¬ (w_4 0 18) = 0 →
       (∀ w_6 : GW, w_6 = gS w_4 0 18 ((w_4 0 18) - 1) →
        (∃ n_7 : Nat, PX7_undo_27 Q n_7 0 w_6))) ∧
      ((w_4 0 18) = 0 →
       (Q (-1000000003) w_4))))
def PX7_wouldFall   (x1 : Int32) (x2 : Int32) (x3 : Int32) (x4 : Int32) (w : GW) (Q : Int32 → GW → Prop) : Prop :=
    (∀ w_1 : GW, w_1 = gS w 0 0 0 →
     (PX7_isBall x1 x2 x3 (fun r_2 =>
       ((r_2 = 0 →
         (Q (-1000000002) w_1)) ∧
        (¬ r_2 = 0 →
         (PX7_in x4 0 2 (fun r_4 =>
           ((¬ r_4 = 0 →
             ((¬ (w_1 0 7) = 0 →
               (PX7_sets 0 0 w_1 (fun w_8 =>
                 (PX7_goes (w_8 4 45) x1 x2 x3 w_8 (fun r_9 w_10 =>
                   ((¬ x4 = 0 →
                     ((¬ x4 = 1 →
                       (Q (w_10 0 28) w_10)) ∧
                      (x4 = 1 →
                       (Q (w_10 0 27) w_10)))) ∧
                    (x4 = 0 →
                     (Q r_9 w_10)))))))) ∧
              ((w_1 0 7) = 0 →
               (Q (-1000000003) w_1)))) ∧
            (r_4 = 0 →
             (Q (-1000000002) w_1))))))))))
def PX7_isSet   (x1 : Int32) (w : GW) (Q : Int32 → Prop) : Prop :=
    (PX7_in x1 0 ((1 <<< ((w 0 9) &&& 31)) - 1) (fun r_1 =>
      (gBool r_1 ∧ (Q r_1))))
def PX7_balls   (x1 : Int32) (x2 : Int32) (w : GW) (Q : Int32 → GW → Prop) : Prop :=
    (∀ w_1 : GW, w_1 = gS w 0 0 0 →
     (PX7_isSet x1 w_1 (fun r_2 =>
       ((¬ r_2 = 0 →
         (PX7_in x2 0 1 (fun r_4 =>
           ((¬ r_4 = 0 →
             (((w_1 0 7) = 0 →
               (Q (-1000000003) w_1)) ∧
              (¬ (w_1 0 7) = 0 →
               (PX7_ballsFor x1 x2 w_1 (fun r_7 w_8 =>
                 (Q r_7 w_8)))))) ∧
            (r_4 = 0 →
             (Q (-1000000002) w_1)))))) ∧
        (r_2 = 0 →
         (Q (-1000000001) w_1))))))
def PX7_spare_138 (K49 : Int32 → Int32 → Int32 → GW → Prop) (Q : Int32 → GW → Prop) (x1 : Int32) (x2 : Int32) (x3 : Int32) (x5 : Int32) (s0 : Int32) (w : GW) : Prop :=
    (∀ v5_1 : Int32, v5_1 = x5 + 1 →
     (K49 x3 s0 v5_1 w))
def PX7_spare_125 (K49 : Int32 → Int32 → Int32 → GW → Prop) (Q : Int32 → GW → Prop) (x1 : Int32) (x2 : Int32) (x4 : Int32) (x5 : Int32) (x7 : Int32) (x8 : Int32) (s0 : Int32) (w : GW) : Prop :=
    ((x8 = 0 →
      (PX7_spare_138 K49 Q x1 x2 s0 x5 x4 w)) ∧
     (¬ x8 = 0 →
      (PX7_spare_138 K49 Q x1 x2 s0 x5 x7 w)))
def PX7_spare_109 (K49 : Int32 → Int32 → Int32 → GW → Prop) (Q : Int32 → GW → Prop) (x1 : Int32) (x2 : Int32) (x3 : Int32) (x4 : Int32) (x5 : Int32) (x7 : Int32) (s0 : Int32) (w : GW) : Prop :=
    ((s0 = 0 →
      (PX7_spare_125 K49 Q x1 x2 x4 x5 x7 s0 x3 w)) ∧
     (¬ s0 = 0 →
      (PX7_numberOf x5 (fun r_4 =>
        (PX7_spare_125 K49 Q x1 x2 x4 x5 x7 s0 r_4 w)))))
def PX7_spare_108 (K49 : Int32 → Int32 → Int32 → GW → Prop) (Q : Int32 → GW → Prop) (x1 : Int32) (x2 : Int32) (x3 : Int32) (x4 : Int32) (x5 : Int32) (x7 : Int32) (w : GW) : Prop :=
    (PX7_spare_109 K49 Q x1 x2 x3 x4 x5 x7 0 w)
def PX7_spare_49 (Q : Int32 → GW → Prop) (x1 : Int32) (x2 : Int32)  : Nat → Int32 → Int32 → Int32 → GW → Prop
  | 0, _, _, _, _ => False
  | n + 1, x3, x4, x5, w =>
    ((600 ≤ x5 →
      (Q x3 w)) ∧
     (¬ 600 ≤ x5 →
      (PX7_goesBy (w 4 45) x5 w (fun r_6 w_7 =>
        (∀ v7_8 : Int32, v7_8 = (1 + (x5 - x5 / 40 * 40)) →
         ((¬ (x1 &&& (r_6 ^^^ (-1))) = 0 →
           (PX7_spare_108 (PX7_spare_49 Q x1 x2 n) Q x1 x2 x3 x4 x5 v7_8 w_7)) ∧
          ((x1 &&& (r_6 ^^^ (-1))) = 0 →
           ((¬ (x2 &&& r_6) = 0 →
             (PX7_spare_108 (PX7_spare_49 Q x1 x2 n) Q x1 x2 x3 x4 x5 v7_8 w_7)) ∧
            ((x2 &&& r_6) = 0 →
             ((x4 ≤ v7_8 →
               (PX7_spare_108 (PX7_spare_49 Q x1 x2 n) Q x1 x2 x3 x4 x5 v7_8 w_7)) ∧
              (¬ x4 ≤ v7_8 →
               (PX7_spare_109 (PX7_spare_49 Q x1 x2 n) Q x1 x2 x3 x4 x5 v7_8 1 w_7))))))))))))
def PX7_spare   (x1 : Int32) (x2 : Int32) (w : GW) (Q : Int32 → GW → Prop) : Prop :=
    (∀ w_12 : GW, w_12 = gS w 0 0 0 →
     (PX7_isSet x1 w_12 (fun r_13 =>
       ((r_13 = 0 →
         (Q (-1000000001) w_12)) ∧
        (¬ r_13 = 0 →
         (PX7_isSet x2 w_12 (fun r_15 =>
           ((¬ r_15 = 0 →
             ((¬ (w_12 0 7) = 0 →
               (PX7_sets 0 0 w_12 (fun w_19 =>
                 (∃ n_20 : Nat, PX7_spare_49 Q x1 x2 n_20 (-1) 41 0 w_19)))) ∧
              ((w_12 0 7) = 0 →
               (Q (-1000000003) w_12)))) ∧
            (r_15 = 0 →
             (Q (-1000000001) w_12))))))))))
def PX7_allDown_290 (Q : Int32 → GW → Prop) (x1 : Int32) (w : GW) : Prop :=
    ((¬ x1 = 0 →
      (Q (w 18 0) w)) ∧
     (x1 = 0 →
      (Q (w 17 0) w)))
def PX7_allDown_186 (K92 : Int32 → Int32 → GW → Prop) (K138 : Int32 → Int32 → GW → Prop) (Q : Int32 → GW → Prop) (x1 : Int32) (x2 : Int32) (x3 : Int32) (x4 : Int32) (x5 : Int32) (x6 : Int32) (s0 : Int32) (w : GW) : Prop :=
    (vp_in x6 512 ∧
     ((¬ (w 17 (x6).toNatClampNeg) = (-1) →
       (vp_in x6 512 ∧
        (vp_in x4 512 ∧
         ((¬ (w 17 (x6).toNatClampNeg) = ((w 17 (x4).toNatClampNeg) + 1) →
           (∀ v5_4 : Int32, v5_4 = x5 + 1 →
            (K138 x2 v5_4 w))) ∧
          ((w 17 (x6).toNatClampNeg) = ((w 17 (x4).toNatClampNeg) + 1) →
           (vp_in x6 512 ∧
            (((w 18 (x6).toNatClampNeg) ≤ s0 →
              (∀ v5_6 : Int32, v5_6 = x5 + 1 →
               (K138 x2 v5_6 w))) ∧
             (¬ (w 18 (x6).toNatClampNeg) ≤ s0 →
              (vp_in x6 512 ∧
               (∀ w_7 : GW, w_7 = gS w 18 (x6).toNatClampNeg s0 →
                (∀ v5_8 : Int32, v5_8 = x5 + 1 →
                 (K138 x2 v5_8 w_7)))))))))))) ∧
      ((w 17 (x6).toNatClampNeg) = (-1) →
       (vp_in x4 512 ∧
        (vp_in x6 512 ∧
         (∀ w_9 : GW, w_9 = gS w 17 (x6).toNatClampNeg ((w 17 (x4).toNatClampNeg) + 1) →
          (vp_in x6 512 ∧
           (∀ w_10 : GW, w_10 = gS w_9 18 (x6).toNatClampNeg s0 →
            (vp_in x2 512 ∧
             (∀ w_11 : GW, w_11 = gS w_10 19 (x2).toNatClampNeg x6 →
              (∀ v2_12 : Int32, v2_12 = x2 + 1 →
               (∀ v5_13 : Int32, v5_13 = x5 + 1 →
                (K138 v2_12 v5_13 w_11)))))))))))))
def PX7_allDown_138 (K92 : Int32 → Int32 → GW → Prop) (Q : Int32 → GW → Prop) (x1 : Int32) (x3 : Int32) (x4 : Int32)  : Nat → Int32 → Int32 → GW → Prop
  | 0, _, _, _ => False
  | n + 1, x2, x5, w =>
    ((600 ≤ x5 →
      (∀ v3_15 : Int32, v3_15 = x3 + 1 →
       (K92 x2 v3_15 w))) ∧
     (¬ 600 ≤ x5 →
      (PX7_goesBy x4 x5 w (fun r_16 w_17 =>
        (∀ v6_18 : Int32, v6_18 = (x4 &&& (r_16 ^^^ (-1))) →
         (vp_in x4 512 ∧
          ((¬ (w_17 17 (x4).toNatClampNeg) = 0 →
            (vp_in x4 512 ∧
             (PX7_allDown_186 K92 (PX7_allDown_138 K92 Q x1 x3 x4 n) Q x1 x2 x3 x4 x5 v6_18 (w_17 18 (x4).toNatClampNeg) w_17))) ∧
           ((w_17 17 (x4).toNatClampNeg) = 0 →
            (PX7_numberOf x5 (fun r_20 =>
              (PX7_allDown_186 K92 (PX7_allDown_138 K92 Q x1 x3 x4 n) Q x1 x2 x3 x4 x5 v6_18 r_20 w_17)))))))))))
def PX7_allDown_127 (K92 : Int32 → Int32 → GW → Prop) (Q : Int32 → GW → Prop) (x1 : Int32) (x2 : Int32) (x3 : Int32) (w : GW) : Prop :=
    (vp_in x3 512 ∧
     (∀ v4_21 : Int32, v4_21 = (w 19 (x3).toNatClampNeg) →
      (∃ n_22 : Nat, PX7_allDown_138 K92 Q x1 x3 v4_21 n_22 x2 0 w)))
def PX7_allDown_92 (Q : Int32 → GW → Prop) (x1 : Int32)  : Nat → Int32 → Int32 → GW → Prop
  | 0, _, _, _ => False
  | n + 1, x2, x3, w =>
    ((x2 ≤ x3 →
      (PX7_allDown_290 Q x1 w)) ∧
     (¬ x2 ≤ x3 →
      (((w 17 0) = (-1) →
        (PX7_allDown_127 (PX7_allDown_92 Q x1 n) Q x1 x2 x3 w)) ∧
       (¬ (w 17 0) = (-1) →
        (vp_in x3 512 ∧
         (vp_in (w 19 (x3).toNatClampNeg) 512 ∧
          (((w 17 0) ≤ (w 17 ((w 19 (x3).toNatClampNeg)).toNatClampNeg) →
            (PX7_allDown_290 Q x1 w)) ∧
           (¬ (w 17 0) ≤ (w 17 ((w 19 (x3).toNatClampNeg)).toNatClampNeg) →
            (PX7_allDown_127 (PX7_allDown_92 Q x1 n) Q x1 x2 x3 w)))))))))
def PX7_allDown_35 (Q : Int32 → GW → Prop) (x1 : Int32)  : Nat → Int32 → GW → Prop
  | 0, _, _ => False
  | n + 1, x2, w =>
    ((512 ≤ x2 →
      (vp_in (w 4 45) 512 ∧
       (∀ w_27 : GW, w_27 = gS w 17 ((w 4 45)).toNatClampNeg 0 →
        (∀ w_28 : GW, w_28 = gS w_27 19 0 (w_27 4 45) →
         (∃ n_29 : Nat, PX7_allDown_92 Q x1 n_29 1 0 w_28))))) ∧
     (¬ 512 ≤ x2 →
      (vp_in x2 512 ∧
       (∀ w_30 : GW, w_30 = gS w 17 (x2).toNatClampNeg (-1) →
        (vp_in x2 512 ∧
         (∀ w_31 : GW, w_31 = gS w_30 18 (x2).toNatClampNeg (-1) →
          (∀ v2_32 : Int32, v2_32 = x2 + 1 →
           ((PX7_allDown_35 Q x1 n) v2_32 w_31))))))))
def PX7_allDown   (x1 : Int32) (w : GW) (Q : Int32 → GW → Prop) : Prop :=
    (∀ w_33 : GW, w_33 = gS w 0 0 0 →
     (PX7_in x1 0 1 (fun r_34 =>
       ((¬ r_34 = 0 →
         ((¬ (w_33 0 7) = 0 →
           (PX7_sets 0 0 w_33 (fun w_38 =>
             (∃ n_39 : Nat, PX7_allDown_35 Q x1 n_39 0 w_38)))) ∧
          ((w_33 0 7) = 0 →
           (Q (-1000000003) w_33)))) ∧
        (r_34 = 0 →
         (Q (-1000000002) w_33))))))
def PX7_mend_131 (K48 : Int32 → Int32 → Int32 → GW → Prop) (K61 : Int32 → Int32 → Int32 → GW → Prop) (Q : Int32 → GW → Prop) (x1 : Int32) (x2 : Int32) (x3 : Int32) (x4 : Int32) (x5 : Int32) (x7 : Int32) (x8 : Int32) (s0 : Int32) (w : GW) : Prop :=
    (∀ v8_1 : Int32, v8_1 = x8 + 1 →
     (K61 x5 s0 v8_1 w))
def PX7_mend_115 (K48 : Int32 → Int32 → Int32 → GW → Prop) (K61 : Int32 → Int32 → Int32 → GW → Prop) (Q : Int32 → GW → Prop) (x1 : Int32) (x2 : Int32) (x3 : Int32) (x4 : Int32) (x6 : Int32) (x7 : Int32) (x8 : Int32) (x9 : Int32) (s0 : Int32) (w : GW) : Prop :=
    ((x6 ≤ x9 →
      (PX7_mend_131 K48 K61 Q x1 x2 x3 x4 s0 x7 x8 x6 w)) ∧
     (¬ x6 ≤ x9 →
      (PX7_mend_131 K48 K61 Q x1 x2 x3 x4 s0 x7 x8 x9 w)))
def PX7_mend_61 (K48 : Int32 → Int32 → Int32 → GW → Prop) (Q : Int32 → GW → Prop) (x1 : Int32) (x2 : Int32) (x3 : Int32) (x4 : Int32) (x7 : Int32)  : Nat → Int32 → Int32 → Int32 → GW → Prop
  | 0, _, _, _, _ => False
  | n + 1, x5, x6, x8, w =>
    ((9 ≤ x8 →
      (∀ v7_4 : Int32, v7_4 = x7 + 1 →
       (K48 x5 x6 v7_4 w))) ∧
     (¬ 9 ≤ x8 →
      (PX7_sets x7 x8 w (fun w_6 =>
        (PX7_goes (w_6 4 45) x1 x2 x3 w_6 (fun r_7 w_8 =>
          (PX7_ones r_7 (fun r_9 =>
            ((x6 ≤ r_9 →
              (PX7_mend_115 K48 (PX7_mend_61 K48 Q x1 x2 x3 x4 x7 n) Q x1 x2 x3 x4 x6 x7 x8 r_9 x5 w_8)) ∧
             (¬ x6 ≤ r_9 →
              (PX7_mend_115 K48 (PX7_mend_61 K48 Q x1 x2 x3 x4 x7 n) Q x1 x2 x3 x4 x6 x7 x8 r_9 ((10 * x7) + x8) w_8)))))))))))
def PX7_mend_48 (Q : Int32 → GW → Prop) (x1 : Int32) (x2 : Int32) (x3 : Int32) (x4 : Int32)  : Nat → Int32 → Int32 → Int32 → GW → Prop
  | 0, _, _, _, _ => False
  | n + 1, x5, x6, x7, w =>
    ((9 ≤ x7 →
      ((¬ x4 = 0 →
        (Q x6 w)) ∧
       (x4 = 0 →
        (Q x5 w)))) ∧
     (¬ 9 ≤ x7 →
      (∀ v8_13 : Int32, v8_13 = (x7 + 1) →
       (∃ n_14 : Nat, PX7_mend_61 (PX7_mend_48 Q x1 x2 x3 x4 n) Q x1 x2 x3 x4 x7 n_14 x5 x6 v8_13 w))))
def PX7_mend   (x1 : Int32) (x2 : Int32) (x3 : Int32) (x4 : Int32) (w : GW) (Q : Int32 → GW → Prop) : Prop :=
    (∀ w_15 : GW, w_15 = gS w 0 0 0 →
     (PX7_isBall x1 x2 x3 (fun r_16 =>
       ((r_16 = 0 →
         (Q (-1000000002) w_15)) ∧
        (¬ r_16 = 0 →
         (PX7_in x4 0 1 (fun r_18 =>
           ((¬ r_18 = 0 →
             ((¬ (w_15 0 7) = 0 →
               (∃ n_21 : Nat, PX7_mend_48 Q x1 x2 x3 x4 n_21 (-1) 10 0 w_15)) ∧
              ((w_15 0 7) = 0 →
               (Q (-1000000003) w_15)))) ∧
            (r_18 = 0 →
             (Q (-1000000002) w_15))))))))))
def PX7_hand_70 (K36 : Int32 → Int32 → GW → Prop) (Q : Int32 → GW → Prop) (x1 : Int32) (x3 : Int32) (s0 : Int32) (s1 : Int32) (w : GW) : Prop :=
    (∀ v2_1 : Int32, v2_1 = (s0 ||| s1) →
     (∀ v3_2 : Int32, v3_2 = x3 + 1 →
      (K36 v2_1 v3_2 w)))
def PX7_hand_36 (Q : Int32 → GW → Prop) (x1 : Int32)  : Nat → Int32 → Int32 → GW → Prop
  | 0, _, _, _ => False
  | n + 1, x2, x3, w =>
    ((600 ≤ x3 →
      (Q x2 w)) ∧
     (¬ 600 ≤ x3 →
      (PX7_goesBy (w 4 45) x3 w (fun r_4 w_5 =>
        ((¬ r_4 = x1 →
          (PX7_hand_70 (PX7_hand_36 Q x1 n) Q x1 x3 x2 0 w_5)) ∧
         (r_4 = x1 →
          (PX7_hand_70 (PX7_hand_36 Q x1 n) Q x1 x3 x2 (1 <<< ((x3 / 120) &&& 31)) w_5)))))))
def PX7_hand   (x1 : Int32) (w : GW) (Q : Int32 → GW → Prop) : Prop :=
    (∀ w_7 : GW, w_7 = gS w 0 0 0 →
     (PX7_isSet x1 w_7 (fun r_8 =>
       ((¬ r_8 = 0 →
         ((¬ (w_7 0 7) = 0 →
           (PX7_sets 0 0 w_7 (fun w_12 =>
             (∃ n_13 : Nat, PX7_hand_36 Q x1 n_13 0 0 w_12)))) ∧
          ((w_7 0 7) = 0 →
           (Q (-1000000003) w_7)))) ∧
        (r_8 = 0 →
         (Q (-1000000001) w_7))))))
def PX7_ask_152 (K41 : Int32 → Int32 → Int32 → GW → Prop) (Q : Int32 → GW → Prop) (x1 : Int32) (x2 : Int32) (x4 : Int32) (s0 : Int32) (w : GW) : Prop :=
    (∀ v4_1 : Int32, v4_1 = x4 + 1 →
     (K41 x2 s0 v4_1 w))
def PX7_ask_139 (K41 : Int32 → Int32 → Int32 → GW → Prop) (Q : Int32 → GW → Prop) (x1 : Int32) (x3 : Int32) (x4 : Int32) (x6 : Int32) (s0 : Int32) (w : GW) : Prop :=
    ((x3 ≤ x6 →
      (PX7_ask_152 K41 Q x1 s0 x4 x3 w)) ∧
     (¬ x3 ≤ x6 →
      (PX7_ask_152 K41 Q x1 s0 x4 x6 w)))
def PX7_ask_125 (K41 : Int32 → Int32 → Int32 → GW → Prop) (Q : Int32 → GW → Prop) (x1 : Int32) (x2 : Int32) (x3 : Int32) (x4 : Int32) (s0 : Int32) (w : GW) : Prop :=
    ((x3 ≤ s0 →
      (PX7_ask_139 K41 Q x1 x3 x4 s0 x2 w)) ∧
     (¬ x3 ≤ s0 →
      (PX7_ask_139 K41 Q x1 x3 x4 s0 x4 w)))
def PX7_ask_96 (K41 : Int32 → Int32 → Int32 → GW → Prop) (K56 : Int32 → Int32 → GW → Prop) (Q : Int32 → GW → Prop) (x1 : Int32) (x2 : Int32) (x3 : Int32) (x4 : Int32) (x6 : Int32) (s0 : Int32) (s1 : Int32) (w : GW) : Prop :=
    (∀ v5_4 : Int32, v5_4 = (s0 + s1) →
     (∀ v6_5 : Int32, v6_5 = x6 + 1 →
      (K56 v5_4 v6_5 w)))
def PX7_ask_56 (K41 : Int32 → Int32 → Int32 → GW → Prop) (Q : Int32 → GW → Prop) (x1 : Int32) (x2 : Int32) (x3 : Int32) (x4 : Int32)  : Nat → Int32 → Int32 → GW → Prop
  | 0, _, _, _ => False
  | n + 1, x5, x6, w =>
    ((120 ≤ x6 →
      ((x5 ≤ (120 - x5) →
        (PX7_ask_125 K41 Q x1 x2 x3 x4 (120 - x5) w)) ∧
       (¬ x5 ≤ (120 - x5) →
        (PX7_ask_125 K41 Q x1 x2 x3 x4 x5 w)))) ∧
     (¬ 120 ≤ x6 →
      (PX7_goesBy (w 4 45) ((120 * x1) + x6) w (fun r_8 w_9 =>
        (PX7_has r_8 x4 (fun r_10 =>
          ((r_10 = 0 →
            (PX7_ask_96 K41 (PX7_ask_56 K41 Q x1 x2 x3 x4 n) Q x1 x2 x3 x4 x6 x5 0 w_9)) ∧
           (¬ r_10 = 0 →
            (PX7_ask_96 K41 (PX7_ask_56 K41 Q x1 x2 x3 x4 n) Q x1 x2 x3 x4 x6 x5 1 w_9)))))))))
def PX7_ask_41 (Q : Int32 → GW → Prop) (x1 : Int32)  : Nat → Int32 → Int32 → Int32 → GW → Prop
  | 0, _, _, _, _ => False
  | n + 1, x2, x3, x4, w =>
    (((w 0 9) ≤ x4 →
      (Q x2 w)) ∧
     (¬ (w 0 9) ≤ x4 →
      (∃ n_13 : Nat, PX7_ask_56 (PX7_ask_41 Q x1 n) Q x1 x2 x3 x4 n_13 0 0 w)))
def PX7_ask   (x1 : Int32) (w : GW) (Q : Int32 → GW → Prop) : Prop :=
    (∀ w_14 : GW, w_14 = gS w 0 0 0 →
     (PX7_in x1 0 4 (fun r_15 =>
       ((¬ r_15 = 0 →
         ((¬ (w_14 0 7) = 0 →
           (PX7_sets 0 0 w_14 (fun w_19 =>
             (∃ n_20 : Nat, PX7_ask_41 Q x1 n_20 (-1) 120 0 w_19)))) ∧
          ((w_14 0 7) = 0 →
           (Q (-1000000003) w_14)))) ∧
        (r_15 = 0 →
         (Q (-1000000002) w_14))))))
def PX7_calm_35 (Q : Int32 → GW → Prop) (x1 : Int32) (x2 : Int32) (w : GW) : Nat → Int64 → Int32 → Prop
  | 0, _, _ => False
  | n + 1, x3, x5 =>
    ((x1 ≤ x5 →
      (Q (x3).toInt32 w)) ∧
     (¬ x1 ≤ x5 →
      (∀ v3_2 : Int64, v3_2 = ((x3 * (x2).toInt64) / (100 : Int64)) →
       (∀ v5_3 : Int32, v5_3 = x5 + 1 →
        ((PX7_calm_35 Q x1 x2 w n) v3_2 v5_3)))))
def PX7_calm   (x1 : Int32) (x2 : Int32) (w : GW) (Q : Int32 → GW → Prop) : Prop :=
    (∀ w_4 : GW, w_4 = gS w 0 0 0 →
     (PX7_in x1 0 60 (fun r_5 =>
       ((r_5 = 0 →
         (Q (-1000000002) w_4)) ∧
        (¬ r_5 = 0 →
         (PX7_in x2 0 100 (fun r_7 =>
           ((¬ r_7 = 0 →
             (∀ v3_9 : Int64, v3_9 = (1000000000 : Int64) →
              (∃ n_10 : Nat, PX7_calm_35 Q x1 x2 w_4 n_10 v3_9 0))) ∧
            (r_7 = 0 →
             (Q (-1000000002) w_4))))))))))
def PX7_write   (x1 : Int32) (x2 : Int32) (w : GW) (Q : Int32 → GW → Prop) : Prop :=
    (∀ w_1 : GW, w_1 = gS w 0 0 0 →
     (PX7_isSkittle x1 w_1 (fun r_2 =>
       ((¬ r_2 = 0 →
         ((¬ (w_1 0 21) = 15 →
           (vp_in (w_1 0 21) 15 ∧
            (∀ w_5 : GW, w_5 = gS w_1 8 ((w_1 0 21)).toNatClampNeg x1 →
             (gBool x2 ∧
              (vp_in (w_5 0 21) 15 ∧
               (∀ w_6 : GW, w_6 = gS w_5 9 ((w_5 0 21)).toNatClampNeg x2 →
                (∀ w_7 : GW, w_7 = gS w_6 0 21 ((w_6 0 21) + 1) →
                 (Q (w_7 0 21) w_7)))))))) ∧
          ((w_1 0 21) = 15 →
           (Q (-1000000004) w_1)))) ∧
        (r_2 = 0 →
         (Q (-1000000001) w_1))))))
def PX7_tear    (w : GW) (Q : Int32 → GW → Prop) : Prop :=
    (∀ w_1 : GW, w_1 = gS w 0 0 0 →
     (∀ v1_2 : Int32, v1_2 = (w_1 0 21) →
      (∀ w_3 : GW, w_3 = gS w_1 0 21 0 →
       (Q v1_2 w_3))))
def PX7_judge_7 (Q : Int32 → GW → Prop)  (w : GW) : Nat → Int32 → Prop
  | 0, _ => False
  | n + 1, x1 =>
    (((w 0 21) ≤ x1 →
      (Q (-1) w)) ∧
     (¬ (w 0 21) ≤ x1 →
      (vp_in x1 15 ∧
       (PX7_has (w 4 45) (w 8 (x1).toNatClampNeg) (fun r_2 =>
         (vp_in x1 15 ∧
          ((r_2 = (w 9 (x1).toNatClampNeg) →
            (∀ v1_4 : Int32, v1_4 = x1 + 1 →
             ((PX7_judge_7 Q w n) v1_4))) ∧
           (¬ r_2 = (w 9 (x1).toNatClampNeg) →
            (Q x1 w)))))))))
def PX7_judge    (w : GW) (Q : Int32 → GW → Prop) : Prop :=
    (∀ w_5 : GW, w_5 = gS w 0 0 0 →
     (∃ n_6 : Nat, PX7_judge_7 Q w_5 n_6 0))
def PX7_seed   (x1 : Int32) (w : GW) (Q : Int32 → GW → Prop) : Prop :=
    (∀ w_1 : GW, w_1 = gS w 0 0 0 →
     ((0 ≤ x1 →
       (∀ v2_3 : Int32, v2_3 = (w_1 4 48) →
        (∀ w_4 : GW, w_4 = gS w_1 4 48 x1 →
         (Q v2_3 w_4)))) ∧
      (¬ 0 ≤ x1 →
       (Q (-1000000002) w_1))))
def PX7_keep_19 (Q : Int32 → GW → Prop) (x1 : Int32)  : Nat → Int32 → GW → Prop
  | 0, _, _ => False
  | n + 1, x2, w =>
    ((49 ≤ x2 →
      (vp_in x1 2 ∧
       (∀ w_2 : GW, w_2 = gS w 6 (x1).toNatClampNeg 1 →
        (∀ w_3 : GW, w_3 = gS w_2 0 18 0 →
         (Q 1 w_3))))) ∧
     (¬ 49 ≤ x2 →
      (vp_in x2 49 ∧
       (vp_in ((49 * x1) + x2) 98 ∧
        (∀ w_4 : GW, w_4 = gS w 5 (((49 * x1) + x2)).toNatClampNeg (w 4 (x2).toNatClampNeg) →
         (∀ v2_5 : Int32, v2_5 = x2 + 1 →
          ((PX7_keep_19 Q x1 n) v2_5 w_4)))))))
def PX7_keep   (x1 : Int32) (w : GW) (Q : Int32 → GW → Prop) : Prop :=
    (∀ w_6 : GW, w_6 = gS w 0 0 0 →
     (PX7_in x1 0 1 (fun r_7 =>
       ((¬ r_7 = 0 →
         (∃ n_9 : Nat, PX7_keep_19 Q x1 n_9 0 w_6)) ∧
        (r_7 = 0 →
         (Q (-1000000001) w_6))))))
def PX7_goBack_31 (Q : Int32 → GW → Prop) (x1 : Int32)  : Nat → Int32 → GW → Prop
  | 0, _, _ => False
  | n + 1, x2, w =>
    ((49 ≤ x2 →
      (∀ w_2 : GW, w_2 = gS w 0 18 0 →
       (Q 1 w_2))) ∧
     (¬ 49 ≤ x2 →
      (vp_in ((49 * x1) + x2) 98 ∧
       (vp_in x2 49 ∧
        (∀ w_3 : GW, w_3 = gS w 4 (x2).toNatClampNeg (w 5 (((49 * x1) + x2)).toNatClampNeg) →
         (∀ v2_4 : Int32, v2_4 = x2 + 1 →
          ((PX7_goBack_31 Q x1 n) v2_4 w_3)))))))
def PX7_goBack   (x1 : Int32) (w : GW) (Q : Int32 → GW → Prop) : Prop :=
    (∀ w_5 : GW, w_5 = gS w 0 0 0 →
     (PX7_in x1 0 1 (fun r_6 =>
       ((¬ r_6 = 0 →
         (vp_in x1 2 ∧
          ((¬ (w_5 6 (x1).toNatClampNeg) = 0 →
            (∃ n_9 : Nat, PX7_goBack_31 Q x1 n_9 0 w_5)) ∧
           ((w_5 6 (x1).toNatClampNeg) = 0 →
            (Q (-1000000003) w_5))))) ∧
        (r_6 = 0 →
         (Q (-1000000001) w_5))))))
