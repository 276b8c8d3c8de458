/-! the reference's world: cell 0 its object (fields by their places), 1.. its arrays: 1 text, 2 draft, 3 weight, 4 s, 5 kept, 6 isKept, 7 undos, 8 bookOf, 9 book, 10 on, 11 bear, 12 rocks, 13 taker, 14 striker, 15 strength, 16 side, 17 far, 18 firstBy, 19 queue -/
set_option maxRecDepth 100000
def flM : List (Option (Option Nat)) := [none, some (some 1), none, none, none, none, none, none, none, none, none, none, some (some 2), some (some 3), some (some 4), some (some 5), some (some 6), some (some 7), none, some (some 8), some (some 9), none, some (some 10), some (some 11), some (some 12), some (some 13), none, none, none, some (some 14), some (some 15), some (some 16), some (some 17), some (some 18), some (some 19)]
def layM : Nat → gD := fun k => match k with
  | 0 => .inr (.inl (7, flM))
  | 1 => .inl (0, 240)
  | 2 => .inl (0, 27)
  | 3 => .inl (0, 9)
  | 4 => .inl (0, 49)
  | 5 => .inl (0, 98)
  | 6 => .inl (1, 2)
  | 7 => .inl (0, 784)
  | 8 => .inl (0, 15)
  | 9 => .inl (1, 15)
  | 10 => .inl (0, 9)
  | 11 => .inl (0, 9)
  | 12 => .inl (0, 9)
  | 13 => .inl (0, 9)
  | 14 => .inl (0, 10)
  | 15 => .inl (0, 10)
  | 16 => .inl (0, 10)
  | 17 => .inl (0, 512)
  | 18 => .inl (0, 512)
  | 19 => .inl (0, 512)
  | _ => .inl (0, 0)
abbrev gAtM (p : Program) (l : Launch) (e : Env) (s : State) (m : MethodId) (args : Array Value) (below : List Frame) (meth : Method) (c : Code) (D : va_G) (dA : Nat → ClassId) (ad : Nat → Nat) (rk : Nat) (Qc : Array Value → State → Outcome → State → Prop) (nL pc : Nat) (L : List (Nat × Value)) (st : List Value) (w : GW) : Prop := gAt p l e (gR rk) s m args below meth c D (gA 20 ad) (MQ below Qc args s 0 0 (gA 20 ad)) nL 0 0 pc L st (gW dA 20 ad layM w)
theorem vp_nar_byte_ok (v : Int32) : vp_nar .byte v.toInt8.toInt32 = v.toInt8.toInt32 := by
  rw [vp_nar_byte]
  exact by simp
theorem ic_m1 : Int32.ofInt (-1) = (-1) := by decide
theorem ic_0 : Int32.ofInt 0 = 0 := by decide
theorem ic_1 : Int32.ofInt 1 = 1 := by decide
theorem ic_2 : Int32.ofInt 2 = 2 := by decide
theorem ic_3 : Int32.ofInt 3 = 3 := by decide
theorem ic_4 : Int32.ofInt 4 = 4 := by decide
theorem ic_5 : Int32.ofInt 5 = 5 := by decide
theorem bp_m10 : (Int8.ofInt (-10)).toInt32 = (-10) := by decide
theorem bp_m2 : (Int8.ofInt (-2)).toInt32 = (-2) := by decide
theorem bp_6 : (Int8.ofInt 6).toInt32 = 6 := by decide
theorem bp_7 : (Int8.ofInt 7).toInt32 = 7 := by decide
theorem bp_8 : (Int8.ofInt 8).toInt32 = 8 := by decide
theorem bp_9 : (Int8.ofInt 9).toInt32 = 9 := by decide
theorem bp_10 : (Int8.ofInt 10).toInt32 = 10 := by decide
theorem bp_11 : (Int8.ofInt 11).toInt32 = 11 := by decide
theorem bp_12 : (Int8.ofInt 12).toInt32 = 12 := by decide
theorem bp_13 : (Int8.ofInt 13).toInt32 = 13 := by decide
theorem bp_15 : (Int8.ofInt 15).toInt32 = 15 := by decide
theorem bp_16 : (Int8.ofInt 16).toInt32 = 16 := by decide
theorem bp_18 : (Int8.ofInt 18).toInt32 = 18 := by decide
theorem bp_20 : (Int8.ofInt 20).toInt32 = 20 := by decide
theorem bp_27 : (Int8.ofInt 27).toInt32 = 27 := by decide
theorem bp_30 : (Int8.ofInt 30).toInt32 = 30 := by decide
theorem bp_32 : (Int8.ofInt 32).toInt32 = 32 := by decide
theorem bp_36 : (Int8.ofInt 36).toInt32 = 36 := by decide
theorem bp_40 : (Int8.ofInt 40).toInt32 = 40 := by decide
theorem bp_41 : (Int8.ofInt 41).toInt32 = 41 := by decide
theorem bp_45 : (Int8.ofInt 45).toInt32 = 45 := by decide
theorem bp_46 : (Int8.ofInt 46).toInt32 = 46 := by decide
theorem bp_47 : (Int8.ofInt 47).toInt32 = 47 := by decide
theorem bp_48 : (Int8.ofInt 48).toInt32 = 48 := by decide
theorem bp_49 : (Int8.ofInt 49).toInt32 = 49 := by decide
theorem bp_57 : (Int8.ofInt 57).toInt32 = 57 := by decide
theorem bp_59 : (Int8.ofInt 59).toInt32 = 59 := by decide
theorem bp_60 : (Int8.ofInt 60).toInt32 = 60 := by decide
theorem bp_100 : (Int8.ofInt 100).toInt32 = 100 := by decide
theorem bp_103 : (Int8.ofInt 103).toInt32 = 103 := by decide
theorem bp_115 : (Int8.ofInt 115).toInt32 = 115 := by decide
theorem bp_120 : (Int8.ofInt 120).toInt32 = 120 := by decide
theorem sp_240 : (Int16.ofInt 240).toInt32 = 240 := by decide
theorem sp_255 : (Int16.ofInt 255).toInt32 = 255 := by decide
theorem sp_511 : (Int16.ofInt 511).toInt32 = 511 := by decide
theorem sp_512 : (Int16.ofInt 512).toInt32 = 512 := by decide
theorem sp_600 : (Int16.ofInt 600).toInt32 = 600 := by decide
theorem sp_735 : (Int16.ofInt 735).toInt32 = 735 := by decide
theorem sp_1000 : (Int16.ofInt 1000).toInt32 = 1000 := by decide
theorem sp_9999 : (Int16.ofInt 9999).toInt32 = 9999 := by decide
theorem nz_2 : ¬ (2 : Int32) = 0 := by decide
theorem nz_3 : ¬ (3 : Int32) = 0 := by decide
theorem nz_40 : ¬ (40 : Int32) = 0 := by decide
theorem nz_120 : ¬ (120 : Int32) = 0 := by decide
theorem nz_65536 : ¬ (65536 : Int32) = 0 := by decide
theorem vk_0_2 : vp_in 0 2 := by unfold vp_in; decide
theorem vk_0_10 : vp_in 0 10 := by unfold vp_in; decide
theorem vk_0_512 : vp_in 0 512 := by unfold vp_in; decide
theorem vk_1_2 : vp_in 1 2 := by unfold vp_in; decide
theorem vk_45_49 : vp_in 45 49 := by unfold vp_in; decide
theorem vk_46_49 : vp_in 46 49 := by unfold vp_in; decide
theorem vk_47_49 : vp_in 47 49 := by unfold vp_in; decide
theorem vk_48_49 : vp_in 48 49 := by unfold vp_in; decide
theorem tk_0 : (0 : Int32).toNatClampNeg = 0 := by decide
theorem tk_1 : (1 : Int32).toNatClampNeg = 1 := by decide
theorem tk_45 : (45 : Int32).toNatClampNeg = 45 := by decide
theorem tk_46 : (46 : Int32).toNatClampNeg = 46 := by decide
theorem tk_47 : (47 : Int32).toNatClampNeg = 47 := by decide
theorem tk_48 : (48 : Int32).toNatClampNeg = 48 := by decide
theorem dsX7_in : yX7_in.cls ≠ "java/lang/invoke/MethodHandle" ∧ yX7_in.cls ≠ "java/lang/invoke/VarHandle" ∧ (parseMethodDescriptor yX7_in.desc).map (fun d => d.parameters.length) = some 3 := by decide +kernel
theorem dsX7_feed : yX7_feed.cls = "SkittleGentryModel" ∧ yX7_feed.cls ≠ "java/lang/invoke/MethodHandle" ∧ yX7_feed.cls ≠ "java/lang/invoke/VarHandle" ∧ (parseMethodDescriptor yX7_feed.desc).map (fun d => d.parameters.length) = some 1 := by decide +kernel
theorem dsX7_letterAt : yX7_letterAt.cls = "SkittleGentryModel" ∧ yX7_letterAt.cls ≠ "java/lang/invoke/MethodHandle" ∧ yX7_letterAt.cls ≠ "java/lang/invoke/VarHandle" ∧ (parseMethodDescriptor yX7_letterAt.desc).map (fun d => d.parameters.length) = some 1 := by decide +kernel
theorem dsX7_blanks : yX7_blanks.cls = "SkittleGentryModel" ∧ yX7_blanks.cls ≠ "java/lang/invoke/MethodHandle" ∧ yX7_blanks.cls ≠ "java/lang/invoke/VarHandle" ∧ (parseMethodDescriptor yX7_blanks.desc).map (fun d => d.parameters.length) = some 0 := by decide +kernel
theorem dsX7_isWell : yX7_isWell.cls = "SkittleGentryModel" ∧ yX7_isWell.cls ≠ "java/lang/invoke/MethodHandle" ∧ yX7_isWell.cls ≠ "java/lang/invoke/VarHandle" ∧ (parseMethodDescriptor yX7_isWell.desc).map (fun d => d.parameters.length) = some 0 := by decide +kernel
theorem dsX7_faulty : yX7_faulty.cls = "SkittleGentryModel" ∧ yX7_faulty.cls ≠ "java/lang/invoke/MethodHandle" ∧ yX7_faulty.cls ≠ "java/lang/invoke/VarHandle" ∧ (parseMethodDescriptor yX7_faulty.desc).map (fun d => d.parameters.length) = some 2 := by decide +kernel
theorem dsX7_due : yX7_due.cls = "SkittleGentryModel" ∧ yX7_due.cls ≠ "java/lang/invoke/MethodHandle" ∧ yX7_due.cls ≠ "java/lang/invoke/VarHandle" ∧ (parseMethodDescriptor yX7_due.desc).map (fun d => d.parameters.length) = some 2 := by decide +kernel
theorem dsX7_tells : yX7_tells.cls = "SkittleGentryModel" ∧ yX7_tells.cls ≠ "java/lang/invoke/MethodHandle" ∧ yX7_tells.cls ≠ "java/lang/invoke/VarHandle" ∧ (parseMethodDescriptor yX7_tells.desc).map (fun d => d.parameters.length) = some 0 := by decide +kernel
theorem dsX7_ends : yX7_ends.cls = "SkittleGentryModel" ∧ yX7_ends.cls ≠ "java/lang/invoke/MethodHandle" ∧ yX7_ends.cls ≠ "java/lang/invoke/VarHandle" ∧ (parseMethodDescriptor yX7_ends.desc).map (fun d => d.parameters.length) = some 0 := by decide +kernel
theorem dsX7_reads : yX7_reads.cls = "SkittleGentryModel" ∧ yX7_reads.cls ≠ "java/lang/invoke/MethodHandle" ∧ yX7_reads.cls ≠ "java/lang/invoke/VarHandle" ∧ (parseMethodDescriptor yX7_reads.desc).map (fun d => d.parameters.length) = some 0 := by decide +kernel
theorem dsX7_settles : yX7_settles.cls = "SkittleGentryModel" ∧ yX7_settles.cls ≠ "java/lang/invoke/MethodHandle" ∧ yX7_settles.cls ≠ "java/lang/invoke/VarHandle" ∧ (parseMethodDescriptor yX7_settles.desc).map (fun d => d.parameters.length) = some 0 := by decide +kernel
theorem dsX7_county : yX7_county.cls = "SkittleGentryModel" ∧ yX7_county.cls ≠ "java/lang/invoke/MethodHandle" ∧ yX7_county.cls ≠ "java/lang/invoke/VarHandle" ∧ (parseMethodDescriptor yX7_county.desc).map (fun d => d.parameters.length) = some 0 := by decide +kernel
theorem dsX7_fault : yX7_fault.cls = "SkittleGentryModel" ∧ yX7_fault.cls ≠ "java/lang/invoke/MethodHandle" ∧ yX7_fault.cls ≠ "java/lang/invoke/VarHandle" ∧ (parseMethodDescriptor yX7_fault.desc).map (fun d => d.parameters.length) = some 0 := by decide +kernel
theorem dsX7_rowOf : yX7_rowOf.cls ≠ "java/lang/invoke/MethodHandle" ∧ yX7_rowOf.cls ≠ "java/lang/invoke/VarHandle" ∧ (parseMethodDescriptor yX7_rowOf.desc).map (fun d => d.parameters.length) = some 1 := by decide +kernel
theorem dsX7_bearsOn : yX7_bearsOn.cls = "SkittleGentryModel" ∧ yX7_bearsOn.cls ≠ "java/lang/invoke/MethodHandle" ∧ yX7_bearsOn.cls ≠ "java/lang/invoke/VarHandle" ∧ (parseMethodDescriptor yX7_bearsOn.desc).map (fun d => d.parameters.length) = some 2 := by decide +kernel
theorem dsX7_sets : yX7_sets.cls = "SkittleGentryModel" ∧ yX7_sets.cls ≠ "java/lang/invoke/MethodHandle" ∧ yX7_sets.cls ≠ "java/lang/invoke/VarHandle" ∧ (parseMethodDescriptor yX7_sets.desc).map (fun d => d.parameters.length) = some 2 := by decide +kernel
theorem dsX7_columnOf : yX7_columnOf.cls ≠ "java/lang/invoke/MethodHandle" ∧ yX7_columnOf.cls ≠ "java/lang/invoke/VarHandle" ∧ (parseMethodDescriptor yX7_columnOf.desc).map (fun d => d.parameters.length) = some 1 := by decide +kernel
theorem dsX7_plateAt : yX7_plateAt.cls ≠ "java/lang/invoke/MethodHandle" ∧ yX7_plateAt.cls ≠ "java/lang/invoke/VarHandle" ∧ (parseMethodDescriptor yX7_plateAt.desc).map (fun d => d.parameters.length) = some 2 := by decide +kernel
theorem dsX7_has : yX7_has.cls ≠ "java/lang/invoke/MethodHandle" ∧ yX7_has.cls ≠ "java/lang/invoke/VarHandle" ∧ (parseMethodDescriptor yX7_has.desc).map (fun d => d.parameters.length) = some 2 := by decide +kernel
theorem dsX7_fallsNow : yX7_fallsNow.cls = "SkittleGentryModel" ∧ yX7_fallsNow.cls ≠ "java/lang/invoke/MethodHandle" ∧ yX7_fallsNow.cls ≠ "java/lang/invoke/VarHandle" ∧ (parseMethodDescriptor yX7_fallsNow.desc).map (fun d => d.parameters.length) = some 2 := by decide +kernel
theorem dsX7_plateOf : yX7_plateOf.cls = "SkittleGentryModel" ∧ yX7_plateOf.cls ≠ "java/lang/invoke/MethodHandle" ∧ yX7_plateOf.cls ≠ "java/lang/invoke/VarHandle" ∧ (parseMethodDescriptor yX7_plateOf.desc).map (fun d => d.parameters.length) = some 1 := by decide +kernel
theorem dsX7_rocksNow : yX7_rocksNow.cls = "SkittleGentryModel" ∧ yX7_rocksNow.cls ≠ "java/lang/invoke/MethodHandle" ∧ yX7_rocksNow.cls ≠ "java/lang/invoke/VarHandle" ∧ (parseMethodDescriptor yX7_rocksNow.desc).map (fun d => d.parameters.length) = some 1 := by decide +kernel
theorem dsX7_falls : yX7_falls.cls = "SkittleGentryModel" ∧ yX7_falls.cls ≠ "java/lang/invoke/MethodHandle" ∧ yX7_falls.cls ≠ "java/lang/invoke/VarHandle" ∧ (parseMethodDescriptor yX7_falls.desc).map (fun d => d.parameters.length) = some 2 := by decide +kernel
theorem dsX7_goes : yX7_goes.cls = "SkittleGentryModel" ∧ yX7_goes.cls ≠ "java/lang/invoke/MethodHandle" ∧ yX7_goes.cls ≠ "java/lang/invoke/VarHandle" ∧ (parseMethodDescriptor yX7_goes.desc).map (fun d => d.parameters.length) = some 4 := by decide +kernel
theorem dsX7_goesBy : yX7_goesBy.cls = "SkittleGentryModel" ∧ yX7_goesBy.cls ≠ "java/lang/invoke/MethodHandle" ∧ yX7_goesBy.cls ≠ "java/lang/invoke/VarHandle" ∧ (parseMethodDescriptor yX7_goesBy.desc).map (fun d => d.parameters.length) = some 2 := by decide +kernel
theorem dsX7_ones : yX7_ones.cls ≠ "java/lang/invoke/MethodHandle" ∧ yX7_ones.cls ≠ "java/lang/invoke/VarHandle" ∧ (parseMethodDescriptor yX7_ones.desc).map (fun d => d.parameters.length) = some 1 := by decide +kernel
theorem dsX7_numberOf : yX7_numberOf.cls ≠ "java/lang/invoke/MethodHandle" ∧ yX7_numberOf.cls ≠ "java/lang/invoke/VarHandle" ∧ (parseMethodDescriptor yX7_numberOf.desc).map (fun d => d.parameters.length) = some 1 := by decide +kernel
theorem dsX7_worst : yX7_worst.cls = "SkittleGentryModel" ∧ yX7_worst.cls ≠ "java/lang/invoke/MethodHandle" ∧ yX7_worst.cls ≠ "java/lang/invoke/VarHandle" ∧ (parseMethodDescriptor yX7_worst.desc).map (fun d => d.parameters.length) = some 1 := by decide +kernel
theorem dsX7_safest : yX7_safest.cls = "SkittleGentryModel" ∧ yX7_safest.cls ≠ "java/lang/invoke/MethodHandle" ∧ yX7_safest.cls ≠ "java/lang/invoke/VarHandle" ∧ (parseMethodDescriptor yX7_safest.desc).map (fun d => d.parameters.length) = some 1 := by decide +kernel
theorem dsX7_ballsFor : yX7_ballsFor.cls = "SkittleGentryModel" ∧ yX7_ballsFor.cls ≠ "java/lang/invoke/MethodHandle" ∧ yX7_ballsFor.cls ≠ "java/lang/invoke/VarHandle" ∧ (parseMethodDescriptor yX7_ballsFor.desc).map (fun d => d.parameters.length) = some 2 := by decide +kernel
theorem dsX7_firm : yX7_firm.cls = "SkittleGentryModel" ∧ yX7_firm.cls ≠ "java/lang/invoke/MethodHandle" ∧ yX7_firm.cls ≠ "java/lang/invoke/VarHandle" ∧ (parseMethodDescriptor yX7_firm.desc).map (fun d => d.parameters.length) = some 0 := by decide +kernel
theorem dsX7_talks : yX7_talks.cls = "SkittleGentryModel" ∧ yX7_talks.cls ≠ "java/lang/invoke/MethodHandle" ∧ yX7_talks.cls ≠ "java/lang/invoke/VarHandle" ∧ (parseMethodDescriptor yX7_talks.desc).map (fun d => d.parameters.length) = some 0 := by decide +kernel
theorem dsX7_told : yX7_told.cls = "SkittleGentryModel" ∧ yX7_told.cls ≠ "java/lang/invoke/MethodHandle" ∧ yX7_told.cls ≠ "java/lang/invoke/VarHandle" ∧ (parseMethodDescriptor yX7_told.desc).map (fun d => d.parameters.length) = some 1 := by decide +kernel
theorem dsX7_isSkittle : yX7_isSkittle.cls = "SkittleGentryModel" ∧ yX7_isSkittle.cls ≠ "java/lang/invoke/MethodHandle" ∧ yX7_isSkittle.cls ≠ "java/lang/invoke/VarHandle" ∧ (parseMethodDescriptor yX7_isSkittle.desc).map (fun d => d.parameters.length) = some 1 := by decide +kernel
theorem dsX7_firstTaker : yX7_firstTaker.cls = "SkittleGentryModel" ∧ yX7_firstTaker.cls ≠ "java/lang/invoke/MethodHandle" ∧ yX7_firstTaker.cls ≠ "java/lang/invoke/VarHandle" ∧ (parseMethodDescriptor yX7_firstTaker.desc).map (fun d => d.parameters.length) = some 1 := by decide +kernel
theorem dsX7_skittle : yX7_skittle.cls = "SkittleGentryModel" ∧ yX7_skittle.cls ≠ "java/lang/invoke/MethodHandle" ∧ yX7_skittle.cls ≠ "java/lang/invoke/VarHandle" ∧ (parseMethodDescriptor yX7_skittle.desc).map (fun d => d.parameters.length) = some 2 := by decide +kernel
theorem dsX7_isPlate : yX7_isPlate.cls ≠ "java/lang/invoke/MethodHandle" ∧ yX7_isPlate.cls ≠ "java/lang/invoke/VarHandle" ∧ (parseMethodDescriptor yX7_isPlate.desc).map (fun d => d.parameters.length) = some 1 := by decide +kernel
theorem dsX7_whoOn : yX7_whoOn.cls = "SkittleGentryModel" ∧ yX7_whoOn.cls ≠ "java/lang/invoke/MethodHandle" ∧ yX7_whoOn.cls ≠ "java/lang/invoke/VarHandle" ∧ (parseMethodDescriptor yX7_whoOn.desc).map (fun d => d.parameters.length) = some 1 := by decide +kernel
theorem dsX7_plate : yX7_plate.cls = "SkittleGentryModel" ∧ yX7_plate.cls ≠ "java/lang/invoke/MethodHandle" ∧ yX7_plate.cls ≠ "java/lang/invoke/VarHandle" ∧ (parseMethodDescriptor yX7_plate.desc).map (fun d => d.parameters.length) = some 1 := by decide +kernel
theorem dsX7_isBall : yX7_isBall.cls = "SkittleGentryModel" ∧ yX7_isBall.cls ≠ "java/lang/invoke/MethodHandle" ∧ yX7_isBall.cls ≠ "java/lang/invoke/VarHandle" ∧ (parseMethodDescriptor yX7_isBall.desc).map (fun d => d.parameters.length) = some 3 := by decide +kernel
theorem dsX7_notes : yX7_notes.cls = "SkittleGentryModel" ∧ yX7_notes.cls ≠ "java/lang/invoke/MethodHandle" ∧ yX7_notes.cls ≠ "java/lang/invoke/VarHandle" ∧ (parseMethodDescriptor yX7_notes.desc).map (fun d => d.parameters.length) = some 0 := by decide +kernel
theorem dsX7_throwsBall : yX7_throwsBall.cls = "SkittleGentryModel" ∧ yX7_throwsBall.cls ≠ "java/lang/invoke/MethodHandle" ∧ yX7_throwsBall.cls ≠ "java/lang/invoke/VarHandle" ∧ (parseMethodDescriptor yX7_throwsBall.desc).map (fun d => d.parameters.length) = some 3 := by decide +kernel
theorem dsX7_ball : yX7_ball.cls = "SkittleGentryModel" ∧ yX7_ball.cls ≠ "java/lang/invoke/MethodHandle" ∧ yX7_ball.cls ≠ "java/lang/invoke/VarHandle" ∧ (parseMethodDescriptor yX7_ball.desc).map (fun d => d.parameters.length) = some 3 := by decide +kernel
theorem dsX7_setUp : yX7_setUp.cls = "SkittleGentryModel" ∧ yX7_setUp.cls ≠ "java/lang/invoke/MethodHandle" ∧ yX7_setUp.cls ≠ "java/lang/invoke/VarHandle" ∧ (parseMethodDescriptor yX7_setUp.desc).map (fun d => d.parameters.length) = some 0 := by decide +kernel
theorem dsX7_lift : yX7_lift.cls = "SkittleGentryModel" ∧ yX7_lift.cls ≠ "java/lang/invoke/MethodHandle" ∧ yX7_lift.cls ≠ "java/lang/invoke/VarHandle" ∧ (parseMethodDescriptor yX7_lift.desc).map (fun d => d.parameters.length) = some 1 := by decide +kernel
theorem dsX7_changes : yX7_changes.cls = "SkittleGentryModel" ∧ yX7_changes.cls ≠ "java/lang/invoke/MethodHandle" ∧ yX7_changes.cls ≠ "java/lang/invoke/VarHandle" ∧ (parseMethodDescriptor yX7_changes.desc).map (fun d => d.parameters.length) = some 2 := by decide +kernel
theorem dsX7_change : yX7_change.cls = "SkittleGentryModel" ∧ yX7_change.cls ≠ "java/lang/invoke/MethodHandle" ∧ yX7_change.cls ≠ "java/lang/invoke/VarHandle" ∧ (parseMethodDescriptor yX7_change.desc).map (fun d => d.parameters.length) = some 2 := by decide +kernel
theorem dsX7_chip : yX7_chip.cls = "SkittleGentryModel" ∧ yX7_chip.cls ≠ "java/lang/invoke/MethodHandle" ∧ yX7_chip.cls ≠ "java/lang/invoke/VarHandle" ∧ (parseMethodDescriptor yX7_chip.desc).map (fun d => d.parameters.length) = some 2 := by decide +kernel
theorem dsX7_replace : yX7_replace.cls = "SkittleGentryModel" ∧ yX7_replace.cls ≠ "java/lang/invoke/MethodHandle" ∧ yX7_replace.cls ≠ "java/lang/invoke/VarHandle" ∧ (parseMethodDescriptor yX7_replace.desc).map (fun d => d.parameters.length) = some 1 := by decide +kernel
theorem dsX7_draw : yX7_draw.cls = "SkittleGentryModel" ∧ yX7_draw.cls ≠ "java/lang/invoke/MethodHandle" ∧ yX7_draw.cls ≠ "java/lang/invoke/VarHandle" ∧ (parseMethodDescriptor yX7_draw.desc).map (fun d => d.parameters.length) = some 1 := by decide +kernel
theorem dsX7_drift : yX7_drift.cls = "SkittleGentryModel" ∧ yX7_drift.cls ≠ "java/lang/invoke/MethodHandle" ∧ yX7_drift.cls ≠ "java/lang/invoke/VarHandle" ∧ (parseMethodDescriptor yX7_drift.desc).map (fun d => d.parameters.length) = some 1 := by decide +kernel
theorem dsX7_undo : yX7_undo.cls = "SkittleGentryModel" ∧ yX7_undo.cls ≠ "java/lang/invoke/MethodHandle" ∧ yX7_undo.cls ≠ "java/lang/invoke/VarHandle" ∧ (parseMethodDescriptor yX7_undo.desc).map (fun d => d.parameters.length) = some 0 := by decide +kernel
theorem dsX7_wouldFall : yX7_wouldFall.cls = "SkittleGentryModel" ∧ yX7_wouldFall.cls ≠ "java/lang/invoke/MethodHandle" ∧ yX7_wouldFall.cls ≠ "java/lang/invoke/VarHandle" ∧ (parseMethodDescriptor yX7_wouldFall.desc).map (fun d => d.parameters.length) = some 4 := by decide +kernel
theorem dsX7_isSet : yX7_isSet.cls = "SkittleGentryModel" ∧ yX7_isSet.cls ≠ "java/lang/invoke/MethodHandle" ∧ yX7_isSet.cls ≠ "java/lang/invoke/VarHandle" ∧ (parseMethodDescriptor yX7_isSet.desc).map (fun d => d.parameters.length) = some 1 := by decide +kernel
theorem dsX7_balls : yX7_balls.cls = "SkittleGentryModel" ∧ yX7_balls.cls ≠ "java/lang/invoke/MethodHandle" ∧ yX7_balls.cls ≠ "java/lang/invoke/VarHandle" ∧ (parseMethodDescriptor yX7_balls.desc).map (fun d => d.parameters.length) = some 2 := by decide +kernel
theorem dsX7_spare : yX7_spare.cls = "SkittleGentryModel" ∧ yX7_spare.cls ≠ "java/lang/invoke/MethodHandle" ∧ yX7_spare.cls ≠ "java/lang/invoke/VarHandle" ∧ (parseMethodDescriptor yX7_spare.desc).map (fun d => d.parameters.length) = some 2 := by decide +kernel
theorem dsX7_allDown : yX7_allDown.cls = "SkittleGentryModel" ∧ yX7_allDown.cls ≠ "java/lang/invoke/MethodHandle" ∧ yX7_allDown.cls ≠ "java/lang/invoke/VarHandle" ∧ (parseMethodDescriptor yX7_allDown.desc).map (fun d => d.parameters.length) = some 1 := by decide +kernel
theorem dsX7_mend : yX7_mend.cls = "SkittleGentryModel" ∧ yX7_mend.cls ≠ "java/lang/invoke/MethodHandle" ∧ yX7_mend.cls ≠ "java/lang/invoke/VarHandle" ∧ (parseMethodDescriptor yX7_mend.desc).map (fun d => d.parameters.length) = some 4 := by decide +kernel
theorem dsX7_hand : yX7_hand.cls = "SkittleGentryModel" ∧ yX7_hand.cls ≠ "java/lang/invoke/MethodHandle" ∧ yX7_hand.cls ≠ "java/lang/invoke/VarHandle" ∧ (parseMethodDescriptor yX7_hand.desc).map (fun d => d.parameters.length) = some 1 := by decide +kernel
theorem dsX7_ask : yX7_ask.cls = "SkittleGentryModel" ∧ yX7_ask.cls ≠ "java/lang/invoke/MethodHandle" ∧ yX7_ask.cls ≠ "java/lang/invoke/VarHandle" ∧ (parseMethodDescriptor yX7_ask.desc).map (fun d => d.parameters.length) = some 1 := by decide +kernel
theorem dsX7_calm : yX7_calm.cls = "SkittleGentryModel" ∧ yX7_calm.cls ≠ "java/lang/invoke/MethodHandle" ∧ yX7_calm.cls ≠ "java/lang/invoke/VarHandle" ∧ (parseMethodDescriptor yX7_calm.desc).map (fun d => d.parameters.length) = some 2 := by decide +kernel
theorem dsX7_write : yX7_write.cls = "SkittleGentryModel" ∧ yX7_write.cls ≠ "java/lang/invoke/MethodHandle" ∧ yX7_write.cls ≠ "java/lang/invoke/VarHandle" ∧ (parseMethodDescriptor yX7_write.desc).map (fun d => d.parameters.length) = some 2 := by decide +kernel
theorem dsX7_tear : yX7_tear.cls = "SkittleGentryModel" ∧ yX7_tear.cls ≠ "java/lang/invoke/MethodHandle" ∧ yX7_tear.cls ≠ "java/lang/invoke/VarHandle" ∧ (parseMethodDescriptor yX7_tear.desc).map (fun d => d.parameters.length) = some 0 := by decide +kernel
theorem dsX7_judge : yX7_judge.cls = "SkittleGentryModel" ∧ yX7_judge.cls ≠ "java/lang/invoke/MethodHandle" ∧ yX7_judge.cls ≠ "java/lang/invoke/VarHandle" ∧ (parseMethodDescriptor yX7_judge.desc).map (fun d => d.parameters.length) = some 0 := by decide +kernel
theorem dsX7_seed : yX7_seed.cls = "SkittleGentryModel" ∧ yX7_seed.cls ≠ "java/lang/invoke/MethodHandle" ∧ yX7_seed.cls ≠ "java/lang/invoke/VarHandle" ∧ (parseMethodDescriptor yX7_seed.desc).map (fun d => d.parameters.length) = some 1 := by decide +kernel
theorem dsX7_keep : yX7_keep.cls = "SkittleGentryModel" ∧ yX7_keep.cls ≠ "java/lang/invoke/MethodHandle" ∧ yX7_keep.cls ≠ "java/lang/invoke/VarHandle" ∧ (parseMethodDescriptor yX7_keep.desc).map (fun d => d.parameters.length) = some 1 := by decide +kernel
theorem dsX7_goBack : yX7_goBack.cls = "SkittleGentryModel" ∧ yX7_goBack.cls ≠ "java/lang/invoke/MethodHandle" ∧ yX7_goBack.cls ≠ "java/lang/invoke/VarHandle" ∧ (parseMethodDescriptor yX7_goBack.desc).map (fun d => d.parameters.length) = some 1 := by decide +kernel
