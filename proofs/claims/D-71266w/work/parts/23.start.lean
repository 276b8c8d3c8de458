/-! from the law's entry to its loop -/
set_option maxRecDepth 100000
/-- the reference's world when it is made -/
def w0M : GW := fun c => match c with
  | 0 => fun i => if i = 6 then -1 else 0
  | 4 => (upd (upd (upd (upd (upd (upd (upd (upd (upd (fun _ => 0) 18 (-1)) 19 (-1)) 20 (-1)) 21 (-1)) 22 (-1)) 23 (-1)) 24 (-1)) 25 (-1)) 26 (-1))
  | _ => fun _ => 0
theorem gK_start {s : State} {b : Addr} (hts : ∀ w ∈ lw_tbl, w.before #[Value.ref b] s = true) : ∃ (D : va_G) (dA : Nat → ClassId), gK D dA s := by
  obtain ⟨c0, i0, k0⟩ := u_known (C := RX0) (T := TX0) (N := 15) (n := 15) hts (fun w h => lw_all_tbl (in_X0 w h)) (hts _ (lw_all_tbl q73))
  obtain ⟨c1, i1, k1⟩ := u_known (C := RX1) (T := TX1) (N := 5) (n := 5) hts (fun w h => lw_all_tbl (in_X1 w h)) (hts _ (lw_all_tbl q83))
  obtain ⟨c2, i2, k2⟩ := u_known (C := RX2) (T := TX2) (N := 13) (n := 13) hts (fun w h => lw_all_tbl (in_X2 w h)) (hts _ (lw_all_tbl q118))
  obtain ⟨c3, i3, k3⟩ := u_known (C := RX3) (T := TX3) (N := 0) (n := 0) hts (fun w h => by cases h) (hts _ (lw_all_tbl q175))
  obtain ⟨c4, i4, k4⟩ := u_known (C := RX4) (T := TX4) (N := 0) (n := 0) hts (fun w h => by cases h) (hts _ (lw_all_tbl q184))
  obtain ⟨c5, i5, k5⟩ := u_known (C := RX5) (T := TX5) (N := 0) (n := 0) hts (fun w h => by cases h) (hts _ (lw_all_tbl q191))
  obtain ⟨c6, i6, k6⟩ := u_known (C := RX6) (T := TX6) (N := 0) (n := 0) hts (fun w h => by cases h) (hts _ (lw_all_tbl q198))
  obtain ⟨c7, i7, k7⟩ := u_known (C := RX7) (T := TX7) (N := 35) (n := 35) hts (fun w h => lw_all_tbl (in_X7 w h)) (hts _ (lw_all_tbl q682))
  obtain ⟨c8, i8, k8⟩ := u_known (C := RX8) (T := TX8) (N := 4) (n := 4) hts (fun w h => lw_all_tbl (in_X8 w h)) (hts _ (lw_all_tbl q277))
  obtain ⟨c9, i9, k9⟩ := u_known (C := RX9) (T := TX9) (N := 8) (n := 8) hts (fun w h => lw_all_tbl (in_X9 w h)) (hts _ (lw_all_tbl q313))
  obtain ⟨a0, ka0, p0, f0, g0, h0⟩ := Cond.arrayClass_spec (hts _ (lw_all_tbl q116))
  obtain ⟨a1, ka1, p1, f1, g1, h1⟩ := Cond.arrayClass_spec (hts _ (lw_all_tbl q181))
  obtain ⟨a2, ka2, p2, f2, g2, h2⟩ := Cond.arrayClass_spec (hts _ (lw_all_tbl q182))
  obtain ⟨p3, a3, ka3, e3, -, g3, h3, f3⟩ := Cond.arrayOver_spec (hts _ q81)
  obtain ⟨p4, a4, ka4, e4, -, g4, h4, f4⟩ := Cond.arrayOver_spec (hts _ q174)
  refine ⟨(fun k => [c0, c1, c2, c3, c4, c5, c6, c7, c8, c9].getD k 0, fun k => [i0, i1, i2, i3, i4, i5, i6, i7, i8, i9].getD k (fun _ => 0)), fun k => [a0, a1, a2, a3, a4].getD k 0, ⟨?_, ?_⟩, ?_, va_AO.of (hts _ q81), va_AO.of (hts _ q174)⟩
  · intro k q hq
    match k, hq with
    | 0, hq => cases hq; exact k0
    | 1, hq => cases hq; exact k1
    | 2, hq => cases hq; exact k2
    | 3, hq => cases hq; exact k3
    | 4, hq => cases hq; exact k4
    | 5, hq => cases hq; exact k5
    | 6, hq => cases hq; exact k6
    | 7, hq => cases hq; exact k7
    | 8, hq => cases hq; exact k8
    | 9, hq => cases hq; exact k9
    | k + 10, hq => simp [gCl] at hq
  · intro k q hq
    match k, hq with
    | 0, hq => cases hq; exact ⟨fun n z => ⟨(fun k h => by cases h), ka0, g0, p0, h0⟩, f0⟩
    | 1, hq => cases hq; exact ⟨fun n z => ⟨(fun k h => by cases h), ka1, g1, p1, h1⟩, f1⟩
    | 2, hq => cases hq; exact ⟨fun n z => ⟨(fun k h => by cases h), ka2, g2, p2, h2⟩, f2⟩
    | 3, hq => cases hq; exact ⟨fun n z => ⟨(fun k h => by cases h), ka3, g3, p3, h3⟩, ka3, p3, g3, h3, e3, f3⟩
    | 4, hq => cases hq; exact ⟨fun n z => ⟨(fun k h => by cases h), ka4, g4, p4, h4⟩, ka4, p4, g4, h4, e4, f4⟩
    | k + 5, hq => simp [gT] at hq
  · intro w hw
    have h := hts w (List.mem_filter.mp hw).1
    have h2 := (List.mem_filter.mp hw).2
    cases w <;> first
      | exact va_Nw.of rfl h
      | cases h2
set_option maxHeartbeats 40000000 in
theorem law_start {Rel : GW → GW → Prop} (H0 : LawOp0 Rel) (H1 : LawOp1 Rel) (H2 : LawOp2 Rel) (H3 : LawOp3 Rel) (H4 : LawOp4 Rel) (H5 : LawOp5 Rel) (H6 : LawOp6 Rel) (H7 : LawOp7 Rel) (H8 : LawOp8 Rel) (H9 : LawOp9 Rel) (H10 : LawOp10 Rel) (H11 : LawOp11 Rel) (H12 : LawOp12 Rel) (H13 : LawOp13 Rel) (H14 : LawOp14 Rel) (H15 : LawOp15 Rel) (H16 : LawOp16 Rel) (H17 : LawOp17 Rel) (H18 : LawOp18 Rel) (H19 : LawOp19 Rel) (H20 : LawOp20 Rel) (H21 : LawOp21 Rel) (H22 : LawOp22 Rel) (H23 : LawOp23 Rel) (H24 : LawOp24 Rel) (H25 : LawOp25 Rel) (H26 : LawOp26 Rel) (H27 : LawOp27 Rel) (Hinit : PX2_begin 6 w0X (fun w1 => Rel (w1X w1) w0M)) {p : Program} {e : Env} {s : State} {m : MethodId} {below : List Frame} {meth : Method} {c : Code} (l : Launch) {b L : Nat} {xs : Nat → Int32} (hL : L ≤ 320) (C0 : lw_At p s m meth c b L xs) : W p l e room_1 s m #[Value.ref b] below meth c s.heap [] 0 0 (lw_Z below #[Value.ref b] s) (entryFrame m ([Value.ref b] : List Value).toArray 4) := by
  obtain ⟨hx, hb, hr, hml, hown, hts, hX, hbl, hlocks, hgv⟩ := C0
  obtain ⟨D, dA, hK⟩ := gK_start hts
  have C : Cx p s m #[Value.ref b] meth c D dA code 4 ret R_law := ⟨hx, hb, hml, hr, hlocks, hown, fun w h => hts w (lw_all_tbl h), hK⟩
  have hf := flat_of_before _ hgv
  have hZ : gZs (fun q => s.heap.size ≤ q) s s.heap := ⟨va_Zqof (hts _ q337) (hts _ (lw_all_tbl q67)) (hf _ (by decide +kernel)) (fun a h => Nat.not_le.mpr h), va_Zqof (hts _ q339) (hts _ (lw_all_tbl q67)) (hf _ (by decide +kernel)) (fun a h => Nat.not_le.mpr h)⟩
  have hA : ∀ q, s.heap.size ≤ q → (fun q => s.heap.size ≤ q) q := fun _ h => h
  have k : gAt p l e room_1 s m #[Value.ref b] below meth c D (fun q => s.heap.size ≤ q) (lw_Z below #[Value.ref b] s) 4 0 0 0 [(0, .ref b)] [] [] := by
    refine at_newL (ci := 0) (fs := [.null, .null, .null, .null, .null, .int 0, .null, .null, .int 0, .null, .int 0, .int 0, .null, .null, .null]) C hA rfl in_X0 tyX0 tyX0_ok q72 q73 q56 hfs_0 (Nat.le_of_ble_eq_true rfl) (Nat.le_of_ble_eq_true rfl) dL_law_0 (fun qx => ?_)
    refine at_dup C dL_law_3 rfl ?_
    refine at_sufv (rest := [.ref qx]) (res := fun u : (Nat → Nat) × GW => gW dA 137 u.1 layX (w1X u.2)) (post := fun u : (Nat → Nat) × GW => u.1 0 = qx ∧ Rel (w1X u.2) w0M) hA (fun _ _ h => h) (fun _ _ h => h) (run_I (wc := [(qx, .inr (0, [.null, .null, .null, .null, .null, .int 0, .null, .null, .int 0, .null, .int 0, .int 0, .null, .null, .null]))]) (As := []) (rest := [.ref qx]) (nn := 0) C (fun z => metX0_init l D dA qx z (fun w1 => Rel (w1X w1) w0M) Hinit) q74 q56 q75 q76 rfl ⟨rfl, rfl⟩ ⟨by decide +kernel, by decide +kernel, by decide +kernel⟩ ⟨(Nat.le_of_ble_eq_true rfl), (Nat.le_of_ble_eq_true rfl)⟩ rfl rfl (Nat.le_of_ble_eq_true rfl) dL_law_4 ⟨(Nat.le_of_ble_eq_true rfl), (Nat.le_of_ble_eq_true rfl)⟩) (fun u hu => ?_)
    obtain ⟨adX, w1⟩ := u
    obtain ⟨had, hR⟩ := hu
    dsimp only at had hR ⊢
    rw [← had]
    refine at_eq (ws2 := gW dA 137 adX layX (w1X w1)) (List.nil_append _) ?_
    refine at_astore_n (L' := [(0, .ref b), (1, .ref (adX 0))]) C dL_law_7 rfl (Nat.le_of_ble_eq_true rfl) rfl ?_
    refine at_newL (ci := 7) (fs := [.int 0, .null, .int 0, .int 0, .int 0, .int 0, .int 0, .int 0, .int 0, .int 0, .int 0, .int 0, .null, .null, .null, .null, .null, .null, .int 0, .null, .null, .int 0, .null, .null, .null, .null, .int 0, .int 0, .int 0, .null, .null, .null, .null, .null, .null]) C hA rfl in_X7 tyX7 tyX7_ok q681 q682 q65 hfs_7 (Nat.le_of_ble_eq_true rfl) (Nat.le_of_ble_eq_true rfl) dL_law_8 (fun qm => ?_)
    refine at_dup C dL_law_11 rfl ?_
    refine at_sufv (rest := [.ref qm]) (res := fun u_ : Nat → Nat => [(qm, .inr (7, [.int 0, .ref (u_ 0), .int 0, .int 0, .int 0, .int 0, .int (-1), .int 0, .int 0, .int 0, .int 0, .int 0, .ref (u_ 1), .ref (u_ 2), .ref (u_ 3), .ref (u_ 4), .ref (u_ 5), .ref (u_ 6), .int 0, .ref (u_ 7), .ref (u_ 8), .int 0, .ref (u_ 9), .ref (u_ 10), .ref (u_ 11), .ref (u_ 12), .int 0, .int 0, .int 0, .ref (u_ 13), .ref (u_ 14), .ref (u_ 15), .ref (u_ 16), .ref (u_ 17), .ref (u_ 18)])), ((u_ 0), .inl (dA 0, (240, .inl (fun _ => 0)))), ((u_ 1), .inl (dA 0, (27, .inl (fun _ => 0)))), ((u_ 2), .inl (dA 0, (9, .inl (fun _ => 0)))), ((u_ 3), .inl (dA 0, (49, .inl (upd (upd (upd (upd (upd (upd (upd (upd (upd (fun _ => 0) 18 (-1)) 19 (-1)) 20 (-1)) 21 (-1)) 22 (-1)) 23 (-1)) 24 (-1)) 25 (-1)) 26 (-1))))), ((u_ 4), .inl (dA 0, (98, .inl (fun _ => 0)))), ((u_ 5), .inl (dA 1, (2, .inl (fun _ => 0)))), ((u_ 6), .inl (dA 0, (784, .inl (fun _ => 0)))), ((u_ 7), .inl (dA 0, (15, .inl (fun _ => 0)))), ((u_ 8), .inl (dA 1, (15, .inl (fun _ => 0)))), ((u_ 9), .inl (dA 0, (9, .inl (fun _ => 0)))), ((u_ 10), .inl (dA 0, (9, .inl (fun _ => 0)))), ((u_ 11), .inl (dA 0, (9, .inl (fun _ => 0)))), ((u_ 12), .inl (dA 0, (9, .inl (fun _ => 0)))), ((u_ 13), .inl (dA 0, (10, .inl (fun _ => 0)))), ((u_ 14), .inl (dA 0, (10, .inl (fun _ => 0)))), ((u_ 15), .inl (dA 0, (10, .inl (fun _ => 0)))), ((u_ 16), .inl (dA 0, (512, .inl (fun _ => 0)))), ((u_ 17), .inl (dA 0, (512, .inl (fun _ => 0)))), ((u_ 18), .inl (dA 0, (512, .inl (fun _ => 0))))]) (post := fun _ => True) hA (fun _ _ h => h) (fun _ _ h => h) (run_I (wc := [(qm, .inr (7, [.int 0, .null, .int 0, .int 0, .int 0, .int 0, .int 0, .int 0, .int 0, .int 0, .int 0, .int 0, .null, .null, .null, .null, .null, .null, .int 0, .null, .null, .int 0, .null, .null, .null, .null, .int 0, .int 0, .int 0, .null, .null, .null, .null, .null, .null]))]) (As := []) (rest := [.ref qm]) (nn := 0) C (fun z => metX7_init l D dA qm z) q683 q65 q684 q685 rfl ⟨rfl, rfl⟩ ⟨by decide +kernel, by decide +kernel, by decide +kernel⟩ ⟨(Nat.le_of_ble_eq_true rfl), (Nat.le_of_ble_eq_true rfl)⟩ rfl rfl (Nat.le_of_ble_eq_true rfl) dL_law_12 ⟨(Nat.le_of_ble_eq_true rfl), (Nat.le_of_ble_eq_true rfl)⟩) (fun u _ => ?_)
    obtain ⟨adM, hadM⟩ : ∃ f : Nat → Nat, f = fun k => if k = 0 then qm else u (k - 1) := ⟨_, rfl⟩
    refine at_eq (ws2 := gW dA 137 adX layX (w1X w1) ++ gW dA 20 adM layM w0M) (by rw [hadM]; rfl) ?_
    rw [show (.ref qm : Value) = .ref (adM 0) by rw [hadM]; rfl]
    refine at_astore_n (L' := [(0, .ref b), (1, .ref (adX 0)), (2, .ref (adM 0))]) C dL_law_15 rfl (Nat.le_of_ble_eq_true rfl) rfl ?_
    refine at_iconst C dL_law_16 ic_0 ?_
    refine at_istore_n (L' := [(0, .ref b), (1, .ref (adX 0)), (2, .ref (adM 0)), (3, .int 0)]) C dL_law_17 rfl (Nat.le_of_ble_eq_true rfl) rfl ?_
    exact law_loop hL C hlocks hX hbl hZ H0 H1 H2 H3 H4 H5 H6 H7 H8 H9 H10 H11 H12 H13 H14 H15 H16 H17 H18 H19 H20 H21 H22 H23 H24 H25 H26 H27 adM (L + 10) 0 0 _ _ adX (w1X w1) w0M (by omega) rfl (by omega) (Nat.le_of_ble_eq_true rfl) (Nat.le_of_ble_eq_true rfl) (by omega) hR
  have hl := lv_entry ([.ref b]) (n := 4) (Nat.le_of_ble_eq_true rfl)
  rw [lg_entry_eq]
  exact k s.heap [] _ (fun k q h => by simp at h) ⟨fun i j p q h => by simp at h, fun k q h => by simp at h⟩ va_S.rf hl
