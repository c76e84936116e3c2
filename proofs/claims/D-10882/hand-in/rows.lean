section
section
variable {f1 f2 f3 f4 f5 : Int32} {a1 a2 a3 a4 a5 a6 a7 a8 a9 a10 a11 : Nat → Int32}
theorem du_40 : vp_in 0 40 := vp_in_iff.mpr (by decide)
theorem du_41 : vp_in 0 41 := vp_in_iff.mpr (by decide)
theorem du_141 : vp_in 1 41 := vp_in_iff.mpr (by decide)
theorem du_eq {a : Nat → Int32} {k : Int32} (hk : a 0 = k) : a (0 : Int32).toNatClampNeg = k := by
  rw [sb_cl0]
  exact hk
theorem du_ne {a : Nat → Int32} {k m : Int32} (hk : a 0 = k) (h : ¬ k = m) : ¬ a (0 : Int32).toNatClampNeg = m := by
  rw [sb_cl0, hk]
  exact h
theorem du_b0 : narrow .boolean (.int 0) = .int 0 := rfl
theorem du_b1 : narrow .boolean (.int 1) = .int 1 := rfl
theorem du_g0 : fits .boolean (.int 0) = true := rfl
theorem du_g1 : fits .boolean (.int 1) = true := rfl
theorem du_v1 : vp_nar .boolean 1 = 1 := rfl
theorem du_c1 : (1 : Int32).toNatClampNeg = 1 := rfl
theorem du_u0 {f : Nat → Int32} {x : Int32} : upd f (0 : Int32).toNatClampNeg x 0 = x := by
  rw [sb_cl0]
  exact pk_us
theorem du_u1 {f : Nat → Int32} {x : Int32} : upd f (0 : Int32).toNatClampNeg x 1 = f 1 := by
  rw [sb_cl0]
  exact pk_un (by decide)
theorem du_w0 {f : Nat → Int32} {x : Int32} : upd f (1 : Int32).toNatClampNeg x 0 = f 0 := by
  rw [du_c1]
  exact pk_un (by decide)
theorem du_fix (F : Int32 → Int32) (b : Nat → Int32) : F (upd b 0 (F (b 1)) 1) = upd b 0 (F (b 1)) 0 := by
  rw [pk_us, pk_un (f := b) (k := 0) (j := 1) (by decide)]
/-- prepare, nothing asked since the last change -/
theorem du_kept {post : St2 → Prop} (H : post (f1, 1, f2, f3, f4, f5, a1, a2, a3, a4, a5, a6, a7, a8, a9, a10, a11)) : wpX_prepare post (f1, 1, f2, f3, f4, f5, a1, a2, a3, a4, a5, a6, a7, a8, a9, a10, a11) := br_f (by decide) H
/-- prepare over no token -/
theorem du_prep0 {post : St2 → Prop} (H : ∀ b7 b8 b11 : Nat → Int32, post (0, 1, 1, 0, 0, 1, a1, a2, a3, a4, a5, a6, b7, b8, a9, a10, b11)) : wpX_prepare post (0, 0, f2, f3, f4, f5, a1, a2, a3, a4, a5, a6, a7, a8, a9, a10, a11) :=
  br_t rfl ⟨1, br_t (by decide) (br_t (by decide) (br_f (by decide) ⟨1, br_t (by decide) ⟨du_41, nm_e ⟨du_41, nm_e ⟨2, br_f (by decide) ⟨du_41, nm_e (nm_e (br_t (by decide) ⟨2, br_f (by decide) (br_f (by decide) (nm_e ⟨1, br_t (by decide) (nm_e (br_f (by decide) (br_t rfl (H _ _ _))))⟩))⟩))⟩⟩⟩⟩⟩))⟩
/-- onward of one plain token -/
theorem du_on {post : Int32 → Prop} {k : Int32} (hk : a1 0 = k) (ok : k = 0 ∨ k = 1 ∨ k = 9) (H : post 1) : wpX_onward post (1, f1, f2, f3, f4, f5, a1, a2, a3, a4, a5, a6, a7, a8, a9, a10, a11) 0 := by
  rcases ok with rfl | rfl | rfl
  · exact ⟨du_40, nm_r (du_eq hk) (br_f (by decide) (br_f (by decide) (br_f (by decide) (br_f (by decide) (br_f (by decide) H)))))⟩
  · exact ⟨du_40, nm_r (du_eq hk) (br_f (by decide) (br_f (by decide) (br_f (by decide) (br_f (by decide) (br_f (by decide) H)))))⟩
  · exact ⟨du_40, nm_r (du_eq hk) (br_f (by decide) (br_f (by decide) (br_f (by decide) (br_f (by decide) (br_t rfl H)))))⟩
theorem du_ot {post : Int32 → Prop} {k : Int32} (hk : a1 0 = k) (h4 : ¬ k = 4) (h2 : ¬ k = 2) (H : post (-1)) : wpX_otherWay post (1, f1, f2, f3, f4, f5, a1, a2, a3, a4, a5, a6, a7, a8, a9, a10, a11) 0 :=
  ⟨du_40, br_f (du_ne hk h4) ⟨du_40, br_f (du_ne hk h2) H⟩⟩
theorem du_wb {post : Int32 → Prop} {k : Int32} (hk : a1 0 = k) (ok : k = 0 ∨ k = 1 ∨ k = 9) (H : post (a11 1)) : wpX_wantedBehind post (1, f1, f2, f3, f4, f5, a1, a2, a3, a4, a5, a6, a7, a8, a9, a10, a11) 0 := by
  unfold wpX_wantedBehind
  refine du_on hk ok ⟨du_141, nm_r (e' := a11 1) (by rw [du_c1]) (du_ot hk ?_ ?_ (br_f (by decide) H))⟩
  · rcases ok with rfl | rfl | rfl <;> decide
  · rcases ok with rfl | rfl | rfl <;> decide
/-- one pass of backward over one plain token -/
theorem du_pass {k : Int32} (hk : a1 0 = k) (ok : k = 0 ∨ k = 1 ∨ k = 9) : ∃ F : Int32 → Int32, ∀ (post : St2 → Prop) (J : Int32 → Int32 → (Nat → Int32) → (Nat → Int32) → (Nat → Int32) → (Nat → Int32) → (Nat → Int32) → (Nat → Int32) → (Nat → Int32) → (Nat → Int32) → (Nat → Int32) → (Nat → Int32) → (Nat → Int32) → Prop) (x2 : Int32) (b : Nat → Int32), (F (b 1) = b 0 → J 0 (x2 + 1) a1 a2 a3 a4 a5 a6 a7 a8 a9 a10 (upd b 0 (F (b 1)))) → (¬ F (b 1) = b 0 → J 1 (x2 + 1) a1 a2 a3 a4 a5 a6 a7 a8 a9 a10 (upd b 0 (F (b 1)))) → wX_backward_47 post J x2 1 f1 f2 f3 f4 f5 2 0 0 a1 a2 a3 a4 a5 a6 a7 a8 a9 a10 b := by
  have E : ∀ (post : St2 → Prop) (J : Int32 → Int32 → (Nat → Int32) → (Nat → Int32) → (Nat → Int32) → (Nat → Int32) → (Nat → Int32) → (Nat → Int32) → (Nat → Int32) → (Nat → Int32) → (Nat → Int32) → (Nat → Int32) → (Nat → Int32) → Prop) (x2 x4 : Int32) (b : Nat → Int32), (x4 = b 0 → J 0 (x2 + 1) a1 a2 a3 a4 a5 a6 a7 a8 a9 a10 (upd b 0 x4)) → (¬ x4 = b 0 → J 1 (x2 + 1) a1 a2 a3 a4 a5 a6 a7 a8 a9 a10 (upd b 0 x4)) → wX_backward_105 post J (wX_backward_47 post J x2 1 f1 f2 f3 f4 f5 1) 0 x2 0 x4 1 f1 f2 f3 f4 f5 a1 a2 a3 a4 a5 a6 a7 a8 a9 a10 b := by
    intro post J x2 x4 b h0 h1
    unfold wX_backward_105
    rw [sb_cl0]
    exact ⟨du_41, br_c (fun e => ⟨du_41, nm_e (nm_e (br_t (by decide) (nm_e (h0 e))))⟩) (fun e => ⟨du_41, nm_e (nm_e (br_t (by decide) (nm_e (h1 e))))⟩)⟩
  rcases ok with rfl | rfl | rfl
  · refine ⟨fun r => r &&& (((1 : Int32) <<< ((a2 (0 : Int32).toNatClampNeg) &&& 31)) ^^^ (-1)), fun post J x2 b h0 h1 => ?_⟩
    refine br_f (by decide) (du_wb hk (by decide) ?_)
    exact ⟨du_40, br_t (du_eq hk) ⟨du_40, nm_e ⟨du_40, br_f (du_ne hk (by decide)) (E post J x2 _ b h0 h1)⟩⟩⟩
  · refine ⟨fun r => r ||| ((1 : Int32) <<< ((a2 (0 : Int32).toNatClampNeg) &&& 31)), fun post J x2 b h0 h1 => ?_⟩
    refine br_f (by decide) (du_wb hk (by decide) ?_)
    exact ⟨du_40, br_f (du_ne hk (by decide)) ⟨du_40, br_t (du_eq hk) ⟨du_40, nm_e (E post J x2 _ b h0 h1)⟩⟩⟩
  · refine ⟨fun r => r, fun post J x2 b h0 h1 => ?_⟩
    refine br_f (by decide) (du_wb hk (by decide) ?_)
    exact ⟨du_40, br_f (du_ne hk (by decide)) ⟨du_40, br_f (du_ne hk (by decide)) (E post J x2 _ b h0 h1)⟩⟩
/-- backward over one plain token -/
theorem du_back {post : St2 → Prop} {k : Int32} (hk : a1 0 = k) (ok : k = 0 ∨ k = 1 ∨ k = 9) (H : ∀ b : Nat → Int32, post (1, f1, f2, f3, f4, f5, a1, a2, a3, a4, a5, a6, a7, a8, a9, a10, b)) : wpX_backward post (1, f1, f2, f3, f4, f5, a1, a2, a3, a4, a5, a6, a7, a8, a9, a10, a11) := by
  obtain ⟨F, hF⟩ := du_pass (f1 := f1) (f2 := f2) (f3 := f3) (f4 := f4) (f5 := f5) (a2 := a2) (a3 := a3) (a4 := a4) (a5 := a5) (a6 := a6) (a7 := a7) (a8 := a8) (a9 := a9) (a10 := a10) hk ok
  refine ⟨3, br_f (by decide) ⟨du_41, nm_e (nm_r (e' := 1) (by decide) (br_f (by decide) ⟨du_141, nm_e (nm_r (e' := 2) (by decide) (br_t (by decide) ⟨3, ?_⟩))⟩))⟩⟩
  refine br_f (by decide) (br_f (by decide) (nm_r (e' := 0) (by decide) ⟨2, hF _ _ _ _ (fun _ => br_f (by decide) (br_t rfl (H _))) (fun _ => ?_)⟩))
  refine br_f (by decide) (br_f (by decide) (nm_r (e' := 0) (by decide) ⟨2, hF _ _ _ _ (fun _ => br_f (by decide) (br_t rfl (H _))) (fun z => ?_)⟩))
  exact absurd (du_fix F _) z
end
end
section
section
variable {f1 f2 f3 f4 f5 : Int32} {a1 a2 a3 a4 a5 a6 a7 a8 a9 a10 a11 : Nat → Int32}
/-- placeToken of one plain token -/
theorem du_ptP {post : Int32 → St2 → Prop} {k : Int32} (hk : a1 0 = k) (ok : k = 0 ∨ k = 1 ∨ k = 9) (H : ∀ b3 b4 b5 : Nat → Int32, post 1 (1, f1, f2, 0, f4, f5, a1, a2, b3, b4, b5, a6, a7, a8, a9, a10, a11)) : wpX_placeToken post (1, f1, f2, 0, f4, f5, a1, a2, a3, a4, a5, a6, a7, a8, a9, a10, a11) 0 := by
  have E : (¬ k = 2) ∧ (¬ k = 4) ∧ (¬ k = 5) ∧ (¬ k = 7) ∧ (¬ k = 8) ∧ (¬ k = 3) ∧ (¬ k = 6) := by
    rcases ok with rfl | rfl | rfl <;> decide
  obtain ⟨e2, e4, e5, e7, e8, e3, e6⟩ := E
  exact ⟨du_40, nm_r (du_eq hk) ⟨du_40, nm_e ⟨du_40, nm_e ⟨du_40, nm_e (br_f e2 (br_f e4 (br_f e5 (br_f e7 (br_f e8 (br_f e3 (br_f e6 (H _ _ _))))))))⟩⟩⟩⟩
/-- placeToken of one IF, LOOP or ALWAYS -/
theorem du_ptO {post : Int32 → St2 → Prop} {k : Int32} (hk : a1 0 = k) (ok : k = 2 ∨ k = 4 ∨ k = 5) (H : ∀ b3 b4 b5 b6 : Nat → Int32, post 1 (1, f1, f2, 1, f4, f5, a1, a2, b3, b4, b5, b6, a7, a8, a9, a10, a11)) : wpX_placeToken post (1, f1, f2, 0, f4, f5, a1, a2, a3, a4, a5, a6, a7, a8, a9, a10, a11) 0 := by
  have T : ∀ b3 b4 b5 : Nat → Int32, wX_placeToken_43 post 0 1 f1 f2 0 f4 f5 a1 a2 b3 b4 b5 a6 a7 a8 a9 a10 a11 := fun b3 b4 b5 => ⟨du_40, nm_e (nm_r (e' := 1) (by decide) (H _ _ _ _))⟩
  rcases ok with rfl | rfl | rfl
  · exact ⟨du_40, nm_r (du_eq hk) ⟨du_40, nm_e ⟨du_40, nm_e ⟨du_40, nm_e (br_t rfl (T _ _ _))⟩⟩⟩⟩
  · exact ⟨du_40, nm_r (du_eq hk) ⟨du_40, nm_e ⟨du_40, nm_e ⟨du_40, nm_e (br_f (by decide) (br_t rfl (T _ _ _)))⟩⟩⟩⟩
  · exact ⟨du_40, nm_r (du_eq hk) ⟨du_40, nm_e ⟨du_40, nm_e ⟨du_40, nm_e (br_f (by decide) (br_f (by decide) (br_t rfl (T _ _ _))))⟩⟩⟩⟩
/-- placeToken of one BREAK, CONTINUE, ELSE or END -/
theorem du_ptB {post : Int32 → St2 → Prop} {k : Int32} (hk : a1 0 = k) (ok : k = 7 ∨ k = 8 ∨ k = 3 ∨ k = 6) (H : ∀ b3 b4 b5 : Nat → Int32, post 0 (1, f1, f2, 0, f4, f5, a1, a2, b3, b4, b5, a6, a7, a8, a9, a10, a11)) : wpX_placeToken post (1, f1, f2, 0, f4, f5, a1, a2, a3, a4, a5, a6, a7, a8, a9, a10, a11) 0 := by
  have T : ∀ b3 b4 b5 : Nat → Int32, wX_placeToken_77 post 0 1 f1 f2 0 f4 f5 a1 a2 b3 b4 b5 a6 a7 a8 a9 a10 a11 := by
    intro b3 b4 b5
    unfold wX_placeToken_77
    refine nm_r (e' := -1) (by decide) ⟨1, br_t (by decide) (br_f (by decide) ⟨du_40, nm_e ⟨du_40, br_t ?_ (H _ _ _)⟩⟩)⟩
    rw [pk_us]
    decide
  have S : ∀ (x : Int32) (b3 b4 b5 : Nat → Int32), wX_placeToken_115 post 0 x 1 f1 f2 0 f4 f5 a1 a2 b3 b4 b5 a6 a7 a8 a9 a10 a11 := fun x b3 b4 b5 => br_t rfl (H _ _ _)
  rcases ok with rfl | rfl | rfl | rfl
  · exact ⟨du_40, nm_r (du_eq hk) ⟨du_40, nm_e ⟨du_40, nm_e ⟨du_40, nm_e (br_f (by decide) (br_f (by decide) (br_f (by decide) (br_t rfl (T _ _ _)))))⟩⟩⟩⟩
  · exact ⟨du_40, nm_r (du_eq hk) ⟨du_40, nm_e ⟨du_40, nm_e ⟨du_40, nm_e (br_f (by decide) (br_f (by decide) (br_f (by decide) (br_f (by decide) (br_t rfl (T _ _ _))))))⟩⟩⟩⟩
  · exact ⟨du_40, nm_r (du_eq hk) ⟨du_40, nm_e ⟨du_40, nm_e ⟨du_40, nm_e (br_f (by decide) (br_f (by decide) (br_f (by decide) (br_f (by decide) (br_f (by decide) (br_t rfl (S _ _ _ _)))))))⟩⟩⟩⟩
  · exact ⟨du_40, nm_r (du_eq hk) ⟨du_40, nm_e ⟨du_40, nm_e ⟨du_40, nm_e (br_f (by decide) (br_f (by decide) (br_f (by decide) (br_f (by decide) (br_f (by decide) (br_f (by decide) (br_t rfl (S _ _ _ _))))))))⟩⟩⟩⟩
/-- findStructure over one plain token -/
theorem du_fsP {post : St2 → Prop} {k : Int32} (hk : a1 0 = k) (ok : k = 0 ∨ k = 1 ∨ k = 9) (H : ∀ b3 b4 b5 : Nat → Int32, post (1, f1, 1, 0, f4, f5, a1, a2, b3, b4, b5, a6, a7, a8, a9, a10, a11)) : wpX_findStructure post (1, f1, f2, f3, f4, f5, a1, a2, a3, a4, a5, a6, a7, a8, a9, a10, a11) := by
  refine ⟨2, br_f (by decide) (br_f (by decide) (du_ptP hk ok (fun b3 b4 b5 => ⟨du_b1, du_g1, nm_r (e' := 1) (by decide) ?_⟩)))⟩
  exact br_t (by decide) (br_t (by decide) (H b3 b4 b5))
/-- findStructure over one token that can't stand alone -/
theorem du_fsB {post : St2 → Prop} {k : Int32} (hk : a1 0 = k) (ok : (k = 2 ∨ k = 4 ∨ k = 5) ∨ (k = 7 ∨ k = 8 ∨ k = 3 ∨ k = 6)) (H : ∀ (o : Int32) (b3 b4 b5 b6 : Nat → Int32), post (1, f1, 0, o, f4, f5, a1, a2, b3, b4, b5, b6, a7, a8, a9, a10, a11)) : wpX_findStructure post (1, f1, f2, f3, f4, f5, a1, a2, a3, a4, a5, a6, a7, a8, a9, a10, a11) := by
  rcases ok with ok | ok
  · refine ⟨2, br_f (by decide) (br_f (by decide) (du_ptO hk ok (fun b3 b4 b5 b6 => ⟨du_b1, du_g1, nm_r (e' := 1) (by decide) ?_⟩)))⟩
    exact br_t (by decide) (br_f (by decide) (H _ b3 b4 b5 b6))
  · refine ⟨2, br_f (by decide) (br_f (by decide) (du_ptB hk ok (fun b3 b4 b5 => ⟨du_b0, du_g0, nm_r (e' := 1) (by decide) ?_⟩)))⟩
    exact br_t (by decide) (br_t (by decide) (H _ b3 b4 b5 a6))
/-- forward over one plain token -/
theorem du_fw {post : St2 → Prop} {k : Int32} (hk : a1 0 = k) (ok : k = 0 ∨ k = 1 ∨ k = 9) (H : ∀ n l : Int32, post (1, f1, f2, f3, n, l, a1, a2, a3, a4, a5, a6, upd a7 0 0, upd a8 0 1, a9, a10, a11)) : wpX_forward post (1, f1, f2, f3, 0, 1, a1, a2, a3, a4, a5, a6, a7, a8, a9, a10, a11) 0 := by
  have E : (¬ k = 2) ∧ (¬ k = 4) ∧ (¬ k = 5) ∧ (¬ k = 7) ∧ (¬ k = 3) ∧ (¬ k = 6) := by
    rcases ok with rfl | rfl | rfl <;> decide
  obtain ⟨e2, e4, e5, e7, e3, e6⟩ := E
  have T : ∀ n l : Int32, wX_forward_67 post 0 k 1 f1 f2 f3 n l a1 a2 a3 a4 a5 a6 (upd a7 0 0) (upd a8 0 1) a9 a10 a11 := fun n l =>
    br_f e2 (br_f e4 (br_f e5 (br_f e3 (br_f e7 (br_c (fun _ => H _ _) (fun _ => H _ _))))))
  exact ⟨du_40, nm_r (du_eq hk) (br_f e6 ⟨du_41, nm_r (e' := upd a7 0 0) (by rw [sb_cl0]) ⟨du_41, nm_r (e' := upd a8 0 1) (by rw [sb_cl0, du_v1]) (br_c (fun _ => br_f (by decide) ⟨du_40, nm_e (T _ _)⟩) (fun _ => T _ _))⟩⟩)⟩
/-- prepare over one plain token -/
theorem du_prepP {post : St2 → Prop} {k : Int32} (hk : a1 0 = k) (ok : k = 0 ∨ k = 1 ∨ k = 9) (H : ∀ (o n l : Int32) (b3 b4 b5 b7 b8 b11 : Nat → Int32), b7 0 = 0 → b8 0 = 1 → post (1, 1, 1, o, n, l, a1, a2, b3, b4, b5, a6, b7, b8, a9, a10, b11)) : wpX_prepare post (1, 0, f2, f3, f4, f5, a1, a2, a3, a4, a5, a6, a7, a8, a9, a10, a11) := by
  refine br_t rfl (du_fsP hk ok (fun b3 b4 b5 => br_f (by decide) ⟨2, br_f (by decide) (du_fw hk ok (fun n l => nm_r (e' := 1) (by decide) ?_))⟩))
  refine br_t (by decide) ⟨du_141, nm_e ⟨du_141, nm_e (du_back hk ok (fun b => H _ _ _ _ _ _ _ _ _ ?_ ?_))⟩⟩
  · exact du_w0.trans pk_us
  · exact du_w0.trans pk_us
/-- prepare over one token that can't stand alone -/
theorem du_prepB {post : St2 → Prop} {k : Int32} (hk : a1 0 = k) (ok : (k = 2 ∨ k = 4 ∨ k = 5) ∨ (k = 7 ∨ k = 8 ∨ k = 3 ∨ k = 6)) (H : ∀ (o n l : Int32) (b3 b4 b5 b6 : Nat → Int32), post (1, 1, 0, o, n, l, a1, a2, b3, b4, b5, b6, a7, a8, a9, a10, a11)) : wpX_prepare post (1, 0, f2, f3, f4, f5, a1, a2, a3, a4, a5, a6, a7, a8, a9, a10, a11) :=
  br_t rfl (du_fsB hk ok (fun o b3 b4 b5 b6 => br_t rfl (H _ _ _ b3 b4 b5 b6)))
end
end
section
section
variable {f1 f2 f3 f4 f5 : Int32} {a1 a2 a3 a4 a5 a6 a7 a8 a9 a10 a11 : Nat → Int32}
/-- a kind within its bounds -/
theorem du_kind {k : Int32} (h0 : ¬ k < 0) (h9 : k ≤ 9) : (k = 0 ∨ k = 1 ∨ k = 9) ∨ ((k = 2 ∨ k = 4 ∨ k = 5) ∨ (k = 7 ∨ k = 8 ∨ k = 3 ∨ k = 6)) := by
  obtain ⟨j, hj, rfl⟩ := nI_of2 (M := 9) (n := 9) rfl h0 h9
  have t : ∀ i, i < 10 → (nI i = 0 ∨ nI i = 1 ∨ nI i = 9) ∨ ((nI i = 2 ∨ nI i = 4 ∨ nI i = 5) ∨ (nI i = 7 ∨ nI i = 8 ∨ nI i = 3 ∨ nI i = 6)) := by decide +kernel
  exact t j (by omega)
theorem du_01 {k : Int32} (h0 : ¬ k < 0) (h9 : k ≤ 9) (h2 : ¬ 2 ≤ k) : k = 0 ∨ k = 1 := by
  obtain ⟨j, hj, rfl⟩ := nI_of2 (M := 9) (n := 9) rfl h0 h9
  have t : ∀ i, i < 10 → ¬ 2 ≤ nI i → nI i = 0 ∨ nI i = 1 := by decide +kernel
  exact t j (by omega) h2
theorem du_n0 {k : Int32} (h2 : 2 ≤ k) : ¬ k = 0 := fun e => absurd (show (2 : Int32) ≤ 0 from e ▸ h2) (by decide)
theorem du_n1 {k : Int32} (h2 : 2 ≤ k) : ¬ k = 1 := fun e => absurd (show (2 : Int32) ≤ 1 from e ▸ h2) (by decide)
theorem du_bv2 {post : Int32 → Prop} {k v : Int32} (h2 : 2 ≤ k) (H : post 0) : wpX_badVariable post () k v := br_f (du_n0 h2) (br_f (du_n1 h2) H)
theorem du_bvP {post : Int32 → Prop} {k v : Int32} (h0 : ¬ v < 0) (h5 : v ≤ 5) (H : post 0) : wpX_badVariable post () k v :=
  br_c (fun _ => br_f h0 (br_t h5 H)) (fun _ => br_c (fun _ => br_f h0 (br_t h5 H)) (fun _ => H))
theorem du_bvB {post : Int32 → Prop} {k v : Int32} (hk : k = 0 ∨ k = 1) (hv : v < 0 ∨ ¬ v ≤ 5) (H : post 1) : wpX_badVariable post () k v := by
  have T : wX_badVariable_9 post v := br_c (fun _ => H) (fun h => br_f (hv.resolve_left h) H)
  exact br_c (fun _ => T) (fun h => br_t (hk.resolve_left h) T)
theorem du_no1 {post : Int32 → Prop} {p n : Int32} (hn : p < 0 ∨ ¬ p < n) (H : post 1) : wpX_noToken post (n, f1, f2, f3, f4, f5, a1, a2, a3, a4, a5, a6, a7, a8, a9, a10, a11) p :=
  br_c (fun _ => H) (fun h => br_f (hn.resolve_left h) H)
theorem du_no0 {post : Int32 → Prop} (H : post 0) : wpX_noToken post (1, f1, f2, f3, f4, f5, a1, a2, a3, a4, a5, a6, a7, a8, a9, a10, a11) 0 := br_f (by decide) (br_t (by decide) H)
/-- surely: no such token; the one token; not sound -/
theorem du_suN {post : Int32 → St2 → Prop} {p n : Int32} (hn : p < 0 ∨ ¬ p < n) (H : post (-5) (n, 1, 1, f3, f4, f5, a1, a2, a3, a4, a5, a6, a7, a8, a9, a10, a11)) : wpX_surely post (n, 1, 1, f3, f4, f5, a1, a2, a3, a4, a5, a6, a7, a8, a9, a10, a11) p := by
  unfold wpX_surely
  exact du_kept (br_f (by decide) (du_no1 hn (br_f (by decide) H)))
theorem du_suP {post : Int32 → St2 → Prop} (h7 : a7 0 = 0) (h8 : a8 0 = 1) (H : post 0 (1, 1, 1, f3, f4, f5, a1, a2, a3, a4, a5, a6, a7, a8, a9, a10, a11)) : wpX_surely post (1, 1, 1, f3, f4, f5, a1, a2, a3, a4, a5, a6, a7, a8, a9, a10, a11) 0 := by
  unfold wpX_surely
  refine du_kept (br_f (by decide) (du_no0 (br_t rfl ⟨du_41, br_f (du_ne h8 (by decide)) ⟨du_41, ?_⟩⟩)))
  rw [sb_cl0, h7]
  exact H
theorem du_suB {post : Int32 → St2 → Prop} {p n : Int32} (H : post (-4) (n, 1, 0, f3, f4, f5, a1, a2, a3, a4, a5, a6, a7, a8, a9, a10, a11)) : wpX_surely post (n, 1, 0, f3, f4, f5, a1, a2, a3, a4, a5, a6, a7, a8, a9, a10, a11) p := by
  unfold wpX_surely
  exact du_kept (br_t rfl H)
/-- doubts: no token; not sound; the one token a USE; the one token another -/
theorem du_do0 {post : Int32 → St2 → Prop} (H : post 0 (0, 1, 1, f3, f4, f5, a1, a2, a3, a4, a5, a6, a7, a8, a9, a10, a11)) : wpX_doubts post (0, 1, 1, f3, f4, f5, a1, a2, a3, a4, a5, a6, a7, a8, a9, a10, a11) := by
  unfold wpX_doubts
  exact du_kept (br_f (by decide) ⟨1, br_t (by decide) H⟩)
theorem du_doB {post : Int32 → St2 → Prop} {n : Int32} (H : post (-4) (n, 1, 0, f3, f4, f5, a1, a2, a3, a4, a5, a6, a7, a8, a9, a10, a11)) : wpX_doubts post (n, 1, 0, f3, f4, f5, a1, a2, a3, a4, a5, a6, a7, a8, a9, a10, a11) := by
  unfold wpX_doubts
  exact du_kept (br_t rfl H)
theorem du_doU {post : Int32 → St2 → Prop} (hk : a1 0 = 1) (h7 : a7 0 = 0) (h8 : a8 0 = 1) (H : post 1 (1, 1, 1, f3, f4, f5, a1, a2, a3, a4, a5, a6, a7, a8, a9, a10, a11)) : wpX_doubts post (1, 1, 1, f3, f4, f5, a1, a2, a3, a4, a5, a6, a7, a8, a9, a10, a11) := by
  unfold wpX_doubts
  refine du_kept (br_f (by decide) ⟨2, br_f (by decide) ⟨du_40, br_t (du_eq hk) ⟨du_41, br_f (du_ne h8 (by decide)) ⟨du_41, du_40, br_t ?_ (nm_r (e' := 1) (by decide) (nm_r (e' := 1) (by decide) (br_t (by decide) H)))⟩⟩⟩⟩)
  rw [du_eq h7, Int32.zero_shiftRight, Int32.zero_and]
theorem du_doO {post : Int32 → St2 → Prop} {k : Int32} (hk : a1 0 = k) (h1 : ¬ k = 1) (H : post 0 (1, 1, 1, f3, f4, f5, a1, a2, a3, a4, a5, a6, a7, a8, a9, a10, a11)) : wpX_doubts post (1, 1, 1, f3, f4, f5, a1, a2, a3, a4, a5, a6, a7, a8, a9, a10, a11) := by
  unfold wpX_doubts
  exact du_kept (br_f (by decide) ⟨2, br_f (by decide) ⟨du_40, br_f (du_ne hk h1) (nm_r (e' := 1) (by decide) (br_t (by decide) H))⟩⟩)
/-- sound: asked before; no token; one plain token; one that can't stand alone -/
theorem du_so1 {post : Int32 → St2 → Prop} {n : Int32} (H : post 1 (n, 1, 1, f3, f4, f5, a1, a2, a3, a4, a5, a6, a7, a8, a9, a10, a11)) : wpX_sound post (n, 1, 1, f3, f4, f5, a1, a2, a3, a4, a5, a6, a7, a8, a9, a10, a11) := by
  unfold wpX_sound
  exact du_kept ⟨du_b1, H⟩
theorem du_so0 {post : Int32 → St2 → Prop} (H : ∀ b7 b8 b11 : Nat → Int32, post 1 (0, 1, 1, 0, 0, 1, a1, a2, a3, a4, a5, a6, b7, b8, a9, a10, b11)) : wpX_sound post (0, 0, f2, f3, f4, f5, a1, a2, a3, a4, a5, a6, a7, a8, a9, a10, a11) := by
  unfold wpX_sound
  exact du_prep0 (fun b7 b8 b11 => ⟨du_b1, H b7 b8 b11⟩)
theorem du_soP {post : Int32 → St2 → Prop} {k : Int32} (hk : a1 0 = k) (ok : k = 0 ∨ k = 1 ∨ k = 9) (H : ∀ (o n l : Int32) (b3 b4 b5 b7 b8 b11 : Nat → Int32), b7 0 = 0 → b8 0 = 1 → post 1 (1, 1, 1, o, n, l, a1, a2, b3, b4, b5, a6, b7, b8, a9, a10, b11)) : wpX_sound post (1, 0, f2, f3, f4, f5, a1, a2, a3, a4, a5, a6, a7, a8, a9, a10, a11) := by
  unfold wpX_sound
  exact du_prepP hk ok (fun o n l b3 b4 b5 b7 b8 b11 h7 h8 => ⟨du_b1, H o n l b3 b4 b5 b7 b8 b11 h7 h8⟩)
theorem du_soB {post : Int32 → St2 → Prop} {k : Int32} (hk : a1 0 = k) (ok : (k = 2 ∨ k = 4 ∨ k = 5) ∨ (k = 7 ∨ k = 8 ∨ k = 3 ∨ k = 6)) (H : ∀ (o n l : Int32) (b3 b4 b5 b6 : Nat → Int32), post 0 (1, 1, 0, o, n, l, a1, a2, b3, b4, b5, b6, a7, a8, a9, a10, a11)) : wpX_sound post (1, 0, f2, f3, f4, f5, a1, a2, a3, a4, a5, a6, a7, a8, a9, a10, a11) := by
  unfold wpX_sound
  exact du_prepB hk ok (fun o n l b3 b4 b5 b6 => ⟨du_b0, H o n l b3 b4 b5 b6⟩)
/-- change: no such token; a bad kind; a bad variable; done -/
theorem du_chN {post : Int32 → St2 → Prop} {p n x w : Int32} (hn : p < 0 ∨ ¬ p < n) (H : post (-5) (n, f1, f2, f3, f4, f5, a1, a2, a3, a4, a5, a6, a7, a8, a9, a10, a11)) : wpX_change post (n, f1, f2, f3, f4, f5, a1, a2, a3, a4, a5, a6, a7, a8, a9, a10, a11) p x w := by
  unfold wpX_change
  exact du_no1 hn (br_f (by decide) H)
theorem du_chK {post : Int32 → St2 → Prop} {x w : Int32} (hx : x < 0 ∨ ¬ x ≤ 9) (H : post (-1) (1, f1, f2, f3, f4, f5, a1, a2, a3, a4, a5, a6, a7, a8, a9, a10, a11)) : wpX_change post (1, f1, f2, f3, f4, f5, a1, a2, a3, a4, a5, a6, a7, a8, a9, a10, a11) 0 x w := by
  unfold wpX_change
  exact du_no0 (br_t rfl (br_c (fun _ => H) (fun h => br_f (hx.resolve_left h) H)))
theorem du_chV {post : Int32 → St2 → Prop} {x w : Int32} (h0 : ¬ x < 0) (h9 : x ≤ 9) (h2 : ¬ 2 ≤ x) (hw : w < 0 ∨ ¬ w ≤ 5) (H : post (-2) (1, f1, f2, f3, f4, f5, a1, a2, a3, a4, a5, a6, a7, a8, a9, a10, a11)) : wpX_change post (1, f1, f2, f3, f4, f5, a1, a2, a3, a4, a5, a6, a7, a8, a9, a10, a11) 0 x w := by
  unfold wpX_change
  exact du_no0 (br_t rfl (br_f h0 (br_t h9 (du_bvB (du_01 h0 h9 h2) hw (br_f (by decide) H)))))
theorem du_chP {post : Int32 → St2 → Prop} {k x w : Int32} (hk : a1 0 = k) (h0 : ¬ x < 0) (h9 : x ≤ 9) (hv : 2 ≤ x ∨ (¬ w < 0 ∧ w ≤ 5)) (H : ∀ b1 b2 : Nat → Int32, post k (1, 0, f2, f3, f4, f5, b1, b2, a3, a4, a5, a6, a7, a8, a9, a10, a11)) : wpX_change post (1, f1, f2, f3, f4, f5, a1, a2, a3, a4, a5, a6, a7, a8, a9, a10, a11) 0 x w := by
  unfold wpX_change
  refine du_no0 (br_t rfl (br_f h0 (br_t h9 ?_)))
  rcases hv with h2 | ⟨g0, g5⟩
  · exact du_bv2 h2 (br_t rfl ⟨du_40, nm_r (du_eq hk) ⟨du_40, nm_e (br_c (fun _ => ⟨du_40, nm_e (H _ _)⟩) (fun _ => ⟨du_40, nm_e (H _ _)⟩))⟩⟩)
  · exact du_bvP g0 g5 (br_t rfl ⟨du_40, nm_r (du_eq hk) ⟨du_40, nm_e (br_c (fun _ => ⟨du_40, nm_e (H _ _)⟩) (fun _ => ⟨du_40, nm_e (H _ _)⟩))⟩⟩)
/-- add to no token: a bad kind; a bad variable; done -/
theorem du_adK {post : Int32 → St2 → Prop} {x w : Int32} (hx : x < 0 ∨ ¬ x ≤ 9) (H : post (-1) (0, f1, f2, f3, f4, f5, a1, a2, a3, a4, a5, a6, a7, a8, a9, a10, a11)) : wpX_add post (0, f1, f2, f3, f4, f5, a1, a2, a3, a4, a5, a6, a7, a8, a9, a10, a11) x w :=
  br_c (fun _ => H) (fun h => br_f (hx.resolve_left h) H)
theorem du_adV {post : Int32 → St2 → Prop} {x w : Int32} (h0 : ¬ x < 0) (h9 : x ≤ 9) (h2 : ¬ 2 ≤ x) (hw : w < 0 ∨ ¬ w ≤ 5) (H : post (-2) (0, f1, f2, f3, f4, f5, a1, a2, a3, a4, a5, a6, a7, a8, a9, a10, a11)) : wpX_add post (0, f1, f2, f3, f4, f5, a1, a2, a3, a4, a5, a6, a7, a8, a9, a10, a11) x w :=
  br_f h0 (br_t h9 (du_bvB (du_01 h0 h9 h2) hw (br_f (by decide) H)))
theorem du_adP {post : Int32 → St2 → Prop} {x w : Int32} (h0 : ¬ x < 0) (h9 : x ≤ 9) (hv : 2 ≤ x ∨ (¬ w < 0 ∧ w ≤ 5)) (H : ∀ b2 : Nat → Int32, post 0 (1, 0, f2, f3, f4, f5, upd a1 0 x, b2, a3, a4, a5, a6, a7, a8, a9, a10, a11)) : wpX_add post (0, f1, f2, f3, f4, f5, a1, a2, a3, a4, a5, a6, a7, a8, a9, a10, a11) x w := by
  have T : ∀ z : Int32, wX_add_63 post z 0 0 f1 f2 f3 f4 f5 (upd a1 0 x) a2 a3 a4 a5 a6 a7 a8 a9 a10 a11 := by
    intro z
    refine ⟨du_40, nm_e (nm_r (e' := 1) (by decide) ?_)⟩
    rw [show (1 : Int32) - 1 = 0 by decide]
    exact H _
  refine br_f h0 (br_t h9 ?_)
  rcases hv with h2 | ⟨g0, g5⟩
  · exact du_bv2 h2 (br_t rfl (br_t (by decide) ⟨du_40, nm_r (e' := upd a1 0 x) (by rw [sb_cl0]) (br_c (fun _ => T _) (fun _ => T _))⟩))
  · exact du_bvP g0 g5 (br_t rfl (br_t (by decide) ⟨du_40, nm_r (e' := upd a1 0 x) (by rw [sb_cl0]) (br_c (fun _ => T _) (fun _ => T _))⟩))
end
end
section
section
variable {f1 f2 f3 f4 f5 : Int32} {a1 a2 a3 a4 a5 a6 a7 a8 a9 a10 a11 : Nat → Int32}
/-- the law's last check: no such token; the one token -/
theorem du_190n {post : Int32 → St0 → Prop} {mc ms kc ks : Nat} {x0 x2 x3 x4 z n : Int32} (hn : x2 < 0 ∨ ¬ x2 < n) (H : post 1 ()) : wL_lawOf_190 post mc ms x0 x2 x3 x4 0 z z kc ks n f1 f2 f3 f4 f5 a1 a2 a3 a4 a5 a6 a7 a8 a9 a10 a11 := by
  refine br_t rfl (br_t rfl ?_)
  unfold wL_lawOf_241
  exact du_chN hn (br_t rfl H)
theorem du_190t {post : Int32 → St0 → Prop} {mc ms kc ks : Nat} {x0 x3 x4 z : Int32} (hk : a1 0 = x0) (H : post 1 ()) : wL_lawOf_190 post mc ms x0 0 x3 x4 1 z z kc ks 1 f1 f2 f3 f4 f5 a1 a2 a3 a4 a5 a6 a7 a8 a9 a10 a11 := by
  have K : (x3 < 0 ∨ ¬ x3 ≤ 9) → wL_lawOf_210 post mc ms 0 x3 x4 kc ks 1 f1 f2 f3 f4 f5 a1 a2 a3 a4 a5 a6 a7 a8 a9 a10 a11 := by
    intro h
    unfold wL_lawOf_210 wL_lawOf_241
    exact du_chK h (br_t rfl H)
  have V : ¬ x3 < 0 → x3 ≤ 9 → ¬ 2 ≤ x3 → (x4 < 0 ∨ ¬ x4 ≤ 5) → wL_lawOf_230 post mc ms 0 x3 x4 kc ks 1 f1 f2 f3 f4 f5 a1 a2 a3 a4 a5 a6 a7 a8 a9 a10 a11 := by
    intro h0 h9 h2 hv
    unfold wL_lawOf_230 wL_lawOf_241
    exact du_chV h0 h9 h2 hv (br_t rfl H)
  have P : ¬ x3 < 0 → x3 ≤ 9 → (2 ≤ x3 ∨ (¬ x4 < 0 ∧ x4 ≤ 5)) → wL_lawOf_235 post mc ms x0 0 x3 x4 kc ks 1 f1 f2 f3 f4 f5 a1 a2 a3 a4 a5 a6 a7 a8 a9 a10 a11 := by
    intro h0 h9 hv
    unfold wL_lawOf_235 wL_lawOf_241
    exact du_chP hk h0 h9 hv (fun _ _ => br_t rfl H)
  exact br_t rfl (br_f (by decide) (br_c (fun h => K (Or.inl h)) (fun h0 => br_c (fun h9 => br_c (fun h2 => P h0 h9 (Or.inl h2)) (fun h2 => br_c (fun g => V h0 h9 h2 (Or.inl g)) (fun g0 => br_c (fun g5 => P h0 h9 (Or.inr ⟨g0, g5⟩)) (fun g5 => V h0 h9 h2 (Or.inr g5))))) (fun h9 => K (Or.inr h9)))))
theorem du_p0 {p : Int32} (h : ¬ p = 0) : p < 0 ∨ ¬ p < 1 := by
  rcases pk_ix p (n := 1) (by decide) with g | g | ⟨j, hj, e⟩
  · exact Or.inl g
  · refine Or.inr (fun q => absurd g (fun g' => ?_))
    have g1 : (1 : Int32) ≤ p := g'
    rw [Int32.le_iff_toInt_le] at g1
    rw [Int32.lt_iff_toInt_lt] at q
    omega
  · exact absurd (show p = 0 by rw [e, show j = 0 by omega, nI_0]) h
/-- behind a refused add -/
theorem du_lawN {post : Int32 → St0 → Prop} {mc ms kc ks : Nat} {x0 x2 x3 x4 d : Int32} (hd : ¬ d = 0) (H : post 1 ()) : wL_lawOf_95 post mc ms x0 x2 x3 x4 d kc ks 0 1 1 f3 f4 f5 a1 a2 a3 a4 a5 a6 a7 a8 a9 a10 a11 := by
  have hn : x2 < 0 ∨ ¬ x2 < 0 := Classical.em _
  unfold wL_lawOf_95 wL_lawOf_100
  refine du_so1 (br_t rfl (du_do0 (br_f (by decide) (br_f hd ?_))))
  unfold wL_lawOf_136
  refine br_t rfl (br_f hd ?_)
  unfold wL_lawOf_160 wL_lawOf_161
  exact du_suN hn (br_f (by decide) (br_t rfl (du_190n hn H)))
/-- behind the check of doubts, the one token plain -/
theorem du_142P {post : Int32 → St0 → Prop} {mc ms kc ks : Nat} {x0 x2 x3 x4 z : Int32} (hk : a1 0 = x0) (h7 : a7 0 = 0) (h8 : a8 0 = 1) (H : post 1 ()) : wL_lawOf_142 post mc ms x0 x2 x3 x4 0 1 z z kc ks 1 1 1 f3 f4 f5 a1 a2 a3 a4 a5 a6 a7 a8 a9 a10 a11 := by
  refine br_t rfl (br_t rfl (br_c (fun e => ?_) (fun e => ?_)))
  · subst e
    unfold wL_lawOf_161
    exact du_suP h7 h8 (br_f (by decide) (br_f (by decide) (du_190t hk H)))
  · unfold wL_lawOf_160 wL_lawOf_161
    exact du_suN (du_p0 e) (br_f (by decide) (br_t rfl (du_190n (du_p0 e) H)))
/-- behind an add of a plain token -/
theorem du_lawP {post : Int32 → St0 → Prop} {mc ms kc ks : Nat} {x0 x2 x3 x4 : Int32} (hk : a1 0 = x0) (ok : x0 = 0 ∨ x0 = 1 ∨ x0 = 9) (H : post 1 ()) : wL_lawOf_95 post mc ms x0 x2 x3 x4 0 kc ks 1 0 f2 f3 f4 f5 a1 a2 a3 a4 a5 a6 a7 a8 a9 a10 a11 := by
  unfold wL_lawOf_95 wL_lawOf_100
  refine du_soP hk ok (fun o n l b3 b4 b5 b7 b8 b11 h7 h8 => br_t rfl ?_)
  by_cases e : x0 = 1
  · exact du_doU (hk.trans e) h7 h8 (br_f (by decide) (br_t rfl (br_t e (du_142P hk h7 h8 H))))
  · refine du_doO hk e (br_f (by decide) (br_t rfl (br_f e ?_)))
    unfold wL_lawOf_136
    exact du_142P hk h7 h8 H
/-- behind an add of a token that can't stand alone -/
theorem du_lawB {post : Int32 → St0 → Prop} {mc ms kc ks : Nat} {x0 x2 x3 x4 : Int32} (hk : a1 0 = x0) (ok : (x0 = 2 ∨ x0 = 4 ∨ x0 = 5) ∨ (x0 = 7 ∨ x0 = 8 ∨ x0 = 3 ∨ x0 = 6)) (H : post 1 ()) : wL_lawOf_100 post mc ms x0 x2 x3 x4 0 0 kc ks 1 0 f2 f3 f4 f5 a1 a2 a3 a4 a5 a6 a7 a8 a9 a10 a11 := by
  unfold wL_lawOf_100
  refine du_soB hk ok (fun o n l b3 b4 b5 b6 => br_t rfl (du_doB (br_t rfl (br_t rfl (br_t rfl (br_c (fun e => ?_) (fun e => ?_)))))))
  · subst e
    unfold wL_lawOf_161
    exact du_suB (br_t rfl (du_190t hk H))
  · unfold wL_lawOf_160 wL_lawOf_161
    exact du_suB (br_t rfl (du_190n (du_p0 e) H))
/-- the add and what is behind it -/
theorem du_63K {post : Int32 → St0 → Prop} {mc ms kc ks : Nat} {x0 x1 x2 x3 x4 : Int32} (h : x0 < 0 ∨ ¬ x0 ≤ 9) (H : post 1 ()) : wL_lawOf_39 post mc ms x0 x1 x2 x3 x4 kc ks 0 1 1 f3 f4 f5 a1 a2 a3 a4 a5 a6 a7 a8 a9 a10 a11 := by
  unfold wL_lawOf_39 wL_lawOf_63
  exact du_adK h (br_t rfl (br_t (by decide) (du_lawN (by decide) H)))
theorem du_63V {post : Int32 → St0 → Prop} {mc ms kc ks : Nat} {x0 x1 x2 x3 x4 : Int32} (h0 : ¬ x0 < 0) (h9 : x0 ≤ 9) (h2 : ¬ 2 ≤ x0) (hv : x1 < 0 ∨ ¬ x1 ≤ 5) (H : post 1 ()) : wL_lawOf_57 post mc ms x0 x1 x2 x3 x4 kc ks 0 1 1 f3 f4 f5 a1 a2 a3 a4 a5 a6 a7 a8 a9 a10 a11 := by
  unfold wL_lawOf_57 wL_lawOf_63
  exact du_adV h0 h9 h2 hv (br_t rfl (br_t (by decide) (du_lawN (by decide) H)))
theorem du_63P {post : Int32 → St0 → Prop} {mc ms kc ks : Nat} {x0 x1 x2 x3 x4 : Int32} (h0 : ¬ x0 < 0) (h9 : x0 ≤ 9) (hv : 2 ≤ x0 ∨ (¬ x1 < 0 ∧ x1 ≤ 5)) (H : post 1 ()) : wL_lawOf_62 post mc ms x0 x1 x2 x3 x4 kc ks 0 1 1 f3 f4 f5 a1 a2 a3 a4 a5 a6 a7 a8 a9 a10 a11 := by
  unfold wL_lawOf_62 wL_lawOf_63
  refine du_adP h0 h9 hv (fun b2 => br_t rfl (br_f (by decide) ?_))
  rcases du_kind h0 h9 with ok | ok
  · have P : ∀ {f2 f3 f4 f5 : Int32}, wL_lawOf_95 post mc ms x0 x2 x3 x4 0 kc ks 1 0 f2 f3 f4 f5 (upd a1 0 x0) b2 a3 a4 a5 a6 a7 a8 a9 a10 a11 := du_lawP pk_us ok H
    refine br_c (fun _ => P) (fun g => br_c (fun _ => P) (fun g9 => ?_))
    rcases ok with rfl | rfl | rfl
    · exact absurd (by decide) g
    · exact absurd (by decide) g
    · exact absurd rfl g9
  · have E : (¬ x0 < 2) ∧ (¬ x0 = 9) := by
      rcases ok with (rfl | rfl | rfl) | (rfl | rfl | rfl | rfl) <;> decide
    exact br_f E.1 (br_f E.2 (du_lawB pk_us ok H))
/-- the law on its five ints -/
theorem du_lawOf {post : Int32 → St0 → Prop} {p0 p1 p2 p3 p4 : Int32} (H : post 1 ()) : wpL_lawOf post 224 3584 () p0 p1 p2 p3 p4 := by
  refine ⟨by decide, by decide, 11, 443, by decide, by decide, ?_⟩
  refine ⟨by decide, by decide, by decide, by decide, by decide, by decide, by decide, by decide, by decide, by decide, by decide, by decide, by decide, by decide, by decide, by decide, by decide, by decide, by decide, by decide, by decide, by decide, ?_⟩
  refine du_so0 (fun b7 b8 b11 => br_f (by decide) (br_t rfl (br_t rfl ?_)))
  exact br_c (fun h => du_63K (Or.inl h) H) (fun h0 => br_c (fun h9 => br_c (fun h2 => du_63P h0 h9 (Or.inl h2) H) (fun h2 => br_c (fun g => du_63V h0 h9 h2 (Or.inl g) H) (fun g0 => br_c (fun g5 => du_63P h0 h9 (Or.inr ⟨g0, g5⟩) H) (fun g5 => du_63V h0 h9 h2 (Or.inr g5) H)))) (fun h9 => du_63K (Or.inr h9) H))
theorem du_cell {post : Int32 → Prop} {L : Nat} {xs : Nat → Int32} {p : Int32} (c : Nat) (hp : p = nI c) (hL : L ≤ 5) (hc : c ≤ 4) (H : ∀ r, post r) : wpL_cellAt post L xs () p := by
  subst hp
  refine br_c (fun _ => H _) (fun h => ⟨vp_in_nI ?_ (by omega), H _⟩)
  rcases Nat.lt_or_ge c L with g | g
  · exact g
  · exact absurd (nI_le g (by omega)) h
end
theorem i_vc (xs : Nat → Int32) (L : Nat) (hL : L ≤ 5) : wpL_law (fun r => r = 1) L xs := by
  unfold wpL_law
  exact du_cell 0 rfl hL (by decide) (fun r1 => du_cell 1 rfl hL (by decide) (fun r2 => du_cell 2 rfl hL (by decide) (fun r3 => du_cell 3 rfl hL (by decide) (fun r4 => du_cell 4 rfl hL (by decide) (fun r5 => ⟨224, 3584, by decide, by decide, du_lawOf rfl⟩)))))
end
