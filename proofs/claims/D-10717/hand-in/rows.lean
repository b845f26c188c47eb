section
/-! rooms: an int p with vp_in p 3; the places that belong to it -/
theorem cr_room {p : Int32} (h : vp_in p 3) : p = 0 ∨ p = 1 ∨ p = 2 := by
  obtain ⟨j, hj, rfl⟩ := vp_in_of h (by decide)
  rcases (show j = 0 ∨ j = 1 ∨ j = 2 by omega) with rfl | rfl | rfl
  · exact Or.inl rfl
  · exact Or.inr (Or.inl rfl)
  · exact Or.inr (Or.inr rfl)
theorem cr_i60 {p : Int32} (h : vp_in p 3) : vp_in ((62 * p) + 60) 186 := by
  rcases cr_room h with rfl | rfl | rfl <;> exact (vp_in_iff.mpr (by decide))
theorem cr_i0 {p : Int32} (h : vp_in p 3) : vp_in ((62 * p) + 0) 186 := by
  rcases cr_room h with rfl | rfl | rfl <;> exact (vp_in_iff.mpr (by decide))
theorem cr_i00 {p : Int32} (h : vp_in p 3) : vp_in (((62 * p) + 0) + 0) 186 := by
  rcases cr_room h with rfl | rfl | rfl <;> exact (vp_in_iff.mpr (by decide))
theorem cr_c0 {p : Int32} (h : vp_in p 3) : vp_in ((20 * p) + 0) 60 := by
  rcases cr_room h with rfl | rfl | rfl <;> exact (vp_in_iff.mpr (by decide))
theorem cr_n60 {p : Int32} (h : vp_in p 3) : ((62 * p) + 60).toNatClampNeg ≠ ((62 * p) + 0).toNatClampNeg := by
  rcases cr_room h with rfl | rfl | rfl <;> decide
theorem cr_inj {p q : Int32} (h : vp_in p 3) (k : vp_in q 3) (n : ¬ q = p) : q.toNatClampNeg ≠ p.toNatClampNeg := by
  rcases cr_room h with rfl | rfl | rfl <;> rcases cr_room k with rfl | rfl | rfl <;> first | decide | exact absurd rfl n
theorem cr_lo {p : Int32} (h : vp_in p 3) : ¬ p < 0 := by
  rcases cr_room h with rfl | rfl | rfl <;> decide
theorem cr_hi {p : Int32} (h : vp_in p 3) : ¬ 3 ≤ p := by
  rcases cr_room h with rfl | rfl | rfl <;> decide
theorem cr_hi2 {p : Int32} (h : vp_in p 3) : ¬ 2 < p := by
  rcases cr_room h with rfl | rfl | rfl <;> decide
theorem cr_is {p : Int32} (h : ¬ p < 0) (k : ¬ 3 ≤ p) : vp_in p 3 := by
  rcases pk_ix p (n := 3) (by decide) with z | z | ⟨j, hj, rfl⟩
  · exact absurd z h
  · exact absurd z k
  · exact vp_in_nI hj (by decide)
theorem cr_is2 {p : Int32} (h : ¬ p < 0) (k : ¬ 2 < p) : vp_in p 3 := by
  refine cr_is h (fun z => k ?_)
  rw [Int32.lt_iff_toInt_lt]
  rw [Int32.le_iff_toInt_le] at z
  have h2 : (2 : Int32).toInt = 2 := by decide
  have h3 : (3 : Int32).toInt = 3 := by decide
  omega
theorem cr_no1 {p : Int32} (h : ¬ p = 0) (k : ¬ p < 0) : (1 : Int32) ≤ p := by
  rw [Int32.le_iff_toInt_le]
  rw [Int32.lt_iff_toInt_lt] at k
  have h0 : (0 : Int32).toInt = 0 := by decide
  have h1 : (1 : Int32).toInt = 1 := by decide
  have hn : p.toInt ≠ (0 : Int32).toInt := fun z => h (Int32.toInt_inj.mp z)
  omega
theorem cr_nlt {p q : Int32} (h : q ≤ p) : ¬ p < q := by
  rw [Int32.lt_iff_toInt_lt]
  rw [Int32.le_iff_toInt_le] at h
  omega
theorem cr_nle {p q : Int32} (h : ¬ p < q) : q ≤ p := by
  rw [Int32.lt_iff_toInt_lt] at h
  rw [Int32.le_iff_toInt_le]
  omega
theorem cr_le0 {p : Int32} (h : ¬ p = 0) (k : ¬ p < 0) : ¬ p ≤ 0 := by
  intro z
  have := cr_no1 h k
  rw [Int32.le_iff_toInt_le] at this z
  have h0 : (0 : Int32).toInt = 0 := by decide
  have h1 : (1 : Int32).toInt = 1 := by decide
  omega
theorem cr_isRoom_t {post : Int32 → Prop} {u : St0} {p : Int32} (h : vp_in p 3) (H : post 1) : wpX_isRoom post u p := by
  unfold wpX_isRoom
  exact br_f (cr_lo h) (br_f (cr_hi h) H)
theorem cr_isRoom_f {post : Int32 → Prop} {u : St0} {p : Int32} (h : ¬ vp_in p 3) (H : post 0) : wpX_isRoom post u p := by
  unfold wpX_isRoom
  exact br_c (fun _ => H) (fun g => br_c (fun _ => H) (fun k => absurd (cr_is g k) h))
/-! layRow over an empty file, over a file of one line -/
theorem cr_lay0 {post : St2 → Prop} {fu fm fl ft : Int32} {a1 a2 a3 a4 a5 a6 a7 a8 a9 a10 a11 a12 a13 a14 a15 a16 a17 a18 : Nat → Int32} {p : Int32} (hp : vp_in p 3) (h13 : a13 p.toNatClampNeg = 0) (H : post (fu, fm, fl, ft, a1, a2, a3, a4, a5, a6, a7, a8, a9, a10, a11, a12, a13, a14, a15, a16, a17, a18)) : wpX_layRow post (fu, fm, fl, ft, a1, a2, a3, a4, a5, a6, a7, a8, a9, a10, a11, a12, a13, a14, a15, a16, a17, a18) p := by
  unfold wpX_layRow
  exact ⟨cr_i60 hp, nm_e ⟨1, hp, br_t (by rw [h13]; decide) H⟩⟩
theorem cr_lay1 {post : St2 → Prop} {fu fm fl ft : Int32} {a1 a2 a3 a4 a5 a6 a7 a8 a9 a10 a11 a12 a13 a14 a15 a16 a17 a18 : Nat → Int32} {p : Int32} (hp : vp_in p 3) (h13 : a13 p.toNatClampNeg = 1) (h11 : a11 ((62 * p) + 60).toNatClampNeg = 0)
    (H : ∀ b16 : Nat → Int32, b16 (0 : Int32).toNatClampNeg = 0 → post (fu, fm, fl, ft, a1, a2, a3, a4, a5, a6, a7, a8, a9, a10, a11, a12, a13, a14, a15, b16, a17, a18)) : wpX_layRow post (fu, fm, fl, ft, a1, a2, a3, a4, a5, a6, a7, a8, a9, a10, a11, a12, a13, a14, a15, a16, a17, a18) p := by
  unfold wpX_layRow
  refine ⟨cr_i60 hp, nm_r h11 ⟨2, hp, br_f (by rw [h13]; decide) ⟨(vp_in_iff.mpr (by decide)), nm_e ⟨cr_i0 hp, nm_e (nm_e ⟨hp, br_t (by rw [h13]; decide) ?_⟩)⟩⟩⟩⟩
  exact H _ pk_us
theorem cr_agree {post : Int32 → Prop} {fu fm fl ft : Int32} {a1 a2 a3 a4 a5 a6 a7 a8 a9 a10 a11 a12 a13 a14 a15 a16 a17 a18 : Nat → Int32} {p : Int32} (hp : vp_in p 3) (h16 : a16 (0 : Int32).toNatClampNeg = 0) (h : a1 (0 : Int32).toNatClampNeg = a15 ((20 * p) + 0).toNatClampNeg) (H : post 1) : wpX_agree post (fu, fm, fl, ft, a1, a2, a3, a4, a5, a6, a7, a8, a9, a10, a11, a12, a13, a14, a15, a16, a17, a18) p 0 0 := by
  unfold wpX_agree
  exact ⟨(vp_in_iff.mpr (by decide)), by rw [h16]; exact (vp_in_iff.mpr (by decide)), cr_c0 hp, br_t (by rw [h16]; exact h) H⟩
/-! mostFrom: at an end, and at the one pair -/
theorem cr_most_i {post : Int32 → Prop} {fu fm fl ft : Int32} {a1 a2 a3 a4 a5 a6 a7 a8 a9 a10 a11 a12 a13 a14 a15 a16 a17 a18 : Nat → Int32} {p i j : Int32} (hp : vp_in p 3) (h : i = a13 p.toNatClampNeg) (H : post 0) : wpX_mostFrom post (fu, fm, fl, ft, a1, a2, a3, a4, a5, a6, a7, a8, a9, a10, a11, a12, a13, a14, a15, a16, a17, a18) p i j := by
  unfold wpX_mostFrom
  exact ⟨hp, br_t h H⟩
theorem cr_most_j {post : Int32 → Prop} {fu fm fl ft : Int32} {a1 a2 a3 a4 a5 a6 a7 a8 a9 a10 a11 a12 a13 a14 a15 a16 a17 a18 : Nat → Int32} {p i j : Int32} (hp : vp_in p 3) (hi : ¬ i = a13 p.toNatClampNeg) (h : j = a14 p.toNatClampNeg) (H : post 0) : wpX_mostFrom post (fu, fm, fl, ft, a1, a2, a3, a4, a5, a6, a7, a8, a9, a10, a11, a12, a13, a14, a15, a16, a17, a18) p i j := by
  unfold wpX_mostFrom
  exact ⟨hp, br_f hi ⟨hp, br_t h H⟩⟩
theorem cr_most_11 {post : Int32 → Prop} {fu fm fl ft : Int32} {a1 a2 a3 a4 a5 a6 a7 a8 a9 a10 a11 a12 a13 a14 a15 a16 a17 a18 : Nat → Int32} {p : Int32} (hp : vp_in p 3) (h13 : a13 p.toNatClampNeg = 1) (h14 : a14 p.toNatClampNeg = 1) (h16 : a16 (0 : Int32).toNatClampNeg = 0) (h : a1 (0 : Int32).toNatClampNeg = a15 ((20 * p) + 0).toNatClampNeg)
    (k21 : a17 21 = 0) (k1 : a17 1 = 0) (k22 : a17 22 = 0) (H : post 1) : wpX_mostFrom post (fu, fm, fl, ft, a1, a2, a3, a4, a5, a6, a7, a8, a9, a10, a11, a12, a13, a14, a15, a16, a17, a18) p 0 0 := by
  unfold wpX_mostFrom
  refine ⟨hp, br_f (by rw [h13]; decide) ⟨hp, br_f (by rw [h14]; decide) ⟨(vp_in_iff.mpr (by decide)), nm_r k21 ⟨(vp_in_iff.mpr (by decide)), nm_r k1 (br_t (by decide) ?_)⟩⟩⟩⟩
  unfold wX_mostFrom_66
  refine cr_agree hp h16 h (br_f (by decide) ⟨(vp_in_iff.mpr (by decide)), ?_⟩)
  have e : a17 ((((21 : Int32) * (0 + 1)) + 0) + 1).toNatClampNeg = 0 := k22
  unfold wX_mostFrom_103
  rw [e]
  exact br_f (by decide) H
end
section
/-! compareCopy: the file empty and the copy empty, the file empty and one text, one line and one text (the same) -/
theorem cr_cmp00 {post : St2 → Prop} {fu fm fl ft : Int32} {a1 a2 a3 a4 a5 a6 a7 a8 a9 a10 a11 a12 a13 a14 a15 a16 a17 a18 : Nat → Int32} {p : Int32} (hp : vp_in p 3) (h13 : a13 p.toNatClampNeg = 0) (h14 : a14 p.toNatClampNeg = 0)
    (H : ∀ b17 : Nat → Int32, b17 0 = 0 → post (fu, fm, fl, ft, a1, a2, a3, a4, a5, a6, a7, a8, a9, a10, a11, a12, a13, a14, a15, a16, b17, a18)) : wpX_compareCopy post (fu, fm, fl, ft, a1, a2, a3, a4, a5, a6, a7, a8, a9, a10, a11, a12, a13, a14, a15, a16, a17, a18) p := by
  unfold wpX_compareCopy
  refine cr_lay0 hp h13 ⟨hp, nm_r h13 ⟨2, br_f (by decide) ⟨hp, nm_r h14 ⟨2, br_f (by decide) (cr_most_i hp h13.symm ⟨(vp_in_iff.mpr (by decide)), nm_e (nm_e (br_t (by decide) (nm_e (br_t (by decide) ?_))))⟩)⟩⟩⟩⟩
  exact H _ pk_us
theorem cr_cmp01 {post : St2 → Prop} {fu fm fl ft : Int32} {a1 a2 a3 a4 a5 a6 a7 a8 a9 a10 a11 a12 a13 a14 a15 a16 a17 a18 : Nat → Int32} {p : Int32} (hp : vp_in p 3) (h13 : a13 p.toNatClampNeg = 0) (h14 : a14 p.toNatClampNeg = 1)
    (H : ∀ b17 : Nat → Int32, b17 0 = 0 → post (fu, fm, fl, ft, a1, a2, a3, a4, a5, a6, a7, a8, a9, a10, a11, a12, a13, a14, a15, a16, b17, a18)) : wpX_compareCopy post (fu, fm, fl, ft, a1, a2, a3, a4, a5, a6, a7, a8, a9, a10, a11, a12, a13, a14, a15, a16, a17, a18) p := by
  unfold wpX_compareCopy
  refine cr_lay0 hp h13 ⟨hp, nm_r h13 ⟨2, br_f (by decide) ⟨hp, nm_r h14 ⟨3, br_f (by decide) (cr_most_i hp h13.symm ⟨(vp_in_iff.mpr (by decide)), nm_e (nm_r (e' := 0) (by decide) (br_f (by decide) (cr_most_i hp h13.symm ⟨(vp_in_iff.mpr (by decide)), nm_e (nm_e (br_t (by decide) (nm_e (br_t (by decide) ?_))))⟩)))⟩)⟩⟩⟩⟩
  exact H _ pk_us
theorem cr_cmp11 {post : St2 → Prop} {fu fm fl ft : Int32} {a1 a2 a3 a4 a5 a6 a7 a8 a9 a10 a11 a12 a13 a14 a15 a16 a17 a18 : Nat → Int32} {p : Int32} (hp : vp_in p 3) (h13 : a13 p.toNatClampNeg = 1) (h14 : a14 p.toNatClampNeg = 1) (h11 : a11 ((62 * p) + 60).toNatClampNeg = 0)
    (h : a1 (0 : Int32).toNatClampNeg = a15 ((20 * p) + 0).toNatClampNeg)
    (H : ∀ b16 b17 : Nat → Int32, b16 (0 : Int32).toNatClampNeg = 0 → b17 0 = 1 → post (fu, fm, fl, ft, a1, a2, a3, a4, a5, a6, a7, a8, a9, a10, a11, a12, a13, a14, a15, b16, b17, a18)) : wpX_compareCopy post (fu, fm, fl, ft, a1, a2, a3, a4, a5, a6, a7, a8, a9, a10, a11, a12, a13, a14, a15, a16, a17, a18) p := by
  unfold wpX_compareCopy
  refine cr_lay1 hp h13 h11 (fun b16 h16 => ?_)
  refine ⟨hp, nm_r h13 ⟨3, br_f (by decide) ⟨hp, nm_r h14 ⟨3, ?_⟩⟩⟩⟩
  refine br_f (by decide) (cr_most_i hp h13.symm ⟨(vp_in_iff.mpr (by decide)), nm_e (nm_r (e' := 0) (by decide) ?_)⟩)
  refine br_f (by decide) (cr_most_i hp h13.symm ⟨(vp_in_iff.mpr (by decide)), nm_e (nm_r (e' := -1) (by decide) ?_)⟩)
  refine br_t (by decide) (nm_r (e' := 0) (by decide) ?_)
  refine br_f (by decide) ⟨hp, nm_r h14 ⟨3, ?_⟩⟩
  refine br_f (by decide) (cr_most_j hp (by rw [h13]; decide) h14.symm ⟨(vp_in_iff.mpr (by decide)), nm_e (nm_r (e' := 0) (by decide) ?_)⟩)
  refine br_f (by decide) (cr_most_11 hp h13 h14 h16 h rfl rfl rfl ⟨(vp_in_iff.mpr (by decide)), nm_e (nm_r (e' := -1) (by decide) ?_)⟩)
  refine br_t (by decide) (nm_r (e' := -1) (by decide) ?_)
  refine br_t (by decide) ?_
  exact H b16 _ h16 pk_us
/-! findPairs over an empty file: no pair -/
theorem cr_pairs7 {post : St2 → Prop} {fu fm fl ft : Int32} {a1 a2 a3 a4 a5 a6 a7 a8 a9 a10 a11 a12 a13 a14 a15 a16 a17 a18 : Nat → Int32} {p : Int32} (h17 : a17 0 = 0)
    (H : ∀ b18 : Nat → Int32, post (fu, fm, fl, ft, a1, a2, a3, a4, a5, a6, a7, a8, a9, a10, a11, a12, a13, a14, a15, a16, a17, b18)) : ∃ n, wX_findPairs_7 post p fu fm fl ft n 0 a1 a2 a3 a4 a5 a6 a7 a8 a9 a10 a11 a12 a13 a14 a15 a16 a17 a18 := by
  have h17' : a17 (((21 : Int32) * 0) + 0).toNatClampNeg = 0 := h17
  exact pk_loop (fun n i s => wX_findPairs_7 post p fu fm fl ft n (nI i) a1 a2 a3 a4 a5 a6 a7 a8 a9 a10 a11 a12 a13 a14 a15 a16 a17 s) (fun _ _ => True) 20 0 a18 (by omega) trivial
    (fun n s _ => pk_le 20 20 (fun _ => ⟨1, br_f (by decide) ⟨(vp_in_iff.mpr (by decide)), br_t (by rw [h17']; decide) (H s)⟩⟩) (fun z => absurd z (by omega)))
    (fun n i s hi _ hw => pk_le 20 i (fun z => absurd z (by omega)) (fun _ => ⟨pk_in i 20 hi, nm_e (nm_r (nI_1 i) (hw _ trivial))⟩))
theorem cr_pairs00 {post : St2 → Prop} {fu fm fl ft : Int32} {a1 a2 a3 a4 a5 a6 a7 a8 a9 a10 a11 a12 a13 a14 a15 a16 a17 a18 : Nat → Int32} {p : Int32} (hp : vp_in p 3) (h13 : a13 p.toNatClampNeg = 0) (h14 : a14 p.toNatClampNeg = 0)
    (H : ∀ b17 b18 : Nat → Int32, b17 0 = 0 → post (fu, fm, fl, ft, a1, a2, a3, a4, a5, a6, a7, a8, a9, a10, a11, a12, a13, a14, a15, a16, b17, b18)) : wpX_findPairs post (fu, fm, fl, ft, a1, a2, a3, a4, a5, a6, a7, a8, a9, a10, a11, a12, a13, a14, a15, a16, a17, a18) p := by
  unfold wpX_findPairs
  exact cr_cmp00 hp h13 h14 (fun b17 h17 => cr_pairs7 h17 (fun b18 => H b17 b18 h17))
theorem cr_pairs01 {post : St2 → Prop} {fu fm fl ft : Int32} {a1 a2 a3 a4 a5 a6 a7 a8 a9 a10 a11 a12 a13 a14 a15 a16 a17 a18 : Nat → Int32} {p : Int32} (hp : vp_in p 3) (h13 : a13 p.toNatClampNeg = 0) (h14 : a14 p.toNatClampNeg = 1)
    (H : ∀ b17 b18 : Nat → Int32, b17 0 = 0 → post (fu, fm, fl, ft, a1, a2, a3, a4, a5, a6, a7, a8, a9, a10, a11, a12, a13, a14, a15, a16, b17, b18)) : wpX_findPairs post (fu, fm, fl, ft, a1, a2, a3, a4, a5, a6, a7, a8, a9, a10, a11, a12, a13, a14, a15, a16, a17, a18) p := by
  unfold wpX_findPairs
  exact cr_cmp01 hp h13 h14 (fun b17 h17 => cr_pairs7 h17 (fun b18 => H b17 b18 h17))
/-! unrecorded -/
theorem cr_unr_n {post : Int32 → St2 → Prop} {fu fm fl ft : Int32} {a1 a2 a3 a4 a5 a6 a7 a8 a9 a10 a11 a12 a13 a14 a15 a16 a17 a18 : Nat → Int32} {p : Int32} (hp : ¬ vp_in p 3) (H : post (-1) (fu, fm, fl, ft, a1, a2, a3, a4, a5, a6, a7, a8, a9, a10, a11, a12, a13, a14, a15, a16, a17, a18)) : wpX_unrecorded post (fu, fm, fl, ft, a1, a2, a3, a4, a5, a6, a7, a8, a9, a10, a11, a12, a13, a14, a15, a16, a17, a18) p := by
  unfold wpX_unrecorded
  exact cr_isRoom_f hp (br_t rfl H)
theorem cr_unr00 {post : Int32 → St2 → Prop} {fu fm fl ft : Int32} {a1 a2 a3 a4 a5 a6 a7 a8 a9 a10 a11 a12 a13 a14 a15 a16 a17 a18 : Nat → Int32} {p : Int32} (hp : vp_in p 3) (h13 : a13 p.toNatClampNeg = 0) (h14 : a14 p.toNatClampNeg = 0)
    (H : ∀ b17 : Nat → Int32, post 0 (fu, fm, fl, ft, a1, a2, a3, a4, a5, a6, a7, a8, a9, a10, a11, a12, a13, a14, a15, a16, b17, a18)) : wpX_unrecorded post (fu, fm, fl, ft, a1, a2, a3, a4, a5, a6, a7, a8, a9, a10, a11, a12, a13, a14, a15, a16, a17, a18) p := by
  unfold wpX_unrecorded
  refine cr_isRoom_t hp (br_f (by decide) (cr_cmp00 hp h13 h14 (fun b17 h17 => ⟨hp, hp, ?_⟩)))
  rw [h13, h14, h17]
  exact H b17
theorem cr_unr01 {post : Int32 → St2 → Prop} {fu fm fl ft : Int32} {a1 a2 a3 a4 a5 a6 a7 a8 a9 a10 a11 a12 a13 a14 a15 a16 a17 a18 : Nat → Int32} {p : Int32} (hp : vp_in p 3) (h13 : a13 p.toNatClampNeg = 0) (h14 : a14 p.toNatClampNeg = 1)
    (H : ∀ b17 : Nat → Int32, post 1 (fu, fm, fl, ft, a1, a2, a3, a4, a5, a6, a7, a8, a9, a10, a11, a12, a13, a14, a15, a16, b17, a18)) : wpX_unrecorded post (fu, fm, fl, ft, a1, a2, a3, a4, a5, a6, a7, a8, a9, a10, a11, a12, a13, a14, a15, a16, a17, a18) p := by
  unfold wpX_unrecorded
  refine cr_isRoom_t hp (br_f (by decide) (cr_cmp01 hp h13 h14 (fun b17 h17 => ⟨hp, hp, ?_⟩)))
  rw [h13, h14, h17]
  exact H b17
theorem cr_unr11 {post : Int32 → St2 → Prop} {fu fm fl ft : Int32} {a1 a2 a3 a4 a5 a6 a7 a8 a9 a10 a11 a12 a13 a14 a15 a16 a17 a18 : Nat → Int32} {p : Int32} (hp : vp_in p 3) (h13 : a13 p.toNatClampNeg = 1) (h14 : a14 p.toNatClampNeg = 1) (h11 : a11 ((62 * p) + 60).toNatClampNeg = 0)
    (h : a1 (0 : Int32).toNatClampNeg = a15 ((20 * p) + 0).toNatClampNeg)
    (H : ∀ b16 b17 : Nat → Int32, post 0 (fu, fm, fl, ft, a1, a2, a3, a4, a5, a6, a7, a8, a9, a10, a11, a12, a13, a14, a15, b16, b17, a18)) : wpX_unrecorded post (fu, fm, fl, ft, a1, a2, a3, a4, a5, a6, a7, a8, a9, a10, a11, a12, a13, a14, a15, a16, a17, a18) p := by
  unfold wpX_unrecorded
  refine cr_isRoom_t hp (br_f (by decide) (cr_cmp11 hp h13 h14 h11 h (fun b16 b17 h16 h17 => ⟨hp, hp, ?_⟩)))
  rw [h13, h14, h17]
  exact H b16 b17
end
section
/-! holds, makerOf, findNeeds: the first change needs none -/
theorem cr_holds_f {post : Int32 → Prop} {fu fm fl ft : Int32} {a1 a2 a3 a4 a5 a6 a7 a8 a9 a10 a11 a12 a13 a14 a15 a16 a17 a18 : Nat → Int32} {p : Int32} (hp : vp_in p 3) (h10 : a10 p.toNatClampNeg = 0) (H : post 0) : wpX_holds post (fu, fm, fl, ft, a1, a2, a3, a4, a5, a6, a7, a8, a9, a10, a11, a12, a13, a14, a15, a16, a17, a18) p 0 := by
  unfold wpX_holds
  exact ⟨hp, br_f (by rw [h10]; decide) H⟩
theorem cr_holds_t {post : Int32 → Prop} {fu fm fl ft : Int32} {a1 a2 a3 a4 a5 a6 a7 a8 a9 a10 a11 a12 a13 a14 a15 a16 a17 a18 : Nat → Int32} {p : Int32} (hp : vp_in p 3) (h10 : a10 p.toNatClampNeg = 1) (H : post 1) : wpX_holds post (fu, fm, fl, ft, a1, a2, a3, a4, a5, a6, a7, a8, a9, a10, a11, a12, a13, a14, a15, a16, a17, a18) p 0 := by
  unfold wpX_holds
  exact ⟨hp, br_t (by rw [h10]; decide) H⟩
theorem cr_maker {post : Int32 → Prop} {fu fm fl ft : Int32} {a1 a2 a3 a4 a5 a6 a7 a8 a9 a10 a11 a12 a13 a14 a15 a16 a17 a18 : Nat → Int32} {p u v : Int32} (hp : vp_in p 3) (hm : fm = 1) (h10 : a10 p.toNatClampNeg = 0) (H : post (-1)) : wpX_makerOf post (fu, fm, fl, ft, a1, a2, a3, a4, a5, a6, a7, a8, a9, a10, a11, a12, a13, a14, a15, a16, a17, a18) p u v := by
  subst hm
  unfold wpX_makerOf
  exact nm_r (e' := 0) (by decide) ⟨2, br_f (by decide) (cr_holds_f hp h10 (br_t rfl (nm_e (br_t (by decide) H))))⟩
theorem cr_needs {post : St2 → Prop} {fu fm fl ft : Int32} {a1 a2 a3 a4 a5 a6 a7 a8 a9 a10 a11 a12 a13 a14 a15 a16 a17 a18 : Nat → Int32} {p : Int32} (hp : vp_in p 3) (hm : fm = 1) (h7 : a7 (0 : Int32).toNatClampNeg = 0) (h10 : a10 p.toNatClampNeg = 0)
    (H : ∀ b9 : Nat → Int32, post (fu, fm, fl, ft, a1, a2, a3, a4, a5, a6, a7, a8, b9, a10, a11, a12, a13, a14, a15, a16, a17, a18)) : wpX_findNeeds post (fu, fm, fl, ft, a1, a2, a3, a4, a5, a6, a7, a8, a9, a10, a11, a12, a13, a14, a15, a16, a17, a18) p 0 := by
  unfold wpX_findNeeds
  refine ⟨(vp_in_iff.mpr (by decide)), nm_e ⟨(vp_in_iff.mpr (by decide)), nm_e ⟨2, (vp_in_iff.mpr (by decide)), br_f (by rw [h7]; decide) ⟨(vp_in_iff.mpr (by decide)), br_t (by rw [h7]; decide) ⟨(vp_in_iff.mpr (by decide)), ?_⟩⟩⟩⟩⟩
  unfold wX_findNeeds_60
  exact cr_maker hp hm h10 (br_t (by decide) (nm_e ⟨(vp_in_iff.mpr (by decide)), br_t (by rw [h7]; decide) (H _)⟩))
/-! describe: the one text becomes line 0 of change 0 -/
theorem cr_desc {post : St2 → Prop} {fl ft : Int32} {a1 a2 a3 a4 a5 a6 a7 a8 a9 a10 a11 a12 a13 a14 a15 a16 a17 a18 : Nat → Int32} {p : Int32} (hp : vp_in p 3) (h13 : a13 p.toNatClampNeg = 0) (h10 : a10 p.toNatClampNeg = 0)
    (H : ∀ b1 b2 b3 b4 b5 b6 b7 b9 : Nat → Int32, b1 (0 : Int32).toNatClampNeg = a15 ((20 * p) + 0).toNatClampNeg → b3 (0 : Int32).toNatClampNeg = 60 → b4 (0 : Int32).toNatClampNeg = 61 → b5 (0 : Int32).toNatClampNeg = 0 → b6 (0 : Int32).toNatClampNeg = 1 → b7 (0 : Int32).toNatClampNeg = 0 →
      post (1, 1, fl, ft, b1, b2, b3, b4, b5, b6, b7, a8, b9, a10, a11, a12, a13, a14, a15, a16, a17, a18)) :
    wpX_describe post (0, 0, fl, ft, a1, a2, a3, a4, a5, a6, a7, a8, a9, a10, a11, a12, a13, a14, a15, a16, a17, a18) p 0 0 0 1 := by
  unfold wpX_describe
  refine nm_r (e' := 1) (by decide) (br_t rfl ?_)
  unfold wX_describe_39
  refine ⟨(vp_in_iff.mpr (by decide)), nm_e ⟨hp, br_t h13.symm ?_⟩⟩
  unfold wX_describe_67
  refine ⟨(vp_in_iff.mpr (by decide)), nm_e ⟨(vp_in_iff.mpr (by decide)), nm_r (e' := upd a7 (0 : Int32).toNatClampNeg 0) rfl ⟨1, br_t (by decide) ⟨(vp_in_iff.mpr (by decide)), nm_e ⟨(vp_in_iff.mpr (by decide)), nm_r (e' := upd a6 (0 : Int32).toNatClampNeg 1) rfl ⟨2, ?_⟩⟩⟩⟩⟩⟩
  refine br_f (by decide) ⟨cr_c0 hp, (vp_in_iff.mpr (by decide)), nm_e ⟨(vp_in_iff.mpr (by decide)), nm_e (nm_r (e' := 1) (by decide) (nm_r (e' := 1) (by decide) (br_t (by decide) ?_)))⟩⟩
  exact cr_needs hp rfl pk_us h10 (fun b9 => H _ _ _ _ _ _ _ b9 pk_us pk_us pk_us pk_us pk_us pk_us)
/-! stretches over an empty file: none, one counted, one kept -/
theorem cr_str00 {post : Int32 → St2 → Prop} {fu fm fl ft : Int32} {a1 a2 a3 a4 a5 a6 a7 a8 a9 a10 a11 a12 a13 a14 a15 a16 a17 a18 : Nat → Int32} {p k : Int32} (hp : vp_in p 3) (h13 : a13 p.toNatClampNeg = 0) (h14 : a14 p.toNatClampNeg = 0) (H : post 0 (fu, fm, fl, ft, a1, a2, a3, a4, a5, a6, a7, a8, a9, a10, a11, a12, a13, a14, a15, a16, a17, a18)) : wpX_stretches post (fu, fm, fl, ft, a1, a2, a3, a4, a5, a6, a7, a8, a9, a10, a11, a12, a13, a14, a15, a16, a17, a18) p k := by
  unfold wpX_stretches
  refine ⟨2, hp, br_f (by rw [h13]; decide) ⟨hp, br_t h13.symm ?_⟩⟩
  unfold wX_stretches_38
  refine br_f (by decide) ?_
  unfold wX_stretches_55
  refine br_f (by decide) ⟨hp, ?_⟩
  unfold wX_stretches_76
  refine br_f (by decide) (br_t (by rw [h14]; decide) ?_)
  unfold wX_stretches_112
  exact nm_e (nm_e (nm_e ⟨hp, br_t (by rw [h13]; decide) H⟩))
theorem cr_str01 {post : Int32 → St2 → Prop} {fu fm fl ft : Int32} {a1 a2 a3 a4 a5 a6 a7 a8 a9 a10 a11 a12 a13 a14 a15 a16 a17 a18 : Nat → Int32} {p : Int32} (hp : vp_in p 3) (h13 : a13 p.toNatClampNeg = 0) (h14 : a14 p.toNatClampNeg = 1) (H : post 1 (fu, fm, fl, ft, a1, a2, a3, a4, a5, a6, a7, a8, a9, a10, a11, a12, a13, a14, a15, a16, a17, a18)) : wpX_stretches post (fu, fm, fl, ft, a1, a2, a3, a4, a5, a6, a7, a8, a9, a10, a11, a12, a13, a14, a15, a16, a17, a18) p 0 := by
  unfold wpX_stretches
  refine ⟨2, hp, br_f (by rw [h13]; decide) ⟨hp, br_t h13.symm ?_⟩⟩
  unfold wX_stretches_38
  refine br_f (by decide) ?_
  unfold wX_stretches_55
  refine br_f (by decide) ⟨hp, ?_⟩
  unfold wX_stretches_76
  refine br_f (by decide) (br_f (by rw [h14]; decide) ?_)
  unfold wX_stretches_92
  refine br_t rfl ?_
  unfold wX_stretches_109
  refine nm_r (e' := 1) (by decide) ?_
  unfold wX_stretches_112
  exact nm_e (nm_e (nm_e ⟨hp, br_t (by rw [h13]; decide) H⟩))
theorem cr_strK {post : Int32 → St2 → Prop} {fl ft : Int32} {a1 a2 a3 a4 a5 a6 a7 a8 a9 a10 a11 a12 a13 a14 a15 a16 a17 a18 : Nat → Int32} {p : Int32} (hp : vp_in p 3) (h13 : a13 p.toNatClampNeg = 0) (h14 : a14 p.toNatClampNeg = 1) (h10 : a10 p.toNatClampNeg = 0)
    (H : ∀ b1 b2 b3 b4 b5 b6 b7 b9 : Nat → Int32, b1 (0 : Int32).toNatClampNeg = a15 ((20 * p) + 0).toNatClampNeg → b3 (0 : Int32).toNatClampNeg = 60 → b4 (0 : Int32).toNatClampNeg = 61 → b5 (0 : Int32).toNatClampNeg = 0 → b6 (0 : Int32).toNatClampNeg = 1 → b7 (0 : Int32).toNatClampNeg = 0 →
      post 1 (1, 1, fl, ft, b1, b2, b3, b4, b5, b6, b7, a8, b9, a10, a11, a12, a13, a14, a15, a16, a17, a18)) :
    wpX_stretches post (0, 0, fl, ft, a1, a2, a3, a4, a5, a6, a7, a8, a9, a10, a11, a12, a13, a14, a15, a16, a17, a18) p 1 := by
  unfold wpX_stretches
  refine ⟨2, hp, br_f (by rw [h13]; decide) ⟨hp, br_t h13.symm ?_⟩⟩
  unfold wX_stretches_38
  refine br_f (by decide) ?_
  unfold wX_stretches_55
  refine br_f (by decide) ⟨hp, ?_⟩
  rw [h14]
  unfold wX_stretches_76
  refine br_f (by decide) (br_f (by decide) ?_)
  unfold wX_stretches_92
  refine br_f (by decide) (cr_desc hp h13 h10 (fun b1 b2 b3 b4 b5 b6 b7 b9 k1 k3 k4 k5 k6 k7 => ?_))
  dsimp only
  unfold wX_stretches_109
  refine nm_r (e' := 1) (by decide) ?_
  unfold wX_stretches_112
  exact nm_e (nm_e (nm_e ⟨hp, br_t (by rw [h13]; decide) (H b1 b2 b3 b4 b5 b6 b7 b9 k1 k3 k4 k5 k6 k7)⟩))
/-! makeChange of change 0 -/
theorem cr_make {post : St2 → Prop} {fu fm fl ft : Int32} {a1 a2 a3 a4 a5 a6 a7 a8 a9 a10 a11 a12 a13 a14 a15 a16 a17 a18 : Nat → Int32} {p : Int32} (hp : vp_in p 3) (h3 : a3 (0 : Int32).toNatClampNeg = 60) (h4 : a4 (0 : Int32).toNatClampNeg = 61) (h5 : a5 (0 : Int32).toNatClampNeg = 0) (h6 : a6 (0 : Int32).toNatClampNeg = 1) (h7 : a7 (0 : Int32).toNatClampNeg = 0)
    (h10 : a10 p.toNatClampNeg = 0) (h12 : a12 ((62 * p) + 60).toNatClampNeg = 1) (h13 : a13 p.toNatClampNeg = 0)
    (H : ∀ b10 b11 b12 b13 : Nat → Int32, b10 p.toNatClampNeg = 1 → b11 ((62 * p) + 60).toNatClampNeg = 0 → b11 ((62 * p) + 0).toNatClampNeg = 61 → b12 ((62 * p) + 60).toNatClampNeg = 1 → b13 p.toNatClampNeg = 1 →
      post (fu, fm, fl, ft, a1, a2, a3, a4, a5, a6, a7, a8, a9, b10, b11, b12, b13, a14, a15, a16, a17, a18)) : wpX_makeChange post (fu, fm, fl, ft, a1, a2, a3, a4, a5, a6, a7, a8, a9, a10, a11, a12, a13, a14, a15, a16, a17, a18) p 0 := by
  unfold wpX_makeChange
  refine nm_e ⟨1, (vp_in_iff.mpr (by decide)), br_t (by rw [h7]; decide) ⟨(vp_in_iff.mpr (by decide)), nm_r h3 ⟨2, (vp_in_iff.mpr (by decide)), br_f (by rw [h6]; decide) ⟨(vp_in_iff.mpr (by decide)), nm_r (e' := 0) (by rw [h5]; decide) ?_⟩⟩⟩⟩
  refine ⟨cr_i0 hp, nm_e ⟨cr_i60 hp, nm_e (nm_e ⟨(vp_in_iff.mpr (by decide)), br_t (by rw [h6]; decide) ⟨(vp_in_iff.mpr (by decide)), cr_i0 hp, nm_e ⟨hp, (vp_in_iff.mpr (by decide)), (vp_in_iff.mpr (by decide)), hp, nm_e ⟨hp, hp, nm_e ?_⟩⟩⟩⟩)⟩⟩
  refine H _ _ _ _ ?_ ?_ ?_ ?_ ?_
  · rw [pk_us, h10]; decide
  · rw [pk_un (cr_n60 hp), pk_us]
  · rw [pk_us, h4]
  · rw [pk_un (cr_n60 hp), h12]
  · rw [pk_us, h13, h6, h7]; decide
/-! commit -/
theorem cr_com_n {post : Int32 → St2 → Prop} {fu fm fl ft : Int32} {a1 a2 a3 a4 a5 a6 a7 a8 a9 a10 a11 a12 a13 a14 a15 a16 a17 a18 : Nat → Int32} {p : Int32} (hp : ¬ vp_in p 3) (H : post (-1) (fu, fm, fl, ft, a1, a2, a3, a4, a5, a6, a7, a8, a9, a10, a11, a12, a13, a14, a15, a16, a17, a18)) : wpX_commit post (fu, fm, fl, ft, a1, a2, a3, a4, a5, a6, a7, a8, a9, a10, a11, a12, a13, a14, a15, a16, a17, a18) p := by
  unfold wpX_commit
  exact cr_isRoom_f hp (br_t rfl H)
theorem cr_com0 {post : Int32 → St2 → Prop} {fl ft : Int32} {a1 a2 a3 a4 a5 a6 a7 a8 a9 a10 a11 a12 a13 a14 a15 a16 a17 a18 : Nat → Int32} {p : Int32} (hp : vp_in p 3) (h13 : a13 p.toNatClampNeg = 0) (h14 : a14 p.toNatClampNeg = 0)
    (H : ∀ b17 b18 : Nat → Int32, post 0 (0, 0, fl, ft, a1, a2, a3, a4, a5, a6, a7, a8, a9, a10, a11, a12, a13, a14, a15, a16, b17, b18)) : wpX_commit post (0, 0, fl, ft, a1, a2, a3, a4, a5, a6, a7, a8, a9, a10, a11, a12, a13, a14, a15, a16, a17, a18) p := by
  unfold wpX_commit
  refine cr_isRoom_t hp (br_f (by decide) (cr_pairs00 hp h13 h14 (fun b17 b18 h17 => ?_)))
  refine cr_str00 hp h13 h14 (br_t (by decide) ⟨hp, nm_r (e' := 0) (by rw [h14, h17]; decide) (br_t (by decide) ?_)⟩)
  refine cr_str00 hp h13 h14 ⟨1, br_t (by decide) (H b17 b18)⟩
theorem cr_com1 {post : Int32 → St2 → Prop} {fl ft : Int32} {a1 a2 a3 a4 a5 a6 a7 a8 a9 a10 a11 a12 a13 a14 a15 a16 a17 a18 : Nat → Int32} {p : Int32} (hp : vp_in p 3) (h13 : a13 p.toNatClampNeg = 0) (h14 : a14 p.toNatClampNeg = 1) (h10 : a10 p.toNatClampNeg = 0) (h12 : a12 ((62 * p) + 60).toNatClampNeg = 1)
    (H : ∀ b1 b2 b3 b4 b5 b6 b7 b9 b10 b11 b12 b13 b17 b18 : Nat → Int32, b1 (0 : Int32).toNatClampNeg = a15 ((20 * p) + 0).toNatClampNeg → b3 (0 : Int32).toNatClampNeg = 60 → b4 (0 : Int32).toNatClampNeg = 61 → b5 (0 : Int32).toNatClampNeg = 0 → b6 (0 : Int32).toNatClampNeg = 1 → b7 (0 : Int32).toNatClampNeg = 0 →
      b10 p.toNatClampNeg = 1 → b11 ((62 * p) + 60).toNatClampNeg = 0 → b11 ((62 * p) + 0).toNatClampNeg = 61 → b12 ((62 * p) + 60).toNatClampNeg = 1 → b13 p.toNatClampNeg = 1 →
      post 1 (1, 1, fl, ft, b1, b2, b3, b4, b5, b6, b7, a8, b9, b10, b11, b12, b13, a14, a15, a16, b17, b18)) :
    wpX_commit post (0, 0, fl, ft, a1, a2, a3, a4, a5, a6, a7, a8, a9, a10, a11, a12, a13, a14, a15, a16, a17, a18) p := by
  unfold wpX_commit
  refine cr_isRoom_t hp (br_f (by decide) (cr_pairs01 hp h13 h14 (fun b17 b18 h17 => ?_)))
  refine cr_str01 hp h13 h14 (br_t (by decide) ⟨hp, nm_r (e' := 1) (by rw [h14, h17]; decide) (br_t (by decide) ?_)⟩)
  refine cr_strK hp h13 h14 h10 (fun b1 b2 b3 b4 b5 b6 b7 b9 k1 k3 k4 k5 k6 k7 => ⟨2, br_f (by decide) ?_⟩)
  refine cr_make hp k3 k4 k5 k6 k7 h10 h12 h13 (fun b10 b11 b12 b13 k10 k11 k11' k12 k13 => nm_r (e' := 1) (by decide) (br_t (by decide) ?_))
  exact H b1 b2 b3 b4 b5 b6 b7 b9 b10 b11 b12 b13 b17 b18 k1 k3 k4 k5 k6 k7 k10 k11 k11' k12 k13
end
section
/-! the constructor: every room begins with its two edges -/
theorem cr_init {post : St2 → Prop} (H : ∀ b11 b12 : Nat → Int32, (∀ q : Int32, vp_in q 3 → b12 ((62 * q) + 60).toNatClampNeg = 1) →
      post (0, 0, 0, 0, fun _ => 0, fun _ => 0, fun _ => 0, fun _ => 0, fun _ => 0, fun _ => 0, fun _ => 0, fun _ => 0, fun _ => 0, fun _ => 0, b11, b12, fun _ => 0, fun _ => 0, fun _ => 0, fun _ => 0, fun _ => 0, fun _ => 0)) :
    wpX_init post 18 1458 (0, 0, 0, 0) := by
  unfold wpX_init
  refine ⟨(by decide), (by decide), (by decide), (by decide), (by decide), (by decide), (by decide), (by decide), (by decide), (by decide), (by decide), (by decide), (by decide), (by decide), (by decide), (by decide), (by decide), (by decide), (by decide), (by decide), (by decide), (by decide), (by decide), (by decide), (by decide), (by decide), (by decide), (by decide), (by decide), (by decide), (by decide), (by decide), (by decide), (by decide), (by decide), (by decide), 4, ?_⟩
  refine br_f (by decide) ⟨(vp_in_iff.mpr (by decide)), nm_e ⟨(vp_in_iff.mpr (by decide)), nm_e ⟨(vp_in_iff.mpr (by decide)), nm_e (nm_r (e' := 1) (by decide) ?_)⟩⟩⟩
  refine br_f (by decide) ⟨(vp_in_iff.mpr (by decide)), nm_e ⟨(vp_in_iff.mpr (by decide)), nm_e ⟨(vp_in_iff.mpr (by decide)), nm_e (nm_r (e' := 2) (by decide) ?_)⟩⟩⟩
  refine br_f (by decide) ⟨(vp_in_iff.mpr (by decide)), nm_e ⟨(vp_in_iff.mpr (by decide)), nm_e ⟨(vp_in_iff.mpr (by decide)), nm_e (nm_r (e' := 3) (by decide) ?_)⟩⟩⟩
  refine br_t (by decide) (H _ _ ?_)
  intro q hq
  rcases cr_room hq with rfl | rfl | rfl <;> rfl
/-! insert -/
theorem cr_ins_n {post : Int32 → St2 → Prop} {fu fm fl ft : Int32} {a1 a2 a3 a4 a5 a6 a7 a8 a9 a10 a11 a12 a13 a14 a15 a16 a17 a18 : Nat → Int32} {p x y : Int32} (hp : ¬ vp_in p 3) (H : post (-1) (fu, fm, fl, ft, a1, a2, a3, a4, a5, a6, a7, a8, a9, a10, a11, a12, a13, a14, a15, a16, a17, a18)) : wpX_insert post (fu, fm, fl, ft, a1, a2, a3, a4, a5, a6, a7, a8, a9, a10, a11, a12, a13, a14, a15, a16, a17, a18) p x y := by
  unfold wpX_insert
  exact cr_isRoom_f hp (br_t rfl H)
theorem cr_ins_p {post : Int32 → St2 → Prop} {fu fm fl ft : Int32} {a1 a2 a3 a4 a5 a6 a7 a8 a9 a10 a11 a12 a13 a14 a15 a16 a17 a18 : Nat → Int32} {p x y : Int32} (hp : vp_in p 3) (h14 : a14 p.toNatClampNeg = 0) (hx : ¬ x = 0) (H : post (-2) (fu, fm, fl, ft, a1, a2, a3, a4, a5, a6, a7, a8, a9, a10, a11, a12, a13, a14, a15, a16, a17, a18)) : wpX_insert post (fu, fm, fl, ft, a1, a2, a3, a4, a5, a6, a7, a8, a9, a10, a11, a12, a13, a14, a15, a16, a17, a18) p x y := by
  unfold wpX_insert
  exact cr_isRoom_t hp (br_f (by decide) (br_c (fun _ => H) (fun g => ⟨hp, br_f (by rw [h14]; exact cr_le0 hx g) H⟩)))
theorem cr_ins_t1 {post : Int32 → St2 → Prop} {fu fm fl ft : Int32} {a1 a2 a3 a4 a5 a6 a7 a8 a9 a10 a11 a12 a13 a14 a15 a16 a17 a18 : Nat → Int32} {p y : Int32} (hp : vp_in p 3) (h14 : a14 p.toNatClampNeg = 0) (hy : y < 0) (H : post (-3) (fu, fm, fl, ft, a1, a2, a3, a4, a5, a6, a7, a8, a9, a10, a11, a12, a13, a14, a15, a16, a17, a18)) : wpX_insert post (fu, fm, fl, ft, a1, a2, a3, a4, a5, a6, a7, a8, a9, a10, a11, a12, a13, a14, a15, a16, a17, a18) p 0 y := by
  unfold wpX_insert
  exact cr_isRoom_t hp (br_f (by decide) (br_f (by decide) ⟨hp, br_t (by rw [h14]; decide) (br_t hy H)⟩))
theorem cr_ins_t2 {post : Int32 → St2 → Prop} {fu fm fl ft : Int32} {a1 a2 a3 a4 a5 a6 a7 a8 a9 a10 a11 a12 a13 a14 a15 a16 a17 a18 : Nat → Int32} {p y : Int32} (hp : vp_in p 3) (h14 : a14 p.toNatClampNeg = 0) (hy : ¬ y < 0) (hy9 : ¬ y ≤ 9) (H : post (-3) (fu, fm, fl, ft, a1, a2, a3, a4, a5, a6, a7, a8, a9, a10, a11, a12, a13, a14, a15, a16, a17, a18)) : wpX_insert post (fu, fm, fl, ft, a1, a2, a3, a4, a5, a6, a7, a8, a9, a10, a11, a12, a13, a14, a15, a16, a17, a18) p 0 y := by
  unfold wpX_insert
  exact cr_isRoom_t hp (br_f (by decide) (br_f (by decide) ⟨hp, br_t (by rw [h14]; decide) (br_f hy (br_f hy9 H))⟩))
theorem cr_ins {post : Int32 → St2 → Prop} {fu fm fl ft : Int32} {a1 a2 a3 a4 a5 a6 a7 a8 a9 a10 a11 a12 a13 a14 a15 a16 a17 a18 : Nat → Int32} {p y : Int32} (hp : vp_in p 3) (h14 : a14 p.toNatClampNeg = 0) (hy : ¬ y < 0) (hy9 : y ≤ 9)
    (H : post 1 (fu, fm, fl, ft, a1, a2, a3, a4, a5, a6, a7, a8, a9, a10, a11, a12, a13, upd a14 p.toNatClampNeg 1, upd a15 ((20 * p) + 0).toNatClampNeg y, a16, a17, a18)) : wpX_insert post (fu, fm, fl, ft, a1, a2, a3, a4, a5, a6, a7, a8, a9, a10, a11, a12, a13, a14, a15, a16, a17, a18) p 0 y := by
  unfold wpX_insert
  refine cr_isRoom_t hp (br_f (by decide) (br_f (by decide) ⟨hp, br_t (by rw [h14]; decide) (br_f hy (br_t hy9 ⟨hp, br_t (by rw [h14]; decide) (nm_e ⟨hp, nm_r h14 ⟨1, ?_⟩⟩)⟩))⟩))
  refine br_t (by decide) ⟨cr_c0 hp, nm_e ⟨hp, hp, nm_r (e' := upd a14 p.toNatClampNeg 1) (by rw [h14]; rfl) ⟨hp, ?_⟩⟩⟩
  rw [pk_us]
  exact H
/-! line -/
theorem cr_line_n {post : Int32 → St2 → Prop} {fu fm fl ft : Int32} {a1 a2 a3 a4 a5 a6 a7 a8 a9 a10 a11 a12 a13 a14 a15 a16 a17 a18 : Nat → Int32} {p x : Int32} (hp : ¬ vp_in p 3) (H : post (-1) (fu, fm, fl, ft, a1, a2, a3, a4, a5, a6, a7, a8, a9, a10, a11, a12, a13, a14, a15, a16, a17, a18)) : wpX_line post (fu, fm, fl, ft, a1, a2, a3, a4, a5, a6, a7, a8, a9, a10, a11, a12, a13, a14, a15, a16, a17, a18) p x := by
  unfold wpX_line
  exact cr_isRoom_f hp (br_t rfl H)
theorem cr_line_o {post : Int32 → St2 → Prop} {fu fm fl ft : Int32} {a1 a2 a3 a4 a5 a6 a7 a8 a9 a10 a11 a12 a13 a14 a15 a16 a17 a18 : Nat → Int32} {p x : Int32} (hp : vp_in p 3) (hx : ¬ x < 0 → ¬ x < a13 p.toNatClampNeg) (H : post (-2) (fu, fm, fl, ft, a1, a2, a3, a4, a5, a6, a7, a8, a9, a10, a11, a12, a13, a14, a15, a16, a17, a18)) : wpX_line post (fu, fm, fl, ft, a1, a2, a3, a4, a5, a6, a7, a8, a9, a10, a11, a12, a13, a14, a15, a16, a17, a18) p x := by
  unfold wpX_line
  refine cr_isRoom_t hp (br_f (by decide) ?_)
  unfold wpX_lineAt
  exact br_c (fun _ => br_f (by decide) H) (fun g => ⟨hp, br_f (hx g) (br_f (by decide) H)⟩)
theorem cr_line {post : Int32 → St2 → Prop} {fu fm fl ft : Int32} {a1 a2 a3 a4 a5 a6 a7 a8 a9 a10 a11 a12 a13 a14 a15 a16 a17 a18 : Nat → Int32} {p : Int32} (hp : vp_in p 3) (h13 : a13 p.toNatClampNeg = 1) (h11 : a11 ((62 * p) + 60).toNatClampNeg = 0)
    (H : ∀ b16 : Nat → Int32, post (a1 (0 : Int32).toNatClampNeg) (fu, fm, fl, ft, a1, a2, a3, a4, a5, a6, a7, a8, a9, a10, a11, a12, a13, a14, a15, b16, a17, a18)) : wpX_line post (fu, fm, fl, ft, a1, a2, a3, a4, a5, a6, a7, a8, a9, a10, a11, a12, a13, a14, a15, a16, a17, a18) p 0 := by
  unfold wpX_line
  refine cr_isRoom_t hp (br_f (by decide) ?_)
  unfold wpX_lineAt
  refine br_f (by decide) ⟨hp, br_t (by rw [h13]; decide) (cr_lay1 hp h13 h11 (fun b16 h16 => ⟨(vp_in_iff.mpr (by decide)), ?_⟩))⟩
  dsimp only
  rw [h16]
  exact br_t (by decide) ⟨(vp_in_iff.mpr (by decide)), H b16⟩
/-! has -/
theorem cr_has_n {post : Int32 → Prop} {fu fm fl ft : Int32} {a1 a2 a3 a4 a5 a6 a7 a8 a9 a10 a11 a12 a13 a14 a15 a16 a17 a18 : Nat → Int32} {p x : Int32} (hp : ¬ vp_in p 3) (H : post (-1)) : wpX_has post (fu, fm, fl, ft, a1, a2, a3, a4, a5, a6, a7, a8, a9, a10, a11, a12, a13, a14, a15, a16, a17, a18) p x := by
  unfold wpX_has
  exact cr_isRoom_f hp (br_t rfl H)
theorem cr_chg_f {post : Int32 → Prop} {fu fm fl ft : Int32} {a1 a2 a3 a4 a5 a6 a7 a8 a9 a10 a11 a12 a13 a14 a15 a16 a17 a18 : Nat → Int32} {x : Int32} (hx : ¬ x < 0 → fm ≤ x) (H : post 0) : wpX_isChange post (fu, fm, fl, ft, a1, a2, a3, a4, a5, a6, a7, a8, a9, a10, a11, a12, a13, a14, a15, a16, a17, a18) x := by
  unfold wpX_isChange
  exact br_c (fun _ => H) (fun g => br_t (hx g) H)
theorem cr_chg_t {post : Int32 → Prop} {fu fm fl ft : Int32} {a1 a2 a3 a4 a5 a6 a7 a8 a9 a10 a11 a12 a13 a14 a15 a16 a17 a18 : Nat → Int32} (hm : fm = 1) (H : post 1) : wpX_isChange post (fu, fm, fl, ft, a1, a2, a3, a4, a5, a6, a7, a8, a9, a10, a11, a12, a13, a14, a15, a16, a17, a18) 0 := by
  subst hm
  unfold wpX_isChange
  exact br_f (by decide) (br_f (by decide) H)
theorem cr_has_o {post : Int32 → Prop} {fu fm fl ft : Int32} {a1 a2 a3 a4 a5 a6 a7 a8 a9 a10 a11 a12 a13 a14 a15 a16 a17 a18 : Nat → Int32} {p x : Int32} (hp : vp_in p 3) (hx : ¬ x < 0 → fm ≤ x) (H : post (-2)) : wpX_has post (fu, fm, fl, ft, a1, a2, a3, a4, a5, a6, a7, a8, a9, a10, a11, a12, a13, a14, a15, a16, a17, a18) p x := by
  unfold wpX_has
  exact cr_isRoom_t hp (br_f (by decide) (cr_chg_f hx (br_t rfl H)))
theorem cr_has {post : Int32 → Prop} {fu fm fl ft : Int32} {a1 a2 a3 a4 a5 a6 a7 a8 a9 a10 a11 a12 a13 a14 a15 a16 a17 a18 : Nat → Int32} {p : Int32} (hp : vp_in p 3) (hm : fm = 1) (h10 : a10 p.toNatClampNeg = 1) (H : post 1) : wpX_has post (fu, fm, fl, ft, a1, a2, a3, a4, a5, a6, a7, a8, a9, a10, a11, a12, a13, a14, a15, a16, a17, a18) p 0 := by
  unfold wpX_has
  exact cr_isRoom_t hp (br_f (by decide) (cr_chg_t hm (br_f (by decide) (cr_holds_t hp h10 (br_f (by decide) H)))))
/-! uncommit -/
theorem cr_unc_n {post : Int32 → St2 → Prop} {fu fm fl ft : Int32} {a1 a2 a3 a4 a5 a6 a7 a8 a9 a10 a11 a12 a13 a14 a15 a16 a17 a18 : Nat → Int32} {p x : Int32} (hp : ¬ vp_in p 3) (H : post (-1) (fu, fm, fl, ft, a1, a2, a3, a4, a5, a6, a7, a8, a9, a10, a11, a12, a13, a14, a15, a16, a17, a18)) : wpX_uncommit post (fu, fm, fl, ft, a1, a2, a3, a4, a5, a6, a7, a8, a9, a10, a11, a12, a13, a14, a15, a16, a17, a18) p x := by
  unfold wpX_uncommit
  exact cr_isRoom_f hp (br_t rfl H)
theorem cr_unc_o {post : Int32 → St2 → Prop} {fu fm fl ft : Int32} {a1 a2 a3 a4 a5 a6 a7 a8 a9 a10 a11 a12 a13 a14 a15 a16 a17 a18 : Nat → Int32} {p x : Int32} (hp : vp_in p 3) (hx : ¬ x < 0 → fm ≤ x) (H : post (-2) (fu, fm, fl, ft, a1, a2, a3, a4, a5, a6, a7, a8, a9, a10, a11, a12, a13, a14, a15, a16, a17, a18)) : wpX_uncommit post (fu, fm, fl, ft, a1, a2, a3, a4, a5, a6, a7, a8, a9, a10, a11, a12, a13, a14, a15, a16, a17, a18) p x := by
  unfold wpX_uncommit
  exact cr_isRoom_t hp (br_f (by decide) (cr_chg_f hx (br_t rfl H)))
theorem cr_stands {post : Int32 → Prop} {fu fm fl ft : Int32} {a1 a2 a3 a4 a5 a6 a7 a8 a9 a10 a11 a12 a13 a14 a15 a16 a17 a18 : Nat → Int32} {p : Int32} (hp : vp_in p 3) (h3 : a3 (0 : Int32).toNatClampNeg = 60) (h4 : a4 (0 : Int32).toNatClampNeg = 61) (h5 : a5 (0 : Int32).toNatClampNeg = 0) (h6 : a6 (0 : Int32).toNatClampNeg = 1)
    (h11 : a11 ((62 * p) + 60).toNatClampNeg = 0) (h11' : a11 ((62 * p) + 0).toNatClampNeg = 61) (h12 : a12 ((62 * p) + 60).toNatClampNeg = 1) (H : post 1) : wpX_runAfterStands post (fu, fm, fl, ft, a1, a2, a3, a4, a5, a6, a7, a8, a9, a10, a11, a12, a13, a14, a15, a16, a17, a18) p 0 := by
  unfold wpX_runAfterStands
  refine nm_e ⟨(vp_in_iff.mpr (by decide)), nm_r h3 ⟨cr_i60 hp, br_f (by rw [h12]; decide) ⟨2, ?_⟩⟩⟩
  refine ⟨(vp_in_iff.mpr (by decide)), br_f (by rw [h6]; decide) ⟨(vp_in_iff.mpr (by decide)), nm_r (e' := 0) (by rw [h5]; decide) ⟨cr_i60 hp, br_t h11 (nm_e ?_)⟩⟩⟩
  exact ⟨(vp_in_iff.mpr (by decide)), br_t (by rw [h6]; decide) ⟨cr_i0 hp, (vp_in_iff.mpr (by decide)), br_t (by rw [h11', h4]) H⟩⟩
theorem cr_take {post : St2 → Prop} {fu fm fl ft : Int32} {a1 a2 a3 a4 a5 a6 a7 a8 a9 a10 a11 a12 a13 a14 a15 a16 a17 a18 : Nat → Int32} {p : Int32} (hp : vp_in p 3) (h3 : a3 (0 : Int32).toNatClampNeg = 60) (h5 : a5 (0 : Int32).toNatClampNeg = 0) (h6 : a6 (0 : Int32).toNatClampNeg = 1) (h7 : a7 (0 : Int32).toNatClampNeg = 0) (h13 : a13 p.toNatClampNeg = 1)
    (H : ∀ b10 b11 b12 b13 : Nat → Int32, b13 p.toNatClampNeg = 0 → post (fu, fm, fl, ft, a1, a2, a3, a4, a5, a6, a7, a8, a9, b10, b11, b12, b13, a14, a15, a16, a17, a18)) : wpX_takeBack post (fu, fm, fl, ft, a1, a2, a3, a4, a5, a6, a7, a8, a9, a10, a11, a12, a13, a14, a15, a16, a17, a18) p 0 := by
  unfold wpX_takeBack
  refine nm_e ⟨2, (vp_in_iff.mpr (by decide)), br_f (by rw [h6]; decide) ⟨(vp_in_iff.mpr (by decide)), by rw [h5]; exact cr_i00 hp, nm_e (nm_e ?_)⟩⟩
  refine ⟨(vp_in_iff.mpr (by decide)), br_t (by rw [h6]; decide) ⟨(vp_in_iff.mpr (by decide)), nm_r h3 ⟨1, (vp_in_iff.mpr (by decide)), br_t (by rw [h7]; decide) ⟨(vp_in_iff.mpr (by decide)), cr_i60 hp, nm_e ⟨hp, (vp_in_iff.mpr (by decide)), (vp_in_iff.mpr (by decide)), hp, nm_e ⟨hp, hp, nm_e ?_⟩⟩⟩⟩⟩⟩
  refine H _ _ _ _ ?_
  rw [pk_us, h13, h6, h7]; decide
theorem cr_unc {post : Int32 → St2 → Prop} {fu fm fl ft : Int32} {a1 a2 a3 a4 a5 a6 a7 a8 a9 a10 a11 a12 a13 a14 a15 a16 a17 a18 : Nat → Int32} {p : Int32} (hp : vp_in p 3) (hm : fm = 1) (h3 : a3 (0 : Int32).toNatClampNeg = 60) (h4 : a4 (0 : Int32).toNatClampNeg = 61) (h5 : a5 (0 : Int32).toNatClampNeg = 0) (h6 : a6 (0 : Int32).toNatClampNeg = 1) (h7 : a7 (0 : Int32).toNatClampNeg = 0)
    (h10 : a10 p.toNatClampNeg = 1) (h11 : a11 ((62 * p) + 60).toNatClampNeg = 0) (h11' : a11 ((62 * p) + 0).toNatClampNeg = 61) (h12 : a12 ((62 * p) + 60).toNatClampNeg = 1) (h13 : a13 p.toNatClampNeg = 1)
    (H : ∀ b10 b11 b12 b13 : Nat → Int32, post 0 (fu, fm, fl, ft, a1, a2, a3, a4, a5, a6, a7, a8, a9, b10, b11, b12, b13, a14, a15, a16, a17, a18)) : wpX_uncommit post (fu, fm, fl, ft, a1, a2, a3, a4, a5, a6, a7, a8, a9, a10, a11, a12, a13, a14, a15, a16, a17, a18) p 0 := by
  unfold wpX_uncommit
  refine cr_isRoom_t hp (br_f (by decide) (cr_chg_t hm (br_f (by decide) (cr_holds_t hp h10 (br_f (by decide) ?_)))))
  refine cr_stands hp h3 h4 h5 h6 h11 h11' h12 (nm_r (e' := 1) (by decide) ⟨1, br_t (by rw [hm]; decide) (br_f (by decide) (br_t rfl ⟨hp, (vp_in_iff.mpr (by decide)), (vp_in_iff.mpr (by decide)), br_t (by rw [h13, h6, h7]; decide) ?_⟩))⟩)
  refine cr_take hp h3 h5 h6 h7 h13 (fun b10 b11 b12 b13 k13 => ⟨hp, ?_⟩)
  rw [k13]
  exact H b10 b11 b12 b13
end
section
/-! the law from its end backwards -/
theorem cr_315 {post : Int32 → St0 → Prop} {mc ms kc ks : Nat} {z : Int32} (P : post 1 ()) : wL_lawOf_315 post mc ms z z kc ks := by
  unfold wL_lawOf_315
  exact br_t rfl P
theorem cr_284n {post : Int32 → St0 → Prop} {mc ms kc ks : Nat} {fu fm fl ft : Int32} {a1 a2 a3 a4 a5 a6 a7 a8 a9 a10 a11 a12 a13 a14 a15 a16 a17 a18 : Nat → Int32} {x0 x4 x11 z : Int32} (P : post 1 ()) (hp : ¬ vp_in x0 3) : wL_lawOf_284 post mc ms x0 x4 0 x11 z kc ks fu fm fl ft a1 a2 a3 a4 a5 a6 a7 a8 a9 a10 a11 a12 a13 a14 a15 a16 a17 a18 := by
  unfold wL_lawOf_284
  exact cr_unc_n hp (br_t rfl (cr_315 P))
theorem cr_284o {post : Int32 → St0 → Prop} {mc ms kc ks : Nat} {fu fm fl ft : Int32} {a1 a2 a3 a4 a5 a6 a7 a8 a9 a10 a11 a12 a13 a14 a15 a16 a17 a18 : Nat → Int32} {x0 x4 z : Int32} (P : post 1 ()) (hp : vp_in x0 3) (hx : ¬ x4 < 0 → fm ≤ x4) : wL_lawOf_284 post mc ms x0 x4 1 0 z kc ks fu fm fl ft a1 a2 a3 a4 a5 a6 a7 a8 a9 a10 a11 a12 a13 a14 a15 a16 a17 a18 := by
  unfold wL_lawOf_284
  exact cr_unc_o hp hx (br_f (by decide) (br_t rfl (cr_315 P)))
theorem cr_284t {post : Int32 → St0 → Prop} {mc ms kc ks : Nat} {fu fm fl ft : Int32} {a1 a2 a3 a4 a5 a6 a7 a8 a9 a10 a11 a12 a13 a14 a15 a16 a17 a18 : Nat → Int32} {p : Int32} (P : post 1 ()) (hp : vp_in p 3) (hm : fm = 1) (h3 : a3 (0 : Int32).toNatClampNeg = 60) (h4 : a4 (0 : Int32).toNatClampNeg = 61) (h5 : a5 (0 : Int32).toNatClampNeg = 0) (h6 : a6 (0 : Int32).toNatClampNeg = 1) (h7 : a7 (0 : Int32).toNatClampNeg = 0)
    (h10 : a10 p.toNatClampNeg = 1) (h11 : a11 ((62 * p) + 60).toNatClampNeg = 0) (h11' : a11 ((62 * p) + 0).toNatClampNeg = 61) (h12 : a12 ((62 * p) + 60).toNatClampNeg = 1) (h13 : a13 p.toNatClampNeg = 1) :
    wL_lawOf_284 post mc ms p 0 1 1 0 kc ks fu fm fl ft a1 a2 a3 a4 a5 a6 a7 a8 a9 a10 a11 a12 a13 a14 a15 a16 a17 a18 := by
  unfold wL_lawOf_284
  exact cr_unc hp hm h3 h4 h5 h6 h7 h10 h11 h11' h12 h13 (fun _ _ _ _ => br_f (by decide) (br_f (by decide) (cr_315 P)))
theorem cr_268n {post : Int32 → St0 → Prop} {mc ms kc ks : Nat} {fu fm fl ft : Int32} {a1 a2 a3 a4 a5 a6 a7 a8 a9 a10 a11 a12 a13 a14 a15 a16 a17 a18 : Nat → Int32} {x0 x4 z : Int32} (P : post 1 ()) (hp : ¬ vp_in x0 3) : wL_lawOf_268 post mc ms x0 x4 0 0 z z kc ks fu fm fl ft a1 a2 a3 a4 a5 a6 a7 a8 a9 a10 a11 a12 a13 a14 a15 a16 a17 a18 := by
  unfold wL_lawOf_268
  exact br_t rfl (br_t rfl (cr_284n P hp))
theorem cr_268o {post : Int32 → St0 → Prop} {mc ms kc ks : Nat} {fu fm fl ft : Int32} {a1 a2 a3 a4 a5 a6 a7 a8 a9 a10 a11 a12 a13 a14 a15 a16 a17 a18 : Nat → Int32} {x0 x4 z : Int32} (P : post 1 ()) (hp : vp_in x0 3) (hx : ¬ x4 < 0 → fm ≤ x4) : wL_lawOf_268 post mc ms x0 x4 1 0 z z kc ks fu fm fl ft a1 a2 a3 a4 a5 a6 a7 a8 a9 a10 a11 a12 a13 a14 a15 a16 a17 a18 := by
  unfold wL_lawOf_268
  exact br_t rfl (br_t rfl (cr_284o P hp hx))
theorem cr_267o {post : Int32 → St0 → Prop} {mc ms kc ks : Nat} {fu fm fl ft : Int32} {a1 a2 a3 a4 a5 a6 a7 a8 a9 a10 a11 a12 a13 a14 a15 a16 a17 a18 : Nat → Int32} {x0 x4 : Int32} (P : post 1 ()) (hp : vp_in x0 3) (hx : ¬ x4 < 0 → fm ≤ x4) : wL_lawOf_267 post mc ms x0 x4 1 0 0 kc ks fu fm fl ft a1 a2 a3 a4 a5 a6 a7 a8 a9 a10 a11 a12 a13 a14 a15 a16 a17 a18 := by
  unfold wL_lawOf_267
  exact cr_268o P hp hx
theorem cr_267t {post : Int32 → St0 → Prop} {mc ms kc ks : Nat} {fu fm fl ft : Int32} {a1 a2 a3 a4 a5 a6 a7 a8 a9 a10 a11 a12 a13 a14 a15 a16 a17 a18 : Nat → Int32} {p : Int32} (P : post 1 ()) (hp : vp_in p 3) (hm : fm = 1) (h3 : a3 (0 : Int32).toNatClampNeg = 60) (h4 : a4 (0 : Int32).toNatClampNeg = 61) (h5 : a5 (0 : Int32).toNatClampNeg = 0) (h6 : a6 (0 : Int32).toNatClampNeg = 1) (h7 : a7 (0 : Int32).toNatClampNeg = 0)
    (h10 : a10 p.toNatClampNeg = 1) (h11 : a11 ((62 * p) + 60).toNatClampNeg = 0) (h11' : a11 ((62 * p) + 0).toNatClampNeg = 61) (h12 : a12 ((62 * p) + 60).toNatClampNeg = 1) (h13 : a13 p.toNatClampNeg = 1) :
    wL_lawOf_267 post mc ms p 0 1 1 0 kc ks fu fm fl ft a1 a2 a3 a4 a5 a6 a7 a8 a9 a10 a11 a12 a13 a14 a15 a16 a17 a18 := by
  unfold wL_lawOf_267 wL_lawOf_268
  exact br_t rfl (br_f (by decide) (cr_284t P hp hm h3 h4 h5 h6 h7 h10 h11 h11' h12 h13))
/-! unrecorded -/
theorem cr_235n {post : Int32 → St0 → Prop} {mc ms kc ks : Nat} {fu fm fl ft : Int32} {a1 a2 a3 a4 a5 a6 a7 a8 a9 a10 a11 a12 a13 a14 a15 a16 a17 a18 : Nat → Int32} {x0 x4 x8 x10 z : Int32} (P : post 1 ()) (hp : ¬ vp_in x0 3) : wL_lawOf_235 post mc ms x0 x4 0 x8 x10 0 z z kc ks fu fm fl ft a1 a2 a3 a4 a5 a6 a7 a8 a9 a10 a11 a12 a13 a14 a15 a16 a17 a18 := by
  unfold wL_lawOf_235
  exact br_t rfl (cr_unr_n hp (br_t rfl (cr_268n P hp)))
theorem cr_235a {post : Int32 → St0 → Prop} {mc ms kc ks : Nat} {fu fm fl ft : Int32} {a1 a2 a3 a4 a5 a6 a7 a8 a9 a10 a11 a12 a13 a14 a15 a16 a17 a18 : Nat → Int32} {x0 x4 x10 z : Int32} (P : post 1 ()) (hp : vp_in x0 3) (hx : ¬ x4 < 0 → fm ≤ x4) (h13 : a13 x0.toNatClampNeg = 0) (h14 : a14 x0.toNatClampNeg = 0) :
    wL_lawOf_235 post mc ms x0 x4 1 0 x10 0 z z kc ks fu fm fl ft a1 a2 a3 a4 a5 a6 a7 a8 a9 a10 a11 a12 a13 a14 a15 a16 a17 a18 := by
  unfold wL_lawOf_235
  exact br_t rfl (cr_unr00 hp h13 h14 (fun _ => br_f (by decide) (br_t rfl (cr_267o P hp hx))))
theorem cr_235b {post : Int32 → St0 → Prop} {mc ms kc ks : Nat} {fu fm fl ft : Int32} {a1 a2 a3 a4 a5 a6 a7 a8 a9 a10 a11 a12 a13 a14 a15 a16 a17 a18 : Nat → Int32} {x0 x4 z : Int32} (P : post 1 ()) (hp : vp_in x0 3) (hx : ¬ x4 < 0 → fm ≤ x4) (h13 : a13 x0.toNatClampNeg = 0) (h14 : a14 x0.toNatClampNeg = 1) :
    wL_lawOf_235 post mc ms x0 x4 1 1 0 0 z z kc ks fu fm fl ft a1 a2 a3 a4 a5 a6 a7 a8 a9 a10 a11 a12 a13 a14 a15 a16 a17 a18 := by
  unfold wL_lawOf_235
  exact br_t rfl (cr_unr01 hp h13 h14 (fun _ => br_f (by decide) (br_f (by decide) (br_t rfl (cr_268o P hp hx)))))
theorem cr_235c {post : Int32 → St0 → Prop} {mc ms kc ks : Nat} {fu fm fl ft : Int32} {a1 a2 a3 a4 a5 a6 a7 a8 a9 a10 a11 a12 a13 a14 a15 a16 a17 a18 : Nat → Int32} {x0 x4 z : Int32} (P : post 1 ()) (hp : vp_in x0 3) (hx : ¬ x4 < 0 → fm ≤ x4) (h13 : a13 x0.toNatClampNeg = 1) (h14 : a14 x0.toNatClampNeg = 1)
    (h11 : a11 ((62 * x0) + 60).toNatClampNeg = 0) (h : a1 (0 : Int32).toNatClampNeg = a15 ((20 * x0) + 0).toNatClampNeg) :
    wL_lawOf_235 post mc ms x0 x4 1 1 1 0 z z kc ks fu fm fl ft a1 a2 a3 a4 a5 a6 a7 a8 a9 a10 a11 a12 a13 a14 a15 a16 a17 a18 := by
  unfold wL_lawOf_235
  exact br_t rfl (cr_unr11 hp h13 h14 h11 h (fun _ _ => br_f (by decide) (br_f (by decide) (br_f (by decide) (cr_267o P hp hx)))))
theorem cr_235t {post : Int32 → St0 → Prop} {mc ms kc ks : Nat} {fu fm fl ft : Int32} {a1 a2 a3 a4 a5 a6 a7 a8 a9 a10 a11 a12 a13 a14 a15 a16 a17 a18 : Nat → Int32} {p z : Int32} (P : post 1 ()) (hp : vp_in p 3) (hm : fm = 1) (h3 : a3 (0 : Int32).toNatClampNeg = 60) (h4 : a4 (0 : Int32).toNatClampNeg = 61) (h5 : a5 (0 : Int32).toNatClampNeg = 0) (h6 : a6 (0 : Int32).toNatClampNeg = 1) (h7 : a7 (0 : Int32).toNatClampNeg = 0)
    (h10 : a10 p.toNatClampNeg = 1) (h11 : a11 ((62 * p) + 60).toNatClampNeg = 0) (h11' : a11 ((62 * p) + 0).toNatClampNeg = 61) (h12 : a12 ((62 * p) + 60).toNatClampNeg = 1) (h13 : a13 p.toNatClampNeg = 1)
    (h14 : a14 p.toNatClampNeg = 1) (h : a1 (0 : Int32).toNatClampNeg = a15 ((20 * p) + 0).toNatClampNeg) :
    wL_lawOf_235 post mc ms p 0 1 1 1 1 z z kc ks fu fm fl ft a1 a2 a3 a4 a5 a6 a7 a8 a9 a10 a11 a12 a13 a14 a15 a16 a17 a18 := by
  unfold wL_lawOf_235
  exact br_t rfl (cr_unr11 hp h13 h14 h11 h (fun _ _ => br_f (by decide) (br_f (by decide) (br_f (by decide) (cr_267t P hp hm h3 h4 h5 h6 h7 h10 h11 h11' h12 h13)))))
/-! has -/
theorem cr_202n {post : Int32 → St0 → Prop} {mc ms kc ks : Nat} {fu fm fl ft : Int32} {a1 a2 a3 a4 a5 a6 a7 a8 a9 a10 a11 a12 a13 a14 a15 a16 a17 a18 : Nat → Int32} {x0 x3 x4 x6 x8 x10 x11 z : Int32} (hq : ¬ vp_in x3 3) (K : wL_lawOf_235 post mc ms x0 x4 x6 x8 x10 x11 (-1) (-1) kc ks fu fm fl ft a1 a2 a3 a4 a5 a6 a7 a8 a9 a10 a11 a12 a13 a14 a15 a16 a17 a18) :
    wL_lawOf_202 post mc ms x0 x3 x4 x6 x8 0 x10 x11 z z kc ks fu fm fl ft a1 a2 a3 a4 a5 a6 a7 a8 a9 a10 a11 a12 a13 a14 a15 a16 a17 a18 := by
  unfold wL_lawOf_202
  exact br_t rfl (cr_has_n hq (br_t rfl K))
theorem cr_202o {post : Int32 → St0 → Prop} {mc ms kc ks : Nat} {fu fm fl ft : Int32} {a1 a2 a3 a4 a5 a6 a7 a8 a9 a10 a11 a12 a13 a14 a15 a16 a17 a18 : Nat → Int32} {x0 x3 x4 x6 x8 x10 z : Int32} (hq : vp_in x3 3) (hx : ¬ x4 < 0 → fm ≤ x4) (K : wL_lawOf_235 post mc ms x0 x4 x6 x8 x10 0 (-2) (-2) kc ks fu fm fl ft a1 a2 a3 a4 a5 a6 a7 a8 a9 a10 a11 a12 a13 a14 a15 a16 a17 a18) :
    wL_lawOf_202 post mc ms x0 x3 x4 x6 x8 1 x10 0 z z kc ks fu fm fl ft a1 a2 a3 a4 a5 a6 a7 a8 a9 a10 a11 a12 a13 a14 a15 a16 a17 a18 := by
  unfold wL_lawOf_202
  exact br_t rfl (cr_has_o hq hx (br_f (by decide) (br_t rfl K)))
theorem cr_202t {post : Int32 → St0 → Prop} {mc ms kc ks : Nat} {fu fm fl ft : Int32} {a1 a2 a3 a4 a5 a6 a7 a8 a9 a10 a11 a12 a13 a14 a15 a16 a17 a18 : Nat → Int32} {p x0 x6 x8 x10 z : Int32} (hp : vp_in p 3) (hm : fm = 1) (h10 : a10 p.toNatClampNeg = 1) (K : wL_lawOf_235 post mc ms x0 0 x6 x8 x10 1 1 1 kc ks fu fm fl ft a1 a2 a3 a4 a5 a6 a7 a8 a9 a10 a11 a12 a13 a14 a15 a16 a17 a18) :
    wL_lawOf_202 post mc ms x0 p 0 x6 x8 1 x10 1 z z kc ks fu fm fl ft a1 a2 a3 a4 a5 a6 a7 a8 a9 a10 a11 a12 a13 a14 a15 a16 a17 a18 := by
  unfold wL_lawOf_202
  exact br_t rfl (cr_has hp hm h10 (br_f (by decide) (br_f (by decide) K)))
/-! a flag that says whether x is a room; what is known where nothing was committed -/
def cr_D (x z : Int32) : Prop := (¬ vp_in x 3 ∧ z = 0) ∨ (vp_in x 3 ∧ z = 1)
def cr_C (x0 x6 x8 : Int32) (a13 a14 : Nat → Int32) : Prop :=
  (¬ vp_in x0 3 ∧ x6 = 0) ∨ (vp_in x0 3 ∧ x6 = 1 ∧ a13 x0.toNatClampNeg = 0 ∧ ((x8 = 0 ∧ a14 x0.toNatClampNeg = 0) ∨ (x8 = 1 ∧ a14 x0.toNatClampNeg = 1)))
theorem cr_tail0 {post : Int32 → St0 → Prop} {mc ms kc ks : Nat} {fu fm fl ft : Int32} {a1 a2 a3 a4 a5 a6 a7 a8 a9 a10 a11 a12 a13 a14 a15 a16 a17 a18 : Nat → Int32} {x0 x2 x3 x4 x6 x8 x9 : Int32} (P : post 1 ()) (hm : fm = 0) (C : cr_C x0 x6 x8 a13 a14) (D : cr_D x3 x9) :
    wL_lawOf_172 post mc ms x0 x2 x3 x4 x6 x8 x9 0 0 kc ks fu fm fl ft a1 a2 a3 a4 a5 a6 a7 a8 a9 a10 a11 a12 a13 a14 a15 a16 a17 a18 := by
  have hx : ¬ x4 < 0 → fm ≤ x4 := fun g => by rw [hm]; exact cr_nle g
  have K1 : ∀ z, wL_lawOf_235 post mc ms x0 x4 x6 x8 0 0 z z kc ks fu fm fl ft a1 a2 a3 a4 a5 a6 a7 a8 a9 a10 a11 a12 a13 a14 a15 a16 a17 a18 := by
    intro z
    rcases C with ⟨hp, rfl⟩ | ⟨hp, rfl, h13, ⟨rfl, h14⟩ | ⟨rfl, h14⟩⟩
    · exact cr_235n P hp
    · exact cr_235a P hp hx h13 h14
    · exact cr_235b P hp hx h13 h14
  have K2 : ∀ z, wL_lawOf_202 post mc ms x0 x3 x4 x6 x8 x9 0 0 z z kc ks fu fm fl ft a1 a2 a3 a4 a5 a6 a7 a8 a9 a10 a11 a12 a13 a14 a15 a16 a17 a18 := by
    intro z
    rcases D with ⟨hq, rfl⟩ | ⟨hq, rfl⟩
    · exact cr_202n hq (K1 _)
    · exact cr_202o hq hx (K1 _)
  unfold wL_lawOf_172
  rcases C with ⟨hp, rfl⟩ | ⟨hp, rfl, h13, _⟩
  · exact cr_line_n hp (br_t rfl (K2 _))
  · exact cr_line_o hp (fun g => by rw [h13]; exact g) (br_f (by decide) (br_t rfl (K2 _)))
theorem cr_tail1o {post : Int32 → St0 → Prop} {mc ms kc ks : Nat} {fu fm fl ft : Int32} {a1 a2 a3 a4 a5 a6 a7 a8 a9 a10 a11 a12 a13 a14 a15 a16 a17 a18 : Nat → Int32} {p x2 x4 : Int32} (P : post 1 ()) (hp : vp_in p 3) (hm : fm = 1) (h4 : ¬ x4 = 0) (h13 : a13 p.toNatClampNeg = 1) (h14 : a14 p.toNatClampNeg = 1)
    (h11 : a11 ((62 * p) + 60).toNatClampNeg = 0) (h : a1 (0 : Int32).toNatClampNeg = a15 ((20 * p) + 0).toNatClampNeg) :
    wL_lawOf_172 post mc ms p x2 p x4 1 1 1 1 0 kc ks fu fm fl ft a1 a2 a3 a4 a5 a6 a7 a8 a9 a10 a11 a12 a13 a14 a15 a16 a17 a18 := by
  have hx : ¬ x4 < 0 → fm ≤ x4 := fun g => by rw [hm]; exact cr_no1 h4 g
  unfold wL_lawOf_172
  exact cr_line_o hp (fun g => by rw [h13]; exact cr_nlt (cr_no1 h4 g)) (br_f (by decide) (br_t rfl (cr_202o hp hx (cr_235c P hp hx h13 h14 h11 h))))
theorem cr_tail1t {post : Int32 → St0 → Prop} {mc ms kc ks : Nat} {fu fm fl ft : Int32} {a1 a2 a3 a4 a5 a6 a7 a8 a9 a10 a11 a12 a13 a14 a15 a16 a17 a18 : Nat → Int32} {p x2 : Int32} (P : post 1 ()) (hp : vp_in p 3) (hm : fm = 1) (h3 : a3 (0 : Int32).toNatClampNeg = 60) (h4 : a4 (0 : Int32).toNatClampNeg = 61) (h5 : a5 (0 : Int32).toNatClampNeg = 0) (h6 : a6 (0 : Int32).toNatClampNeg = 1) (h7 : a7 (0 : Int32).toNatClampNeg = 0)
    (h10 : a10 p.toNatClampNeg = 1) (h11 : a11 ((62 * p) + 60).toNatClampNeg = 0) (h11' : a11 ((62 * p) + 0).toNatClampNeg = 61) (h12 : a12 ((62 * p) + 60).toNatClampNeg = 1) (h13 : a13 p.toNatClampNeg = 1)
    (h14 : a14 p.toNatClampNeg = 1) (h : a1 (0 : Int32).toNatClampNeg = a15 ((20 * p) + 0).toNatClampNeg) (hx : a15 ((20 * p) + 0).toNatClampNeg = x2) :
    wL_lawOf_172 post mc ms p x2 p 0 1 1 1 1 1 kc ks fu fm fl ft a1 a2 a3 a4 a5 a6 a7 a8 a9 a10 a11 a12 a13 a14 a15 a16 a17 a18 := by
  unfold wL_lawOf_172
  refine cr_line hp h13 h11 (fun b16 => br_f (by decide) (br_f (by decide) ?_))
  rw [h.trans hx]
  exact cr_202t hp hm h10 (cr_235t P hp hm h3 h4 h5 h6 h7 h10 h11 h11' h12 h13 h14 h)
/-! commit -/
theorem cr_135f {post : Int32 → St0 → Prop} {mc ms kc ks : Nat} {fu fm fl ft : Int32} {a1 a2 a3 a4 a5 a6 a7 a8 a9 a10 a11 a12 a13 a14 a15 a16 a17 a18 : Nat → Int32} {x0 x2 x3 x4 x6 x8 x9 z : Int32} (h : x8 = 0 ∨ (x8 = 1 ∧ ¬ x0 = x3)) (K : wL_lawOf_172 post mc ms x0 x2 x3 x4 x6 x8 x9 0 0 kc ks fu fm fl ft a1 a2 a3 a4 a5 a6 a7 a8 a9 a10 a11 a12 a13 a14 a15 a16 a17 a18) :
    wL_lawOf_135 post mc ms x0 x2 x3 x4 x6 x8 x9 z z kc ks fu fm fl ft a1 a2 a3 a4 a5 a6 a7 a8 a9 a10 a11 a12 a13 a14 a15 a16 a17 a18 := by
  have K1 : wL_lawOf_154 post mc ms x0 x2 x3 x4 x6 x8 x9 kc ks fu fm fl ft a1 a2 a3 a4 a5 a6 a7 a8 a9 a10 a11 a12 a13 a14 a15 a16 a17 a18 := by
    unfold wL_lawOf_154 wL_lawOf_155 wL_lawOf_171
    exact br_t rfl K
  unfold wL_lawOf_135
  rcases h with h | ⟨h, n⟩
  · exact br_t rfl (br_t h K1)
  · exact br_t rfl (br_f (by rw [h]; decide) (br_f n K1))
theorem cr_135t {post : Int32 → St0 → Prop} {mc ms kc ks : Nat} {fu fm fl ft : Int32} {a1 a2 a3 a4 a5 a6 a7 a8 a9 a10 a11 a12 a13 a14 a15 a16 a17 a18 : Nat → Int32} {p x2 x4 z : Int32} (K0 : x4 = 0 → wL_lawOf_172 post mc ms p x2 p x4 1 1 1 1 1 kc ks fu fm fl ft a1 a2 a3 a4 a5 a6 a7 a8 a9 a10 a11 a12 a13 a14 a15 a16 a17 a18) (K1 : ¬ x4 = 0 → wL_lawOf_172 post mc ms p x2 p x4 1 1 1 1 0 kc ks fu fm fl ft a1 a2 a3 a4 a5 a6 a7 a8 a9 a10 a11 a12 a13 a14 a15 a16 a17 a18) :
    wL_lawOf_135 post mc ms p x2 p x4 1 1 1 z z kc ks fu fm fl ft a1 a2 a3 a4 a5 a6 a7 a8 a9 a10 a11 a12 a13 a14 a15 a16 a17 a18 := by
  unfold wL_lawOf_135
  refine br_t rfl (br_f (by decide) (br_t rfl ?_))
  unfold wL_lawOf_155
  refine br_f (by decide) (br_c K0 (fun g => ?_))
  unfold wL_lawOf_171
  exact K1 g
def cr_F (a10 a12 a13 : Nat → Int32) : Prop := ∀ q : Int32, vp_in q 3 → a10 q.toNatClampNeg = 0 ∧ a12 ((62 * q) + 60).toNatClampNeg = 1 ∧ a13 q.toNatClampNeg = 0
def cr_N (a14 : Nat → Int32) : Prop := ∀ q : Int32, vp_in q 3 → a14 q.toNatClampNeg = 0
def cr_G (x0 x2 x6 x8 : Int32) (a14 a15 : Nat → Int32) : Prop :=
  (cr_D x0 x6 ∧ x8 = 0 ∧ cr_N a14) ∨ (vp_in x0 3 ∧ x6 = 1 ∧ x8 = 1 ∧ a14 x0.toNatClampNeg = 1 ∧ (∀ q : Int32, vp_in q 3 → ¬ q = x0 → a14 q.toNatClampNeg = 0) ∧ a15 ((20 * x0) + 0).toNatClampNeg = x2)
theorem cr_GC {x0 x2 x6 x8 : Int32} {a10 a12 a13 a14 a15 : Nat → Int32} (F : cr_F a10 a12 a13) (G : cr_G x0 x2 x6 x8 a14 a15) : cr_C x0 x6 x8 a13 a14 := by
  rcases G with ⟨⟨hp, h6⟩ | ⟨hp, h6⟩, h8, n⟩ | ⟨hp, h6, h8, h14, _⟩
  · exact Or.inl ⟨hp, h6⟩
  · exact Or.inr ⟨hp, h6, (F x0 hp).2.2, Or.inl ⟨h8, n x0 hp⟩⟩
  · exact Or.inr ⟨hp, h6, (F x0 hp).2.2, Or.inr ⟨h8, h14⟩⟩
theorem cr_103 {post : Int32 → St0 → Prop} {mc ms kc ks : Nat} {fl ft : Int32} {a1 a2 a3 a4 a5 a6 a7 a8 a9 a10 a11 a12 a13 a14 a15 a16 a17 a18 : Nat → Int32} {x0 x2 x3 x4 x6 x8 z : Int32} (P : post 1 ()) (F : cr_F a10 a12 a13) (G : cr_G x0 x2 x6 x8 a14 a15) (D : cr_D x3 z) :
    wL_lawOf_103 post mc ms x0 x2 x3 x4 x6 x8 z kc ks 0 0 fl ft a1 a2 a3 a4 a5 a6 a7 a8 a9 a10 a11 a12 a13 a14 a15 a16 a17 a18 := by
  have C := cr_GC F G
  unfold wL_lawOf_103
  rcases D with ⟨hq, rfl⟩ | ⟨hq, rfl⟩
  · refine cr_com_n hq (br_t rfl (cr_135f ?_ (cr_tail0 P rfl C (Or.inl ⟨hq, rfl⟩))))
    rcases G with ⟨_, h8, _⟩ | ⟨hp, _, h8, _⟩
    · exact Or.inl h8
    · exact Or.inr ⟨h8, fun e => hq (e ▸ hp)⟩
  · have D : cr_D x3 1 := Or.inr ⟨hq, rfl⟩
    have f3 := F x3 hq
    rcases G with ⟨_, rfl, n⟩ | ⟨hp, rfl, rfl, h14, n, h15⟩
    · refine cr_com0 hq f3.2.2 (n x3 hq) (fun b17 b18 => br_f (by decide) (br_t rfl ?_))
      unfold wL_lawOf_134
      exact cr_135f (Or.inl rfl) (cr_tail0 P rfl C D)
    · by_cases e : x0 = x3
      · subst e
        refine cr_com1 hp f3.2.2 h14 f3.1 f3.2.1 (fun b1 b2 b3 b4 b5 b6 b7 b9 b10 b11 b12 b13 b17 b18 k1 k3 k4 k5 k6 k7 k10 k11 k11' k12 k13 => br_f (by decide) (br_f (by decide) (br_t rfl (cr_135t (fun e4 => ?_) (fun e4 => ?_)))))
        · subst e4
          exact cr_tail1t P hp rfl k3 k4 k5 k6 k7 k10 k11 k11' k12 k13 h14 k1 h15
        · exact cr_tail1o P hp rfl e4 k13 h14 k11 k1
      · refine cr_com0 hq f3.2.2 (n x3 hq (fun z => e z.symm)) (fun b17 b18 => br_f (by decide) (br_f (by decide) (br_f e ?_)))
        unfold wL_lawOf_134
        exact cr_135f (Or.inr ⟨rfl, e⟩) (cr_tail0 P rfl C D)
theorem cr_87 {post : Int32 → St0 → Prop} {mc ms kc ks : Nat} {fl ft : Int32} {a1 a2 a3 a4 a5 a6 a7 a8 a9 a10 a11 a12 a13 a14 a15 a16 a17 a18 : Nat → Int32} {x0 x2 x3 x4 x6 x8 : Int32} (P : post 1 ()) (F : cr_F a10 a12 a13) (G : cr_G x0 x2 x6 x8 a14 a15) :
    wL_lawOf_87 post mc ms x0 x2 x3 x4 x6 x8 kc ks 0 0 fl ft a1 a2 a3 a4 a5 a6 a7 a8 a9 a10 a11 a12 a13 a14 a15 a16 a17 a18 := by
  have K : ¬ vp_in x3 3 → wL_lawOf_102 post mc ms x0 x2 x3 x4 x6 x8 kc ks 0 0 fl ft a1 a2 a3 a4 a5 a6 a7 a8 a9 a10 a11 a12 a13 a14 a15 a16 a17 a18 := by
    intro h
    unfold wL_lawOf_102
    exact cr_103 P F G (Or.inl ⟨h, rfl⟩)
  unfold wL_lawOf_87
  exact br_c (fun g => K (fun h => cr_lo h g)) (fun g => br_c (fun k => K (fun h => cr_hi2 h k)) (fun k => cr_103 P F G (Or.inr ⟨cr_is2 g k, rfl⟩)))
/-! insert -/
theorem cr_23 {post : Int32 → St0 → Prop} {mc ms kc ks : Nat} {fl ft : Int32} {a1 a2 a3 a4 a5 a6 a7 a8 a9 a10 a11 a12 a13 a14 a15 a16 a17 a18 : Nat → Int32} {x0 x1 x2 x3 x4 z : Int32} (P : post 1 ()) (F : cr_F a10 a12 a13) (n : cr_N a14) (D : cr_D x0 z) :
    wL_lawOf_23 post mc ms x0 x1 x2 x3 x4 z kc ks 0 0 fl ft a1 a2 a3 a4 a5 a6 a7 a8 a9 a10 a11 a12 a13 a14 a15 a16 a17 a18 := by
  have K : wL_lawOf_87 post mc ms x0 x2 x3 x4 z 0 kc ks 0 0 fl ft a1 a2 a3 a4 a5 a6 a7 a8 a9 a10 a11 a12 a13 a14 a15 a16 a17 a18 := cr_87 P F (Or.inl ⟨D, rfl, n⟩)
  unfold wL_lawOf_23
  rcases D with ⟨hp, rfl⟩ | ⟨hp, rfl⟩
  · refine br_t rfl ?_
    unfold wL_lawOf_59
    exact cr_ins_n hp (br_t rfl (br_f (by decide) K))
  · have h14 := n x0 hp
    refine br_f (by decide) (br_c (fun e => ?_) (fun e => ?_))
    · subst e
      refine br_c (fun g => ?_) (fun g => br_c (fun g9 => ?_) (fun g9 => ?_))
      · unfold wL_lawOf_53 wL_lawOf_59
        exact cr_ins_t1 hp h14 g (br_t rfl (br_f (by decide) K))
      · unfold wL_lawOf_59
        refine cr_ins hp h14 g g9 (br_t rfl (br_t rfl (cr_87 P F (Or.inr ⟨hp, rfl, rfl, pk_us, fun q hq e => ?_, pk_us⟩))))
        rw [pk_un (cr_inj hp hq e)]
        exact n q hq
      · unfold wL_lawOf_53 wL_lawOf_59
        exact cr_ins_t2 hp h14 g g9 (br_t rfl (br_f (by decide) K))
    · unfold wL_lawOf_59
      exact cr_ins_p hp h14 e (br_t rfl (br_f (by decide) K))
theorem cr_lawOf {post : Int32 → St0 → Prop} {u : St0} {x0 x1 x2 x3 x4 : Int32} (P : post 1 ()) : wpL_lawOf post 19 1480 u x0 x1 x2 x3 x4 := by
  unfold wpL_lawOf
  refine ⟨(by decide), (by decide), 18, 1458, (by decide), (by decide), cr_init (fun b11 b12 h12 => ?_)⟩
  have F : cr_F (fun _ => 0) b12 (fun _ => 0) := fun q hq => ⟨rfl, h12 q hq, rfl⟩
  have n : cr_N (fun _ => 0) := fun q hq => rfl
  refine br_c (fun g => ?_) (fun g => br_c (fun k => ?_) (fun k => ?_))
  · unfold wL_lawOf_22
    exact cr_23 P F n (Or.inl ⟨fun h => cr_lo h g, rfl⟩)
  · unfold wL_lawOf_22
    exact cr_23 P F n (Or.inl ⟨fun h => cr_hi2 h k, rfl⟩)
  · exact cr_23 P F n (Or.inr ⟨cr_is2 g k, rfl⟩)
end
section
/-! the script's cells, and the law -/
theorem cr_cell {post : Int32 → Prop} {L : Nat} {xs : Nat → Int32} {u : St0} {p : Int32} (hL : L ≤ 5) (k : Nat) (hk : k < 5) (hp : p = nI k) (H : ∀ v, post v) : wpL_cellAt post L xs u p := by
  subst hp
  unfold wpL_cellAt
  exact pk_le L k (fun _ => H 0) (fun z => ⟨pk_in k L z, H _⟩)
theorem i_vc (xs : Nat → Int32) (L : Nat) (hL : L ≤ 5) : wpL_law (fun r => r = 1) L xs := by
  unfold wpL_law
  exact cr_cell hL 0 (by decide) rfl (fun _ => cr_cell hL 1 (by decide) rfl (fun _ => cr_cell hL 2 (by decide) rfl (fun _ => cr_cell hL 3 (by decide) rfl (fun _ => cr_cell hL 4 (by decide) rfl (fun _ => ⟨19, 1480, (by decide), (by decide), cr_lawOf rfl⟩)))))
end
