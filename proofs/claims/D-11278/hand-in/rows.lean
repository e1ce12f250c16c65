section
/-! closed sums of ints; a place inside an array -/
theorem dr_s_m1_1 : ((-1) : Int32) + 1 = 0 := by decide
theorem dr_s_0_0 : (0 : Int32) + 0 = 0 := by decide
theorem dr_s_0_1 : (0 : Int32) + 1 = 1 := by decide
theorem dr_s_1_0 : (1 : Int32) + 0 = 1 := by decide
theorem dr_s_1_1 : (1 : Int32) + 1 = 2 := by decide
theorem dr_s_2_1 : (2 : Int32) + 1 = 3 := by decide
theorem dr_in {x : Int32} {n : Nat} (h : 0 ≤ x.toInt ∧ x.toInt < (n : Int)) : vp_in x n := vp_in_iff.mpr h
theorem dr_c_0 : (0 : Int32).toNatClampNeg = 0 := by decide
theorem dr_c_1 : (1 : Int32).toNatClampNeg = 1 := by decide
theorem dr_c_2 : (2 : Int32).toNatClampNeg = 2 := by decide
/-! the two entries -/
theorem dr_addT {post : St2 → Prop} {c0 c1 c2 c3 c4 c5 c6 c7 c8 c9 c10 c11 c12 : Int32} {a1 a2 a3 a4 a5 a6 a7 a8 : Nat → Int32} {x : Int32} {k : Nat} {p q : Int32} (hi : vp_in c4 52) (hk : c4.toNatClampNeg = k) (hx : c4 + 1 = x) (H : post (c0, c1, c2, c3, x, c5, c6, c7, c8, c9, c10, c11, c12, a1, a2, upd a3 k p, upd a4 k q, a5, a6, a7, a8)) : wpX_addTagEntry post (c0, c1, c2, c3, c4, c5, c6, c7, c8, c9, c10, c11, c12, a1, a2, a3, a4, a5, a6, a7, a8) p q :=
  And.intro hi (nm_r (by rw [hk]) (And.intro hi (nm_r (by rw [hk]) (nm_r hx H))))
theorem dr_addV {post : St2 → Prop} {c0 c1 c2 c3 c4 c5 c6 c7 c8 c9 c10 c11 c12 : Int32} {a1 a2 a3 a4 a5 a6 a7 a8 : Nat → Int32} {x : Int32} {k : Nat} {p q : Int32} (hi : vp_in c6 112) (hk : c6.toNatClampNeg = k) (hx : c6 + 1 = x) (H : post (c0, c1, c2, c3, c4, c5, x, c7, c8, c9, c10, c11, c12, a1, a2, a3, a4, a5, upd a6 k p, upd a7 k q, a8)) : wpX_addValueEntry post (c0, c1, c2, c3, c4, c5, c6, c7, c8, c9, c10, c11, c12, a1, a2, a3, a4, a5, a6, a7, a8) p q :=
  And.intro hi (nm_r (by rw [hk]) (And.intro hi (nm_r (by rw [hk]) (nm_r hx H))))
/-! the law's writing, call by call -/
theorem dr_begin {post : Int32 → St2 → Prop} {a1 a2 a3 a4 a5 a6 a7 a8 : Nat → Int32} (H : ∀ b, post 0 (1, 1, 0, 0, 0, 0, 0, 0, 0, 0, 0, 0, 0, b, a2, a3, a4, a5, a6, a7, a8)) : wpX_begin post (0, 0, 0, 0, 0, 0, 0, 0, 0, 0, 0, 0, 0, a1, a2, a3, a4, a5, a6, a7, a8) 0 5 :=
  br_t rfl (br_t (by decide) (And.intro (dr_in (by decide)) (nm_e (br_t rfl (nm_r dr_s_0_1 (by rw [show (1 : Int32) - 1 = 0 by decide]; exact H _))))))
theorem dr_group1 {post : Int32 → St2 → Prop} {a1 a2 a3 a4 a5 a6 a7 a8 : Nat → Int32} {t : Int32} (H : post 1 (1, 1, 0, 0, 1, 1, 0, 0, 1, 0, 1, 0, 0, a1, a2, upd a3 0 0, upd a4 0 2, upd a5 0 t, a6, a7, a8)) : wpX_group post (1, 1, 0, 0, 0, 0, 0, 0, 0, 0, 0, 0, 0, a1, a2, a3, a4, a5, a6, a7, a8) 1 t :=
  br_f (by decide) (br_f (by decide) (br_t (by decide) (br_t (by decide) (br_t rfl (br_f (by decide) (dr_addT (dr_in (by decide)) dr_c_0 dr_s_0_1 (br_f (by decide) (And.intro (dr_in (by decide)) (nm_r (by rw [dr_c_0]) (nm_r dr_s_0_1 (nm_r dr_s_0_1 (nm_r dr_s_0_1 H))))))))))))
theorem dr_group2 {post : Int32 → St2 → Prop} {a1 a2 a3 a4 a5 a6 a7 a8 : Nat → Int32} {t : Int32} (H : post 2 (1, 1, 0, 0, 2, 2, 1, 0, 2, 0, 2, 0, 0, a1, a2, upd a3 1 1, upd a4 1 2, upd a5 1 t, upd a6 0 0, upd a7 0 1, a8)) : wpX_group post (1, 1, 0, 0, 1, 1, 0, 0, 1, 0, 1, 0, 0, a1, a2, a3, a4, a5, a6, a7, a8) 1 t :=
  br_f (by decide) (br_f (by decide) (br_t (by decide) (br_f (by decide) (br_t rfl (br_t (by decide) (dr_addV (dr_in (by decide)) dr_c_0 dr_s_0_1
    (br_f (by decide) (br_f (by decide) (dr_addT (dr_in (by decide)) dr_c_1 dr_s_1_1 (br_f (by decide) (And.intro (dr_in (by decide)) (nm_r (by rw [dr_c_1]) (nm_r dr_s_1_1 (nm_r dr_s_1_1 (nm_r dr_s_1_1 H)))))))))))))))
theorem dr_value1 {post : Int32 → St2 → Prop} {a1 a2 a3 a4 a5 a6 a7 a8 : Nat → Int32} {v : Int32} (H : post 1 (1, 1, 0, 0, 2, 2, 2, 1, 2, 1, 2, 0, 0, a1, a2, a3, a4, a5, upd a6 1 1, upd a7 1 2, upd a8 0 v)) : wpX_value post (1, 1, 0, 0, 2, 2, 1, 0, 2, 0, 2, 0, 0, a1, a2, a3, a4, a5, a6, a7, a8) v :=
  br_f (by decide) (br_f (by decide) (br_f (by decide) (br_t (by decide) (br_t (by decide) (br_f (by decide) (dr_addV (dr_in (by decide)) dr_c_1 dr_s_1_1 (And.intro (dr_in (by decide)) (nm_r (by rw [dr_c_0]) (nm_r dr_s_0_1 (nm_r dr_s_0_1 H))))))))))
theorem dr_value2 {post : Int32 → St2 → Prop} {a1 a2 a3 a4 a5 a6 a7 a8 : Nat → Int32} {v : Int32} (H : post 2 (1, 1, 0, 0, 2, 2, 3, 2, 2, 2, 2, 0, 0, a1, a2, a3, a4, a5, upd a6 2 2, upd a7 2 2, upd a8 1 v)) : wpX_value post (1, 1, 0, 0, 2, 2, 2, 1, 2, 1, 2, 0, 0, a1, a2, a3, a4, a5, a6, a7, a8) v :=
  br_f (by decide) (br_f (by decide) (br_f (by decide) (br_t (by decide) (br_f (by decide) (dr_addV (dr_in (by decide)) dr_c_2 dr_s_2_1 (And.intro (dr_in (by decide)) (nm_r (by rw [dr_c_1]) (nm_r dr_s_1_1 (nm_r dr_s_1_1 H)))))))))
theorem dr_end {post : Int32 → St2 → Prop} {a1 a2 a3 a4 a5 a6 a7 a8 : Nat → Int32} (H : post 1 (0, 1, 1, 0, 2, 2, 3, 2, 2, 2, 2, 0, 0, a1, a2, a3, a4, a5, a6, a7, a8)) : wpX_end post (1, 1, 0, 0, 2, 2, 3, 2, 2, 2, 2, 0, 0, a1, a2, a3, a4, a5, a6, a7, a8) :=
  br_f (by decide) (br_f (by decide) (br_f (by decide) (br_f (by decide) (nm_r dr_s_0_1 H))))
end
section
/-! the asking over the state that end left; found and passed are general -/
theorem dr_findTag {post : St2 → Prop} {a1 a2 a3 a4 a5 a6 a7 a8 : Nat → Int32} {f p : Int32} (h30 : a3 (0 : Int32).toNatClampNeg = 0) (H : post (0, 1, 1, 0, 2, 2, 3, 2, 2, 2, 2, 0, 0, a1, a2, a3, a4, a5, a6, a7, a8)) : wpX_findTag post (0, 1, 1, 0, 2, 2, 3, 2, 2, 2, 2, f, p, a1, a2, a3, a4, a5, a6, a7, a8) 0 0 :=
  Exists.intro 1 (br_f (by decide) (And.intro (dr_in (by decide)) (br_t h30 (nm_r dr_s_m1_1 (And.intro (dr_in (by decide)) (br_t h30 (br_t rfl (br_t rfl H))))))))
theorem dr_groups {post : Int32 → St2 → Prop} {a1 a2 a3 a4 a5 a6 a7 a8 : Nat → Int32} {f p : Int32} (h30 : a3 (0 : Int32).toNatClampNeg = 0) (h31 : a3 (1 : Int32).toNatClampNeg = 1) (h40 : a4 (0 : Int32).toNatClampNeg = 2) (H : post 2 (0, 1, 1, 0, 2, 2, 3, 2, 2, 2, 2, 0, 0, a1, a2, a3, a4, a5, a6, a7, a8)) : wpX_groups post (0, 1, 1, 0, 2, 2, 3, 2, 2, 2, 2, f, p, a1, a2, a3, a4, a5, a6, a7, a8) 0 :=
  br_f (by decide) (br_f (by decide) (br_f (by decide) (dr_findTag h30 (And.intro (dr_in (by decide)) (br_f (by rw [h40] <;> decide) (nm_r dr_s_0_1 (Exists.intro 2
    (br_f (by decide) (And.intro (dr_in (by decide)) (br_f (by rw [h31] <;> decide) (nm_r dr_s_1_1 (nm_r dr_s_1_1 (br_t (by decide) H)))))))))))))
theorem dr_isGroup {post : Int32 → St2 → Prop} {a1 a2 a3 a4 a5 a6 a7 a8 : Nat → Int32} {f p : Int32} {g : Int32} (hg : ¬ g < 0) (hg2 : ¬ 2 ≤ g) (h30 : a3 (0 : Int32).toNatClampNeg = 0) (h31 : a3 (1 : Int32).toNatClampNeg = 1) (h40 : a4 (0 : Int32).toNatClampNeg = 2) (H : post 1 (0, 1, 1, 0, 2, 2, 3, 2, 2, 2, 2, 0, 0, a1, a2, a3, a4, a5, a6, a7, a8)) : wpX_isGroup post (0, 1, 1, 0, 2, 2, 3, 2, 2, 2, 2, f, p, a1, a2, a3, a4, a5, a6, a7, a8) 0 g :=
  br_f (by decide) (br_f (by decide) (br_f (by decide) (br_f hg (dr_groups h30 h31 h40 (br_f hg2 H)))))
theorem dr_find0 {post : St2 → Prop} {a1 a2 a3 a4 a5 a6 a7 a8 : Nat → Int32} {f p : Int32} (h60 : a6 (0 : Int32).toNatClampNeg = 0) (H : post (0, 1, 1, 0, 2, 2, 3, 2, 2, 2, 2, 0, 0, a1, a2, a3, a4, a5, a6, a7, a8)) : wpX_findValue post (0, 1, 1, 0, 2, 2, 3, 2, 2, 2, 2, f, p, a1, a2, a3, a4, a5, a6, a7, a8) 0 0 :=
  Exists.intro 1 (br_f (by decide) (And.intro (dr_in (by decide)) (br_t h60 (nm_r dr_s_m1_1 (And.intro (dr_in (by decide)) (br_t h60 (br_t rfl (br_t rfl H))))))))
theorem dr_find1 {post : St2 → Prop} {a1 a2 a3 a4 a5 a6 a7 a8 : Nat → Int32} {f p : Int32} (h60 : a6 (0 : Int32).toNatClampNeg = 0) (h61 : a6 (1 : Int32).toNatClampNeg = 1) (h70 : a7 (0 : Int32).toNatClampNeg = 1) (H : post (0, 1, 1, 0, 2, 2, 3, 2, 2, 2, 2, 1, 0, a1, a2, a3, a4, a5, a6, a7, a8)) : wpX_findValue post (0, 1, 1, 0, 2, 2, 3, 2, 2, 2, 2, f, p, a1, a2, a3, a4, a5, a6, a7, a8) 0 1 :=
  Exists.intro 2 (br_f (by decide) (And.intro (dr_in (by decide)) (br_t h60 (nm_r dr_s_m1_1 (And.intro (dr_in (by decide)) (br_t h60 (br_t rfl (br_f (by decide) (And.intro (dr_in (by decide)) (br_f (by rw [h70] <;> decide) (nm_r dr_s_0_0 (nm_r dr_s_0_1
    (br_f (by decide) (And.intro (dr_in (by decide)) (br_f (by rw [h61] <;> decide) (nm_r dr_s_0_0 (And.intro (dr_in (by decide)) (br_f (by rw [h61] <;> decide) (And.intro (dr_in (by decide)) (br_t h61 (br_t rfl (br_t (by decide) H))))))))))))))))))))))
theorem dr_values0 {post : Int32 → St2 → Prop} {a1 a2 a3 a4 a5 a6 a7 a8 : Nat → Int32} {f p : Int32} (h30 : a3 (0 : Int32).toNatClampNeg = 0) (h31 : a3 (1 : Int32).toNatClampNeg = 1) (h40 : a4 (0 : Int32).toNatClampNeg = 2) (h60 : a6 (0 : Int32).toNatClampNeg = 0) (h70 : a7 (0 : Int32).toNatClampNeg = 1) (H : post 0 (0, 1, 1, 0, 2, 2, 3, 2, 2, 2, 2, 0, 0, a1, a2, a3, a4, a5, a6, a7, a8)) : wpX_values post (0, 1, 1, 0, 2, 2, 3, 2, 2, 2, 2, f, p, a1, a2, a3, a4, a5, a6, a7, a8) 0 0 := by
  unfold wpX_values
  exact dr_isGroup (by decide) (by decide) h30 h31 h40 (br_f (by decide) (dr_find0 h60 (And.intro (dr_in (by decide)) (br_f (by rw [h70] <;> decide) H))))
theorem dr_values1 {post : Int32 → St2 → Prop} {a1 a2 a3 a4 a5 a6 a7 a8 : Nat → Int32} {f p : Int32} (h30 : a3 (0 : Int32).toNatClampNeg = 0) (h31 : a3 (1 : Int32).toNatClampNeg = 1) (h40 : a4 (0 : Int32).toNatClampNeg = 2) (h60 : a6 (0 : Int32).toNatClampNeg = 0) (h61 : a6 (1 : Int32).toNatClampNeg = 1) (h62 : a6 (2 : Int32).toNatClampNeg = 2) (h70 : a7 (0 : Int32).toNatClampNeg = 1) (h71 : a7 (1 : Int32).toNatClampNeg = 2) (H : post 2 (0, 1, 1, 0, 2, 2, 3, 2, 2, 2, 2, 1, 0, a1, a2, a3, a4, a5, a6, a7, a8)) : wpX_values post (0, 1, 1, 0, 2, 2, 3, 2, 2, 2, 2, f, p, a1, a2, a3, a4, a5, a6, a7, a8) 0 1 := by
  unfold wpX_values
  exact dr_isGroup (by decide) (by decide) h30 h31 h40 (br_f (by decide) (dr_find1 h60 h61 h70 (And.intro (dr_in (by decide)) (br_t (by rw [h71] <;> decide) (nm_r dr_s_1_1 (Exists.intro 2
    (br_f (by decide) (And.intro (dr_in (by decide)) (br_t h62 (nm_r dr_s_1_1 (nm_r dr_s_2_1 (br_t (by decide) H))))))))))))
end
section
/-! recordsWith: behind the first value, where it counted, and where it did not -/
theorem dr_recA {post : Int32 → Prop} {a1 a2 a3 a4 a5 a6 a7 a8 : Nat → Int32} {f p : Int32} {b lo hi : Int32} (h62 : a6 (2 : Int32).toNatClampNeg = 2) (h72 : a7 (2 : Int32).toNatClampNeg = 2) (h81 : a8 (1 : Int32).toNatClampNeg = b) (H : post 1) : wX_recordsWith_14 post lo hi 0 1 1 0 2 2 3 2 2 2 2 f p a1 a2 a3 a4 a5 a6 a7 a8 2 1 0 1 0 2 :=
  have E : wX_recordsWith_14 post lo hi 0 1 1 0 2 2 3 2 2 2 2 f p a1 a2 a3 a4 a5 a6 a7 a8 1 1 0 2 0 3 := br_t (by decide) H
  br_f (by decide) (And.intro (dr_in (by decide)) (br_f (by rw [h62] <;> decide) (nm_r dr_s_0_0 (And.intro (dr_in (by decide)) (br_t h72 (And.intro (dr_in (by decide)) (nm_r h81 (nm_r dr_s_1_1
    (br_c (fun _ => nm_r dr_s_2_1 E) (fun _ => br_c (fun _ => nm_r dr_s_2_1 E) (fun _ => br_t rfl (nm_r dr_s_2_1 E))))))))))))
theorem dr_recB {post : Int32 → Prop} {a1 a2 a3 a4 a5 a6 a7 a8 : Nat → Int32} {f p : Int32} {b lo hi : Int32} (h62 : a6 (2 : Int32).toNatClampNeg = 2) (h72 : a7 (2 : Int32).toNatClampNeg = 2) (h81 : a8 (1 : Int32).toNatClampNeg = b) (H1 : ¬ b < lo → ¬ hi < b → post 1) (H0 : b < lo ∨ hi < b → post 0) : wX_recordsWith_14 post lo hi 0 1 1 0 2 2 3 2 2 2 2 f p a1 a2 a3 a4 a5 a6 a7 a8 2 0 0 1 (-1) 2 :=
  have E1 : post 1 → wX_recordsWith_14 post lo hi 0 1 1 0 2 2 3 2 2 2 2 f p a1 a2 a3 a4 a5 a6 a7 a8 1 1 0 2 0 3 := fun H => br_t (by decide) H
  have E0 : post 0 → wX_recordsWith_14 post lo hi 0 1 1 0 2 2 3 2 2 2 2 f p a1 a2 a3 a4 a5 a6 a7 a8 1 0 0 2 (-1) 3 := fun H => br_t (by decide) H
  br_f (by decide) (And.intro (dr_in (by decide)) (br_f (by rw [h62] <;> decide) (nm_r dr_s_0_0 (And.intro (dr_in (by decide)) (br_t h72 (And.intro (dr_in (by decide)) (nm_r h81 (nm_r dr_s_1_1
    (br_c (fun z => nm_r dr_s_2_1 (E0 (H0 (Or.inl z)))) (fun y => br_c (fun z => nm_r dr_s_2_1 (E0 (H0 (Or.inr z)))) (fun z => br_f (by decide) (br_f (by decide) (nm_r dr_s_0_1 (nm_r dr_s_2_1 (E1 (H1 y z))))))))))))))))
theorem dr_rec {post : Int32 → Prop} {a1 a2 a3 a4 a5 a6 a7 a8 : Nat → Int32} {f p : Int32} {a b lo hi : Int32} (h60 : a6 (0 : Int32).toNatClampNeg = 0) (h61 : a6 (1 : Int32).toNatClampNeg = 1) (h62 : a6 (2 : Int32).toNatClampNeg = 2) (h70 : a7 (0 : Int32).toNatClampNeg = 1) (h71 : a7 (1 : Int32).toNatClampNeg = 2) (h72 : a7 (2 : Int32).toNatClampNeg = 2) (h80 : a8 (0 : Int32).toNatClampNeg = a) (h81 : a8 (1 : Int32).toNatClampNeg = b) (Ha : ¬ a < lo → ¬ hi < a → post 1) (Hb : ¬ b < lo → ¬ hi < b → post 1) (H0 : a < lo ∨ hi < a → b < lo ∨ hi < b → post 0) : wpX_recordsWith post (0, 1, 1, 0, 2, 2, 3, 2, 2, 2, 2, f, p, a1, a2, a3, a4, a5, a6, a7, a8) lo hi :=
  Exists.intro 4 (br_f (by decide) (And.intro (dr_in (by decide)) (br_t h60 (nm_r dr_s_m1_1 (And.intro (dr_in (by decide)) (br_f (by rw [h70] <;> decide) (nm_r dr_s_0_1
    (br_f (by decide) (And.intro (dr_in (by decide)) (br_f (by rw [h61] <;> decide) (nm_r dr_s_0_0 (And.intro (dr_in (by decide)) (br_t h71 (And.intro (dr_in (by decide)) (nm_r h80 (nm_r dr_s_0_1
      (br_c (fun z => nm_r dr_s_1_1 (dr_recB h62 h72 h81 Hb (H0 (Or.inl z)))) (fun y => br_c (fun z => nm_r dr_s_1_1 (dr_recB h62 h72 h81 Hb (H0 (Or.inr z)))) (fun z => br_f (by decide) (br_f (by decide) (nm_r dr_s_0_1 (nm_r dr_s_1_1 (dr_recA h62 h72 h81 (Ha y z))))))))))))))))))))))))
/-! sumByTag: from the second entry on; whether the first group was wanted does not matter -/
theorem dr_sum2 {post : Int32 → Prop} {a1 a2 a3 a4 a5 a6 a7 a8 : Nat → Int32} {f p : Int32} {x a b w : Int32} (h41 : a4 (1 : Int32).toNatClampNeg = 2) (h51 : a5 (1 : Int32).toNatClampNeg = 7) (h61 : a6 (1 : Int32).toNatClampNeg = 1) (h62 : a6 (2 : Int32).toNatClampNeg = 2) (h71 : a7 (1 : Int32).toNatClampNeg = 2) (h72 : a7 (2 : Int32).toNatClampNeg = 2) (h80 : a8 (0 : Int32).toNatClampNeg = a) (h81 : a8 (1 : Int32).toNatClampNeg = b) (H1 : 7 = x → post (a + b)) (H0 : ¬ 7 = x → post 0) : wX_sumByTag_19 post x 0 1 1 0 2 2 3 2 2 2 2 f p a1 a2 a3 a4 a5 a6 a7 a8 3 0 0 1 0 0 w 1 :=
  have E1 : 7 = x → wX_sumByTag_19 post x 0 1 1 0 2 2 3 2 2 2 2 f p a1 a2 a3 a4 a5 a6 a7 a8 2 a 1 2 1 0 1 2 := fun e => br_f (by decide) (And.intro (dr_in (by decide)) (br_t (by rw [h62] <;> decide) (And.intro (dr_in (by decide)) (br_t h72 (br_f (by decide) (And.intro (dr_in (by decide)) (nm_r (by rw [h81]) (nm_r dr_s_1_1 (nm_r dr_s_2_1 (br_t (by decide) (H1 e)))))))))))
  have E0 : ¬ 7 = x → wX_sumByTag_19 post x 0 1 1 0 2 2 3 2 2 2 2 f p a1 a2 a3 a4 a5 a6 a7 a8 2 0 1 2 1 0 0 2 := fun e => br_f (by decide) (And.intro (dr_in (by decide)) (br_t (by rw [h62] <;> decide) (And.intro (dr_in (by decide)) (br_t h72 (br_t rfl (nm_r dr_s_0_0 (nm_r dr_s_1_1 (nm_r dr_s_2_1 (br_t (by decide) (H0 e))))))))))
  br_f (by decide) (And.intro (dr_in (by decide)) (br_f (by rw [h61] <;> decide) (nm_r dr_s_0_1 (And.intro (dr_in (by decide)) (br_f (by rw [h61] <;> decide) (nm_r dr_s_0_0 (And.intro (dr_in (by decide)) (br_t h41 (br_f (by decide) (And.intro (dr_in (by decide)) (br_c
    (fun e => br_f (by decide) (br_f (by decide) (nm_r dr_s_1_1 (And.intro (dr_in (by decide)) (br_t h71 (br_f (by decide) (And.intro (dr_in (by decide)) (nm_r (by rw [h80, Int32.zero_add]) (nm_r dr_s_0_1 (nm_r dr_s_1_1 (E1 (h51.symm.trans e))))))))))))
    (fun e => br_f (by decide) (nm_r dr_s_1_1 (And.intro (dr_in (by decide)) (br_t h71 (br_t rfl (nm_r dr_s_0_0 (nm_r dr_s_0_1 (nm_r dr_s_1_1 (E0 (fun z => e (h51.trans z))))))))))))))))))))))
theorem dr_sum {post : Int32 → Prop} {a1 a2 a3 a4 a5 a6 a7 a8 : Nat → Int32} {f p : Int32} {x a b : Int32} (h40 : a4 (0 : Int32).toNatClampNeg = 2) (h41 : a4 (1 : Int32).toNatClampNeg = 2) (h51 : a5 (1 : Int32).toNatClampNeg = 7) (h60 : a6 (0 : Int32).toNatClampNeg = 0) (h61 : a6 (1 : Int32).toNatClampNeg = 1) (h62 : a6 (2 : Int32).toNatClampNeg = 2) (h70 : a7 (0 : Int32).toNatClampNeg = 1) (h71 : a7 (1 : Int32).toNatClampNeg = 2) (h72 : a7 (2 : Int32).toNatClampNeg = 2) (h80 : a8 (0 : Int32).toNatClampNeg = a) (h81 : a8 (1 : Int32).toNatClampNeg = b) (H1 : 7 = x → post (a + b)) (H0 : ¬ 7 = x → post 0) : wpX_sumByTag post (0, 1, 1, 0, 2, 2, 3, 2, 2, 2, 2, f, p, a1, a2, a3, a4, a5, a6, a7, a8) x :=
  have E : ∀ w, wX_sumByTag_19 post x 0 1 1 0 2 2 3 2 2 2 2 f p a1 a2 a3 a4 a5 a6 a7 a8 3 0 0 1 0 0 w 1 := fun w => dr_sum2 h41 h51 h61 h62 h71 h72 h80 h81 H1 H0
  Exists.intro 4 (br_f (by decide) (And.intro (dr_in (by decide)) (br_f (by rw [h60] <;> decide) (nm_r dr_s_m1_1 (And.intro (dr_in (by decide)) (br_t h60 (nm_r dr_s_m1_1 (And.intro (dr_in (by decide)) (br_t h40 (br_f (by decide) (And.intro (dr_in (by decide)) (br_c
    (fun _ => br_f (by decide) (br_f (by decide) (nm_r dr_s_0_1 (And.intro (dr_in (by decide)) (br_f (by rw [h70] <;> decide) (nm_r dr_s_0_1 (E 1)))))))
    (fun _ => br_f (by decide) (nm_r dr_s_0_1 (And.intro (dr_in (by decide)) (br_f (by rw [h70] <;> decide) (nm_r dr_s_0_1 (E 0))))))))))))))))))
end
section
/-! the law -/
theorem dr_cell {post : Int32 → Prop} {L : Nat} {xs : Nat → Int32} (k : Nat) (hk : k < 5) (hL : L ≤ 5) (H : ∀ r, post r) : wpL_cellAt post L xs () (nI k) :=
  pk_le L k (fun _ => H _) (fun z => And.intro (pk_in k L z) (H _))
theorem dr_128 {mc ms kc ks : Nat} {a1 a2 a3 a4 a5 a6 a7 a8 : Nat → Int32} {f p : Int32} {t a b z : Int32} (h40 : a4 (0 : Int32).toNatClampNeg = 2) (h41 : a4 (1 : Int32).toNatClampNeg = 2) (h51 : a5 (1 : Int32).toNatClampNeg = 7) (h60 : a6 (0 : Int32).toNatClampNeg = 0) (h61 : a6 (1 : Int32).toNatClampNeg = 1) (h62 : a6 (2 : Int32).toNatClampNeg = 2) (h70 : a7 (0 : Int32).toNatClampNeg = 1) (h71 : a7 (1 : Int32).toNatClampNeg = 2) (h72 : a7 (2 : Int32).toNatClampNeg = 2) (h80 : a8 (0 : Int32).toNatClampNeg = a) (h81 : a8 (1 : Int32).toNatClampNeg = b) : wL_lawOf_128 (fun r _ => r = 1) mc ms a b t z z kc ks 0 1 1 0 2 2 3 2 2 2 2 f p a1 a2 a3 a4 a5 a6 a7 a8 :=
  br_t rfl (dr_sum h40 h41 h51 h60 h61 h62 h70 h71 h72 h80 h81
    (fun e => br_t e.symm (br_t rfl (dr_sum h40 h41 h51 h60 h61 h62 h70 h71 h72 h80 h81 (fun _ => br_t rfl rfl) (fun z => absurd rfl z))))
    (fun e => br_f (fun z => e z.symm) (br_t rfl (dr_sum h40 h41 h51 h60 h61 h62 h70 h71 h72 h80 h81 (fun _ => br_t rfl rfl) (fun z => absurd rfl z)))))
theorem dr_104 {mc ms kc ks : Nat} {a1 a2 a3 a4 a5 a6 a7 a8 : Nat → Int32} {f p : Int32} {t a b lo hi : Int32} (h40 : a4 (0 : Int32).toNatClampNeg = 2) (h41 : a4 (1 : Int32).toNatClampNeg = 2) (h51 : a5 (1 : Int32).toNatClampNeg = 7) (h60 : a6 (0 : Int32).toNatClampNeg = 0) (h61 : a6 (1 : Int32).toNatClampNeg = 1) (h62 : a6 (2 : Int32).toNatClampNeg = 2) (h70 : a7 (0 : Int32).toNatClampNeg = 1) (h71 : a7 (1 : Int32).toNatClampNeg = 2) (h72 : a7 (2 : Int32).toNatClampNeg = 2) (h80 : a8 (0 : Int32).toNatClampNeg = a) (h81 : a8 (1 : Int32).toNatClampNeg = b) (h : (¬ a < lo ∧ ¬ hi < a) ∨ (¬ b < lo ∧ ¬ hi < b)) : wL_lawOf_104 (fun r _ => r = 1) mc ms a b lo hi t kc ks 0 1 1 0 2 2 3 2 2 2 2 f p a1 a2 a3 a4 a5 a6 a7 a8 :=
  have E := fun mc ms kc ks => dr_128 (mc := mc) (ms := ms) (kc := kc) (ks := ks) (a1 := a1) (a2 := a2) (a3 := a3) (f := f) (p := p) (t := t) (z := 1) h40 h41 h51 h60 h61 h62 h70 h71 h72 h80 h81
  dr_rec (a := a) (b := b) h60 h61 h62 h70 h71 h72 h80 h81 (fun _ _ => br_f (by decide) (E _ _ _ _)) (fun _ _ => br_f (by decide) (E _ _ _ _))
    (fun x y => absurd h (fun z => z.elim (fun q => x.elim q.1 q.2) (fun q => y.elim q.1 q.2)))
theorem dr_108 {mc ms kc ks : Nat} {a1 a2 a3 a4 a5 a6 a7 a8 : Nat → Int32} {f p : Int32} {t a b lo hi : Int32} (h40 : a4 (0 : Int32).toNatClampNeg = 2) (h41 : a4 (1 : Int32).toNatClampNeg = 2) (h51 : a5 (1 : Int32).toNatClampNeg = 7) (h60 : a6 (0 : Int32).toNatClampNeg = 0) (h61 : a6 (1 : Int32).toNatClampNeg = 1) (h62 : a6 (2 : Int32).toNatClampNeg = 2) (h70 : a7 (0 : Int32).toNatClampNeg = 1) (h71 : a7 (1 : Int32).toNatClampNeg = 2) (h72 : a7 (2 : Int32).toNatClampNeg = 2) (h80 : a8 (0 : Int32).toNatClampNeg = a) (h81 : a8 (1 : Int32).toNatClampNeg = b) (ha : a < lo ∨ hi < a) (hb : b < lo ∨ hi < b) : wL_lawOf_108 (fun r _ => r = 1) mc ms a b lo hi t kc ks 0 1 1 0 2 2 3 2 2 2 2 f p a1 a2 a3 a4 a5 a6 a7 a8 :=
  have E := fun mc ms kc ks => dr_128 (mc := mc) (ms := ms) (kc := kc) (ks := ks) (a1 := a1) (a2 := a2) (a3 := a3) (f := f) (p := p) (t := t) (z := 0) h40 h41 h51 h60 h61 h62 h70 h71 h72 h80 h81
  dr_rec (a := a) (b := b) h60 h61 h62 h70 h71 h72 h80 h81 (fun x y => (ha.elim x y).elim) (fun x y => (hb.elim x y).elim) (fun _ _ => br_t rfl (E _ _ _ _))
theorem dr_94 {mc ms kc ks : Nat} {a1 a2 a3 a4 a5 a6 a7 a8 : Nat → Int32} {f p : Int32} {t a b lo hi : Int32} (h40 : a4 (0 : Int32).toNatClampNeg = 2) (h41 : a4 (1 : Int32).toNatClampNeg = 2) (h51 : a5 (1 : Int32).toNatClampNeg = 7) (h60 : a6 (0 : Int32).toNatClampNeg = 0) (h61 : a6 (1 : Int32).toNatClampNeg = 1) (h62 : a6 (2 : Int32).toNatClampNeg = 2) (h70 : a7 (0 : Int32).toNatClampNeg = 1) (h71 : a7 (1 : Int32).toNatClampNeg = 2) (h72 : a7 (2 : Int32).toNatClampNeg = 2) (h80 : a8 (0 : Int32).toNatClampNeg = a) (h81 : a8 (1 : Int32).toNatClampNeg = b) (ha : a < lo ∨ hi < a) : wL_lawOf_94 (fun r _ => r = 1) mc ms a b lo hi t kc ks 0 1 1 0 2 2 3 2 2 2 2 f p a1 a2 a3 a4 a5 a6 a7 a8 :=
  br_c (fun x => dr_108 h40 h41 h51 h60 h61 h62 h70 h71 h72 h80 h81 ha (Or.inl x)) (fun x => br_c (fun y => dr_108 h40 h41 h51 h60 h61 h62 h70 h71 h72 h80 h81 ha (Or.inr y)) (fun y => dr_104 h40 h41 h51 h60 h61 h62 h70 h71 h72 h80 h81 (Or.inr ⟨x, y⟩)))
theorem dr_tail {mc ms kc ks : Nat} {a1 a2 a3 a4 a5 a6 a7 a8 : Nat → Int32} {f p : Int32} {t a b lo hi : Int32} (h40 : a4 (0 : Int32).toNatClampNeg = 2) (h41 : a4 (1 : Int32).toNatClampNeg = 2) (h51 : a5 (1 : Int32).toNatClampNeg = 7) (h60 : a6 (0 : Int32).toNatClampNeg = 0) (h61 : a6 (1 : Int32).toNatClampNeg = 1) (h62 : a6 (2 : Int32).toNatClampNeg = 2) (h70 : a7 (0 : Int32).toNatClampNeg = 1) (h71 : a7 (1 : Int32).toNatClampNeg = 2) (h72 : a7 (2 : Int32).toNatClampNeg = 2) (h80 : a8 (0 : Int32).toNatClampNeg = a) (h81 : a8 (1 : Int32).toNatClampNeg = b) : ((a < lo → wL_lawOf_94 (fun r _ => r = 1) mc ms a b lo hi t kc ks 0 1 1 0 2 2 3 2 2 2 2 f p a1 a2 a3 a4 a5 a6 a7 a8) ∧ (¬ a < lo → ((a ≤ hi → wL_lawOf_104 (fun r _ => r = 1) mc ms a b lo hi t kc ks 0 1 1 0 2 2 3 2 2 2 2 f p a1 a2 a3 a4 a5 a6 a7 a8) ∧ (¬ a ≤ hi → wL_lawOf_94 (fun r _ => r = 1) mc ms a b lo hi t kc ks 0 1 1 0 2 2 3 2 2 2 2 f p a1 a2 a3 a4 a5 a6 a7 a8)))) :=
  br_c (fun x => dr_94 h40 h41 h51 h60 h61 h62 h70 h71 h72 h80 h81 (Or.inl x)) (fun x => br_c (fun y => dr_104 h40 h41 h51 h60 h61 h62 h70 h71 h72 h80 h81 (Or.inl ⟨x, Int32.not_lt.mpr y⟩)) (fun y => dr_94 h40 h41 h51 h60 h61 h62 h70 h71 h72 h80 h81 (Or.inr (Int32.not_le.mp y))))
theorem dr_lawOf (a b lo hi t : Int32) : wpL_lawOf (fun r _ => r = 1) 9 473 () a b lo hi t := by
  unfold wpL_lawOf
  refine And.intro (by decide) (And.intro (by decide) (Exists.intro 8 (Exists.intro 452 (And.intro (by decide) (And.intro (by decide) ?_)))))
  unfold wpX_init
  iterate 16 (refine And.intro (by decide) ?_)
  refine dr_begin (fun c => ?_)
  refine dr_group1 ?_
  refine dr_group2 ?_
  refine dr_value1 ?_
  refine dr_value2 ?_
  refine br_t rfl ?_
  refine dr_end ?_
  refine br_t rfl ?_
  refine dr_values0 (by rfl) (by rfl) (by rfl) (by rfl) (by rfl) ?_
  refine br_t rfl ?_
  refine dr_values1 (by rfl) (by rfl) (by rfl) (by rfl) (by rfl) (by rfl) (by rfl) (by rfl) ?_
  refine br_t rfl ?_
  exact dr_tail (by rfl) (by rfl) (by rfl) (by rfl) (by rfl) (by rfl) (by rfl) (by rfl) (by rfl) (by rfl) (by rfl)
theorem i_vc (xs : Nat → Int32) (L : Nat) (hL : L ≤ 5) : wpL_law (fun r => r = 1) L xs :=
  dr_cell 0 (by decide) hL (fun a => dr_cell 1 (by decide) hL (fun b => dr_cell 2 (by decide) hL (fun lo => dr_cell 3 (by decide) hL (fun hi => dr_cell 4 (by decide) hL (fun t =>
    Exists.intro 9 (Exists.intro 473 (And.intro (by decide) (And.intro (by decide) (dr_lawOf a b lo hi t)))))))))
end
