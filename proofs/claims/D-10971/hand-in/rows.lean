section
theorem pt_in4 {x g : Int32} (h4 : g ≤ 4) (h0 : ¬ x < 0) (h : x < g) : vp_in x 4 := by
  have h4' := Int32.le_iff_toInt_le.mp h4
  have h' := Int32.lt_iff_toInt_lt.mp h
  have h0' : ¬ x.toInt < (0 : Int32).toInt := fun z => h0 (Int32.lt_iff_toInt_lt.mpr z)
  have e4 : (4 : Int32).toInt = 4 := by decide
  have e0 : (0 : Int32).toInt = 0 := by decide
  exact vp_in_iff.mpr ⟨by omega, by omega⟩
theorem pt_in32 {x g : Int32} (h1 : 1 ≤ g) (h4 : g ≤ 4) (h0 : ¬ x < 0) (h : ¬ 8 * g ≤ x) : vp_in x 32 := by
  have hg : ¬ g < 0 := by
    intro z
    have h1' := Int32.le_iff_toInt_le.mp h1
    have z' := Int32.lt_iff_toInt_lt.mp z
    have e1 : (1 : Int32).toInt = 1 := by decide
    have e0 : (0 : Int32).toInt = 0 := by decide
    omega
  obtain ⟨j, hj, rfl⟩ := nI_of2 (n := 4) (M := 4) (by decide) hg h4
  obtain ⟨k, hk, rfl⟩ := nI_of h0
  have e : (8 : Int32) * nI j = nI (8 * j) := pk_mul 8 j
  rw [e] at h
  have hk8 : ¬ 8 * j ≤ k := fun z => h (nI_le z hk)
  exact vp_in_nI (by omega) (by omega)
theorem pt_in8 {x : Int32} (h0 : ¬ x < 0) (h : x ≤ 7) : vp_in x 8 := by
  obtain ⟨j, hj, rfl⟩ := nI_of2 (n := 7) (M := 7) (by decide) h0 h
  exact vp_in_nI (by omega) (by omega)
end
section
theorem pt_forget {post : St2 → Prop} {pg f2 f3 f4 f5 f6 f7 f8 f9 f10 f11 f12 f13 f14 f15 : Int32} {a1 a2 a3 a4 a5 a6 a7 a8 a9 a10 a11 a12 a13 a14 a15 a16 a17 a18 a19 a20 a21 a22 a23 a24 a25 a26 a27 a28 a29 a30 a31 a32 a33 a34 a35 : Nat → Int32} (H : ∀ b : Nat → Int32, post (pg, f2, f3, f4, f5, f6, f7, f8, f9, f10, f11, f12, f13, f14, f15, a1, a2, a3, a4, a5, a6, a7, a8, b, a10, a11, a12, a13, a14, a15, a16, a17, a18, a19, a20, a21, a22, a23, a24, a25, a26, a27, a28, a29, a30, a31, a32, a33, a34, a35)) : wpX_forgetBlocks post (pg, f2, f3, f4, f5, f6, f7, f8, f9, f10, f11, f12, f13, f14, f15, a1, a2, a3, a4, a5, a6, a7, a8, a9, a10, a11, a12, a13, a14, a15, a16, a17, a18, a19, a20, a21, a22, a23, a24, a25, a26, a27, a28, a29, a30, a31, a32, a33, a34, a35) :=
  pk_loop (fun n i s => wX_forgetBlocks_2 post pg f2 f3 f4 f5 f6 f7 f8 f9 f10 f11 f12 f13 f14 f15 n (nI i) a1 a2 a3 a4 a5 a6 a7 a8 s a10 a11 a12 a13 a14 a15 a16 a17 a18 a19 a20 a21 a22 a23 a24 a25 a26 a27 a28 a29 a30 a31 a32 a33 a34 a35) (fun _ _ => True) 4 0 a9 (by omega) trivial
    (fun n s _ => pk_le 4 4 (fun _ => H s) (fun z => absurd z (by omega)))
    (fun n i s hi _ hw => pk_le 4 i (fun z => absurd z (by omega)) (fun _ => ⟨pk_in i 4 hi, nm_e (nm_r (nI_1 i) (hw _ trivial))⟩))
theorem pt_init325 {post : St2 → Prop} {mc ms kc ks : Nat} {x3 : Int32} {pg f2 f3 f4 f5 f6 f7 f8 f9 f10 f11 f12 f13 f14 f15 : Int32} (H : ∀ b : Nat → Int32, post (pg, f2, f3, f4, f5, f6, f7, f8, f9, f10, f11, f12, f13, f14, f15, (fun _ => 0), (fun _ => 0), b, (fun _ => 0), (fun _ => 0), (fun _ => 0), (fun _ => 0), (fun _ => 0), (fun _ => 0), (fun _ => 0), (fun _ => 0), (fun _ => 0), (fun _ => 0), (fun _ => 0), (fun _ => 0), (fun _ => 0), (fun _ => 0), (fun _ => 0), (fun _ => 0), (fun _ => 0), (fun _ => 0), (fun _ => 0), (fun _ => 0), (fun _ => 0), (fun _ => 0), (fun _ => 0), (fun _ => 0), (fun _ => 0), (fun _ => 0), (fun _ => 0), (fun _ => 0), (fun _ => 0), (fun _ => 0), (fun _ => 0), (fun _ => 0))) : ∃ fu : Nat, wX_init_325 post mc ms x3 kc ks pg f2 f3 f4 f5 f6 f7 f8 f9 f10 f11 f12 f13 f14 f15 fu 0 (fun _ => 0) (fun _ => 0) (fun _ => 0) (fun _ => 0) (fun _ => 0) (fun _ => 0) (fun _ => 0) (fun _ => 0) (fun _ => 0) (fun _ => 0) (fun _ => 0) (fun _ => 0) (fun _ => 0) (fun _ => 0) (fun _ => 0) (fun _ => 0) (fun _ => 0) (fun _ => 0) (fun _ => 0) (fun _ => 0) (fun _ => 0) (fun _ => 0) (fun _ => 0) (fun _ => 0) (fun _ => 0) (fun _ => 0) (fun _ => 0) (fun _ => 0) (fun _ => 0) (fun _ => 0) (fun _ => 0) (fun _ => 0) (fun _ => 0) (fun _ => 0) (fun _ => 0) :=
  pk_loop (fun n i s => wX_init_325 post mc ms x3 kc ks pg f2 f3 f4 f5 f6 f7 f8 f9 f10 f11 f12 f13 f14 f15 n (nI i) (fun _ => 0) (fun _ => 0) s (fun _ => 0) (fun _ => 0) (fun _ => 0) (fun _ => 0) (fun _ => 0) (fun _ => 0) (fun _ => 0) (fun _ => 0) (fun _ => 0) (fun _ => 0) (fun _ => 0) (fun _ => 0) (fun _ => 0) (fun _ => 0) (fun _ => 0) (fun _ => 0) (fun _ => 0) (fun _ => 0) (fun _ => 0) (fun _ => 0) (fun _ => 0) (fun _ => 0) (fun _ => 0) (fun _ => 0) (fun _ => 0) (fun _ => 0) (fun _ => 0) (fun _ => 0) (fun _ => 0) (fun _ => 0) (fun _ => 0) (fun _ => 0)) (fun _ _ => True) 4 0 (fun _ => 0) (by omega) trivial
    (fun n s _ => pk_le 4 4 (fun _ => H s) (fun z => absurd z (by omega)))
    (fun n i s hi _ hw => pk_le 4 i (fun z => absurd z (by omega)) (fun _ => ⟨pk_in i 4 hi, nm_e (nm_r (nI_1 i) (hw _ trivial))⟩))
theorem pt_init24 {post : St2 → Prop} {mc ms : Nat} {x2 z0 : Int32} {pg f2 f3 f4 f5 f6 f7 f8 f9 f10 f11 f12 f13 f14 f15 : Int32} (hc : 35 ≤ mc) (hs : 1324 ≤ ms) (H : ∀ b : Nat → Int32, post (z0, f2, f3, f4, f5, f6, f7, f8, f9, f10, f11, f12, f13, f14, f15, (fun _ => 0), (fun _ => 0), b, (fun _ => 0), (fun _ => 0), (fun _ => 0), (fun _ => 0), (fun _ => 0), (fun _ => 0), (fun _ => 0), (fun _ => 0), (fun _ => 0), (fun _ => 0), (fun _ => 0), (fun _ => 0), (fun _ => 0), (fun _ => 0), (fun _ => 0), (fun _ => 0), (fun _ => 0), (fun _ => 0), (fun _ => 0), (fun _ => 0), (fun _ => 0), (fun _ => 0), (fun _ => 0), (fun _ => 0), (fun _ => 0), (fun _ => 0), (fun _ => 0), (fun _ => 0), (fun _ => 0), (fun _ => 0), (fun _ => 0), (fun _ => 0))) : wX_init_24 post mc ms x2 z0 0 0 pg f2 f3 f4 f5 f6 f7 f8 f9 f10 f11 f12 f13 f14 f15 := by
  unfold wX_init_24
  exact ⟨by omega, by omega, by omega, by omega, by omega, by omega, by omega, by omega, by omega, by omega, by omega, by omega, by omega, by omega, by omega, by omega, by omega, by omega, by omega, by omega, by omega, by omega, by omega, by omega, by omega, by omega, by omega, by omega, by omega, by omega, by omega, by omega, by omega, by omega, by omega, by omega, by omega, by omega, by omega, by omega, by omega, by omega, by omega, by omega, by omega, by omega, by omega, by omega, by omega, by omega, by omega, by omega, by omega, by omega, by omega, by omega, by omega, by omega, by omega, by omega, by omega, by omega, by omega, by omega, by omega, by omega, by omega, by omega, by omega, by omega, br_c (fun _ => br_c (fun _ => pt_init325 H) (fun _ => pt_init325 H)) (fun _ => pt_init325 H)⟩
end
section
theorem pt_186 {mc ms kc ks : Nat} {x2 x5 z : Int32} {pg f2 f3 f4 f5 f6 f7 f8 f9 f10 f11 f12 f13 f14 f15 : Int32} {a1 a2 a3 a4 a5 a6 a7 a8 a9 a10 a11 a12 a13 a14 a15 a16 a17 a18 a19 a20 a21 a22 a23 a24 a25 a26 a27 a28 a29 a30 a31 a32 a33 a34 a35 : Nat → Int32} : wL_lawOf_186 (fun r _ => r = 1) mc ms x2 x5 z z kc ks pg f2 f3 f4 f5 f6 f7 f8 f9 f10 f11 f12 f13 f14 f15 a1 a2 a3 a4 a5 a6 a7 a8 a9 a10 a11 a12 a13 a14 a15 a16 a17 a18 a19 a20 a21 a22 a23 a24 a25 a26 a27 a28 a29 a30 a31 a32 a33 a34 a35 := by
  unfold wL_lawOf_186
  refine br_t rfl ?_
  by_cases h : x2 < 0
  · exact br_t h (br_t h (br_t rfl rfl))
  · by_cases h7 : x2 ≤ 7
    · exact br_f h (br_t h7 ⟨pt_in8 h h7, nm_e (br_f h (br_t h7 (br_t rfl rfl)))⟩)
    · exact br_f h (br_f h7 (br_f h (br_f h7 (br_t rfl rfl))))
theorem pt_143 {mc ms kc ks : Nat} {x2 x3 x4 x5 z : Int32} {pg f2 f3 f4 f5 f7 f8 f9 f10 f11 f12 f13 f14 f15 : Int32} {a1 a2 a3 a4 a5 a6 a7 a8 a9 a10 a11 a12 a13 a14 a15 a16 a17 a18 a19 a20 a21 a22 a23 a24 a25 a26 a27 a28 a29 a30 a31 a32 a33 a34 a35 : Nat → Int32} : wL_lawOf_143 (fun r _ => r = 1) mc ms x2 x3 x4 x5 z z kc ks pg f2 f3 f4 f5 0 f7 f8 f9 f10 f11 f12 f13 f14 f15 a1 a2 a3 a4 a5 a6 a7 a8 a9 a10 a11 a12 a13 a14 a15 a16 a17 a18 a19 a20 a21 a22 a23 a24 a25 a26 a27 a28 a29 a30 a31 a32 a33 a34 a35 := by
  unfold wL_lawOf_143
  refine br_t rfl (br_t rfl (br_t rfl ?_))
  have h40 : (0 : Int32) < 40 := by decide
  have hi : vp_in (0 : Int32) 40 := vp_in_iff.mpr (by decide)
  by_cases h : x3 < 0
  · exact br_t h (br_t h pt_186)
  · by_cases h12 : x3 ≤ 12
    · exact br_f h (br_t h12 (br_t h40 ⟨hi, nm_e ⟨hi, nm_e ⟨hi, nm_e ⟨hi, nm_e (nm_e (pt_forget (fun _ => br_f h (br_t h12 pt_186))))⟩⟩⟩⟩))
    · exact br_f h (br_f h12 (br_f h (br_f h12 pt_186)))
theorem pt_120o {mc ms kc ks : Nat} {x2 x3 x4 x5 z : Int32} {pg f2 f3 f4 f5 f7 f8 f9 f10 f11 f12 f13 f14 f15 : Int32} {a1 a2 a3 a4 a5 a6 a7 a8 a9 a10 a11 a12 a13 a14 a15 a16 a17 a18 a19 a20 a21 a22 a23 a24 a25 a26 a27 a28 a29 a30 a31 a32 a33 a34 a35 : Nat → Int32} (h : x4 < 0 ∨ 8 * pg ≤ x4) : wL_lawOf_120 (fun r _ => r = 1) mc ms x2 x3 x4 x5 0 z z kc ks pg f2 f3 f4 f5 0 f7 f8 f9 f10 f11 f12 f13 f14 f15 a1 a2 a3 a4 a5 a6 a7 a8 a9 a10 a11 a12 a13 a14 a15 a16 a17 a18 a19 a20 a21 a22 a23 a24 a25 a26 a27 a28 a29 a30 a31 a32 a33 a34 a35 := by
  unfold wL_lawOf_120
  refine br_t rfl ?_
  by_cases h0 : x4 < 0
  · exact br_t h0 (br_t rfl (br_t rfl pt_143))
  · exact br_f h0 (br_t (h.resolve_left h0) (br_t rfl (br_t rfl pt_143)))
theorem pt_120i {mc ms kc ks : Nat} {x2 x3 x4 x5 z : Int32} {pg f2 f3 f4 f5 f7 f8 f9 f10 f11 f12 f13 f14 f15 : Int32} {a1 a2 a3 a4 a5 a6 a7 a8 a9 a10 a11 a12 a13 a14 a15 a16 a17 a18 a19 a20 a21 a22 a23 a24 a25 a26 a27 a28 a29 a30 a31 a32 a33 a34 a35 : Nat → Int32} (h0 : ¬ x4 < 0) (h8 : ¬ 8 * pg ≤ x4) (hi : vp_in x4 32) (hv : a2 x4.toNatClampNeg = x5) : wL_lawOf_120 (fun r _ => r = 1) mc ms x2 x3 x4 x5 1 z z kc ks pg f2 f3 f4 f5 0 f7 f8 f9 f10 f11 f12 f13 f14 f15 a1 a2 a3 a4 a5 a6 a7 a8 a9 a10 a11 a12 a13 a14 a15 a16 a17 a18 a19 a20 a21 a22 a23 a24 a25 a26 a27 a28 a29 a30 a31 a32 a33 a34 a35 := by
  have n1 : ¬ (1 : Int32) = 0 := by decide
  unfold wL_lawOf_120
  refine br_t rfl (br_f h0 (br_f h8 (br_f n1 ⟨hi, br_f n1 ?_⟩)))
  rw [hv]
  exact pt_143
theorem pt_98o {mc ms kc ks : Nat} {x2 x3 x4 x5 : Int32} {pg f2 f3 f4 f5 f7 f8 f9 f10 f11 f12 f13 f14 f15 : Int32} {a1 a2 a3 a4 a5 a6 a7 a8 a9 a10 a11 a12 a13 a14 a15 a16 a17 a18 a19 a20 a21 a22 a23 a24 a25 a26 a27 a28 a29 a30 a31 a32 a33 a34 a35 : Nat → Int32} (h : x4 < 0 ∨ 8 * pg ≤ x4) : wL_lawOf_98 (fun r _ => r = 1) mc ms x2 x3 x4 x5 0 kc ks pg f2 f3 f4 f5 0 f7 f8 f9 f10 f11 f12 f13 f14 f15 a1 a2 a3 a4 a5 a6 a7 a8 a9 a10 a11 a12 a13 a14 a15 a16 a17 a18 a19 a20 a21 a22 a23 a24 a25 a26 a27 a28 a29 a30 a31 a32 a33 a34 a35 := by
  unfold wL_lawOf_98
  by_cases h0 : x4 < 0
  · exact br_t h0 (br_t rfl (br_t rfl (pt_120o h)))
  · exact br_f h0 (br_t (h.resolve_left h0) (br_t rfl (br_t rfl (pt_120o h))))
theorem pt_98i {mc ms kc ks : Nat} {x2 x3 x4 x5 : Int32} {pg f2 f3 f4 f5 f7 f8 f9 f10 f11 f12 f13 f14 f15 : Int32} {a1 a2 a3 a4 a5 a6 a7 a8 a9 a10 a11 a12 a13 a14 a15 a16 a17 a18 a19 a20 a21 a22 a23 a24 a25 a26 a27 a28 a29 a30 a31 a32 a33 a34 a35 : Nat → Int32} (h0 : ¬ x4 < 0) (h8 : ¬ 8 * pg ≤ x4) (hi : vp_in x4 32) : wL_lawOf_98 (fun r _ => r = 1) mc ms x2 x3 x4 x5 1 kc ks pg f2 f3 f4 f5 0 f7 f8 f9 f10 f11 f12 f13 f14 f15 a1 a2 a3 a4 a5 a6 a7 a8 a9 a10 a11 a12 a13 a14 a15 a16 a17 a18 a19 a20 a21 a22 a23 a24 a25 a26 a27 a28 a29 a30 a31 a32 a33 a34 a35 := by
  have n1 : ¬ (1 : Int32) = 0 := by decide
  unfold wL_lawOf_98
  exact br_f h0 (br_f h8 (br_f n1 ⟨hi, nm_e (br_f n1 (pt_120i h0 h8 hi pk_us))⟩))
theorem pt_after {mc ms kc ks : Nat} {x2 x3 x4 x5 : Int32} {pg f2 f3 f4 f5 f7 f8 f9 f10 f11 f12 f13 f14 f15 : Int32} {a1 a2 a3 a4 a5 a6 a7 a8 a9 a10 a11 a12 a13 a14 a15 a16 a17 a18 a19 a20 a21 a22 a23 a24 a25 a26 a27 a28 a29 a30 a31 a32 a33 a34 a35 : Nat → Int32} (h1 : 1 ≤ pg) (h4 : pg ≤ 4) :
    ((x4 < 0 → (wL_lawOf_97 (fun r _ => r = 1) mc ms x2 x3 x4 x5 kc ks pg f2 f3 f4 f5 0 f7 f8 f9 f10 f11 f12 f13 f14 f15 a1 a2 a3 a4 a5 a6 a7 a8 a9 a10 a11 a12 a13 a14 a15 a16 a17 a18 a19 a20 a21 a22 a23 a24 a25 a26 a27 a28 a29 a30 a31 a32 a33 a34 a35)) ∧ (¬ x4 < 0 → ((((8 * pg) ≤ x4 → (wL_lawOf_97 (fun r _ => r = 1) mc ms x2 x3 x4 x5 kc ks pg f2 f3 f4 f5 0 f7 f8 f9 f10 f11 f12 f13 f14 f15 a1 a2 a3 a4 a5 a6 a7 a8 a9 a10 a11 a12 a13 a14 a15 a16 a17 a18 a19 a20 a21 a22 a23 a24 a25 a26 a27 a28 a29 a30 a31 a32 a33 a34 a35)) ∧ (¬ (8 * pg) ≤ x4 → (wL_lawOf_98 (fun r _ => r = 1) mc ms x2 x3 x4 x5 1 kc ks pg f2 f3 f4 f5 0 f7 f8 f9 f10 f11 f12 f13 f14 f15 a1 a2 a3 a4 a5 a6 a7 a8 a9 a10 a11 a12 a13 a14 a15 a16 a17 a18 a19 a20 a21 a22 a23 a24 a25 a26 a27 a28 a29 a30 a31 a32 a33 a34 a35)))))) :=
  br_c (fun h => pt_98o (Or.inl h)) (fun h0 => br_c (fun h => pt_98o (Or.inr h)) (fun h8 => pt_98i h0 h8 (pt_in32 h1 h4 h0 h8)))
theorem pt_62a {mc ms kc ks : Nat} {x2 x3 x4 x5 : Int32} {pg f2 f3 f4 f5 f7 f8 f9 f10 f11 f12 f13 f14 f15 : Int32} {a1 a2 a3 a4 a5 a6 a7 a8 a9 a10 a11 a12 a13 a14 a15 a16 a17 a18 a19 a20 a21 a22 a23 a24 a25 a26 a27 a28 a29 a30 a31 a32 a33 a34 a35 : Nat → Int32} (h1 : 1 ≤ pg) (h4 : pg ≤ 4) (h : x2 < 0 ∨ ¬ x2 < pg) : wL_lawOf_62 (fun r _ => r = 1) mc ms x2 x3 x4 x5 pg (-4) kc ks pg f2 f3 f4 f5 0 f7 f8 f9 f10 f11 f12 f13 f14 f15 a1 a2 a3 a4 a5 a6 a7 a8 a9 a10 a11 a12 a13 a14 a15 a16 a17 a18 a19 a20 a21 a22 a23 a24 a25 a26 a27 a28 a29 a30 a31 a32 a33 a34 a35 := by
  unfold wL_lawOf_62
  by_cases h0 : x2 < 0
  · exact br_t h0 (br_t rfl (pt_after h1 h4))
  · exact br_f h0 (br_f (h.resolve_left h0) (br_t rfl (pt_after h1 h4)))
theorem pt_62b {mc ms kc ks : Nat} {x2 x3 x4 x5 : Int32} {pg f2 f3 f4 f5 f7 f8 f9 f10 f11 f12 f13 f14 f15 : Int32} {a1 a2 a3 a4 a5 a6 a7 a8 a9 a10 a11 a12 a13 a14 a15 a16 a17 a18 a19 a20 a21 a22 a23 a24 a25 a26 a27 a28 a29 a30 a31 a32 a33 a34 a35 : Nat → Int32} (h1 : 1 ≤ pg) (h4 : pg ≤ 4) (h0 : ¬ x2 < 0) (hl : x2 < pg) (h : x3 < 0 ∨ ¬ x3 ≤ 2) : wL_lawOf_62 (fun r _ => r = 1) mc ms x2 x3 x4 x5 pg (-5) kc ks pg f2 f3 f4 f5 0 f7 f8 f9 f10 f11 f12 f13 f14 f15 a1 a2 a3 a4 a5 a6 a7 a8 a9 a10 a11 a12 a13 a14 a15 a16 a17 a18 a19 a20 a21 a22 a23 a24 a25 a26 a27 a28 a29 a30 a31 a32 a33 a34 a35 := by
  unfold wL_lawOf_62
  by_cases hx : x3 < 0
  · exact br_f h0 (br_t hl (br_t hx (br_t rfl (pt_after h1 h4))))
  · exact br_f h0 (br_t hl (br_f hx (br_f (h.resolve_left hx) (br_t rfl (pt_after h1 h4)))))
theorem pt_62c {mc ms kc ks : Nat} {x2 x3 x4 x5 : Int32} {pg f2 f3 f4 f5 f7 f8 f9 f10 f11 f12 f13 f14 f15 : Int32} {a1 a2 a3 a4 a5 a6 a7 a8 a9 a10 a11 a12 a13 a14 a15 a16 a17 a18 a19 a20 a21 a22 a23 a24 a25 a26 a27 a28 a29 a30 a31 a32 a33 a34 a35 : Nat → Int32} (h1 : 1 ≤ pg) (h4 : pg ≤ 4) (h0 : ¬ x2 < 0) (hl : x2 < pg) (hx : ¬ x3 < 0) (h2 : x3 ≤ 2) : wL_lawOf_62 (fun r _ => r = 1) mc ms x2 x3 x4 x5 pg 0 kc ks pg f2 f3 f4 f5 0 f7 f8 f9 f10 f11 f12 f13 f14 f15 a1 a2 a3 a4 a5 a6 a7 a8 a9 a10 a11 a12 a13 a14 a15 a16 a17 a18 a19 a20 a21 a22 a23 a24 a25 a26 a27 a28 a29 a30 a31 a32 a33 a34 a35 := by
  unfold wL_lawOf_62
  exact br_f h0 (br_t hl (br_f hx (br_t h2 ⟨pt_in4 h4 h0 hl, nm_e (br_t rfl (pt_after h1 h4))⟩)))
end
section
theorem pt_19 {x0 x1 x2 x3 x4 x5 z : Int32} (h1 : 1 ≤ z) (h4 : z ≤ 4) (hz : ∀ post : St2 → Prop, wX_init_24 post 35 1324 x1 z 0 0 0 0 0 0 0 0 0 0 0 0 0 0 0 0 0 → wpX_init post 35 1324 (0, 0, 0, 0, 0, 0, 0, 0, 0, 0, 0, 0, 0, 0, 0) x0 x1) : wL_lawOf_19 (fun r _ => r = 1) 628 10032 x0 x1 x2 x3 x4 x5 z 0 0 := by
  unfold wL_lawOf_19
  refine ⟨by omega, by omega, 35, 1324, by omega, by omega, hz _ (pt_init24 (Nat.le_refl _) (Nat.le_refl _) (fun b => ?_))⟩
  exact br_c (fun h => pt_62a h1 h4 (Or.inl h)) (fun h0 => br_c (fun hl => br_c (fun h => pt_62b h1 h4 h0 hl (Or.inl h)) (fun hx => br_c (fun h2 => pt_62c h1 h4 h0 hl hx h2) (fun h => pt_62b h1 h4 h0 hl (Or.inr h)))) (fun h => pt_62a h1 h4 (Or.inr h)))
theorem pt_lawOf (x0 x1 x2 x3 x4 x5 : Int32) : wpL_lawOf (fun r _ => r = 1) 628 10032 () x0 x1 x2 x3 x4 x5 := by
  unfold wpL_lawOf
  refine br_c (fun h1 => br_c (fun h4 => pt_19 h1 h4 (fun post h => ?_)) (fun h4 => pt_19 (by decide) (by decide) (fun post h => ?_))) (fun h1 => pt_19 (by decide) (by decide) (fun post h => ?_))
  · exact br_t h1 (br_t h4 h)
  · exact br_t h1 (br_f h4 h)
  · exact br_f h1 h
theorem pt_cell {post : Int32 → Prop} {L : Nat} {xs : Nat → Int32} (k : Nat) (hL : L ≤ 6) (hk : k < 6) (H : ∀ r, post r) : wpL_cellAt post L xs () (nI k) :=
  pk_le L k (fun _ => H _) (fun z => ⟨pk_in k L z, H _⟩)
theorem i_vc (xs : Nat → Int32) (L : Nat) (hL : L ≤ 6) : wpL_law (fun r => r = 1) L xs :=
  pt_cell 0 hL (by omega) (fun r1 => pt_cell 1 hL (by omega) (fun r2 => pt_cell 2 hL (by omega) (fun r3 => pt_cell 3 hL (by omega) (fun r4 => pt_cell 4 hL (by omega) (fun r5 => pt_cell 5 hL (by omega) (fun r6 => ⟨628, 10032, by omega, by omega, pt_lawOf r1 r2 r3 r4 r5 r6⟩))))))
end
