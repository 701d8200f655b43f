section
/-! ===== FreezeDif: the methods the law calls, each in any state ===== -/
section
variable {f1 f2 f3 f4 f5 f6 f7 f8 f9 f10 f11 f12 f13 : Int32} {a1 a2 a3 a4 a5 a6 a7 a8 a9 a10 a11 a12 a13 a14 a15 a16 a17 a18 a19 a20 a21 a22 a23 a25 a26 a27 a28 a29 a30 a31 a32 a33 a34 a35 : Nat → Int32} {a24 : Nat → Int64}
theorem fz_sol {post : Int32 → Prop} (H : post (-4)) : wpX_solutions post (f1, f2, f3, f4, f5, f6, f7, f8, f9, f10, f11, 0, f13, a1, a2, a3, a4, a5, a6, a7, a8, a9, a10, a11, a12, a13, a14, a15, a16, a17, a18, a19, a20, a21, a22, a23, a24, a25, a26, a27, a28, a29, a30, a31, a32, a33, a34, a35) :=
  br_t rfl H
/-- cells of different kinds have different shapes -/
theorem fz_same {post : Int32 → Prop} {c d : Nat} (hc : c < 48) (hd : d < 48) (hk : ¬ a1 c = a1 d) (H : post 0) : wpX_sameShape post (f1, f2, f3, f4, f5, f6, f7, f8, f9, f10, f11, f12, f13, a1, a2, a3, a4, a5, a6, a7, a8, a9, a10, a11, a12, a13, a14, a15, a16, a17, a18, a19, a20, a21, a22, a23, a24, a25, a26, a27, a28, a29, a30, a31, a32, a33, a34, a35) (nI c) (nI d) :=
  ⟨pk_in c 48 hc, pk_in d 48 hd, br_f (by rw [nI_clamp (by omega), nI_clamp (by omega)]; exact hk) H⟩
/-- the search for a cell of the same shape finds none -/
theorem fz_l66 {post : Int32 → St2 → Prop} {c : Nat} (hc : c < 48) (hk : ∀ d, d < c → ¬ a1 c = a1 d) (H : post (nI c) (f1, nI (c + 1), f3, f4, f5, f6, f7, f8, f9, f10, f11, f12, f13, a1, a2, a3, a4, a5, a6, a7, a8, a9, a10, a11, a12, a13, a14, a15, a16, a17, a18, a19, a20, a21, a22, a23, a24, a25, a26, a27, a28, a29, a30, a31, a32, a33, a34, a35)) :
    ∃ n, wX_newCell_66 post (nI c) f1 f2 f3 f4 f5 f6 f7 f8 f9 f10 f11 f12 f13 a1 a2 a3 a4 a5 a6 a7 a8 a9 a10 a11 a12 a13 a14 a15 a16 a17 a18 a19 a20 a21 a22 a23 a24 a25 a26 a27 a28 a29 a30 a31 a32 a33 a34 a35 n 0 :=
  pk_loop (σ := Unit) (fun n i _ => wX_newCell_66 post (nI c) f1 f2 f3 f4 f5 f6 f7 f8 f9 f10 f11 f12 f13 a1 a2 a3 a4 a5 a6 a7 a8 a9 a10 a11 a12 a13 a14 a15 a16 a17 a18 a19 a20 a21 a22 a23 a24 a25 a26 a27 a28 a29 a30 a31 a32 a33 a34 a35 n (nI i)) (fun _ _ => True) c 0 () (by omega) trivial
    (fun n _ _ => pk_le c c (fun _ => nm_r (nI_1 c) H) (fun z => absurd z (by omega)))
    (fun n i _ hi _ hw => pk_le c i (fun z => absurd z (by omega)) (fun _ => fz_same hc (by omega) (hk i hi) (br_t rfl (nm_r (nI_1 i) (hw () trivial)))))
/-- a new cell whose kind no earlier cell has -/
theorem fz_new {post : Int32 → St2 → Prop} {p0 p1 p2 p3 p4 : Int32} {c : Nat} (hc : c < 48) (hk : ∀ d, d < c → ¬ p0.toInt8.toInt32 = a1 d)
    (H : ∀ b1 b2 b3 b4 b5 b6 : Nat → Int32, (∀ d, d < c → b1 d = a1 d) → b1 c = p0.toInt8.toInt32 → (∀ d, d < c → b4 d = a4 d) → b4 c = p3.toInt8.toInt32 →
      post (nI c) (f1, nI (c + 1), f3, f4, f5, f6, f7, f8, f9, f10, f11, f12, f13, b1, b2, b3, b4, b5, b6, a7, a8, a9, a10, a11, a12, a13, a14, a15, a16, a17, a18, a19, a20, a21, a22, a23, a24, a25, a26, a27, a28, a29, a30, a31, a32, a33, a34, a35)) :
    wpX_newCell post (f1, nI c, f3, f4, f5, f6, f7, f8, f9, f10, f11, f12, f13, a1, a2, a3, a4, a5, a6, a7, a8, a9, a10, a11, a12, a13, a14, a15, a16, a17, a18, a19, a20, a21, a22, a23, a24, a25, a26, a27, a28, a29, a30, a31, a32, a33, a34, a35) p0 p1 p2 p3 p4 := by
  have ec : (nI c).toNatClampNeg = c := nI_clamp (by omega)
  refine ⟨pk_in c 48 hc, nm_e ⟨pk_in c 48 hc, nm_e ⟨pk_in c 48 hc, nm_e ⟨pk_in c 48 hc, nm_e ⟨pk_in c 48 hc, nm_e ⟨pk_in c 48 hc, nm_e ?_⟩⟩⟩⟩⟩⟩
  refine fz_l66 hc ?_ (H _ _ _ _ _ _ ?_ ?_ ?_ ?_)
  · intro d hd
    rw [ec, pk_us, pk_un (by omega)]
    exact hk d hd
  · intro d hd
    rw [ec, pk_un (by omega)]
  · rw [ec, pk_us]
  · intro d hd
    rw [ec, pk_un (by omega)]
  · rw [ec, pk_us]
theorem fz_abad {post : Int32 → St2 → Prop} {p0 : Int32} {c : Nat} (hc : c < 48) (h : p0 < 0 ∨ 15 < p0) (H : post (-1) (f1, nI c, f3, f4, f5, f6, f7, f8, f9, f10, f11, f12, f13, a1, a2, a3, a4, a5, a6, a7, a8, a9, a10, a11, a12, a13, a14, a15, a16, a17, a18, a19, a20, a21, a22, a23, a24, a25, a26, a27, a28, a29, a30, a31, a32, a33, a34, a35)) :
    wpX_atom post (f1, nI c, f3, f4, f5, f6, f7, f8, f9, f10, f11, f12, f13, a1, a2, a3, a4, a5, a6, a7, a8, a9, a10, a11, a12, a13, a14, a15, a16, a17, a18, a19, a20, a21, a22, a23, a24, a25, a26, a27, a28, a29, a30, a31, a32, a33, a34, a35) p0 := by
  refine br_t (nI_lt (b := 48) hc (by decide)) ?_
  by_cases h0 : p0 < 0
  · exact br_t h0 H
  · exact br_f h0 (br_f (fun z => Int32.not_le.mpr (h.resolve_left h0) z) H)
theorem fz_agood {post : Int32 → St2 → Prop} {p0 : Int32} {c : Nat} (hc : c < 48) (h0 : ¬ p0 < 0) (h1 : ¬ 15 < p0) (hk : ∀ d, d < c → ¬ (0 : Int32).toInt8.toInt32 = a1 d)
    (H : ∀ b1 b2 b3 b4 b5 b6 : Nat → Int32, (∀ d, d < c → b1 d = a1 d) → b1 c = (0 : Int32).toInt8.toInt32 → (∀ d, d < c → b4 d = a4 d) → b4 c = (1 : Int32).toInt8.toInt32 →
      post (nI c) (f1, nI (c + 1), f3, f4, f5, f6, f7, f8, f9, f10, f11, f12, f13, b1, b2, b3, b4, b5, b6, a7, a8, a9, a10, a11, a12, a13, a14, a15, a16, a17, a18, a19, a20, a21, a22, a23, a24, a25, a26, a27, a28, a29, a30, a31, a32, a33, a34, a35)) :
    wpX_atom post (f1, nI c, f3, f4, f5, f6, f7, f8, f9, f10, f11, f12, f13, a1, a2, a3, a4, a5, a6, a7, a8, a9, a10, a11, a12, a13, a14, a15, a16, a17, a18, a19, a20, a21, a22, a23, a24, a25, a26, a27, a28, a29, a30, a31, a32, a33, a34, a35) p0 :=
  br_t (nI_lt (b := 48) hc (by decide)) (br_f h0 (br_t (Int32.not_lt.mp h1) (fz_new hc hk H)))
theorem fz_vbad {post : Int32 → St2 → Prop} {p0 : Int32} {c : Nat} (hc : c < 48) (h : p0 < 0 ∨ f1 ≤ p0) (H : post (-1) (f1, nI c, f3, f4, f5, f6, f7, f8, f9, f10, f11, f12, f13, a1, a2, a3, a4, a5, a6, a7, a8, a9, a10, a11, a12, a13, a14, a15, a16, a17, a18, a19, a20, a21, a22, a23, a24, a25, a26, a27, a28, a29, a30, a31, a32, a33, a34, a35)) :
    wpX_variable post (f1, nI c, f3, f4, f5, f6, f7, f8, f9, f10, f11, f12, f13, a1, a2, a3, a4, a5, a6, a7, a8, a9, a10, a11, a12, a13, a14, a15, a16, a17, a18, a19, a20, a21, a22, a23, a24, a25, a26, a27, a28, a29, a30, a31, a32, a33, a34, a35) p0 := by
  refine br_t (nI_lt (b := 48) hc (by decide)) ?_
  by_cases h0 : p0 < 0
  · exact br_t h0 H
  · exact br_f h0 (br_f (fun z => Int32.not_lt.mpr (h.resolve_left h0) z) H)
theorem fz_vgood {post : Int32 → St2 → Prop} {p0 : Int32} {c : Nat} (hc : c < 48) (h0 : ¬ p0 < 0) (h1 : ¬ f1 ≤ p0) (hk : ∀ d, d < c → ¬ (1 : Int32).toInt8.toInt32 = a1 d)
    (H : ∀ b1 b2 b3 b4 b5 b6 : Nat → Int32, (∀ d, d < c → b1 d = a1 d) → b1 c = (1 : Int32).toInt8.toInt32 → (∀ d, d < c → b4 d = a4 d) → b4 c = (1 : Int32).toInt8.toInt32 →
      post (nI c) (f1, nI (c + 1), f3, f4, f5, f6, f7, f8, f9, f10, f11, f12, f13, b1, b2, b3, b4, b5, b6, a7, a8, a9, a10, a11, a12, a13, a14, a15, a16, a17, a18, a19, a20, a21, a22, a23, a24, a25, a26, a27, a28, a29, a30, a31, a32, a33, a34, a35)) :
    wpX_variable post (f1, nI c, f3, f4, f5, f6, f7, f8, f9, f10, f11, f12, f13, a1, a2, a3, a4, a5, a6, a7, a8, a9, a10, a11, a12, a13, a14, a15, a16, a17, a18, a19, a20, a21, a22, a23, a24, a25, a26, a27, a28, a29, a30, a31, a32, a33, a34, a35) p0 :=
  br_t (nI_lt (b := 48) hc (by decide)) (br_f h0 (br_t (Int32.not_le.mp h1) (fz_new hc hk H)))
theorem fz_isF {post : Int32 → Prop} {p0 : Int32} (h : p0 < 0 ∨ f2 ≤ p0) (H : post 0) : wpX_isCell post (f1, f2, f3, f4, f5, f6, f7, f8, f9, f10, f11, f12, f13, a1, a2, a3, a4, a5, a6, a7, a8, a9, a10, a11, a12, a13, a14, a15, a16, a17, a18, a19, a20, a21, a22, a23, a24, a25, a26, a27, a28, a29, a30, a31, a32, a33, a34, a35) p0 := by
  by_cases h0 : p0 < 0
  · exact br_t h0 H
  · exact br_f h0 (br_t (h.resolve_left h0) H)
theorem fz_isT {post : Int32 → Prop} {p0 : Int32} (h0 : ¬ p0 < 0) (h1 : ¬ f2 ≤ p0) (H : post 1) : wpX_isCell post (f1, f2, f3, f4, f5, f6, f7, f8, f9, f10, f11, f12, f13, a1, a2, a3, a4, a5, a6, a7, a8, a9, a10, a11, a12, a13, a14, a15, a16, a17, a18, a19, a20, a21, a22, a23, a24, a25, a26, a27, a28, a29, a30, a31, a32, a33, a34, a35) p0 :=
  br_f h0 (br_f h1 H)
theorem fz_pbad {post : Int32 → St2 → Prop} {p0 p1 : Int32} {c : Nat} (hc : c < 48) (h : (p0 < 0 ∨ nI c ≤ p0) ∨ (p1 < 0 ∨ nI c ≤ p1)) (H : post (-1) (f1, nI c, f3, f4, f5, f6, f7, f8, f9, f10, f11, f12, f13, a1, a2, a3, a4, a5, a6, a7, a8, a9, a10, a11, a12, a13, a14, a15, a16, a17, a18, a19, a20, a21, a22, a23, a24, a25, a26, a27, a28, a29, a30, a31, a32, a33, a34, a35)) :
    wpX_pair post (f1, nI c, f3, f4, f5, f6, f7, f8, f9, f10, f11, f12, f13, a1, a2, a3, a4, a5, a6, a7, a8, a9, a10, a11, a12, a13, a14, a15, a16, a17, a18, a19, a20, a21, a22, a23, a24, a25, a26, a27, a28, a29, a30, a31, a32, a33, a34, a35) p0 p1 := by
  refine br_t (nI_lt (b := 48) hc (by decide)) ?_
  by_cases h0 : p0 < 0 ∨ nI c ≤ p0
  · exact fz_isF h0 (br_t rfl H)
  · exact fz_isT (fun z => h0 (Or.inl z)) (fun z => h0 (Or.inr z)) (br_f (by decide) (fz_isF (h.resolve_left h0) (br_t rfl H)))
theorem fz_pgood {post : Int32 → St2 → Prop} {c i j : Nat} (hc : c < 48) (hi : i < c) (hj : j < c) (ei : a4 i = 1) (ej : a4 j = 1) (hk : ∀ d, d < c → ¬ (2 : Int32).toInt8.toInt32 = a1 d)
    (H : ∀ b1 b2 b3 b4 b5 b6 : Nat → Int32, post (nI c) (f1, nI (c + 1), f3, f4, f5, f6, f7, f8, f9, f10, f11, f12, f13, b1, b2, b3, b4, b5, b6, a7, a8, a9, a10, a11, a12, a13, a14, a15, a16, a17, a18, a19, a20, a21, a22, a23, a24, a25, a26, a27, a28, a29, a30, a31, a32, a33, a34, a35)) :
    wpX_pair post (f1, nI c, f3, f4, f5, f6, f7, f8, f9, f10, f11, f12, f13, a1, a2, a3, a4, a5, a6, a7, a8, a9, a10, a11, a12, a13, a14, a15, a16, a17, a18, a19, a20, a21, a22, a23, a24, a25, a26, a27, a28, a29, a30, a31, a32, a33, a34, a35) (nI i) (nI j) := by
  refine br_t (nI_lt (b := 48) hc (by decide)) (fz_isT (nI_pos (by omega)) (nI_ge hi (by omega)) (br_f (by decide) (fz_isT (nI_pos (by omega)) (nI_ge hj (by omega)) (br_f (by decide) ⟨pk_in i 48 (by omega), pk_in j 48 (by omega), nm_r (e' := (3 : Int32)) ?_ (br_t (by decide) ⟨pk_in i 48 (by omega), pk_in j 48 (by omega), fz_new hc hk (fun b1 b2 b3 b4 b5 b6 _ _ _ _ => H b1 b2 b3 b4 b5 b6)⟩)⟩))))
  rw [nI_clamp (by omega), nI_clamp (by omega), ei, ej]
  decide
theorem fz_fgt {post : Int32 → St2 → Prop} (H : post f3 (f1, f2, 0, 0, 0, f6, f7, f8, f9, f10, f11, 0, f13, a1, a2, a3, a4, a5, a6, a7, a8, a9, a10, a11, a12, a13, a14, a15, a16, a17, a18, a19, a20, a21, a22, a23, a24, a25, a26, a27, a28, a29, a30, a31, a32, a33, a34, a35)) : wpX_forget post (f1, f2, f3, f4, f5, f6, f7, f8, f9, f10, f11, f12, f13, a1, a2, a3, a4, a5, a6, a7, a8, a9, a10, a11, a12, a13, a14, a15, a16, a17, a18, a19, a20, a21, a22, a23, a24, a25, a26, a27, a28, a29, a30, a31, a32, a33, a34, a35) := H
theorem fz_l17 {post : Int32 → St2 → Prop} {x1 : Int32} (H : ∀ b7 : Nat → Int32, post x1 (f1, f2, f3, f4, f5, f6, f7, f8, f9, f10, f11, f12, f13, a1, a2, a3, a4, a5, a6, b7, a8, a9, a10, a11, a12, a13, a14, a15, a16, a17, a18, a19, a20, a21, a22, a23, a24, a25, a26, a27, a28, a29, a30, a31, a32, a33, a34, a35)) :
    ∃ n, wX_clear_17 post x1 f1 f2 f3 f4 f5 f6 f7 f8 f9 f10 f11 f12 f13 n 0 a1 a2 a3 a4 a5 a6 a7 a8 a9 a10 a11 a12 a13 a14 a15 a16 a17 a18 a19 a20 a21 a22 a23 a24 a25 a26 a27 a28 a29 a30 a31 a32 a33 a34 a35 :=
  pk_loop (fun n i s => wX_clear_17 post x1 f1 f2 f3 f4 f5 f6 f7 f8 f9 f10 f11 f12 f13 n (nI i) a1 a2 a3 a4 a5 a6 s a8 a9 a10 a11 a12 a13 a14 a15 a16 a17 a18 a19 a20 a21 a22 a23 a24 a25 a26 a27 a28 a29 a30 a31 a32 a33 a34 a35) (fun _ _ => True) 4 0 a7 (by omega) trivial
    (fun n s _ => pk_le 4 4 (fun _ => H s) (fun z => absurd z (by omega)))
    (fun n i s hi _ hw => pk_le 4 i (fun z => absurd z (by omega)) (fun _ => ⟨pk_in i 4 hi, nm_e (nm_r (nI_1 i) (hw _ trivial))⟩))
theorem fz_clear {post : Int32 → St2 → Prop} (H : ∀ b7 : Nat → Int32, post f2 (f1, 0, 0, 0, 0, f6, f7, f8, f9, f10, f11, 0, f13, a1, a2, a3, a4, a5, a6, b7, a8, a9, a10, a11, a12, a13, a14, a15, a16, a17, a18, a19, a20, a21, a22, a23, a24, a25, a26, a27, a28, a29, a30, a31, a32, a33, a34, a35)) : wpX_clear post (f1, f2, f3, f4, f5, f6, f7, f8, f9, f10, f11, f12, f13, a1, a2, a3, a4, a5, a6, a7, a8, a9, a10, a11, a12, a13, a14, a15, a16, a17, a18, a19, a20, a21, a22, a23, a24, a25, a26, a27, a28, a29, a30, a31, a32, a33, a34, a35) := by
  unfold wpX_clear
  dsimp only
  exact fz_fgt (fz_l17 H)
end
theorem fz_init {post : St2 → Prop} {x0 z0 : Int32} (hz : (1 ≤ x0 ∧ x0 ≤ 6 ∧ z0 = x0) ∨ (1 ≤ x0 ∧ ¬ x0 ≤ 6 ∧ z0 = 6) ∨ (¬ 1 ≤ x0 ∧ z0 = 1))
    (H : post (z0, 0, 0, 0, 0, 0, 0, 0, 0, 0, 0, 0, 0, (fun _ => 0), (fun _ => 0), (fun _ => 0), (fun _ => 0), (fun _ => 0), (fun _ => 0), (fun _ => 0), (fun _ => 0), (fun _ => 0), (fun _ => 0), (fun _ => 0), (fun _ => 0), (fun _ => 0), (fun _ => 0), (fun _ => 0), (fun _ => 0), (fun _ => 0), (fun _ => 0), (fun _ => 0), (fun _ => 0), (fun _ => 0), (fun _ => 0), (fun _ => 0), (fun _ => 0), (fun _ => 0), (fun _ => 0), (fun _ => 0), (fun _ => 0), (fun _ => 0), (fun _ => 0), (fun _ => 0), (fun _ => 0), (fun _ => 0), (fun _ => 0), (fun _ => 0))) : wpX_init post 35 6454 (0, 0, 0, 0, 0, 0, 0, 0, 0, 0, 0, 0, 0) x0 := by
  have G : (1 ≤ x0 → (x0 ≤ 6 → post (x0, 0, 0, 0, 0, 0, 0, 0, 0, 0, 0, 0, 0, (fun _ => 0), (fun _ => 0), (fun _ => 0), (fun _ => 0), (fun _ => 0), (fun _ => 0), (fun _ => 0), (fun _ => 0), (fun _ => 0), (fun _ => 0), (fun _ => 0), (fun _ => 0), (fun _ => 0), (fun _ => 0), (fun _ => 0), (fun _ => 0), (fun _ => 0), (fun _ => 0), (fun _ => 0), (fun _ => 0), (fun _ => 0), (fun _ => 0), (fun _ => 0), (fun _ => 0), (fun _ => 0), (fun _ => 0), (fun _ => 0), (fun _ => 0), (fun _ => 0), (fun _ => 0), (fun _ => 0), (fun _ => 0), (fun _ => 0), (fun _ => 0), (fun _ => 0))) ∧ (¬ x0 ≤ 6 → post (6, 0, 0, 0, 0, 0, 0, 0, 0, 0, 0, 0, 0, (fun _ => 0), (fun _ => 0), (fun _ => 0), (fun _ => 0), (fun _ => 0), (fun _ => 0), (fun _ => 0), (fun _ => 0), (fun _ => 0), (fun _ => 0), (fun _ => 0), (fun _ => 0), (fun _ => 0), (fun _ => 0), (fun _ => 0), (fun _ => 0), (fun _ => 0), (fun _ => 0), (fun _ => 0), (fun _ => 0), (fun _ => 0), (fun _ => 0), (fun _ => 0), (fun _ => 0), (fun _ => 0), (fun _ => 0), (fun _ => 0), (fun _ => 0), (fun _ => 0), (fun _ => 0), (fun _ => 0), (fun _ => 0), (fun _ => 0), (fun _ => 0), (fun _ => 0)))) ∧ (¬ 1 ≤ x0 → post (1, 0, 0, 0, 0, 0, 0, 0, 0, 0, 0, 0, 0, (fun _ => 0), (fun _ => 0), (fun _ => 0), (fun _ => 0), (fun _ => 0), (fun _ => 0), (fun _ => 0), (fun _ => 0), (fun _ => 0), (fun _ => 0), (fun _ => 0), (fun _ => 0), (fun _ => 0), (fun _ => 0), (fun _ => 0), (fun _ => 0), (fun _ => 0), (fun _ => 0), (fun _ => 0), (fun _ => 0), (fun _ => 0), (fun _ => 0), (fun _ => 0), (fun _ => 0), (fun _ => 0), (fun _ => 0), (fun _ => 0), (fun _ => 0), (fun _ => 0), (fun _ => 0), (fun _ => 0), (fun _ => 0), (fun _ => 0), (fun _ => 0), (fun _ => 0))) := by
    rcases hz with ⟨h1, h2, e⟩ | ⟨h1, h2, e⟩ | ⟨h1, e⟩
    · subst e; exact br_t h1 (br_t h2 H)
    · subst e; exact br_t h1 (br_f h2 H)
    · subst e; exact br_f h1 H
  exact ⟨by decide, by decide, by decide, by decide, by decide, by decide, by decide, by decide, by decide, by decide, by decide, by decide, by decide, by decide, by decide, by decide, by decide, by decide, by decide, by decide, by decide, by decide, by decide, by decide, by decide, by decide, by decide, by decide, by decide, by decide, by decide, by decide, by decide, by decide, by decide, by decide, by decide, by decide, by decide, by decide, by decide, by decide, by decide, by decide, by decide, by decide, by decide, by decide, by decide, by decide, by decide, by decide, by decide, by decide, by decide, by decide, by decide, by decide, by decide, by decide, by decide, by decide, by decide, by decide, by decide, by decide, by decide, by decide, by decide, by decide, G⟩
end
section
/-! ===== the law, from its end to its beginning; the picture: c cells, their kinds below k, their sizes 1 ===== -/
def fz_P (c k : Nat) (a1 a4 : Nat → Int32) : Prop := ∀ d, d < c → (∃ j, j < k ∧ a1 d = nI j) ∧ a4 d = 1
theorem fz_P_ne {c k : Nat} {a1 a4 : Nat → Int32} {x : Int32} (hk : k ≤ 3) (h : fz_P c k a1 a4) (hx : x = nI k) : ∀ d, d < c → ¬ x = a1 d := by
  intro d hd e
  obtain ⟨j, hj, e2⟩ := (h d hd).1
  rw [hx, e2] at e
  have := (nI_eq (by omega) (by omega)).mp e
  omega
theorem fz_P_up {c k : Nat} {a1 a4 : Nat → Int32} (h : fz_P c k a1 a4) : fz_P c (k + 1) a1 a4 := by
  intro d hd
  obtain ⟨⟨j, hj, e⟩, e4⟩ := h d hd
  exact ⟨⟨j, by omega, e⟩, e4⟩
theorem fz_P_add {c k : Nat} {a1 a4 b1 b4 : Nat → Int32} {x y : Int32} (h : fz_P c k a1 a4) (h1 : ∀ d, d < c → b1 d = a1 d) (hx : b1 c = x) (h4 : ∀ d, d < c → b4 d = a4 d) (hy : b4 c = y) (ex : x = nI k) (ey : y = 1) :
    fz_P (c + 1) (k + 1) b1 b4 := by
  intro d hd
  by_cases e : d = c
  · subst e
    exact ⟨⟨k, by omega, hx.trans ex⟩, hy.trans ey⟩
  · have hd' : d < c := by omega
    obtain ⟨⟨j, hj, e1⟩, e4⟩ := h d hd'
    exact ⟨⟨j, by omega, (h1 d hd').trans e1⟩, (h4 d hd').trans e4⟩
section
variable {f1 f2 f3 f4 f5 f6 f7 f8 f9 f10 f11 f12 f13 : Int32} {a1 a2 a3 a4 a5 a6 a7 a8 a9 a10 a11 a12 a13 a14 a15 a16 a17 a18 a19 a20 a21 a22 a23 a25 a26 a27 a28 a29 a30 a31 a32 a33 a34 a35 : Nat → Int32} {a24 : Nat → Int64}
variable {post : Int32 → St0 → Prop} {mc ms kc ks : Nat} {x1 x2 x3 x4 : Int32} {c : Nat}
theorem fz_202 (H : post 1 ()) : wL_lawOf_202 post mc ms x3 x4 (nI c) kc ks f1 (nI c) f3 f4 f5 f6 f7 f8 f9 f10 f11 f12 f13 a1 a2 a3 a4 a5 a6 a7 a8 a9 a10 a11 a12 a13 a14 a15 a16 a17 a18 a19 a20 a21 a22 a23 a24 a25 a26 a27 a28 a29 a30 a31 a32 a33 a34 a35 := by
  unfold wL_lawOf_202
  refine fz_clear (fun b7 => br_t rfl (fz_pbad (c := 0) (by decide) (Or.inl ?_) (br_t rfl H)))
  by_cases h : x3 < 0
  · exact Or.inl h
  · exact Or.inr (Int32.not_lt.mp h)
theorem fz_189b (H : post 1 ()) : wL_lawOf_189 post mc ms x3 x4 (nI c) 0 (-1) (-1) kc ks f1 (nI c) f3 f4 f5 f6 f7 f8 f9 f10 f11 f12 f13 a1 a2 a3 a4 a5 a6 a7 a8 a9 a10 a11 a12 a13 a14 a15 a16 a17 a18 a19 a20 a21 a22 a23 a24 a25 a26 a27 a28 a29 a30 a31 a32 a33 a34 a35 :=
  br_t rfl (br_t rfl (fz_202 H))
theorem fz_189g (H : post 1 ()) : wL_lawOf_189 post mc ms x3 x4 (nI c) 1 (nI c) (nI c) kc ks f1 (nI (c + 1)) f3 f4 f5 f6 f7 f8 f9 f10 f11 f12 f13 a1 a2 a3 a4 a5 a6 a7 a8 a9 a10 a11 a12 a13 a14 a15 a16 a17 a18 a19 a20 a21 a22 a23 a24 a25 a26 a27 a28 a29 a30 a31 a32 a33 a34 a35 :=
  br_t rfl (br_f (by decide) (nm_r (nI_1 c) (fz_202 H)))
theorem fz_168b (H : post 1 ()) (hc : c < 48) (h : (x3 < 0 ∨ nI c ≤ x3) ∨ (x4 < 0 ∨ nI c ≤ x4)) : wL_lawOf_168 post mc ms x3 x4 (nI c) 0 kc ks f1 (nI c) f3 f4 f5 f6 f7 f8 f9 f10 f11 f12 f13 a1 a2 a3 a4 a5 a6 a7 a8 a9 a10 a11 a12 a13 a14 a15 a16 a17 a18 a19 a20 a21 a22 a23 a24 a25 a26 a27 a28 a29 a30 a31 a32 a33 a34 a35 := by
  unfold wL_lawOf_168
  exact fz_pbad hc h (br_t rfl (fz_189b H))
theorem fz_168g (H : post 1 ()) (hc : c < 48) (hP : fz_P c 2 a1 a4) {i j : Nat} (hi : i < c) (hj : j < c) : wL_lawOf_168 post mc ms (nI i) (nI j) (nI c) 1 kc ks f1 (nI c) f3 f4 f5 f6 f7 f8 f9 f10 f11 f12 f13 a1 a2 a3 a4 a5 a6 a7 a8 a9 a10 a11 a12 a13 a14 a15 a16 a17 a18 a19 a20 a21 a22 a23 a24 a25 a26 a27 a28 a29 a30 a31 a32 a33 a34 a35 := by
  unfold wL_lawOf_168
  exact fz_pgood hc hi hj (hP i hi).2 (hP j hj).2 (fz_P_ne (by decide) hP (by decide)) (fun b1 b2 b3 b4 b5 b6 => br_f (by decide) (fz_189g H))
theorem fz_167 (H : post 1 ()) (hc : c < 48) (h : (x3 < 0 ∨ nI c ≤ x3) ∨ (x4 < 0 ∨ nI c ≤ x4)) : wL_lawOf_167 post mc ms x3 x4 (nI c) kc ks f1 (nI c) f3 f4 f5 f6 f7 f8 f9 f10 f11 f12 f13 a1 a2 a3 a4 a5 a6 a7 a8 a9 a10 a11 a12 a13 a14 a15 a16 a17 a18 a19 a20 a21 a22 a23 a24 a25 a26 a27 a28 a29 a30 a31 a32 a33 a34 a35 := by
  unfold wL_lawOf_167
  exact fz_168b H hc h
theorem fz_141 (H : post 1 ()) (hc : c < 48) (hP : fz_P c 2 a1 a4) : wL_lawOf_141 post mc ms x3 x4 (nI c) kc ks f1 (nI c) f3 f4 f5 f6 f7 f8 f9 f10 f11 f12 f13 a1 a2 a3 a4 a5 a6 a7 a8 a9 a10 a11 a12 a13 a14 a15 a16 a17 a18 a19 a20 a21 a22 a23 a24 a25 a26 a27 a28 a29 a30 a31 a32 a33 a34 a35 := by
  unfold wL_lawOf_141
  refine br_c (fun h1 => fz_167 H hc (Or.inl (Or.inl h1))) (fun h1 => br_c (fun h2 => fz_167 H hc (Or.inl (Or.inr h2))) (fun h2 => br_c (fun h3 => fz_167 H hc (Or.inr (Or.inl h3))) (fun h3 => br_c (fun h4 => fz_167 H hc (Or.inr (Or.inr h4))) (fun h4 => ?_))))
  obtain ⟨i, hi, e3⟩ := ((pk_ix x3 (n := c) (by omega)).resolve_left h1).resolve_left h2
  obtain ⟨j, hj, e4⟩ := ((pk_ix x4 (n := c) (by omega)).resolve_left h3).resolve_left h4
  subst e3 e4
  exact fz_168g H hc hP hi hj
theorem fz_128b (H : post 1 ()) (hc : c < 48) (hP : fz_P c 2 a1 a4) : wL_lawOf_128 post mc ms x3 x4 (nI c) 0 (-1) (-1) kc ks f1 (nI c) f3 f4 f5 f6 f7 f8 f9 f10 f11 f12 f13 a1 a2 a3 a4 a5 a6 a7 a8 a9 a10 a11 a12 a13 a14 a15 a16 a17 a18 a19 a20 a21 a22 a23 a24 a25 a26 a27 a28 a29 a30 a31 a32 a33 a34 a35 :=
  br_t rfl (br_t rfl (fz_141 H hc hP))
theorem fz_128g (H : post 1 ()) (hc : c + 1 < 48) (hP : fz_P (c + 1) 2 a1 a4) : wL_lawOf_128 post mc ms x3 x4 (nI c) 1 (nI c) (nI c) kc ks f1 (nI (c + 1)) f3 f4 f5 f6 f7 f8 f9 f10 f11 f12 f13 a1 a2 a3 a4 a5 a6 a7 a8 a9 a10 a11 a12 a13 a14 a15 a16 a17 a18 a19 a20 a21 a22 a23 a24 a25 a26 a27 a28 a29 a30 a31 a32 a33 a34 a35 :=
  br_t rfl (br_f (by decide) (nm_r (nI_1 c) (fz_141 H hc hP)))
theorem fz_109b (H : post 1 ()) (hc : c < 48) (hP : fz_P c 1 a1 a4) (h : x2 < 0 ∨ f1 ≤ x2) : wL_lawOf_109 post mc ms x2 x3 x4 (nI c) 0 kc ks f1 (nI c) f3 f4 f5 f6 f7 f8 f9 f10 f11 f12 f13 a1 a2 a3 a4 a5 a6 a7 a8 a9 a10 a11 a12 a13 a14 a15 a16 a17 a18 a19 a20 a21 a22 a23 a24 a25 a26 a27 a28 a29 a30 a31 a32 a33 a34 a35 := by
  unfold wL_lawOf_109
  exact fz_vbad hc h (br_t rfl (fz_128b H hc (fz_P_up hP)))
theorem fz_109g (H : post 1 ()) (hc : c + 1 < 48) (hP : fz_P c 1 a1 a4) (h0 : ¬ x2 < 0) (h1 : ¬ f1 ≤ x2) : wL_lawOf_109 post mc ms x2 x3 x4 (nI c) 1 kc ks f1 (nI c) f3 f4 f5 f6 f7 f8 f9 f10 f11 f12 f13 a1 a2 a3 a4 a5 a6 a7 a8 a9 a10 a11 a12 a13 a14 a15 a16 a17 a18 a19 a20 a21 a22 a23 a24 a25 a26 a27 a28 a29 a30 a31 a32 a33 a34 a35 := by
  unfold wL_lawOf_109
  exact fz_vgood (by omega) h0 h1 (fz_P_ne (by decide) hP (by decide)) (fun b1 b2 b3 b4 b5 b6 h1 hx h4 hy => br_f (by decide) (fz_128g H hc (fz_P_add hP h1 hx h4 hy (by decide) (by decide))))
theorem fz_108 (H : post 1 ()) (hc : c < 48) (hP : fz_P c 1 a1 a4) (h : x2 < 0 ∨ f1 ≤ x2) : wL_lawOf_108 post mc ms x2 x3 x4 (nI c) kc ks f1 (nI c) f3 f4 f5 f6 f7 f8 f9 f10 f11 f12 f13 a1 a2 a3 a4 a5 a6 a7 a8 a9 a10 a11 a12 a13 a14 a15 a16 a17 a18 a19 a20 a21 a22 a23 a24 a25 a26 a27 a28 a29 a30 a31 a32 a33 a34 a35 := by
  unfold wL_lawOf_108
  exact fz_109b H hc hP h
theorem fz_94 (H : post 1 ()) (hc : c + 1 < 48) (hP : fz_P c 1 a1 a4) : wL_lawOf_94 post mc ms x2 x3 x4 f1 (nI c) kc ks f1 (nI c) f3 f4 f5 f6 f7 f8 f9 f10 f11 f12 f13 a1 a2 a3 a4 a5 a6 a7 a8 a9 a10 a11 a12 a13 a14 a15 a16 a17 a18 a19 a20 a21 a22 a23 a24 a25 a26 a27 a28 a29 a30 a31 a32 a33 a34 a35 := by
  unfold wL_lawOf_94
  exact br_c (fun h => fz_108 H (by omega) hP (Or.inl h)) (fun h => br_c (fun h1 => fz_108 H (by omega) hP (Or.inr h1)) (fun h1 => fz_109g H hc hP h h1))
theorem fz_81b (H : post 1 ()) (hc : c + 1 < 48) (hP : fz_P c 1 a1 a4) : wL_lawOf_81 post mc ms x2 x3 x4 f1 (nI c) 0 (-1) (-1) kc ks f1 (nI c) f3 f4 f5 f6 f7 f8 f9 f10 f11 f12 f13 a1 a2 a3 a4 a5 a6 a7 a8 a9 a10 a11 a12 a13 a14 a15 a16 a17 a18 a19 a20 a21 a22 a23 a24 a25 a26 a27 a28 a29 a30 a31 a32 a33 a34 a35 :=
  br_t rfl (br_t rfl (fz_94 H hc hP))
theorem fz_81g (H : post 1 ()) (hP : fz_P 1 1 a1 a4) : wL_lawOf_81 post mc ms x2 x3 x4 f1 (nI 0) 1 0 (nI 0) kc ks f1 (nI (0 + 1)) f3 f4 f5 f6 f7 f8 f9 f10 f11 f12 f13 a1 a2 a3 a4 a5 a6 a7 a8 a9 a10 a11 a12 a13 a14 a15 a16 a17 a18 a19 a20 a21 a22 a23 a24 a25 a26 a27 a28 a29 a30 a31 a32 a33 a34 a35 :=
  br_t rfl (br_f (by decide) (nm_r (nI_1 0) (fz_94 H (by decide) hP)))
theorem fz_63b (H : post 1 ()) (h : x1 < 0 ∨ 15 < x1) : wL_lawOf_63 post mc ms x1 x2 x3 x4 f1 (nI 0) 0 kc ks f1 (nI 0) f3 f4 f5 f6 f7 f8 f9 f10 f11 f12 f13 a1 a2 a3 a4 a5 a6 a7 a8 a9 a10 a11 a12 a13 a14 a15 a16 a17 a18 a19 a20 a21 a22 a23 a24 a25 a26 a27 a28 a29 a30 a31 a32 a33 a34 a35 := by
  unfold wL_lawOf_63
  exact fz_abad (by decide) h (br_t rfl (fz_81b H (by decide) (fun d hd => absurd hd (by omega))))
theorem fz_63g (H : post 1 ()) (h0 : ¬ x1 < 0) (h1 : ¬ 15 < x1) : wL_lawOf_63 post mc ms x1 x2 x3 x4 f1 (nI 0) 1 kc ks f1 (nI 0) f3 f4 f5 f6 f7 f8 f9 f10 f11 f12 f13 a1 a2 a3 a4 a5 a6 a7 a8 a9 a10 a11 a12 a13 a14 a15 a16 a17 a18 a19 a20 a21 a22 a23 a24 a25 a26 a27 a28 a29 a30 a31 a32 a33 a34 a35 := by
  unfold wL_lawOf_63
  exact fz_agood (by decide) h0 h1 (fun d hd => absurd hd (by omega)) (fun b1 b2 b3 b4 b5 b6 h1 hx h4 hy => br_f (by decide) (fz_81g H (fz_P_add (a1 := a1) (a4 := a4) (fun d hd => absurd hd (by omega)) h1 hx h4 hy (by decide) (by decide))))
theorem fz_62 (H : post 1 ()) (h : x1 < 0 ∨ 15 < x1) : wL_lawOf_62 post mc ms x1 x2 x3 x4 f1 (nI 0) kc ks f1 (nI 0) f3 f4 f5 f6 f7 f8 f9 f10 f11 f12 f13 a1 a2 a3 a4 a5 a6 a7 a8 a9 a10 a11 a12 a13 a14 a15 a16 a17 a18 a19 a20 a21 a22 a23 a24 a25 a26 a27 a28 a29 a30 a31 a32 a33 a34 a35 := by
  unfold wL_lawOf_62
  exact fz_63b H h
end
theorem fz_21 {post : Int32 → St0 → Prop} {x0 x1 x2 x3 x4 z0 : Int32} (hz : (1 ≤ x0 ∧ x0 ≤ 6 ∧ z0 = x0) ∨ (1 ≤ x0 ∧ ¬ x0 ≤ 6 ∧ z0 = 6) ∨ (¬ 1 ≤ x0 ∧ z0 = 1)) (H : post 1 ()) :
    wL_lawOf_21 post 36 6502 x0 x1 x2 x3 x4 z0 0 0 := by
  unfold wL_lawOf_21
  refine ⟨by decide, by decide, 35, 6454, by decide, by decide, fz_init hz (fz_sol (br_t rfl ?_))⟩
  exact br_c (fun h => fz_62 H (Or.inl h)) (fun h => br_c (fun h1 => fz_62 H (Or.inr h1)) (fun h1 => fz_63g H h h1))
theorem fz_lawOf {post : Int32 → St0 → Prop} {x0 x1 x2 x3 x4 : Int32} (H : post 1 ()) : wpL_lawOf post 36 6502 () x0 x1 x2 x3 x4 :=
  br_c (fun h1 => br_c (fun h2 => fz_21 (Or.inl ⟨h1, h2, rfl⟩) H) (fun h2 => fz_21 (Or.inr (Or.inl ⟨h1, h2, rfl⟩)) H)) (fun h1 => fz_21 (Or.inr (Or.inr ⟨h1, rfl⟩)) H)
theorem fz_cell {post : Int32 → Prop} {L : Nat} {xs : Nat → Int32} {p : Int32} (i : Nat) (hL : L ≤ 5) (hi : i < 5) (H : ∀ r, post r) (hp : p = nI i := by rfl) : wpL_cellAt post L xs () p :=
  pk_le L i (fun _ => H _) (fun z => ⟨pk_in i L z hp, H _⟩) (by rfl) hp
theorem i_vc (xs : Nat → Int32) (L : Nat) (hL : L ≤ 5) : wpL_law (fun r => r = 1) L xs := by
  unfold wpL_law
  exact fz_cell 0 hL (by decide) (fun r1 => fz_cell 1 hL (by decide) (fun r2 => fz_cell 2 hL (by decide) (fun r3 => fz_cell 3 hL (by decide) (fun r4 => fz_cell 4 hL (by decide) (fun r5 => ⟨36, 6502, by decide, by decide, fz_lawOf rfl⟩)))))
end
