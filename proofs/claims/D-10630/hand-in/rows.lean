section
/-- every place of the array of 18 holds a number of a flow -/
def mt_R (a : Nat → Int32) : Prop := ∀ j, j < 18 → vp_in (a j) 18
theorem mt_cl {x : Int32} (h : vp_in x 18) : x.toNatClampNeg < 18 := Nat.lt_of_not_le (fun z => h (Or.inr z))
theorem mt_at {a : Nat → Int32} {x : Int32} (h : mt_R a) (hx : vp_in x 18) : vp_in (a x.toNatClampNeg) 18 := h _ (mt_cl hx)
theorem mt_v {i : Nat} (h : i < 18) : vp_in (nI i) 18 := vp_in_nI h (by decide)
theorem mt_v0 : vp_in 0 18 := mt_v (i := 0) (by decide)
theorem mt_R0 : mt_R (fun _ => 0) := fun _ _ => mt_v0
theorem mt_Ru {a : Nat → Int32} {j : Nat} {x : Int32} (h : mt_R a) (hx : vp_in x 18) : mt_R (upd a j x) := by
  intro i hi
  by_cases e : i = j
  · rw [e, pk_us]; exact hx
  · rw [pk_un e]; exact h i hi
theorem mt_m1 (i : Nat) : nI i + (-1) = nI i - 1 := by rw [Int32.sub_eq_add_neg]
theorem mt_combine {post : Int32 → Prop} {u : St0} {p0 p1 p2 p3 : Int32} (H : ∀ r, post r) : wpX_combine post u p0 p1 p2 p3 := by
  unfold wpX_combine
  exact ⟨fun _ => ⟨fun _ => H _, fun _ => H _⟩, fun _ => ⟨fun _ => ⟨fun _ => H _, fun _ => H _⟩, fun _ => ⟨fun _ => H _, fun _ => ⟨fun _ => H _, fun _ => ⟨fun _ => H _, fun _ => ⟨fun _ => ⟨fun _ => H _, fun _ => H _⟩, fun _ => trivial⟩⟩⟩⟩⟩⟩
theorem mt_f113 {post : St2 → Prop} {x1 x2 : Int32} {c : Int32} {a1 a2 a3 a4 a5 a6 a7 a8 a9 a10 a11 a12 a13 a14 a15 : Nat → Int32} (h1 : vp_in x1 18) (h2 : mt_R a2) (h3 : mt_R a3) (h4 : mt_R a4)
    (H : ∀ b8 b9, post (c, a1, a2, a3, a4, a5, a6, a7, b8, b9, a10, a11, a12, a13, a14, a15)) : wX_fold_113 post x1 x2 c a1 a2 a3 a4 a5 a6 a7 a8 a9 a10 a11 a12 a13 a14 a15 := by
  unfold wX_fold_113
  exact ⟨h1, fun _ => H _ _, fun _ => ⟨h1, mt_at h2 h1, fun _ _ => ⟨h1, mt_at h3 h1, fun _ _ => ⟨h1, mt_at h4 h1, fun _ _ => ⟨fun _ => ⟨h1, h1, fun _ _ => H _ _⟩, fun _ => mt_combine (fun _ => ⟨h1, fun _ _ => H _ _⟩)⟩⟩⟩⟩⟩
theorem mt_f112 {post : St2 → Prop} {x1 x2 z0 z1 : Int32} {c : Int32} {a1 a2 a3 a4 a5 a6 a7 a8 a9 a10 a11 a12 a13 a14 a15 : Nat → Int32} (h1 : vp_in x1 18) (hz : vp_in z1 18) (h2 : mt_R a2) (h3 : mt_R a3) (h4 : mt_R a4)
    (H : ∀ b8 b9, post (c, a1, a2, a3, a4, a5, a6, a7, b8, b9, a10, a11, a12, a13, a14, a15)) : wX_fold_112 post x1 x2 z0 z1 c a1 a2 a3 a4 a5 a6 a7 a8 a9 a10 a11 a12 a13 a14 a15 := by
  unfold wX_fold_112
  exact ⟨hz, fun _ _ => mt_f113 h1 h2 h3 h4 H⟩
theorem mt_f111 {post : St2 → Prop} {x1 x2 z0 : Int32} {c : Int32} {a1 a2 a3 a4 a5 a6 a7 a8 a9 a10 a11 a12 a13 a14 a15 : Nat → Int32} (h1 : vp_in x1 18) (hz : vp_in z0 18) (h2 : mt_R a2) (h3 : mt_R a3) (h4 : mt_R a4)
    (H : ∀ b8 b9, post (c, a1, a2, a3, a4, a5, a6, a7, b8, b9, a10, a11, a12, a13, a14, a15)) : wX_fold_111 post x1 x2 z0 c a1 a2 a3 a4 a5 a6 a7 a8 a9 a10 a11 a12 a13 a14 a15 := by
  unfold wX_fold_111
  exact mt_f112 h1 hz h2 h3 h4 H
theorem mt_f72 {post : St2 → Prop} {x1 x2 z0 z1 : Int32} {c : Int32} {a1 a2 a3 a4 a5 a6 a7 a8 a9 a10 a11 a12 a13 a14 a15 : Nat → Int32} (h1 : vp_in x1 18) (hz : vp_in z1 18) (h2 : mt_R a2) (h3 : mt_R a3) (h4 : mt_R a4)
    (H : ∀ b8 b9, post (c, a1, a2, a3, a4, a5, a6, a7, b8, b9, a10, a11, a12, a13, a14, a15)) : wX_fold_72 post x1 x2 z0 z1 c a1 a2 a3 a4 a5 a6 a7 a8 a9 a10 a11 a12 a13 a14 a15 := by
  unfold wX_fold_72
  exact ⟨hz, fun _ _ => ⟨fun _ => ⟨h1, fun _ => mt_f111 h1 h1 h2 h3 h4 H, fun _ => ⟨h1, mt_at h4 h1, fun _ => mt_f111 h1 h1 h2 h3 h4 H, fun _ => mt_f112 h1 h1 h2 h3 h4 H⟩⟩, fun _ => mt_f113 h1 h2 h3 h4 H⟩⟩
theorem mt_f71 {post : St2 → Prop} {x1 x2 z0 : Int32} {c : Int32} {a1 a2 a3 a4 a5 a6 a7 a8 a9 a10 a11 a12 a13 a14 a15 : Nat → Int32} (h1 : vp_in x1 18) (hz : vp_in z0 18) (h2 : mt_R a2) (h3 : mt_R a3) (h4 : mt_R a4)
    (H : ∀ b8 b9, post (c, a1, a2, a3, a4, a5, a6, a7, b8, b9, a10, a11, a12, a13, a14, a15)) : wX_fold_71 post x1 x2 z0 c a1 a2 a3 a4 a5 a6 a7 a8 a9 a10 a11 a12 a13 a14 a15 := by
  unfold wX_fold_71
  exact mt_f72 h1 hz h2 h3 h4 H
theorem mt_f22 {post : St2 → Prop} {x1 x2 z0 z1 : Int32} {c : Int32} {a1 a2 a3 a4 a5 a6 a7 a8 a9 a10 a11 a12 a13 a14 a15 : Nat → Int32} (h1 : vp_in x1 18) (hz : vp_in z1 18) (h2 : mt_R a2) (h3 : mt_R a3) (h4 : mt_R a4)
    (H : ∀ b8 b9, post (c, a1, a2, a3, a4, a5, a6, a7, b8, b9, a10, a11, a12, a13, a14, a15)) : wX_fold_22 post x1 x2 z0 z1 c a1 a2 a3 a4 a5 a6 a7 a8 a9 a10 a11 a12 a13 a14 a15 := by
  unfold wX_fold_22
  exact ⟨hz, fun _ _ => ⟨fun _ => mt_f113 h1 h2 h3 h4 H, fun _ => ⟨fun _ => mt_f113 h1 h2 h3 h4 H, fun _ => ⟨h1, mt_at h2 h1, fun _ => mt_f71 h1 h1 h2 h3 h4 H, fun _ => ⟨h1, mt_at h3 h1, fun _ => mt_f71 h1 h1 h2 h3 h4 H, fun _ => mt_f72 h1 h1 h2 h3 h4 H⟩⟩⟩⟩⟩
/-- fold: any flow in range; it changes constant and folded alone -/
theorem mt_fold {post : St2 → Prop} {p0 : Int32} {c : Int32} {a1 a2 a3 a4 a5 a6 a7 a8 a9 a10 a11 a12 a13 a14 a15 : Nat → Int32} (h1 : vp_in p0 18) (h2 : mt_R a2) (h3 : mt_R a3) (h4 : mt_R a4)
    (H : ∀ b8 b9, post (c, a1, a2, a3, a4, a5, a6, a7, b8, b9, a10, a11, a12, a13, a14, a15)) : wpX_fold post (c, a1, a2, a3, a4, a5, a6, a7, a8, a9, a10, a11, a12, a13, a14, a15) p0 := by
  unfold wpX_fold
  exact ⟨h1, fun _ _ => ⟨fun _ => mt_f22 h1 h1 h2 h3 h4 H, fun _ => mt_f22 h1 h1 h2 h3 h4 H⟩⟩
theorem mt_alike {post : Int32 → Prop} {p0 p1 : Int32} {c : Int32} {a1 a2 a3 a4 a5 a6 a7 a8 a9 a10 a11 a12 a13 a14 a15 : Nat → Int32} (h0 : vp_in p0 18) (h1 : vp_in p1 18) (h2 : mt_R a2) (h3 : mt_R a3) (h4 : mt_R a4)
    (H : ∀ r, post r) : wpX_definedAlike post (c, a1, a2, a3, a4, a5, a6, a7, a8, a9, a10, a11, a12, a13, a14, a15) p0 p1 := by
  unfold wpX_definedAlike
  exact ⟨h1, fun _ _ => ⟨h0, fun _ => ⟨h0, fun _ => ⟨fun _ => ⟨h0, h1, fun _ => H _, fun _ => H _⟩, fun _ => ⟨h0, mt_at h2 h0, h1, mt_at h2 h1, fun _ => ⟨h0, mt_at h3 h0, h1, mt_at h3 h1, fun _ => ⟨fun _ => ⟨h0, mt_at h4 h0, h1, mt_at h4 h1, fun _ => H _, fun _ => H _⟩, fun _ => H _⟩, fun _ => H _⟩, fun _ => H _⟩⟩, fun _ => H _⟩, fun _ => H _⟩⟩
theorem mt_s50 {post : St2 → Prop} {x2 : Int32} {c : Int32} {a1 a2 a3 a4 a5 a6 a7 a8 a9 a11 a12 a13 a14 a15 : Nat → Int32} (hx : vp_in x2 18) (h2 : mt_R a2) (h3 : mt_R a3) (h4 : mt_R a4) (h7 : mt_R a7)
    (H : ∀ b10, post (c, a1, a2, a3, a4, a5, a6, a7, a8, a9, b10, a11, a12, a13, a14, a15)) (i : Nat) : i ≤ 18 → ∀ b10, wX_share_50 post x2 c (i + 1) (nI i - 1) a1 a2 a3 a4 a5 a6 a7 a8 a9 b10 a11 a12 a13 a14 a15 := by
  induction i with
  | zero => exact fun _ b10 => br_t (by decide) (H b10)
  | succ i ih =>
    intro hi b10
    rw [nI_pred]
    have hv : vp_in (nI i) 18 := mt_v (by omega)
    refine br_f (nI_pos (by omega)) ⟨hv, mt_alike (mt_at h7 hv) hx h2 h3 h4 (fun r => ⟨fun _ => nm_r (mt_m1 i) (ih (by omega) _), fun _ => ⟨hv, hx, nm_e (nm_r (mt_m1 i) (ih (by omega) _))⟩⟩)⟩
/-- share: any place in range; it changes shared alone -/
theorem mt_share {post : St2 → Prop} {i : Nat} {c : Int32} {a1 a2 a3 a4 a5 a6 a7 a8 a9 a10 a11 a12 a13 a14 a15 : Nat → Int32} (hi : i < 18) (h2 : mt_R a2) (h3 : mt_R a3) (h4 : mt_R a4) (h7 : mt_R a7)
    (H : ∀ b10, post (c, a1, a2, a3, a4, a5, a6, a7, a8, a9, b10, a11, a12, a13, a14, a15)) : wpX_share post (c, a1, a2, a3, a4, a5, a6, a7, a8, a9, a10, a11, a12, a13, a14, a15) (nI i) := by
  unfold wpX_share
  have hv : vp_in (nI i) 18 := mt_v hi
  have hf := mt_at h7 hv
  exact ⟨hv, nm_e ⟨hf, nm_e ⟨hf, fun _ => H _, fun _ => ⟨hf, fun _ => H _, fun _ => ⟨hf, fun _ => nm_e ⟨i + 1, mt_s50 hf h2 h3 h4 h7 H i (by omega) _⟩, fun _ => H _⟩⟩⟩⟩⟩
theorem mt_ready {post : Int32 → Prop} {p0 p1 : Int32} {c : Int32} {a1 a2 a3 a4 a5 a6 a7 a8 a9 a10 a11 a12 a13 a14 a15 : Nat → Int32} (h0 : vp_in p0 18) (H : ∀ r, post r) : wpX_readyToPlace post (c, a1, a2, a3, a4, a5, a6, a7, a8, a9, a10, a11, a12, a13, a14, a15) p0 p1 := by
  unfold wpX_readyToPlace
  exact ⟨fun _ => ⟨h0, fun _ => H _, fun _ => H _⟩, fun _ => H _⟩
theorem mt_c54 {post : St2 → Prop} {c : Int32} {a1 a2 a3 a4 a5 a6 a7 a11 a12 a13 a14 a15 : Nat → Int32} (h2 : mt_R a2) (h3 : mt_R a3) (h4 : mt_R a4) (h7 : mt_R a7)
    (H : ∀ b8 b9 b10, post (c, a1, a2, a3, a4, a5, a6, a7, b8, b9, b10, a11, a12, a13, a14, a15)) (k : Nat) : ∀ i, i + k = 18 → ∀ b8 b9 b10, wX_compile_54 post (k + 1) (nI i) c a1 a2 a3 a4 a5 a6 a7 b8 b9 b10 a11 a12 a13 a14 a15 := by
  induction k with
  | zero =>
    intro i hi b8 b9 b10
    have e : i = 18 := by omega
    subst e
    exact br_t (by decide) (H _ _ _)
  | succ k ih =>
    intro i hi b8 b9 b10
    have hv : vp_in (nI i) 18 := mt_v (by omega)
    exact br_f (nI_ge (b := 18) (by omega) (by decide)) ⟨hv, mt_fold (mt_at h7 hv) h2 h3 h4 (fun c8 c9 => mt_share (by omega) h2 h3 h4 h7 (fun c10 => nm_r (nI_1 i) (ih (i + 1) (by omega) c8 c9 c10)))⟩
theorem mt_c33 {post : St2 → Prop} {J4 : Int32 → Int32 → (Nat → Int32) → (Nat → Int32) → (Nat → Int32) → (Nat → Int32) → (Nat → Int32) → (Nat → Int32) → (Nat → Int32) → (Nat → Int32) → (Nat → Int32) → (Nat → Int32) → (Nat → Int32) → (Nat → Int32) → (Nat → Int32) → (Nat → Int32) → (Nat → Int32) → Prop} {x1 x3 : Int32} {i : Nat} {c : Int32} {a1 a2 a3 a4 a5 a6 a7 a8 a9 a10 a11 a12 a13 a14 a15 : Nat → Int32} (hi : i < 18)
    (HJ : ∀ y, J4 y (nI (i + 1)) a1 a2 a3 a4 a5 a6 (upd a7 i x3) a8 a9 a10 a11 a12 a13 a14 a15) : wX_compile_33 post J4 x1 (nI i) x3 c a1 a2 a3 a4 a5 a6 a7 a8 a9 a10 a11 a12 a13 a14 a15 := by
  unfold wX_compile_33
  rw [nI_clamp (show i < 2 ^ 31 by omega)]
  exact ⟨mt_v hi, nm_e (nm_e (nm_r (nI_1 i) (HJ _)))⟩
theorem mt_c12 {post : St2 → Prop} {J4 : Int32 → Int32 → (Nat → Int32) → (Nat → Int32) → (Nat → Int32) → (Nat → Int32) → (Nat → Int32) → (Nat → Int32) → (Nat → Int32) → (Nat → Int32) → (Nat → Int32) → (Nat → Int32) → (Nat → Int32) → (Nat → Int32) → (Nat → Int32) → (Nat → Int32) → (Nat → Int32) → Prop} {x1 : Int32} {i : Nat} {c : Int32} {a1 a2 a3 a4 a5 a6 a7 a8 a9 a10 a11 a12 a13 a14 a15 : Nat → Int32} (hi : i < 18)
    (HJ : ∀ y f, f < 18 → J4 y (nI (i + 1)) a1 a2 a3 a4 a5 a6 (upd a7 i (nI f)) a8 a9 a10 a11 a12 a13 a14 a15) (k : Nat) : ∀ f, f + k = 17 → wX_compile_12 post J4 x1 (nI i) c a1 a2 a3 a4 a5 a6 a7 a8 a9 a10 a11 a12 a13 a14 a15 (k + 1) (nI f) := by
  induction k with
  | zero =>
    intro f hf
    have e : f = 17 := by omega
    subst e
    exact br_t (by decide) (mt_c33 hi (fun y => HJ y 17 (by decide)))
  | succ k ih =>
    intro f hf
    exact br_f (nI_ge (b := 17) (by omega) (by decide)) (mt_ready (mt_v (by omega)) (fun r => ⟨fun _ => nm_r (nI_1 f) (ih (f + 1) (by omega)), fun _ => mt_c33 hi (fun y => HJ y f (by omega))⟩))
theorem mt_c4 {post : St2 → Prop} {c : Int32} {a1 a2 a3 a4 a5 a6 a8 a9 a10 a11 a12 a13 a14 a15 : Nat → Int32} (h2 : mt_R a2) (h3 : mt_R a3) (h4 : mt_R a4)
    (H : ∀ b7 b8 b9 b10, post (c, a1, a2, a3, a4, a5, a6, b7, b8, b9, b10, a11, a12, a13, a14, a15)) (k : Nat) : ∀ i, i + k = 18 → ∀ x b7, (∀ j, j < i → vp_in (b7 j) 18) → wX_compile_4 post c (k + 1) x (nI i) a1 a2 a3 a4 a5 a6 b7 a8 a9 a10 a11 a12 a13 a14 a15 := by
  induction k with
  | zero =>
    intro i hi x b7 h7
    have e : i = 18 := by omega
    subst e
    exact br_t (by decide) ⟨19, mt_c54 h2 h3 h4 h7 (H b7) 18 0 rfl _ _ _⟩
  | succ k ih =>
    intro i hi x b7 h7
    refine br_f (nI_ge (b := 18) (by omega) (by decide)) ⟨18, mt_c12 (by omega) (fun y f hf => ih (i + 1) (by omega) y _ (fun j hj => ?_)) 17 0 rfl⟩
    by_cases e : j = i
    · rw [e, pk_us]; exact mt_v hf
    · rw [pk_un e]; exact h7 j (by omega)
/-- compile: it ends, and changes order, constant, folded and shared alone -/
theorem mt_compile {post : St2 → Prop} {c : Int32} {a1 a2 a3 a4 a5 a6 a7 a8 a9 a10 a11 a12 a13 a14 a15 : Nat → Int32} (h2 : mt_R a2) (h3 : mt_R a3) (h4 : mt_R a4)
    (H : ∀ b7 b8 b9 b10, post (c, a1, a2, a3, a4, a5, a6, b7, b8, b9, b10, a11, a12, a13, a14, a15)) : wpX_compile post (c, a1, a2, a3, a4, a5, a6, a7, a8, a9, a10, a11, a12, a13, a14, a15) := by
  unfold wpX_compile
  exact ⟨19, mt_c4 h2 h3 h4 H 18 0 rfl 0 a7 (fun j hj => absurd hj (by omega))⟩
end
section
theorem mt_i125 {post : St2 → Prop} {mc ms kc ks : Nat} {c : Int32} {a2 a3 a4 a5 a6 a7 a8 a9 a10 a11 a12 a14 a15 : Nat → Int32} (h2 : mt_R a2) (h3 : mt_R a3) (h4 : mt_R a4)
    (H : ∀ b1 b7 b8 b9 b10 b13, (∀ j, j < 18 → b1 j = 1) → post (c, b1, a2, a3, a4, a5, a6, b7, b8, b9, b10, a11, a12, b13, a14, a15)) (k : Nat) : ∀ i, i + k = 18 → ∀ b1 b13, (∀ j, j < i → b1 j = 1) → wX_init_125 post mc ms kc ks c (k + 1) (nI i) b1 a2 a3 a4 a5 a6 a7 a8 a9 a10 a11 a12 b13 a14 a15 := by
  induction k with
  | zero =>
    intro i hi b1 b13 h1
    have e : i = 18 := by omega
    subst e
    exact br_t (by decide) (mt_compile h2 h3 h4 (fun b7 b8 b9 b10 => H b1 b7 b8 b9 b10 b13 h1))
  | succ k ih =>
    intro i hi b1 b13 h1
    have hv : vp_in (nI i) 18 := mt_v (by omega)
    refine br_f (nI_ge (b := 18) (by omega) (by decide)) ⟨hv, nm_e ⟨hv, nm_e (nm_r (nI_1 i) (ih (i + 1) (by omega) _ _ (fun j hj => ?_)))⟩⟩
    rw [nI_clamp (show i < 2 ^ 31 by omega)]
    by_cases e : j = i
    · rw [e, pk_us]
    · rw [pk_un e]; exact h1 j (by omega)
/-- the constructor: kinds all 1; operands, numbers, needs, inputs, memories, values all 0 -/
theorem mt_init {post : St2 → Prop} {mc ms : Nat} {c : Int32} (hc : 15 ≤ mc) (hs : 256 ≤ ms)
    (H : ∀ b1 b7 b8 b9 b10 b13, (∀ j, j < 18 → b1 j = 1) → post (c, b1, (fun _ => 0), (fun _ => 0), (fun _ => 0), (fun _ => 0), (fun _ => 0), b7, b8, b9, b10, (fun _ => 0), (fun _ => 0), b13, (fun _ => 0), (fun _ => 0))) : wpX_init post mc ms c := by
  unfold wpX_init
  refine ⟨by omega, by omega, by omega, by omega, by omega, by omega, by omega, by omega, by omega, by omega, by omega, by omega, by omega, by omega, by omega, by omega, by omega, by omega, by omega, by omega, by omega, by omega, by omega, by omega, by omega, by omega, by omega, by omega, by omega, by omega, 19, ?_⟩
  exact mt_i125 mt_R0 mt_R0 mt_R0 H 18 0 rfl _ _ (fun j hj => absurd hj (by omega))
end
section
/-- how many of the lowest n bits of m are set -/
def mt_cnt (m : Nat) : Nat → Nat
  | 0 => 0
  | n + 1 => mt_cnt m n + m / 2 ^ n % 2
/-- the operands that the kind names don't stand in range -/
def mt_bad (k a b s : Nat) : Prop := (2 ≤ k ∧ 18 ≤ a) ∨ (2 ≤ k ∧ k ≤ 6 ∧ 18 ≤ b) ∨ ((k = 6 ∨ k = 8) ∧ 18 ≤ s)
/-- the operands needed at the same instant, as a bit set -/
def mt_set (k a b s : Nat) : Nat := if k = 7 ∨ k < 2 then 0 else if k = 6 then (2 ^ a ||| 2 ^ b) ||| 2 ^ s else if k = 8 then 2 ^ a ||| 2 ^ s else 2 ^ a ||| 2 ^ b
theorem mt_smod : ∀ n, n < 32 → ((nI n &&& 31).toBitVec.smod 32).toNat = n := by decide +kernel
theorem mt_shl : ∀ n, n < 32 → (1 : Int32) <<< (nI n &&& 31) = nI (2 ^ n) := by decide +kernel
theorem mt_or (a b : Nat) : nI a ||| nI b = nI (a ||| b) := by
  apply Int32.toBitVec_inj.1
  show BitVec.ofNat 32 a ||| BitVec.ofNat 32 b = BitVec.ofNat 32 (a ||| b)
  apply BitVec.eq_of_getLsbD_eq
  intro i hi
  simp [hi]
theorem mt_bit {m i : Nat} (hm : m < 2 ^ 31) (hi : i < 32) : (nI m >>> (nI i &&& 31)) &&& 1 = nI (m / 2 ^ i % 2) := by
  rw [pk_shrN hm (nI i &&& 31) i (mt_smod i hi)]
  have h : m / 2 ^ i ≤ m := Nat.div_le_self _ _
  exact pk_andN (n := m / 2 ^ i) (by omega) (m := 1) 1 (by decide)
theorem mt_bit1 {m i : Nat} (hm : m < 2 ^ 31) (hi : i < 32) : (nI m >>> (nI i &&& 31)) &&& 1 = 1 ↔ m.testBit i = true := by
  rw [mt_bit hm hi, Nat.testBit_eq_decide_div_mod_eq, decide_eq_true_iff]
  have h : m / 2 ^ i % 2 < 2 := Nat.mod_lt _ (by decide)
  exact nI_eq (b := 1) (by omega) (by decide)
theorem mt_pw {a : Nat} (h : a < 18) : 2 ^ a < 2 ^ 18 := Nat.pow_lt_pow_right (by decide) h
theorem mt_set_lt {k a b s : Nat} (hk : k ≤ 8) (h : ¬ mt_bad k a b s) : mt_set k a b s < 2 ^ 18 := by
  unfold mt_bad at h
  unfold mt_set
  by_cases h7 : k = 7 ∨ k < 2
  · rw [if_pos h7]; decide
  · rw [if_neg h7]
    by_cases h6 : k = 6
    · rw [if_pos h6]
      exact Nat.or_lt_two_pow (Nat.or_lt_two_pow (mt_pw (by omega)) (mt_pw (by omega))) (mt_pw (by omega))
    · rw [if_neg h6]
      by_cases h8 : k = 8
      · rw [if_pos h8]
        exact Nat.or_lt_two_pow (mt_pw (by omega)) (mt_pw (by omega))
      · rw [if_neg h8]
        exact Nat.or_lt_two_pow (mt_pw (by omega)) (mt_pw (by omega))
theorem mt_own {k a b s f : Nat} (hk : k ≤ 8) : (mt_set k a b s).testBit f = true ↔ 2 ≤ k ∧ k ≠ 7 ∧ (a = f ∨ (k ≤ 6 ∧ b = f) ∨ ((k = 6 ∨ k = 8) ∧ s = f)) := by
  unfold mt_set
  by_cases h7 : k = 7 ∨ k < 2
  · rw [if_pos h7, Nat.zero_testBit]
    constructor
    · intro h; exact absurd h (by decide)
    · intro h; omega
  · rw [if_neg h7]
    by_cases h6 : k = 6
    · rw [if_pos h6, Nat.testBit_or, Nat.testBit_or, Nat.testBit_two_pow, Nat.testBit_two_pow, Nat.testBit_two_pow, Bool.or_eq_true, Bool.or_eq_true, decide_eq_true_iff, decide_eq_true_iff, decide_eq_true_iff]
      omega
    · rw [if_neg h6]
      by_cases h8 : k = 8
      · rw [if_pos h8, Nat.testBit_or, Nat.testBit_two_pow, Nat.testBit_two_pow, Bool.or_eq_true, decide_eq_true_iff, decide_eq_true_iff]
        omega
      · rw [if_neg h8, Nat.testBit_or, Nat.testBit_two_pow, Nat.testBit_two_pow, Bool.or_eq_true, decide_eq_true_iff, decide_eq_true_iff]
        omega
theorem mt_cnt0 : mt_cnt 0 18 = 0 := by decide +kernel
theorem mt_cnt2 : ∀ a, a < 18 → ∀ b, b < 18 → mt_cnt (2 ^ a ||| 2 ^ b) 18 = if b = a then 1 else 2 := by decide +kernel
theorem mt_cnt3 : ∀ a, a < 18 → ∀ b, b < 18 → ∀ s, s < 18 → mt_cnt ((2 ^ a ||| 2 ^ b) ||| 2 ^ s) 18 = 1 + (if b = a then 0 else 1) + (if s = a then 0 else if s = b then 0 else 1) := by decide +kernel
theorem mt_set0 {k a b s : Nat} (h : k = 7 ∨ k < 2) : mt_set k a b s = 0 := by
  unfold mt_set
  rw [if_pos h]
/-- the count of the set: the law's number -/
theorem mt_num {k a b s u w : Nat} (hk : k ≤ 8) (h2 : 2 ≤ k) (h7 : k ≠ 7) (h : ¬ mt_bad k a b s)
    (hu : (u = 1 ∧ k ≤ 6 ∧ b ≠ a) ∨ (u = 0 ∧ (6 < k ∨ b = a)))
    (hw : (w = 1 ∧ (k = 6 ∨ k = 8) ∧ s ≠ a ∧ (k = 8 ∨ s ≠ b)) ∨ (w = 0 ∧ ((k ≠ 6 ∧ k ≠ 8) ∨ s = a ∨ (k ≠ 8 ∧ s = b)))) :
    mt_cnt (mt_set k a b s) 18 = 1 + u + w := by
  unfold mt_bad at h
  unfold mt_set
  rw [if_neg (show ¬ (k = 7 ∨ k < 2) by omega)]
  by_cases h6 : k = 6
  · rw [if_pos h6, mt_cnt3 a (by omega) b (by omega) s (by omega)]
    by_cases e1 : b = a
    · rw [if_pos e1]
      by_cases e2 : s = a
      · rw [if_pos e2]; omega
      · rw [if_neg e2]
        by_cases e3 : s = b
        · rw [if_pos e3]; omega
        · rw [if_neg e3]; omega
    · rw [if_neg e1]
      by_cases e2 : s = a
      · rw [if_pos e2]; omega
      · rw [if_neg e2]
        by_cases e3 : s = b
        · rw [if_pos e3]; omega
        · rw [if_neg e3]; omega
  · rw [if_neg h6]
    by_cases h8 : k = 8
    · rw [if_pos h8, mt_cnt2 a (by omega) s (by omega)]
      by_cases e2 : s = a
      · rw [if_pos e2]; omega
      · rw [if_neg e2]; omega
    · rw [if_neg h8, mt_cnt2 a (by omega) b (by omega)]
      by_cases e2 : b = a
      · rw [if_pos e2]; omega
      · rw [if_neg e2]; omega
end
section
theorem mt_nA {post : Int32 → Prop} {k : Nat} (hk : k ≤ 8) (H0 : k < 2 → post 0) (H1 : 2 ≤ k → post 1) : wpX_namesA post () (nI k) := pk_lt k 2 H0 H1
theorem mt_nB {post : Int32 → Prop} {k : Nat} (hk : k ≤ 8) (H0 : ¬ (2 ≤ k ∧ k ≤ 6) → post 0) (H1 : 2 ≤ k → k ≤ 6 → post 1) : wpX_namesB post () (nI k) :=
  pk_lt k 2 (fun z => H0 (by omega)) (fun z => pk_lt 6 k (fun w => H0 (by omega)) (fun w => H1 z w))
theorem mt_nS {post : Int32 → Prop} {k : Nat} (hk : k ≤ 8) (H0 : k ≠ 6 → k ≠ 8 → post 0) (H1 : k = 6 ∨ k = 8 → post 1) : wpX_namesS post () (nI k) :=
  pk_eq k 6 (fun z => H1 (Or.inl z)) (fun z => pk_eq k 8 (fun w => H1 (Or.inr w)) (fun w => H0 z w))
theorem mt_off {post : Int32 → Prop} {a : Nat} (ha : a < 32) (H0 : a < 18 → post 0) (H1 : 18 ≤ a → post 1) : wpX_off post () (nI a) :=
  br_f (nI_pos (by omega)) (pk_lt a 18 H0 H1)
/-- no flow's number -/
def mt_Off (x : Int32) : Prop := x < 0 ∨ (¬ x < 0 ∧ ¬ x < 18 ∧ ¬ x ≤ 17)
theorem mt_offO {post : Int32 → Prop} {x : Int32} (h : mt_Off x) (H : post 1) : wpX_off post () x := by
  rcases h with h | ⟨h, h', _⟩
  · exact br_t h H
  · exact br_f h (br_f h' H)
theorem mt_b32 {post : Int32 → Prop} {k s : Nat} {c : Int32} {a1 a2 a3 a4 a5 a6 a7 a8 a9 a10 a11 a12 a13 a14 a15 : Nat → Int32} (hk : k ≤ 8) (hs : s < 32) (H0 : ¬ ((k = 6 ∨ k = 8) ∧ 18 ≤ s) → post 0) (H1 : (k = 6 ∨ k = 8) ∧ 18 ≤ s → post 1) :
    wX_badOperands_32 post (nI k) (nI s) c a1 a2 a3 a4 a5 a6 a7 a8 a9 a10 a11 a12 a13 a14 a15 := by
  unfold wX_badOperands_32
  exact mt_nS hk (fun z w => br_t rfl (H0 (by omega))) (fun z => br_f (by decide) (mt_off hs (fun w => br_t rfl (H0 (by omega))) (fun w => br_f (by decide) (H1 ⟨z, w⟩))))
theorem mt_b16 {post : Int32 → Prop} {k b s : Nat} {c : Int32} {a1 a2 a3 a4 a5 a6 a7 a8 a9 a10 a11 a12 a13 a14 a15 : Nat → Int32} (hk : k ≤ 8) (hb : b < 32) (hs : s < 32)
    (H0 : ¬ ((2 ≤ k ∧ k ≤ 6 ∧ 18 ≤ b) ∨ ((k = 6 ∨ k = 8) ∧ 18 ≤ s)) → post 0) (H1 : (2 ≤ k ∧ k ≤ 6 ∧ 18 ≤ b) ∨ ((k = 6 ∨ k = 8) ∧ 18 ≤ s) → post 1) :
    wX_badOperands_16 post (nI k) (nI b) (nI s) c a1 a2 a3 a4 a5 a6 a7 a8 a9 a10 a11 a12 a13 a14 a15 := by
  unfold wX_badOperands_16
  exact mt_nB hk (fun z => br_t rfl (mt_b32 hk hs (fun y => H0 (by omega)) (fun y => H1 (Or.inr y))))
    (fun z z' => br_f (by decide) (mt_off hb (fun w => br_t rfl (mt_b32 hk hs (fun y => H0 (by omega)) (fun y => H1 (Or.inr y)))) (fun w => br_f (by decide) (H1 (Or.inl ⟨z, z', w⟩)))))
theorem mt_badOp {post : Int32 → Prop} {k a b s : Nat} {c : Int32} {a1 a2 a3 a4 a5 a6 a7 a8 a9 a10 a11 a12 a13 a14 a15 : Nat → Int32} (hk : k ≤ 8) (ha : a < 32) (hb : b < 32) (hs : s < 32)
    (H0 : ¬ mt_bad k a b s → post 0) (H1 : mt_bad k a b s → post 1) :
    wpX_badOperands post (c, a1, a2, a3, a4, a5, a6, a7, a8, a9, a10, a11, a12, a13, a14, a15) (nI k) (nI a) (nI b) (nI s) := by
  unfold wpX_badOperands
  unfold mt_bad at H0 H1
  exact mt_nA hk (fun z => br_t rfl (mt_b16 hk hb hs (fun y => H0 (by omega)) (fun y => H1 (Or.inr y))))
    (fun z => br_f (by decide) (mt_off ha (fun w => br_t rfl (mt_b16 hk hb hs (fun y => H0 (by omega)) (fun y => H1 (Or.inr y)))) (fun w => br_f (by decide) (H1 (Or.inl ⟨z, w⟩)))))
theorem mt_add {m s : Nat} (hs : s < 32) : nI m ||| ((1 : Int32) <<< (nI s &&& 31)) = nI (m ||| 2 ^ s) := by rw [mt_shl s hs, mt_or]
theorem mt_o41 {post : Int32 → Prop} {k s m : Nat} (hk : k ≤ 8) (hs : s < 32) (H0 : k ≠ 6 → k ≠ 8 → post (nI m)) (H1 : k = 6 ∨ k = 8 → post (nI (m ||| 2 ^ s))) :
    wX_operandSet_41 post (nI k) (nI s) (nI m) := by
  unfold wX_operandSet_41
  exact mt_nS hk (fun z w => br_t rfl (H0 z w)) (fun z => br_f (by decide) (nm_r (mt_add hs) (H1 z)))
theorem mt_o26 {post : Int32 → Prop} {k b s m : Nat} (hk : k ≤ 8) (hb : b < 32) (hs : s < 32) (H0 : ¬ (2 ≤ k ∧ k ≤ 6) → k ≠ 8 → post (nI m)) (H1 : k = 8 → post (nI (m ||| 2 ^ s)))
    (H2 : 2 ≤ k → k < 6 → post (nI (m ||| 2 ^ b))) (H3 : k = 6 → post (nI ((m ||| 2 ^ b) ||| 2 ^ s))) :
    wX_operandSet_26 post (nI k) (nI b) (nI s) (nI m) := by
  unfold wX_operandSet_26
  exact mt_nB hk (fun z => br_t rfl (mt_o41 hk hs (fun y y' => H0 z y') (fun y => H1 (by omega))))
    (fun z z' => br_f (by decide) (nm_r (mt_add hb) (mt_o41 hk hs (fun y y' => H2 z (by omega)) (fun y => H3 (by omega)))))
theorem mt_opSet {post : Int32 → Prop} {k a b s : Nat} (hk : k ≤ 8) (ha : a < 32) (hb : b < 32) (hs : s < 32) (H : post (nI (mt_set k a b s))) :
    wpX_operandSet post () (nI k) (nI a) (nI b) (nI s) := by
  unfold wpX_operandSet
  refine pk_eq k 7 (fun z => ?_) (fun z => mt_nA hk (fun y => br_t rfl ?_) (fun y => br_f (by decide) ?_))
  · rw [mt_set0 (Or.inl z)] at H
    exact H
  · rw [mt_set0 (Or.inr y)] at H
    exact mt_o26 (m := 0) hk hb hs (fun _ _ => H) (fun w => absurd w (by omega)) (fun w => absurd w (by omega)) (fun w => absurd w (by omega))
  · have e : (0 : Int32) ||| ((1 : Int32) <<< (nI a &&& 31)) = nI (2 ^ a) := by rw [Int32.zero_or, mt_shl a ha]
    refine nm_r e (mt_o26 hk hb hs (fun w w' => absurd w (by omega)) (fun w => ?_) (fun w w' => ?_) (fun w => ?_))
    · have g : mt_set k a b s = 2 ^ a ||| 2 ^ s := by
        unfold mt_set
        rw [if_neg (by omega), if_neg (by omega), if_pos w]
      rw [← g]; exact H
    · have g : mt_set k a b s = 2 ^ a ||| 2 ^ b := by
        unfold mt_set
        rw [if_neg (by omega), if_neg (by omega), if_neg (by omega)]
      rw [← g]; exact H
    · have g : mt_set k a b s = (2 ^ a ||| 2 ^ b) ||| 2 ^ s := by
        unfold mt_set
        rw [if_neg (by omega), if_pos w]
      rw [← g]; exact H
theorem mt_c24 {post : Int32 → Prop} {J7 : Int32 → Int32 → Int32 → Prop} {x x4 : Int32} {c : Int32} {a1 a2 a3 a4 a5 a6 a7 a8 a9 a10 a11 a12 a13 a14 a15 : Nat → Int32} (hb : ∀ j, j < 18 → (x >>> (nI j &&& 31)) &&& 1 = 1 → a6 j = 0) (HJ : J7 x x (x4 + 1)) (k : Nat) :
    ∀ i, i + k = 18 → wX_closure_24 post J7 x x4 c a1 a2 a3 a4 a5 a6 a7 a8 a9 a10 a11 a12 a13 a14 a15 (k + 1) x (nI i) := by
  induction k with
  | zero =>
    intro i hi
    have e : i = 18 := by omega
    subst e
    exact br_t (by decide) (nm_e HJ)
  | succ k ih =>
    intro i hi
    have t := ih (i + 1) (by omega)
    refine br_f (nI_ge (b := 18) (by omega) (by decide)) (br_c (fun z => ⟨mt_v (by omega), nm_r ?_ (nm_r (nI_1 i) t)⟩) (fun z => nm_r (nI_1 i) t))
    rw [nI_clamp (show i < 2 ^ 31 by omega), hb i (by omega) z, Int32.or_zero]
/-- closure: a set whose flows need nothing is its own closure -/
theorem mt_closure {post : Int32 → Prop} {x : Int32} {c : Int32} {a1 a2 a3 a4 a5 a6 a7 a8 a9 a10 a11 a12 a13 a14 a15 : Nat → Int32} (hb : ∀ j, j < 18 → (x >>> (nI j &&& 31)) &&& 1 = 1 → a6 j = 0) (H : post x) : wpX_closure post (c, a1, a2, a3, a4, a5, a6, a7, a8, a9, a10, a11, a12, a13, a14, a15) x := by
  unfold wpX_closure
  exact ⟨2, br_f (by decide) (br_c (fun _ => H) (fun _ => ⟨19, mt_c24 hb (br_f (by decide) (br_t rfl H)) 18 0 rfl⟩))⟩
theorem mt_b4 {post : Int32 → Prop} {m : Nat} (hm : m < 2 ^ 31) (H : post (nI (mt_cnt m 18))) (k : Nat) : ∀ i, i + k = 18 → wX_bits_4 post (nI m) (k + 1) (nI (mt_cnt m i)) (nI i) := by
  induction k with
  | zero =>
    intro i hi
    have e : i = 18 := by omega
    subst e
    exact br_t (by decide) H
  | succ k ih =>
    intro i hi
    refine br_f (nI_ge (b := 18) (by omega) (by decide)) (nm_r ?_ (nm_r (nI_1 i) (ih (i + 1) (by omega))))
    rw [mt_bit hm (by omega), nI_add]
    rfl
theorem mt_bits {post : Int32 → Prop} {m : Nat} (hm : m < 2 ^ 31) (H : post (nI (mt_cnt m 18))) : wpX_bits post () (nI m) := by
  unfold wpX_bits
  exact ⟨19, mt_b4 hm H 18 0 rfl⟩
theorem mt_d161 {post : Int32 → St2 → Prop} {x4 x9 z0 : Int32} {f m : Nat} {c : Int32} {a1 a2 a3 a4 a5 a6 a7 a8 a9 a10 a11 a12 a13 a14 a15 : Nat → Int32} (hf : f < 18) (hm : m < 2 ^ 31) (hz : vp_in z0 18) (h2 : mt_R a2) (h3 : mt_R a3) (h4 : mt_R a4)
    (H : ∀ b4 b5 b7 b8 b9 b10 b13, post (nI (mt_cnt m 18)) (c, a1, a2, a3, b4, b5, upd a6 (nI f).toNatClampNeg x9, b7, b8, b9, b10, a11, a12, b13, a14, a15)) :
    wX_define_161 post (nI f) x4 x9 (nI m) z0 (nI f) c a1 a2 a3 a4 a5 a6 a7 a8 a9 a10 a11 a12 a13 a14 a15 := by
  unfold wX_define_161
  have hv : vp_in (nI f) 18 := mt_v hf
  exact ⟨hv, nm_e ⟨hv, nm_e ⟨hv, nm_e ⟨hv, nm_e (mt_compile h2 h3 (mt_Ru h4 hz) (fun b7 b8 b9 b10 => mt_bits hm (H _ _ b7 b8 b9 b10 _)))⟩⟩⟩⟩
theorem mt_d142 {post : Int32 → St2 → Prop} {x4 x9 z0 : Int32} {f k s m : Nat} {c : Int32} {a1 a2 a3 a4 a5 a6 a7 a8 a9 a10 a11 a12 a13 a14 a15 : Nat → Int32} (hf : f < 18) (hk : k ≤ 8) (hs : (k = 6 ∨ k = 8) → s < 18) (hm : m < 2 ^ 31) (hz : vp_in z0 18) (h2 : mt_R a2) (h3 : mt_R a3) (h4 : mt_R a4)
    (H : ∀ b3 b4 b5 b7 b8 b9 b10 b13, post (nI (mt_cnt m 18)) (c, a1, a2, b3, b4, b5, upd a6 (nI f).toNatClampNeg x9, b7, b8, b9, b10, a11, a12, b13, a14, a15)) :
    wX_define_142 post (nI f) (nI k) x4 (nI s) x9 (nI m) z0 (nI f) c a1 a2 a3 a4 a5 a6 a7 a8 a9 a10 a11 a12 a13 a14 a15 := by
  unfold wX_define_142
  exact ⟨mt_v hf, nm_e (mt_nS hk (fun z w => br_t rfl (mt_d161 hf hm mt_v0 h2 (mt_Ru h3 hz) h4 (H _))) (fun z => br_f (by decide) (mt_d161 hf hm (mt_v (hs z)) h2 (mt_Ru h3 hz) h4 (H _))))⟩
theorem mt_d123 {post : Int32 → St2 → Prop} {x4 x9 z0 : Int32} {f k b s m : Nat} {c : Int32} {a1 a2 a3 a4 a5 a6 a7 a8 a9 a10 a11 a12 a13 a14 a15 : Nat → Int32} (hf : f < 18) (hk : k ≤ 8) (hb : 2 ≤ k → k ≤ 6 → b < 18) (hs : (k = 6 ∨ k = 8) → s < 18) (hm : m < 2 ^ 31) (hz : vp_in z0 18) (h2 : mt_R a2) (h3 : mt_R a3) (h4 : mt_R a4)
    (H : ∀ b2 b3 b4 b5 b7 b8 b9 b10 b13, post (nI (mt_cnt m 18)) (c, a1, b2, b3, b4, b5, upd a6 (nI f).toNatClampNeg x9, b7, b8, b9, b10, a11, a12, b13, a14, a15)) :
    wX_define_123 post (nI f) (nI k) x4 (nI b) (nI s) x9 (nI m) z0 (nI f) c a1 a2 a3 a4 a5 a6 a7 a8 a9 a10 a11 a12 a13 a14 a15 := by
  unfold wX_define_123
  exact ⟨mt_v hf, nm_e (mt_nB hk (fun z => br_t rfl (mt_d142 hf hk hs hm mt_v0 (mt_Ru h2 hz) h3 h4 (H _))) (fun z z' => br_f (by decide) (mt_d142 hf hk hs hm (mt_v (hb z z')) (mt_Ru h2 hz) h3 h4 (H _))))⟩
theorem mt_defOff {post : Int32 → St2 → Prop} {p0 p1 p2 p3 : Int32} {c : Int32} {a1 a2 a3 a4 a5 a6 a7 a8 a9 a10 a11 a12 a13 a14 a15 : Nat → Int32} (h : mt_Off p0) (H : post (-1) (c, a1, a2, a3, a4, a5, a6, a7, a8, a9, a10, a11, a12, a13, a14, a15)) : wpX_define post (c, a1, a2, a3, a4, a5, a6, a7, a8, a9, a10, a11, a12, a13, a14, a15) p0 p1 p2 p3 := by
  unfold wpX_define
  exact mt_offO h (br_f (by decide) H)
theorem mt_defKind {post : Int32 → St2 → Prop} {p1 p2 p3 : Int32} {f : Nat} {c : Int32} {a1 a2 a3 a4 a5 a6 a7 a8 a9 a10 a11 a12 a13 a14 a15 : Nat → Int32} (hf : f < 18) (h : p1 < 0 ∨ (¬ p1 < 0 ∧ ¬ p1 ≤ 8)) (H : post (-2) (c, a1, a2, a3, a4, a5, a6, a7, a8, a9, a10, a11, a12, a13, a14, a15)) : wpX_define post (c, a1, a2, a3, a4, a5, a6, a7, a8, a9, a10, a11, a12, a13, a14, a15) (nI f) p1 p2 p3 := by
  unfold wpX_define
  refine mt_off (by omega) (fun _ => br_t rfl ?_) (fun z => absurd z (by omega))
  rcases h with h | ⟨h, h'⟩
  · exact br_t h H
  · exact br_f h (br_f h' H)
/-- define: flow and kind in range -/
theorem mt_def {post : Int32 → St2 → Prop} {p2 p3 : Int32} {f k a b s : Nat} {c : Int32} {a1 a2 a3 a4 a5 a6 a7 a8 a9 a10 a11 a12 a13 a14 a15 : Nat → Int32} (hf : f < 18) (hk : k ≤ 8) (ha : a < 32) (hb : b < 32) (hs : s < 32)
    (ea : p2 &&& 31 = nI a) (eb : (p2 >>> ((5 : Int32) &&& 31)) &&& 31 = nI b) (es : (p2 >>> ((10 : Int32) &&& 31)) &&& 31 = nI s)
    (h2 : mt_R a2) (h3 : mt_R a3) (h4 : mt_R a4) (h6 : ∀ j, a6 j = 0)
    (H1 : mt_bad k a b s → post (-1) (c, a1, a2, a3, a4, a5, a6, a7, a8, a9, a10, a11, a12, a13, a14, a15))
    (H3 : ¬ mt_bad k a b s → (mt_set k a b s).testBit f = true → post (-3) (c, a1, a2, a3, a4, a5, a6, a7, a8, a9, a10, a11, a12, a13, a14, a15))
    (H : ¬ mt_bad k a b s → ¬ (mt_set k a b s).testBit f = true → ∀ b2 b3 b4 b5 b7 b8 b9 b10 b13, post (nI (mt_cnt (mt_set k a b s) 18)) (c, upd a1 (nI f).toNatClampNeg (nI k), b2, b3, b4, b5, upd a6 (nI f).toNatClampNeg (nI (mt_set k a b s)), b7, b8, b9, b10, a11, a12, b13, a14, a15)) :
    wpX_define post (c, a1, a2, a3, a4, a5, a6, a7, a8, a9, a10, a11, a12, a13, a14, a15) (nI f) (nI k) p2 p3 := by
  unfold wpX_define
  refine mt_off (by omega) (fun _ => br_t rfl (br_f (nI_pos (by omega)) (br_t (nI_le (b := 8) hk (by decide)) (nm_r ea (nm_r eb (nm_r es ?_)))))) (fun z => absurd z (by omega))
  refine mt_badOp hk ha hb hs (fun hn => br_t rfl (mt_opSet hk ha hb hs (mt_closure (fun j _ _ => h6 j) ?_))) (fun hb => br_f (by decide) (H1 hb))
  have hm : mt_set k a b s < 2 ^ 18 := mt_set_lt hk hn
  have hm' : mt_set k a b s < 2 ^ 31 := by omega
  have hq := mt_bit1 (i := f) hm' (by omega)
  have hn' : ¬ ((2 ≤ k ∧ 18 ≤ a) ∨ (2 ≤ k ∧ k ≤ 6 ∧ 18 ≤ b) ∨ ((k = 6 ∨ k = 8) ∧ 18 ≤ s)) := hn
  refine br_c (fun z => H3 hn (hq.mp z)) (fun z => ⟨mt_v hf, nm_e (mt_nA hk (fun y => br_t rfl ?_) (fun y => br_f (by decide) ?_))⟩)
  · exact mt_d123 hf hk (by omega) (by omega) hm' mt_v0 h2 h3 h4 (H hn (fun w => z (hq.mpr w)))
  · exact mt_d123 hf hk (by omega) (by omega) hm' (mt_v (by omega)) h2 h3 h4 (H hn (fun w => z (hq.mpr w)))
end
section
theorem mt_kindO {post : Int32 → Prop} {x : Int32} {c : Int32} {a1 a2 a3 a4 a5 a6 a7 a8 a9 a10 a11 a12 a13 a14 a15 : Nat → Int32} (h : mt_Off x) (H : post (-1)) : wpX_kind post (c, a1, a2, a3, a4, a5, a6, a7, a8, a9, a10, a11, a12, a13, a14, a15) x := by
  unfold wpX_kind
  exact mt_offO h (br_f (by decide) H)
theorem mt_kind {post : Int32 → Prop} {f : Nat} {c : Int32} {a1 a2 a3 a4 a5 a6 a7 a8 a9 a10 a11 a12 a13 a14 a15 : Nat → Int32} (hf : f < 18) (H : post (a1 (nI f).toNatClampNeg)) : wpX_kind post (c, a1, a2, a3, a4, a5, a6, a7, a8, a9, a10, a11, a12, a13, a14, a15) (nI f) := by
  unfold wpX_kind
  exact mt_off (by omega) (fun _ => br_t rfl ⟨mt_v hf, H⟩) (fun z => absurd z (by omega))
theorem mt_in3 (x : Int32) : vp_in (x &&& 3) 4 := pk_andIn x 2 (by decide) (by decide)
theorem mt_input {post : Int32 → St2 → Prop} {p0 p1 : Int32} {c : Int32} {a1 a2 a3 a4 a5 a6 a7 a8 a9 a10 a11 a12 a13 a14 a15 : Nat → Int32} (H : post (a11 (p0 &&& 3).toNatClampNeg) (c, a1, a2, a3, a4, a5, a6, a7, a8, a9, a10, upd a11 (p0 &&& 3).toNatClampNeg p1, a12, a13, a14, a15)) : wpX_input post (c, a1, a2, a3, a4, a5, a6, a7, a8, a9, a10, a11, a12, a13, a14, a15) p0 p1 := by
  unfold wpX_input
  exact ⟨mt_in3 p0, nm_e ⟨mt_in3 p0, nm_e H⟩⟩
theorem mt_value {post : Int32 → Prop} {x : Int32} {c : Int32} {a1 a2 a3 a4 a5 a6 a7 a8 a9 a10 a11 a12 a13 a14 a15 : Nat → Int32} (hx : mt_Off x ∨ ∃ f, f < 18 ∧ x = nI f) (h : ∀ j, a15 j = 0) (H : post 0) : wpX_value post (c, a1, a2, a3, a4, a5, a6, a7, a8, a9, a10, a11, a12, a13, a14, a15) x := by
  unfold wpX_value
  rcases hx with hx | ⟨f, hf, rfl⟩
  · exact mt_offO hx (br_f (by decide) H)
  · exact mt_off (by omega) (fun _ => br_t rfl ⟨mt_v hf, by rw [h]; exact H⟩) (fun z => absurd z (by omega))
theorem mt_needsO {post : Int32 → Prop} {x y : Int32} {c : Int32} {a1 a2 a3 a4 a5 a6 a7 a8 a9 a10 a11 a12 a13 a14 a15 : Nat → Int32} (h : mt_Off x) (H : post 0) : wpX_needs post (c, a1, a2, a3, a4, a5, a6, a7, a8, a9, a10, a11, a12, a13, a14, a15) x y := by
  unfold wpX_needs
  exact mt_offO h (br_f (by decide) H)
/-- needs: the flow's own set m, whose flows need nothing -/
theorem mt_needs {post : Int32 → Prop} {f a m : Nat} {c : Int32} {a1 a2 a3 a4 a5 a6 a7 a8 a9 a10 a11 a12 a13 a14 a15 : Nat → Int32} (hf : f < 18) (ha : a < 32) (hm : m < 2 ^ 31) (e : a6 (nI f).toNatClampNeg = nI m) (h : ∀ j, j < 18 → m.testBit j = true → a6 j = 0)
    (H1 : a < 18 → m.testBit a = true → post 1) (H0 : ¬ (a < 18 ∧ m.testBit a = true) → post 0) : wpX_needs post (c, a1, a2, a3, a4, a5, a6, a7, a8, a9, a10, a11, a12, a13, a14, a15) (nI f) (nI a) := by
  unfold wpX_needs
  refine mt_off (by omega) (fun _ => br_t rfl ?_) (fun z => absurd z (by omega))
  refine mt_off ha (fun z => br_t rfl ⟨mt_v hf, ?_⟩) (fun z => br_f (by decide) (H0 (by omega)))
  rw [e]
  have hq := mt_bit1 (i := a) hm ha
  refine mt_closure (fun j hj w => h j hj ((mt_bit1 hm (by omega)).mp w)) (br_c (fun w => H1 z (hq.mp w)) (fun w => H0 (fun y => w (hq.mpr y.2))))
theorem mt_374 {mc ms kc ks : Nat} {x : Int32} : wL_lawOf_374 (fun r _ => r = 1) mc ms x x kc ks := br_t rfl rfl
/-- the law behind the kind: inputs, value, needs -/
theorem mt_317 {mc ms kc ks : Nat} {x0 x4 x5 x7 x12 z0 z1 : Int32} {c : Int32} {a1 a2 a3 a4 a5 a6 a7 a8 a9 a10 a11 a12 a13 a14 a15 : Nat → Int32} (hz : z1 = z0) (hx : mt_Off x0 ∨ ∃ f, f < 18 ∧ x0 = nI f) (h11 : ∀ j, a11 j = 0) (h15 : ∀ j, a15 j = 0)
    (HN : ∀ b11 (q : Int32 → Prop), (x12 ≤ 0 → q 0) → (¬ x12 ≤ 0 → q 1) → wpX_needs q (c, a1, a2, a3, a4, a5, a6, a7, a8, a9, a10, b11, a12, a13, a14, a15) x0 x7) :
    wL_lawOf_317 (fun r _ => r = 1) mc ms x0 x4 x5 x7 x12 z0 z1 kc ks c a1 a2 a3 a4 a5 a6 a7 a8 a9 a10 a11 a12 a13 a14 a15 := by
  unfold wL_lawOf_317
  refine br_t hz (mt_input (br_t (h11 _) (mt_input (br_t pk_us (mt_value hx h15 (br_t rfl (HN _ _ (fun h => ?_) (fun h => ?_))))))))
  · exact br_t h mt_374
  · exact br_f h mt_374
theorem mt_290O {mc ms kc ks : Nat} {x0 x1 x4 x5 x7 x12 : Int32} {c : Int32} {a1 a2 a3 a4 a5 a6 a7 a8 a9 a10 a11 a12 a13 a14 a15 : Nat → Int32} (hx : mt_Off x0) (h12 : x12 ≤ 0) (h11 : ∀ j, a11 j = 0) (h15 : ∀ j, a15 j = 0) :
    wL_lawOf_290 (fun r _ => r = 1) mc ms x0 x1 x4 x5 x7 x12 1 kc ks c a1 a2 a3 a4 a5 a6 a7 a8 a9 a10 a11 a12 a13 a14 a15 := by
  unfold wL_lawOf_290
  exact mt_kindO hx (br_f (by decide) (mt_317 rfl (Or.inl hx) h11 h15 (fun b11 q q0 _ => mt_needsO hx (q0 h12))))
theorem mt_290 {mc ms kc ks : Nat} {x1 x4 x5 x7 x12 : Int32} {f : Nat} {c : Int32} {a1 a2 a3 a4 a5 a6 a7 a8 a9 a10 a11 a12 a13 a14 a15 : Nat → Int32} (hf : f < 18) (h1 : 0 ≤ x12 → a1 (nI f).toNatClampNeg = x1) (h1' : ¬ 0 ≤ x12 → a1 (nI f).toNatClampNeg = 1) (h11 : ∀ j, a11 j = 0) (h15 : ∀ j, a15 j = 0)
    (HN : ∀ b11 (q : Int32 → Prop), (x12 ≤ 0 → q 0) → (¬ x12 ≤ 0 → q 1) → wpX_needs q (c, a1, a2, a3, a4, a5, a6, a7, a8, a9, a10, b11, a12, a13, a14, a15) (nI f) x7) :
    wL_lawOf_290 (fun r _ => r = 1) mc ms (nI f) x1 x4 x5 x7 x12 0 kc ks c a1 a2 a3 a4 a5 a6 a7 a8 a9 a10 a11 a12 a13 a14 a15 := by
  unfold wL_lawOf_290
  exact mt_kind hf (br_t rfl (br_c (fun h => mt_317 (h1 h) (Or.inr ⟨f, hf, rfl⟩) h11 h15 HN) (fun h => mt_317 (h1' h) (Or.inr ⟨f, hf, rfl⟩) h11 h15 HN)))
/-- the law's end, the flow out of range -/
theorem mt_259O {mc ms kc ks : Nat} {x0 x1 x2 x3 x4 x5 x7 : Int32} {c : Int32} {a1 a2 a3 a4 a5 a6 a7 a8 a9 a10 a11 a12 a13 a14 a15 : Nat → Int32} (hx : mt_Off x0) (h11 : ∀ j, a11 j = 0) (h15 : ∀ j, a15 j = 0) :
    wL_lawOf_259 (fun r _ => r = 1) mc ms x0 x1 x2 x3 x4 x5 x7 (-1) kc ks c a1 a2 a3 a4 a5 a6 a7 a8 a9 a10 a11 a12 a13 a14 a15 := by
  unfold wL_lawOf_259
  refine mt_defOff hx (br_t rfl ?_)
  have t := fun (c1 c2 c3 c4 : Nat) => mt_290O (mc := c1) (ms := c2) (kc := c3) (ks := c4) (x1 := x1) (x4 := x4) (x5 := x5) (x7 := x7) (x12 := -1) (c := c) (a1 := a1) (a2 := a2) (a3 := a3) (a4 := a4) (a5 := a5) (a6 := a6) (a7 := a7) (a8 := a8) (a9 := a9) (a10 := a10) (a12 := a12) (a13 := a13) (a14 := a14) hx (by decide) h11 h15
  have hx' := hx
  rcases hx' with h | ⟨h, _, h'⟩
  · exact br_t h (t _ _ _ _)
  · exact br_f h (br_f h' (t _ _ _ _))
/-- the law's end behind define, the flow in range -/
theorem mt_end {mc ms kc ks : Nat} {x1 x4 x5 x7 x12 : Int32} {f : Nat} {c : Int32} {a1 a2 a3 a4 a5 a6 a7 a8 a9 a10 a11 a12 a13 a14 a15 : Nat → Int32} (hf : f < 18) (h1 : 0 ≤ x12 → a1 (nI f).toNatClampNeg = x1) (h1' : ¬ 0 ≤ x12 → a1 (nI f).toNatClampNeg = 1) (h11 : ∀ j, a11 j = 0) (h15 : ∀ j, a15 j = 0)
    (HN : ∀ b11 (q : Int32 → Prop), (x12 ≤ 0 → q 0) → (¬ x12 ≤ 0 → q 1) → wpX_needs q (c, a1, a2, a3, a4, a5, a6, a7, a8, a9, a10, b11, a12, a13, a14, a15) (nI f) x7) :
    (nI f < 0 → wL_lawOf_285 (fun r _ => r = 1) mc ms (nI f) x1 x4 x5 x7 x12 kc ks c a1 a2 a3 a4 a5 a6 a7 a8 a9 a10 a11 a12 a13 a14 a15) ∧ (¬ nI f < 0 → ((nI f ≤ 17 → wL_lawOf_290 (fun r _ => r = 1) mc ms (nI f) x1 x4 x5 x7 x12 0 kc ks c a1 a2 a3 a4 a5 a6 a7 a8 a9 a10 a11 a12 a13 a14 a15) ∧ (¬ nI f ≤ 17 → wL_lawOf_285 (fun r _ => r = 1) mc ms (nI f) x1 x4 x5 x7 x12 kc ks c a1 a2 a3 a4 a5 a6 a7 a8 a9 a10 a11 a12 a13 a14 a15))) :=
  br_f (nI_pos (by omega)) (br_t (nI_le (b := 17) (by omega) (by decide)) (mt_290 hf h1 h1' h11 h15 HN))
/-- needs asked of a class that refused: nothing -/
theorem mt_refused {x12 : Int32} {f a : Nat} {q : Int32 → Prop} {c : Int32} {a1 a2 a3 a4 a5 a6 a7 a8 a9 a10 a11 a12 a13 a14 a15 : Nat → Int32} (hf : f < 18) (ha : a < 32) (h6 : ∀ j, a6 j = 0) (h12 : x12 ≤ 0) (q0 : x12 ≤ 0 → q 0) : wpX_needs q (c, a1, a2, a3, a4, a5, a6, a7, a8, a9, a10, a11, a12, a13, a14, a15) (nI f) (nI a) :=
  mt_needs (m := 0) hf ha (by decide) (h6 _) (fun j _ _ => h6 j) (fun _ z => absurd z (by rw [Nat.zero_testBit]; decide)) (fun _ => q0 h12)
theorem mt_259K {mc ms kc ks : Nat} {x1 x2 x3 x4 x5 : Int32} {f a : Nat} {c : Int32} {a1 a2 a3 a4 a5 a6 a7 a8 a9 a10 a11 a12 a13 a14 a15 : Nat → Int32} (hf : f < 18) (ha : a < 32) (hk : x1 < 0 ∨ (¬ x1 < 0 ∧ ¬ x1 ≤ 8)) (h1 : ∀ j, j < 18 → a1 j = 1) (h6 : ∀ j, a6 j = 0) (h11 : ∀ j, a11 j = 0) (h15 : ∀ j, a15 j = 0) :
    wL_lawOf_259 (fun r _ => r = 1) mc ms (nI f) x1 x2 x3 x4 x5 (nI a) (-2) kc ks c a1 a2 a3 a4 a5 a6 a7 a8 a9 a10 a11 a12 a13 a14 a15 := by
  unfold wL_lawOf_259
  exact mt_defKind hf hk (br_t rfl (mt_end hf (fun z => absurd z (by decide)) (fun _ => h1 _ (mt_cl (mt_v hf))) h11 h15 (fun b11 q q0 _ => mt_refused hf ha h6 (by decide) q0)))
/-- what the law expects of define -/
def mt_Due (f k a b s : Nat) (x : Int32) : Prop :=
  (mt_bad k a b s ∧ x = -1) ∨ (¬ mt_bad k a b s ∧ (mt_set k a b s).testBit f = true ∧ x = -3) ∨ (¬ mt_bad k a b s ∧ ¬ (mt_set k a b s).testBit f = true ∧ x = nI (mt_cnt (mt_set k a b s) 18))
theorem mt_cnt_le (m : Nat) : ∀ n, mt_cnt m n ≤ n
  | 0 => Nat.le_refl 0
  | n + 1 => by
    have h := mt_cnt_le m n
    have g : m / 2 ^ n % 2 < 2 := Nat.mod_lt _ (by decide)
    show mt_cnt m n + m / 2 ^ n % 2 ≤ n + 1
    omega
theorem mt_cnt_mono (m : Nat) {i : Nat} (hi : m.testBit i = true) : ∀ n, i < n → 0 < mt_cnt m n
  | 0, h => absurd h (by omega)
  | n + 1, h => by
    show 0 < mt_cnt m n + m / 2 ^ n % 2
    by_cases e : i = n
    · rw [Nat.testBit_eq_decide_div_mod_eq, decide_eq_true_iff, e] at hi
      omega
    · have := mt_cnt_mono m hi n (by omega)
      omega
theorem mt_259 {mc ms kc ks : Nat} {x2 x3 x4 x5 x12 : Int32} {f k a b s : Nat} {c : Int32} {a1 a2 a3 a4 a5 a6 a7 a8 a9 a10 a11 a12 a13 a14 a15 : Nat → Int32} (hf : f < 18) (hk : k ≤ 8) (ha : a < 32) (hb : b < 32) (hs : s < 32)
    (ea : x2 &&& 31 = nI a) (eb : (x2 >>> ((5 : Int32) &&& 31)) &&& 31 = nI b) (es : (x2 >>> ((10 : Int32) &&& 31)) &&& 31 = nI s)
    (h1 : ∀ j, j < 18 → a1 j = 1) (h2 : mt_R a2) (h3 : mt_R a3) (h4 : mt_R a4) (h6 : ∀ j, a6 j = 0) (h11 : ∀ j, a11 j = 0) (h15 : ∀ j, a15 j = 0)
    (hd : mt_Due f k a b s x12) :
    wL_lawOf_259 (fun r _ => r = 1) mc ms (nI f) (nI k) x2 x3 x4 x5 (nI a) x12 kc ks c a1 a2 a3 a4 a5 a6 a7 a8 a9 a10 a11 a12 a13 a14 a15 := by
  unfold wL_lawOf_259
  have h1f : a1 (nI f).toNatClampNeg = 1 := h1 _ (mt_cl (mt_v hf))
  refine mt_def hf hk ha hb hs ea eb es h2 h3 h4 h6 (fun hB => ?_) (fun hB hO => ?_) (fun hB hO b2 b3 b4 b5 b7 b8 b9 b10 b13 => ?_)
  · have e : x12 = -1 := by
      rcases hd with h | h | h
      · exact h.2
      · exact absurd hB h.1
      · exact absurd hB h.1
    subst e
    exact br_t rfl (mt_end hf (fun z => absurd z (by decide)) (fun _ => h1f) h11 h15 (fun b11 q q0 _ => mt_refused hf ha h6 (by decide) q0))
  · have e : x12 = -3 := by
      rcases hd with h | h | h
      · exact absurd h.1 hB
      · exact h.2.2
      · exact absurd hO h.2.1
    subst e
    exact br_t rfl (mt_end hf (fun z => absurd z (by decide)) (fun _ => h1f) h11 h15 (fun b11 q q0 _ => mt_refused hf ha h6 (by decide) q0))
  · have e : x12 = nI (mt_cnt (mt_set k a b s) 18) := by
      rcases hd with h | h | h
      · exact absurd h.1 hB
      · exact absurd h.2.1 hO
      · exact h.2.2
    subst e
    have hc := mt_cnt_le (mt_set k a b s) 18
    have hm : mt_set k a b s < 2 ^ 18 := mt_set_lt hk hB
    have hB' : ¬ ((2 ≤ k ∧ 18 ≤ a) ∨ (2 ≤ k ∧ k ≤ 6 ∧ 18 ≤ b) ∨ ((k = 6 ∨ k = 8) ∧ 18 ≤ s)) := hB
    refine br_t rfl (mt_end hf (fun _ => pk_us) (fun z => absurd (nI_pos' (by omega)) z) h11 h15 (fun b11 q q0 q1 => ?_))
    refine mt_needs hf ha (by omega) pk_us (fun j hj hJ => ?_) (fun w w' => q1 ?_) (fun w => q0 ?_)
    · rw [nI_clamp (show f < 2 ^ 31 by omega), pk_un (fun e => hO (by rw [← e]; exact hJ))]
      exact h6 j
    · exact nI_nle (mt_cnt_mono _ w' 18 w) (by omega)
    · by_cases g : k = 7 ∨ k < 2
      · rw [mt_set0 g, mt_cnt0]
        decide
      · exact absurd ⟨by omega, (mt_own hk).mpr ⟨by omega, by omega, Or.inl rfl⟩⟩ w
end
section
theorem mt_242 {post : Int32 → St0 → Prop} {mc ms kc ks : Nat} {x0 x1 x2 x3 x4 x5 x7 x13 z0 z1 y : Int32} {c : Int32} {a1 a2 a3 a4 a5 a6 a7 a8 a9 a10 a11 a12 a13 a14 a15 : Nat → Int32} (e : z1 + z0 = y)
    (H : x13 = 0 → wL_lawOf_259 post mc ms x0 x1 x2 x3 x4 x5 x7 y kc ks c a1 a2 a3 a4 a5 a6 a7 a8 a9 a10 a11 a12 a13 a14 a15) (H3 : ¬ x13 = 0 → wL_lawOf_259 post mc ms x0 x1 x2 x3 x4 x5 x7 (-3) kc ks c a1 a2 a3 a4 a5 a6 a7 a8 a9 a10 a11 a12 a13 a14 a15) :
    wL_lawOf_242 post mc ms x0 x1 x2 x3 x4 x5 x7 x13 z0 z1 kc ks c a1 a2 a3 a4 a5 a6 a7 a8 a9 a10 a11 a12 a13 a14 a15 := by
  unfold wL_lawOf_242
  exact nm_r e ⟨H, H3⟩
theorem mt_211 {post : Int32 → St0 → Prop} {mc ms kc ks : Nat} {x0 x2 x3 x4 x5 x13 z0 z1 : Int32} {k a b s q u : Nat} {c : Int32} {a1 a2 a3 a4 a5 a6 a7 a8 a9 a10 a11 a12 a13 a14 a15 : Nat → Int32} (hk : k ≤ 8) (ha : a < 32) (hb : b < 32) (hs : s < 32)
    (hq : (q = 1 ∧ (k = 6 ∨ k = 8)) ∨ (q = 0 ∧ k ≠ 6 ∧ k ≠ 8)) (hz : z1 + z0 = nI (1 + u))
    (H : ∀ w, ((w = 1 ∧ (k = 6 ∨ k = 8) ∧ s ≠ a ∧ (k = 8 ∨ s ≠ b)) ∨ (w = 0 ∧ ((k ≠ 6 ∧ k ≠ 8) ∨ s = a ∨ (k ≠ 8 ∧ s = b)))) → x13 = 0 → wL_lawOf_259 post mc ms x0 (nI k) x2 x3 x4 x5 (nI a) (nI (1 + u + w)) kc ks c a1 a2 a3 a4 a5 a6 a7 a8 a9 a10 a11 a12 a13 a14 a15)
    (H3 : ¬ x13 = 0 → wL_lawOf_259 post mc ms x0 (nI k) x2 x3 x4 x5 (nI a) (-3) kc ks c a1 a2 a3 a4 a5 a6 a7 a8 a9 a10 a11 a12 a13 a14 a15) :
    wL_lawOf_211 post mc ms x0 (nI k) x2 x3 x4 x5 (nI a) (nI b) (nI s) (nI q) x13 z0 z1 kc ks c a1 a2 a3 a4 a5 a6 a7 a8 a9 a10 a11 a12 a13 a14 a15 := by
  have h0 : ((k ≠ 6 ∧ k ≠ 8) ∨ s = a ∨ (k ≠ 8 ∧ s = b)) → wL_lawOf_241 post mc ms x0 (nI k) x2 x3 x4 x5 (nI a) x13 (z1 + z0) kc ks c a1 a2 a3 a4 a5 a6 a7 a8 a9 a10 a11 a12 a13 a14 a15 := by
    intro g
    unfold wL_lawOf_241
    exact mt_242 (by rw [hz]; exact nI_add (1 + u) 0) (H 0 (Or.inr ⟨rfl, g⟩)) H3
  have h1 : ((k = 6 ∨ k = 8) ∧ s ≠ a ∧ (k = 8 ∨ s ≠ b)) → wL_lawOf_237 post mc ms x0 (nI k) x2 x3 x4 x5 (nI a) x13 (z1 + z0) kc ks c a1 a2 a3 a4 a5 a6 a7 a8 a9 a10 a11 a12 a13 a14 a15 := by
    intro g
    unfold wL_lawOf_237
    exact mt_242 (by rw [hz]; exact nI_add (1 + u) 1) (H 1 (Or.inl ⟨rfl, g⟩)) H3
  unfold wL_lawOf_211
  exact pk_eq q 0 (fun z => h0 (by omega)) (fun z => pk_eq s a (fun e => h0 (by omega)) (fun e => pk_eq k 8 (fun e8 => h1 (by omega)) (fun e8 => pk_eq s b (fun e' => h0 (by omega)) (fun e' => h1 (by omega)))))
theorem mt_191 {post : Int32 → St0 → Prop} {mc ms kc ks : Nat} {x0 x2 x3 x4 x5 z0 : Int32} {k a b s t q : Nat} {c : Int32} {a1 a2 a3 a4 a5 a6 a7 a8 a9 a10 a11 a12 a13 a14 a15 : Nat → Int32} (hk : k ≤ 8) (hk2 : 2 ≤ k) (ha : a < 32) (hb : b < 32) (hs : s < 32)
    (ht : (t = 1 ∧ 2 ≤ k ∧ k ≤ 6) ∨ (t = 0 ∧ ¬ (2 ≤ k ∧ k ≤ 6))) (hq : (q = 1 ∧ (k = 6 ∨ k = 8)) ∨ (q = 0 ∧ k ≠ 6 ∧ k ≠ 8))
    (H : ∀ u w, ((u = 1 ∧ k ≤ 6 ∧ b ≠ a) ∨ (u = 0 ∧ (6 < k ∨ b = a))) → ((w = 1 ∧ (k = 6 ∨ k = 8) ∧ s ≠ a ∧ (k = 8 ∨ s ≠ b)) ∨ (w = 0 ∧ ((k ≠ 6 ∧ k ≠ 8) ∨ s = a ∨ (k ≠ 8 ∧ s = b)))) → z0 = 0 → wL_lawOf_259 post mc ms x0 (nI k) x2 x3 x4 x5 (nI a) (nI (1 + u + w)) kc ks c a1 a2 a3 a4 a5 a6 a7 a8 a9 a10 a11 a12 a13 a14 a15)
    (H3 : ¬ z0 = 0 → wL_lawOf_259 post mc ms x0 (nI k) x2 x3 x4 x5 (nI a) (-3) kc ks c a1 a2 a3 a4 a5 a6 a7 a8 a9 a10 a11 a12 a13 a14 a15) :
    wL_lawOf_191 post mc ms x0 (nI k) x2 x3 x4 x5 (nI a) (nI b) (nI s) (nI t) (nI q) z0 kc ks c a1 a2 a3 a4 a5 a6 a7 a8 a9 a10 a11 a12 a13 a14 a15 := by
  have h0 : (6 < k ∨ b = a) → wL_lawOf_210 post mc ms x0 (nI k) x2 x3 x4 x5 (nI a) (nI b) (nI s) (nI q) z0 1 kc ks c a1 a2 a3 a4 a5 a6 a7 a8 a9 a10 a11 a12 a13 a14 a15 := by
    intro g
    unfold wL_lawOf_210
    exact mt_211 (u := 0) hk ha hb hs hq (by decide) (fun w hw => H 0 w (Or.inr ⟨rfl, g⟩) hw) H3
  unfold wL_lawOf_191
  exact pk_eq t 0 (fun z => h0 (by omega)) (fun z => pk_eq b a (fun e => h0 (by omega)) (fun e => mt_211 (u := 1) hk ha hb hs hq (by decide) (fun w hw => H 1 w (Or.inl ⟨rfl, by omega, e⟩) hw) H3))
theorem mt_due0 {f k a b s : Nat} (h : ¬ mt_bad k a b s) (g : k = 7 ∨ k < 2) : mt_Due f k a b s 0 := by
  refine Or.inr (Or.inr ⟨h, ?_, ?_⟩)
  · rw [mt_set0 g, Nat.zero_testBit]; decide
  · rw [mt_set0 g, mt_cnt0]; rfl
theorem mt_due3 {f k a b s : Nat} (hk : k ≤ 8) (h : ¬ mt_bad k a b s) (g : 2 ≤ k ∧ k ≠ 7 ∧ (a = f ∨ (k ≤ 6 ∧ b = f) ∨ ((k = 6 ∨ k = 8) ∧ s = f))) : mt_Due f k a b s (-3) :=
  Or.inr (Or.inl ⟨h, (mt_own hk).mpr g, rfl⟩)
theorem mt_dueN {f k a b s u w : Nat} (hk : k ≤ 8) (h2 : 2 ≤ k) (h7 : k ≠ 7) (h : ¬ mt_bad k a b s) (g : ¬ (a = f ∨ (k ≤ 6 ∧ b = f) ∨ ((k = 6 ∨ k = 8) ∧ s = f)))
    (hu : (u = 1 ∧ k ≤ 6 ∧ b ≠ a) ∨ (u = 0 ∧ (6 < k ∨ b = a)))
    (hw : (w = 1 ∧ (k = 6 ∨ k = 8) ∧ s ≠ a ∧ (k = 8 ∨ s ≠ b)) ∨ (w = 0 ∧ ((k ≠ 6 ∧ k ≠ 8) ∨ s = a ∨ (k ≠ 8 ∧ s = b)))) : mt_Due f k a b s (nI (1 + u + w)) :=
  Or.inr (Or.inr ⟨h, fun z => g ((mt_own hk).mp z).2.2, by rw [mt_num hk h2 h7 h hu hw]⟩)
/-- the law from the number on, operands good: it expects what define answers -/
theorem mt_147 {post : Int32 → St0 → Prop} {mc ms kc ks : Nat} {x2 x3 x4 x5 : Int32} {f k a b s t q : Nat} {c : Int32} {a1 a2 a3 a4 a5 a6 a7 a8 a9 a10 a11 a12 a13 a14 a15 : Nat → Int32} (hf : f < 18) (hk : k ≤ 8) (ha : a < 32) (hb : b < 32) (hs : s < 32)
    (ht : (t = 1 ∧ 2 ≤ k ∧ k ≤ 6) ∨ (t = 0 ∧ ¬ (2 ≤ k ∧ k ≤ 6))) (hq : (q = 1 ∧ (k = 6 ∨ k = 8)) ∨ (q = 0 ∧ k ≠ 6 ∧ k ≠ 8)) (hB : ¬ mt_bad k a b s)
    (H : ∀ x, mt_Due f k a b s x → wL_lawOf_259 post mc ms (nI f) (nI k) x2 x3 x4 x5 (nI a) x kc ks c a1 a2 a3 a4 a5 a6 a7 a8 a9 a10 a11 a12 a13 a14 a15) :
    wL_lawOf_147 post mc ms (nI f) (nI k) x2 x3 x4 x5 (nI a) (nI b) (nI s) (nI t) (nI q) 0 kc ks c a1 a2 a3 a4 a5 a6 a7 a8 a9 a10 a11 a12 a13 a14 a15 := by
  have hy : 2 ≤ k → k ≠ 7 → (a = f ∨ (k ≤ 6 ∧ b = f) ∨ ((k = 6 ∨ k = 8) ∧ s = f)) → wL_lawOf_186 post mc ms (nI f) (nI k) x2 x3 x4 x5 (nI a) (nI b) (nI s) (nI t) (nI q) kc ks c a1 a2 a3 a4 a5 a6 a7 a8 a9 a10 a11 a12 a13 a14 a15 := by
    intro g g7 go
    unfold wL_lawOf_186
    exact mt_191 hk g ha hb hs ht hq (fun u w _ _ z => absurd z (by decide)) (fun _ => H _ (mt_due3 hk hB ⟨g, g7, go⟩))
  have hn : 2 ≤ k → k ≠ 7 → ¬ (a = f ∨ (k ≤ 6 ∧ b = f) ∨ ((k = 6 ∨ k = 8) ∧ s = f)) → wL_lawOf_190 post mc ms (nI f) (nI k) x2 x3 x4 x5 (nI a) (nI b) (nI s) (nI t) (nI q) kc ks c a1 a2 a3 a4 a5 a6 a7 a8 a9 a10 a11 a12 a13 a14 a15 := by
    intro g g7 go
    unfold wL_lawOf_190
    exact mt_191 hk g ha hb hs ht hq (fun u w hu hw _ => H _ (mt_dueN hk g g7 hB go hu hw)) (fun z => absurd rfl z)
  have h175 : 2 ≤ k → k ≠ 7 → ¬ (a = f ∨ (k ≤ 6 ∧ b = f)) → wL_lawOf_175 post mc ms (nI f) (nI k) x2 x3 x4 x5 (nI a) (nI b) (nI s) (nI t) (nI q) kc ks c a1 a2 a3 a4 a5 a6 a7 a8 a9 a10 a11 a12 a13 a14 a15 := by
    intro g g7 go
    unfold wL_lawOf_175
    exact pk_eq q 0 (fun z => hn g g7 (by omega)) (fun z => pk_eq s f (fun e => hy g g7 (by omega)) (fun e => hn g g7 (by omega)))
  unfold wL_lawOf_147
  exact pk_le k 1 (fun z => H _ (mt_due0 hB (by omega))) (fun z => pk_eq k 7 (fun e => H _ (mt_due0 hB (by omega))) (fun e => pk_eq a f (fun g => hy (by omega) e (by omega)) (fun g => pk_eq t 0 (fun y => h175 (by omega) e (by omega)) (fun y => pk_eq b f (fun g' => hy (by omega) e (by omega)) (fun g' => h175 (by omega) e (by omega))))))
theorem mt_141 {post : Int32 → St0 → Prop} {mc ms kc ks : Nat} {x2 x3 x4 x5 : Int32} {f k a b s : Nat} {c : Int32} {a1 a2 a3 a4 a5 a6 a7 a8 a9 a10 a11 a12 a13 a14 a15 : Nat → Int32} (hB : (2 ≤ k ∧ 18 ≤ a) ∨ (2 ≤ k ∧ k ≤ 6 ∧ 18 ≤ b) ∨ ((k = 6 ∨ k = 8) ∧ 18 ≤ s))
    (H : ∀ x, mt_Due f k a b s x → wL_lawOf_259 post mc ms (nI f) (nI k) x2 x3 x4 x5 (nI a) x kc ks c a1 a2 a3 a4 a5 a6 a7 a8 a9 a10 a11 a12 a13 a14 a15) :
    wL_lawOf_141 post mc ms (nI f) (nI k) x2 x3 x4 x5 (nI a) kc ks c a1 a2 a3 a4 a5 a6 a7 a8 a9 a10 a11 a12 a13 a14 a15 := by
  unfold wL_lawOf_141
  exact H _ (Or.inl ⟨hB, rfl⟩)
theorem mt_117 {post : Int32 → St0 → Prop} {mc ms kc ks : Nat} {x2 x3 x4 x5 : Int32} {f k a b s t q : Nat} {c : Int32} {a1 a2 a3 a4 a5 a6 a7 a8 a9 a10 a11 a12 a13 a14 a15 : Nat → Int32} (hf : f < 18) (hk : k ≤ 8) (ha : a < 32) (hb : b < 32) (hs : s < 32)
    (ht : (t = 1 ∧ 2 ≤ k ∧ k ≤ 6) ∨ (t = 0 ∧ ¬ (2 ≤ k ∧ k ≤ 6))) (hq : (q = 1 ∧ (k = 6 ∨ k = 8)) ∨ (q = 0 ∧ k ≠ 6 ∧ k ≠ 8)) (hA : ¬ (2 ≤ k ∧ 18 ≤ a))
    (H : ∀ x, mt_Due f k a b s x → wL_lawOf_259 post mc ms (nI f) (nI k) x2 x3 x4 x5 (nI a) x kc ks c a1 a2 a3 a4 a5 a6 a7 a8 a9 a10 a11 a12 a13 a14 a15) :
    wL_lawOf_117 post mc ms (nI f) (nI k) x2 x3 x4 x5 (nI a) (nI b) (nI s) (nI t) (nI q) 0 kc ks c a1 a2 a3 a4 a5 a6 a7 a8 a9 a10 a11 a12 a13 a14 a15 := by
  have hg : ¬ ((2 ≤ k ∧ 18 ≤ a) ∨ (2 ≤ k ∧ k ≤ 6 ∧ 18 ≤ b) ∨ ((k = 6 ∨ k = 8) ∧ 18 ≤ s)) → wL_lawOf_147 post mc ms (nI f) (nI k) x2 x3 x4 x5 (nI a) (nI b) (nI s) (nI t) (nI q) 0 kc ks c a1 a2 a3 a4 a5 a6 a7 a8 a9 a10 a11 a12 a13 a14 a15 :=
    fun h => mt_147 hf hk ha hb hs ht hq h H
  have h129 : ¬ (2 ≤ k ∧ k ≤ 6 ∧ 18 ≤ b) → wL_lawOf_129 post mc ms (nI f) (nI k) x2 x3 x4 x5 (nI a) (nI b) (nI s) (nI t) (nI q) 0 kc ks c a1 a2 a3 a4 a5 a6 a7 a8 a9 a10 a11 a12 a13 a14 a15 := by
    intro h
    unfold wL_lawOf_129
    exact pk_eq q 0 (fun z => hg (by omega)) (fun z => pk_le s 17 (fun g => hg (by omega)) (fun g => mt_141 (by omega) H))
  unfold wL_lawOf_117
  exact pk_eq t 0 (fun z => h129 (by omega)) (fun z => pk_lt 17 b (fun g => mt_141 (by omega) H) (fun g => h129 (by omega)))
theorem mt_67 {post : Int32 → St0 → Prop} {mc ms kc ks : Nat} {x2 x3 x4 x5 : Int32} {f k a b s t q : Nat} {c : Int32} {a1 a2 a3 a4 a5 a6 a7 a8 a9 a10 a11 a12 a13 a14 a15 : Nat → Int32} (hf : f < 18) (hk : k ≤ 8) (ha : a < 32) (hb : b < 32) (hs : s < 32)
    (ht : (t = 1 ∧ 2 ≤ k ∧ k ≤ 6) ∨ (t = 0 ∧ ¬ (2 ≤ k ∧ k ≤ 6))) (hq : (q = 1 ∧ (k = 6 ∨ k = 8)) ∨ (q = 0 ∧ k ≠ 6 ∧ k ≠ 8))
    (H : ∀ x, mt_Due f k a b s x → wL_lawOf_259 post mc ms (nI f) (nI k) x2 x3 x4 x5 (nI a) x kc ks c a1 a2 a3 a4 a5 a6 a7 a8 a9 a10 a11 a12 a13 a14 a15) :
    wL_lawOf_67 post mc ms (nI f) (nI k) x2 x3 x4 x5 (nI a) (nI b) (nI s) (nI t) (nI q) kc ks c a1 a2 a3 a4 a5 a6 a7 a8 a9 a10 a11 a12 a13 a14 a15 := by
  unfold wL_lawOf_67
  exact br_f (nI_pos (by omega)) (br_t (nI_le (b := 17) (by omega) (by decide)) (br_f (nI_pos (by omega)) (br_t (nI_le (b := 8) hk (by decide)) (pk_le k 1 (fun z => mt_117 hf hk ha hb hs ht hq (by omega) H) (fun z => pk_lt 17 a (fun g => mt_141 (by omega) H) (fun g => mt_117 hf hk ha hb hs ht hq (by omega) H))))))
theorem mt_67O {mc ms kc ks : Nat} {x0 x1 x2 x3 x4 x5 x7 x8 x9 x10 z0 : Int32} {c : Int32} {a1 a2 a3 a4 a5 a6 a7 a8 a9 a10 a11 a12 a13 a14 a15 : Nat → Int32} (hx : mt_Off x0) (h11 : ∀ j, a11 j = 0) (h15 : ∀ j, a15 j = 0) :
    wL_lawOf_67 (fun r _ => r = 1) mc ms x0 x1 x2 x3 x4 x5 x7 x8 x9 x10 z0 kc ks c a1 a2 a3 a4 a5 a6 a7 a8 a9 a10 a11 a12 a13 a14 a15 := by
  have t : wL_lawOf_82 (fun r _ => r = 1) mc ms x0 x1 x2 x3 x4 x5 x7 kc ks c a1 a2 a3 a4 a5 a6 a7 a8 a9 a10 a11 a12 a13 a14 a15 := by
    unfold wL_lawOf_82
    exact mt_259O hx h11 h15
  unfold wL_lawOf_67
  rcases hx with h | ⟨h, _, h'⟩
  · exact br_t h t
  · exact br_f h (br_f h' t)
theorem mt_67K {mc ms kc ks : Nat} {x1 x2 x3 x4 x5 x8 x9 x10 z0 : Int32} {f a : Nat} {c : Int32} {a1 a2 a3 a4 a5 a6 a7 a8 a9 a10 a11 a12 a13 a14 a15 : Nat → Int32} (hf : f < 18) (ha : a < 32) (hk : x1 < 0 ∨ (¬ x1 < 0 ∧ ¬ x1 ≤ 8)) (h1 : ∀ j, j < 18 → a1 j = 1) (h6 : ∀ j, a6 j = 0) (h11 : ∀ j, a11 j = 0) (h15 : ∀ j, a15 j = 0) :
    wL_lawOf_67 (fun r _ => r = 1) mc ms (nI f) x1 x2 x3 x4 x5 (nI a) x8 x9 x10 z0 kc ks c a1 a2 a3 a4 a5 a6 a7 a8 a9 a10 a11 a12 a13 a14 a15 := by
  have t : wL_lawOf_98 (fun r _ => r = 1) mc ms (nI f) x1 x2 x3 x4 x5 (nI a) kc ks c a1 a2 a3 a4 a5 a6 a7 a8 a9 a10 a11 a12 a13 a14 a15 := by
    unfold wL_lawOf_98
    exact mt_259K hf ha hk h1 h6 h11 h15
  unfold wL_lawOf_67
  refine br_f (nI_pos (by omega)) (br_t (nI_le (b := 17) (by omega) (by decide)) ?_)
  rcases hk with h | ⟨h, h'⟩
  · exact br_t h t
  · exact br_f h (br_f h' t)
theorem mt_48 {post : Int32 → St0 → Prop} {mc ms kc ks : Nat} {x0 x1 x2 x3 x4 x5 x7 x8 x9 z0 : Int32} {c : Int32} {a1 a2 a3 a4 a5 a6 a7 a8 a9 a10 a11 a12 a13 a14 a15 : Nat → Int32}
    (H : ∀ z, ((z = 1 ∧ (x1 = 6 ∨ x1 = 8)) ∨ (z = 0 ∧ ¬ x1 = 6 ∧ ¬ x1 = 8)) → wL_lawOf_67 post mc ms x0 x1 x2 x3 x4 x5 x7 x8 x9 z0 z kc ks c a1 a2 a3 a4 a5 a6 a7 a8 a9 a10 a11 a12 a13 a14 a15) :
    wL_lawOf_48 post mc ms x0 x1 x2 x3 x4 x5 x7 x8 x9 z0 kc ks c a1 a2 a3 a4 a5 a6 a7 a8 a9 a10 a11 a12 a13 a14 a15 := by
  have h1 : (x1 = 6 ∨ x1 = 8) → wL_lawOf_62 post mc ms x0 x1 x2 x3 x4 x5 x7 x8 x9 z0 kc ks c a1 a2 a3 a4 a5 a6 a7 a8 a9 a10 a11 a12 a13 a14 a15 := by
    intro h
    unfold wL_lawOf_62
    exact H 1 (Or.inl ⟨rfl, h⟩)
  unfold wL_lawOf_48
  exact ⟨fun h => h1 (Or.inl h), fun h => ⟨fun h' => h1 (Or.inr h'), fun h' => H 0 (Or.inr ⟨rfl, h, h'⟩)⟩⟩
theorem mt_front {post : Int32 → St0 → Prop} {mc ms kc ks : Nat} {x0 x1 x2 x3 x4 x5 x7 x8 x9 : Int32} {c : Int32} {a1 a2 a3 a4 a5 a6 a7 a8 a9 a10 a11 a12 a13 a14 a15 : Nat → Int32}
    (H : ∀ y z, ((y = 1 ∧ ¬ x1 < 2 ∧ ¬ 6 < x1) ∨ (y = 0 ∧ (x1 < 2 ∨ 6 < x1))) → ((z = 1 ∧ (x1 = 6 ∨ x1 = 8)) ∨ (z = 0 ∧ ¬ x1 = 6 ∧ ¬ x1 = 8)) → wL_lawOf_67 post mc ms x0 x1 x2 x3 x4 x5 x7 x8 x9 y z kc ks c a1 a2 a3 a4 a5 a6 a7 a8 a9 a10 a11 a12 a13 a14 a15) :
    (x1 < 2 → wL_lawOf_47 post mc ms x0 x1 x2 x3 x4 x5 x7 x8 x9 kc ks c a1 a2 a3 a4 a5 a6 a7 a8 a9 a10 a11 a12 a13 a14 a15) ∧ (¬ x1 < 2 → ((6 < x1 → wL_lawOf_47 post mc ms x0 x1 x2 x3 x4 x5 x7 x8 x9 kc ks c a1 a2 a3 a4 a5 a6 a7 a8 a9 a10 a11 a12 a13 a14 a15) ∧ (¬ 6 < x1 → wL_lawOf_48 post mc ms x0 x1 x2 x3 x4 x5 x7 x8 x9 1 kc ks c a1 a2 a3 a4 a5 a6 a7 a8 a9 a10 a11 a12 a13 a14 a15))) := by
  have h0 : (x1 < 2 ∨ 6 < x1) → wL_lawOf_47 post mc ms x0 x1 x2 x3 x4 x5 x7 x8 x9 kc ks c a1 a2 a3 a4 a5 a6 a7 a8 a9 a10 a11 a12 a13 a14 a15 := by
    intro h
    unfold wL_lawOf_47
    exact mt_48 (fun z hz => H 0 z (Or.inr ⟨rfl, h⟩) hz)
  exact ⟨fun h => h0 (Or.inl h), fun h => ⟨fun h' => h0 (Or.inr h'), fun h' => mt_48 (fun z hz => H 1 z (Or.inl ⟨rfl, h, h'⟩) hz)⟩⟩
theorem mt_fl2 {k : Nat} {y : Int32} (hk : k ≤ 8) (h : (y = 1 ∧ ¬ nI k < 2 ∧ ¬ 6 < nI k) ∨ (y = 0 ∧ (nI k < 2 ∨ 6 < nI k))) : ∃ t, y = nI t ∧ ((t = 1 ∧ 2 ≤ k ∧ k ≤ 6) ∨ (t = 0 ∧ ¬ (2 ≤ k ∧ k ≤ 6))) := by
  have e1 : nI k < 2 ↔ k < 2 := nI_ltI (b := 2) (by omega) (by decide)
  have e2 : 6 < nI k ↔ 6 < k := nI_ltI (a := 6) (by decide) (by omega)
  rw [e1, e2] at h
  rcases h with ⟨h, g⟩ | ⟨h, g⟩
  · exact ⟨1, h, Or.inl ⟨rfl, by omega⟩⟩
  · exact ⟨0, h, Or.inr ⟨rfl, by omega⟩⟩
theorem mt_fl3 {k : Nat} {y : Int32} (hk : k ≤ 8) (h : (y = 1 ∧ (nI k = 6 ∨ nI k = 8)) ∨ (y = 0 ∧ ¬ nI k = 6 ∧ ¬ nI k = 8)) : ∃ q, y = nI q ∧ ((q = 1 ∧ (k = 6 ∨ k = 8)) ∨ (q = 0 ∧ k ≠ 6 ∧ k ≠ 8)) := by
  have e1 : nI k = 6 ↔ k = 6 := nI_eq (b := 6) (by omega) (by decide)
  have e2 : nI k = 8 ↔ k = 8 := nI_eq (b := 8) (by omega) (by decide)
  rw [e1, e2] at h
  rcases h with ⟨h, g⟩ | ⟨h, g⟩
  · exact ⟨1, h, Or.inl ⟨rfl, g⟩⟩
  · exact ⟨0, h, Or.inr ⟨rfl, g⟩⟩
theorem mt_flow (x : Int32) : mt_Off x ∨ ∃ f, f < 18 ∧ x = nI f := by
  rcases pk_ix x (n := 18) (by decide) with h | h | h
  · exact Or.inl (Or.inl h)
  · have g : (18 : Int) ≤ x.toInt := by
      have := Int32.le_iff_toInt_le.mp h
      rw [nI_toInt (by decide)] at this
      exact this
    refine Or.inl (Or.inr ⟨fun z => ?_, fun z => ?_, fun z => ?_⟩)
    · have := Int32.lt_iff_toInt_lt.mp z
      rw [show (0 : Int32).toInt = 0 by decide] at this
      omega
    · have := Int32.lt_iff_toInt_lt.mp z
      rw [show (18 : Int32).toInt = 18 by decide] at this
      omega
    · have := Int32.le_iff_toInt_le.mp z
      rw [show (17 : Int32).toInt = 17 by decide] at this
      omega
  · exact Or.inr h
theorem mt_kinds (x : Int32) : (x < 0 ∨ (¬ x < 0 ∧ ¬ x ≤ 8)) ∨ ∃ k, k ≤ 8 ∧ x = nI k := by
  rcases pk_ix x (n := 9) (by decide) with h | h | ⟨k, hk, e⟩
  · exact Or.inl (Or.inl h)
  · have g : (9 : Int) ≤ x.toInt := by
      have := Int32.le_iff_toInt_le.mp h
      rw [nI_toInt (by decide)] at this
      exact this
    refine Or.inl (Or.inr ⟨fun z => ?_, fun z => ?_⟩)
    · have := Int32.lt_iff_toInt_lt.mp z
      rw [show (0 : Int32).toInt = 0 by decide] at this
      omega
    · have := Int32.le_iff_toInt_le.mp z
      rw [show (8 : Int32).toInt = 8 by decide] at this
      omega
  · exact Or.inr ⟨k, by omega, e⟩
theorem mt_lawOf (p0 p1 p2 p3 p4 p5 : Int32) : wpL_lawOf (fun r _ => r = 1) 16 272 () p0 p1 p2 p3 p4 p5 := by
  unfold wpL_lawOf
  refine ⟨by decide, by decide, 15, 256, by decide, by decide, mt_init (by decide) (by decide) (fun b1 b7 b8 b9 b10 b13 h1 => ?_)⟩
  obtain ⟨a, ha, ea⟩ := pk_andE p2 (m := 31) 5 (by decide)
  obtain ⟨b, hb, eb⟩ := pk_andE (p2 >>> ((5 : Int32) &&& 31)) (m := 31) 5 (by decide)
  obtain ⟨s, hs, es⟩ := pk_andE (p2 >>> ((10 : Int32) &&& 31)) (m := 31) 5 (by decide)
  refine nm_r ea (nm_r eb (nm_r es (mt_front (fun y z hy hz => ?_))))
  rcases mt_flow p0 with h0 | ⟨f, hf, rfl⟩
  · exact mt_67O h0 (fun _ => rfl) (fun _ => rfl)
  · rcases mt_kinds p1 with hk | ⟨k, hk, rfl⟩
    · exact mt_67K hf ha hk h1 (fun _ => rfl) (fun _ => rfl) (fun _ => rfl)
    · obtain ⟨t, rfl, ht⟩ := mt_fl2 hk hy
      obtain ⟨q, rfl, hq⟩ := mt_fl3 hk hz
      exact mt_67 hf hk ha hb hs ht hq (fun x hx => mt_259 hf hk ha hb hs ea eb es h1 mt_R0 mt_R0 mt_R0 (fun _ => rfl) (fun _ => rfl) (fun _ => rfl) hx)
end
section
theorem mt_cell {post : Int32 → Prop} {L i : Nat} {xs : Nat → Int32} (hL : L ≤ 6) (hi : i < 6) (H : ∀ r, post r) : wpL_cellAt post L xs () (nI i) :=
  pk_le L i (fun _ => H _) (fun z => ⟨pk_in i L z, H _⟩)
theorem i_vc (xs : Nat → Int32) (L : Nat) (hL : L ≤ 6) : wpL_law (fun r => r = 1) L xs := by
  unfold wpL_law
  exact mt_cell (i := 0) hL (by decide) (fun r1 => mt_cell (i := 1) hL (by decide) (fun r2 => mt_cell (i := 2) hL (by decide) (fun r3 => mt_cell (i := 3) hL (by decide) (fun r4 => mt_cell (i := 4) hL (by decide) (fun r5 => mt_cell (i := 5) hL (by decide) (fun r6 => ⟨16, 272, by decide, by decide, mt_lawOf r1 r2 r3 r4 r5 r6⟩))))))
end
