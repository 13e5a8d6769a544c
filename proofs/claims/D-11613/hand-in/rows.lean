section
/-! ===== force: one node at a time ===== -/
theorem sg_16 : ∀ n, n < 512 → (nI n).toInt16.toInt32 = nI n := by decide +kernel
theorem sg_uid {f : Nat → Int32} {k : Nat} {v : Int32} (h : f k = v) : upd f k v = f := by
  funext j
  by_cases e : j = k
  · rw [e, pk_us, h]
  · rw [pk_un e]
theorem sg_ur {f : Nat → Int32} {i j : Nat} {v w : Int32} (hi : i = j) (hv : v = w) : upd f i v = upd f j w := by rw [hi, hv]
theorem sg_c1 : ((1 : Int32) - 1).toNatClampNeg = 0 := by decide
theorem sg_i1 : vp_in ((1 : Int32) - 1) 16 := vp_in_iff.mpr (by decide)
theorem sg_i0 : vp_in (0 : Int32) 16 := vp_in_iff.mpr (by decide)
theorem sg_t256 {t : Nat} (h : t < 256) : ¬ nI t = (0 : Int32) + 256 := by
  have e : (0 : Int32) + 256 = nI 256 := by decide
  rw [e, nI_eq (by omega) (by omega)]
  omega
section
variable {bu ba tp st : Int32} {a1 a2 a3 a4 a5 a6 a7 a8 a9 a10 a11 a12 : Nat → Int32} {t x : Nat}
theorem sg_follow {P : Int32 → Prop} {p : Int32} (hp : p = nI x) (hx : x < 512) (hl : a4 x ≠ 10) (h : P (nI x)) : wpX_follow P (bu, ba, tp, st, a1, a2, a3, a4, a5, a6, a7, a8, a9, a10, a11, a12) p := by
  subst hp
  exact ⟨1, pk_in x 512 hx, br_f (by rw [nI_clamp (by omega)]; exact hl) h⟩
theorem sg_alloc {P : Int32 → St2 → Prop} {k n s l r : Int32} (ht : t < 512) (h : P (nI t) (bu, ba, nI (t + 1), st, a1, a2, a3, upd a4 t k.toInt8.toInt32, upd a5 t n, upd a6 t s, upd a7 t l.toInt16.toInt32, upd a8 t r.toInt16.toInt32, upd a9 t 0, a10, a11, a12)) : wpX_allocate P (bu, ba, nI t, st, a1, a2, a3, a4, a5, a6, a7, a8, a9, a10, a11, a12) k n s l r := by
  have c : (nI t).toNatClampNeg = t := nI_clamp (by omega)
  have hi : vp_in (nI t) 512 := pk_in t 512 ht
  exact nm_r (nI_1 t) ⟨hi, nm_r (sg_ur c rfl) ⟨hi, nm_r (sg_ur c rfl) ⟨hi, nm_r (sg_ur c rfl) ⟨hi, nm_r (sg_ur c rfl) ⟨hi, nm_r (sg_ur c rfl) ⟨hi, nm_r (sg_ur c rfl) h⟩⟩⟩⟩⟩⟩
theorem sg_fin {P : St2 → Prop} {v : Int32} (hx : x < 512) (ht : t < 512) (h : P (bu, ba, tp, st, a1, a2, a3, upd a4 x 9, upd a5 x v, a6, upd a7 x (nI t), a8, a9, a10, a11, a12)) : wX_finish_269 P (nI x) v (nI t) bu ba tp st a1 a2 a3 a4 a5 a6 a7 a8 a9 a10 a11 a12 := by
  have c : (nI x).toNatClampNeg = x := nI_clamp (by omega)
  have hi : vp_in (nI x) 512 := pk_in x 512 hx
  exact ⟨hi, nm_r (sg_ur c rfl) ⟨hi, nm_r (sg_ur c rfl) ⟨hi, nm_r (sg_ur c (sg_16 t ht)) h⟩⟩⟩
/-- force, up to its loop -/
theorem sg_force0 {post : Int32 → St2 → Prop} (hx : x < 512) (H : ∀ b12 : Nat → Int32, b12 0 = nI x → ∃ n, wX_force_12 post n (-1) bu ba tp 1 a1 a2 a3 a4 a5 a6 a7 a8 a9 a10 a11 b12) : wpX_force post (bu, ba, tp, st, a1, a2, a3, a4, a5, a6, a7, a8, a9, a10, a11, a12) (nI x) := by
  refine ⟨sg_i0, fun b eb f ef => ?_⟩
  have ef' : f = 1 := ef.trans (by decide)
  subst ef'
  refine H b ?_
  rw [eb]
  exact pk_us.trans (sg_16 x hx)
/-- the loop, when the node on the stack is a cell -/
theorem sg_cell12 {post : Int32 → St2 → Prop} {n : Nat} {r : Int32} (hx : x < 512) (ht : t < 256) (hs : a12 0 = nI x) (h9 : a4 x = 9)
    (hp : ∀ (st' : Int32) (b12 : Nat → Int32), post (nI x) (bu, 0, nI t, st', a1, a2, a3, a4, a5, a6, a7, a8, a9, a10, a11, b12)) : wX_force_12 post (n + 2) r bu 0 (nI t) 1 a1 a2 a3 a4 a5 a6 a7 a8 a9 a10 a11 a12 := by
  refine br_f (by decide) (br_f (sg_t256 ht) ?_)
  unfold wX_force_38
  refine ⟨sg_i1, sg_follow (x := x) (by rw [sg_c1]; exact hs) hx (by rw [h9]; decide) ⟨sg_i1, nm_e ⟨pk_in x 512 hx, br_t (by rw [nI_clamp (by omega)]; exact h9) (nm_e ?_)⟩⟩⟩
  exact br_t (by decide) (hp _ _)
theorem sg_cell {post : Int32 → St2 → Prop} (hx : x < 512) (ht : t < 256) (h9 : a4 x = 9)
    (hp : ∀ (st' : Int32) (b12 : Nat → Int32), post (nI x) (bu, 0, nI t, st', a1, a2, a3, a4, a5, a6, a7, a8, a9, a10, a11, b12)) : wpX_force post (bu, 0, nI t, st, a1, a2, a3, a4, a5, a6, a7, a8, a9, a10, a11, a12) (nI x) :=
  sg_force0 hx (fun _ hb => ⟨2, sg_cell12 (n := 0) hx ht hb h9 hp⟩)
/-- a node that is finished in one turn -/
theorem sg_step {post : Int32 → St2 → Prop} {b4 b5 b6 b7 b8 : Nat → Int32} (hx : x < 512) (ht : t + 1 < 256) (h10 : a4 x ≠ 10) (h9 : a4 x ≠ 9) (hb : b4 x = 9)
    (hw : ∀ (Q : Int32 → St2 → Prop) (b9 b12 : Nat → Int32), Q (-1) (bu, 0, nI t, 1, a1, a2, a3, a4, a5, a6, a7, a8, b9, a10, a11, b12) → wpX_wantedBy Q (bu, 0, nI t, 1, a1, a2, a3, a4, a5, a6, a7, a8, b9, a10, a11, b12) (nI x))
    (hf : ∀ (Q : St2 → Prop) (b9 b12 : Nat → Int32), (∀ c9 : Nat → Int32, Q (bu, 0, nI (t + 1), 1, a1, a2, a3, b4, b5, b6, b7, b8, c9, a10, a11, b12)) → wpX_finish Q (bu, 0, nI t, 1, a1, a2, a3, a4, a5, a6, a7, a8, b9, a10, a11, b12) (nI x))
    (hp : ∀ (st' : Int32) (b9 b12 : Nat → Int32), post (nI x) (bu, 0, nI (t + 1), st', a1, a2, a3, b4, b5, b6, b7, b8, b9, a10, a11, b12)) : wpX_force post (bu, 0, nI t, st, a1, a2, a3, a4, a5, a6, a7, a8, a9, a10, a11, a12) (nI x) := by
  refine sg_force0 hx (fun b12 hs => ⟨3, br_f (by decide) (br_f (sg_t256 (by omega)) ?_)⟩)
  unfold wX_force_38
  refine ⟨sg_i1, sg_follow (x := x) (by rw [sg_c1]; exact hs) hx h10 ⟨sg_i1, nm_e ⟨pk_in x 512 hx, br_f (by rw [nI_clamp (by omega)]; exact h9) ⟨pk_in x 512 hx, nm_e ?_⟩⟩⟩⟩
  refine hw _ _ _ (br_f (by decide) (hf _ _ _ (fun c9 => ?_)))
  exact sg_cell12 (n := 0) hx (by omega) (by rw [sg_c1, pk_us]; exact sg_16 x hx) hb (fun st' c12 => hp st' c9 c12)
/-- wantedBy: nothing -/
theorem sg_w_count {Q : Int32 → St2 → Prop} (hx : x < 512) (hK : a4 x = 0) (h : Q (-1) (bu, ba, tp, st, a1, a2, a3, a4, a5, a6, a7, a8, a9, a10, a11, a12)) : wpX_wantedBy Q (bu, ba, tp, st, a1, a2, a3, a4, a5, a6, a7, a8, a9, a10, a11, a12) (nI x) :=
  ⟨pk_in x 512 hx, nm_r (by rw [nI_clamp (by omega)]; exact hK) (br_t rfl h)⟩
theorem sg_w_one {Q : Int32 → St2 → Prop} {K : Int32} {l : Nat} (hx : x < 512) (hl : l < 512) (hK : a4 x = K) (k0 : ¬ K = 0) (k2 : ¬ K = 2) (k3 : ¬ K = 3) (k4 : ¬ K = 4) (k8 : ¬ K = 8) (h7 : a7 x = nI l) (h9 : a4 l = 9)
    (h : Q (-1) (bu, ba, tp, st, a1, a2, a3, a4, a5, a6, a7, a8, a9, a10, a11, a12)) : wpX_wantedBy Q (bu, ba, tp, st, a1, a2, a3, a4, a5, a6, a7, a8, a9, a10, a11, a12) (nI x) := by
  have c : (nI x).toNatClampNeg = x := nI_clamp (by omega)
  have hi : vp_in (nI x) 512 := pk_in x 512 hx
  refine ⟨hi, nm_r (by rw [c]; exact hK) (br_f k0 ⟨hi, sg_follow (x := l) (by rw [c]; exact h7) hl (by rw [h9]; decide) ⟨hi, nm_r (e' := a7) ?_ ⟨pk_in l 512 hl, br_t (by rw [nI_clamp (by omega)]; exact h9) (br_f k2 (br_f k3 (br_f k4 (br_f k8 h))))⟩⟩⟩)⟩
  rw [c, sg_16 l hl]
  exact sg_uid h7
theorem sg_w_add {Q : Int32 → St2 → Prop} {l r : Nat} (hx : x < 512) (hl : l < 512) (hr : r < 512) (hK : a4 x = 3) (h7 : a7 x = nI l) (h9 : a4 l = 9) (h8 : a8 x = nI r) (g9 : a4 r = 9)
    (h : Q (-1) (bu, ba, tp, st, a1, a2, a3, a4, a5, a6, a7, a8, a9, a10, a11, a12)) : wpX_wantedBy Q (bu, ba, tp, st, a1, a2, a3, a4, a5, a6, a7, a8, a9, a10, a11, a12) (nI x) := by
  have c : (nI x).toNatClampNeg = x := nI_clamp (by omega)
  have hi : vp_in (nI x) 512 := pk_in x 512 hx
  refine ⟨hi, nm_r (by rw [c]; exact hK) (br_f (by decide) ⟨hi, sg_follow (x := l) (by rw [c]; exact h7) hl (by rw [h9]; decide) ⟨hi, nm_r (e' := a7) ?_ ⟨pk_in l 512 hl, br_t (by rw [nI_clamp (by omega)]; exact h9) (br_f (by decide) (br_t rfl ?_))⟩⟩⟩)⟩
  · rw [c, sg_16 l hl]
    exact sg_uid h7
  · unfold wX_wantedBy_99
    refine ⟨hi, sg_follow (x := r) (by rw [c]; exact h8) hr (by rw [g9]; decide) ⟨hi, nm_r (e' := a8) ?_ ⟨pk_in r 512 hr, br_t (by rw [nI_clamp (by omega)]; exact g9) h⟩⟩⟩
    rw [c, sg_16 r hr]
    exact sg_uid h8
/-- wantedBy of a tail x of a cell l whose rest is m, no cell: m -/
theorem sg_w_tail {Q : Int32 → St2 → Prop} {l m : Nat} (hx : x < 512) (hl : l < 512) (hm : m < 512) (hK : a4 x = 2) (h7 : a7 x = nI l) (h9 : a4 l = 9) (g7 : a7 l = nI m) (m9 : a4 m ≠ 9) (m10 : a4 m ≠ 10)
    (h : Q (nI m) (bu, ba, tp, st, a1, a2, a3, a4, a5, a6, a7, a8, a9, a10, a11, a12)) : wpX_wantedBy Q (bu, ba, tp, st, a1, a2, a3, a4, a5, a6, a7, a8, a9, a10, a11, a12) (nI x) := by
  have c : (nI x).toNatClampNeg = x := nI_clamp (by omega)
  have hi : vp_in (nI x) 512 := pk_in x 512 hx
  refine ⟨hi, nm_r (by rw [c]; exact hK) (br_f (by decide) ⟨hi, sg_follow (x := l) (by rw [c]; exact h7) hl (by rw [h9]; decide) ⟨hi, nm_r (e' := a7) ?_ ⟨pk_in l 512 hl, br_t (by rw [nI_clamp (by omega)]; exact h9) (br_t rfl ⟨pk_in l 512 hl, sg_follow (x := m) (by rw [nI_clamp (by omega)]; exact g7) hm m10 ⟨pk_in m 512 hm, br_f (by rw [nI_clamp (by omega)]; exact m9) h⟩⟩)⟩⟩⟩)⟩
  rw [c, sg_16 l hl]
  exact sg_uid h7
/-- finish -/
theorem sg_f_count {Q : St2 → Prop} (hx : x < 512) (ht : t < 512) (hK : a4 x = 0)
    (h : ∀ c9 : Nat → Int32, Q (bu, ba, nI (t + 1), st, a1, a2, a3, upd (upd a4 t 0) x 9, upd (upd a5 t (a5 x + a6 x)) x (a5 x), upd a6 t (a6 x), upd (upd a7 t 0) x (nI t), upd a8 t 0, c9, a10, a11, a12)) : wpX_finish Q (bu, ba, nI t, st, a1, a2, a3, a4, a5, a6, a7, a8, a9, a10, a11, a12) (nI x) := by
  have c : (nI x).toNatClampNeg = x := nI_clamp (by omega)
  have hi : vp_in (nI x) 512 := pk_in x 512 hx
  refine ⟨hi, nm_r (by rw [c]; exact hK) ⟨hi, nm_e (br_f (by decide) ⟨hi, nm_e ⟨hi, nm_e (br_t rfl ⟨hi, hi, hi, ?_⟩)⟩⟩)⟩⟩
  rw [c]
  exact sg_alloc ht (sg_fin hx ht (h _))
theorem sg_f_scan {Q : St2 → Prop} {l m : Nat} (hx : x < 512) (hl : l < 512) (hm : m < 512) (ht : t < 512) (hK : a4 x = 6) (h7 : a7 x = nI l) (g7 : a7 l = nI m)
    (h : ∀ c9 : Nat → Int32, Q (bu, ba, nI (t + 1), st, a1, a2, a3, upd (upd a4 t 6) x 9, upd (upd a5 t (a5 x + a5 l)) x (a5 x + a5 l), upd a6 t 0, upd (upd a7 t (nI m)) x (nI t), upd a8 t 0, c9, a10, a11, a12)) : wpX_finish Q (bu, ba, nI t, st, a1, a2, a3, a4, a5, a6, a7, a8, a9, a10, a11, a12) (nI x) := by
  have c : (nI x).toNatClampNeg = x := nI_clamp (by omega)
  have d : (nI l).toNatClampNeg = l := nI_clamp (by omega)
  have hi : vp_in (nI x) 512 := pk_in x 512 hx
  have hj : vp_in (nI l) 512 := pk_in l 512 hl
  refine ⟨hi, nm_r (by rw [c]; exact hK) ⟨hi, nm_e (br_f (by decide) ⟨hi, nm_e ⟨hi, nm_r (by rw [c]; exact h7) (br_f (by decide) (br_f (by decide) (br_t rfl ⟨hi, hj, nm_e ⟨hj, ?_⟩⟩)))⟩⟩)⟩⟩
  rw [c, d]
  refine sg_alloc ht (sg_fin hx ht ?_)
  rw [g7, sg_16 m hm]
  exact h _
theorem sg_f_scale {Q : St2 → Prop} {l m : Nat} (hx : x < 512) (hl : l < 512) (hm : m < 512) (ht : t < 512) (hK : a4 x = 5) (h7 : a7 x = nI l) (g7 : a7 l = nI m)
    (h : ∀ c9 : Nat → Int32, Q (bu, ba, nI (t + 1), st, a1, a2, a3, upd (upd a4 t 5) x 9, upd (upd a5 t (a5 x)) x (a5 x * a5 l), upd a6 t 0, upd (upd a7 t (nI m)) x (nI t), upd a8 t 0, c9, a10, a11, a12)) : wpX_finish Q (bu, ba, nI t, st, a1, a2, a3, a4, a5, a6, a7, a8, a9, a10, a11, a12) (nI x) := by
  have c : (nI x).toNatClampNeg = x := nI_clamp (by omega)
  have d : (nI l).toNatClampNeg = l := nI_clamp (by omega)
  have hi : vp_in (nI x) 512 := pk_in x 512 hx
  have hj : vp_in (nI l) 512 := pk_in l 512 hl
  refine ⟨hi, nm_r (by rw [c]; exact hK) ⟨hi, nm_e (br_f (by decide) ⟨hi, nm_e ⟨hi, nm_r (by rw [c]; exact h7) (br_f (by decide) (br_t rfl ⟨hi, hj, nm_e ⟨hi, hj, ?_⟩⟩))⟩⟩)⟩⟩
  rw [c, d]
  refine sg_alloc ht (sg_fin hx ht ?_)
  rw [g7, sg_16 m hm]
  exact h _
theorem sg_f_add {Q : St2 → Prop} {l r m q : Nat} (hx : x < 512) (hl : l < 512) (hr : r < 512) (hm : m < 512) (hq : q < 512) (ht : t < 512) (hK : a4 x = 3) (h7 : a7 x = nI l) (h8 : a8 x = nI r) (g7 : a7 l = nI m) (k7 : a7 r = nI q)
    (h : ∀ c9 : Nat → Int32, Q (bu, ba, nI (t + 1), st, a1, a2, a3, upd (upd a4 t 3) x 9, upd (upd a5 t 0) x (a5 l + a5 r), upd a6 t 0, upd (upd a7 t (nI m)) x (nI t), upd a8 t (nI q), c9, a10, a11, a12)) : wpX_finish Q (bu, ba, nI t, st, a1, a2, a3, a4, a5, a6, a7, a8, a9, a10, a11, a12) (nI x) := by
  have c : (nI x).toNatClampNeg = x := nI_clamp (by omega)
  have d : (nI l).toNatClampNeg = l := nI_clamp (by omega)
  have e : (nI r).toNatClampNeg = r := nI_clamp (by omega)
  have hi : vp_in (nI x) 512 := pk_in x 512 hx
  have hj : vp_in (nI l) 512 := pk_in l 512 hl
  have hk : vp_in (nI r) 512 := pk_in r 512 hr
  refine ⟨hi, nm_r (e' := 3) (by rw [c]; exact hK) ⟨hi, nm_e (br_f (by decide) ⟨hi, nm_e ⟨hi, nm_r (by rw [c]; exact h7) (br_f (by decide) (br_f (by decide) (br_f (by decide) (br_f (by decide) ⟨hi, nm_r (by rw [c]; exact h8) ⟨hj, hk, ?_⟩⟩))))⟩⟩)⟩⟩
  refine br_t rfl (br_f (by decide) ?_)
  refine br_f (by decide) (br_f (by decide) ⟨hj, br_f (by decide) ⟨hk, ?_⟩⟩)
  rw [c, d, e]
  refine sg_alloc ht (sg_fin hx ht ?_)
  rw [g7, sg_16 m hm, k7, sg_16 q hq]
  exact h _
/-! force, by the node's kind -/
theorem sg_count {post : Int32 → St2 → Prop} (hx : x < 512) (ht : t + 1 < 256) (hK : a4 x = 0)
    (hp : ∀ (st' : Int32) (b9 b12 : Nat → Int32), post (nI x) (bu, 0, nI (t + 1), st', a1, a2, a3, upd (upd a4 t 0) x 9, upd (upd a5 t (a5 x + a6 x)) x (a5 x), upd a6 t (a6 x), upd (upd a7 t 0) x (nI t), upd a8 t 0, b9, a10, a11, b12)) : wpX_force post (bu, 0, nI t, st, a1, a2, a3, a4, a5, a6, a7, a8, a9, a10, a11, a12) (nI x) :=
  sg_step hx ht (by rw [hK]; decide) (by rw [hK]; decide) pk_us (fun _ _ _ h => sg_w_count hx hK h) (fun _ _ _ h => sg_f_count hx (by omega) hK h) hp
theorem sg_scan {post : Int32 → St2 → Prop} {l m : Nat} (hx : x < 512) (hl : l < 512) (hm : m < 512) (ht : t + 1 < 256) (hK : a4 x = 6) (h7 : a7 x = nI l) (h9 : a4 l = 9) (g7 : a7 l = nI m)
    (hp : ∀ (st' : Int32) (b9 b12 : Nat → Int32), post (nI x) (bu, 0, nI (t + 1), st', a1, a2, a3, upd (upd a4 t 6) x 9, upd (upd a5 t (a5 x + a5 l)) x (a5 x + a5 l), upd a6 t 0, upd (upd a7 t (nI m)) x (nI t), upd a8 t 0, b9, a10, a11, b12)) : wpX_force post (bu, 0, nI t, st, a1, a2, a3, a4, a5, a6, a7, a8, a9, a10, a11, a12) (nI x) :=
  sg_step hx ht (by rw [hK]; decide) (by rw [hK]; decide) pk_us (fun _ _ _ h => sg_w_one hx hl hK (by decide) (by decide) (by decide) (by decide) (by decide) h7 h9 h) (fun _ _ _ h => sg_f_scan hx hl hm (by omega) hK h7 g7 h) hp
theorem sg_scale {post : Int32 → St2 → Prop} {l m : Nat} (hx : x < 512) (hl : l < 512) (hm : m < 512) (ht : t + 1 < 256) (hK : a4 x = 5) (h7 : a7 x = nI l) (h9 : a4 l = 9) (g7 : a7 l = nI m)
    (hp : ∀ (st' : Int32) (b9 b12 : Nat → Int32), post (nI x) (bu, 0, nI (t + 1), st', a1, a2, a3, upd (upd a4 t 5) x 9, upd (upd a5 t (a5 x)) x (a5 x * a5 l), upd a6 t 0, upd (upd a7 t (nI m)) x (nI t), upd a8 t 0, b9, a10, a11, b12)) : wpX_force post (bu, 0, nI t, st, a1, a2, a3, a4, a5, a6, a7, a8, a9, a10, a11, a12) (nI x) :=
  sg_step hx ht (by rw [hK]; decide) (by rw [hK]; decide) pk_us (fun _ _ _ h => sg_w_one hx hl hK (by decide) (by decide) (by decide) (by decide) (by decide) h7 h9 h) (fun _ _ _ h => sg_f_scale hx hl hm (by omega) hK h7 g7 h) hp
theorem sg_add {post : Int32 → St2 → Prop} {l r m q : Nat} (hx : x < 512) (hl : l < 512) (hr : r < 512) (hm : m < 512) (hq : q < 512) (ht : t + 1 < 256) (hK : a4 x = 3) (h7 : a7 x = nI l) (h8 : a8 x = nI r) (h9 : a4 l = 9) (g9 : a4 r = 9) (g7 : a7 l = nI m) (k7 : a7 r = nI q)
    (hp : ∀ (st' : Int32) (b9 b12 : Nat → Int32), post (nI x) (bu, 0, nI (t + 1), st', a1, a2, a3, upd (upd a4 t 3) x 9, upd (upd a5 t 0) x (a5 l + a5 r), upd a6 t 0, upd (upd a7 t (nI m)) x (nI t), upd a8 t (nI q), b9, a10, a11, b12)) : wpX_force post (bu, 0, nI t, st, a1, a2, a3, a4, a5, a6, a7, a8, a9, a10, a11, a12) (nI x) :=
  sg_step hx ht (by rw [hK]; decide) (by rw [hK]; decide) pk_us (fun _ _ _ h => sg_w_add hx hl hr hK h7 h9 h8 g9 h) (fun _ _ _ h => sg_f_add hx hl hr hm hq (by omega) hK h7 h8 g7 k7 h) hp
/-- a tail of a cell whose rest is that tail -/
theorem sg_tail {post : Int32 → St2 → Prop} {l : Nat} (hx : x < 512) (hl : l < 512) (ht : t < 256) (hK : a4 x = 2) (h7 : a7 x = nI l) (h9 : a4 l = 9) (g7 : a7 l = nI x)
    (hp : ∀ (st' : Int32) (b9 b12 : Nat → Int32), post (-1) (bu, 0, nI t, st', a1, a2, a3, a4, a5, a6, a7, a8, b9, a10, a11, b12)) : wpX_force post (bu, 0, nI t, st, a1, a2, a3, a4, a5, a6, a7, a8, a9, a10, a11, a12) (nI x) := by
  refine sg_force0 hx (fun b12 hs => ⟨3, br_f (by decide) (br_f (sg_t256 (by omega)) ?_)⟩)
  unfold wX_force_38
  refine ⟨sg_i1, sg_follow (x := x) (by rw [sg_c1]; exact hs) hx (by rw [hK]; decide) ⟨sg_i1, nm_e ⟨pk_in x 512 hx, br_f (by rw [nI_clamp (by omega), hK]; decide) ⟨pk_in x 512 hx, nm_e ?_⟩⟩⟩⟩
  refine sg_w_tail hx hl hx hK h7 h9 g7 (by rw [hK]; decide) (by rw [hK]; decide) (br_t (nI_pos' (by omega)) ⟨pk_in x 512 hx, br_f (by rw [pk_us]; decide) ⟨2, br_f (by decide) ⟨sg_i0, ?_, nm_e (nm_e (br_t (by decide) (hp _ _ _)))⟩⟩⟩)
  rw [sg_c1]
  exact pk_in x 512 hx ((sb_at (P := fun k => upd b12 0 ((nI x).toInt16.toInt32) k.toNatClampNeg = (nI x).toInt16.toInt32) (y := nI 0) rfl pk_us).trans (sg_16 x hx))
end
end
section
/-! ===== reach over a chain of cells; what the answers are ===== -/
/-- reach, as its strongest post -/
def sg_R (u : St2) (s k : Nat) (Q : Int32 → St2 → Prop) : Prop := ∀ P : Int32 → St2 → Prop, (∀ r u', Q r u' → P r u') → wpX_reach P u (nI s) (nI k)
def sg_num (u : St2) (x : Nat) : Int32 := match u with
  | (_, _, _, _, _, _, _, _, a5, _, _, _, _, _, _, _) => a5 x
/-- a cell with the number v -/
def sg_V (u : St2) (s k : Nat) (v : Int32) (Q : St2 → Prop) : Prop := sg_R u s k (fun r u' => ∃ x, x < 512 ∧ r = nI x ∧ sg_num u' x = v ∧ Q u')
/-- a cell -/
def sg_W (u : St2) (s k : Nat) (Q : St2 → Prop) : Prop := sg_R u s k (fun r u' => ∃ x, x < 512 ∧ r = nI x ∧ Q u')
/-- none -/
def sg_N (u : St2) (s k : Nat) (Q : St2 → Prop) : Prop := sg_R u s k (fun r u' => r = -1 ∧ Q u')
theorem sg_VW {u : St2} {s k : Nat} {v : Int32} {Q : St2 → Prop} (h : sg_V u s k v Q) : sg_W u s k Q :=
  fun P hP => h P (fun r u' ⟨x, h1, h2, _, h3⟩ => hP r u' ⟨x, h1, h2, h3⟩)
section
variable {st : Int32} {a1 a2 a3 a4 a5 a6 a7 a8 a9 a10 a11 a12 : Nat → Int32} {t : Nat}
theorem sg_reach18 {P Q : Int32 → St2 → Prop} {c : Nat → Nat} {m k : Nat} (hk : k < 16) (hmk : m ≤ k) (ht : t < 256) (hP : ∀ r u', Q r u' → P r u')
    (hm : m = k ∨ ∀ r u', Q r u' → r < 0)
    (hc : ∀ j, j < m → c j < 512 ∧ a4 (c j) = 9 ∧ a7 (c j) = nI (c (j + 1)))
    (hF : ∀ (P : Int32 → St2 → Prop) (st : Int32) (a12 : Nat → Int32), (∀ r u', Q r u' → P r u') → wpX_force P (1, 0, nI t, st, a1, a2, a3, a4, a5, a6, a7, a8, a9, a10, a11, a12) (nI (c m))) :
    ∀ (d j : Nat) (st : Int32) (a12 : Nat → Int32), j + d + 1 = m → wX_reach_18 P (nI k) (d + 2) (nI (c j)) (nI j) 1 0 (nI t) st a1 a2 a3 a4 a5 a6 a7 a8 a9 a10 a11 a12 := by
  intro d
  induction d with
  | zero =>
    intro j st a12 hj
    obtain ⟨h1, h2, h3⟩ := hc j (by omega)
    refine br_f (nI_ge (by omega) (by omega)) (br_f (nI_pos (by omega)) ⟨pk_in (c j) 512 h1, ?_⟩)
    rw [nI_clamp (show c j < 2 ^ 31 by omega), h3, show j + 1 = m by omega]
    refine hF _ _ _ (fun r u' hq => ?_)
    obtain ⟨u1, u2, u3, u4, u5, u6, u7, u8, u9, u10, u11, u12, u13, u14, u15, u16⟩ := u'
    refine nm_r (nI_1 j) ?_
    rw [show j + 1 = m by omega]
    refine br_c (fun _ => hP _ _ hq) (fun hn => ?_)
    rcases hm with e | e
    · subst e
      exact absurd (nI_le (Nat.le_refl m) (by omega)) hn
    · exact br_t (e _ _ hq) (hP _ _ hq)
  | succ d ih =>
    intro j st a12 hj
    obtain ⟨h1, h2, h3⟩ := hc j (by omega)
    obtain ⟨g1, g2, g3⟩ := hc (j + 1) (by omega)
    refine br_f (nI_ge (by omega) (by omega)) (br_f (nI_pos (by omega)) ⟨pk_in (c j) 512 h1, ?_⟩)
    rw [nI_clamp (show c j < 2 ^ 31 by omega), h3]
    exact sg_cell g1 ht g2 (fun st' b12 => nm_r (nI_1 j) (ih (j + 1) st' b12 (by omega)))
theorem sg_reach {Q : Int32 → St2 → Prop} (c : Nat → Nat) (m : Nat) {s k : Nat} (hs : s < 6) (hk : k < 16) (hmk : m ≤ k) (ht : t < 256) (hr : a11 s = nI (c 0))
    (hm : m = k ∨ ∀ r u', Q r u' → r < 0)
    (hc : ∀ j, j < m → c j < 512 ∧ a4 (c j) = 9 ∧ a7 (c j) = nI (c (j + 1)))
    (hF : ∀ (P : Int32 → St2 → Prop) (st : Int32) (a12 : Nat → Int32), (∀ r u', Q r u' → P r u') → wpX_force P (1, 0, nI t, st, a1, a2, a3, a4, a5, a6, a7, a8, a9, a10, a11, a12) (nI (c m))) :
    sg_R (1, 0, nI t, st, a1, a2, a3, a4, a5, a6, a7, a8, a9, a10, a11, a12) s k Q := by
  intro P hP
  refine br_f (by decide) ⟨pk_in s 6 hs, ?_⟩
  rw [nI_clamp (show s < 2 ^ 31 by omega), hr]
  by_cases e0 : m = 0
  · subst e0
    refine hF _ _ _ (fun r u' hq => ?_)
    obtain ⟨u1, u2, u3, u4, u5, u6, u7, u8, u9, u10, u11, u12, u13, u14, u15, u16⟩ := u'
    refine ⟨1, br_c (fun _ => hP _ _ hq) (fun hn => ?_)⟩
    rcases hm with e | e
    · subst e
      exact absurd (nI_le (Nat.le_refl 0) (by omega)) hn
    · exact br_t (e _ _ hq) (hP _ _ hq)
  · obtain ⟨h1, h2, h3⟩ := hc 0 (by omega)
    exact sg_cell h1 ht h2 (fun st' b12 => ⟨(m - 1) + 2, sg_reach18 hk hmk ht hP hm hc hF (m - 1) 0 st' b12 (by omega)⟩)
/-! the questions -/
theorem sg_ready1 {post : Int32 → St2 → Prop} {u : St2} {s k : Nat} {Q : St2 → Prop} (hs : s < 6) (hk : k < 16) (h : sg_W u s k Q) (hp : ∀ u', Q u' → post 1 u') : wpX_ready post u (nI s) (nI k) := by
  obtain ⟨u1, u2, u3, u4, u5, u6, u7, u8, u9, u10, u11, u12, u13, u14, u15, u16⟩ := u
  refine br_f (nI_pos (by omega)) (br_f (nI_nlt (b := s) (a := 5) (by omega) (by omega)) (br_f (by decide) (br_f (nI_pos (by omega)) (br_t (nI_le (b := 15) (by omega) (by omega)) ?_))))
  refine h _ (fun r u' ⟨x, h1, h2, h3⟩ => ?_)
  obtain ⟨v1, v2, v3, v4, v5, v6, v7, v8, v9, v10, v11, v12, v13, v14, v15, v16⟩ := u'
  subst h2
  exact br_f (nI_pos (by omega)) (hp _ h3)
theorem sg_ready0 {post : Int32 → St2 → Prop} {u : St2} {s k : Nat} {Q : St2 → Prop} (hs : s < 6) (hk : k < 16) (h : sg_N u s k Q) (hp : ∀ u', Q u' → post 0 u') : wpX_ready post u (nI s) (nI k) := by
  obtain ⟨u1, u2, u3, u4, u5, u6, u7, u8, u9, u10, u11, u12, u13, u14, u15, u16⟩ := u
  refine br_f (nI_pos (by omega)) (br_f (nI_nlt (b := s) (a := 5) (by omega) (by omega)) (br_f (by decide) (br_f (nI_pos (by omega)) (br_t (nI_le (b := 15) (by omega) (by omega)) ?_))))
  refine h _ (fun r u' ⟨h2, h3⟩ => ?_)
  obtain ⟨v1, v2, v3, v4, v5, v6, v7, v8, v9, v10, v11, v12, v13, v14, v15, v16⟩ := u'
  subst h2
  exact br_t (by decide) (hp _ h3)
theorem sg_elem {post : Int32 → St2 → Prop} {u : St2} {s k : Nat} {v : Int32} {Q : St2 → Prop} (hs : s < 6) (hk : k < 16) (h : sg_V u s k v Q) (hp : ∀ u', Q u' → post v u') : wpX_element post u (nI s) (nI k) := by
  obtain ⟨u1, u2, u3, u4, u5, u6, u7, u8, u9, u10, u11, u12, u13, u14, u15, u16⟩ := u
  refine br_f (nI_pos (by omega)) (br_f (nI_nlt (b := s) (a := 5) (by omega) (by omega)) (br_f (by decide) (br_f (nI_pos (by omega)) (br_t (nI_le (b := 15) (by omega) (by omega)) ?_))))
  refine h _ (fun r u' ⟨x, h1, h2, h3, h4⟩ => ?_)
  obtain ⟨v1, v2, v3, v4, v5, v6, v7, v8, v9, v10, v11, v12, v13, v14, v15, v16⟩ := u'
  subst h2
  refine br_t (nI_pos' (by omega)) ⟨pk_in x 512 h1, ?_⟩
  rw [nI_clamp (show x < 2 ^ 31 by omega), show v9 x = v from h3]
  exact hp _ h4
/-- known's loop -/
def sg_kn (post : Int32 → St2 → Prop) (s : Int32) (n : Nat) (k : Int32) (u : St2) : Prop := match u with
  | (u1, u2, u3, u4, a1, a2, a3, a4, a5, a6, a7, a8, a9, a10, a11, a12) => wX_known_12 post s n k u1 u2 u3 u4 a1 a2 a3 a4 a5 a6 a7 a8 a9 a10 a11 a12
theorem sg_kn_s {post : Int32 → St2 → Prop} {s k n : Nat} {u : St2} {Q : St2 → Prop} (hk : k < 16) (h : sg_W u s k Q) (hp : ∀ u', Q u' → sg_kn post (nI s) n (nI (k + 1)) u') : sg_kn post (nI s) (n + 1) (nI k) u := by
  obtain ⟨u1, u2, u3, u4, u5, u6, u7, u8, u9, u10, u11, u12, u13, u14, u15, u16⟩ := u
  refine br_f (nI_ge (b := 16) (by omega) (by omega)) (h _ (fun r u' ⟨x, h1, h2, h3⟩ => ?_))
  obtain ⟨v1, v2, v3, v4, v5, v6, v7, v8, v9, v10, v11, v12, v13, v14, v15, v16⟩ := u'
  subst h2
  exact br_f (nI_pos (by omega)) (nm_r (nI_1 k) (hp _ h3))
theorem sg_kn_n {post : Int32 → St2 → Prop} {s k n : Nat} {u : St2} {Q : St2 → Prop} (hk : k < 16) (h : sg_N u s k Q) (hp : ∀ u', Q u' → post (nI k) u') : sg_kn post (nI s) (n + 1) (nI k) u := by
  obtain ⟨u1, u2, u3, u4, u5, u6, u7, u8, u9, u10, u11, u12, u13, u14, u15, u16⟩ := u
  refine br_f (nI_ge (b := 16) (by omega) (by omega)) (h _ (fun r u' ⟨h2, h3⟩ => ?_))
  obtain ⟨v1, v2, v3, v4, v5, v6, v7, v8, v9, v10, v11, v12, v13, v14, v15, v16⟩ := u'
  subst h2
  exact br_t (by decide) (hp _ h3)
theorem sg_kn_e {post : Int32 → St2 → Prop} {s : Int32} {n : Nat} {u : St2} (h : post (nI 16) u) : sg_kn post s (n + 1) (nI 16) u := by
  obtain ⟨u1, u2, u3, u4, u5, u6, u7, u8, u9, u10, u11, u12, u13, u14, u15, u16⟩ := u
  exact br_t (nI_le (a := 16) (by omega) (by omega)) h
theorem sg_known {post : Int32 → St2 → Prop} {s : Nat} {u : St2} (hs : s < 6) (n : Nat) (h : sg_kn post (nI s) n (nI 0) u) : wpX_known post u (nI s) := by
  obtain ⟨u1, u2, u3, u4, u5, u6, u7, u8, u9, u10, u11, u12, u13, u14, u15, u16⟩ := u
  exact br_f (nI_pos (by omega)) (br_f (nI_nlt (b := s) (a := 5) (by omega) (by omega)) (br_f (by decide) ⟨n, h⟩))
/-- firstAbove's loop -/
def sg_fa (post : Int32 → St2 → Prop) (s v : Int32) (n : Nat) (k : Int32) (u : St2) : Prop := match u with
  | (u1, u2, u3, u4, a1, a2, a3, a4, a5, a6, a7, a8, a9, a10, a11, a12) => wX_firstAbove_12 post s v n k u1 u2 u3 u4 a1 a2 a3 a4 a5 a6 a7 a8 a9 a10 a11 a12
theorem sg_fa_s {post : Int32 → St2 → Prop} {s k n : Nat} {u : St2} {v w : Int32} {Q : St2 → Prop} (hk : k < 16) (h : sg_V u s k w Q)
    (h1 : w ≤ v → ∀ u', Q u' → sg_fa post (nI s) v n (nI (k + 1)) u') (h2 : ¬ w ≤ v → ∀ u', Q u' → post (nI k) u') : sg_fa post (nI s) v (n + 1) (nI k) u := by
  obtain ⟨u1, u2, u3, u4, u5, u6, u7, u8, u9, u10, u11, u12, u13, u14, u15, u16⟩ := u
  refine br_f (nI_ge (b := 16) (by omega) (by omega)) (h _ (fun r u' ⟨x, g1, g2, g3, g4⟩ => ?_))
  obtain ⟨v1, v2, v3, v4, v5, v6, v7, v8, v9, v10, v11, v12, v13, v14, v15, v16⟩ := u'
  subst g2
  refine br_t (nI_pos' (by omega)) ⟨pk_in x 512 g1, ?_⟩
  rw [nI_clamp (show x < 2 ^ 31 by omega), show v9 x = w from g3]
  exact br_c (fun z => nm_r (nI_1 k) (h1 z _ g4)) (fun z => h2 z _ g4)
theorem sg_fa_e {post : Int32 → St2 → Prop} {s v : Int32} {n : Nat} {u : St2} (h : post (-2) u) : sg_fa post s v (n + 1) (nI 16) u := by
  obtain ⟨u1, u2, u3, u4, u5, u6, u7, u8, u9, u10, u11, u12, u13, u14, u15, u16⟩ := u
  exact br_t (nI_le (a := 16) (by omega) (by omega)) h
theorem sg_first {post : Int32 → St2 → Prop} {s : Nat} {v : Int32} {u : St2} (hs : s < 6) (n : Nat) (h : sg_fa post (nI s) v n (nI 0) u) : wpX_firstAbove post u (nI s) v := by
  obtain ⟨u1, u2, u3, u4, u5, u6, u7, u8, u9, u10, u11, u12, u13, u14, u15, u16⟩ := u
  exact br_f (nI_pos (by omega)) (br_f (nI_nlt (b := s) (a := 5) (by omega) (by omega)) (br_f (by decide) ⟨n, h⟩))
/-! define -/
variable {bu ba tp : Int32}
theorem sg_d57 {post : Int32 → St2 → Prop} {s : Nat} {K K' x y : Int32} (hs : s < 6) (hK : K.toInt8.toInt32 = K') (h : post 1 (0, ba, tp, st, upd a1 s K', upd a2 s x, upd a3 s y, a4, a5, a6, a7, a8, a9, a10, a11, a12)) : wX_define_57 post (nI s) K x y bu ba tp st a1 a2 a3 a4 a5 a6 a7 a8 a9 a10 a11 a12 := by
  have c : (nI s).toNatClampNeg = s := nI_clamp (by omega)
  have hi : vp_in (nI s) 6 := pk_in s 6 hs
  exact ⟨hi, nm_r (sg_ur c hK) ⟨hi, nm_r (sg_ur c rfl) ⟨hi, nm_r (sg_ur c rfl) h⟩⟩⟩
theorem sg_seq {P : Int32 → Prop} {s : Nat} (hs : s < 6) (h : P 1) : wpX_isSequence P (bu, ba, tp, st, a1, a2, a3, a4, a5, a6, a7, a8, a9, a10, a11, a12) (nI s) :=
  br_f (nI_pos (by omega)) (br_f (nI_nlt (b := s) (a := 5) (by omega) (by omega)) h)
theorem sg_def_cons {post : Int32 → St2 → Prop} {s q : Nat} {x : Int32} (hs : s < 6) (hq : q < 6) (h : post 1 (0, ba, tp, st, upd a1 s 1, upd a2 s x, upd a3 s (nI q), a4, a5, a6, a7, a8, a9, a10, a11, a12)) : wpX_define post (bu, ba, tp, st, a1, a2, a3, a4, a5, a6, a7, a8, a9, a10, a11, a12) (nI s) 1 x (nI q) := by
  unfold wpX_define
  dsimp only
  refine sg_seq hs (br_f (by decide) (br_f (by decide) (br_t (by decide) (br_t (by decide) (br_t rfl ?_)))))
  unfold wX_define_38
  exact br_t rfl (br_f (by decide) (sg_seq hq (br_f (by decide) (sg_d57 hs (by decide) h))))
theorem sg_def_scale {post : Int32 → St2 → Prop} {s q : Nat} {x : Int32} (hs : s < 6) (hq : q < 6) (h : post 1 (0, ba, tp, st, upd a1 s 5, upd a2 s x, upd a3 s (nI q), a4, a5, a6, a7, a8, a9, a10, a11, a12)) : wpX_define post (bu, ba, tp, st, a1, a2, a3, a4, a5, a6, a7, a8, a9, a10, a11, a12) (nI s) 5 x (nI q) := by
  unfold wpX_define
  dsimp only
  refine sg_seq hs (br_f (by decide) (br_f (by decide) (br_t (by decide) (br_f (by decide) (br_t rfl (br_t rfl ?_))))))
  unfold wX_define_38
  exact br_f (by decide) (br_f (by decide) (br_f (by decide) (br_t rfl (br_f (by decide) (sg_seq hq (br_f (by decide) (sg_d57 hs (by decide) h)))))))
theorem sg_def_add {post : Int32 → St2 → Prop} {s p q : Nat} (hs : s < 6) (hp : p < 6) (hq : q < 6) (h : post 1 (0, ba, tp, st, upd a1 s 3, upd a2 s (nI p), upd a3 s (nI q), a4, a5, a6, a7, a8, a9, a10, a11, a12)) : wpX_define post (bu, ba, tp, st, a1, a2, a3, a4, a5, a6, a7, a8, a9, a10, a11, a12) (nI s) 3 (nI p) (nI q) := by
  unfold wpX_define
  dsimp only
  refine sg_seq hs (br_f (by decide) (br_f (by decide) (br_t (by decide) (br_f (by decide) (br_f (by decide) (br_f (by decide) (sg_seq hp (br_f (by decide) ?_))))))))
  unfold wX_define_38
  exact br_f (by decide) (br_t rfl (br_f (by decide) (sg_seq hq (br_f (by decide) (sg_d57 hs (by decide) h)))))
theorem sg_def_a {post : Int32 → St2 → Prop} {s p : Nat} {K y : Int32} (hK : K = 2 ∨ K = 6) (hs : s < 6) (hp : p < 6) (h : post 1 (0, ba, tp, st, upd a1 s K, upd a2 s (nI p), upd a3 s y, a4, a5, a6, a7, a8, a9, a10, a11, a12)) : wpX_define post (bu, ba, tp, st, a1, a2, a3, a4, a5, a6, a7, a8, a9, a10, a11, a12) (nI s) K (nI p) y := by
  rcases hK with e | e
  all_goals
    subst e
    unfold wpX_define
    dsimp only
    refine sg_seq hs (br_f (by decide) (br_f (by decide) (br_t (by decide) (br_f (by decide) (br_f (by decide) (br_f (by decide) (sg_seq hp (br_f (by decide) ?_))))))))
    unfold wX_define_38
    exact br_f (by decide) (br_f (by decide) (br_f (by decide) (br_f (by decide) (br_f (by decide) (br_f (by decide) (br_t rfl (sg_d57 hs (by decide) h)))))))
/-! build -/
theorem sg_b_count {post : St2 → Prop} {n s : Nat} (hs : s < 6) (hK : a1 s = 0)
    (h : wX_build_25 post n (nI (s + 1)) 1 0 (nI (s + 1)) st a1 a2 a3 (upd a4 s 0) (upd a5 s (a2 s)) (upd a6 s (a3 s)) (upd a7 s 0) (upd a8 s 0) (upd a9 s 0) a10 (upd a11 s (nI s)) a12) : wX_build_25 post (n + 1) (nI s) 1 0 (nI s) st a1 a2 a3 a4 a5 a6 a7 a8 a9 a10 a11 a12 := by
  have c : (nI s).toNatClampNeg = s := nI_clamp (by omega)
  have hi : vp_in (nI s) 6 := pk_in s 6 hs
  refine br_f (nI_ge (b := 6) hs (by omega)) ⟨hi, nm_r (e' := 0) (by rw [c]; exact hK) ⟨hi, nm_r (e' := a2 s) (by rw [c]) ⟨hi, nm_r (e' := a3 s) (by rw [c]) ?_⟩⟩⟩
  refine br_f (by decide) (br_f (by decide) (br_f (by decide) (br_f (by decide) (br_f (by decide) (br_f (by decide) (br_t rfl ?_))))))
  unfold wX_build_67
  exact ⟨hi, nm_r (sg_ur c (sg_16 s (by omega))) (br_t rfl (sg_alloc (by omega) (nm_r (nI_1 s) h)))⟩
theorem sg_b_cons {post : St2 → Prop} {n s q : Nat} (hs : s < 6) (hq : q < 6) (hK : a1 s = 1) (h3 : a3 s = nI q)
    (h : wX_build_25 post n (nI (s + 1)) 1 0 (nI (s + 1)) st a1 a2 a3 (upd a4 s 9) (upd a5 s (a2 s)) (upd a6 s 0) (upd a7 s (nI q)) (upd a8 s 0) (upd a9 s 0) a10 (upd a11 s (nI s)) a12) : wX_build_25 post (n + 1) (nI s) 1 0 (nI s) st a1 a2 a3 a4 a5 a6 a7 a8 a9 a10 a11 a12 := by
  have c : (nI s).toNatClampNeg = s := nI_clamp (by omega)
  have hi : vp_in (nI s) 6 := pk_in s 6 hs
  refine br_f (nI_ge (b := 6) hs (by omega)) ⟨hi, nm_r (e' := 1) (by rw [c]; exact hK) ⟨hi, nm_r (e' := a2 s) (by rw [c]) ⟨hi, nm_r (e' := nI q) (by rw [c]; exact h3) ?_⟩⟩⟩
  refine br_t rfl (br_f (by decide) ?_)
  unfold wX_build_67
  refine ⟨hi, nm_r (sg_ur c (sg_16 s (by omega))) (br_f (by decide) (br_t rfl (sg_alloc (by omega) (nm_r (nI_1 s) ?_))))⟩
  rw [sg_16 q (by omega)]
  exact h
theorem sg_b_scale {post : St2 → Prop} {n s q : Nat} (hs : s < 6) (hq : q < 6) (hK : a1 s = 5) (h3 : a3 s = nI q)
    (h : wX_build_25 post n (nI (s + 1)) 1 0 (nI (s + 1)) st a1 a2 a3 (upd a4 s 5) (upd a5 s (a2 s)) (upd a6 s 0) (upd a7 s (nI q)) (upd a8 s 0) (upd a9 s 0) a10 (upd a11 s (nI s)) a12) : wX_build_25 post (n + 1) (nI s) 1 0 (nI s) st a1 a2 a3 a4 a5 a6 a7 a8 a9 a10 a11 a12 := by
  have c : (nI s).toNatClampNeg = s := nI_clamp (by omega)
  have hi : vp_in (nI s) 6 := pk_in s 6 hs
  refine br_f (nI_ge (b := 6) hs (by omega)) ⟨hi, nm_r (e' := 5) (by rw [c]; exact hK) ⟨hi, nm_r (e' := a2 s) (by rw [c]) ⟨hi, nm_r (e' := nI q) (by rw [c]; exact h3) ?_⟩⟩⟩
  refine br_f (by decide) (br_f (by decide) (br_f (by decide) (br_t rfl (br_f (by decide) ?_))))
  unfold wX_build_67
  refine ⟨hi, nm_r (sg_ur c (sg_16 s (by omega))) (br_f (by decide) (br_f (by decide) (br_t rfl (sg_alloc (by omega) (nm_r (nI_1 s) ?_)))))⟩
  rw [sg_16 q (by omega)]
  exact h
theorem sg_b_add {post : St2 → Prop} {n s p q : Nat} (hs : s < 6) (hp : p < 6) (hq : q < 6) (hK : a1 s = 3) (h2 : a2 s = nI p) (h3 : a3 s = nI q)
    (h : wX_build_25 post n (nI (s + 1)) 1 0 (nI (s + 1)) st a1 a2 a3 (upd a4 s 3) (upd a5 s 0) (upd a6 s 0) (upd a7 s (nI p)) (upd a8 s (nI q)) (upd a9 s 0) a10 (upd a11 s (nI s)) a12) : wX_build_25 post (n + 1) (nI s) 1 0 (nI s) st a1 a2 a3 a4 a5 a6 a7 a8 a9 a10 a11 a12 := by
  have c : (nI s).toNatClampNeg = s := nI_clamp (by omega)
  have hi : vp_in (nI s) 6 := pk_in s 6 hs
  refine br_f (nI_ge (b := 6) hs (by omega)) ⟨hi, nm_r (e' := 3) (by rw [c]; exact hK) ⟨hi, nm_r (e' := nI p) (by rw [c]; exact h2) ⟨hi, nm_r (e' := nI q) (by rw [c]; exact h3) ?_⟩⟩⟩
  refine br_f (by decide) (br_t rfl (br_f (by decide) ?_))
  unfold wX_build_67
  refine ⟨hi, nm_r (sg_ur c (sg_16 s (by omega))) (br_f (by decide) (br_f (by decide) (br_f (by decide) (sg_alloc (by omega) (nm_r (nI_1 s) ?_)))))⟩
  rw [sg_16 p (by omega), sg_16 q (by omega)]
  exact h
theorem sg_b_a {post : St2 → Prop} {n s p : Nat} {K : Int32} (hk : K = 2 ∨ K = 6) (hs : s < 6) (hp : p < 6) (hK : a1 s = K) (h2 : a2 s = nI p)
    (h : wX_build_25 post n (nI (s + 1)) 1 0 (nI (s + 1)) st a1 a2 a3 (upd a4 s K) (upd a5 s 0) (upd a6 s 0) (upd a7 s (nI p)) (upd a8 s 0) (upd a9 s 0) a10 (upd a11 s (nI s)) a12) : wX_build_25 post (n + 1) (nI s) 1 0 (nI s) st a1 a2 a3 a4 a5 a6 a7 a8 a9 a10 a11 a12 := by
  have c : (nI s).toNatClampNeg = s := nI_clamp (by omega)
  have hi : vp_in (nI s) 6 := pk_in s 6 hs
  refine br_f (nI_ge (b := 6) hs (by omega)) ⟨hi, nm_r (e' := K) (by rw [c]; exact hK) ⟨hi, nm_r (e' := nI p) (by rw [c]; exact h2) ⟨hi, nm_r (e' := a3 s) (by rw [c]) ?_⟩⟩⟩
  rcases hk with e | e
  all_goals
    subst e
    refine br_f (by decide) (br_f (by decide) (br_f (by decide) (br_f (by decide) (br_f (by decide) (br_f (by decide) (br_t rfl ?_))))))
    unfold wX_build_67
    refine ⟨hi, nm_r (sg_ur c (sg_16 s (by omega))) (br_f (by decide) (br_f (by decide) (br_f (by decide) (sg_alloc (by omega) (nm_r (nI_1 s) ?_)))))⟩
    rw [sg_16 p (by omega)]
    exact h
theorem sg_b_e {post : St2 → Prop} {n : Nat} (h : post (1, 0, nI 6, st, a1, a2, a3, a4, a5, a6, a7, a8, a9, a10, a11, a12)) : wX_build_25 post (n + 1) (nI 6) 1 0 (nI 6) st a1 a2 a3 a4 a5 a6 a7 a8 a9 a10 a11 a12 :=
  br_t (nI_le (a := 6) (by omega) (by omega)) h
/-- reach of a state that is not built is reach of the built one -/
theorem sg_unbuilt {s k : Nat} {Q : Int32 → St2 → Prop} {b4 b5 b6 b7 b8 b9 b11 : Nat → Int32}
    (hb : ∀ B : St2 → Prop, B (1, 0, nI 6, st, a1, a2, a3, b4, b5, b6, b7, b8, b9, a10, b11, a12) → wX_build_25 B 7 (nI 0) 1 0 (nI 0) st a1 a2 a3 a4 a5 a6 a7 a8 a9 a10 a11 a12)
    (h : sg_R (1, 0, nI 6, st, a1, a2, a3, b4, b5, b6, b7, b8, b9, a10, b11, a12) s k Q) : sg_R (0, ba, tp, st, a1, a2, a3, a4, a5, a6, a7, a8, a9, a10, a11, a12) s k Q := by
  intro P hP
  have g := h P hP
  exact br_t rfl ⟨7, hb _ (g.2 (by decide))⟩
end
end
section
/-! ===== phase 1: known(1) over two cells and a COUNT ===== -/
theorem sg_u2 {f : Nat → Int32} {t x y : Nat} {v w : Int32} (h1 : y ≠ t) (h2 : y ≠ x) : upd (upd f t v) x w y = f y := by rw [pk_un h2, pk_un h1]
theorem sg_u2x {f : Nat → Int32} {t x y : Nat} {v w : Int32} (h : y = x) : upd (upd f t v) x w y = w := by rw [h, pk_us]
theorem sg_u2t {f : Nat → Int32} {t x y : Nat} {v w : Int32} (h : y = t) (h2 : y ≠ x) : upd (upd f t v) x w y = v := by rw [pk_un h2, h, pk_us]
def sg_d (j : Nat) : Nat := 1 + j + 3 * min (j - 1) 1
theorem sg_d_le (n : Nat) : sg_d n ≤ n + 4 := by unfold sg_d; omega
theorem sg_d_lt {n m : Nat} (h : n < m) : sg_d n < sg_d m := by unfold sg_d; omega
theorem sg_d_s {j : Nat} (h : 1 ≤ j) : sg_d (j + 1) = 5 + j := by unfold sg_d; omega
def sg_I1 (A1 A2 A3 : Nat → Int32) (j : Nat) (u : St2) : Prop := ∃ (st : Int32) (a4 a5 a6 a7 a8 a9 a10 a11 a12 : Nat → Int32), u = (1, 0, nI (5 + j), st, A1, A2, A3, a4, a5, a6, a7, a8, a9, a10, a11, a12) ∧ a11 1 = nI 1 ∧ (∀ n, n < j → a4 (sg_d n) = 9 ∧ a7 (sg_d n) = nI (sg_d (n + 1))) ∧ a4 (sg_d j) = 0
theorem sg_p1 {A1 A2 A3 : Nat → Int32} {j : Nat} {u : St2} (hj : 1 ≤ j) (hj2 : j < 16) (h : sg_I1 A1 A2 A3 j u) : sg_W u 1 j (sg_I1 A1 A2 A3 (j + 1)) := by
  obtain ⟨st, a4, a5, a6, a7, a8, a9, a10, a11, a12, rfl, h11, hc, hK⟩ := h
  have hb : ∀ n, n < 40 → sg_d n < 512 := fun n hn => Nat.lt_of_le_of_lt (sg_d_le n) (by omega)
  have hle := sg_d_le j
  have hs := sg_d_s hj
  refine sg_reach sg_d j (by omega) hj2 (Nat.le_refl j) (by omega) h11 (Or.inl rfl) (fun n hn => ⟨hb n (by omega), (hc n hn).1, (hc n hn).2⟩) (fun P st a12 hP => sg_count (t := 5 + j) (hb j (by omega)) (by omega) hK (fun st' b9 b12 => hP _ _ ⟨sg_d j, hb j (by omega), rfl, st', _, _, _, _, _, _, _, _, _, rfl, h11, fun n hn => ?_, ?_⟩))
  · by_cases e : n = j
    · subst e
      exact ⟨sg_u2x rfl, (sg_u2x rfl).trans (by rw [hs])⟩
    · have hn' : n < j := by omega
      have hlt := sg_d_lt hn'
      have hl2 := sg_d_le n
      exact ⟨(sg_u2 (by omega) (by omega)).trans (hc n hn').1, (sg_u2 (by omega) (by omega)).trans (hc n hn').2⟩
  · exact sg_u2t hs (by omega)
theorem sg_p1_0 {A1 A2 A3 : Nat → Int32} {u : St2} (h : sg_I1 A1 A2 A3 1 u) : sg_W u 1 0 (sg_I1 A1 A2 A3 1) := by
  obtain ⟨st, a4, a5, a6, a7, a8, a9, a10, a11, a12, rfl, h11, hc, hK⟩ := h
  exact sg_reach sg_d 0 (by omega) (by omega) (Nat.le_refl 0) (by omega) h11 (Or.inl rfl) (fun n hn => absurd hn (by omega)) (fun P st a12 hP => sg_cell (t := 5 + 1) (x := sg_d 0) (by decide) (by omega) (hc 0 (by omega)).1 (fun st' b12 => hP _ _ ⟨sg_d 0, by decide, rfl, st', _, _, _, _, _, _, _, _, _, rfl, h11, hc, hK⟩))
section
variable {st ba tp : Int32} {a1 a2 a3 a4 a5 a6 a7 a8 a9 a10 a11 a12 : Nat → Int32}
theorem sg_k1 (e0 : a1 0 = 1) (e1 : a1 1 = 1) (e2 : a1 2 = 0) (e3 : a1 3 = 0) (e4 : a1 4 = 0) (e5 : a1 5 = 0) (g0 : a3 0 = nI 1) (g1 : a3 1 = nI 2) : sg_W (0, ba, tp, st, a1, a2, a3, a4, a5, a6, a7, a8, a9, a10, a11, a12) 1 0 (sg_I1 a1 a2 a3 1) := by
  refine sg_unbuilt (fun B h => sg_b_cons (q := 1) (by omega) (by omega) e0 g0 (sg_b_cons (q := 2) (by omega) (by omega) e1 g1 (sg_b_count (by omega) e2 (sg_b_count (by omega) e3 (sg_b_count (by omega) e4 (sg_b_count (by omega) e5 (sg_b_e h))))))) (sg_p1_0 ⟨_, _, _, _, _, _, _, _, _, _, rfl, rfl, fun n hn => ?_, rfl⟩)
  have hn' : n = 0 := by omega
  subst hn'
  exact ⟨rfl, rfl⟩
theorem sg_known1 {post : Int32 → St2 → Prop} (h0 : sg_W (0, ba, tp, st, a1, a2, a3, a4, a5, a6, a7, a8, a9, a10, a11, a12) 1 0 (sg_I1 a1 a2 a3 1)) (hp : ∀ u', sg_I1 a1 a2 a3 16 u' → post 16 u') : wpX_known post (0, ba, tp, st, a1, a2, a3, a4, a5, a6, a7, a8, a9, a10, a11, a12) (nI 1) := by
  have main : ∀ (d k : Nat) (u : St2), k + d = 15 → sg_W u 1 k (sg_I1 a1 a2 a3 (k + 1)) → sg_kn post (nI 1) (d + 2) (nI k) u := by
    intro d
    induction d with
    | zero =>
      intro k u hk hW
      have hk' : k = 15 := by omega
      subst hk'
      exact sg_kn_s (by omega) hW (fun u' h => sg_kn_e (hp u' h))
    | succ d ih =>
      intro k u hk hW
      exact sg_kn_s (by omega) hW (fun u' h => ih (k + 1) u' (by omega) (sg_p1 (by omega) (by omega) h))
  exact sg_known (by omega) 17 (main 15 0 _ rfl h0)
end
end
section
/-! ===== phase 2: sums of neighbours, running sums, a tail of itself ===== -/
def sg_c (j : Nat) : Nat := j + (j - 2) + 3 * min (j - 2) 1
def sg_e (j : Nat) : Nat := 3 + 2 * j + min j 1
theorem sg_ce (n m : Nat) : sg_c n ≠ sg_e m := by unfold sg_c sg_e; omega
theorem sg_ci {n m : Nat} (h : n ≠ m) : sg_c n ≠ sg_c m := by unfold sg_c; omega
theorem sg_ei {n m : Nat} (h : n ≠ m) : sg_e n ≠ sg_e m := by unfold sg_e; omega
theorem sg_c4 (n : Nat) : 4 ≠ sg_c n ∧ 5 ≠ sg_c n := by unfold sg_c; omega
theorem sg_e4 (n : Nat) : 4 ≠ sg_e n ∧ 5 ≠ sg_e n := by unfold sg_e; omega
theorem sg_cb {n : Nat} (h : n < 40) : sg_c n < 512 := by unfold sg_c; omega
theorem sg_eb {n : Nat} (h : n < 40) : sg_e n < 512 := by unfold sg_e; omega
theorem sg_cT (k : Nat) : 6 + (k + 1) + k = sg_c (k + 3) := by unfold sg_c; omega
theorem sg_eT (k : Nat) : 6 + k + k = sg_e (k + 1) := by unfold sg_e; omega
def sg_s (a b : Int32) : Nat → Int32
  | 0 => a
  | 1 => b
  | n + 2 => sg_s a b n + sg_s a b (n + 1)
def sg_m (a b : Int32) : Nat → Int32
  | 0 => 0
  | n + 1 => sg_m a b n + sg_s a b n
def sg_H2 (a b f : Int32) (i j : Nat) (a4 a5 a7 a8 : Nat → Int32) : Prop :=
  (∀ n, n < j + 2 → a4 (sg_c n) = 9 ∧ a5 (sg_c n) = sg_s a b n ∧ a7 (sg_c n) = nI (sg_c (n + 1))) ∧
  (a4 (sg_c (j + 2)) = 3 ∧ a7 (sg_c (j + 2)) = nI (sg_c j) ∧ a8 (sg_c (j + 2)) = nI (sg_c (j + 1))) ∧
  (∀ n, n < i → a4 (sg_e n) = 9 ∧ a5 (sg_e n) = sg_m a b (n + 1) ∧ a7 (sg_e n) = nI (sg_e (n + 1))) ∧
  (a4 (sg_e i) = 6 ∧ a5 (sg_e i) = sg_m a b i ∧ a7 (sg_e i) = nI (sg_c i)) ∧
  (a4 4 = 2 ∧ a7 4 = nI 5 ∧ a4 5 = 9 ∧ a7 5 = nI 4 ∧ a5 5 = f)
theorem sg_H2_scan {a b f v : Int32} {k t : Nat} {a4 a5 a7 a8 : Nat → Int32} (ht : t = sg_e (k + 1)) (hv : v = sg_m a b (k + 1)) (h : sg_H2 a b f k k a4 a5 a7 a8) :
    sg_H2 a b f (k + 1) k (upd (upd a4 t 6) (sg_e k) 9) (upd (upd a5 t v) (sg_e k) v) (upd (upd a7 t (nI (sg_c (k + 1)))) (sg_e k) (nI t)) (upd a8 t 0) := by
  obtain ⟨h1, ⟨h2, h3, h4⟩, h5, ⟨h6, h7, h8⟩, h9, h10, h11, h12, h13⟩ := h
  subst ht hv
  have e1 : sg_e (k + 1) ≠ sg_e k := sg_ei (by omega)
  have e4 := sg_e4 k
  have e5 := sg_e4 (k + 1)
  refine ⟨fun n hn => ?_, ⟨?_, ?_, ?_⟩, fun n hn => ?_, ⟨?_, ?_, ?_⟩, ?_, ?_, ?_, ?_, ?_⟩
  · obtain ⟨g1, g2, g3⟩ := h1 n hn
    exact ⟨(sg_u2 (sg_ce _ _) (sg_ce _ _)).trans g1, (sg_u2 (sg_ce _ _) (sg_ce _ _)).trans g2, (sg_u2 (sg_ce _ _) (sg_ce _ _)).trans g3⟩
  · exact (sg_u2 (sg_ce _ _) (sg_ce _ _)).trans h2
  · exact (sg_u2 (sg_ce _ _) (sg_ce _ _)).trans h3
  · exact (pk_un (sg_ce _ _)).trans h4
  · by_cases e : n = k
    · subst e
      exact ⟨sg_u2x rfl, sg_u2x rfl, sg_u2x rfl⟩
    · obtain ⟨g1, g2, g3⟩ := h5 n (by omega)
      have n1 : sg_e n ≠ sg_e (k + 1) := sg_ei (by omega)
      have n2 : sg_e n ≠ sg_e k := sg_ei (by omega)
      exact ⟨(sg_u2 n1 n2).trans g1, (sg_u2 n1 n2).trans g2, (sg_u2 n1 n2).trans g3⟩
  · exact sg_u2t rfl e1
  · exact sg_u2t rfl e1
  · exact sg_u2t rfl e1
  · exact (sg_u2 e5.1 e4.1).trans h9
  · exact (sg_u2 e5.1 e4.1).trans h10
  · exact (sg_u2 e5.2 e4.2).trans h11
  · exact (sg_u2 e5.2 e4.2).trans h12
  · exact (sg_u2 e5.2 e4.2).trans h13
theorem sg_H2_add {a b f v : Int32} {k t : Nat} {a4 a5 a7 a8 : Nat → Int32} (ht : t = sg_c (k + 3)) (hv : v = sg_s a b (k + 2)) (h : sg_H2 a b f (k + 1) k a4 a5 a7 a8) :
    sg_H2 a b f (k + 1) (k + 1) (upd (upd a4 t 3) (sg_c (k + 2)) 9) (upd (upd a5 t 0) (sg_c (k + 2)) v) (upd (upd a7 t (nI (sg_c (k + 1)))) (sg_c (k + 2)) (nI t)) (upd a8 t (nI (sg_c (k + 2)))) := by
  obtain ⟨h1, ⟨h2, h3, h4⟩, h5, ⟨h6, h7, h8⟩, h9, h10, h11, h12, h13⟩ := h
  subst ht hv
  have e1 : sg_c (k + 3) ≠ sg_c (k + 2) := sg_ci (by omega)
  have e4 := sg_c4 (k + 2)
  have e5 := sg_c4 (k + 3)
  refine ⟨fun n hn => ?_, ⟨?_, ?_, ?_⟩, fun n hn => ?_, ⟨?_, ?_, ?_⟩, ?_, ?_, ?_, ?_, ?_⟩
  · by_cases e : n = k + 2
    · subst e
      exact ⟨sg_u2x rfl, sg_u2x rfl, sg_u2x rfl⟩
    · obtain ⟨g1, g2, g3⟩ := h1 n (by omega)
      have n1 : sg_c n ≠ sg_c (k + 3) := sg_ci (by omega)
      have n2 : sg_c n ≠ sg_c (k + 2) := sg_ci (by omega)
      exact ⟨(sg_u2 n1 n2).trans g1, (sg_u2 n1 n2).trans g2, (sg_u2 n1 n2).trans g3⟩
  · exact sg_u2t rfl e1
  · exact sg_u2t rfl e1
  · exact pk_us
  · obtain ⟨g1, g2, g3⟩ := h5 n hn
    exact ⟨(sg_u2 (sg_ce _ _).symm (sg_ce _ _).symm).trans g1, (sg_u2 (sg_ce _ _).symm (sg_ce _ _).symm).trans g2, (sg_u2 (sg_ce _ _).symm (sg_ce _ _).symm).trans g3⟩
  · exact (sg_u2 (sg_ce _ _).symm (sg_ce _ _).symm).trans h6
  · exact (sg_u2 (sg_ce _ _).symm (sg_ce _ _).symm).trans h7
  · exact (sg_u2 (sg_ce _ _).symm (sg_ce _ _).symm).trans h8
  · exact (sg_u2 e5.1 e4.1).trans h9
  · exact (sg_u2 e5.1 e4.1).trans h10
  · exact (sg_u2 e5.2 e4.2).trans h11
  · exact (sg_u2 e5.2 e4.2).trans h12
  · exact (sg_u2 e5.2 e4.2).trans h13
def sg_I2 (A1 A2 A3 : Nat → Int32) (a b f : Int32) (i j : Nat) (u : St2) : Prop := ∃ (tp st : Int32) (a4 a5 a6 a7 a8 a9 a10 a11 a12 : Nat → Int32), u = (1, 0, tp, st, A1, A2, A3, a4, a5, a6, a7, a8, a9, a10, a11, a12) ∧ tp = nI (6 + i + j) ∧ (∀ s, s < 6 → a11 s = nI s) ∧ sg_H2 a b f i j a4 a5 a7 a8
section
variable {A1 A2 A3 : Nat → Int32} {a b f : Int32} {u : St2}
theorem sg_V0 {i j k : Nat} (hi : i ≤ 20) (hj : j ≤ 20) (hk : k < j + 2) (hk2 : k < 16) (h : sg_I2 A1 A2 A3 a b f i j u) : sg_V u 0 k (sg_s a b k) (sg_I2 A1 A2 A3 a b f i j) := by
  obtain ⟨tp, st, a4, a5, a6, a7, a8, a9, a10, a11, a12, rfl, rfl, h11, H⟩ := h
  refine sg_reach sg_c k (by omega) hk2 (Nat.le_refl k) (by omega) (h11 0 (by omega)) (Or.inl rfl) (fun n hn => ⟨sg_cb (by omega), (H.1 n (by omega)).1, (H.1 n (by omega)).2.2⟩) (fun P st a12 hP => sg_cell (sg_cb (by omega)) (by omega) (H.1 k hk).1 (fun st' b12 => hP _ _ ⟨sg_c k, sg_cb (by omega), rfl, (H.1 k hk).2.1, _, st', _, _, _, _, _, _, _, _, _, rfl, rfl, h11, H⟩))
theorem sg_V3 {k : Nat} (hk : k < 16) (h : sg_I2 A1 A2 A3 a b f k k u) : sg_V u 3 k (sg_m a b (k + 1)) (sg_I2 A1 A2 A3 a b f (k + 1) k) := by
  obtain ⟨tp, st, a4, a5, a6, a7, a8, a9, a10, a11, a12, rfl, rfl, h11, H⟩ := h
  have H' := H
  obtain ⟨h1, ⟨h2, h3, h4⟩, h5, ⟨h6, h7, h8⟩, hr⟩ := H'
  have hv : a5 (sg_e k) + a5 (sg_c k) = sg_m a b (k + 1) := by rw [h7, (h1 k (by omega)).2.1]; rfl
  refine sg_reach sg_e k (by omega) hk (Nat.le_refl k) (by omega) (h11 3 (by omega)) (Or.inl rfl) (fun n hn => ⟨sg_eb (by omega), (h5 n hn).1, (h5 n hn).2.2⟩) (fun P st a12 hP => ?_)
  exact sg_scan (x := sg_e k) (l := sg_c k) (m := sg_c (k + 1)) (sg_eb (by omega)) (sg_cb (by omega)) (sg_cb (by omega)) (by omega) h6 h8 (h1 k (by omega)).1 (h1 k (by omega)).2.2 (fun st' b9 b12 => hP _ _ ⟨sg_e k, sg_eb (by omega), rfl, (sg_u2x rfl).trans hv, _, st', _, _, _, _, _, _, _, _, _, rfl, congrArg nI (by omega), h11, sg_H2_scan (sg_eT k) hv H⟩)
theorem sg_V2 {k : Nat} (hk : k < 16) (h : sg_I2 A1 A2 A3 a b f (k + 1) k u) : sg_V u 2 k (sg_s a b (k + 2)) (sg_I2 A1 A2 A3 a b f (k + 1) (k + 1)) := by
  obtain ⟨tp, st, a4, a5, a6, a7, a8, a9, a10, a11, a12, rfl, rfl, h11, H⟩ := h
  have H' := H
  obtain ⟨h1, ⟨h2, h3, h4⟩, h5, hr⟩ := H'
  have hv : a5 (sg_c k) + a5 (sg_c (k + 1)) = sg_s a b (k + 2) := by rw [(h1 k (by omega)).2.1, (h1 (k + 1) (by omega)).2.1]; rfl
  refine sg_reach (fun n => sg_c (n + 2)) k (by omega) hk (Nat.le_refl k) (by omega) (h11 2 (by omega)) (Or.inl rfl) (fun n hn => ⟨sg_cb (by omega), (h1 (n + 2) (by omega)).1, (h1 (n + 2) (by omega)).2.2⟩) (fun P st a12 hP => ?_)
  exact sg_add (x := sg_c (k + 2)) (l := sg_c k) (r := sg_c (k + 1)) (m := sg_c (k + 1)) (q := sg_c (k + 2)) (sg_cb (by omega)) (sg_cb (by omega)) (sg_cb (by omega)) (sg_cb (by omega)) (sg_cb (by omega)) (by omega) h2 h3 h4 (h1 k (by omega)).1 (h1 (k + 1) (by omega)).1 (h1 k (by omega)).2.2 (h1 (k + 1) (by omega)).2.2
    (fun st' b9 b12 => hP _ _ ⟨sg_c (k + 2), sg_cb (by omega), rfl, (sg_u2x rfl).trans hv, _, st', _, _, _, _, _, _, _, _, _, rfl, congrArg nI (by omega), h11, sg_H2_add (sg_cT k) hv H⟩)
theorem sg_N4 {i j k : Nat} (hi : i ≤ 20) (hj : j ≤ 20) (hk : k < 16) (h : sg_I2 A1 A2 A3 a b f i j u) : sg_N u 4 k (sg_I2 A1 A2 A3 a b f i j) := by
  obtain ⟨tp, st, a4, a5, a6, a7, a8, a9, a10, a11, a12, rfl, rfl, h11, H⟩ := h
  have H' := H
  obtain ⟨_, _, _, _, h9, h10, h12, h13, _⟩ := H'
  refine sg_reach (fun _ => 4) 0 (by omega) hk (Nat.zero_le k) (by omega) (h11 4 (by omega)) (Or.inr (fun r u' hq => by rw [hq.1]; decide)) (fun n hn => absurd hn (by omega)) (fun P st a12 hP => ?_)
  exact sg_tail (x := 4) (l := 5) (by omega) (by omega) (by omega) h9 h10 h12 h13 (fun st' b9 b12 => hP _ _ ⟨rfl, _, st', _, _, _, _, _, _, _, _, _, rfl, rfl, h11, H⟩)
theorem sg_V5 {i j : Nat} (hi : i ≤ 20) (hj : j ≤ 20) (h : sg_I2 A1 A2 A3 a b f i j u) : sg_V u 5 0 f (sg_I2 A1 A2 A3 a b f i j) := by
  obtain ⟨tp, st, a4, a5, a6, a7, a8, a9, a10, a11, a12, rfl, rfl, h11, H⟩ := h
  have H' := H
  obtain ⟨_, _, _, _, h9, h10, h12, h13, h14⟩ := H'
  refine sg_reach (fun n => 5 - n) 0 (by omega) (by omega) (Nat.le_refl 0) (by omega) (h11 5 (by omega)) (Or.inl rfl) (fun n hn => absurd hn (by omega)) (fun P st a12 hP => ?_)
  exact sg_cell (x := 5) (by omega) (by omega) h12 (fun st' b12 => hP _ _ ⟨5, by omega, rfl, h14, _, st', _, _, _, _, _, _, _, _, _, rfl, rfl, h11, H⟩)
theorem sg_N5 {i j k : Nat} (hi : i ≤ 20) (hj : j ≤ 20) (h0 : 1 ≤ k) (hk : k < 16) (h : sg_I2 A1 A2 A3 a b f i j u) : sg_N u 5 k (sg_I2 A1 A2 A3 a b f i j) := by
  obtain ⟨tp, st, a4, a5, a6, a7, a8, a9, a10, a11, a12, rfl, rfl, h11, H⟩ := h
  have H' := H
  obtain ⟨_, _, _, _, h9, h10, h12, h13, _⟩ := H'
  refine sg_reach (fun n => 5 - n) 1 (by omega) hk h0 (by omega) (h11 5 (by omega)) (Or.inr (fun r u' hq => by rw [hq.1]; decide)) (fun n hn => ?_) (fun P st a12 hP => ?_)
  · have hn' : n = 0 := by omega
    subst hn'
    exact ⟨by omega, h12, h13⟩
  · exact sg_tail (x := 4) (l := 5) (by omega) (by omega) (by omega) h9 h10 h12 h13 (fun st' b9 b12 => hP _ _ ⟨rfl, _, st', _, _, _, _, _, _, _, _, _, rfl, rfl, h11, H⟩)
end
section
variable {st ba tp : Int32} {a1 a2 a3 a4 a5 a6 a7 a8 a9 a10 a11 a12 : Nat → Int32}
theorem sg_k2 {s k : Nat} {Q : Int32 → St2 → Prop} (e0 : a1 0 = 1) (e1 : a1 1 = 1) (e2 : a1 2 = 3) (e3 : a1 3 = 6) (e4 : a1 4 = 2) (e5 : a1 5 = 1)
    (f2 : a2 2 = nI 0) (f3 : a2 3 = nI 0) (f4 : a2 4 = nI 5) (g0 : a3 0 = nI 1) (g1 : a3 1 = nI 2) (g2 : a3 2 = nI 1) (g5 : a3 5 = nI 4)
    (h : ∀ u, sg_I2 a1 a2 a3 (a2 0) (a2 1) (a2 5) 0 0 u → sg_R u s k Q) : sg_R (0, ba, tp, st, a1, a2, a3, a4, a5, a6, a7, a8, a9, a10, a11, a12) s k Q := by
  refine sg_unbuilt (fun B h => sg_b_cons (q := 1) (by omega) (by omega) e0 g0 (sg_b_cons (q := 2) (by omega) (by omega) e1 g1 (sg_b_add (p := 0) (q := 1) (by omega) (by omega) (by omega) e2 f2 g2 (sg_b_a (p := 0) (K := 6) (Or.inr rfl) (by omega) (by omega) e3 f3 (sg_b_a (p := 5) (K := 2) (Or.inl rfl) (by omega) (by omega) e4 f4 (sg_b_cons (q := 4) (by omega) (by omega) e5 g5 (sg_b_e h))))))) (h _ ⟨_, _, _, _, _, _, _, _, _, _, _, rfl, rfl, fun s hs => ?_, fun n hn => ?_, ⟨rfl, rfl, rfl⟩, fun n hn => absurd hn (by omega), ⟨rfl, rfl, rfl⟩, rfl, rfl, rfl, rfl, rfl⟩)
  · have hs' : s = 0 ∨ s = 1 ∨ s = 2 ∨ s = 3 ∨ s = 4 ∨ s = 5 := by omega
    rcases hs' with e | e | e | e | e | e
    all_goals
      subst e
      rfl
  · have hn' : n = 0 ∨ n = 1 := by omega
    rcases hn' with e | e
    all_goals
      subst e
      exact ⟨rfl, rfl, rfl⟩
end
end
section
/-! ===== phase 3: powers ===== -/
def sg_g (j : Nat) : Nat := j + 4 * min (j - 1) 1
theorem sg_gi {n m : Nat} (h : n ≠ m) : sg_g n ≠ sg_g m := by unfold sg_g; omega
theorem sg_gb {n : Nat} (h : n < 40) : sg_g n < 512 := by unfold sg_g; omega
theorem sg_gT {k : Nat} (h : 1 ≤ k) : 5 + k = sg_g (k + 1) := by unfold sg_g; omega
def sg_p (a f : Int32) : Nat → Int32
  | 0 => a
  | n + 1 => sg_p a f n * f
def sg_I3 (a f : Int32) (j : Nat) (u : St2) : Prop := ∃ (st : Int32) (a1 a2 a3 a4 a5 a6 a7 a8 a9 a10 a11 a12 : Nat → Int32), u = (1, 0, nI (5 + j), st, a1, a2, a3, a4, a5, a6, a7, a8, a9, a10, a11, a12) ∧ a11 0 = nI 0 ∧ (∀ n, n < j → a4 (sg_g n) = 9 ∧ a5 (sg_g n) = sg_p a f n ∧ a7 (sg_g n) = nI (sg_g (n + 1))) ∧ a4 (sg_g j) = 5 ∧ a5 (sg_g j) = f ∧ a7 (sg_g j) = nI (sg_g (j - 1))
theorem sg_p3 {a f : Int32} {k : Nat} {u : St2} (h1 : 1 ≤ k) (hk : k < 16) (h : sg_I3 a f k u) : sg_V u 0 k (sg_p a f k) (sg_I3 a f (k + 1)) := by
  obtain ⟨st, a1, a2, a3, a4, a5, a6, a7, a8, a9, a10, a11, a12, rfl, h11, hc, h4, h5, h7⟩ := h
  obtain ⟨j, rfl⟩ : ∃ j, k = j + 1 := ⟨k - 1, by omega⟩
  have h7' : a7 (sg_g (j + 1)) = nI (sg_g j) := h7
  obtain ⟨c1, c2, c3⟩ := hc j (by omega)
  have hv : a5 (sg_g (j + 1)) * a5 (sg_g j) = sg_p a f (j + 1) := by rw [h5, c2]; exact Int32.mul_comm _ _
  have ht : 5 + (j + 1) = sg_g (j + 1 + 1) := sg_gT h1
  have e1 : 5 + (j + 1) ≠ sg_g (j + 1) := by rw [ht]; exact sg_gi (by omega)
  refine sg_reach sg_g (j + 1) (by omega) hk (Nat.le_refl _) (by omega) h11 (Or.inl rfl) (fun n hn => ⟨sg_gb (by omega), (hc n hn).1, (hc n hn).2.2⟩) (fun P st a12 hP => ?_)
  refine sg_scale (t := 5 + (j + 1)) (x := sg_g (j + 1)) (l := sg_g j) (m := sg_g (j + 1)) (sg_gb (by omega)) (sg_gb (by omega)) (sg_gb (by omega)) (by omega) h4 h7' c1 c3 (fun st' b9 b12 => hP _ _ ⟨sg_g (j + 1), sg_gb (by omega), rfl, (sg_u2x rfl).trans hv, st', _, _, _, _, _, _, _, _, _, _, _, _, rfl, h11, fun n hn => ?_, ?_, ?_, ?_⟩)
  · by_cases e : n = j + 1
    · subst e
      exact ⟨sg_u2x rfl, (sg_u2x rfl).trans hv, (sg_u2x rfl).trans (by rw [ht])⟩
    · obtain ⟨g1, g2, g3⟩ := hc n (by omega)
      have n1 : sg_g n ≠ 5 + (j + 1) := by rw [ht]; exact sg_gi (by omega)
      have n2 : sg_g n ≠ sg_g (j + 1) := sg_gi (by omega)
      exact ⟨(sg_u2 n1 n2).trans g1, (sg_u2 n1 n2).trans g2, (sg_u2 n1 n2).trans g3⟩
  · exact sg_u2t ht.symm (by rw [← ht]; exact e1)
  · exact (sg_u2t ht.symm (by rw [← ht]; exact e1)).trans h5
  · exact sg_u2t ht.symm (by rw [← ht]; exact e1)
theorem sg_p3_0 {a f : Int32} {u : St2} (h : sg_I3 a f 1 u) : sg_V u 0 0 (sg_p a f 0) (sg_I3 a f 1) := by
  obtain ⟨st, a1, a2, a3, a4, a5, a6, a7, a8, a9, a10, a11, a12, rfl, h11, hc, h4⟩ := h
  exact sg_reach sg_g 0 (by omega) (by omega) (Nat.le_refl 0) (by omega) h11 (Or.inl rfl) (fun n hn => absurd hn (by omega)) (fun P st a12 hP => sg_cell (t := 5 + 1) (x := sg_g 0) (by decide) (by omega) (hc 0 (by omega)).1 (fun st' b12 => hP _ _ ⟨sg_g 0, by decide, rfl, (hc 0 (by omega)).2.1, st', _, _, _, _, _, _, _, _, _, _, _, _, rfl, h11, hc, h4⟩))
section
variable {st ba tp : Int32} {a1 a2 a3 a4 a5 a6 a7 a8 a9 a10 a11 a12 : Nat → Int32}
theorem sg_k3 (e0 : a1 0 = 1) (e1 : a1 1 = 5) (e2 : a1 2 = 3) (e3 : a1 3 = 6) (e4 : a1 4 = 2) (e5 : a1 5 = 1)
    (f2 : a2 2 = nI 0) (f3 : a2 3 = nI 0) (f4 : a2 4 = nI 5) (g0 : a3 0 = nI 1) (g1 : a3 1 = nI 0) (g2 : a3 2 = nI 1) (g5 : a3 5 = nI 4) :
    sg_V (0, ba, tp, st, a1, a2, a3, a4, a5, a6, a7, a8, a9, a10, a11, a12) 0 0 (a2 0) (sg_I3 (a2 0) (a2 1) 1) := by
  refine sg_unbuilt (fun B h => sg_b_cons (q := 1) (by omega) (by omega) e0 g0 (sg_b_scale (q := 0) (by omega) (by omega) e1 g1 (sg_b_add (p := 0) (q := 1) (by omega) (by omega) (by omega) e2 f2 g2 (sg_b_a (p := 0) (K := 6) (Or.inr rfl) (by omega) (by omega) e3 f3 (sg_b_a (p := 5) (K := 2) (Or.inl rfl) (by omega) (by omega) e4 f4 (sg_b_cons (q := 4) (by omega) (by omega) e5 g5 (sg_b_e h))))))) (sg_p3_0 ⟨_, _, _, _, _, _, _, _, _, _, _, _, _, rfl, rfl, fun n hn => ?_, rfl, rfl, rfl⟩)
  have hn' : n = 0 := by omega
  subst hn'
  exact ⟨rfl, rfl, rfl⟩
end
end
section
/-! ===== the law ===== -/
/-- the law's last loop -/
def sg_l302 (post : Int32 → St0 → Prop) (mc ms : Nat) (x2 : Int32) (kc ks n : Nat) (x9 x10 : Int32) (u : St2) : Prop := match u with
  | (u1, u2, u3, u4, a1, a2, a3, a4, a5, a6, a7, a8, a9, a10, a11, a12) => wL_lawOf_302 post mc ms x2 kc ks n x9 x10 u1 u2 u3 u4 a1 a2 a3 a4 a5 a6 a7 a8 a9 a10 a11 a12
theorem sg_302 {post : Int32 → St0 → Prop} {mc ms kc ks : Nat} {a f : Int32} (hp : post 1 ()) : ∀ (d k : Nat) (u : St2), k + d = 15 → sg_V u 0 k (sg_p a f k) (sg_I3 a f (k + 1)) → sg_l302 post mc ms f kc ks (d + 2) (sg_p a f k) (nI k) u := by
  intro d
  induction d with
  | zero =>
    intro k u hk hV
    have hk' : k = 15 := by omega
    subst hk'
    obtain ⟨u1, u2, u3, u4, u5, u6, u7, u8, u9, u10, u11, u12, u13, u14, u15, u16⟩ := u
    refine br_f (nI_ge (b := 16) (by omega) (by omega)) (sg_elem (s := 0) (by omega) (by omega) hV (fun u' hq => ?_))
    obtain ⟨v1, v2, v3, v4, v5, v6, v7, v8, v9, v10, v11, v12, v13, v14, v15, v16⟩ := u'
    exact br_t rfl (nm_e (nm_r (nI_1 15) (br_t (nI_le (a := 16) (by omega) (by omega)) hp)))
  | succ d ih =>
    intro k u hk hV
    obtain ⟨u1, u2, u3, u4, u5, u6, u7, u8, u9, u10, u11, u12, u13, u14, u15, u16⟩ := u
    refine br_f (nI_ge (b := 16) (by omega) (by omega)) (sg_elem (s := 0) (by omega) (by omega) hV (fun u' hq => ?_))
    obtain ⟨v1, v2, v3, v4, v5, v6, v7, v8, v9, v10, v11, v12, v13, v14, v15, v16⟩ := u'
    exact br_t rfl (nm_e (nm_r (nI_1 k) (ih (k + 1) _ (by omega) (sg_p3 (by omega) (by omega) hq))))
/-- the law's 'above' before turn k -/
def sg_ab (a b v : Int32) : Nat → Int32
  | 0 => -2
  | k + 1 => if 0 ≤ sg_ab a b v k then sg_ab a b v k else if sg_s a b k ≤ v then sg_ab a b v k else nI k
theorem sg_ab_stay {a b v : Int32} {k : Nat} (hk : k < 2 ^ 31) (h : sg_ab a b v (k + 1) = nI k) : ∀ d, sg_ab a b v (k + 1 + d) = nI k := by
  intro d
  induction d with
  | zero => exact h
  | succ d ih =>
    show (if 0 ≤ sg_ab a b v (k + 1 + d) then sg_ab a b v (k + 1 + d) else if sg_s a b (k + 1 + d) ≤ v then sg_ab a b v (k + 1 + d) else nI (k + 1 + d)) = nI k
    rw [ih, if_pos (nI_pos' hk)]
section
variable {A1 A2 A3 : Nat → Int32} {a b f v : Int32}
theorem sg_fa0 {post : Int32 → St2 → Prop} (hp : ∀ u', sg_I2 A1 A2 A3 a b f 16 16 u' → post (sg_ab a b v 16) u') :
    ∀ (d k : Nat) (u : St2), k + d = 16 → sg_I2 A1 A2 A3 a b f 16 16 u → sg_ab a b v k = -2 → sg_fa post (nI 0) v (d + 1) (nI k) u := by
  intro d
  induction d with
  | zero =>
    intro k u hk hI hab
    have hk' : k = 16 := by omega
    subst hk'
    refine sg_fa_e ?_
    rw [← hab]
    exact hp u hI
  | succ d ih =>
    intro k u hk hI hab
    refine sg_fa_s (by omega) (sg_V0 (by omega) (by omega) (by omega) (by omega) hI) (fun hle u' h => ih (k + 1) u' (by omega) h ?_) (fun hgt u' h => ?_)
    · show (if 0 ≤ sg_ab a b v k then sg_ab a b v k else if sg_s a b k ≤ v then sg_ab a b v k else nI k) = -2
      rw [hab, if_neg (by decide), if_pos hle]
    · have h1 : sg_ab a b v (k + 1) = nI k := by
        show (if 0 ≤ sg_ab a b v k then sg_ab a b v k else if sg_s a b k ≤ v then sg_ab a b v k else nI k) = nI k
        rw [hab, if_neg (by decide), if_neg hgt]
      have h2 := sg_ab_stay (by omega) h1 d
      rw [show k + 1 + d = 16 by omega] at h2
      rw [← h2]
      exact hp u' h
theorem sg_first0 {post : Int32 → St2 → Prop} {x8 : Int32} {u : St2} (hx : x8 = sg_ab a b v 16) (hp : ∀ u', sg_I2 A1 A2 A3 a b f 16 16 u' → post x8 u') (hI : sg_I2 A1 A2 A3 a b f 16 16 u) : wpX_firstAbove post u (nI 0) v := by
  have hp' : ∀ u', sg_I2 A1 A2 A3 a b f 16 16 u' → post (sg_ab a b v 16) u' := fun u' h => by
    rw [← hx]
    exact hp u' h
  exact sg_first (by omega) 17 (sg_fa0 hp' 16 0 u (by omega) hI rfl)
/-- behind the sums: the tail of itself -/
theorem sg_187 {post : Int32 → St0 → Prop} {mc ms kc ks k i j : Nat} {J : Int32 → Int32 → Int32 → Int32 → Int32 → Int32 → Int32 → Int32 → Int32 → (Nat → Int32) → (Nat → Int32) → (Nat → Int32) → (Nat → Int32) → (Nat → Int32) → (Nat → Int32) → (Nat → Int32) → (Nat → Int32) → (Nat → Int32) → (Nat → Int32) → (Nat → Int32) → (Nat → Int32) → Prop} {x0 x2 x3 x5 x6 x7 x8 u1 u2 u3 u4 : Int32} {a1 a2 a3 a4 a5 a6 a7 a8 a9 a10 a11 a12 : Nat → Int32}
    (hk : k < 16) (hi : i ≤ 20) (hj : j ≤ 20) (hI : sg_I2 A1 A2 A3 a b f i j (u1, u2, u3, u4, a1, a2, a3, a4, a5, a6, a7, a8, a9, a10, a11, a12))
    (hJ : ∀ (u1 u2 u3 u4 : Int32) (a1 a2 a3 a4 a5 a6 a7 a8 a9 a10 a11 a12 : Nat → Int32), sg_I2 A1 A2 A3 a b f i j (u1, u2, u3, u4, a1, a2, a3, a4, a5, a6, a7, a8, a9, a10, a11, a12) → J x6 (x5 + x6) x7 x8 (nI (k + 1)) u1 u2 u3 u4 a1 a2 a3 a4 a5 a6 a7 a8 a9 a10 a11 a12) :
    wL_lawOf_187 post mc ms J x0 x2 x3 x5 x6 x7 x8 (nI k) kc ks u1 u2 u3 u4 a1 a2 a3 a4 a5 a6 a7 a8 a9 a10 a11 a12 := by
  unfold wL_lawOf_187
  refine sg_ready0 (s := 4) (by omega) hk (sg_N4 hi hj hk hI) (fun u' hI' => ?_)
  obtain ⟨v1, v2, v3, v4, v5, v6, v7, v8, v9, v10, v11, v12, v13, v14, v15, v16⟩ := u'
  refine br_t rfl ?_
  by_cases e : k = 0
  · subst e
    refine sg_ready1 (s := 5) (by omega) hk (sg_VW (sg_V5 hi hj hI')) (fun u'' hI'' => ?_)
    obtain ⟨w1, w2, w3, w4, w5, w6, w7, w8, w9, w10, w11, w12, w13, w14, w15, w16⟩ := u''
    refine br_t rfl ?_
    unfold wL_lawOf_216
    exact br_t rfl (nm_e (nm_r (nI_1 0) (hJ _ _ _ _ _ _ _ _ _ _ _ _ _ _ _ _ hI'')))
  · refine sg_ready0 (s := 5) (by omega) hk (sg_N5 hi hj (by omega) hk hI') (fun u'' hI'' => ?_)
    obtain ⟨w1, w2, w3, w4, w5, w6, w7, w8, w9, w10, w11, w12, w13, w14, w15, w16⟩ := u''
    refine br_f (nI_ne0 (by omega) (by omega)) ?_
    unfold wL_lawOf_216
    exact br_t rfl (nm_e (nm_r (nI_1 k) (hJ _ _ _ _ _ _ _ _ _ _ _ _ _ _ _ _ hI'')))
/-- the law's first loop -/
def sg_l99 (post : Int32 → St0 → Prop) (mc ms : Nat) (x0 x2 x3 : Int32) (kc ks n : Nat) (x5 x6 x7 x8 x9 : Int32) (u : St2) : Prop := match u with
  | (u1, u2, u3, u4, a1, a2, a3, a4, a5, a6, a7, a8, a9, a10, a11, a12) => wL_lawOf_99 post mc ms x0 x2 x3 kc ks n x5 x6 x7 x8 x9 u1 u2 u3 u4 a1 a2 a3 a4 a5 a6 a7 a8 a9 a10 a11 a12
theorem sg_99e {post : Int32 → St0 → Prop} {mc ms kc ks n : Nat} {x5 x6 x7 x8 : Int32} {u : St2} (hp : post 1 ()) (hx : x8 = sg_ab a b v 16)
    (hd : ∀ u1 u2 u3 (a4 a5 a6 a7 a8 a9 a10 a11 a12 : Nat → Int32), sg_V (0, u1, u2, u3, upd A1 1 5, upd A2 1 f, upd A3 1 (nI 0), a4, a5, a6, a7, a8, a9, a10, a11, a12) 0 0 a (sg_I3 a f 1))
    (hI : sg_I2 A1 A2 A3 a b f 16 16 u) : sg_l99 post mc ms a f v kc ks (n + 1) x5 x6 x7 x8 (nI 16) u := by
  obtain ⟨u1, u2, u3, u4, u5, u6, u7, u8, u9, u10, u11, u12, u13, u14, u15, u16⟩ := u
  refine br_t (nI_le (a := 16) (by omega) (by omega)) (sg_first0 hx (fun u' hI' => ?_) hI)
  obtain ⟨v1, v2, v3, v4, v5, v6, v7, v8, v9, v10, v11, v12, v13, v14, v15, v16⟩ := u'
  refine br_t rfl (sg_known (s := 4) (by omega) 1 (sg_kn_n (by omega) (sg_N4 (by omega) (by omega) (by omega) hI') (fun u' hI' => ?_)))
  obtain ⟨v1, v2, v3, v4, v5, v6, v7, v8, v9, v10, v11, v12, v13, v14, v15, v16⟩ := u'
  refine br_t rfl (sg_known (s := 5) (by omega) 2 (sg_kn_s (by omega) (sg_VW (sg_V5 (by omega) (by omega) hI')) (fun u' hI' => sg_kn_n (by omega) (sg_N5 (by omega) (by omega) (by omega) (by omega) hI') (fun u' hI' => ?_))))
  obtain ⟨v1, v2, v3, v4, v5, v6, v7, v8, v9, v10, v11, v12, v13, v14, v15, v16⟩ := u'
  refine br_t rfl (sg_elem (s := 5) (k := 0) (by omega) (by omega) (sg_V5 (by omega) (by omega) hI') (fun u' hI' => ?_))
  obtain ⟨tp, st, a4, a5, a6, a7, a8, a9, a10, a11, a12, rfl, rfl, h11, H⟩ := hI'
  exact br_t rfl (sg_def_scale (s := 1) (q := 0) (by omega) (by omega) ⟨17, sg_302 hp 15 0 (0, 0, nI (6 + 16 + 16), st, upd A1 1 5, upd A2 1 f, upd A3 1 (nI 0), a4, a5, a6, a7, a8, a9, a10, a11, a12) rfl (hd _ _ _ _ _ _ _ _ _ _ _ _)⟩)
theorem sg_99 {post : Int32 → St0 → Prop} {mc ms kc ks : Nat} (hp : post 1 ())
    (hd : ∀ u1 u2 u3 (a4 a5 a6 a7 a8 a9 a10 a11 a12 : Nat → Int32), sg_V (0, u1, u2, u3, upd A1 1 5, upd A2 1 f, upd A3 1 (nI 0), a4, a5, a6, a7, a8, a9, a10, a11, a12) 0 0 a (sg_I3 a f 1)) :
    ∀ (d k : Nat) (u : St2), k + d = 16 → (k = 16 → sg_I2 A1 A2 A3 a b f 16 16 u) → (k < 16 → sg_V u 0 k (sg_s a b k) (sg_I2 A1 A2 A3 a b f k k)) →
    sg_l99 post mc ms a f v kc ks (d + 1) (sg_s a b k) (sg_s a b (k + 1)) (sg_m a b k) (sg_ab a b v k) (nI k) u := by
  intro d
  induction d with
  | zero =>
    intro k u hk hE hV
    have hk' : k = 16 := by omega
    subst hk'
    exact sg_99e hp rfl hd (hE rfl)
  | succ d ih =>
    intro k u hk hE hV
    have hk2 : k < 16 := by omega
    have hn : ∀ (u1 u2 u3 u4 : Int32) (a1 a2 a3 a4 a5 a6 a7 a8 a9 a10 a11 a12 : Nat → Int32), sg_I2 A1 A2 A3 a b f (k + 1) (k + 1) (u1, u2, u3, u4, a1, a2, a3, a4, a5, a6, a7, a8, a9, a10, a11, a12) → wL_lawOf_99 post mc ms a f v kc ks (d + 1) (sg_s a b (k + 1)) (sg_s a b k + sg_s a b (k + 1)) (sg_m a b k + sg_s a b k) (sg_ab a b v (k + 1)) (nI (k + 1)) u1 u2 u3 u4 a1 a2 a3 a4 a5 a6 a7 a8 a9 a10 a11 a12 := by
      intro u1 u2 u3 u4 a1 a2 a3 a4 a5 a6 a7 a8 a9 a10 a11 a12 h
      refine ih (k + 1) (u1, u2, u3, u4, a1, a2, a3, a4, a5, a6, a7, a8, a9, a10, a11, a12) (by omega) (fun e => ?_) (fun e => sg_V0 (by omega) (by omega) (by omega) e h)
      rw [e] at h
      exact h
    obtain ⟨u1, u2, u3, u4, u5, u6, u7, u8, u9, u10, u11, u12, u13, u14, u15, u16⟩ := u
    refine br_f (nI_ge (b := 16) (by omega) (by omega)) (nm_e (sg_ready1 (s := 0) (by omega) hk2 (sg_VW (hV hk2)) (fun u' hI => ?_)))
    obtain ⟨v1, v2, v3, v4, v5, v6, v7, v8, v9, v10, v11, v12, v13, v14, v15, v16⟩ := u'
    refine br_f (by decide) (sg_elem (s := 0) (by omega) hk2 (sg_V0 (by omega) (by omega) (by omega) hk2 hI) (fun u' hI => ?_))
    obtain ⟨v1, v2, v3, v4, v5, v6, v7, v8, v9, v10, v11, v12, v13, v14, v15, v16⟩ := u'
    refine br_t rfl (sg_elem (s := 3) (by omega) hk2 (sg_V3 hk2 hI) (fun u' hI => ?_))
    obtain ⟨v1, v2, v3, v4, v5, v6, v7, v8, v9, v10, v11, v12, v13, v14, v15, v16⟩ := u'
    refine br_t rfl (sg_elem (s := 2) (by omega) hk2 (sg_V2 hk2 hI) (fun u' hI => ?_))
    obtain ⟨v1, v2, v3, v4, v5, v6, v7, v8, v9, v10, v11, v12, v13, v14, v15, v16⟩ := u'
    have hab : sg_ab a b v (k + 1) = if 0 ≤ sg_ab a b v k then sg_ab a b v k else if sg_s a b k ≤ v then sg_ab a b v k else nI k := rfl
    refine br_t rfl (br_c (fun z => ?_) (fun z => br_c (fun y => ?_) (fun y => ?_)))
    · rw [if_pos z] at hab
      rw [hab] at hn
      exact sg_187 hk2 (by omega) (by omega) hI hn
    · rw [if_neg z, if_pos y] at hab
      rw [hab] at hn
      exact sg_187 hk2 (by omega) (by omega) hI hn
    · rw [if_neg z, if_neg y] at hab
      rw [hab] at hn
      exact sg_187 hk2 (by omega) (by omega) hI hn
end
theorem sg_law {post : Int32 → St0 → Prop} {mc ms : Nat} {a b f v : Int32} (hc : 13 ≤ mc) (hs : 3640 ≤ ms) (hp : post 1 ()) : wpL_lawOf post mc ms () a b f v := by
  refine ⟨by omega, by omega, 12, 3624, by omega, by omega, ?_⟩
  refine ⟨by omega, by omega, by omega, by omega, by omega, by omega, by omega, by omega, by omega, by omega, by omega, by omega, by omega, by omega, by omega, by omega, by omega, by omega, by omega, by omega, by omega, by omega, by omega, by omega, ?_⟩
  refine sg_def_cons (s := 0) (q := 1) (by omega) (by omega) (sg_def_cons (s := 1) (q := 2) (by omega) (by omega) (sg_known1 (sg_k1 rfl rfl rfl rfl rfl rfl rfl rfl) (fun u' hI => ?_)))
  obtain ⟨st, a4, a5, a6, a7, a8, a9, a10, a11, a12, rfl, _⟩ := hI
  refine br_t rfl (sg_def_add (s := 2) (p := 0) (q := 1) (by omega) (by omega) (by omega) (sg_def_a (s := 3) (p := 0) (K := 6) (Or.inr rfl) (by omega) (by omega) (sg_def_a (s := 4) (p := 5) (K := 2) (Or.inl rfl) (by omega) (by omega) (sg_def_cons (s := 5) (q := 4) (by omega) (by omega) ⟨17, ?_⟩))))
  have hV : sg_V (0, 0, nI (5 + 16), st, upd (upd (upd (upd (upd (upd (fun _ => 0) 0 1) 1 1) 2 3) 3 6) 4 2) 5 1, upd (upd (upd (upd (upd (upd (fun _ => 0) 0 a) 1 b) 2 (nI 0)) 3 (nI 0)) 4 (nI 5)) 5 f, upd (upd (upd (upd (upd (upd (fun _ => 0) 0 (nI 1)) 1 (nI 2)) 2 (nI 1)) 3 0) 4 0) 5 (nI 4), a4, a5, a6, a7, a8, a9, a10, a11, a12) 0 0 a (sg_I2 (upd (upd (upd (upd (upd (upd (fun _ => 0) 0 1) 1 1) 2 3) 3 6) 4 2) 5 1) (upd (upd (upd (upd (upd (upd (fun _ => 0) 0 a) 1 b) 2 (nI 0)) 3 (nI 0)) 4 (nI 5)) 5 f) (upd (upd (upd (upd (upd (upd (fun _ => 0) 0 (nI 1)) 1 (nI 2)) 2 (nI 1)) 3 0) 4 0) 5 (nI 4)) a b f 0 0) :=
    sg_k2 rfl rfl rfl rfl rfl rfl rfl rfl rfl rfl rfl rfl rfl (fun u hI => sg_V0 (k := 0) (by omega) (by omega) (by omega) (by omega) hI)
  exact sg_99 (A1 := upd (upd (upd (upd (upd (upd (fun _ => 0) 0 1) 1 1) 2 3) 3 6) 4 2) 5 1) (A2 := upd (upd (upd (upd (upd (upd (fun _ => 0) 0 a) 1 b) 2 (nI 0)) 3 (nI 0)) 4 (nI 5)) 5 f) (A3 := upd (upd (upd (upd (upd (upd (fun _ => 0) 0 (nI 1)) 1 (nI 2)) 2 (nI 1)) 3 0) 4 0) 5 (nI 4)) (a := a) (b := b) (f := f) hp (fun u1 u2 u3 a4 a5 a6 a7 a8 a9 a10 a11 a12 => sg_k3 rfl rfl rfl rfl rfl rfl rfl rfl rfl rfl rfl rfl rfl) 16 0 _ rfl (fun e => absurd e (by omega)) (fun _ => hV)
theorem sg_cellAt {post : Int32 → Prop} {L k : Nat} {xs : Nat → Int32} (hL : L ≤ 4) (hk : k < 4) (h : ∀ z, post z) : wpL_cellAt post L xs () (nI k) :=
  br_c (fun _ => h 0) (fun z => ⟨pk_in k L (Nat.lt_of_not_le (fun y => z (nI_le y (by omega)))), h _⟩)
theorem i_vc (xs : Nat → Int32) (L : Nat) (hL : L ≤ 4) : wpL_law (fun r => r = 1) L xs :=
  sg_cellAt (k := 0) hL (by omega) (fun _ => sg_cellAt (k := 1) hL (by omega) (fun _ => sg_cellAt (k := 2) hL (by omega) (fun _ => sg_cellAt (k := 3) hL (by omega) (fun _ => ⟨13, 3640, by omega, by omega, sg_law (Nat.le_refl _) (Nat.le_refl _) rfl⟩))))
end
