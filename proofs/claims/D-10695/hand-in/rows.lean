section
/-! ===== numbers ===== -/
theorem dt_l (p q : Nat) : nI p * 4 + nI q = nI (p * 4 + q) := by
  rw [← nI_add, ← pk_mul]
  rfl
theorem dt_m (l : Nat) : nI l * 40 = nI (l * 40) := by
  rw [← pk_mul]
  rfl
theorem dt_m0 (l : Nat) : nI l * 40 + 0 = nI (l * 40) := by
  rw [dt_m, Int32.add_zero]
theorem dt_ge0 {x : Int32} (h : ¬ x < 0) : 0 ≤ x := by
  obtain ⟨j, hj, rfl⟩ := nI_of h
  exact nI_pos' hj
theorem dt_ge1 {x : Int32} (h : ¬ x < 0) (h0 : ¬ x = 0) : 1 ≤ x := by
  obtain ⟨j, hj, rfl⟩ := nI_of h
  have hz : 0 < j := by
    rcases Nat.eq_zero_or_pos j with z | z
    · subst z
      exact absurd nI_0 h0
    · exact z
  exact nI_le (a := 1) hz hj
theorem dt_hi {x : Int32} {n : Nat} (h : nI (n + 1) ≤ x) (hn : n + 1 < 2 ^ 31) : ¬ x < 0 ∧ ¬ x ≤ nI n ∧ ¬ x < nI (n + 1) := by
  have h1 := Int32.le_iff_toInt_le.mp h
  rw [nI_toInt hn] at h1
  refine ⟨fun z => ?_, fun z => ?_, fun z => ?_⟩
  · have h2 := Int32.lt_iff_toInt_lt.mp z
    rw [← nI_0, nI_toInt (by omega)] at h2
    omega
  · have h2 := Int32.le_iff_toInt_le.mp z
    rw [nI_toInt (by omega)] at h2
    omega
  · have h2 := Int32.lt_iff_toInt_lt.mp z
    rw [nI_toInt hn] at h2
    omega
theorem dt_cl1 : (1 : Int32).toNatClampNeg = 1 := by decide
theorem dt_or0 : (0 : Int64) ||| ((1 : Int64) <<< ((0 : Int32).toInt64 &&& 63)) = 1 := by decide
theorem dt_nar0 : vp_nar .boolean 0 = 0 := by decide
/-! ===== the picture: one revision, written at site p, document q, with body b ===== -/
def dt_K (p q : Nat) (b : Int32) (a1 a3 a4 a5 : Nat → Int32) (a6 a7 : Nat → Int64) (a9 a10 : Nat → Int32) : Prop :=
  a1 0 = nI q ∧ a3 0 = 1 ∧ a4 0 = b ∧ a5 0 = 0 ∧ a6 p = 1 ∧ a7 p = 1 ∧ a9 (p * 4 + q) = 1 ∧ a10 ((p * 4 + q) * 40) = 0
section
variable {f : Int32} {a1 a2 a3 a4 a5 : Nat → Int32} {a6 a7 : Nat → Int64} {a8 a9 a10 : Nat → Int32} {p q : Nat} {b x y : Int32}
/-! ===== refusal ===== -/
theorem dt_ref {post : Int32 → Prop} (hp : p < 2) (hq : q < 4) (hf : f < 40) (h : post 0) : wpX_refusal post (f, a1, a2, a3, a4, a5, a6, a7, a8, a9, a10) (nI p) (nI q) :=
  br_f (nI_pos (by omega)) (br_t (nI_le (b := 1) (by omega) (by omega)) (br_t rfl (br_f (nI_pos (by omega)) (br_t (nI_lt (b := 4) (by omega) (by omega)) (br_t rfl (br_t hf h))))))
theorem dt_refS {post : Int32 → Prop} (hx : x < 0 ∨ ¬ x ≤ 1) (h : post (-1)) : wpX_refusal post (f, a1, a2, a3, a4, a5, a6, a7, a8, a9, a10) x y :=
  br_c (fun _ => br_f (by decide) h) (fun z => br_f (hx.resolve_left z) (br_f (by decide) h))
theorem dt_refD {post : Int32 → Prop} (hp : p < 2) (hy : y < 0 ∨ ¬ y < 4) (h : post (-2)) : wpX_refusal post (f, a1, a2, a3, a4, a5, a6, a7, a8, a9, a10) (nI p) y :=
  br_f (nI_pos (by omega)) (br_t (nI_le (b := 1) (by omega) (by omega)) (br_t rfl (br_c (fun _ => br_f (by decide) h) (fun z => br_f (hy.resolve_left z) (br_f (by decide) h)))))
/-! ===== winnerOf ===== -/
theorem dt_wofZ {post : Int32 → Prop} (hp : p < 2) (hq : q < 4) (h9 : a9 (p * 4 + q) = 0) (h : post (-5)) : wpX_winnerOf post (f, a1, a2, a3, a4, a5, a6, a7, a8, a9, a10) (nI p) (nI q) :=
  nm_r (dt_l p q) ⟨pk_in (p * 4 + q) 8 (by omega), br_t (by rw [nI_clamp (by omega)]; exact h9) h⟩
theorem dt_wofK {post : Int32 → Prop} (hp : p < 2) (hq : q < 4) (h9 : a9 (p * 4 + q) = 1) (h10 : a10 ((p * 4 + q) * 40) = 0) (h : post 0) : wpX_winnerOf post (f, a1, a2, a3, a4, a5, a6, a7, a8, a9, a10) (nI p) (nI q) :=
  nm_r (dt_l p q) ⟨pk_in (p * 4 + q) 8 (by omega), br_f (by rw [nI_clamp (by omega), h9]; decide) ⟨pk_in ((p * 4 + q) * 40) 320 (by omega) (dt_m _), by rw [dt_m, nI_clamp (by omega), h10]; exact h⟩⟩
/-! ===== the leaves ===== -/
theorem dt_add {post : St2 → Prop} {l : Nat} {r : Int32} (hl : l < 8) (h9 : a9 l = 0) (H : post (f, a1, a2, a3, a4, a5, a6, a7, a8, upd a9 l 1, upd a10 (l * 40) r)) : wpX_addLeaf post (f, a1, a2, a3, a4, a5, a6, a7, a8, a9, a10) (nI l) r :=
  ⟨pk_in l 8 hl, nm_r (e' := 0) (by rw [nI_clamp (by omega), h9]) ⟨1, br_t (by decide) ⟨pk_in (l * 40) 320 (by omega) (dt_m0 l), nm_r (e' := upd a10 (l * 40) r) (by rw [dt_m0, nI_clamp (by omega)]) ⟨pk_in l 8 hl, pk_in l 8 hl, nm_r (e' := upd a9 l 1) (by rw [nI_clamp (by omega), h9]; rfl) H⟩⟩⟩⟩
theorem dt_drop {post : St2 → Prop} {l : Nat} (hl : l < 8) (h9 : a9 l = 1) (h10 : a10 (l * 40) = 0) (H : post (f, a1, a2, a3, a4, a5, a6, a7, a8, upd a9 l 0, a10)) : wpX_dropLeaf post (f, a1, a2, a3, a4, a5, a6, a7, a8, a9, a10) (nI l) 0 :=
  ⟨2, pk_in l 8 hl, br_f (by rw [nI_clamp (by omega), h9]; decide) ⟨pk_in (l * 40) 320 (by omega) (dt_m0 l), nm_r (e' := 0) (by rw [dt_m0, nI_clamp (by omega), h10]) (br_t rfl (nm_r (e' := 1) (by decide) ⟨pk_in l 8 hl, br_t (by rw [nI_clamp (by omega), h9]; decide) ⟨pk_in l 8 hl, nm_r (e' := upd a9 l 0) (by rw [nI_clamp (by omega)]) H⟩⟩))⟩⟩
/-! ===== come: the first revision; the second, a child of the first ===== -/
theorem dt_come0 {post : St2 → Prop} (hp : p < 2) (hq : q < 4) (h1 : a1 0 = nI q) (h2 : a2 0 = -1) (h6 : a6 p = 0) (h7 : a7 p = 0) (h9 : a9 (p * 4 + q) = 0)
    (H : ∀ b8, post (f, a1, a2, a3, a4, a5, vp_updL a6 p 1, vp_updL a7 p 1, b8, upd a9 (p * 4 + q) 1, upd a10 ((p * 4 + q) * 40) 0)) : wpX_come post (f, a1, a2, a3, a4, a5, a6, a7, a8, a9, a10) (nI p) 0 1 :=
  ⟨pk_in p 2 hp, pk_in p 2 hp, nm_r (e' := vp_updL a6 p 1) (by rw [nI_clamp (by omega), h6, dt_or0]) (br_f (by decide) ⟨pk_in p 2 hp, pk_in p 2 hp, nm_r (e' := vp_updL a7 p 1) (by rw [nI_clamp (by omega), h7, dt_or0])
    ⟨pk_in p 2 hp, pk_in p 2 hp, fun b8 _ => ⟨pk_in 0 40 (by omega), nm_r (e' := nI (p * 4 + q)) (by rw [sb_cl0, h1, dt_l]) ⟨pk_in 0 40 (by omega), br_t (by rw [sb_cl0, h2]; decide) (dt_add (by omega) h9 (H b8))⟩⟩⟩⟩)⟩
theorem dt_come1 {post : St2 → Prop} (hp : p < 2) (hq : q < 4) (h1 : a1 1 = nI q) (h2 : a2 1 = 0) (h9 : a9 (p * 4 + q) = 1) (h10 : a10 ((p * 4 + q) * 40) = 0)
    (H : ∀ f a1 a2 a3 a4 a5 a6 a7 a8 a9 a10, post (f, a1, a2, a3, a4, a5, a6, a7, a8, a9, a10)) : wpX_come post (f, a1, a2, a3, a4, a5, a6, a7, a8, a9, a10) (nI p) 1 1 :=
  ⟨pk_in p 2 hp, pk_in p 2 hp, fun b6 _ => br_f (by decide) ⟨pk_in p 2 hp, pk_in p 2 hp, fun b7 _ => ⟨pk_in p 2 hp, pk_in p 2 hp, fun b8 _ => ⟨pk_in 1 40 (by omega), nm_r (e' := nI (p * 4 + q)) (by rw [dt_cl1, h1, dt_l])
    ⟨pk_in 1 40 (by omega), br_f (by rw [dt_cl1, h2]; decide) ⟨pk_in 1 40 (by omega), by
      rw [dt_cl1, h2]
      exact dt_drop (by omega) h9 h10 (dt_add (by omega) pk_us (H _ _ _ _ _ _ _ _ _ _ _))⟩⟩⟩⟩⟩⟩
/-! ===== write ===== -/
theorem dt_write0 {post : Int32 → St2 → Prop} (hp : p < 2) (hq : q < 4) (H : ∀ a1 a2 a3 a4 a5 a6 a7 a8 a9 a10, dt_K p q b a1 a3 a4 a5 a6 a7 a9 a10 → post 0 (1, a1, a2, a3, a4, a5, a6, a7, a8, a9, a10)) :
    wpX_write post (0, (fun _ => 0), (fun _ => 0), (fun _ => 0), (fun _ => 0), (fun _ => 0), (fun _ => 0), (fun _ => 0), (fun _ => 0), (fun _ => 0), (fun _ => 0)) (nI p) (nI q) (-1) b 0 :=
  ⟨pk_in 0 40 (by omega), nm_r (e' := upd (fun _ => 0) 0 (nI q)) (by rw [sb_cl0]) ⟨pk_in 0 40 (by omega), nm_r (e' := upd (fun _ => 0) 0 (-1)) (by rw [sb_cl0]) (br_f (by decide)
    ⟨pk_in 0 40 (by omega), nm_r (e' := upd (fun _ => 0) 0 1) (by rw [sb_cl0]) ⟨pk_in 0 40 (by omega), nm_r (e' := upd (fun _ => 0) 0 b) (by rw [sb_cl0]) ⟨pk_in 0 40 (by omega), nm_r (e' := upd (fun _ => 0) 0 0) (by rw [sb_cl0, dt_nar0])
      (nm_r (e' := 1) (by decide) (dt_come0 hp hq pk_us pk_us rfl rfl rfl (fun b8 => H _ _ _ _ _ _ _ _ _ _ ⟨pk_us, pk_us, pk_us, pk_us, pk_uLs, pk_uLs, pk_us, pk_us⟩)))⟩⟩⟩)⟩⟩
theorem dt_write1 {post : Int32 → St2 → Prop} (hp : p < 2) (hq : q < 4) (k : dt_K p q b a1 a3 a4 a5 a6 a7 a9 a10) (H : ∀ f a1 a2 a3 a4 a5 a6 a7 a8 a9 a10, post 1 (f, a1, a2, a3, a4, a5, a6, a7, a8, a9, a10)) :
    wpX_write post (1, a1, a2, a3, a4, a5, a6, a7, a8, a9, a10) (nI p) (nI q) 0 0 1 := by
  obtain ⟨k1, k3, k4, k5, k6, k7, k9, k10⟩ := k
  exact ⟨pk_in 1 40 (by omega), nm_r (e' := upd a1 1 (nI q)) (by rw [dt_cl1]) ⟨pk_in 1 40 (by omega), nm_r (e' := upd a2 1 0) (by rw [dt_cl1]) (br_t (by decide)
    ⟨pk_in 0 40 (by omega), pk_in 1 40 (by omega), fun b3 _ => ⟨pk_in 1 40 (by omega), fun b4 _ => ⟨pk_in 1 40 (by omega), fun b5 _ => fun g _ => dt_come1 hp hq pk_us pk_us k9 k10 H⟩⟩⟩)⟩⟩
/-! ===== isIn, leafOf ===== -/
theorem dt_inZ {post : Int32 → Prop} {w : Int64} (h : post 0) : wpX_isIn post (0, a1, a2, a3, a4, a5, a6, a7, a8, a9, a10) w x :=
  br_c (fun _ => h) (fun z => br_t (dt_ge0 z) h)
theorem dt_inN {post : Int32 → Prop} {w : Int64} (hx : ¬ x = 0) (h : post 0) : wpX_isIn post (1, a1, a2, a3, a4, a5, a6, a7, a8, a9, a10) w x :=
  br_c (fun _ => h) (fun z => br_t (dt_ge1 z hx) h)
theorem dt_in1 {post : Int32 → Prop} {w : Int64} (hw : w = 1) (h : post 1) : wpX_isIn post (1, a1, a2, a3, a4, a5, a6, a7, a8, a9, a10) w 0 := by
  subst hw
  exact br_f (by decide) (br_f (by decide) (br_t (by decide) h))
theorem dt_lofZ {post : Int32 → Prop} (hp : p < 2) (h : post 0) : wpX_leafOf post (0, a1, a2, a3, a4, a5, a6, a7, a8, a9, a10) (nI p) y x :=
  ⟨pk_in p 2 hp, dt_inZ (br_t rfl (br_t rfl h))⟩
theorem dt_lofN {post : Int32 → Prop} (hp : p < 2) (hx : ¬ x = 0) (h : post 0) : wpX_leafOf post (1, a1, a2, a3, a4, a5, a6, a7, a8, a9, a10) (nI p) y x :=
  ⟨pk_in p 2 hp, dt_inN hx (br_t rfl (br_t rfl h))⟩
theorem dt_lofK {post : Int32 → Prop} (hp : p < 2) (hq : q < 4) (k : dt_K p q b a1 a3 a4 a5 a6 a7 a9 a10) (h : post 1) : wpX_leafOf post (1, a1, a2, a3, a4, a5, a6, a7, a8, a9, a10) (nI p) (nI q) 0 := by
  obtain ⟨k1, k3, k4, k5, k6, k7, k9, k10⟩ := k
  refine ⟨pk_in p 2 hp, dt_in1 (by rw [nI_clamp (by omega)]; exact k6) (br_f (by decide) ⟨pk_in 0 40 (by omega), br_t (by rw [sb_cl0]; exact k1) (br_f (by decide) ?_)⟩)⟩
  exact ⟨pk_in 0 40 (by omega), nm_r (e' := nI (p * 4 + q)) (by rw [sb_cl0, k1, dt_l]) ⟨1, pk_in (p * 4 + q) 8 (by omega), br_f (by rw [nI_clamp (by omega), k9]; decide)
    ⟨pk_in ((p * 4 + q) * 40) 320 (by omega) (dt_m0 _), br_t (by rw [dt_m0, nI_clamp (by omega), k10]) (br_f (by decide) h)⟩⟩⟩
/-! ===== put, delete ===== -/
theorem dt_putZ {post : Int32 → St2 → Prop} (hp : p < 2) (hq : q < 4) (H : ∀ a1 a2 a3 a4 a5 a6 a7 a8 a9 a10, dt_K p q b a1 a3 a4 a5 a6 a7 a9 a10 → post 0 (1, a1, a2, a3, a4, a5, a6, a7, a8, a9, a10)) :
    wpX_put post (0, (fun _ => 0), (fun _ => 0), (fun _ => 0), (fun _ => 0), (fun _ => 0), (fun _ => 0), (fun _ => 0), (fun _ => 0), (fun _ => 0), (fun _ => 0)) (nI p) (nI q) (-1) b := by
  unfold wpX_put
  exact dt_ref hp hq (by decide) (br_t rfl (br_t rfl (dt_wofZ hp hq rfl (br_t (by decide) (br_t (by decide) (dt_write0 hp hq H))))))
theorem dt_putC {post : Int32 → St2 → Prop} (hp : p < 2) (hq : q < 4) (hx : ¬ x = -1) (h : post (-4) (0, a1, a2, a3, a4, a5, a6, a7, a8, a9, a10)) : wpX_put post (0, a1, a2, a3, a4, a5, a6, a7, a8, a9, a10) (nI p) (nI q) x b := by
  unfold wpX_put
  exact dt_ref hp hq (by decide) (br_t rfl (br_f hx (dt_lofZ hp (br_t rfl h))))
theorem dt_putK {post : Int32 → St2 → Prop} (hp : p < 2) (hq : q < 4) (k : dt_K p q b a1 a3 a4 a5 a6 a7 a9 a10) (h : post (-4) (1, a1, a2, a3, a4, a5, a6, a7, a8, a9, a10)) : wpX_put post (1, a1, a2, a3, a4, a5, a6, a7, a8, a9, a10) (nI p) (nI q) (-1) x := by
  obtain ⟨k1, k3, k4, k5, k6, k7, k9, k10⟩ := k
  unfold wpX_put
  exact dt_ref hp hq (by decide) (br_t rfl (br_t rfl (dt_wofK hp hq k9 k10 (br_f (by decide) ⟨pk_in 0 40 (by omega), br_t (by rw [sb_cl0]; exact k5) h⟩))))
theorem dt_delN {post : Int32 → St2 → Prop} (hp : p < 2) (hq : q < 4) (hx : ¬ x = 0) (h : post (-4) (1, a1, a2, a3, a4, a5, a6, a7, a8, a9, a10)) : wpX_delete post (1, a1, a2, a3, a4, a5, a6, a7, a8, a9, a10) (nI p) (nI q) x := by
  unfold wpX_delete
  exact dt_ref hp hq (by decide) (br_t rfl (dt_lofN hp hx (br_t rfl h)))
theorem dt_delK {post : Int32 → St2 → Prop} (hp : p < 2) (hq : q < 4) (k : dt_K p q b a1 a3 a4 a5 a6 a7 a9 a10) (H : ∀ f a1 a2 a3 a4 a5 a6 a7 a8 a9 a10, post 1 (f, a1, a2, a3, a4, a5, a6, a7, a8, a9, a10)) : wpX_delete post (1, a1, a2, a3, a4, a5, a6, a7, a8, a9, a10) (nI p) (nI q) 0 := by
  unfold wpX_delete
  exact dt_ref hp hq (by decide) (br_t rfl (dt_lofK hp hq k (br_f (by decide) ⟨pk_in 0 40 (by omega), br_t (by rw [sb_cl0]; exact k.2.2.2.1) (dt_write1 hp hq k H)⟩)))
theorem dt_putS {post : Int32 → St2 → Prop} {t s : Int32} (hx : x < 0 ∨ ¬ x ≤ 1) (h : post (-1) (f, a1, a2, a3, a4, a5, a6, a7, a8, a9, a10)) : wpX_put post (f, a1, a2, a3, a4, a5, a6, a7, a8, a9, a10) x y t s := by
  unfold wpX_put
  exact dt_refS hx (br_f (by decide) h)
theorem dt_putD {post : Int32 → St2 → Prop} {t s : Int32} (hp : p < 2) (hy : y < 0 ∨ ¬ y < 4) (h : post (-2) (f, a1, a2, a3, a4, a5, a6, a7, a8, a9, a10)) : wpX_put post (f, a1, a2, a3, a4, a5, a6, a7, a8, a9, a10) (nI p) y t s := by
  unfold wpX_put
  exact dt_refD hp hy (br_f (by decide) h)
theorem dt_delS {post : Int32 → St2 → Prop} {t : Int32} (hx : x < 0 ∨ ¬ x ≤ 1) (h : post (-1) (f, a1, a2, a3, a4, a5, a6, a7, a8, a9, a10)) : wpX_delete post (f, a1, a2, a3, a4, a5, a6, a7, a8, a9, a10) x y t := by
  unfold wpX_delete
  exact dt_refS hx (br_f (by decide) h)
theorem dt_delD {post : Int32 → St2 → Prop} {t : Int32} (hp : p < 2) (hy : y < 0 ∨ ¬ y < 4) (h : post (-2) (f, a1, a2, a3, a4, a5, a6, a7, a8, a9, a10)) : wpX_delete post (f, a1, a2, a3, a4, a5, a6, a7, a8, a9, a10) (nI p) y t := by
  unfold wpX_delete
  exact dt_refD hp hy (br_f (by decide) h)
/-! ===== winner, body, depth ===== -/
theorem dt_winZ {post : Int32 → Prop} (hp : p < 2) (hq : q < 4) (h9 : a9 (p * 4 + q) = 0) (h : post (-5)) : wpX_winner post (f, a1, a2, a3, a4, a5, a6, a7, a8, a9, a10) (nI p) (nI q) :=
  br_f (nI_pos (by omega)) (br_t (nI_le (b := 1) (by omega) (by omega)) (br_t rfl (br_f (nI_pos (by omega)) (br_t (nI_lt (b := 4) (by omega) (by omega)) (br_t rfl (dt_wofZ hp hq h9 h))))))
theorem dt_winK {post : Int32 → Prop} (hp : p < 2) (hq : q < 4) (k : dt_K p q b a1 a3 a4 a5 a6 a7 a9 a10) (h : post 0) : wpX_winner post (f, a1, a2, a3, a4, a5, a6, a7, a8, a9, a10) (nI p) (nI q) := by
  obtain ⟨k1, k3, k4, k5, k6, k7, k9, k10⟩ := k
  exact br_f (nI_pos (by omega)) (br_t (nI_le (b := 1) (by omega) (by omega)) (br_t rfl (br_f (nI_pos (by omega)) (br_t (nI_lt (b := 4) (by omega) (by omega)) (br_t rfl (dt_wofK hp hq k9 k10 h))))))
theorem dt_winS {post : Int32 → Prop} (hx : x < 0 ∨ ¬ x ≤ 1) (h : post (-1)) : wpX_winner post (f, a1, a2, a3, a4, a5, a6, a7, a8, a9, a10) x y :=
  br_c (fun _ => br_f (by decide) h) (fun z => br_f (hx.resolve_left z) (br_f (by decide) h))
theorem dt_winD {post : Int32 → Prop} (hp : p < 2) (hy : y < 0 ∨ ¬ y < 4) (h : post (-2)) : wpX_winner post (f, a1, a2, a3, a4, a5, a6, a7, a8, a9, a10) (nI p) y :=
  br_f (nI_pos (by omega)) (br_t (nI_le (b := 1) (by omega) (by omega)) (br_t rfl (br_c (fun _ => br_f (by decide) h) (fun z => br_f (hy.resolve_left z) (br_f (by decide) h)))))
theorem dt_bodyS {post : Int32 → Prop} (hx : x < 0 ∨ ¬ x ≤ 1) (h : post 0) : wpX_body post (f, a1, a2, a3, a4, a5, a6, a7, a8, a9, a10) x y :=
  br_c (fun _ => br_f (by decide) h) (fun z => br_f (hx.resolve_left z) (br_f (by decide) h))
theorem dt_bodyZ {post : Int32 → Prop} (hp : p < 2) (h : post 0) : wpX_body post (0, a1, a2, a3, a4, a5, a6, a7, a8, a9, a10) (nI p) y :=
  br_f (nI_pos (by omega)) (br_t (nI_le (b := 1) (by omega) (by omega)) (br_t rfl ⟨pk_in p 2 hp, dt_inZ (br_t rfl h)⟩))
theorem dt_bodyN {post : Int32 → Prop} (hp : p < 2) (hy : ¬ y = 0) (h : post 0) : wpX_body post (1, a1, a2, a3, a4, a5, a6, a7, a8, a9, a10) (nI p) y :=
  br_f (nI_pos (by omega)) (br_t (nI_le (b := 1) (by omega) (by omega)) (br_t rfl ⟨pk_in p 2 hp, dt_inN hy (br_t rfl h)⟩))
theorem dt_bodyK {post : Int32 → Prop} (hp : p < 2) (k : dt_K p q b a1 a3 a4 a5 a6 a7 a9 a10) (h : post b) : wpX_body post (1, a1, a2, a3, a4, a5, a6, a7, a8, a9, a10) (nI p) 0 := by
  obtain ⟨k1, k3, k4, k5, k6, k7, k9, k10⟩ := k
  exact br_f (nI_pos (by omega)) (br_t (nI_le (b := 1) (by omega) (by omega)) (br_t rfl ⟨pk_in p 2 hp, dt_in1 (by rw [nI_clamp (by omega)]; exact k7) (br_f (by decide) ⟨pk_in 0 40 (by omega), by rw [sb_cl0, k4]; exact h⟩)⟩))
theorem dt_depZ {post : Int32 → Prop} (h : post (-5)) : wpX_depth post (0, a1, a2, a3, a4, a5, a6, a7, a8, a9, a10) x :=
  br_c (fun _ => h) (fun z => br_f z h)
theorem dt_depN {post : Int32 → Prop} (hx : ¬ x = 0) (h : post (-5)) : wpX_depth post (1, a1, a2, a3, a4, a5, a6, a7, a8, a9, a10) x :=
  br_c (fun _ => h) (fun z => br_f (Int32.not_lt.mpr (dt_ge1 z hx)) h)
theorem dt_depK {post : Int32 → Prop} (k : dt_K p q b a1 a3 a4 a5 a6 a7 a9 a10) (h : post 1) : wpX_depth post (1, a1, a2, a3, a4, a5, a6, a7, a8, a9, a10) 0 := by
  obtain ⟨k1, k3, k4, k5, k6, k7, k9, k10⟩ := k
  exact br_f (by decide) (br_t (by decide) ⟨pk_in 0 40 (by omega), by rw [sb_cl0, k3]; exact h⟩)
end
end
section
/-! ===== the law: a good site and a good document ===== -/
section
variable {mc ms kc ks : Nat} {a1 a2 a3 a4 a5 : Nat → Int32} {a6 a7 : Nat → Int64} {a8 a9 a10 : Nat → Int32} {p q : Nat} {b v x z : Int32}
theorem dt_214 (hp : p < 2) (hq : q < 4) (k : dt_K p q b a1 a3 a4 a5 a6 a7 a9 a10) : wL_lawOf_214 (fun r _ => r = 1) mc ms (nI p) (nI q) v 0 z z kc ks 1 a1 a2 a3 a4 a5 a6 a7 a8 a9 a10 := by
  refine br_t rfl ?_
  by_cases h : v = 0
  · subst h
    exact dt_delK hp hq k (fun f a1 a2 a3 a4 a5 a6 a7 a8 a9 a10 => br_t (by decide) (br_t rfl (br_t rfl rfl)))
  · exact dt_delN hp hq h (br_t (by decide) (br_f h (br_t rfl rfl)))
theorem dt_179K (hp : p < 2) (hq : q < 4) (k : dt_K p q b a1 a3 a4 a5 a6 a7 a9 a10) : wL_lawOf_179 (fun r _ => r = 1) mc ms (nI p) (nI q) b v 0 1 z z kc ks 1 a1 a2 a3 a4 a5 a6 a7 a8 a9 a10 :=
  br_t rfl (dt_putK hp hq k (br_t (by decide) (br_f (by decide) (dt_214 hp hq k))))
theorem dt_179Z (hp : p < 2) (hq : q < 4) : wL_lawOf_179 (fun r _ => r = 1) mc ms (nI p) (nI q) b v 0 0 z z kc ks 0 (fun _ => 0) (fun _ => 0) (fun _ => 0) (fun _ => 0) (fun _ => 0) (fun _ => 0) (fun _ => 0) (fun _ => 0) (fun _ => 0) (fun _ => 0) :=
  br_t rfl (dt_putZ hp hq (fun a1 a2 a3 a4 a5 a6 a7 a8 a9 a10 k => br_t (by decide) (br_t rfl (dt_214 hp hq k))))
theorem dt_88K (hp : p < 2) (hq : q < 4) (k : dt_K p q b a1 a3 a4 a5 a6 a7 a9 a10) : wL_lawOf_88 (fun r _ => r = 1) mc ms (nI p) (nI q) b v 0 1 kc ks 1 a1 a2 a3 a4 a5 a6 a7 a8 a9 a10 := by
  refine dt_winK hp hq k (br_t (by decide) (br_f (by decide) (br_t rfl (br_f (by decide) ?_))))
  by_cases h : v = 0
  · subst h
    exact br_t rfl (dt_bodyK hp k (br_f (by decide) (br_t rfl (dt_depK k (br_f (by decide) (dt_179K hp hq k))))))
  · refine br_f h ?_
    unfold wL_lawOf_137 wL_lawOf_138
    exact (dt_bodyN hp h (br_t rfl (br_t rfl (dt_depN h (br_t rfl (dt_179K hp hq k))))))
theorem dt_88Z (hp : p < 2) (hq : q < 4) : wL_lawOf_88 (fun r _ => r = 1) mc ms (nI p) (nI q) b v 0 0 kc ks 0 (fun _ => 0) (fun _ => 0) (fun _ => 0) (fun _ => 0) (fun _ => 0) (fun _ => 0) (fun _ => 0) (fun _ => 0) (fun _ => 0) (fun _ => 0) := by
  refine dt_winZ hp hq rfl (br_t (by decide) (br_t rfl (br_t rfl (br_t rfl ?_))))
  unfold wL_lawOf_137 wL_lawOf_138
  exact dt_bodyZ hp (br_t rfl (br_t rfl (dt_depZ (br_t rfl (dt_179Z hp hq)))))
theorem dt_good (hp : p < 2) (hq : q < 4) : wL_lawOf_37 (fun r _ => r = 1) mc ms (nI p) (nI q) x b v 0 kc ks 0 (fun _ => 0) (fun _ => 0) (fun _ => 0) (fun _ => 0) (fun _ => 0) (fun _ => 0) (fun _ => 0) (fun _ => 0) (fun _ => 0) (fun _ => 0) := by
  refine br_t (by decide) ?_
  by_cases h : x = -1
  · subst h
    exact br_t rfl (dt_putZ hp hq (fun a1 a2 a3 a4 a5 a6 a7 a8 a9 a10 k => br_t rfl (br_t rfl (dt_88K hp hq k))))
  · exact br_f h (dt_putC hp hq h (br_t rfl (br_f (by decide) (dt_88Z hp hq))))
end
/-! ===== the law: a bad site or a bad document, answered by w throughout ===== -/
theorem dt_bad {mc ms kc ks : Nat} {s d x b v w : Int32} (hw : ¬ 0 ≤ w) (hw0 : ¬ w = 0)
    (hput : ∀ (post : Int32 → St2 → Prop) (y t : Int32), post w (0, (fun _ => 0), (fun _ => 0), (fun _ => 0), (fun _ => 0), (fun _ => 0), (fun _ => 0), (fun _ => 0), (fun _ => 0), (fun _ => 0), (fun _ => 0)) → wpX_put post (0, (fun _ => 0), (fun _ => 0), (fun _ => 0), (fun _ => 0), (fun _ => 0), (fun _ => 0), (fun _ => 0), (fun _ => 0), (fun _ => 0), (fun _ => 0)) s d y t)
    (hdel : ∀ (post : Int32 → St2 → Prop) (y : Int32), post w (0, (fun _ => 0), (fun _ => 0), (fun _ => 0), (fun _ => 0), (fun _ => 0), (fun _ => 0), (fun _ => 0), (fun _ => 0), (fun _ => 0), (fun _ => 0)) → wpX_delete post (0, (fun _ => 0), (fun _ => 0), (fun _ => 0), (fun _ => 0), (fun _ => 0), (fun _ => 0), (fun _ => 0), (fun _ => 0), (fun _ => 0), (fun _ => 0)) s d y)
    (hwin : ∀ (post : Int32 → Prop), post w → wpX_winner post (0, (fun _ => 0), (fun _ => 0), (fun _ => 0), (fun _ => 0), (fun _ => 0), (fun _ => 0), (fun _ => 0), (fun _ => 0), (fun _ => 0), (fun _ => 0)) s d)
    (hbod : ∀ (post : Int32 → Prop), post 0 → wpX_body post (0, (fun _ => 0), (fun _ => 0), (fun _ => 0), (fun _ => 0), (fun _ => 0), (fun _ => 0), (fun _ => 0), (fun _ => 0), (fun _ => 0), (fun _ => 0)) s v) : wL_lawOf_37 (fun r _ => r = 1) mc ms s d x b v w kc ks 0 (fun _ => 0) (fun _ => 0) (fun _ => 0) (fun _ => 0) (fun _ => 0) (fun _ => 0) (fun _ => 0) (fun _ => 0) (fun _ => 0) (fun _ => 0) := by
  refine br_f hw (hput _ _ _ (br_t rfl (br_f hw0 (hwin _ (br_f hw (br_t rfl (br_t rfl ?_)))))))
  unfold wL_lawOf_137 wL_lawOf_138
  exact hbod _ (br_t rfl (br_t rfl (dt_depZ (br_t rfl (br_t rfl (hput _ _ _ (br_f hw (br_t rfl (hdel _ _ (br_f hw (br_t rfl rfl)))))))))))
theorem dt_badS {mc ms kc ks : Nat} {s d x b v : Int32} (hs : s < 0 ∨ ¬ s ≤ 1) : wL_lawOf_37 (fun r _ => r = 1) mc ms s d x b v (-1) kc ks 0 (fun _ => 0) (fun _ => 0) (fun _ => 0) (fun _ => 0) (fun _ => 0) (fun _ => 0) (fun _ => 0) (fun _ => 0) (fun _ => 0) (fun _ => 0) :=
  dt_bad (by decide) (by decide) (fun post y t h => dt_putS hs h) (fun post y h => dt_delS hs h) (fun post h => dt_winS hs h) (fun post h => dt_bodyS hs h)
theorem dt_badD {mc ms kc ks p : Nat} {d x b v : Int32} (hp : p < 2) (hd : d < 0 ∨ ¬ d < 4) : wL_lawOf_37 (fun r _ => r = 1) mc ms (nI p) d x b v (-2) kc ks 0 (fun _ => 0) (fun _ => 0) (fun _ => 0) (fun _ => 0) (fun _ => 0) (fun _ => 0) (fun _ => 0) (fun _ => 0) (fun _ => 0) (fun _ => 0) :=
  dt_bad (by decide) (by decide) (fun post y t h => dt_putD hp hd h) (fun post y h => dt_delD hp hd h) (fun post h => dt_winD hp hd h) (fun post h => dt_bodyZ hp h)
/-! ===== the top ===== -/
theorem dt_init {post : St2 → Prop} {mc ms : Nat} {r : Int32} (hm : 10 ≤ mc) (hs : 534 ≤ ms) (h : post (0, (fun _ => 0), (fun _ => 0), (fun _ => 0), (fun _ => 0), (fun _ => 0), (fun _ => 0), (fun _ => 0), (fun _ => 0), (fun _ => 0), (fun _ => 0))) : wpX_init post mc ms r :=
  ⟨by omega, by omega, by omega, by omega, by omega, by omega, by omega, by omega, by omega, by omega, by omega, by omega, by omega, by omega, by omega, by omega, by omega, by omega, by omega, by omega, h⟩
theorem dt_lawOf (s d x b v : Int32) : wpL_lawOf (fun r _ => r = 1) 20 1000 () s d x b v := by
  refine ⟨by omega, by omega, 19, 900, by omega, by omega, dt_init (by omega) (by omega) ?_⟩
  rcases pk_ix s (n := 2) (by omega) with h | h | ⟨p, hp, rfl⟩
  · exact br_t h (dt_badS (Or.inl h))
  · have hh := dt_hi (n := 1) h (by omega)
    exact br_f hh.1 (br_f hh.2.1 (dt_badS (Or.inr hh.2.1)))
  · refine br_f (nI_pos (by omega)) (br_t (nI_le (b := 1) (by omega) (by omega)) ?_)
    rcases pk_ix d (n := 4) (by omega) with g | g | ⟨q, hq, rfl⟩
    · exact br_t g (dt_badD hp (Or.inl g))
    · have gg := dt_hi (n := 3) g (by omega)
      exact br_f gg.1 (br_f gg.2.1 (dt_badD hp (Or.inr gg.2.2)))
    · exact br_f (nI_pos (by omega)) (br_t (nI_le (b := 3) (by omega) (by omega)) (dt_good hp hq))
theorem dt_cell {post : Int32 → Prop} {L : Nat} {xs : Nat → Int32} {y : Int32} (hL : L ≤ 5) (i : Nat) (h : ∀ r, post r) (hi : i < 5 := by omega) (hy : y = nI i := by rfl) : wpL_cellAt post L xs () y :=
  pk_le L i (fun _ => h _) (fun g => ⟨pk_in i L g hy, h _⟩) rfl hy
theorem i_vc (xs : Nat → Int32) (L : Nat) (hL : L ≤ 5) : wpL_law (fun r => r = 1) L xs :=
  dt_cell hL 0 (fun s => dt_cell hL 1 (fun d => dt_cell hL 2 (fun x => dt_cell hL 3 (fun b => dt_cell hL 4 (fun v => ⟨20, 1000, by omega, by omega, dt_lawOf s d x b v⟩)))))
end
