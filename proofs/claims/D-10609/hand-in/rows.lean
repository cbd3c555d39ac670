section
/-- a number of a belt -/
def bl_ok (x : Int32) : Prop := ¬ x < 0 ∧ x < 4
/-- a kind -/
def bl_kd (x : Int32) : Prop := ¬ x < 0 ∧ x ≤ 7
/-- where the first item of belt x stands, its ring begun at 0 -/
def bl_s (x : Int32) : Int32 := x * 16 + ((0 + 0) &&& 15)
theorem bl_43 {x : Int32} : (4 : Int32) ≤ x ↔ (3 : Int32) < x := by
  rw [Int32.le_iff_toInt_le, Int32.lt_iff_toInt_lt]
  have h4 : (4 : Int32).toInt = 4 := by decide
  have h3 : (3 : Int32).toInt = 3 := by decide
  rw [h4, h3]
  omega
theorem bl_34 {x : Int32} : x ≤ (3 : Int32) ↔ x < (4 : Int32) := by
  rw [Int32.le_iff_toInt_le, Int32.lt_iff_toInt_lt]
  have h4 : (4 : Int32).toInt = 4 := by decide
  have h3 : (3 : Int32).toInt = 3 := by decide
  rw [h4, h3]
  omega
theorem bl_in4 {x : Int32} (h : bl_ok x) : vp_in x 4 := by
  obtain ⟨h0, h4⟩ := h
  apply vp_in_iff.mpr
  rw [Int32.lt_iff_toInt_lt] at h0 h4
  have e4 : (4 : Int32).toInt = 4 := by decide
  have e0 : (0 : Int32).toInt = 0 := by decide
  rw [e0] at h0
  rw [e4] at h4
  omega
theorem bl_in2 {x : Int32} (h0 : ¬ x < 0) (h1 : ¬ 1 < x) : vp_in x 2 := by
  apply vp_in_iff.mpr
  rw [Int32.lt_iff_toInt_lt] at h0 h1
  have e1 : (1 : Int32).toInt = 1 := by decide
  have e0 : (0 : Int32).toInt = 0 := by decide
  rw [e0] at h0
  rw [e1] at h1
  omega
theorem bl_s4 : ∀ j, j < 4 → 0 ≤ (bl_s (nI j)).toInt ∧ (bl_s (nI j)).toInt < 64 := by decide +kernel
theorem bl_in64 {x : Int32} (h : bl_ok x) : vp_in (bl_s x) 64 := by
  obtain ⟨j, hj, rfl⟩ := vp_in_of (bl_in4 h) (by decide)
  exact vp_in_iff.mpr (bl_s4 j hj)
theorem bl_nn {n : Int32} (h8 : 8 ≤ n) (h60 : n ≤ 60) : n - 4 < n ∧ ¬ n = 0 := by
  have h0 : ¬ n < 0 := by
    rw [Int32.le_iff_toInt_le] at h8
    rw [Int32.lt_iff_toInt_lt]
    have e8 : (8 : Int32).toInt = 8 := by decide
    have e0 : (0 : Int32).toInt = 0 := by decide
    rw [e0]
    rw [e8] at h8
    omega
  obtain ⟨j, hj, rfl⟩ := nI_of2 (n := 60) (by decide) h0 h60
  have hj8 : 8 ≤ j := (nI_leI (a := 8) (by decide) (by omega)).mp h8
  constructor
  · have e : nI j - 4 = nI (j - 4) := pk_sub (b := 4) (by omega)
    rw [e]
    exact nI_lt (by omega) (by omega)
  · exact nI_ne0 (by omega) (by omega)
theorem bl_lp (n : Int32) : n + 4 * ((1 : Int32) - 1) = n := by
  rw [show (4 : Int32) * (1 - 1) = 0 by decide]
  exact Int32.add_zero n
theorem bl_z4 (n : Int32) : (4 : Int32) * 0 + n = n := by
  rw [show (4 : Int32) * 0 = 0 by decide]
  exact Int32.zero_add n
theorem bl_bad1 {post : Int32 → Prop} {u : St0} {x : Int32} (h : ¬ bl_ok x) (hp : post 1) : wpX_bad post u x :=
  br_c (fun _ => hp) (fun h0 => br_f (fun h4 => h ⟨h0, h4⟩) hp)
theorem bl_bad0 {post : Int32 → Prop} {u : St0} {x : Int32} (h : bl_ok x) (hp : post 0) : wpX_bad post u x :=
  br_f h.1 (br_t h.2 hp)
theorem bl_slot {post : Int32 → Prop} {f g x : Int32} {a1 a2 a3 a4 a5 a6 a7 a8 a9 a10 a11 a12 : Nat → Int32} (h : bl_ok x) (h1 : a1 x.toNatClampNeg = 0) (hp : post (bl_s x)) : wpX_slot post (f, g, a1, a2, a3, a4, a5, a6, a7, a8, a9, a10, a11, a12) x 0 := by
  refine ⟨bl_in4 h, ?_⟩
  rw [h1]
  exact hp
end
section
/-! the law's stages from the last to the first; b: a bad belt, k: a bad kind on a good belt, o: both good -/
theorem bl_219 {post : Int32 → St0 → Prop} (hp : post 1 ()) {mc ms kc ks : Nat} {f g : Int32} {a1 a2 a3 a4 a5 a6 a7 a8 a9 a10 a11 a12 : Nat → Int32} {x1 x2 x4 x5 z : Int32} : wL_lawOf_219 post mc ms x1 x2 x4 x5 z z kc ks f g a1 a2 a3 a4 a5 a6 a7 a8 a9 a10 a11 a12 := by
  refine br_t rfl ?_
  refine br_c (fun h0 => ?_) (fun h0 => br_c (fun h1 => ?_) (fun h1 => br_c (fun h2 => ?_) (fun h2 => br_c (fun h3 => ?_) (fun h3 => ?_))))
  · exact br_t h0 (br_t rfl hp)
  · exact br_f h0 (br_t h1 (br_t rfl hp))
  · exact br_f h0 (br_f h1 (br_t h2 (br_t rfl hp)))
  · have hi := bl_in2 h0 h1
    exact ⟨hi, nm_e ⟨hi, nm_e ⟨hi, nm_e ⟨hi, nm_e ⟨hi, nm_e (br_f h0 (br_f h1 (br_f h2 (br_t h3 (br_t rfl hp)))))⟩⟩⟩⟩⟩
  · exact br_f h0 (br_f h1 (br_f h2 (br_f h3 (br_t rfl hp))))
theorem bl_176b {post : Int32 → St0 → Prop} (hp : post 1 ()) {mc ms kc ks : Nat} {f g : Int32} {a1 a2 a3 a4 a5 a6 a7 a8 a9 a10 a11 a12 : Nat → Int32} {x1 x2 x3 x4 x5 z : Int32} (h : ¬ bl_ok x1) : wL_lawOf_176 post mc ms x1 x2 x3 x4 x5 1 z z kc ks f g a1 a2 a3 a4 a5 a6 a7 a8 a9 a10 a11 a12 := by
  refine br_t rfl ?_
  unfold wpX_lead
  refine bl_bad1 h ?_
  refine br_f (by decide) ?_
  exact br_f (by decide) (bl_219 hp)
theorem bl_176o {post : Int32 → St0 → Prop} (hp : post 1 ()) {mc ms kc ks : Nat} {f g : Int32} {a1 a2 a3 a4 a5 a6 a7 a8 a9 a10 a11 a12 : Nat → Int32} {x1 x2 x3 x4 x5 z : Int32} (h : bl_ok x1) (h6 : a6 x1.toNatClampNeg = -1) : wL_lawOf_176 post mc ms x1 x2 x3 x4 x5 0 z z kc ks f g a1 a2 a3 a4 a5 a6 a7 a8 a9 a10 a11 a12 := by
  refine br_t rfl ?_
  unfold wpX_lead
  refine bl_bad0 h ?_
  refine br_t rfl ?_
  have hi := bl_in4 h
  refine br_c (fun g0 => ?_) (fun g0 => br_c (fun g1 => ?_) (fun g1 => br_c (fun g2 => ?_) (fun g2 => ?_)))
  · exact br_t rfl (br_t g0 (bl_219 hp))
  · exact br_t rfl (br_f g0 (br_t (bl_43.mp g1) (bl_219 hp)))
  · exact br_t rfl (br_f g0 (br_f (fun t => g1 (bl_43.mpr t)) (br_t g2 (bl_219 hp))))
  · exact ⟨hi, nm_r h6 ⟨hi, nm_e (br_t rfl (br_f g0 (br_f (fun t => g1 (bl_43.mpr t)) (br_f g2 (bl_219 hp)))))⟩⟩
theorem bl_154b {post : Int32 → St0 → Prop} (hp : post 1 ()) {mc ms kc ks : Nat} {f g : Int32} {a1 a2 a3 a4 a5 a6 a7 a8 a9 a10 a11 a12 : Nat → Int32} {x1 x2 x3 x4 x5 z : Int32} (h : ¬ bl_ok x1) : wL_lawOf_154 post mc ms x1 x2 x3 x4 x5 1 z z kc ks f g a1 a2 a3 a4 a5 a6 a7 a8 a9 a10 a11 a12 := by
  refine br_t rfl ?_
  unfold wpX_take
  refine bl_bad1 h ?_
  refine br_f (by decide) ?_
  exact br_f (by decide) (bl_176b hp h)
theorem bl_154k {post : Int32 → St0 → Prop} (hp : post 1 ()) {mc ms kc ks : Nat} {f g : Int32} {a1 a2 a3 a4 a5 a6 a7 a8 a9 a10 a11 a12 : Nat → Int32} {x1 x2 x3 x4 x5 z : Int32} (h : bl_ok x1) (h2 : a2 x1.toNatClampNeg = 0) (h6 : a6 x1.toNatClampNeg = -1) : wL_lawOf_154 post mc ms x1 x2 x3 x4 x5 0 z z kc ks f g a1 a2 a3 a4 a5 a6 a7 a8 a9 a10 a11 a12 := by
  refine br_t rfl ?_
  unfold wpX_take
  refine bl_bad0 h ?_
  refine br_t rfl ?_
  refine ⟨bl_in4 h, br_t (by rw [h2]; decide) ?_⟩
  refine br_t rfl ?_
  exact br_t rfl (bl_176o hp h h6)
theorem bl_154o {post : Int32 → St0 → Prop} (hp : post 1 ()) {mc ms kc ks : Nat} {f g : Int32} {a1 a2 a3 a4 a5 a6 a7 a8 a9 a10 a11 a12 : Nat → Int32} {x1 x2 x3 x4 x5 z : Int32} (h : bl_ok x1) (h1 : a1 x1.toNatClampNeg = 0) (h2 : a2 x1.toNatClampNeg = 1) (h3 : ¬ a3 (bl_s x1).toNatClampNeg = 0) (h6 : a6 x1.toNatClampNeg = -1) : wL_lawOf_154 post mc ms x1 x2 x3 x4 x5 0 z z kc ks f g a1 a2 a3 a4 a5 a6 a7 a8 a9 a10 a11 a12 := by
  refine br_t rfl ?_
  unfold wpX_take
  refine bl_bad0 h ?_
  refine br_t rfl ?_
  refine ⟨bl_in4 h, br_f (by rw [h2]; decide) ?_⟩
  refine bl_slot h h1 ?_
  refine ⟨bl_in64 h, br_f h3 ?_⟩
  refine br_t rfl ?_
  exact br_t rfl (bl_176o hp h h6)
theorem bl_putb {post : Int32 → St2 → Prop} {f g x1 x2 : Int32} {a1 a2 a3 a4 a5 a6 a7 a8 a9 a10 a11 a12 : Nat → Int32} (h : ¬ bl_ok x1) (hp : post (-1) (f, g, a1, a2, a3, a4, a5, a6, a7, a8, a9, a10, a11, a12)) : wpX_put post (f, g, a1, a2, a3, a4, a5, a6, a7, a8, a9, a10, a11, a12) x1 x2 := by
  unfold wpX_put
  refine bl_bad1 h ?_
  exact br_f (by decide) hp
theorem bl_putk {post : Int32 → St2 → Prop} {f g x1 x2 : Int32} {a1 a2 a3 a4 a5 a6 a7 a8 a9 a10 a11 a12 : Nat → Int32} (h : bl_ok x1) (hk : ¬ bl_kd x2) (hp : post (-2) (f, g, a1, a2, a3, a4, a5, a6, a7, a8, a9, a10, a11, a12)) : wpX_put post (f, g, a1, a2, a3, a4, a5, a6, a7, a8, a9, a10, a11, a12) x1 x2 := by
  unfold wpX_put
  refine bl_bad0 h ?_
  refine br_t rfl ?_
  exact br_c (fun _ => hp) (fun g0 => br_f (fun g1 => hk ⟨g0, g1⟩) hp)
theorem bl_130b {post : Int32 → St0 → Prop} (hp : post 1 ()) {mc ms kc ks : Nat} {f g : Int32} {a1 a2 a3 a4 a5 a6 a7 a8 a9 a10 a11 a12 : Nat → Int32} {x1 x2 x3 x4 x5 z : Int32} (h : ¬ bl_ok x1) : wL_lawOf_130 post mc ms x1 x2 x3 x4 x5 1 (-1) z z kc ks f g a1 a2 a3 a4 a5 a6 a7 a8 a9 a10 a11 a12 := by
  refine br_t rfl ?_
  refine bl_putb h ?_
  exact br_f (by decide) (bl_154b hp h)
theorem bl_130k {post : Int32 → St0 → Prop} (hp : post 1 ()) {mc ms kc ks : Nat} {f g : Int32} {a1 a2 a3 a4 a5 a6 a7 a8 a9 a10 a11 a12 : Nat → Int32} {x1 x2 x3 x4 x5 z : Int32} (h : bl_ok x1) (hk : ¬ bl_kd x2) (h2 : a2 x1.toNatClampNeg = 0) (h6 : a6 x1.toNatClampNeg = -1) : wL_lawOf_130 post mc ms x1 x2 x3 x4 x5 0 (-2) z z kc ks f g a1 a2 a3 a4 a5 a6 a7 a8 a9 a10 a11 a12 := by
  refine br_t rfl ?_
  refine bl_putk h hk ?_
  exact br_f (by decide) (bl_154k hp h h2 h6)
theorem bl_130o {post : Int32 → St0 → Prop} (hp : post 1 ()) {mc ms kc ks : Nat} {f g : Int32} {a1 a2 a3 a4 a5 a6 a7 a8 a9 a10 a11 a12 : Nat → Int32} {x1 x2 x3 x4 x5 z : Int32} (hn : f - 4 < f) (h : bl_ok x1) (hk : bl_kd x2) (h1 : a1 x1.toNatClampNeg = 0) (h2 : a2 x1.toNatClampNeg = 1) (h3 : ¬ a3 (bl_s x1).toNatClampNeg = 0) (h5 : a5 x1.toNatClampNeg = f) (h6 : a6 x1.toNatClampNeg = -1) : wL_lawOf_130 post mc ms x1 x2 x3 x4 x5 0 1 z z kc ks f g a1 a2 a3 a4 a5 a6 a7 a8 a9 a10 a11 a12 := by
  refine br_t rfl ?_
  unfold wpX_put
  refine bl_bad0 h ?_
  refine br_t rfl ?_
  refine br_f hk.1 (br_t hk.2 ?_)
  refine ⟨bl_in4 h, br_f (by rw [h2]; decide) ?_⟩
  refine ⟨bl_in4 h, bl_in4 h, ?_⟩
  rw [h2, h5, bl_lp]
  refine br_t hn ?_
  refine br_t rfl ?_
  exact br_t (by decide) (bl_154o hp h h1 h2 h3 h6)
theorem bl_88b {post : Int32 → St0 → Prop} (hp : post 1 ()) {mc ms kc ks : Nat} {f g : Int32} {a1 a2 a3 a4 a5 a6 a7 a8 a9 a10 a11 a12 : Nat → Int32} {x1 x2 x3 x4 x5 x7 x9 : Int32} (h : ¬ bl_ok x1) : wL_lawOf_88 post mc ms x1 x2 x3 x4 x5 x7 1 x9 (-1) kc ks f g a1 a2 a3 a4 a5 a6 a7 a8 a9 a10 a11 a12 := by
  refine bl_putb h ?_
  refine br_t rfl ?_
  unfold wpX_place
  refine bl_bad1 h ?_
  refine br_f (by decide) ?_
  exact br_f (by decide) (bl_130b hp h)
theorem bl_88k {post : Int32 → St0 → Prop} (hp : post 1 ()) {mc ms kc ks : Nat} {f g : Int32} {a1 a2 a3 a4 a5 a6 a7 a8 a9 a10 a11 a12 : Nat → Int32} {x1 x2 x3 x4 x5 x7 : Int32} (h : bl_ok x1) (hk : ¬ bl_kd x2) (h2 : a2 x1.toNatClampNeg = 0) (h6 : a6 x1.toNatClampNeg = -1) : wL_lawOf_88 post mc ms x1 x2 x3 x4 x5 x7 0 1 (-2) kc ks f g a1 a2 a3 a4 a5 a6 a7 a8 a9 a10 a11 a12 := by
  refine bl_putk h hk ?_
  refine br_t rfl ?_
  unfold wpX_place
  refine bl_bad0 h ?_
  refine br_t rfl ?_
  refine br_f (by decide) ⟨bl_in4 h, br_f (by rw [h2]; decide) ?_⟩
  exact br_t rfl (br_f (by decide) (bl_130k hp h hk h2 h6))
/-- the place of the first item: its own gap -/
theorem bl_place {post : Int32 → Prop} {f g x1 : Int32} {a1 a2 a3 a4 a5 a6 a7 a8 a9 a10 a11 a12 : Nat → Int32} (h : bl_ok x1) (h1 : a1 x1.toNatClampNeg = 0) (h2 : a2 x1.toNatClampNeg = 1) (hp : post (a3 (bl_s x1).toNatClampNeg)) : wpX_place post (f, g, a1, a2, a3, a4, a5, a6, a7, a8, a9, a10, a11, a12) x1 0 := by
  unfold wpX_place
  refine bl_bad0 h ?_
  refine br_t rfl ?_
  refine br_f (by decide) ⟨bl_in4 h, br_t (by rw [h2]; decide) ?_⟩
  refine nm_e ⟨2, ?_⟩
  refine br_f (by decide) ?_
  refine bl_slot h h1 ?_
  refine ⟨bl_in64 h, nm_r (bl_z4 _) (nm_e ?_)⟩
  exact br_t (by decide) hp
/-- the first item comes onto an empty belt -/
theorem bl_puto {post : Int32 → St2 → Prop} {f g x1 x2 : Int32} {a1 a2 a3 a4 a5 a6 a7 a8 a9 a10 a11 a12 : Nat → Int32} (h : bl_ok x1) (hk : bl_kd x2) (h1 : a1 x1.toNatClampNeg = 0) (h2 : a2 x1.toNatClampNeg = 0) (h5 : a5 x1.toNatClampNeg = 0)
    (hp : ∀ b2 b3 b4 b5, b2 x1.toNatClampNeg = 1 → b3 (bl_s x1).toNatClampNeg = f → b5 x1.toNatClampNeg = f → post 1 (f, g, a1, b2, b3, b4, b5, a6, a7, a8, a9, a10, a11, a12)) : wpX_put post (f, g, a1, a2, a3, a4, a5, a6, a7, a8, a9, a10, a11, a12) x1 x2 := by
  have hi := bl_in4 h
  have hj := bl_in64 h
  unfold wpX_put
  refine bl_bad0 h ?_
  refine br_t rfl ?_
  refine br_f hk.1 (br_t hk.2 ?_)
  refine ⟨hi, br_t h2 ?_⟩
  refine br_f (by decide) ?_
  refine ⟨hi, br_t h2 ?_⟩
  refine ⟨hi, ?_⟩
  rw [h2]
  refine bl_slot h h1 ?_
  refine ⟨hj, nm_e ⟨hj, nm_e ⟨hi, hi, ?_⟩⟩⟩
  refine nm_e ⟨hi, hi, ?_⟩
  intro b2 e2
  have e : b2 x1.toNatClampNeg = 1 := by
    rw [e2, pk_us]
    decide
  refine ⟨hi, ?_⟩
  rw [e]
  refine hp _ _ _ _ e ?_ ?_
  · exact pk_us
  · rw [pk_us, h5]
    exact Int32.zero_add f
theorem bl_88o {post : Int32 → St0 → Prop} (hp : post 1 ()) {mc ms kc ks : Nat} {f g : Int32} {a1 a2 a3 a4 a5 a6 a7 a8 a9 a10 a11 a12 : Nat → Int32} {x1 x2 x3 x4 x5 : Int32} (hn : f - 4 < f ∧ ¬ f = 0) (h : bl_ok x1) (hk : bl_kd x2) (h1 : a1 x1.toNatClampNeg = 0) (h2 : a2 x1.toNatClampNeg = 0) (h5 : a5 x1.toNatClampNeg = 0) (h6 : a6 x1.toNatClampNeg = -1) : wL_lawOf_88 post mc ms x1 x2 x3 x4 x5 f 0 0 1 kc ks f g a1 a2 a3 a4 a5 a6 a7 a8 a9 a10 a11 a12 := by
  refine bl_puto h hk h1 h2 h5 (fun b2 b3 b4 b5 e2 e3 e5 => ?_)
  refine br_t rfl ?_
  refine bl_place h h1 e2 ?_
  rw [e3]
  refine br_t rfl (br_t rfl ?_)
  exact bl_130o hp hn.1 h hk h1 e2 (by rw [e3]; exact hn.2) e5 h6
theorem bl_33 {post : Int32 → St0 → Prop} (hp : post 1 ()) {mc ms kc ks : Nat} {f g : Int32} {a1 a2 a3 a4 a5 a6 a7 a8 a9 a10 a11 a12 : Nat → Int32} {x1 x2 x3 x4 x5 : Int32} (hn : f - 4 < f ∧ ¬ f = 0) (h1 : ∀ i, a1 i = 0) (h2 : ∀ i, a2 i = 0) (h5 : ∀ i, a5 i = 0) (h6 : ∀ x, vp_in x 4 → a6 x.toNatClampNeg = -1) : wL_lawOf_33 post mc ms x1 x2 x3 x4 x5 f kc ks f g a1 a2 a3 a4 a5 a6 a7 a8 a9 a10 a11 a12 := by
  have hB : ∀ x8 x9 : Int32, ¬ bl_ok x1 → x8 = 1 → wL_lawOf_66 post mc ms x1 x2 x3 x4 x5 f x8 x9 kc ks f g a1 a2 a3 a4 a5 a6 a7 a8 a9 a10 a11 a12 := by
    intro x8 x9 h e
    rw [e]
    exact br_f (by decide) (bl_88b hp h)
  have h49 : ¬ bl_ok x1 → wL_lawOf_49 post mc ms x1 x2 x3 x4 x5 f 1 kc ks f g a1 a2 a3 a4 a5 a6 a7 a8 a9 a10 a11 a12 := by
    intro h
    exact br_c (fun _ => hB 1 1 h rfl) (fun _ => br_c (fun _ => hB 1 0 h rfl) (fun _ => hB 1 1 h rfl))
  refine br_c (fun g0 => ?_) (fun g0 => br_c (fun g3 => ?_) (fun g3 => ?_))
  · exact h49 (fun h => h.1 g0)
  · have h : bl_ok x1 := ⟨g0, bl_34.mp g3⟩
    have k6 := h6 x1 (bl_in4 h)
    have hK : ¬ bl_kd x2 → wL_lawOf_66 post mc ms x1 x2 x3 x4 x5 f 0 1 kc ks f g a1 a2 a3 a4 a5 a6 a7 a8 a9 a10 a11 a12 := by
      intro hk
      exact br_t rfl (br_f (by decide) (bl_88k hp h hk (h2 _) k6))
    refine br_c (fun q0 => ?_) (fun q0 => br_c (fun q7 => ?_) (fun q7 => ?_))
    · exact hK (fun hk => hk.1 q0)
    · exact br_t rfl (br_t rfl (bl_88o hp hn h ⟨q0, q7⟩ (h1 _) (h2 _) (h5 _) k6))
    · exact hK (fun hk => q7 hk.2)
  · exact h49 (fun h => g3 (bl_34.mpr h.2))
end
section
theorem bl_137 {post : St2 → Prop} {mc ms kc ks : Nat} {f g : Int32} {a1 a2 a3 a4 a5 a6 a7 a8 a9 a10 a11 a12 : Nat → Int32} (H : ∀ b, post (f, g, a1, a2, a3, a4, a5, a6, a7, a8, a9, a10, a11, b)) : ∃ n, wX_init_137 post mc ms kc ks f g n 0 a1 a2 a3 a4 a5 a6 a7 a8 a9 a10 a11 a12 :=
  pk_loop (fun n i s => wX_init_137 post mc ms kc ks f g n (nI i) a1 a2 a3 a4 a5 a6 a7 a8 a9 a10 a11 s) (fun _ _ => True) 2 0 a12 (by omega) trivial
    (fun n s _ => pk_le 2 2 (fun _ => H s) (fun z => absurd z (by omega)))
    (fun n i s hi _ hw => pk_le 2 i (fun z => absurd z (by omega)) (fun _ => ⟨pk_in i 2 hi, nm_e (nm_r (nI_1 i) (hw _ trivial))⟩))
theorem bl_117 {post : St2 → Prop} {mc ms kc ks : Nat} {f g : Int32} {a1 a2 a3 a4 a5 a6 a7 a8 a9 a10 a11 a12 : Nat → Int32} (H : ∀ b c, (∀ j, j < 4 → b j = -1) → post (f, g, a1, a2, a3, a4, a5, b, a7, a8, a9, a10, a11, c)) : ∃ n, wX_init_117 post mc ms kc ks f g n 0 a1 a2 a3 a4 a5 a6 a7 a8 a9 a10 a11 a12 :=
  pk_loop (fun n i s => wX_init_117 post mc ms kc ks f g n (nI i) a1 a2 a3 a4 a5 s a7 a8 a9 a10 a11 a12) (fun i s => ∀ j, j < i → s j = -1) 4 0 a6 (by omega) (fun j hj => absurd hj (by omega))
    (fun n s h => pk_le 4 4 (fun _ => bl_137 (fun c => H s c h)) (fun z => absurd z (by omega)))
    (fun n i s hi h hw => pk_le 4 i (fun z => absurd z (by omega)) (fun _ => ⟨pk_in i 4 hi, nm_e (nm_r (nI_1 i) (hw _ (fun j hj => by
      rw [nI_clamp (by omega)]
      by_cases e : j = i
      · rw [e, pk_us]
      · rw [pk_un e]
        exact h j (by omega))))⟩))
theorem bl_cell {post : Int32 → Prop} {L : Nat} {xs : Nat → Int32} {u : St0} {p : Int32} (hL : L ≤ 6) (i : Nat) (hi : i < 6) (e : p = nI i) (H : ∀ r, post r) : wpL_cellAt post L xs u p :=
  pk_le L i (fun _ => H _) (fun z => ⟨pk_in i L z e, H _⟩) rfl e
theorem bl_lawOf {post : Int32 → St0 → Prop} (hp : post 1 ()) {p0 p1 p2 p3 p4 p5 : Int32} : wpL_lawOf post 112 1776 () p0 p1 p2 p3 p4 p5 := by
  have h6 : ∀ b : Nat → Int32, (∀ j, j < 4 → b j = -1) → ∀ x, vp_in x 4 → b x.toNatClampNeg = -1 := by
    intro b hb x hx
    obtain ⟨j, hj, rfl⟩ := vp_in_of hx (by decide)
    rw [nI_clamp (by omega)]
    exact hb j hj
  refine ⟨by decide, by decide, 12, 156, by decide, by decide, ?_⟩
  refine ⟨by decide, by decide, by decide, by decide, by decide, by decide, by decide, by decide, by decide, by decide, by decide, by decide, by decide, by decide, by decide, by decide, by decide, by decide, by decide, by decide, by decide, by decide, by decide, by decide, ?_⟩
  refine br_c (fun g8 => br_c (fun g60 => ?_) (fun g60 => ?_)) (fun g8 => br_t (by decide) ?_)
  · exact bl_117 (fun b c hb => br_t g8 (br_t g60 (bl_33 hp (bl_nn g8 g60) (fun _ => rfl) (fun _ => rfl) (fun _ => rfl) (h6 b hb))))
  · exact bl_117 (fun b c hb => br_t g8 (br_f g60 (bl_33 hp (bl_nn (by decide) (by decide)) (fun _ => rfl) (fun _ => rfl) (fun _ => rfl) (h6 b hb))))
  · exact bl_117 (fun b c hb => br_f g8 (bl_33 hp (bl_nn (by decide) (by decide)) (fun _ => rfl) (fun _ => rfl) (fun _ => rfl) (h6 b hb)))
theorem i_vc (xs : Nat → Int32) (L : Nat) (hL : L ≤ 6) : wpL_law (fun r => r = 1) L xs := by
  refine bl_cell hL 0 (by omega) rfl (fun r1 => ?_)
  refine bl_cell hL 1 (by omega) rfl (fun r2 => ?_)
  refine bl_cell hL 2 (by omega) rfl (fun r3 => ?_)
  refine bl_cell hL 3 (by omega) rfl (fun r4 => ?_)
  refine bl_cell hL 4 (by omega) rfl (fun r5 => ?_)
  refine bl_cell hL 5 (by omega) rfl (fun r6 => ?_)
  exact ⟨112, 1776, by decide, by decide, bl_lawOf rfl⟩
end
