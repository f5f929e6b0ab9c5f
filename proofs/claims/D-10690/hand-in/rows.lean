section
/-- a replica's number -/
def tr_I (p : Int32) : Prop := ¬ p < 0 ∧ ¬ 2 < p
theorem tr_cases {p : Int32} (h : tr_I p) : p = 0 ∨ p = 1 ∨ p = 2 := by
  obtain ⟨j, hj, rfl⟩ := nI_of2 (x := p) (M := 2) (n := 2) (by decide) h.1 (Int32.not_lt.mp h.2)
  have : j = 0 ∨ j = 1 ∨ j = 2 := by omega
  rcases this with rfl | rfl | rfl
  · exact Or.inl rfl
  · exact Or.inr (Or.inl rfl)
  · exact Or.inr (Or.inr rfl)
theorem tr_in3 {p : Int32} (h : tr_I p) : vp_in p 3 := by
  rcases tr_cases h with rfl | rfl | rfl <;> exact vp_in_iff.mpr (by decide +kernel)
theorem tr_in9 {p q : Int32} (h : tr_I p) (k : tr_I q) : vp_in (3 * p + q) 9 := by
  rcases tr_cases h with rfl | rfl | rfl <;> rcases tr_cases k with rfl | rfl | rfl <;> exact vp_in_iff.mpr (by decide +kernel)
theorem tr_rep {post : Int32 → Prop} {p : Int32} (h0 : ¬ tr_I p → post 0) (h1 : tr_I p → post 1) : wpX_isReplica post () p :=
  br_c (fun a => h0 (fun t => t.1 a)) (fun a => br_c (fun b => h0 (fun t => t.2 b)) (fun b => h1 ⟨a, b⟩))
theorem tr_pos {x : Int32} (h : ¬ x < 0) (n : ¬ x = 0) : 0 < x := by
  obtain ⟨j, hj, rfl⟩ := nI_of h
  exact nI_lt (a := 0) (b := j) (Nat.pos_of_ne_zero (fun z => n (by rw [z]; rfl))) hj
theorem tr_ev {post : Int32 → St2 → Prop} {v w : Int32} {s : St2} (e : v = w) (h : post w s) : post v s := e ▸ h
/-- a script's cell: some int -/
theorem tr_cell {post : Int32 → Prop} {L : Nat} {xs : Nat → Int32} {k : Nat} (hL : L ≤ 4) (hk : k < 4) (H : ∀ r, post r) : wpL_cellAt post L xs () (nI k) :=
  br_c (fun _ => H _) (fun z => ⟨vp_in_nI (by
    rcases Nat.lt_or_ge k L with a | a
    · exact a
    · exact absurd (nI_le a (by omega)) z) (by omega), H _⟩)
/-! no replica: the calls answer at once -/
theorem tr_ins_o {post : Int32 → St2 → Prop} {f : Int32} {f1 f2 f3 f4 f5 f6 f7 f8 f9 f10 f11 f12 f13 f14 f15 : Nat → Int32} {p x l : Int32} (h : ¬ tr_I p) (H : post (-1) (f, f1, f2, f3, f4, f5, f6, f7, f8, f9, f10, f11, f12, f13, f14, f15)) : wpX_insert post (f, f1, f2, f3, f4, f5, f6, f7, f8, f9, f10, f11, f12, f13, f14, f15) p x l := by
  unfold wpX_insert
  dsimp only
  exact tr_rep (fun _ => br_t rfl H) (fun z => absurd z h)
theorem tr_let_o {post : Int32 → Prop} {f : Int32} {f1 f2 f3 f4 f5 f6 f7 f8 f9 f10 f11 f12 f13 f14 f15 : Nat → Int32} {p x : Int32} (h : ¬ tr_I p) (H : post 0) : wpX_letter post (f, f1, f2, f3, f4, f5, f6, f7, f8, f9, f10, f11, f12, f13, f14, f15) p x := by
  unfold wpX_letter
  dsimp only
  exact tr_rep (fun _ => br_t rfl H) (fun z => absurd z h)
theorem tr_dlv_o {post : Int32 → St2 → Prop} {f : Int32} {f1 f2 f3 f4 f5 f6 f7 f8 f9 f10 f11 f12 f13 f14 f15 : Nat → Int32} {p q : Int32} (h : ¬ (tr_I p ∧ tr_I q)) (H : post (-1) (f, f1, f2, f3, f4, f5, f6, f7, f8, f9, f10, f11, f12, f13, f14, f15)) : wpX_deliver post (f, f1, f2, f3, f4, f5, f6, f7, f8, f9, f10, f11, f12, f13, f14, f15) p q := by
  unfold wpX_deliver
  dsimp only
  exact tr_rep (fun _ => br_t rfl H) (fun a => br_f (by decide) (tr_rep (fun _ => br_t rfl H) (fun b => absurd ⟨a, b⟩ h)))
theorem tr_ali_o {post : Int32 → Prop} {f : Int32} {f1 f2 f3 f4 f5 f6 f7 f8 f9 f10 f11 f12 f13 f14 f15 : Nat → Int32} {p q : Int32} (h : ¬ (tr_I p ∧ tr_I q)) (H : post (-1)) : wpX_alike post (f, f1, f2, f3, f4, f5, f6, f7, f8, f9, f10, f11, f12, f13, f14, f15) p q := by
  unfold wpX_alike
  dsimp only
  exact tr_rep (fun _ => br_t rfl H) (fun a => br_f (by decide) (tr_rep (fun _ => br_t rfl H) (fun b => absurd ⟨a, b⟩ h)))
theorem tr_kno_o {post : Int32 → Prop} {f : Int32} {f1 f2 f3 f4 f5 f6 f7 f8 f9 f10 f11 f12 f13 f14 f15 : Nat → Int32} {p q : Int32} (h : ¬ (tr_I p ∧ tr_I q)) (H : post (-1)) : wpX_known post (f, f1, f2, f3, f4, f5, f6, f7, f8, f9, f10, f11, f12, f13, f14, f15) p q := by
  unfold wpX_known
  dsimp only
  exact tr_rep (fun _ => br_t rfl H) (fun a => br_f (by decide) (tr_rep (fun _ => br_t rfl H) (fun b => absurd ⟨a, b⟩ h)))
theorem tr_kno_i {post : Int32 → Prop} {f : Int32} {f1 f2 f3 f4 f5 f6 f7 f8 f9 f10 f11 f12 f13 f14 f15 : Nat → Int32} {p q v : Int32} (h : tr_I p) (k : tr_I q) (e : f10 (3 * p + q).toNatClampNeg = v) (H : post v) : wpX_known post (f, f1, f2, f3, f4, f5, f6, f7, f8, f9, f10, f11, f12, f13, f14, f15) p q := by
  unfold wpX_known
  dsimp only
  exact tr_rep (fun z => absurd h z) (fun _ => br_f (by decide) (tr_rep (fun z => absurd k z) (fun _ => br_f (by decide) ⟨tr_in9 h k, sb_at e H⟩)))
theorem tr_del_o {post : Int32 → St2 → Prop} {f : Int32} {f1 f2 f3 f4 f5 f6 f7 f8 f9 f10 f11 f12 f13 f14 f15 : Nat → Int32} {p x : Int32} (h : ¬ tr_I p) (H : post (-1) (f, f1, f2, f3, f4, f5, f6, f7, f8, f9, f10, f11, f12, f13, f14, f15)) : wpX_delete post (f, f1, f2, f3, f4, f5, f6, f7, f8, f9, f10, f11, f12, f13, f14, f15) p x := by
  unfold wpX_delete
  dsimp only
  exact tr_rep (fun _ => br_t rfl H) (fun z => absurd z h)
/-! nothing made yet -/
theorem tr_ins_e {post : Int32 → St2 → Prop} {f : Int32} {f1 f2 f3 f4 f5 f6 f7 f8 f9 f10 f11 f12 f13 f14 f15 : Nat → Int32} {p x l : Int32} (n : ¬ x = 0) (e : ∀ j, f15 j = 0) (H : post (-1) (f, f1, f2, f3, f4, f5, f6, f7, f8, f9, f10, f11, f12, f13, f14, f15)) : wpX_insert post (f, f1, f2, f3, f4, f5, f6, f7, f8, f9, f10, f11, f12, f13, f14, f15) p x l := by
  unfold wpX_insert
  dsimp only
  exact tr_rep (fun _ => br_t rfl H) (fun z => br_f (by decide) (br_c (fun _ => H) (fun a => ⟨tr_in3 z, br_t (by rw [e]; exact tr_pos a n) H⟩)))
theorem tr_let_e {post : Int32 → Prop} {f : Int32} {f1 f2 f3 f4 f5 f6 f7 f8 f9 f10 f11 f12 f13 f14 f15 : Nat → Int32} {p x : Int32} (e : ∀ j, f15 j = 0) (H : post 0) : wpX_letter post (f, f1, f2, f3, f4, f5, f6, f7, f8, f9, f10, f11, f12, f13, f14, f15) p x := by
  unfold wpX_letter
  dsimp only
  exact tr_rep (fun _ => br_t rfl H) (fun z => br_f (by decide) (br_c (fun _ => H) (fun a => ⟨tr_in3 z, br_f (by rw [e]; exact a) H⟩)))
theorem tr_del_e {post : Int32 → St2 → Prop} {f : Int32} {f1 f2 f3 f4 f5 f6 f7 f8 f9 f10 f11 f12 f13 f14 f15 : Nat → Int32} {p : Int32} (e : ∀ j, f15 j = 0) (H : post (-1) (f, f1, f2, f3, f4, f5, f6, f7, f8, f9, f10, f11, f12, f13, f14, f15)) : wpX_delete post (f, f1, f2, f3, f4, f5, f6, f7, f8, f9, f10, f11, f12, f13, f14, f15) p 0 := by
  unfold wpX_delete
  dsimp only
  exact tr_rep (fun _ => br_t rfl H) (fun z => br_f (by decide) (br_f (by decide) ⟨tr_in3 z, br_t (by rw [e]; decide) H⟩))
theorem tr_dlv_e {post : Int32 → St2 → Prop} {f : Int32} {f1 f2 f3 f4 f5 f6 f7 f8 f9 f10 f11 f12 f13 f14 f15 : Nat → Int32} {p q : Int32} (e : ∀ j, f8 j = 0) (e' : ∀ j, f10 j = 0) (H : post (-1) (f, f1, f2, f3, f4, f5, f6, f7, f8, f9, f10, f11, f12, f13, f14, f15)) : wpX_deliver post (f, f1, f2, f3, f4, f5, f6, f7, f8, f9, f10, f11, f12, f13, f14, f15) p q := by
  unfold wpX_deliver
  dsimp only
  exact tr_rep (fun _ => br_t rfl H) (fun a => br_f (by decide) (tr_rep (fun _ => br_t rfl H) (fun b => br_f (by decide) ⟨tr_in9 b a, nm_r (e' := 1) (by rw [e']; decide) ⟨tr_in3 a, br_f (by rw [e]; decide) H⟩⟩)))
end
section
/-! the law's chain, from its end: each call's answer is the asked one -/
theorem tr_224 {mc ms kc ks : Nat} {z0 z1 : Int32} (e : z1 = z0) : wL_lawOf_224 (fun r _ => r = 1) mc ms z0 z1 kc ks := by
  unfold wL_lawOf_224
  exact br_t e rfl
theorem tr_197 {mc ms kc ks : Nat} {x3 x6 x7 : Int32} {z0 z1 : Int32} {h : Int32} {h1 h2 h3 h4 h5 h6 h7 h8 h9 h10 h11 h12 h13 h14 h15 : Nat → Int32} (e : z1 = z0) (hE : ∀ q : Int32 → St2 → Prop, (∀ s, q (if x7 = 0 then -1 else if x6 = 0 then -1 else 0) s) → wpX_delete q (h, h1, h2, h3, h4, h5, h6, h7, h8, h9, h10, h11, h12, h13, h14, h15) x3 0) : wL_lawOf_197 (fun r _ => r = 1) mc ms x3 x6 x7 z0 z1 kc ks h h1 h2 h3 h4 h5 h6 h7 h8 h9 h10 h11 h12 h13 h14 h15 := by
  unfold wL_lawOf_197
  refine br_t e (hE _ (fun s => ?_))
  obtain ⟨s0, s1, s2, s3, s4, s5, s6, s7, s8, s9, s10, s11, s12, s13, s14, s15⟩ := s
  dsimp only
  refine br_c (fun a => ?_) (fun a => br_c (fun b => ?_) (fun b => ?_))
  · unfold wL_lawOf_223
    exact tr_224 (if_pos a)
  · unfold wL_lawOf_223
    exact tr_224 (by rw [if_neg a, if_pos b])
  · exact tr_224 (by rw [if_neg a, if_neg b])
theorem tr_161 {mc ms kc ks : Nat} {x0 x3 x5 x6 x7 : Int32} {z0 z1 : Int32} {h : Int32} {h1 h2 h3 h4 h5 h6 h7 h8 h9 h10 h11 h12 h13 h14 h15 : Nat → Int32} (e : z1 = z0) (hK : ∀ q : Int32 → Prop, q (if x5 = 0 then -1 else if x6 = 0 then -1 else if x7 = 0 then 0 else 1) → wpX_known q (h, h1, h2, h3, h4, h5, h6, h7, h8, h9, h10, h11, h12, h13, h14, h15) x3 x0) (hE : ∀ q : Int32 → St2 → Prop, (∀ s, q (if x7 = 0 then -1 else if x6 = 0 then -1 else 0) s) → wpX_delete q (h, h1, h2, h3, h4, h5, h6, h7, h8, h9, h10, h11, h12, h13, h14, h15) x3 0) : wL_lawOf_161 (fun r _ => r = 1) mc ms x0 x3 x5 x6 x7 z0 z1 kc ks h h1 h2 h3 h4 h5 h6 h7 h8 h9 h10 h11 h12 h13 h14 h15 := by
  unfold wL_lawOf_161
  refine br_t e (hK _ ?_)
  refine br_c (fun a => ?_) (fun a => br_c (fun b => ?_) (fun b => br_c (fun c => ?_) (fun c => ?_)))
  · unfold wL_lawOf_196
    exact tr_197 (if_pos a) hE
  · unfold wL_lawOf_196
    exact tr_197 (by rw [if_neg a, if_pos b]) hE
  · exact tr_197 (by rw [if_neg a, if_neg b, if_pos c]) hE
  · exact tr_197 (by rw [if_neg a, if_neg b, if_neg c]) hE
theorem tr_134 {mc ms kc ks : Nat} {x0 x3 x5 x6 x7 : Int32} {z0 z1 : Int32} {h : Int32} {h1 h2 h3 h4 h5 h6 h7 h8 h9 h10 h11 h12 h13 h14 h15 : Nat → Int32} (e : z1 = z0) (hA : ∀ q : Int32 → Prop, q (if x5 = 0 then -1 else if x6 = 0 then -1 else 1) → wpX_alike q (h, h1, h2, h3, h4, h5, h6, h7, h8, h9, h10, h11, h12, h13, h14, h15) x0 x3) (hK : ∀ q : Int32 → Prop, q (if x5 = 0 then -1 else if x6 = 0 then -1 else if x7 = 0 then 0 else 1) → wpX_known q (h, h1, h2, h3, h4, h5, h6, h7, h8, h9, h10, h11, h12, h13, h14, h15) x3 x0) (hE : ∀ q : Int32 → St2 → Prop, (∀ s, q (if x7 = 0 then -1 else if x6 = 0 then -1 else 0) s) → wpX_delete q (h, h1, h2, h3, h4, h5, h6, h7, h8, h9, h10, h11, h12, h13, h14, h15) x3 0) : wL_lawOf_134 (fun r _ => r = 1) mc ms x0 x3 x5 x6 x7 z0 z1 kc ks h h1 h2 h3 h4 h5 h6 h7 h8 h9 h10 h11 h12 h13 h14 h15 := by
  unfold wL_lawOf_134
  refine br_t e (hA _ ?_)
  refine br_c (fun a => ?_) (fun a => br_c (fun b => ?_) (fun b => ?_))
  · unfold wL_lawOf_160
    exact tr_161 (if_pos a) hK hE
  · unfold wL_lawOf_160
    exact tr_161 (by rw [if_neg a, if_pos b]) hK hE
  · exact tr_161 (by rw [if_neg a, if_neg b]) hK hE
theorem tr_102 {mc ms kc ks : Nat} {x0 x3 x5 x6 x7 : Int32} {z0 z1 : Int32} {g : Int32} {g1 g2 g3 g4 g5 g6 g7 g8 g9 g10 g11 g12 g13 g14 g15 : Nat → Int32} {h : Int32} {h1 h2 h3 h4 h5 h6 h7 h8 h9 h10 h11 h12 h13 h14 h15 : Nat → Int32} (e : z1 = z0) (hD : ∀ q : Int32 → St2 → Prop, q (if x7 = 0 then -1 else if x6 = 0 then -1 else if x3 = x0 then -1 else 0) (h, h1, h2, h3, h4, h5, h6, h7, h8, h9, h10, h11, h12, h13, h14, h15) → wpX_deliver q (g, g1, g2, g3, g4, g5, g6, g7, g8, g9, g10, g11, g12, g13, g14, g15) x0 x3) (hA : ∀ q : Int32 → Prop, q (if x5 = 0 then -1 else if x6 = 0 then -1 else 1) → wpX_alike q (h, h1, h2, h3, h4, h5, h6, h7, h8, h9, h10, h11, h12, h13, h14, h15) x0 x3) (hK : ∀ q : Int32 → Prop, q (if x5 = 0 then -1 else if x6 = 0 then -1 else if x7 = 0 then 0 else 1) → wpX_known q (h, h1, h2, h3, h4, h5, h6, h7, h8, h9, h10, h11, h12, h13, h14, h15) x3 x0) (hE : ∀ q : Int32 → St2 → Prop, (∀ s, q (if x7 = 0 then -1 else if x6 = 0 then -1 else 0) s) → wpX_delete q (h, h1, h2, h3, h4, h5, h6, h7, h8, h9, h10, h11, h12, h13, h14, h15) x3 0) : wL_lawOf_102 (fun r _ => r = 1) mc ms x0 x3 x5 x6 x7 z0 z1 kc ks g g1 g2 g3 g4 g5 g6 g7 g8 g9 g10 g11 g12 g13 g14 g15 := by
  unfold wL_lawOf_102
  refine br_t e (hD _ ?_)
  dsimp only
  refine br_c (fun a => ?_) (fun a => br_c (fun b => ?_) (fun b => br_c (fun c => ?_) (fun c => ?_)))
  · unfold wL_lawOf_133
    exact tr_134 (if_pos a) hA hK hE
  · unfold wL_lawOf_133
    exact tr_134 (by rw [if_neg a, if_pos b]) hA hK hE
  · unfold wL_lawOf_133
    exact tr_134 (by rw [if_neg a, if_neg b, if_pos c]) hA hK hE
  · exact tr_134 (by rw [if_neg a, if_neg b, if_neg c]) hA hK hE
theorem tr_75 {mc ms kc ks : Nat} {x0 x1 x2 x3 x5 x6 x7 : Int32} {z0 z1 : Int32} {g : Int32} {g1 g2 g3 g4 g5 g6 g7 g8 g9 g10 g11 g12 g13 g14 g15 : Nat → Int32} {h : Int32} {h1 h2 h3 h4 h5 h6 h7 h8 h9 h10 h11 h12 h13 h14 h15 : Nat → Int32} (e : z1 = z0) (hL : ∀ q : Int32 → Prop, q (if x7 = 0 then 0 else if x3 = x0 then x2 else 0) → wpX_letter q (g, g1, g2, g3, g4, g5, g6, g7, g8, g9, g10, g11, g12, g13, g14, g15) x3 x1) (hD : ∀ q : Int32 → St2 → Prop, q (if x7 = 0 then -1 else if x6 = 0 then -1 else if x3 = x0 then -1 else 0) (h, h1, h2, h3, h4, h5, h6, h7, h8, h9, h10, h11, h12, h13, h14, h15) → wpX_deliver q (g, g1, g2, g3, g4, g5, g6, g7, g8, g9, g10, g11, g12, g13, g14, g15) x0 x3) (hA : ∀ q : Int32 → Prop, q (if x5 = 0 then -1 else if x6 = 0 then -1 else 1) → wpX_alike q (h, h1, h2, h3, h4, h5, h6, h7, h8, h9, h10, h11, h12, h13, h14, h15) x0 x3) (hK : ∀ q : Int32 → Prop, q (if x5 = 0 then -1 else if x6 = 0 then -1 else if x7 = 0 then 0 else 1) → wpX_known q (h, h1, h2, h3, h4, h5, h6, h7, h8, h9, h10, h11, h12, h13, h14, h15) x3 x0) (hE : ∀ q : Int32 → St2 → Prop, (∀ s, q (if x7 = 0 then -1 else if x6 = 0 then -1 else 0) s) → wpX_delete q (h, h1, h2, h3, h4, h5, h6, h7, h8, h9, h10, h11, h12, h13, h14, h15) x3 0) : wL_lawOf_75 (fun r _ => r = 1) mc ms x0 x1 x2 x3 x5 x6 x7 z0 z1 kc ks g g1 g2 g3 g4 g5 g6 g7 g8 g9 g10 g11 g12 g13 g14 g15 := by
  unfold wL_lawOf_75
  refine br_t e (hL _ ?_)
  refine br_c (fun a => ?_) (fun a => br_c (fun b => ?_) (fun b => ?_))
  · unfold wL_lawOf_101
    exact tr_102 (if_pos a) hD hA hK hE
  · exact tr_102 (by rw [if_neg a, if_pos b]) hD hA hK hE
  · unfold wL_lawOf_101
    exact tr_102 (by rw [if_neg a, if_neg b]) hD hA hK hE
theorem tr_55 {mc ms kc ks : Nat} {x0 x1 x2 x3 x5 x6 x7 : Int32} {f : Int32} {f1 f2 f3 f4 f5 f6 f7 f8 f9 f10 f11 f12 f13 f14 f15 : Nat → Int32} {g : Int32} {g1 g2 g3 g4 g5 g6 g7 g8 g9 g10 g11 g12 g13 g14 g15 : Nat → Int32} {h : Int32} {h1 h2 h3 h4 h5 h6 h7 h8 h9 h10 h11 h12 h13 h14 h15 : Nat → Int32} (hI : ∀ q : Int32 → St2 → Prop, q (if x7 = 0 then -1 else 1) (g, g1, g2, g3, g4, g5, g6, g7, g8, g9, g10, g11, g12, g13, g14, g15) → wpX_insert q (f, f1, f2, f3, f4, f5, f6, f7, f8, f9, f10, f11, f12, f13, f14, f15) x0 x1 x2) (hL : ∀ q : Int32 → Prop, q (if x7 = 0 then 0 else if x3 = x0 then x2 else 0) → wpX_letter q (g, g1, g2, g3, g4, g5, g6, g7, g8, g9, g10, g11, g12, g13, g14, g15) x3 x1) (hD : ∀ q : Int32 → St2 → Prop, q (if x7 = 0 then -1 else if x6 = 0 then -1 else if x3 = x0 then -1 else 0) (h, h1, h2, h3, h4, h5, h6, h7, h8, h9, h10, h11, h12, h13, h14, h15) → wpX_deliver q (g, g1, g2, g3, g4, g5, g6, g7, g8, g9, g10, g11, g12, g13, g14, g15) x0 x3) (hA : ∀ q : Int32 → Prop, q (if x5 = 0 then -1 else if x6 = 0 then -1 else 1) → wpX_alike q (h, h1, h2, h3, h4, h5, h6, h7, h8, h9, h10, h11, h12, h13, h14, h15) x0 x3) (hK : ∀ q : Int32 → Prop, q (if x5 = 0 then -1 else if x6 = 0 then -1 else if x7 = 0 then 0 else 1) → wpX_known q (h, h1, h2, h3, h4, h5, h6, h7, h8, h9, h10, h11, h12, h13, h14, h15) x3 x0) (hE : ∀ q : Int32 → St2 → Prop, (∀ s, q (if x7 = 0 then -1 else if x6 = 0 then -1 else 0) s) → wpX_delete q (h, h1, h2, h3, h4, h5, h6, h7, h8, h9, h10, h11, h12, h13, h14, h15) x3 0) : wL_lawOf_55 (fun r _ => r = 1) mc ms x0 x1 x2 x3 x5 x6 x7 kc ks f f1 f2 f3 f4 f5 f6 f7 f8 f9 f10 f11 f12 f13 f14 f15 := by
  unfold wL_lawOf_55
  refine hI _ ?_
  dsimp only
  exact br_c (fun a => tr_75 (if_pos a) hL hD hA hK hE) (fun a => tr_75 (if_neg a) hL hD hA hK hE)
end
section
/-! the states: after the making, after the first insert, after its delivery -/
abbrev tr_Z : Nat → Int32 := fun _ => 0
abbrev tr_F : Nat → Int32 := upd (upd (upd tr_Z 0 (-1)) 49 (-1)) 98 (-1)
theorem tr_init {post : St2 → Prop} (H : post (0, tr_Z, tr_Z, tr_Z, tr_Z, tr_Z, tr_Z, tr_Z, tr_Z, tr_Z, tr_Z, tr_Z, tr_F, tr_Z, tr_Z, tr_Z)) : wpX_init post 15 798 0 := by
  unfold wpX_init
  repeat (first | refine And.intro (by decide) ?_ | refine Exists.intro 4 ?_)
  repeat (first | refine nm_e ?_ | refine br_t (by decide +kernel) ?_ | refine br_f (by decide +kernel) ?_ | refine And.intro (vp_in_iff.mpr (by decide +kernel)) ?_ | refine Exists.intro 4 ?_)
  exact H
theorem tr_ins_0 {post : Int32 → St2 → Prop} {l : Int32} (H : post 1 (1, upd tr_Z 0 1, upd tr_Z 0 0, upd tr_Z 0 1, upd tr_Z 0 l, upd tr_Z 0 (-1), upd tr_Z 0 1, tr_Z, upd tr_Z 0 1, upd tr_Z 1 0, upd tr_Z 0 1, upd tr_Z 0 1, upd (upd tr_F 1 (-1)) 0 0, upd tr_Z 1 0, upd tr_Z 0 1, upd tr_Z 0 1)) : wpX_insert post (0, tr_Z, tr_Z, tr_Z, tr_Z, tr_Z, tr_Z, tr_Z, tr_Z, tr_Z, tr_Z, tr_Z, tr_F, tr_Z, tr_Z, tr_Z) 0 0 l := by
  repeat (first | refine nm_e ?_ | refine br_t (by decide +kernel) ?_ | refine br_f (by decide +kernel) ?_ | refine And.intro (vp_in_iff.mpr (by decide +kernel)) ?_ | refine Exists.intro 2 ?_)
  exact tr_ev (by decide +kernel) H
theorem tr_ins_1 {post : Int32 → St2 → Prop} {l : Int32} (H : post 1 (1, upd tr_Z 0 1, upd tr_Z 0 1, upd tr_Z 0 1, upd tr_Z 0 l, upd tr_Z 0 (-1), upd tr_Z 0 1, tr_Z, upd tr_Z 1 1, upd tr_Z 50 0, upd tr_Z 4 1, upd tr_Z 1 1, upd (upd tr_F 50 (-1)) 49 0, upd tr_Z 50 0, upd tr_Z 1 1, upd tr_Z 1 1)) : wpX_insert post (0, tr_Z, tr_Z, tr_Z, tr_Z, tr_Z, tr_Z, tr_Z, tr_Z, tr_Z, tr_Z, tr_Z, tr_F, tr_Z, tr_Z, tr_Z) 1 0 l := by
  repeat (first | refine nm_e ?_ | refine br_t (by decide +kernel) ?_ | refine br_f (by decide +kernel) ?_ | refine And.intro (vp_in_iff.mpr (by decide +kernel)) ?_ | refine Exists.intro 2 ?_)
  exact tr_ev (by decide +kernel) H
theorem tr_ins_2 {post : Int32 → St2 → Prop} {l : Int32} (H : post 1 (1, upd tr_Z 0 1, upd tr_Z 0 2, upd tr_Z 0 1, upd tr_Z 0 l, upd tr_Z 0 (-1), upd tr_Z 0 1, tr_Z, upd tr_Z 2 1, upd tr_Z 99 0, upd tr_Z 8 1, upd tr_Z 2 1, upd (upd tr_F 99 (-1)) 98 0, upd tr_Z 99 0, upd tr_Z 2 1, upd tr_Z 2 1)) : wpX_insert post (0, tr_Z, tr_Z, tr_Z, tr_Z, tr_Z, tr_Z, tr_Z, tr_Z, tr_Z, tr_Z, tr_Z, tr_F, tr_Z, tr_Z, tr_Z) 2 0 l := by
  repeat (first | refine nm_e ?_ | refine br_t (by decide +kernel) ?_ | refine br_f (by decide +kernel) ?_ | refine And.intro (vp_in_iff.mpr (by decide +kernel)) ?_ | refine Exists.intro 2 ?_)
  exact tr_ev (by decide +kernel) H
theorem tr_ali_e00 {post : Int32 → Prop} (H : post 1) : wpX_alike post (0, tr_Z, tr_Z, tr_Z, tr_Z, tr_Z, tr_Z, tr_Z, tr_Z, tr_Z, tr_Z, tr_Z, tr_F, tr_Z, tr_Z, tr_Z) 0 0 := by
  repeat (first | refine nm_e ?_ | refine br_t (by decide +kernel) ?_ | refine br_f (by decide +kernel) ?_ | refine And.intro (vp_in_iff.mpr (by decide +kernel)) ?_ | refine Exists.intro 2 ?_)
  exact H
theorem tr_let_00 {post : Int32 → Prop} {l : Int32} (H : post l) : wpX_letter post (1, upd tr_Z 0 1, upd tr_Z 0 0, upd tr_Z 0 1, upd tr_Z 0 l, upd tr_Z 0 (-1), upd tr_Z 0 1, tr_Z, upd tr_Z 0 1, upd tr_Z 1 0, upd tr_Z 0 1, upd tr_Z 0 1, upd (upd tr_F 1 (-1)) 0 0, upd tr_Z 1 0, upd tr_Z 0 1, upd tr_Z 0 1) 0 0 := by
  repeat (first | refine nm_e ?_ | refine br_t (by decide +kernel) ?_ | refine br_f (by decide +kernel) ?_ | refine And.intro (vp_in_iff.mpr (by decide +kernel)) ?_ | refine Exists.intro 2 ?_)
  exact H
theorem tr_dlv_00 {post : Int32 → St2 → Prop} {l : Int32} (H : post (-1) (1, upd tr_Z 0 1, upd tr_Z 0 0, upd tr_Z 0 1, upd tr_Z 0 l, upd tr_Z 0 (-1), upd tr_Z 0 1, tr_Z, upd tr_Z 0 1, upd tr_Z 1 0, upd tr_Z 0 1, upd tr_Z 0 1, upd (upd tr_F 1 (-1)) 0 0, upd tr_Z 1 0, upd tr_Z 0 1, upd tr_Z 0 1)) : wpX_deliver post (1, upd tr_Z 0 1, upd tr_Z 0 0, upd tr_Z 0 1, upd tr_Z 0 l, upd tr_Z 0 (-1), upd tr_Z 0 1, tr_Z, upd tr_Z 0 1, upd tr_Z 1 0, upd tr_Z 0 1, upd tr_Z 0 1, upd (upd tr_F 1 (-1)) 0 0, upd tr_Z 1 0, upd tr_Z 0 1, upd tr_Z 0 1) 0 0 := by
  repeat (first | refine nm_e ?_ | refine br_t (by decide +kernel) ?_ | refine br_f (by decide +kernel) ?_ | refine And.intro (vp_in_iff.mpr (by decide +kernel)) ?_ | refine Exists.intro 2 ?_)
  exact H
theorem tr_ali_00 {post : Int32 → Prop} {l : Int32} (H : post 1) : wpX_alike post (1, upd tr_Z 0 1, upd tr_Z 0 0, upd tr_Z 0 1, upd tr_Z 0 l, upd tr_Z 0 (-1), upd tr_Z 0 1, tr_Z, upd tr_Z 0 1, upd tr_Z 1 0, upd tr_Z 0 1, upd tr_Z 0 1, upd (upd tr_F 1 (-1)) 0 0, upd tr_Z 1 0, upd tr_Z 0 1, upd tr_Z 0 1) 0 0 := by
  repeat (first | refine nm_e ?_ | refine br_t (by decide +kernel) ?_ | refine br_f (by decide +kernel) ?_ | refine And.intro (vp_in_iff.mpr (by decide +kernel)) ?_ | refine br_t rfl ?_ | refine Exists.intro 2 ?_)
  exact H
theorem tr_del_00 {post : Int32 → St2 → Prop} {l : Int32} (H : ∀ s, post 0 s) : wpX_delete post (1, upd tr_Z 0 1, upd tr_Z 0 0, upd tr_Z 0 1, upd tr_Z 0 l, upd tr_Z 0 (-1), upd tr_Z 0 1, tr_Z, upd tr_Z 0 1, upd tr_Z 1 0, upd tr_Z 0 1, upd tr_Z 0 1, upd (upd tr_F 1 (-1)) 0 0, upd tr_Z 1 0, upd tr_Z 0 1, upd tr_Z 0 1) 0 0 := by
  repeat (first | refine nm_e ?_ | refine br_t (by decide +kernel) ?_ | refine br_f (by decide +kernel) ?_ | refine And.intro (vp_in_iff.mpr (by decide +kernel)) ?_ | refine Exists.intro 2 ?_)
  exact tr_ev (by decide +kernel) (H _)
theorem tr_ali_e01 {post : Int32 → Prop} (H : post 1) : wpX_alike post (0, tr_Z, tr_Z, tr_Z, tr_Z, tr_Z, tr_Z, tr_Z, tr_Z, tr_Z, tr_Z, tr_Z, tr_F, tr_Z, tr_Z, tr_Z) 0 1 := by
  repeat (first | refine nm_e ?_ | refine br_t (by decide +kernel) ?_ | refine br_f (by decide +kernel) ?_ | refine And.intro (vp_in_iff.mpr (by decide +kernel)) ?_ | refine Exists.intro 2 ?_)
  exact H
theorem tr_let_01 {post : Int32 → Prop} {l : Int32} (H : post 0) : wpX_letter post (1, upd tr_Z 0 1, upd tr_Z 0 0, upd tr_Z 0 1, upd tr_Z 0 l, upd tr_Z 0 (-1), upd tr_Z 0 1, tr_Z, upd tr_Z 0 1, upd tr_Z 1 0, upd tr_Z 0 1, upd tr_Z 0 1, upd (upd tr_F 1 (-1)) 0 0, upd tr_Z 1 0, upd tr_Z 0 1, upd tr_Z 0 1) 1 0 := by
  repeat (first | refine nm_e ?_ | refine br_t (by decide +kernel) ?_ | refine br_f (by decide +kernel) ?_ | refine And.intro (vp_in_iff.mpr (by decide +kernel)) ?_ | refine Exists.intro 2 ?_)
  exact H
theorem tr_dlv_01 {post : Int32 → St2 → Prop} {l : Int32} (H : post 0 (1, upd tr_Z 0 1, upd tr_Z 0 0, upd tr_Z 0 1, upd tr_Z 0 l, upd tr_Z 0 (-1), upd tr_Z 0 1, tr_Z, upd tr_Z 0 1, upd tr_Z 1 0, upd (upd tr_Z 0 1) 3 1, upd (upd tr_Z 0 1) 1 1, upd (upd (upd (upd tr_F 1 (-1)) 0 0) 50 (-1)) 49 0, upd (upd tr_Z 1 0) 50 0, upd (upd tr_Z 0 1) 1 1, upd (upd tr_Z 0 1) 1 1)) : wpX_deliver post (1, upd tr_Z 0 1, upd tr_Z 0 0, upd tr_Z 0 1, upd tr_Z 0 l, upd tr_Z 0 (-1), upd tr_Z 0 1, tr_Z, upd tr_Z 0 1, upd tr_Z 1 0, upd tr_Z 0 1, upd tr_Z 0 1, upd (upd tr_F 1 (-1)) 0 0, upd tr_Z 1 0, upd tr_Z 0 1, upd tr_Z 0 1) 0 1 := by
  repeat (first | refine nm_e ?_ | refine br_t (by decide +kernel) ?_ | refine br_f (by decide +kernel) ?_ | refine And.intro (vp_in_iff.mpr (by decide +kernel)) ?_ | refine Exists.intro 2 ?_)
  exact H
theorem tr_ali_01 {post : Int32 → Prop} {l : Int32} (H : post 1) : wpX_alike post (1, upd tr_Z 0 1, upd tr_Z 0 0, upd tr_Z 0 1, upd tr_Z 0 l, upd tr_Z 0 (-1), upd tr_Z 0 1, tr_Z, upd tr_Z 0 1, upd tr_Z 1 0, upd (upd tr_Z 0 1) 3 1, upd (upd tr_Z 0 1) 1 1, upd (upd (upd (upd tr_F 1 (-1)) 0 0) 50 (-1)) 49 0, upd (upd tr_Z 1 0) 50 0, upd (upd tr_Z 0 1) 1 1, upd (upd tr_Z 0 1) 1 1) 0 1 := by
  repeat (first | refine nm_e ?_ | refine br_t (by decide +kernel) ?_ | refine br_f (by decide +kernel) ?_ | refine And.intro (vp_in_iff.mpr (by decide +kernel)) ?_ | refine br_t rfl ?_ | refine Exists.intro 2 ?_)
  exact H
theorem tr_del_01 {post : Int32 → St2 → Prop} {l : Int32} (H : ∀ s, post 0 s) : wpX_delete post (1, upd tr_Z 0 1, upd tr_Z 0 0, upd tr_Z 0 1, upd tr_Z 0 l, upd tr_Z 0 (-1), upd tr_Z 0 1, tr_Z, upd tr_Z 0 1, upd tr_Z 1 0, upd (upd tr_Z 0 1) 3 1, upd (upd tr_Z 0 1) 1 1, upd (upd (upd (upd tr_F 1 (-1)) 0 0) 50 (-1)) 49 0, upd (upd tr_Z 1 0) 50 0, upd (upd tr_Z 0 1) 1 1, upd (upd tr_Z 0 1) 1 1) 1 0 := by
  repeat (first | refine nm_e ?_ | refine br_t (by decide +kernel) ?_ | refine br_f (by decide +kernel) ?_ | refine And.intro (vp_in_iff.mpr (by decide +kernel)) ?_ | refine Exists.intro 2 ?_)
  exact tr_ev (by decide +kernel) (H _)
theorem tr_ali_e02 {post : Int32 → Prop} (H : post 1) : wpX_alike post (0, tr_Z, tr_Z, tr_Z, tr_Z, tr_Z, tr_Z, tr_Z, tr_Z, tr_Z, tr_Z, tr_Z, tr_F, tr_Z, tr_Z, tr_Z) 0 2 := by
  repeat (first | refine nm_e ?_ | refine br_t (by decide +kernel) ?_ | refine br_f (by decide +kernel) ?_ | refine And.intro (vp_in_iff.mpr (by decide +kernel)) ?_ | refine Exists.intro 2 ?_)
  exact H
theorem tr_let_02 {post : Int32 → Prop} {l : Int32} (H : post 0) : wpX_letter post (1, upd tr_Z 0 1, upd tr_Z 0 0, upd tr_Z 0 1, upd tr_Z 0 l, upd tr_Z 0 (-1), upd tr_Z 0 1, tr_Z, upd tr_Z 0 1, upd tr_Z 1 0, upd tr_Z 0 1, upd tr_Z 0 1, upd (upd tr_F 1 (-1)) 0 0, upd tr_Z 1 0, upd tr_Z 0 1, upd tr_Z 0 1) 2 0 := by
  repeat (first | refine nm_e ?_ | refine br_t (by decide +kernel) ?_ | refine br_f (by decide +kernel) ?_ | refine And.intro (vp_in_iff.mpr (by decide +kernel)) ?_ | refine Exists.intro 2 ?_)
  exact H
theorem tr_dlv_02 {post : Int32 → St2 → Prop} {l : Int32} (H : post 0 (1, upd tr_Z 0 1, upd tr_Z 0 0, upd tr_Z 0 1, upd tr_Z 0 l, upd tr_Z 0 (-1), upd tr_Z 0 1, tr_Z, upd tr_Z 0 1, upd tr_Z 1 0, upd (upd tr_Z 0 1) 6 1, upd (upd tr_Z 0 1) 2 1, upd (upd (upd (upd tr_F 1 (-1)) 0 0) 99 (-1)) 98 0, upd (upd tr_Z 1 0) 99 0, upd (upd tr_Z 0 1) 2 1, upd (upd tr_Z 0 1) 2 1)) : wpX_deliver post (1, upd tr_Z 0 1, upd tr_Z 0 0, upd tr_Z 0 1, upd tr_Z 0 l, upd tr_Z 0 (-1), upd tr_Z 0 1, tr_Z, upd tr_Z 0 1, upd tr_Z 1 0, upd tr_Z 0 1, upd tr_Z 0 1, upd (upd tr_F 1 (-1)) 0 0, upd tr_Z 1 0, upd tr_Z 0 1, upd tr_Z 0 1) 0 2 := by
  repeat (first | refine nm_e ?_ | refine br_t (by decide +kernel) ?_ | refine br_f (by decide +kernel) ?_ | refine And.intro (vp_in_iff.mpr (by decide +kernel)) ?_ | refine Exists.intro 2 ?_)
  exact H
theorem tr_ali_02 {post : Int32 → Prop} {l : Int32} (H : post 1) : wpX_alike post (1, upd tr_Z 0 1, upd tr_Z 0 0, upd tr_Z 0 1, upd tr_Z 0 l, upd tr_Z 0 (-1), upd tr_Z 0 1, tr_Z, upd tr_Z 0 1, upd tr_Z 1 0, upd (upd tr_Z 0 1) 6 1, upd (upd tr_Z 0 1) 2 1, upd (upd (upd (upd tr_F 1 (-1)) 0 0) 99 (-1)) 98 0, upd (upd tr_Z 1 0) 99 0, upd (upd tr_Z 0 1) 2 1, upd (upd tr_Z 0 1) 2 1) 0 2 := by
  repeat (first | refine nm_e ?_ | refine br_t (by decide +kernel) ?_ | refine br_f (by decide +kernel) ?_ | refine And.intro (vp_in_iff.mpr (by decide +kernel)) ?_ | refine br_t rfl ?_ | refine Exists.intro 2 ?_)
  exact H
theorem tr_del_02 {post : Int32 → St2 → Prop} {l : Int32} (H : ∀ s, post 0 s) : wpX_delete post (1, upd tr_Z 0 1, upd tr_Z 0 0, upd tr_Z 0 1, upd tr_Z 0 l, upd tr_Z 0 (-1), upd tr_Z 0 1, tr_Z, upd tr_Z 0 1, upd tr_Z 1 0, upd (upd tr_Z 0 1) 6 1, upd (upd tr_Z 0 1) 2 1, upd (upd (upd (upd tr_F 1 (-1)) 0 0) 99 (-1)) 98 0, upd (upd tr_Z 1 0) 99 0, upd (upd tr_Z 0 1) 2 1, upd (upd tr_Z 0 1) 2 1) 2 0 := by
  repeat (first | refine nm_e ?_ | refine br_t (by decide +kernel) ?_ | refine br_f (by decide +kernel) ?_ | refine And.intro (vp_in_iff.mpr (by decide +kernel)) ?_ | refine Exists.intro 2 ?_)
  exact tr_ev (by decide +kernel) (H _)
theorem tr_ali_e10 {post : Int32 → Prop} (H : post 1) : wpX_alike post (0, tr_Z, tr_Z, tr_Z, tr_Z, tr_Z, tr_Z, tr_Z, tr_Z, tr_Z, tr_Z, tr_Z, tr_F, tr_Z, tr_Z, tr_Z) 1 0 := by
  repeat (first | refine nm_e ?_ | refine br_t (by decide +kernel) ?_ | refine br_f (by decide +kernel) ?_ | refine And.intro (vp_in_iff.mpr (by decide +kernel)) ?_ | refine Exists.intro 2 ?_)
  exact H
theorem tr_let_10 {post : Int32 → Prop} {l : Int32} (H : post 0) : wpX_letter post (1, upd tr_Z 0 1, upd tr_Z 0 1, upd tr_Z 0 1, upd tr_Z 0 l, upd tr_Z 0 (-1), upd tr_Z 0 1, tr_Z, upd tr_Z 1 1, upd tr_Z 50 0, upd tr_Z 4 1, upd tr_Z 1 1, upd (upd tr_F 50 (-1)) 49 0, upd tr_Z 50 0, upd tr_Z 1 1, upd tr_Z 1 1) 0 0 := by
  repeat (first | refine nm_e ?_ | refine br_t (by decide +kernel) ?_ | refine br_f (by decide +kernel) ?_ | refine And.intro (vp_in_iff.mpr (by decide +kernel)) ?_ | refine Exists.intro 2 ?_)
  exact H
theorem tr_dlv_10 {post : Int32 → St2 → Prop} {l : Int32} (H : post 0 (1, upd tr_Z 0 1, upd tr_Z 0 1, upd tr_Z 0 1, upd tr_Z 0 l, upd tr_Z 0 (-1), upd tr_Z 0 1, tr_Z, upd tr_Z 1 1, upd tr_Z 50 0, upd (upd tr_Z 4 1) 1 1, upd (upd tr_Z 1 1) 0 1, upd (upd (upd (upd tr_F 50 (-1)) 49 0) 1 (-1)) 0 0, upd (upd tr_Z 50 0) 1 0, upd (upd tr_Z 1 1) 0 1, upd (upd tr_Z 1 1) 0 1)) : wpX_deliver post (1, upd tr_Z 0 1, upd tr_Z 0 1, upd tr_Z 0 1, upd tr_Z 0 l, upd tr_Z 0 (-1), upd tr_Z 0 1, tr_Z, upd tr_Z 1 1, upd tr_Z 50 0, upd tr_Z 4 1, upd tr_Z 1 1, upd (upd tr_F 50 (-1)) 49 0, upd tr_Z 50 0, upd tr_Z 1 1, upd tr_Z 1 1) 1 0 := by
  repeat (first | refine nm_e ?_ | refine br_t (by decide +kernel) ?_ | refine br_f (by decide +kernel) ?_ | refine And.intro (vp_in_iff.mpr (by decide +kernel)) ?_ | refine Exists.intro 2 ?_)
  exact H
theorem tr_ali_10 {post : Int32 → Prop} {l : Int32} (H : post 1) : wpX_alike post (1, upd tr_Z 0 1, upd tr_Z 0 1, upd tr_Z 0 1, upd tr_Z 0 l, upd tr_Z 0 (-1), upd tr_Z 0 1, tr_Z, upd tr_Z 1 1, upd tr_Z 50 0, upd (upd tr_Z 4 1) 1 1, upd (upd tr_Z 1 1) 0 1, upd (upd (upd (upd tr_F 50 (-1)) 49 0) 1 (-1)) 0 0, upd (upd tr_Z 50 0) 1 0, upd (upd tr_Z 1 1) 0 1, upd (upd tr_Z 1 1) 0 1) 1 0 := by
  repeat (first | refine nm_e ?_ | refine br_t (by decide +kernel) ?_ | refine br_f (by decide +kernel) ?_ | refine And.intro (vp_in_iff.mpr (by decide +kernel)) ?_ | refine br_t rfl ?_ | refine Exists.intro 2 ?_)
  exact H
theorem tr_del_10 {post : Int32 → St2 → Prop} {l : Int32} (H : ∀ s, post 0 s) : wpX_delete post (1, upd tr_Z 0 1, upd tr_Z 0 1, upd tr_Z 0 1, upd tr_Z 0 l, upd tr_Z 0 (-1), upd tr_Z 0 1, tr_Z, upd tr_Z 1 1, upd tr_Z 50 0, upd (upd tr_Z 4 1) 1 1, upd (upd tr_Z 1 1) 0 1, upd (upd (upd (upd tr_F 50 (-1)) 49 0) 1 (-1)) 0 0, upd (upd tr_Z 50 0) 1 0, upd (upd tr_Z 1 1) 0 1, upd (upd tr_Z 1 1) 0 1) 0 0 := by
  repeat (first | refine nm_e ?_ | refine br_t (by decide +kernel) ?_ | refine br_f (by decide +kernel) ?_ | refine And.intro (vp_in_iff.mpr (by decide +kernel)) ?_ | refine Exists.intro 2 ?_)
  exact tr_ev (by decide +kernel) (H _)
theorem tr_ali_e11 {post : Int32 → Prop} (H : post 1) : wpX_alike post (0, tr_Z, tr_Z, tr_Z, tr_Z, tr_Z, tr_Z, tr_Z, tr_Z, tr_Z, tr_Z, tr_Z, tr_F, tr_Z, tr_Z, tr_Z) 1 1 := by
  repeat (first | refine nm_e ?_ | refine br_t (by decide +kernel) ?_ | refine br_f (by decide +kernel) ?_ | refine And.intro (vp_in_iff.mpr (by decide +kernel)) ?_ | refine Exists.intro 2 ?_)
  exact H
theorem tr_let_11 {post : Int32 → Prop} {l : Int32} (H : post l) : wpX_letter post (1, upd tr_Z 0 1, upd tr_Z 0 1, upd tr_Z 0 1, upd tr_Z 0 l, upd tr_Z 0 (-1), upd tr_Z 0 1, tr_Z, upd tr_Z 1 1, upd tr_Z 50 0, upd tr_Z 4 1, upd tr_Z 1 1, upd (upd tr_F 50 (-1)) 49 0, upd tr_Z 50 0, upd tr_Z 1 1, upd tr_Z 1 1) 1 0 := by
  repeat (first | refine nm_e ?_ | refine br_t (by decide +kernel) ?_ | refine br_f (by decide +kernel) ?_ | refine And.intro (vp_in_iff.mpr (by decide +kernel)) ?_ | refine Exists.intro 2 ?_)
  exact H
theorem tr_dlv_11 {post : Int32 → St2 → Prop} {l : Int32} (H : post (-1) (1, upd tr_Z 0 1, upd tr_Z 0 1, upd tr_Z 0 1, upd tr_Z 0 l, upd tr_Z 0 (-1), upd tr_Z 0 1, tr_Z, upd tr_Z 1 1, upd tr_Z 50 0, upd tr_Z 4 1, upd tr_Z 1 1, upd (upd tr_F 50 (-1)) 49 0, upd tr_Z 50 0, upd tr_Z 1 1, upd tr_Z 1 1)) : wpX_deliver post (1, upd tr_Z 0 1, upd tr_Z 0 1, upd tr_Z 0 1, upd tr_Z 0 l, upd tr_Z 0 (-1), upd tr_Z 0 1, tr_Z, upd tr_Z 1 1, upd tr_Z 50 0, upd tr_Z 4 1, upd tr_Z 1 1, upd (upd tr_F 50 (-1)) 49 0, upd tr_Z 50 0, upd tr_Z 1 1, upd tr_Z 1 1) 1 1 := by
  repeat (first | refine nm_e ?_ | refine br_t (by decide +kernel) ?_ | refine br_f (by decide +kernel) ?_ | refine And.intro (vp_in_iff.mpr (by decide +kernel)) ?_ | refine Exists.intro 2 ?_)
  exact H
theorem tr_ali_11 {post : Int32 → Prop} {l : Int32} (H : post 1) : wpX_alike post (1, upd tr_Z 0 1, upd tr_Z 0 1, upd tr_Z 0 1, upd tr_Z 0 l, upd tr_Z 0 (-1), upd tr_Z 0 1, tr_Z, upd tr_Z 1 1, upd tr_Z 50 0, upd tr_Z 4 1, upd tr_Z 1 1, upd (upd tr_F 50 (-1)) 49 0, upd tr_Z 50 0, upd tr_Z 1 1, upd tr_Z 1 1) 1 1 := by
  repeat (first | refine nm_e ?_ | refine br_t (by decide +kernel) ?_ | refine br_f (by decide +kernel) ?_ | refine And.intro (vp_in_iff.mpr (by decide +kernel)) ?_ | refine br_t rfl ?_ | refine Exists.intro 2 ?_)
  exact H
theorem tr_del_11 {post : Int32 → St2 → Prop} {l : Int32} (H : ∀ s, post 0 s) : wpX_delete post (1, upd tr_Z 0 1, upd tr_Z 0 1, upd tr_Z 0 1, upd tr_Z 0 l, upd tr_Z 0 (-1), upd tr_Z 0 1, tr_Z, upd tr_Z 1 1, upd tr_Z 50 0, upd tr_Z 4 1, upd tr_Z 1 1, upd (upd tr_F 50 (-1)) 49 0, upd tr_Z 50 0, upd tr_Z 1 1, upd tr_Z 1 1) 1 0 := by
  repeat (first | refine nm_e ?_ | refine br_t (by decide +kernel) ?_ | refine br_f (by decide +kernel) ?_ | refine And.intro (vp_in_iff.mpr (by decide +kernel)) ?_ | refine Exists.intro 2 ?_)
  exact tr_ev (by decide +kernel) (H _)
theorem tr_ali_e12 {post : Int32 → Prop} (H : post 1) : wpX_alike post (0, tr_Z, tr_Z, tr_Z, tr_Z, tr_Z, tr_Z, tr_Z, tr_Z, tr_Z, tr_Z, tr_Z, tr_F, tr_Z, tr_Z, tr_Z) 1 2 := by
  repeat (first | refine nm_e ?_ | refine br_t (by decide +kernel) ?_ | refine br_f (by decide +kernel) ?_ | refine And.intro (vp_in_iff.mpr (by decide +kernel)) ?_ | refine Exists.intro 2 ?_)
  exact H
theorem tr_let_12 {post : Int32 → Prop} {l : Int32} (H : post 0) : wpX_letter post (1, upd tr_Z 0 1, upd tr_Z 0 1, upd tr_Z 0 1, upd tr_Z 0 l, upd tr_Z 0 (-1), upd tr_Z 0 1, tr_Z, upd tr_Z 1 1, upd tr_Z 50 0, upd tr_Z 4 1, upd tr_Z 1 1, upd (upd tr_F 50 (-1)) 49 0, upd tr_Z 50 0, upd tr_Z 1 1, upd tr_Z 1 1) 2 0 := by
  repeat (first | refine nm_e ?_ | refine br_t (by decide +kernel) ?_ | refine br_f (by decide +kernel) ?_ | refine And.intro (vp_in_iff.mpr (by decide +kernel)) ?_ | refine Exists.intro 2 ?_)
  exact H
theorem tr_dlv_12 {post : Int32 → St2 → Prop} {l : Int32} (H : post 0 (1, upd tr_Z 0 1, upd tr_Z 0 1, upd tr_Z 0 1, upd tr_Z 0 l, upd tr_Z 0 (-1), upd tr_Z 0 1, tr_Z, upd tr_Z 1 1, upd tr_Z 50 0, upd (upd tr_Z 4 1) 7 1, upd (upd tr_Z 1 1) 2 1, upd (upd (upd (upd tr_F 50 (-1)) 49 0) 99 (-1)) 98 0, upd (upd tr_Z 50 0) 99 0, upd (upd tr_Z 1 1) 2 1, upd (upd tr_Z 1 1) 2 1)) : wpX_deliver post (1, upd tr_Z 0 1, upd tr_Z 0 1, upd tr_Z 0 1, upd tr_Z 0 l, upd tr_Z 0 (-1), upd tr_Z 0 1, tr_Z, upd tr_Z 1 1, upd tr_Z 50 0, upd tr_Z 4 1, upd tr_Z 1 1, upd (upd tr_F 50 (-1)) 49 0, upd tr_Z 50 0, upd tr_Z 1 1, upd tr_Z 1 1) 1 2 := by
  repeat (first | refine nm_e ?_ | refine br_t (by decide +kernel) ?_ | refine br_f (by decide +kernel) ?_ | refine And.intro (vp_in_iff.mpr (by decide +kernel)) ?_ | refine Exists.intro 2 ?_)
  exact H
theorem tr_ali_12 {post : Int32 → Prop} {l : Int32} (H : post 1) : wpX_alike post (1, upd tr_Z 0 1, upd tr_Z 0 1, upd tr_Z 0 1, upd tr_Z 0 l, upd tr_Z 0 (-1), upd tr_Z 0 1, tr_Z, upd tr_Z 1 1, upd tr_Z 50 0, upd (upd tr_Z 4 1) 7 1, upd (upd tr_Z 1 1) 2 1, upd (upd (upd (upd tr_F 50 (-1)) 49 0) 99 (-1)) 98 0, upd (upd tr_Z 50 0) 99 0, upd (upd tr_Z 1 1) 2 1, upd (upd tr_Z 1 1) 2 1) 1 2 := by
  repeat (first | refine nm_e ?_ | refine br_t (by decide +kernel) ?_ | refine br_f (by decide +kernel) ?_ | refine And.intro (vp_in_iff.mpr (by decide +kernel)) ?_ | refine br_t rfl ?_ | refine Exists.intro 2 ?_)
  exact H
theorem tr_del_12 {post : Int32 → St2 → Prop} {l : Int32} (H : ∀ s, post 0 s) : wpX_delete post (1, upd tr_Z 0 1, upd tr_Z 0 1, upd tr_Z 0 1, upd tr_Z 0 l, upd tr_Z 0 (-1), upd tr_Z 0 1, tr_Z, upd tr_Z 1 1, upd tr_Z 50 0, upd (upd tr_Z 4 1) 7 1, upd (upd tr_Z 1 1) 2 1, upd (upd (upd (upd tr_F 50 (-1)) 49 0) 99 (-1)) 98 0, upd (upd tr_Z 50 0) 99 0, upd (upd tr_Z 1 1) 2 1, upd (upd tr_Z 1 1) 2 1) 2 0 := by
  repeat (first | refine nm_e ?_ | refine br_t (by decide +kernel) ?_ | refine br_f (by decide +kernel) ?_ | refine And.intro (vp_in_iff.mpr (by decide +kernel)) ?_ | refine Exists.intro 2 ?_)
  exact tr_ev (by decide +kernel) (H _)
theorem tr_ali_e20 {post : Int32 → Prop} (H : post 1) : wpX_alike post (0, tr_Z, tr_Z, tr_Z, tr_Z, tr_Z, tr_Z, tr_Z, tr_Z, tr_Z, tr_Z, tr_Z, tr_F, tr_Z, tr_Z, tr_Z) 2 0 := by
  repeat (first | refine nm_e ?_ | refine br_t (by decide +kernel) ?_ | refine br_f (by decide +kernel) ?_ | refine And.intro (vp_in_iff.mpr (by decide +kernel)) ?_ | refine Exists.intro 2 ?_)
  exact H
theorem tr_let_20 {post : Int32 → Prop} {l : Int32} (H : post 0) : wpX_letter post (1, upd tr_Z 0 1, upd tr_Z 0 2, upd tr_Z 0 1, upd tr_Z 0 l, upd tr_Z 0 (-1), upd tr_Z 0 1, tr_Z, upd tr_Z 2 1, upd tr_Z 99 0, upd tr_Z 8 1, upd tr_Z 2 1, upd (upd tr_F 99 (-1)) 98 0, upd tr_Z 99 0, upd tr_Z 2 1, upd tr_Z 2 1) 0 0 := by
  repeat (first | refine nm_e ?_ | refine br_t (by decide +kernel) ?_ | refine br_f (by decide +kernel) ?_ | refine And.intro (vp_in_iff.mpr (by decide +kernel)) ?_ | refine Exists.intro 2 ?_)
  exact H
theorem tr_dlv_20 {post : Int32 → St2 → Prop} {l : Int32} (H : post 0 (1, upd tr_Z 0 1, upd tr_Z 0 2, upd tr_Z 0 1, upd tr_Z 0 l, upd tr_Z 0 (-1), upd tr_Z 0 1, tr_Z, upd tr_Z 2 1, upd tr_Z 99 0, upd (upd tr_Z 8 1) 2 1, upd (upd tr_Z 2 1) 0 1, upd (upd (upd (upd tr_F 99 (-1)) 98 0) 1 (-1)) 0 0, upd (upd tr_Z 99 0) 1 0, upd (upd tr_Z 2 1) 0 1, upd (upd tr_Z 2 1) 0 1)) : wpX_deliver post (1, upd tr_Z 0 1, upd tr_Z 0 2, upd tr_Z 0 1, upd tr_Z 0 l, upd tr_Z 0 (-1), upd tr_Z 0 1, tr_Z, upd tr_Z 2 1, upd tr_Z 99 0, upd tr_Z 8 1, upd tr_Z 2 1, upd (upd tr_F 99 (-1)) 98 0, upd tr_Z 99 0, upd tr_Z 2 1, upd tr_Z 2 1) 2 0 := by
  repeat (first | refine nm_e ?_ | refine br_t (by decide +kernel) ?_ | refine br_f (by decide +kernel) ?_ | refine And.intro (vp_in_iff.mpr (by decide +kernel)) ?_ | refine Exists.intro 2 ?_)
  exact H
theorem tr_ali_20 {post : Int32 → Prop} {l : Int32} (H : post 1) : wpX_alike post (1, upd tr_Z 0 1, upd tr_Z 0 2, upd tr_Z 0 1, upd tr_Z 0 l, upd tr_Z 0 (-1), upd tr_Z 0 1, tr_Z, upd tr_Z 2 1, upd tr_Z 99 0, upd (upd tr_Z 8 1) 2 1, upd (upd tr_Z 2 1) 0 1, upd (upd (upd (upd tr_F 99 (-1)) 98 0) 1 (-1)) 0 0, upd (upd tr_Z 99 0) 1 0, upd (upd tr_Z 2 1) 0 1, upd (upd tr_Z 2 1) 0 1) 2 0 := by
  repeat (first | refine nm_e ?_ | refine br_t (by decide +kernel) ?_ | refine br_f (by decide +kernel) ?_ | refine And.intro (vp_in_iff.mpr (by decide +kernel)) ?_ | refine br_t rfl ?_ | refine Exists.intro 2 ?_)
  exact H
theorem tr_del_20 {post : Int32 → St2 → Prop} {l : Int32} (H : ∀ s, post 0 s) : wpX_delete post (1, upd tr_Z 0 1, upd tr_Z 0 2, upd tr_Z 0 1, upd tr_Z 0 l, upd tr_Z 0 (-1), upd tr_Z 0 1, tr_Z, upd tr_Z 2 1, upd tr_Z 99 0, upd (upd tr_Z 8 1) 2 1, upd (upd tr_Z 2 1) 0 1, upd (upd (upd (upd tr_F 99 (-1)) 98 0) 1 (-1)) 0 0, upd (upd tr_Z 99 0) 1 0, upd (upd tr_Z 2 1) 0 1, upd (upd tr_Z 2 1) 0 1) 0 0 := by
  repeat (first | refine nm_e ?_ | refine br_t (by decide +kernel) ?_ | refine br_f (by decide +kernel) ?_ | refine And.intro (vp_in_iff.mpr (by decide +kernel)) ?_ | refine Exists.intro 2 ?_)
  exact tr_ev (by decide +kernel) (H _)
theorem tr_ali_e21 {post : Int32 → Prop} (H : post 1) : wpX_alike post (0, tr_Z, tr_Z, tr_Z, tr_Z, tr_Z, tr_Z, tr_Z, tr_Z, tr_Z, tr_Z, tr_Z, tr_F, tr_Z, tr_Z, tr_Z) 2 1 := by
  repeat (first | refine nm_e ?_ | refine br_t (by decide +kernel) ?_ | refine br_f (by decide +kernel) ?_ | refine And.intro (vp_in_iff.mpr (by decide +kernel)) ?_ | refine Exists.intro 2 ?_)
  exact H
theorem tr_let_21 {post : Int32 → Prop} {l : Int32} (H : post 0) : wpX_letter post (1, upd tr_Z 0 1, upd tr_Z 0 2, upd tr_Z 0 1, upd tr_Z 0 l, upd tr_Z 0 (-1), upd tr_Z 0 1, tr_Z, upd tr_Z 2 1, upd tr_Z 99 0, upd tr_Z 8 1, upd tr_Z 2 1, upd (upd tr_F 99 (-1)) 98 0, upd tr_Z 99 0, upd tr_Z 2 1, upd tr_Z 2 1) 1 0 := by
  repeat (first | refine nm_e ?_ | refine br_t (by decide +kernel) ?_ | refine br_f (by decide +kernel) ?_ | refine And.intro (vp_in_iff.mpr (by decide +kernel)) ?_ | refine Exists.intro 2 ?_)
  exact H
theorem tr_dlv_21 {post : Int32 → St2 → Prop} {l : Int32} (H : post 0 (1, upd tr_Z 0 1, upd tr_Z 0 2, upd tr_Z 0 1, upd tr_Z 0 l, upd tr_Z 0 (-1), upd tr_Z 0 1, tr_Z, upd tr_Z 2 1, upd tr_Z 99 0, upd (upd tr_Z 8 1) 5 1, upd (upd tr_Z 2 1) 1 1, upd (upd (upd (upd tr_F 99 (-1)) 98 0) 50 (-1)) 49 0, upd (upd tr_Z 99 0) 50 0, upd (upd tr_Z 2 1) 1 1, upd (upd tr_Z 2 1) 1 1)) : wpX_deliver post (1, upd tr_Z 0 1, upd tr_Z 0 2, upd tr_Z 0 1, upd tr_Z 0 l, upd tr_Z 0 (-1), upd tr_Z 0 1, tr_Z, upd tr_Z 2 1, upd tr_Z 99 0, upd tr_Z 8 1, upd tr_Z 2 1, upd (upd tr_F 99 (-1)) 98 0, upd tr_Z 99 0, upd tr_Z 2 1, upd tr_Z 2 1) 2 1 := by
  repeat (first | refine nm_e ?_ | refine br_t (by decide +kernel) ?_ | refine br_f (by decide +kernel) ?_ | refine And.intro (vp_in_iff.mpr (by decide +kernel)) ?_ | refine Exists.intro 2 ?_)
  exact H
theorem tr_ali_21 {post : Int32 → Prop} {l : Int32} (H : post 1) : wpX_alike post (1, upd tr_Z 0 1, upd tr_Z 0 2, upd tr_Z 0 1, upd tr_Z 0 l, upd tr_Z 0 (-1), upd tr_Z 0 1, tr_Z, upd tr_Z 2 1, upd tr_Z 99 0, upd (upd tr_Z 8 1) 5 1, upd (upd tr_Z 2 1) 1 1, upd (upd (upd (upd tr_F 99 (-1)) 98 0) 50 (-1)) 49 0, upd (upd tr_Z 99 0) 50 0, upd (upd tr_Z 2 1) 1 1, upd (upd tr_Z 2 1) 1 1) 2 1 := by
  repeat (first | refine nm_e ?_ | refine br_t (by decide +kernel) ?_ | refine br_f (by decide +kernel) ?_ | refine And.intro (vp_in_iff.mpr (by decide +kernel)) ?_ | refine br_t rfl ?_ | refine Exists.intro 2 ?_)
  exact H
theorem tr_del_21 {post : Int32 → St2 → Prop} {l : Int32} (H : ∀ s, post 0 s) : wpX_delete post (1, upd tr_Z 0 1, upd tr_Z 0 2, upd tr_Z 0 1, upd tr_Z 0 l, upd tr_Z 0 (-1), upd tr_Z 0 1, tr_Z, upd tr_Z 2 1, upd tr_Z 99 0, upd (upd tr_Z 8 1) 5 1, upd (upd tr_Z 2 1) 1 1, upd (upd (upd (upd tr_F 99 (-1)) 98 0) 50 (-1)) 49 0, upd (upd tr_Z 99 0) 50 0, upd (upd tr_Z 2 1) 1 1, upd (upd tr_Z 2 1) 1 1) 1 0 := by
  repeat (first | refine nm_e ?_ | refine br_t (by decide +kernel) ?_ | refine br_f (by decide +kernel) ?_ | refine And.intro (vp_in_iff.mpr (by decide +kernel)) ?_ | refine Exists.intro 2 ?_)
  exact tr_ev (by decide +kernel) (H _)
theorem tr_ali_e22 {post : Int32 → Prop} (H : post 1) : wpX_alike post (0, tr_Z, tr_Z, tr_Z, tr_Z, tr_Z, tr_Z, tr_Z, tr_Z, tr_Z, tr_Z, tr_Z, tr_F, tr_Z, tr_Z, tr_Z) 2 2 := by
  repeat (first | refine nm_e ?_ | refine br_t (by decide +kernel) ?_ | refine br_f (by decide +kernel) ?_ | refine And.intro (vp_in_iff.mpr (by decide +kernel)) ?_ | refine Exists.intro 2 ?_)
  exact H
theorem tr_let_22 {post : Int32 → Prop} {l : Int32} (H : post l) : wpX_letter post (1, upd tr_Z 0 1, upd tr_Z 0 2, upd tr_Z 0 1, upd tr_Z 0 l, upd tr_Z 0 (-1), upd tr_Z 0 1, tr_Z, upd tr_Z 2 1, upd tr_Z 99 0, upd tr_Z 8 1, upd tr_Z 2 1, upd (upd tr_F 99 (-1)) 98 0, upd tr_Z 99 0, upd tr_Z 2 1, upd tr_Z 2 1) 2 0 := by
  repeat (first | refine nm_e ?_ | refine br_t (by decide +kernel) ?_ | refine br_f (by decide +kernel) ?_ | refine And.intro (vp_in_iff.mpr (by decide +kernel)) ?_ | refine Exists.intro 2 ?_)
  exact H
theorem tr_dlv_22 {post : Int32 → St2 → Prop} {l : Int32} (H : post (-1) (1, upd tr_Z 0 1, upd tr_Z 0 2, upd tr_Z 0 1, upd tr_Z 0 l, upd tr_Z 0 (-1), upd tr_Z 0 1, tr_Z, upd tr_Z 2 1, upd tr_Z 99 0, upd tr_Z 8 1, upd tr_Z 2 1, upd (upd tr_F 99 (-1)) 98 0, upd tr_Z 99 0, upd tr_Z 2 1, upd tr_Z 2 1)) : wpX_deliver post (1, upd tr_Z 0 1, upd tr_Z 0 2, upd tr_Z 0 1, upd tr_Z 0 l, upd tr_Z 0 (-1), upd tr_Z 0 1, tr_Z, upd tr_Z 2 1, upd tr_Z 99 0, upd tr_Z 8 1, upd tr_Z 2 1, upd (upd tr_F 99 (-1)) 98 0, upd tr_Z 99 0, upd tr_Z 2 1, upd tr_Z 2 1) 2 2 := by
  repeat (first | refine nm_e ?_ | refine br_t (by decide +kernel) ?_ | refine br_f (by decide +kernel) ?_ | refine And.intro (vp_in_iff.mpr (by decide +kernel)) ?_ | refine Exists.intro 2 ?_)
  exact H
theorem tr_ali_22 {post : Int32 → Prop} {l : Int32} (H : post 1) : wpX_alike post (1, upd tr_Z 0 1, upd tr_Z 0 2, upd tr_Z 0 1, upd tr_Z 0 l, upd tr_Z 0 (-1), upd tr_Z 0 1, tr_Z, upd tr_Z 2 1, upd tr_Z 99 0, upd tr_Z 8 1, upd tr_Z 2 1, upd (upd tr_F 99 (-1)) 98 0, upd tr_Z 99 0, upd tr_Z 2 1, upd tr_Z 2 1) 2 2 := by
  repeat (first | refine nm_e ?_ | refine br_t (by decide +kernel) ?_ | refine br_f (by decide +kernel) ?_ | refine And.intro (vp_in_iff.mpr (by decide +kernel)) ?_ | refine br_t rfl ?_ | refine Exists.intro 2 ?_)
  exact H
theorem tr_del_22 {post : Int32 → St2 → Prop} {l : Int32} (H : ∀ s, post 0 s) : wpX_delete post (1, upd tr_Z 0 1, upd tr_Z 0 2, upd tr_Z 0 1, upd tr_Z 0 l, upd tr_Z 0 (-1), upd tr_Z 0 1, tr_Z, upd tr_Z 2 1, upd tr_Z 99 0, upd tr_Z 8 1, upd tr_Z 2 1, upd (upd tr_F 99 (-1)) 98 0, upd tr_Z 99 0, upd tr_Z 2 1, upd tr_Z 2 1) 2 0 := by
  repeat (first | refine nm_e ?_ | refine br_t (by decide +kernel) ?_ | refine br_f (by decide +kernel) ?_ | refine And.intro (vp_in_iff.mpr (by decide +kernel)) ?_ | refine Exists.intro 2 ?_)
  exact tr_ev (by decide +kernel) (H _)
end
section
/-! the law's roads: nothing inserted; inserted, and the other is no replica, the same, another -/
theorem tr_ali_e {post : Int32 → Prop} {p q : Int32} (h : tr_I p) (k : tr_I q) (H : post 1) : wpX_alike post (0, tr_Z, tr_Z, tr_Z, tr_Z, tr_Z, tr_Z, tr_Z, tr_Z, tr_Z, tr_Z, tr_Z, tr_F, tr_Z, tr_Z, tr_Z) p q := by
  rcases tr_cases h with rfl | rfl | rfl <;> rcases tr_cases k with rfl | rfl | rfl
  · exact tr_ali_e00 H
  · exact tr_ali_e01 H
  · exact tr_ali_e02 H
  · exact tr_ali_e10 H
  · exact tr_ali_e11 H
  · exact tr_ali_e12 H
  · exact tr_ali_e20 H
  · exact tr_ali_e21 H
  · exact tr_ali_e22 H
theorem tr_n00 {mc ms kc ks : Nat} {x0 x1 x2 x3 : Int32} (hr : ¬ tr_I x0) (ho : ¬ tr_I x3) : wL_lawOf_55 (fun r _ => r = 1) mc ms x0 x1 x2 x3 0 0 0 kc ks 0 tr_Z tr_Z tr_Z tr_Z tr_Z tr_Z tr_Z tr_Z tr_Z tr_Z tr_Z tr_F tr_Z tr_Z tr_Z := by
  exact tr_55 (f := 0) (f1 := tr_Z) (f2 := tr_Z) (f3 := tr_Z) (f4 := tr_Z) (f5 := tr_Z) (f6 := tr_Z) (f7 := tr_Z) (f8 := tr_Z) (f9 := tr_Z) (f10 := tr_Z) (f11 := tr_Z) (f12 := tr_F) (f13 := tr_Z) (f14 := tr_Z) (f15 := tr_Z) (g := 0) (g1 := tr_Z) (g2 := tr_Z) (g3 := tr_Z) (g4 := tr_Z) (g5 := tr_Z) (g6 := tr_Z) (g7 := tr_Z) (g8 := tr_Z) (g9 := tr_Z) (g10 := tr_Z) (g11 := tr_Z) (g12 := tr_F) (g13 := tr_Z) (g14 := tr_Z) (g15 := tr_Z) (h := 0) (h1 := tr_Z) (h2 := tr_Z) (h3 := tr_Z) (h4 := tr_Z) (h5 := tr_Z) (h6 := tr_Z) (h7 := tr_Z) (h8 := tr_Z) (h9 := tr_Z) (h10 := tr_Z) (h11 := tr_Z) (h12 := tr_F) (h13 := tr_Z) (h14 := tr_Z) (h15 := tr_Z) (fun q hq => tr_ins_o hr hq) (fun q hq => tr_let_e (fun _ => rfl) hq) (fun q hq => tr_dlv_e (fun _ => rfl) (fun _ => rfl) hq) (fun q hq => tr_ali_o (fun t => hr t.1) hq) (fun q hq => tr_kno_o (fun t => hr t.2) hq) (fun q hq => tr_del_e (fun _ => rfl) (hq _))
theorem tr_n01 {mc ms kc ks : Nat} {x0 x1 x2 x3 : Int32} (hr : ¬ tr_I x0) (ho : tr_I x3) : wL_lawOf_55 (fun r _ => r = 1) mc ms x0 x1 x2 x3 0 1 0 kc ks 0 tr_Z tr_Z tr_Z tr_Z tr_Z tr_Z tr_Z tr_Z tr_Z tr_Z tr_Z tr_F tr_Z tr_Z tr_Z := by
  exact tr_55 (f := 0) (f1 := tr_Z) (f2 := tr_Z) (f3 := tr_Z) (f4 := tr_Z) (f5 := tr_Z) (f6 := tr_Z) (f7 := tr_Z) (f8 := tr_Z) (f9 := tr_Z) (f10 := tr_Z) (f11 := tr_Z) (f12 := tr_F) (f13 := tr_Z) (f14 := tr_Z) (f15 := tr_Z) (g := 0) (g1 := tr_Z) (g2 := tr_Z) (g3 := tr_Z) (g4 := tr_Z) (g5 := tr_Z) (g6 := tr_Z) (g7 := tr_Z) (g8 := tr_Z) (g9 := tr_Z) (g10 := tr_Z) (g11 := tr_Z) (g12 := tr_F) (g13 := tr_Z) (g14 := tr_Z) (g15 := tr_Z) (h := 0) (h1 := tr_Z) (h2 := tr_Z) (h3 := tr_Z) (h4 := tr_Z) (h5 := tr_Z) (h6 := tr_Z) (h7 := tr_Z) (h8 := tr_Z) (h9 := tr_Z) (h10 := tr_Z) (h11 := tr_Z) (h12 := tr_F) (h13 := tr_Z) (h14 := tr_Z) (h15 := tr_Z) (fun q hq => tr_ins_o hr hq) (fun q hq => tr_let_e (fun _ => rfl) hq) (fun q hq => tr_dlv_e (fun _ => rfl) (fun _ => rfl) hq) (fun q hq => tr_ali_o (fun t => hr t.1) hq) (fun q hq => tr_kno_o (fun t => hr t.2) hq) (fun q hq => tr_del_e (fun _ => rfl) (hq _))
theorem tr_n10 {mc ms kc ks : Nat} {x0 x1 x2 x3 : Int32} (hr : tr_I x0) (hx : ¬ x1 = 0) (ho : ¬ tr_I x3) : wL_lawOf_55 (fun r _ => r = 1) mc ms x0 x1 x2 x3 1 0 0 kc ks 0 tr_Z tr_Z tr_Z tr_Z tr_Z tr_Z tr_Z tr_Z tr_Z tr_Z tr_Z tr_F tr_Z tr_Z tr_Z := by
  exact tr_55 (f := 0) (f1 := tr_Z) (f2 := tr_Z) (f3 := tr_Z) (f4 := tr_Z) (f5 := tr_Z) (f6 := tr_Z) (f7 := tr_Z) (f8 := tr_Z) (f9 := tr_Z) (f10 := tr_Z) (f11 := tr_Z) (f12 := tr_F) (f13 := tr_Z) (f14 := tr_Z) (f15 := tr_Z) (g := 0) (g1 := tr_Z) (g2 := tr_Z) (g3 := tr_Z) (g4 := tr_Z) (g5 := tr_Z) (g6 := tr_Z) (g7 := tr_Z) (g8 := tr_Z) (g9 := tr_Z) (g10 := tr_Z) (g11 := tr_Z) (g12 := tr_F) (g13 := tr_Z) (g14 := tr_Z) (g15 := tr_Z) (h := 0) (h1 := tr_Z) (h2 := tr_Z) (h3 := tr_Z) (h4 := tr_Z) (h5 := tr_Z) (h6 := tr_Z) (h7 := tr_Z) (h8 := tr_Z) (h9 := tr_Z) (h10 := tr_Z) (h11 := tr_Z) (h12 := tr_F) (h13 := tr_Z) (h14 := tr_Z) (h15 := tr_Z) (fun q hq => tr_ins_e hx (fun _ => rfl) hq) (fun q hq => tr_let_e (fun _ => rfl) hq) (fun q hq => tr_dlv_e (fun _ => rfl) (fun _ => rfl) hq) (fun q hq => tr_ali_o (fun t => ho t.2) hq) (fun q hq => tr_kno_o (fun t => ho t.1) hq) (fun q hq => tr_del_e (fun _ => rfl) (hq _))
theorem tr_n11 {mc ms kc ks : Nat} {x0 x1 x2 x3 : Int32} (hr : tr_I x0) (hx : ¬ x1 = 0) (ho : tr_I x3) : wL_lawOf_55 (fun r _ => r = 1) mc ms x0 x1 x2 x3 1 1 0 kc ks 0 tr_Z tr_Z tr_Z tr_Z tr_Z tr_Z tr_Z tr_Z tr_Z tr_Z tr_Z tr_F tr_Z tr_Z tr_Z := by
  exact tr_55 (f := 0) (f1 := tr_Z) (f2 := tr_Z) (f3 := tr_Z) (f4 := tr_Z) (f5 := tr_Z) (f6 := tr_Z) (f7 := tr_Z) (f8 := tr_Z) (f9 := tr_Z) (f10 := tr_Z) (f11 := tr_Z) (f12 := tr_F) (f13 := tr_Z) (f14 := tr_Z) (f15 := tr_Z) (g := 0) (g1 := tr_Z) (g2 := tr_Z) (g3 := tr_Z) (g4 := tr_Z) (g5 := tr_Z) (g6 := tr_Z) (g7 := tr_Z) (g8 := tr_Z) (g9 := tr_Z) (g10 := tr_Z) (g11 := tr_Z) (g12 := tr_F) (g13 := tr_Z) (g14 := tr_Z) (g15 := tr_Z) (h := 0) (h1 := tr_Z) (h2 := tr_Z) (h3 := tr_Z) (h4 := tr_Z) (h5 := tr_Z) (h6 := tr_Z) (h7 := tr_Z) (h8 := tr_Z) (h9 := tr_Z) (h10 := tr_Z) (h11 := tr_Z) (h12 := tr_F) (h13 := tr_Z) (h14 := tr_Z) (h15 := tr_Z) (fun q hq => tr_ins_e hx (fun _ => rfl) hq) (fun q hq => tr_let_e (fun _ => rfl) hq) (fun q hq => tr_dlv_e (fun _ => rfl) (fun _ => rfl) hq) (fun q hq => tr_ali_e hr ho hq) (fun q hq => tr_kno_i ho hr rfl hq) (fun q hq => tr_del_e (fun _ => rfl) (hq _))
theorem tr_y0 {mc ms kc ks : Nat} {x2 x3 : Int32} (ho : ¬ tr_I x3) : wL_lawOf_55 (fun r _ => r = 1) mc ms 0 0 x2 x3 1 0 1 kc ks 0 tr_Z tr_Z tr_Z tr_Z tr_Z tr_Z tr_Z tr_Z tr_Z tr_Z tr_Z tr_F tr_Z tr_Z tr_Z := by
  have hne : ¬ x3 = 0 := fun z => ho (by rw [z]; exact ⟨by decide, by decide⟩)
  exact tr_55 (f := 0) (f1 := tr_Z) (f2 := tr_Z) (f3 := tr_Z) (f4 := tr_Z) (f5 := tr_Z) (f6 := tr_Z) (f7 := tr_Z) (f8 := tr_Z) (f9 := tr_Z) (f10 := tr_Z) (f11 := tr_Z) (f12 := tr_F) (f13 := tr_Z) (f14 := tr_Z) (f15 := tr_Z) (g := 1) (g1 := upd tr_Z 0 1) (g2 := upd tr_Z 0 0) (g3 := upd tr_Z 0 1) (g4 := upd tr_Z 0 x2) (g5 := upd tr_Z 0 (-1)) (g6 := upd tr_Z 0 1) (g7 := tr_Z) (g8 := upd tr_Z 0 1) (g9 := upd tr_Z 1 0) (g10 := upd tr_Z 0 1) (g11 := upd tr_Z 0 1) (g12 := upd (upd tr_F 1 (-1)) 0 0) (g13 := upd tr_Z 1 0) (g14 := upd tr_Z 0 1) (g15 := upd tr_Z 0 1) (h := 1) (h1 := upd tr_Z 0 1) (h2 := upd tr_Z 0 0) (h3 := upd tr_Z 0 1) (h4 := upd tr_Z 0 x2) (h5 := upd tr_Z 0 (-1)) (h6 := upd tr_Z 0 1) (h7 := tr_Z) (h8 := upd tr_Z 0 1) (h9 := upd tr_Z 1 0) (h10 := upd tr_Z 0 1) (h11 := upd tr_Z 0 1) (h12 := upd (upd tr_F 1 (-1)) 0 0) (h13 := upd tr_Z 1 0) (h14 := upd tr_Z 0 1) (h15 := upd tr_Z 0 1) (fun q hq => tr_ins_0 hq) (fun q hq => tr_let_o ho (by rw [if_neg (by decide), if_neg hne] at hq; exact hq)) (fun q hq => tr_dlv_o (fun t => ho t.2) hq) (fun q hq => tr_ali_o (fun t => ho t.2) hq) (fun q hq => tr_kno_o (fun t => ho t.1) hq) (fun q hq => tr_del_o ho (hq _))
theorem tr_y00 {mc ms kc ks : Nat} {x2 : Int32} : wL_lawOf_55 (fun r _ => r = 1) mc ms 0 0 x2 0 1 1 1 kc ks 0 tr_Z tr_Z tr_Z tr_Z tr_Z tr_Z tr_Z tr_Z tr_Z tr_Z tr_Z tr_F tr_Z tr_Z tr_Z := by
  exact tr_55 (f := 0) (f1 := tr_Z) (f2 := tr_Z) (f3 := tr_Z) (f4 := tr_Z) (f5 := tr_Z) (f6 := tr_Z) (f7 := tr_Z) (f8 := tr_Z) (f9 := tr_Z) (f10 := tr_Z) (f11 := tr_Z) (f12 := tr_F) (f13 := tr_Z) (f14 := tr_Z) (f15 := tr_Z) (g := 1) (g1 := upd tr_Z 0 1) (g2 := upd tr_Z 0 0) (g3 := upd tr_Z 0 1) (g4 := upd tr_Z 0 x2) (g5 := upd tr_Z 0 (-1)) (g6 := upd tr_Z 0 1) (g7 := tr_Z) (g8 := upd tr_Z 0 1) (g9 := upd tr_Z 1 0) (g10 := upd tr_Z 0 1) (g11 := upd tr_Z 0 1) (g12 := upd (upd tr_F 1 (-1)) 0 0) (g13 := upd tr_Z 1 0) (g14 := upd tr_Z 0 1) (g15 := upd tr_Z 0 1) (h := 1) (h1 := upd tr_Z 0 1) (h2 := upd tr_Z 0 0) (h3 := upd tr_Z 0 1) (h4 := upd tr_Z 0 x2) (h5 := upd tr_Z 0 (-1)) (h6 := upd tr_Z 0 1) (h7 := tr_Z) (h8 := upd tr_Z 0 1) (h9 := upd tr_Z 1 0) (h10 := upd tr_Z 0 1) (h11 := upd tr_Z 0 1) (h12 := upd (upd tr_F 1 (-1)) 0 0) (h13 := upd tr_Z 1 0) (h14 := upd tr_Z 0 1) (h15 := upd tr_Z 0 1) (fun q hq => tr_ins_0 hq) (fun q hq => tr_let_00 hq) (fun q hq => tr_dlv_00 hq) (fun q hq => tr_ali_00 hq) (fun q hq => tr_kno_i ⟨by decide, by decide⟩ ⟨by decide, by decide⟩ (by decide +kernel) hq) (fun q hq => tr_del_00 hq)
theorem tr_y01 {mc ms kc ks : Nat} {x2 : Int32} : wL_lawOf_55 (fun r _ => r = 1) mc ms 0 0 x2 1 1 1 1 kc ks 0 tr_Z tr_Z tr_Z tr_Z tr_Z tr_Z tr_Z tr_Z tr_Z tr_Z tr_Z tr_F tr_Z tr_Z tr_Z := by
  exact tr_55 (f := 0) (f1 := tr_Z) (f2 := tr_Z) (f3 := tr_Z) (f4 := tr_Z) (f5 := tr_Z) (f6 := tr_Z) (f7 := tr_Z) (f8 := tr_Z) (f9 := tr_Z) (f10 := tr_Z) (f11 := tr_Z) (f12 := tr_F) (f13 := tr_Z) (f14 := tr_Z) (f15 := tr_Z) (g := 1) (g1 := upd tr_Z 0 1) (g2 := upd tr_Z 0 0) (g3 := upd tr_Z 0 1) (g4 := upd tr_Z 0 x2) (g5 := upd tr_Z 0 (-1)) (g6 := upd tr_Z 0 1) (g7 := tr_Z) (g8 := upd tr_Z 0 1) (g9 := upd tr_Z 1 0) (g10 := upd tr_Z 0 1) (g11 := upd tr_Z 0 1) (g12 := upd (upd tr_F 1 (-1)) 0 0) (g13 := upd tr_Z 1 0) (g14 := upd tr_Z 0 1) (g15 := upd tr_Z 0 1) (h := 1) (h1 := upd tr_Z 0 1) (h2 := upd tr_Z 0 0) (h3 := upd tr_Z 0 1) (h4 := upd tr_Z 0 x2) (h5 := upd tr_Z 0 (-1)) (h6 := upd tr_Z 0 1) (h7 := tr_Z) (h8 := upd tr_Z 0 1) (h9 := upd tr_Z 1 0) (h10 := upd (upd tr_Z 0 1) 3 1) (h11 := upd (upd tr_Z 0 1) 1 1) (h12 := upd (upd (upd (upd tr_F 1 (-1)) 0 0) 50 (-1)) 49 0) (h13 := upd (upd tr_Z 1 0) 50 0) (h14 := upd (upd tr_Z 0 1) 1 1) (h15 := upd (upd tr_Z 0 1) 1 1) (fun q hq => tr_ins_0 hq) (fun q hq => tr_let_01 hq) (fun q hq => tr_dlv_01 hq) (fun q hq => tr_ali_01 hq) (fun q hq => tr_kno_i ⟨by decide, by decide⟩ ⟨by decide, by decide⟩ (by decide +kernel) hq) (fun q hq => tr_del_01 hq)
theorem tr_y02 {mc ms kc ks : Nat} {x2 : Int32} : wL_lawOf_55 (fun r _ => r = 1) mc ms 0 0 x2 2 1 1 1 kc ks 0 tr_Z tr_Z tr_Z tr_Z tr_Z tr_Z tr_Z tr_Z tr_Z tr_Z tr_Z tr_F tr_Z tr_Z tr_Z := by
  exact tr_55 (f := 0) (f1 := tr_Z) (f2 := tr_Z) (f3 := tr_Z) (f4 := tr_Z) (f5 := tr_Z) (f6 := tr_Z) (f7 := tr_Z) (f8 := tr_Z) (f9 := tr_Z) (f10 := tr_Z) (f11 := tr_Z) (f12 := tr_F) (f13 := tr_Z) (f14 := tr_Z) (f15 := tr_Z) (g := 1) (g1 := upd tr_Z 0 1) (g2 := upd tr_Z 0 0) (g3 := upd tr_Z 0 1) (g4 := upd tr_Z 0 x2) (g5 := upd tr_Z 0 (-1)) (g6 := upd tr_Z 0 1) (g7 := tr_Z) (g8 := upd tr_Z 0 1) (g9 := upd tr_Z 1 0) (g10 := upd tr_Z 0 1) (g11 := upd tr_Z 0 1) (g12 := upd (upd tr_F 1 (-1)) 0 0) (g13 := upd tr_Z 1 0) (g14 := upd tr_Z 0 1) (g15 := upd tr_Z 0 1) (h := 1) (h1 := upd tr_Z 0 1) (h2 := upd tr_Z 0 0) (h3 := upd tr_Z 0 1) (h4 := upd tr_Z 0 x2) (h5 := upd tr_Z 0 (-1)) (h6 := upd tr_Z 0 1) (h7 := tr_Z) (h8 := upd tr_Z 0 1) (h9 := upd tr_Z 1 0) (h10 := upd (upd tr_Z 0 1) 6 1) (h11 := upd (upd tr_Z 0 1) 2 1) (h12 := upd (upd (upd (upd tr_F 1 (-1)) 0 0) 99 (-1)) 98 0) (h13 := upd (upd tr_Z 1 0) 99 0) (h14 := upd (upd tr_Z 0 1) 2 1) (h15 := upd (upd tr_Z 0 1) 2 1) (fun q hq => tr_ins_0 hq) (fun q hq => tr_let_02 hq) (fun q hq => tr_dlv_02 hq) (fun q hq => tr_ali_02 hq) (fun q hq => tr_kno_i ⟨by decide, by decide⟩ ⟨by decide, by decide⟩ (by decide +kernel) hq) (fun q hq => tr_del_02 hq)
theorem tr_y1 {mc ms kc ks : Nat} {x2 x3 : Int32} (ho : ¬ tr_I x3) : wL_lawOf_55 (fun r _ => r = 1) mc ms 1 0 x2 x3 1 0 1 kc ks 0 tr_Z tr_Z tr_Z tr_Z tr_Z tr_Z tr_Z tr_Z tr_Z tr_Z tr_Z tr_F tr_Z tr_Z tr_Z := by
  have hne : ¬ x3 = 1 := fun z => ho (by rw [z]; exact ⟨by decide, by decide⟩)
  exact tr_55 (f := 0) (f1 := tr_Z) (f2 := tr_Z) (f3 := tr_Z) (f4 := tr_Z) (f5 := tr_Z) (f6 := tr_Z) (f7 := tr_Z) (f8 := tr_Z) (f9 := tr_Z) (f10 := tr_Z) (f11 := tr_Z) (f12 := tr_F) (f13 := tr_Z) (f14 := tr_Z) (f15 := tr_Z) (g := 1) (g1 := upd tr_Z 0 1) (g2 := upd tr_Z 0 1) (g3 := upd tr_Z 0 1) (g4 := upd tr_Z 0 x2) (g5 := upd tr_Z 0 (-1)) (g6 := upd tr_Z 0 1) (g7 := tr_Z) (g8 := upd tr_Z 1 1) (g9 := upd tr_Z 50 0) (g10 := upd tr_Z 4 1) (g11 := upd tr_Z 1 1) (g12 := upd (upd tr_F 50 (-1)) 49 0) (g13 := upd tr_Z 50 0) (g14 := upd tr_Z 1 1) (g15 := upd tr_Z 1 1) (h := 1) (h1 := upd tr_Z 0 1) (h2 := upd tr_Z 0 1) (h3 := upd tr_Z 0 1) (h4 := upd tr_Z 0 x2) (h5 := upd tr_Z 0 (-1)) (h6 := upd tr_Z 0 1) (h7 := tr_Z) (h8 := upd tr_Z 1 1) (h9 := upd tr_Z 50 0) (h10 := upd tr_Z 4 1) (h11 := upd tr_Z 1 1) (h12 := upd (upd tr_F 50 (-1)) 49 0) (h13 := upd tr_Z 50 0) (h14 := upd tr_Z 1 1) (h15 := upd tr_Z 1 1) (fun q hq => tr_ins_1 hq) (fun q hq => tr_let_o ho (by rw [if_neg (by decide), if_neg hne] at hq; exact hq)) (fun q hq => tr_dlv_o (fun t => ho t.2) hq) (fun q hq => tr_ali_o (fun t => ho t.2) hq) (fun q hq => tr_kno_o (fun t => ho t.1) hq) (fun q hq => tr_del_o ho (hq _))
theorem tr_y10 {mc ms kc ks : Nat} {x2 : Int32} : wL_lawOf_55 (fun r _ => r = 1) mc ms 1 0 x2 0 1 1 1 kc ks 0 tr_Z tr_Z tr_Z tr_Z tr_Z tr_Z tr_Z tr_Z tr_Z tr_Z tr_Z tr_F tr_Z tr_Z tr_Z := by
  exact tr_55 (f := 0) (f1 := tr_Z) (f2 := tr_Z) (f3 := tr_Z) (f4 := tr_Z) (f5 := tr_Z) (f6 := tr_Z) (f7 := tr_Z) (f8 := tr_Z) (f9 := tr_Z) (f10 := tr_Z) (f11 := tr_Z) (f12 := tr_F) (f13 := tr_Z) (f14 := tr_Z) (f15 := tr_Z) (g := 1) (g1 := upd tr_Z 0 1) (g2 := upd tr_Z 0 1) (g3 := upd tr_Z 0 1) (g4 := upd tr_Z 0 x2) (g5 := upd tr_Z 0 (-1)) (g6 := upd tr_Z 0 1) (g7 := tr_Z) (g8 := upd tr_Z 1 1) (g9 := upd tr_Z 50 0) (g10 := upd tr_Z 4 1) (g11 := upd tr_Z 1 1) (g12 := upd (upd tr_F 50 (-1)) 49 0) (g13 := upd tr_Z 50 0) (g14 := upd tr_Z 1 1) (g15 := upd tr_Z 1 1) (h := 1) (h1 := upd tr_Z 0 1) (h2 := upd tr_Z 0 1) (h3 := upd tr_Z 0 1) (h4 := upd tr_Z 0 x2) (h5 := upd tr_Z 0 (-1)) (h6 := upd tr_Z 0 1) (h7 := tr_Z) (h8 := upd tr_Z 1 1) (h9 := upd tr_Z 50 0) (h10 := upd (upd tr_Z 4 1) 1 1) (h11 := upd (upd tr_Z 1 1) 0 1) (h12 := upd (upd (upd (upd tr_F 50 (-1)) 49 0) 1 (-1)) 0 0) (h13 := upd (upd tr_Z 50 0) 1 0) (h14 := upd (upd tr_Z 1 1) 0 1) (h15 := upd (upd tr_Z 1 1) 0 1) (fun q hq => tr_ins_1 hq) (fun q hq => tr_let_10 hq) (fun q hq => tr_dlv_10 hq) (fun q hq => tr_ali_10 hq) (fun q hq => tr_kno_i ⟨by decide, by decide⟩ ⟨by decide, by decide⟩ (by decide +kernel) hq) (fun q hq => tr_del_10 hq)
theorem tr_y11 {mc ms kc ks : Nat} {x2 : Int32} : wL_lawOf_55 (fun r _ => r = 1) mc ms 1 0 x2 1 1 1 1 kc ks 0 tr_Z tr_Z tr_Z tr_Z tr_Z tr_Z tr_Z tr_Z tr_Z tr_Z tr_Z tr_F tr_Z tr_Z tr_Z := by
  exact tr_55 (f := 0) (f1 := tr_Z) (f2 := tr_Z) (f3 := tr_Z) (f4 := tr_Z) (f5 := tr_Z) (f6 := tr_Z) (f7 := tr_Z) (f8 := tr_Z) (f9 := tr_Z) (f10 := tr_Z) (f11 := tr_Z) (f12 := tr_F) (f13 := tr_Z) (f14 := tr_Z) (f15 := tr_Z) (g := 1) (g1 := upd tr_Z 0 1) (g2 := upd tr_Z 0 1) (g3 := upd tr_Z 0 1) (g4 := upd tr_Z 0 x2) (g5 := upd tr_Z 0 (-1)) (g6 := upd tr_Z 0 1) (g7 := tr_Z) (g8 := upd tr_Z 1 1) (g9 := upd tr_Z 50 0) (g10 := upd tr_Z 4 1) (g11 := upd tr_Z 1 1) (g12 := upd (upd tr_F 50 (-1)) 49 0) (g13 := upd tr_Z 50 0) (g14 := upd tr_Z 1 1) (g15 := upd tr_Z 1 1) (h := 1) (h1 := upd tr_Z 0 1) (h2 := upd tr_Z 0 1) (h3 := upd tr_Z 0 1) (h4 := upd tr_Z 0 x2) (h5 := upd tr_Z 0 (-1)) (h6 := upd tr_Z 0 1) (h7 := tr_Z) (h8 := upd tr_Z 1 1) (h9 := upd tr_Z 50 0) (h10 := upd tr_Z 4 1) (h11 := upd tr_Z 1 1) (h12 := upd (upd tr_F 50 (-1)) 49 0) (h13 := upd tr_Z 50 0) (h14 := upd tr_Z 1 1) (h15 := upd tr_Z 1 1) (fun q hq => tr_ins_1 hq) (fun q hq => tr_let_11 hq) (fun q hq => tr_dlv_11 hq) (fun q hq => tr_ali_11 hq) (fun q hq => tr_kno_i ⟨by decide, by decide⟩ ⟨by decide, by decide⟩ (by decide +kernel) hq) (fun q hq => tr_del_11 hq)
theorem tr_y12 {mc ms kc ks : Nat} {x2 : Int32} : wL_lawOf_55 (fun r _ => r = 1) mc ms 1 0 x2 2 1 1 1 kc ks 0 tr_Z tr_Z tr_Z tr_Z tr_Z tr_Z tr_Z tr_Z tr_Z tr_Z tr_Z tr_F tr_Z tr_Z tr_Z := by
  exact tr_55 (f := 0) (f1 := tr_Z) (f2 := tr_Z) (f3 := tr_Z) (f4 := tr_Z) (f5 := tr_Z) (f6 := tr_Z) (f7 := tr_Z) (f8 := tr_Z) (f9 := tr_Z) (f10 := tr_Z) (f11 := tr_Z) (f12 := tr_F) (f13 := tr_Z) (f14 := tr_Z) (f15 := tr_Z) (g := 1) (g1 := upd tr_Z 0 1) (g2 := upd tr_Z 0 1) (g3 := upd tr_Z 0 1) (g4 := upd tr_Z 0 x2) (g5 := upd tr_Z 0 (-1)) (g6 := upd tr_Z 0 1) (g7 := tr_Z) (g8 := upd tr_Z 1 1) (g9 := upd tr_Z 50 0) (g10 := upd tr_Z 4 1) (g11 := upd tr_Z 1 1) (g12 := upd (upd tr_F 50 (-1)) 49 0) (g13 := upd tr_Z 50 0) (g14 := upd tr_Z 1 1) (g15 := upd tr_Z 1 1) (h := 1) (h1 := upd tr_Z 0 1) (h2 := upd tr_Z 0 1) (h3 := upd tr_Z 0 1) (h4 := upd tr_Z 0 x2) (h5 := upd tr_Z 0 (-1)) (h6 := upd tr_Z 0 1) (h7 := tr_Z) (h8 := upd tr_Z 1 1) (h9 := upd tr_Z 50 0) (h10 := upd (upd tr_Z 4 1) 7 1) (h11 := upd (upd tr_Z 1 1) 2 1) (h12 := upd (upd (upd (upd tr_F 50 (-1)) 49 0) 99 (-1)) 98 0) (h13 := upd (upd tr_Z 50 0) 99 0) (h14 := upd (upd tr_Z 1 1) 2 1) (h15 := upd (upd tr_Z 1 1) 2 1) (fun q hq => tr_ins_1 hq) (fun q hq => tr_let_12 hq) (fun q hq => tr_dlv_12 hq) (fun q hq => tr_ali_12 hq) (fun q hq => tr_kno_i ⟨by decide, by decide⟩ ⟨by decide, by decide⟩ (by decide +kernel) hq) (fun q hq => tr_del_12 hq)
theorem tr_y2 {mc ms kc ks : Nat} {x2 x3 : Int32} (ho : ¬ tr_I x3) : wL_lawOf_55 (fun r _ => r = 1) mc ms 2 0 x2 x3 1 0 1 kc ks 0 tr_Z tr_Z tr_Z tr_Z tr_Z tr_Z tr_Z tr_Z tr_Z tr_Z tr_Z tr_F tr_Z tr_Z tr_Z := by
  have hne : ¬ x3 = 2 := fun z => ho (by rw [z]; exact ⟨by decide, by decide⟩)
  exact tr_55 (f := 0) (f1 := tr_Z) (f2 := tr_Z) (f3 := tr_Z) (f4 := tr_Z) (f5 := tr_Z) (f6 := tr_Z) (f7 := tr_Z) (f8 := tr_Z) (f9 := tr_Z) (f10 := tr_Z) (f11 := tr_Z) (f12 := tr_F) (f13 := tr_Z) (f14 := tr_Z) (f15 := tr_Z) (g := 1) (g1 := upd tr_Z 0 1) (g2 := upd tr_Z 0 2) (g3 := upd tr_Z 0 1) (g4 := upd tr_Z 0 x2) (g5 := upd tr_Z 0 (-1)) (g6 := upd tr_Z 0 1) (g7 := tr_Z) (g8 := upd tr_Z 2 1) (g9 := upd tr_Z 99 0) (g10 := upd tr_Z 8 1) (g11 := upd tr_Z 2 1) (g12 := upd (upd tr_F 99 (-1)) 98 0) (g13 := upd tr_Z 99 0) (g14 := upd tr_Z 2 1) (g15 := upd tr_Z 2 1) (h := 1) (h1 := upd tr_Z 0 1) (h2 := upd tr_Z 0 2) (h3 := upd tr_Z 0 1) (h4 := upd tr_Z 0 x2) (h5 := upd tr_Z 0 (-1)) (h6 := upd tr_Z 0 1) (h7 := tr_Z) (h8 := upd tr_Z 2 1) (h9 := upd tr_Z 99 0) (h10 := upd tr_Z 8 1) (h11 := upd tr_Z 2 1) (h12 := upd (upd tr_F 99 (-1)) 98 0) (h13 := upd tr_Z 99 0) (h14 := upd tr_Z 2 1) (h15 := upd tr_Z 2 1) (fun q hq => tr_ins_2 hq) (fun q hq => tr_let_o ho (by rw [if_neg (by decide), if_neg hne] at hq; exact hq)) (fun q hq => tr_dlv_o (fun t => ho t.2) hq) (fun q hq => tr_ali_o (fun t => ho t.2) hq) (fun q hq => tr_kno_o (fun t => ho t.1) hq) (fun q hq => tr_del_o ho (hq _))
theorem tr_y20 {mc ms kc ks : Nat} {x2 : Int32} : wL_lawOf_55 (fun r _ => r = 1) mc ms 2 0 x2 0 1 1 1 kc ks 0 tr_Z tr_Z tr_Z tr_Z tr_Z tr_Z tr_Z tr_Z tr_Z tr_Z tr_Z tr_F tr_Z tr_Z tr_Z := by
  exact tr_55 (f := 0) (f1 := tr_Z) (f2 := tr_Z) (f3 := tr_Z) (f4 := tr_Z) (f5 := tr_Z) (f6 := tr_Z) (f7 := tr_Z) (f8 := tr_Z) (f9 := tr_Z) (f10 := tr_Z) (f11 := tr_Z) (f12 := tr_F) (f13 := tr_Z) (f14 := tr_Z) (f15 := tr_Z) (g := 1) (g1 := upd tr_Z 0 1) (g2 := upd tr_Z 0 2) (g3 := upd tr_Z 0 1) (g4 := upd tr_Z 0 x2) (g5 := upd tr_Z 0 (-1)) (g6 := upd tr_Z 0 1) (g7 := tr_Z) (g8 := upd tr_Z 2 1) (g9 := upd tr_Z 99 0) (g10 := upd tr_Z 8 1) (g11 := upd tr_Z 2 1) (g12 := upd (upd tr_F 99 (-1)) 98 0) (g13 := upd tr_Z 99 0) (g14 := upd tr_Z 2 1) (g15 := upd tr_Z 2 1) (h := 1) (h1 := upd tr_Z 0 1) (h2 := upd tr_Z 0 2) (h3 := upd tr_Z 0 1) (h4 := upd tr_Z 0 x2) (h5 := upd tr_Z 0 (-1)) (h6 := upd tr_Z 0 1) (h7 := tr_Z) (h8 := upd tr_Z 2 1) (h9 := upd tr_Z 99 0) (h10 := upd (upd tr_Z 8 1) 2 1) (h11 := upd (upd tr_Z 2 1) 0 1) (h12 := upd (upd (upd (upd tr_F 99 (-1)) 98 0) 1 (-1)) 0 0) (h13 := upd (upd tr_Z 99 0) 1 0) (h14 := upd (upd tr_Z 2 1) 0 1) (h15 := upd (upd tr_Z 2 1) 0 1) (fun q hq => tr_ins_2 hq) (fun q hq => tr_let_20 hq) (fun q hq => tr_dlv_20 hq) (fun q hq => tr_ali_20 hq) (fun q hq => tr_kno_i ⟨by decide, by decide⟩ ⟨by decide, by decide⟩ (by decide +kernel) hq) (fun q hq => tr_del_20 hq)
theorem tr_y21 {mc ms kc ks : Nat} {x2 : Int32} : wL_lawOf_55 (fun r _ => r = 1) mc ms 2 0 x2 1 1 1 1 kc ks 0 tr_Z tr_Z tr_Z tr_Z tr_Z tr_Z tr_Z tr_Z tr_Z tr_Z tr_Z tr_F tr_Z tr_Z tr_Z := by
  exact tr_55 (f := 0) (f1 := tr_Z) (f2 := tr_Z) (f3 := tr_Z) (f4 := tr_Z) (f5 := tr_Z) (f6 := tr_Z) (f7 := tr_Z) (f8 := tr_Z) (f9 := tr_Z) (f10 := tr_Z) (f11 := tr_Z) (f12 := tr_F) (f13 := tr_Z) (f14 := tr_Z) (f15 := tr_Z) (g := 1) (g1 := upd tr_Z 0 1) (g2 := upd tr_Z 0 2) (g3 := upd tr_Z 0 1) (g4 := upd tr_Z 0 x2) (g5 := upd tr_Z 0 (-1)) (g6 := upd tr_Z 0 1) (g7 := tr_Z) (g8 := upd tr_Z 2 1) (g9 := upd tr_Z 99 0) (g10 := upd tr_Z 8 1) (g11 := upd tr_Z 2 1) (g12 := upd (upd tr_F 99 (-1)) 98 0) (g13 := upd tr_Z 99 0) (g14 := upd tr_Z 2 1) (g15 := upd tr_Z 2 1) (h := 1) (h1 := upd tr_Z 0 1) (h2 := upd tr_Z 0 2) (h3 := upd tr_Z 0 1) (h4 := upd tr_Z 0 x2) (h5 := upd tr_Z 0 (-1)) (h6 := upd tr_Z 0 1) (h7 := tr_Z) (h8 := upd tr_Z 2 1) (h9 := upd tr_Z 99 0) (h10 := upd (upd tr_Z 8 1) 5 1) (h11 := upd (upd tr_Z 2 1) 1 1) (h12 := upd (upd (upd (upd tr_F 99 (-1)) 98 0) 50 (-1)) 49 0) (h13 := upd (upd tr_Z 99 0) 50 0) (h14 := upd (upd tr_Z 2 1) 1 1) (h15 := upd (upd tr_Z 2 1) 1 1) (fun q hq => tr_ins_2 hq) (fun q hq => tr_let_21 hq) (fun q hq => tr_dlv_21 hq) (fun q hq => tr_ali_21 hq) (fun q hq => tr_kno_i ⟨by decide, by decide⟩ ⟨by decide, by decide⟩ (by decide +kernel) hq) (fun q hq => tr_del_21 hq)
theorem tr_y22 {mc ms kc ks : Nat} {x2 : Int32} : wL_lawOf_55 (fun r _ => r = 1) mc ms 2 0 x2 2 1 1 1 kc ks 0 tr_Z tr_Z tr_Z tr_Z tr_Z tr_Z tr_Z tr_Z tr_Z tr_Z tr_Z tr_F tr_Z tr_Z tr_Z := by
  exact tr_55 (f := 0) (f1 := tr_Z) (f2 := tr_Z) (f3 := tr_Z) (f4 := tr_Z) (f5 := tr_Z) (f6 := tr_Z) (f7 := tr_Z) (f8 := tr_Z) (f9 := tr_Z) (f10 := tr_Z) (f11 := tr_Z) (f12 := tr_F) (f13 := tr_Z) (f14 := tr_Z) (f15 := tr_Z) (g := 1) (g1 := upd tr_Z 0 1) (g2 := upd tr_Z 0 2) (g3 := upd tr_Z 0 1) (g4 := upd tr_Z 0 x2) (g5 := upd tr_Z 0 (-1)) (g6 := upd tr_Z 0 1) (g7 := tr_Z) (g8 := upd tr_Z 2 1) (g9 := upd tr_Z 99 0) (g10 := upd tr_Z 8 1) (g11 := upd tr_Z 2 1) (g12 := upd (upd tr_F 99 (-1)) 98 0) (g13 := upd tr_Z 99 0) (g14 := upd tr_Z 2 1) (g15 := upd tr_Z 2 1) (h := 1) (h1 := upd tr_Z 0 1) (h2 := upd tr_Z 0 2) (h3 := upd tr_Z 0 1) (h4 := upd tr_Z 0 x2) (h5 := upd tr_Z 0 (-1)) (h6 := upd tr_Z 0 1) (h7 := tr_Z) (h8 := upd tr_Z 2 1) (h9 := upd tr_Z 99 0) (h10 := upd tr_Z 8 1) (h11 := upd tr_Z 2 1) (h12 := upd (upd tr_F 99 (-1)) 98 0) (h13 := upd tr_Z 99 0) (h14 := upd tr_Z 2 1) (h15 := upd tr_Z 2 1) (fun q hq => tr_ins_2 hq) (fun q hq => tr_let_22 hq) (fun q hq => tr_dlv_22 hq) (fun q hq => tr_ali_22 hq) (fun q hq => tr_kno_i ⟨by decide, by decide⟩ ⟨by decide, by decide⟩ (by decide +kernel) hq) (fun q hq => tr_del_22 hq)
end
section
theorem tr_39 {mc ms kc ks : Nat} {x0 x1 x2 x3 x5 : Int32} (h : (¬ tr_I x0 ∧ x5 = 0) ∨ (tr_I x0 ∧ x5 = 1)) : wL_lawOf_23 (fun r _ => r = 1) mc ms x0 x1 x2 x3 x5 kc ks 0 tr_Z tr_Z tr_Z tr_Z tr_Z tr_Z tr_Z tr_Z tr_Z tr_Z tr_Z tr_F tr_Z tr_Z tr_Z := by
  have main : ∀ x6 : Int32, (¬ tr_I x3 ∧ x6 = 0) ∨ (tr_I x3 ∧ x6 = 1) → wL_lawOf_39 (fun r _ => r = 1) mc ms x0 x1 x2 x3 x5 x6 kc ks 0 tr_Z tr_Z tr_Z tr_Z tr_Z tr_Z tr_Z tr_Z tr_Z tr_Z tr_Z tr_F tr_Z tr_Z tr_Z := by
    intro x6 k
    unfold wL_lawOf_39 wL_lawOf_54
    rcases h with ⟨hr, rfl⟩ | ⟨hr, rfl⟩ <;> rcases k with ⟨ho, rfl⟩ | ⟨ho, rfl⟩
    · exact br_t rfl (tr_n00 hr ho)
    · exact br_t rfl (tr_n01 hr ho)
    · refine br_f (by decide) (br_c (fun e => ?_) (fun e => tr_n10 hr e ho))
      rw [e]
      rcases tr_cases hr with rfl | rfl | rfl
      · exact tr_y0 ho
      · exact tr_y1 ho
      · exact tr_y2 ho
    · refine br_f (by decide) (br_c (fun e => ?_) (fun e => tr_n11 hr e ho))
      rw [e]
      rcases tr_cases hr with rfl | rfl | rfl <;> rcases tr_cases ho with rfl | rfl | rfl
      · exact tr_y00
      · exact tr_y01
      · exact tr_y02
      · exact tr_y10
      · exact tr_y11
      · exact tr_y12
      · exact tr_y20
      · exact tr_y21
      · exact tr_y22
  unfold wL_lawOf_23 wL_lawOf_38
  exact br_c (fun a => main 0 (Or.inl ⟨fun t => t.1 a, rfl⟩)) (fun a => br_c (fun b => main 0 (Or.inl ⟨fun t => t.2 b, rfl⟩)) (fun b => main 1 (Or.inr ⟨⟨a, b⟩, rfl⟩)))
theorem tr_lawOf  (x0 x1 x2 x3 : Int32) : wpL_lawOf (fun r _ => r = 1) 370 5920 () x0 x1 x2 x3 := by
  unfold wpL_lawOf
  refine ⟨by decide, by decide, 15, 798, by decide, by decide, tr_init ?_⟩
  dsimp only
  unfold wL_lawOf_22
  exact br_c (fun a => tr_39 (Or.inl ⟨fun t => t.1 a, rfl⟩)) (fun a => br_c (fun b => tr_39 (Or.inl ⟨fun t => t.2 b, rfl⟩)) (fun b => tr_39 (Or.inr ⟨⟨a, b⟩, rfl⟩)))
theorem i_vc (xs : Nat → Int32) (L : Nat) (hL : L ≤ 4) : wpL_law (fun r => r = 1) L xs := by
  unfold wpL_law
  exact tr_cell (k := 0) hL (by decide) (fun r1 => tr_cell (k := 1) hL (by decide) (fun r2 => tr_cell (k := 2) hL (by decide) (fun r3 => tr_cell (k := 3) hL (by decide) (fun r4 => ⟨370, 5920, by decide, by decide, tr_lawOf r1 r2 r3 r4⟩))))
end
