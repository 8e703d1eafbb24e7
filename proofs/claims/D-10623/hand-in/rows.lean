section
/-! the script's cells: any value will do -/
theorem ck_cell {post : Int32 → Prop} {L : Nat} {xs : Nat → Int32} (i : Nat) (hi : i < 6) (hL : L ≤ 6) (h : ∀ v, post v) : wpL_cellAt post L xs () (nI i) :=
  pk_le L i (fun _ => h _) (fun z => ⟨vp_in_nI z (by omega), h _⟩)
/-! what the methods answer -/
/-- put: p the place, v the value -/
def ck_P (p v r : Int32) : Prop := (p < 0 → r = -1000000) ∧ (¬ p < 0 → (127 < p → r = -1000000) ∧ (¬ 127 < p → (v < -20 → r = -1000000) ∧ (¬ v < -20 → (20 < v → r = -1000000) ∧ (¬ 20 < v → r = 0))))
/-- what the place holds behind put, over a cleared picture -/
def ck_A (p v r : Int32) : Prop := ¬ p < 0 → ¬ 127 < p → (v < -20 → r = 0) ∧ (¬ v < -20 → (20 < v → r = 0) ∧ (¬ 20 < v → r = v))
/-- pixel, behind put -/
def ck_X (p v r : Int32) : Prop := (p < 0 → r = -1000000) ∧ (¬ p < 0 → (127 < p → r = -1000000) ∧ (¬ 127 < p → (v < -20 → r = 0) ∧ (¬ v < -20 → (20 < v → r = 0) ∧ (¬ 20 < v → r = v))))
/-- kernel -/
def ck_K (k w r : Int32) : Prop := (k < 0 → r = -1000000) ∧ (¬ k < 0 → (17 < k → r = -1000000) ∧ (¬ 17 < k → (w < -9 → r = -1000000) ∧ (¬ w < -9 → (9 < w → r = -1000000) ∧ (¬ 9 < w → r = 0))))
/-- the width that is due -/
def ck_D (s m r : Int32) : Prop := (s = 1 → (m = 1 → r = 8) ∧ (¬ m = 1 → r = 6)) ∧ (¬ s = 1 → (m = 1 → r = 4) ∧ (¬ m = 1 → r = 3))
/-- shape -/
def ck_S (s m r : Int32) : Prop := (s < 1 → r = -1000000) ∧ (¬ s < 1 → (2 < s → r = -1000000) ∧ (¬ 2 < s → (m < 0 → r = -1000000) ∧ (¬ m < 0 → (1 < m → r = -1000000) ∧ (¬ 1 < m → ck_D s m r))))
/-- way -/
def ck_W (m r : Int32) : Prop := (m < 0 → r = -1000000) ∧ (¬ m < 0 → (3 < m → r = -1000000) ∧ (¬ 3 < m → r = 0))
theorem ck_nle {x y : Int32} (h : x ≤ y) : ¬ y < x := Int32.not_lt.mpr h
theorem ck_gt {x y : Int32} (h : ¬ x ≤ y) : y < x := Int32.not_le.mp h
theorem ck_le {x y : Int32} (h : ¬ y < x) : x ≤ y := Int32.not_lt.mp h
theorem ck_in {x M : Int32} {n N : Nat} (hM : M.toInt = n) (hn : n < N) (hN : N < 2 ^ 31) (h0 : ¬ x < 0) (h1 : x ≤ M) : vp_in x N := by
  obtain ⟨j, hj, rfl⟩ := nI_of2 hM h0 h1
  exact vp_in_nI (by omega) hN
/-! the class's methods -/
section
variable {s m c w : Int32} {a1 a2 a3 a4 a5 a6 a7 a8 a9 a10 a11 a12 a13 a14 : Nat → Int32}
theorem ck_pow8 {post : Int32 → Prop} {x2 : Int32} (h : ∀ r, post r) : ∀ (k j : Nat) (x3 x4 : Int32), j + k = 14 → wX_power_8 post x2 s m c w a1 a2 a3 a4 a5 a6 a7 a8 a9 a10 a11 a12 a13 a14 (k + 1) x3 x4 (nI j)
  | 0, j, x3, x4, e => by
    have e' : j = 14 := by omega
    subst e'
    exact br_t (by decide) (h x3)
  | k + 1, j, x3, x4, e => by
    have ih := fun y3 y4 => ck_pow8 (x2 := x2) h k (j + 1) y3 y4 (by omega)
    exact br_f (nI_ge (b := 14) (by omega) (by decide)) (br_c (fun _ => ⟨by decide, nm_e ⟨by decide, nm_e (nm_r (nI_1 j) (ih _ _))⟩⟩) (fun _ => ⟨by decide, nm_e (nm_r (nI_1 j) (ih _ _))⟩))
theorem ck_power {post : Int32 → Prop} {p n : Int32} (h : ∀ r, post r) : wpX_power post (s, m, c, w, a1, a2, a3, a4, a5, a6, a7, a8, a9, a10, a11, a12, a13, a14) p n :=
  ⟨15, ck_pow8 h 14 0 1 p (by omega)⟩
theorem ck_i166 {post : St2 → Prop} {mc ms kc ks : Nat} {x1 x2 : Int32} (h : ∀ p q, post (s, m, c, w, a1, a2, a3, a4, a5, a6, a7, a8, a9, a10, a11, p, q, a14)) : ∀ (k j : Nat) (p q : Nat → Int32), j + 1 + k = 16 → wX_init_166 post mc ms x1 x2 kc ks s m c w (k + 1) (nI (j + 1)) a1 a2 a3 a4 a5 a6 a7 a8 a9 a10 a11 p q a14
  | 0, j, p, q, e => by
    have e' : j = 15 := by omega
    subst e'
    exact br_t (by decide) (h p q)
  | k + 1, j, p, q, e => by
    have ih := fun p' q' => ck_i166 (mc := mc) (ms := ms) (kc := kc) (ks := ks) (x1 := x1) (x2 := x2) h k (j + 1) p' q' (by omega)
    have i1 : vp_in (nI (j + 1)) 16 := vp_in_nI (by omega) (by decide)
    have i0 : vp_in (nI (j + 1) - 1) 16 := by
      rw [nI_pred]
      exact vp_in_nI (by omega) (by decide)
    exact br_f (nI_ge (b := 16) (by omega) (by decide)) ⟨i0, by decide, i1, nm_e ⟨i0, by decide, i1, nm_e (nm_r (nI_1 (j + 1)) (ih _ _))⟩⟩
theorem ck_init {post : St2 → Prop} (h : ∀ p q, post (1, 1, c, w, (fun _ => 0), (fun _ => 0), (fun _ => 0), (fun _ => 0), (fun _ => 0), (fun _ => 0), (fun _ => 0), (fun _ => 0), (fun _ => 0), (fun _ => 0), (fun _ => 0), p, q, (fun _ => 0))) : wpX_init post 14 2242 (s, m, c, w) :=
  ⟨by decide, by decide, by decide, by decide, by decide, by decide, by decide, by decide, by decide, by decide, by decide, by decide, by decide, by decide, by decide, by decide, by decide, by decide, by decide, by decide, by decide, by decide, by decide, by decide, by decide, by decide, by decide, by decide, ck_power (fun _ => ck_power (fun _ => nm_e (nm_e ⟨16, ck_i166 h 15 0 _ _ (by omega)⟩)))⟩
theorem ck_put {post : Int32 → St2 → Prop} {p v : Int32} (h : ∀ r a, ck_P p v r → ck_A p v (a p.toNatClampNeg) → post r (s, m, c, w, a, a2, a3, a4, a5, a6, a7, a8, a9, a10, a11, a12, a13, a14)) : wpX_put post (s, m, c, w, (fun _ => 0), a2, a3, a4, a5, a6, a7, a8, a9, a10, a11, a12, a13, a14) p v := by
  refine br_c (fun g1 => ?_) (fun g1 => br_c (fun g2 => ?_) (fun g2 => br_c (fun g3 => ?_) (fun g3 => br_c (fun g4 => ?_) (fun g4 => ?_))))
  · exact h _ _ (br_t g1 rfl) (fun n1 _ => absurd g1 n1)
  · exact h _ _ (br_f g1 (br_t g2 rfl)) (fun _ n2 => absurd g2 n2)
  · exact h _ _ (br_f g1 (br_f g2 (br_t g3 rfl))) (fun _ _ => br_t g3 rfl)
  · have hi : vp_in p 128 := ck_in (M := 127) (n := 127) rfl (by decide) (by decide) g1 (ck_le g2)
    exact ⟨hi, nm_e ⟨hi, nm_e (h _ _ (br_f g1 (br_f g2 (br_f g3 (br_f (ck_nle g4) rfl)))) (fun _ _ => br_f g3 (br_f (ck_nle g4) pk_us)))⟩⟩
  · exact h _ _ (br_f g1 (br_f g2 (br_f g3 (br_t (ck_gt g4) rfl)))) (fun _ _ => br_f g3 (br_t (ck_gt g4) rfl))
theorem ck_pixel {post : Int32 → Prop} {p v : Int32} (ha : ck_A p v (a1 p.toNatClampNeg)) (h : ∀ r, ck_X p v r → post r) : wpX_pixel post (s, m, c, w, a1, a2, a3, a4, a5, a6, a7, a8, a9, a10, a11, a12, a13, a14) p := by
  refine br_c (fun g1 => ?_) (fun g1 => br_c (fun g2 => ?_) (fun g2 => ?_))
  · exact h _ (br_t g1 rfl)
  · exact ⟨ck_in (M := 127) (n := 127) rfl (by decide) (by decide) g1 g2, h _ (br_f g1 (br_f (ck_nle g2) (ha g1 (ck_nle g2))))⟩
  · exact h _ (br_f g1 (br_t (ck_gt g2) rfl))
theorem ck_kernel {post : Int32 → St2 → Prop} {p v : Int32} (h : ∀ r a, ck_K p v r → post r (s, m, c, w, a1, a, a3, a4, a5, a6, a7, a8, a9, a10, a11, a12, a13, a14)) : wpX_kernel post (s, m, c, w, a1, (fun _ => 0), a3, a4, a5, a6, a7, a8, a9, a10, a11, a12, a13, a14) p v := by
  refine br_c (fun g1 => ?_) (fun g1 => br_c (fun g2 => ?_) (fun g2 => br_c (fun g3 => ?_) (fun g3 => br_c (fun g4 => ?_) (fun g4 => ?_))))
  · exact h _ _ (br_t g1 rfl)
  · exact h _ _ (br_f g1 (br_t g2 rfl))
  · exact h _ _ (br_f g1 (br_f g2 (br_t g3 rfl)))
  · have hi : vp_in p 18 := ck_in (M := 17) (n := 17) rfl (by decide) (by decide) g1 (ck_le g2)
    exact ⟨hi, nm_e ⟨hi, nm_e (h _ _ (br_f g1 (br_f g2 (br_f g3 (br_f (ck_nle g4) rfl)))))⟩⟩
  · exact h _ _ (br_f g1 (br_f g2 (br_f g3 (br_t (ck_gt g4) rfl))))
theorem ck_01 {x : Int32} (h0 : ¬ x < 0) (h1 : x ≤ 1) : x = 0 ∨ x = 1 := by
  obtain ⟨j, hj, rfl⟩ := nI_of2 (M := 1) (n := 1) rfl h0 h1
  have hj' : j = 0 ∨ j = 1 := by omega
  rcases hj' with rfl | rfl
  · exact Or.inl rfl
  · exact Or.inr rfl
theorem ck_width {post : Int32 → Prop} (h0 : ¬ m < 0) (h1 : m ≤ 1) (h : ∀ r, ck_D s m r → post r) : wpX_widthNow post (s, m, c, w, a1, a2, a3, a4, a5, a6, a7, a8, a9, a10, a11, a12, a13, a14) := by
  rcases ck_01 h0 h1 with rfl | rfl
  · exact nm_e (br_c (fun g => h _ (br_t g (br_f (by decide) (by decide)))) (fun g => h _ (br_f g (br_f (by decide) (by decide)))))
  · exact nm_e (br_c (fun g => h _ (br_t g (br_t (by decide) (by decide)))) (fun g => h _ (br_f g (br_t (by decide) (by decide)))))
theorem ck_shape {post : Int32 → St2 → Prop} {p v : Int32} (h : ∀ r s' m', ck_S p v r → post r (s', m', c, w, a1, a2, a3, a4, a5, a6, a7, a8, a9, a10, a11, a12, a13, a14)) : wpX_shape post (s, m, c, w, a1, a2, a3, a4, a5, a6, a7, a8, a9, a10, a11, a12, a13, a14) p v := by
  refine br_c (fun g1 => ?_) (fun g1 => br_c (fun g2 => ?_) (fun g2 => br_c (fun g3 => ?_) (fun g3 => br_c (fun g4 => ?_) (fun g4 => ?_))))
  · exact h _ _ _ (br_t g1 rfl)
  · exact h _ _ _ (br_f g1 (br_t g2 rfl))
  · exact h _ _ _ (br_f g1 (br_f g2 (br_t g3 rfl)))
  · exact ck_width g3 g4 (fun r hr => h r p v (br_f g1 (br_f g2 (br_f g3 (br_f (ck_nle g4) hr)))))
  · exact h _ _ _ (br_f g1 (br_f g2 (br_f g3 (br_t (ck_gt g4) rfl))))
theorem ck_way {post : Int32 → St2 → Prop} {p : Int32} (h : ∀ r c', ck_W p r → post r (s, m, c', w, a1, a2, a3, a4, a5, a6, a7, a8, a9, a10, a11, a12, a13, a14)) : wpX_way post (s, m, c, w, a1, a2, a3, a4, a5, a6, a7, a8, a9, a10, a11, a12, a13, a14) p := by
  refine br_c (fun g1 => ?_) (fun g1 => br_c (fun g2 => ?_) (fun g2 => ?_))
  · exact h _ _ (br_t g1 rfl)
  · exact h _ _ (br_f g1 (br_f (ck_nle g2) rfl))
  · exact h _ _ (br_f g1 (br_t (ck_gt g2) rfl))
/-- nothing was moved yet: wide is 0, no place is looked at -/
theorem ck_peak {post : Int32 → Prop} (h : post (-1)) : wpX_peak post (s, m, c, 0, a1, a2, a3, a4, a5, a6, a7, a8, a9, a10, a11, a12, a13, a14) :=
  ⟨1, br_t (by decide) h⟩
end
end
section
/-! the law behind the calls: each check holds -/
section
variable {post : Int32 → St0 → Prop} {mc ms kc ks : Nat} {x1 x2 x3 x4 x5 x7 x8 x9 x10 x11 x12 x13 x14 x15 x16 z0 z1 : Int32}
theorem ck_278 (hp : post 1 ()) (h12 : x12 = -1) (hz : z1 = z0) : wL_lawOf_278 post mc ms x12 z0 z1 kc ks :=
  br_t hz (br_t h12 hp)
theorem ck_256 (hp : post 1 ()) (h12 : x12 = -1) (h11 : ck_W x5 x11) (hz : z1 = z0) : wL_lawOf_256 post mc ms x5 x11 x12 z0 z1 kc ks :=
  br_t hz (br_c (fun a => ck_278 hp h12 (h11.1 a)) (fun a => br_c (fun b => ck_278 hp h12 ((h11.2 a).1 b)) (fun b => ck_278 hp h12 ((h11.2 a).2 b))))
theorem ck_239 (hp : post 1 ()) (h12 : x12 = -1) (h11 : ck_W x5 x11) (h10 : (x15 = 0 → x10 = -1000000) ∧ (¬ x15 = 0 → x10 = x16)) (hz : z1 = z0) : wL_lawOf_239 post mc ms x5 x10 x11 x12 x15 x16 z0 z1 kc ks :=
  br_t hz (br_c (fun a => ck_256 hp h12 h11 (h10.1 a)) (fun a => ck_256 hp h12 h11 (h10.2 a)))
theorem ck_206 (hp : post 1 ()) (h12 : x12 = -1) (h11 : ck_W x5 x11) (h10 : (x15 = 0 → x10 = -1000000) ∧ (¬ x15 = 0 → x10 = x16)) (h9 : ck_K x2 x3 x9) (hz : z1 = z0) : wL_lawOf_206 post mc ms x2 x3 x5 x9 x10 x11 x12 x15 x16 z0 z1 kc ks :=
  br_t hz (br_c (fun a => ck_239 hp h12 h11 h10 (h9.1 a)) (fun a => br_c (fun b => ck_239 hp h12 h11 h10 ((h9.2 a).1 b)) (fun b => br_c (fun c => ck_239 hp h12 h11 h10 (((h9.2 a).2 b).1 c)) (fun c => br_c (fun d => ck_239 hp h12 h11 h10 ((((h9.2 a).2 b).2 c).1 d)) (fun d => ck_239 hp h12 h11 h10 ((((h9.2 a).2 b).2 c).2 d))))))
theorem ck_181 (hp : post 1 ()) (h12 : x12 = -1) (h11 : ck_W x5 x11) (h10 : (x15 = 0 → x10 = -1000000) ∧ (¬ x15 = 0 → x10 = x16)) (h9 : ck_K x2 x3 x9) (h8 : (x13 = 0 → x8 = -1000000) ∧ (¬ x13 = 0 → (x14 = 0 → x8 = 0) ∧ (¬ x14 = 0 → x8 = x1))) (hz : z1 = z0) : wL_lawOf_181 post mc ms x1 x2 x3 x5 x8 x9 x10 x11 x12 x13 x14 x15 x16 z0 z1 kc ks :=
  br_t hz (br_c (fun a => ck_206 hp h12 h11 h10 h9 (h8.1 a)) (fun a => br_c (fun b => ck_206 hp h12 h11 h10 h9 ((h8.2 a).1 b)) (fun b => ck_206 hp h12 h11 h10 h9 ((h8.2 a).2 b))))
theorem ck_166 (hp : post 1 ()) (h12 : x12 = -1) (h11 : ck_W x5 x11) (h10 : (x15 = 0 → x10 = -1000000) ∧ (¬ x15 = 0 → x10 = z0)) (h9 : ck_K x2 x3 x9) (h8 : (x13 = 0 → x8 = -1000000) ∧ (¬ x13 = 0 → (x14 = 0 → x8 = 0) ∧ (¬ x14 = 0 → x8 = x1))) (h7 : (x14 = 0 → x7 = -1000000) ∧ (¬ x14 = 0 → x7 = 0)) : wL_lawOf_166 post mc ms x1 x2 x3 x5 x7 x8 x9 x10 x11 x12 x13 x14 x15 z0 kc ks :=
  br_c (fun a => ck_181 hp h12 h11 h10 h9 h8 (h7.1 a)) (fun a => ck_181 hp h12 h11 h10 h9 h8 (h7.2 a))
theorem ck_131 (hp : post 1 ()) (h12 : x12 = -1) (h11 : ck_W x5 x11) (h10 : (z0 = 0 → x10 = -1000000) ∧ (¬ z0 = 0 → ck_D x4 x5 x10)) (h9 : ck_K x2 x3 x9) (h8 : (x13 = 0 → x8 = -1000000) ∧ (¬ x13 = 0 → (x14 = 0 → x8 = 0) ∧ (¬ x14 = 0 → x8 = x1))) (h7 : (x14 = 0 → x7 = -1000000) ∧ (¬ x14 = 0 → x7 = 0)) : wL_lawOf_131 post mc ms x1 x2 x3 x4 x5 x7 x8 x9 x10 x11 x12 x13 x14 z0 kc ks :=
  br_c (fun a => br_c (fun b => ck_166 hp h12 h11 ⟨h10.1, fun n => ((h10.2 n).1 a).1 b⟩ h9 h8 h7) (fun b => ck_166 hp h12 h11 ⟨h10.1, fun n => ((h10.2 n).1 a).2 b⟩ h9 h8 h7)) (fun a => br_c (fun b => ck_166 hp h12 h11 ⟨h10.1, fun n => ((h10.2 n).2 a).1 b⟩ h9 h8 h7) (fun b => ck_166 hp h12 h11 ⟨h10.1, fun n => ((h10.2 n).2 a).2 b⟩ h9 h8 h7))
theorem ck_101 (hp : post 1 ()) (h12 : x12 = -1) (h11 : ck_W x5 x11) (h10 : ck_S x4 x5 x10) (h9 : ck_K x2 x3 x9) (h8 : (x13 = 0 → x8 = -1000000) ∧ (¬ x13 = 0 → (z0 = 0 → x8 = 0) ∧ (¬ z0 = 0 → x8 = x1))) (h7 : (z0 = 0 → x7 = -1000000) ∧ (¬ z0 = 0 → x7 = 0)) : wL_lawOf_101 post mc ms x1 x2 x3 x4 x5 x7 x8 x9 x10 x11 x12 x13 z0 kc ks :=
  have no : x10 = -1000000 → wL_lawOf_130 post mc ms x1 x2 x3 x4 x5 x7 x8 x9 x10 x11 x12 x13 z0 kc ks := fun e => ck_131 hp h12 h11 (br_t rfl e) h9 h8 h7
  br_c (fun a => no (h10.1 a)) (fun a => br_c (fun b => no ((h10.2 a).1 b)) (fun b => br_c (fun c => no (((h10.2 a).2 b).1 c)) (fun c => br_c (fun d => no ((((h10.2 a).2 b).2 c).1 d)) (fun d => ck_131 hp h12 h11 (br_f (by decide) ((((h10.2 a).2 b).2 c).2 d)) h9 h8 h7))))
/-- the place is outside -/
theorem ck_77n (hp : post 1 ()) (h12 : x12 = -1) (h11 : ck_W x5 x11) (h10 : ck_S x4 x5 x10) (h9 : ck_K x2 x3 x9) (h8 : x8 = -1000000) (h7 : x7 = -1000000) : wL_lawOf_77 post mc ms x1 x2 x3 x4 x5 x7 x8 x9 x10 x11 x12 0 kc ks :=
  br_t rfl (ck_101 hp h12 h11 h10 h9 (br_t rfl h8) (br_t rfl h7))
/-- the place is inside -/
theorem ck_77y (hp : post 1 ()) (h12 : x12 = -1) (h11 : ck_W x5 x11) (h10 : ck_S x4 x5 x10) (h9 : ck_K x2 x3 x9) (h8 : (x1 < -20 → x8 = 0) ∧ (¬ x1 < -20 → (20 < x1 → x8 = 0) ∧ (¬ 20 < x1 → x8 = x1))) (h7 : (x1 < -20 → x7 = -1000000) ∧ (¬ x1 < -20 → (20 < x1 → x7 = -1000000) ∧ (¬ 20 < x1 → x7 = 0))) : wL_lawOf_77 post mc ms x1 x2 x3 x4 x5 x7 x8 x9 x10 x11 x12 1 kc ks :=
  br_f (by decide) (br_c (fun a => ck_101 hp h12 h11 h10 h9 (br_f (by decide) (br_t rfl (h8.1 a))) (br_t rfl (h7.1 a))) (fun a => br_c (fun b => ck_101 hp h12 h11 h10 h9 (br_f (by decide) (br_t rfl ((h8.2 a).1 b))) (br_t rfl ((h7.2 a).1 b))) (fun b => ck_101 hp h12 h11 h10 h9 (br_f (by decide) (br_f (by decide) ((h8.2 a).2 b))) (br_f (by decide) ((h7.2 a).2 b)))))
end
end
section
theorem ck_lawOf {post : Int32 → St0 → Prop} {p v k w s m : Int32} (hp : post 1 ()) : wpL_lawOf post 15 2260 () p v k w s m := by
  refine ⟨by decide, by decide, 14, 2242, by decide, by decide, ck_init (fun _ _ => ck_put (fun r1 _ h1 ha => ck_pixel ha (fun r2 h2 => ck_kernel (fun r3 _ h3 => ck_shape (fun r4 _ _ h4 => ck_way (fun r5 _ h5 => ck_peak ?_))))))⟩
  exact br_c (fun a => ck_77n hp rfl h5 h4 h3 (h2.1 a) (h1.1 a)) (fun a => br_c (fun b => ck_77n hp rfl h5 h4 h3 ((h2.2 a).1 b) ((h1.2 a).1 b)) (fun b => ck_77y hp rfl h5 h4 h3 ((h2.2 a).2 b) ((h1.2 a).2 b)))
theorem i_vc (xs : Nat → Int32) (L : Nat) (hL : L ≤ 6) : wpL_law (fun r => r = 1) L xs :=
  ck_cell 0 (by decide) hL (fun _ => ck_cell 1 (by decide) hL (fun _ => ck_cell 2 (by decide) hL (fun _ => ck_cell 3 (by decide) hL (fun _ => ck_cell 4 (by decide) hL (fun _ => ck_cell 5 (by decide) hL (fun _ => ⟨15, 2260, by decide, by decide, ck_lawOf rfl⟩))))))
end
