section
/-- at most one number differs from 0 -/
def rb_sg (a : Nat → Int32) : Prop := ∀ i j, i ≠ j → a i = 0 ∨ a j = 0
/-- the sum of the unit j of the first layer -/
def rb_U (a : Nat → Int32) (x y : Int32) (j : Nat) : Int32 := a (2 * j) * x + a (2 * j + 1) * y + a (6 + j)
theorem rb_sg0 : rb_sg (fun _ => 0) := fun _ _ _ => Or.inl rfl
theorem rb_sgU (k : Nat) (x : Int32) : rb_sg (upd (fun _ => 0) k x) := by
  intro i j h
  by_cases e : i = k
  · exact Or.inr (pk_un (by omega))
  · exact Or.inl (pk_un e)
theorem rb_mul0 {a : Nat → Int32} (h : rb_sg a) {i j : Nat} (n : i ≠ j) : a i * a j = 0 := by
  rcases h i j n with e | e
  · rw [e, Int32.zero_mul]
  · rw [e, Int32.mul_zero]
/-- a number of the second layer is not 0: then the unit that it weighs is 0 -/
theorem rb_Uz {a : Nat → Int32} (h : rb_sg a) {k j : Nat} (hj : j < 3) (n : ¬ a (9 + 3 * k + j) = 0) : a (2 * j) = 0 ∧ a (2 * j + 1) = 0 ∧ a (6 + j) = 0 := by
  refine ⟨?_, ?_, ?_⟩
  · exact (h (9 + 3 * k + j) (2 * j) (by omega)).resolve_left n
  · exact (h (9 + 3 * k + j) (2 * j + 1) (by omega)).resolve_left n
  · exact (h (9 + 3 * k + j) (6 + j) (by omega)).resolve_left n
theorem rb_mulU {a : Nat → Int32} (h : rb_sg a) (x y : Int32) (k : Nat) {j : Nat} (hj : j < 3) : a (9 + 3 * k + j) * rb_U a x y j = 0 := by
  by_cases n : a (9 + 3 * k + j) = 0
  · rw [n, Int32.zero_mul]
  · obtain ⟨e1, e2, e3⟩ := rb_Uz h hj n
    unfold rb_U
    rw [e1, e2, e3, Int32.zero_mul, Int32.zero_mul, Int32.add_zero, Int32.add_zero, Int32.mul_zero]
theorem rb_fill {f s : Nat → Int32} {i : Nat} {x : Int32} (h : ∀ j, j < i → s j = f j) (hx : x = f i) : ∀ j, j < i + 1 → upd s i x j = f j := by
  intro j hj
  by_cases e : j = i
  · rw [e, pk_us, hx]
  · rw [pk_un e]
    exact h j (by omega)
theorem rb_i9 (k i : Nat) : ((9 : Int32) + (3 * nI k)) + nI i = nI (9 + 3 * k + i) := by
  rw [show (3 : Int32) * nI k = nI (3 * k) from pk_mul 3 k, show (9 : Int32) + nI (3 * k) = nI (9 + 3 * k) from nI_add 9 (3 * k), nI_add]
theorem rb_i9' (k i : Nat) : ((9 : Int32) + (3 * (nI (3 + k) - 3))) + nI i = nI (9 + 3 * k + i) := by
  rw [show nI (3 + k) - (3 : Int32) = nI k from (pk_sub (a := 3 + k) (b := 3) (by omega)).trans (congrArg nI (by omega)), rb_i9]
theorem rb_i2 (i : Nat) : ((2 : Int32) * nI i) + 1 = nI (2 * i + 1) := by
  rw [show (2 : Int32) * nI i = nI (2 * i) from pk_mul 2 i, nI_1]
theorem rb_16 {p : Int32} : (16 : Int32) ≤ p ↔ (15 : Int32) < p := by
  rw [Int32.le_iff_toInt_le, Int32.lt_iff_toInt_lt, show (16 : Int32).toInt = 16 by decide, show (15 : Int32).toInt = 15 by decide]
  omega
theorem rb_6 {p : Int32} : p < (6 : Int32) ↔ p ≤ (5 : Int32) := by
  rw [Int32.le_iff_toInt_le, Int32.lt_iff_toInt_lt, show (6 : Int32).toInt = 6 by decide, show (5 : Int32).toInt = 5 by decide]
  omega
theorem rb_8 {p : Int32} : p ≤ (8 : Int32) ↔ p < (9 : Int32) := by
  rw [Int32.le_iff_toInt_le, Int32.lt_iff_toInt_lt, show (8 : Int32).toInt = 8 by decide, show (9 : Int32).toInt = 9 by decide]
  omega
/-- a good input -/
def rb_inp (p : Int32) : Prop := ¬ p < (-16) ∧ ¬ (15 : Int32) < p
/-- a good interval -/
def rb_iv (p : Int32) : Prop := ¬ p < 0 ∧ ¬ (1023 : Int32) < p ∧ ¬ (p &&& 31) < (p >>> ((5 : Int32) &&& 31))
theorem rb_iv_of {p : Int32} (h : rb_iv p) : ∃ j k : Nat, j ≤ k ∧ k < 32 ∧ p >>> ((5 : Int32) &&& 31) = nI j ∧ p &&& 31 = nI k := by
  obtain ⟨h0, h1, h2⟩ := h
  obtain ⟨q, hq, rfl⟩ := nI_of2 (M := 1023) (n := 1023) (by decide) h0 (Int32.not_lt.mp h1)
  have e1 : nI q >>> ((5 : Int32) &&& 31) = nI (q / 2 ^ 5) := pk_shrN (by omega) _ 5 (by decide)
  have e2 : nI q &&& 31 = nI (q % 2 ^ 5) := pk_andN (by omega) 5 (by decide)
  rw [e1, e2] at h2
  refine ⟨q / 2 ^ 5, q % 2 ^ 5, ?_, by omega, e1, e2⟩
  rcases Nat.lt_or_ge (q % 2 ^ 5) (q / 2 ^ 5) with z | z
  · exact absurd (nI_lt z (by omega)) h2
  · exact z
theorem rb_put {a s : Nat → Int32} {i : Nat} (h : ∀ j, j < i → s (3 + j) = a (15 + j)) : ∀ j, j < i + 1 → upd s (3 + i) (a (15 + i)) (3 + j) = a (15 + j) := by
  intro j hj
  by_cases e : j = i
  · rw [e, pk_us]
  · rw [pk_un (by omega)]
    exact h j (by omega)
end
section
theorem rb_w153 {post : St2 → Prop} {w b : Int32} {a1 a2 a3 a4 a5 a6 a7 a8 a9 a10 a11 a12 : Nat → Int32} (h : ∀ i, i < 2 → a1 (17 + i) * a2 (3 + i) = 0) (v : Int32) (H : post (w, b, a1, upd a2 5 v, a3, a4, a5, a6, a7, a8, a9, a10, a11, a12)) : ∃ n, wX_work_153 post w b a1 a2 a3 a4 a5 a6 a7 a8 a9 a10 a11 a12 n v 0 :=
  pk_loop (σ := Unit) (fun n i _ => wX_work_153 post w b a1 a2 a3 a4 a5 a6 a7 a8 a9 a10 a11 a12 n v (nI i)) (fun _ _ => True) 2 0 () (by omega) trivial
    (fun n _ _ => pk_le 2 2 (fun _ => nm_e H) (fun z => absurd z (by omega)))
    (fun n i _ hi _ hw => pk_le 2 i (fun z => absurd z (by omega)) (fun _ => ⟨pk_in (3 + i) 6 (by omega) (nI_add 3 i), br_c
      (fun _ => nm_r (Int32.add_zero v) (nm_r (nI_1 i) (hw () trivial)))
      (fun _ => ⟨pk_in (17 + i) 20 (by omega) (nI_add 17 i), pk_in (3 + i) 6 (by omega) (nI_add 3 i),
        nm_r (e' := v) (by rw [show ((17 : Int32) + nI i).toNatClampNeg = 17 + i from pk_cl _ (nI_add 17 i), show ((3 : Int32) + nI i).toNatClampNeg = 3 + i from pk_cl _ (nI_add 3 i), h i hi, Int32.add_zero]) (nm_r (nI_1 i) (hw () trivial))⟩)⟩))
theorem rb_w73 {post : St2 → Prop} {J : Int32 → (Nat → Int32) → (Nat → Int32) → (Nat → Int32) → (Nat → Int32) → (Nat → Int32) → (Nat → Int32) → (Nat → Int32) → (Nat → Int32) → (Nat → Int32) → (Nat → Int32) → (Nat → Int32) → (Nat → Int32) → Prop} {w b : Int32} {a1 a2 a3 a4 a5 a6 a7 a8 a9 a10 a11 a12 : Nat → Int32} {k : Nat} (hk : k < 2) (h : ∀ i, i < 3 → a1 (9 + 3 * k + i) * a2 i = 0) (v : Int32) (H : J (nI (k + 1)) a1 (upd a2 (3 + k) v) a3 a4 a5 a6 a7 a8 a9 a10 a11 a12) : ∃ n, wX_work_73 post J (nI k) w b a1 a2 a3 a4 a5 a6 a7 a8 a9 a10 a11 a12 n v 0 :=
  pk_loop (σ := Unit) (fun n i _ => wX_work_73 post J (nI k) w b a1 a2 a3 a4 a5 a6 a7 a8 a9 a10 a11 a12 n v (nI i)) (fun _ _ => True) 3 0 () (by omega) trivial
    (fun n _ _ => pk_le 3 3 (fun _ => ⟨pk_in (3 + k) 6 (by omega) (nI_add 3 k), nm_r (congrArg (fun t => upd a2 t v) (pk_cl (3 + k) (nI_add 3 k))) (nm_r (nI_1 k) H)⟩) (fun z => absurd z (by omega)))
    (fun n i _ hi _ hw => pk_le 3 i (fun z => absurd z (by omega)) (fun _ => ⟨pk_in i 6 (by omega), br_c
      (fun _ => nm_r (Int32.add_zero v) (nm_r (nI_1 i) (hw () trivial)))
      (fun _ => ⟨pk_in (9 + 3 * k + i) 20 (by omega) (rb_i9 k i), pk_in i 6 (by omega),
        nm_r (e' := v) (by rw [rb_i9, nI_clamp (show 9 + 3 * k + i < 2 ^ 31 by omega), nI_clamp (show i < 2 ^ 31 by omega), h i hi, Int32.add_zero]) (nm_r (nI_1 i) (hw () trivial))⟩)⟩))
theorem rb_w54 {post : St2 → Prop} {w b : Int32} {a1 a2 a3 a4 a5 a6 a7 a8 a9 a10 a11 a12 : Nat → Int32} {x y : Int32} (hs : rb_sg a1) (hu : ∀ j, j < 3 → a2 j = rb_U a1 x y j) (H : ∀ s, s 0 = rb_U a1 x y 0 → s 5 = a1 19 → post (w, b, a1, s, a3, a4, a5, a6, a7, a8, a9, a10, a11, a12)) : ∃ n, wX_work_54 post w b n 0 a1 a2 a3 a4 a5 a6 a7 a8 a9 a10 a11 a12 :=
  pk_loop (fun n i s => wX_work_54 post w b n (nI i) a1 s a3 a4 a5 a6 a7 a8 a9 a10 a11 a12) (fun i s => (∀ j, j < 3 → s j = rb_U a1 x y j) ∧ ∀ j, j < i → s (3 + j) = a1 (15 + j)) 2 0 a2 (by omega) ⟨hu, fun j hj => absurd hj (by omega)⟩
    (fun n s h => pk_le 2 2 (fun _ => nm_e (rb_w153 (fun i hi => by rw [h.2 i hi]; exact rb_mul0 hs (by omega)) _ (H _ ((pk_un (by decide)).trans (h.1 0 (by omega))) pk_us))) (fun z => absurd z (by omega)))
    (fun n i s hi h hw => pk_le 2 i (fun z => absurd z (by omega)) (fun _ => ⟨pk_in (15 + i) 20 (by omega) (nI_add 15 i),
      nm_r (congrArg a1 (pk_cl (15 + i) (nI_add 15 i))) (rb_w73 hi (fun j hj => by rw [h.1 j hj]; exact rb_mulU hs x y i hj) _ (hw _
        ⟨fun j hj => (pk_un (by omega)).trans (h.1 j hj), rb_put h.2⟩))⟩))
theorem rb_w2 {post : St2 → Prop} {w b : Int32} {a1 a2 a3 a4 a5 a6 a7 a8 a9 a10 a11 a12 : Nat → Int32} {x y : Int32} (hs : rb_sg a1) (H : ∀ s, s 0 = rb_U a1 x y 0 → s 5 = a1 19 → post (w, b, a1, s, a3, a4, a5, a6, a7, a8, a9, a10, a11, a12)) : ∃ n, wX_work_2 post x y w b n 0 a1 a2 a3 a4 a5 a6 a7 a8 a9 a10 a11 a12 :=
  pk_loop (fun n i s => wX_work_2 post x y w b n (nI i) a1 s a3 a4 a5 a6 a7 a8 a9 a10 a11 a12) (fun i s => ∀ j, j < i → s j = rb_U a1 x y j) 3 0 a2 (by omega) (fun j hj => absurd hj (by omega))
    (fun n s h => pk_le 3 3 (fun _ => rb_w54 hs h H) (fun z => absurd z (by omega)))
    (fun n i s hi h hw => pk_le 3 i (fun z => absurd z (by omega)) (fun _ => ⟨pk_in (2 * i) 20 (by omega) (pk_mul 2 i), pk_in (2 * i + 1) 20 (by omega) (rb_i2 i), pk_in (6 + i) 20 (by omega) (nI_add 6 i), pk_in i 6 (by omega),
      nm_r (e' := upd s i (rb_U a1 x y i)) (by rw [rb_i2, show (2 : Int32) * nI i = nI (2 * i) from pk_mul 2 i, show (6 : Int32) + nI i = nI (6 + i) from nI_add 6 i, nI_clamp (show 2 * i < 2 ^ 31 by omega), nI_clamp (show 2 * i + 1 < 2 ^ 31 by omega), nI_clamp (show 6 + i < 2 ^ 31 by omega), nI_clamp (show i < 2 ^ 31 by omega)]; rfl)
        (nm_r (nI_1 i) (hw _ (rb_fill h rfl)))⟩))
theorem rb_work {post : St2 → Prop} {w b : Int32} {a1 a2 a3 a4 a5 a6 a7 a8 a9 a10 a11 a12 : Nat → Int32} {x y : Int32} (hs : rb_sg a1) (H : ∀ s, s 0 = rb_U a1 x y 0 → s 5 = a1 19 → post (w, b, a1, s, a3, a4, a5, a6, a7, a8, a9, a10, a11, a12)) : wpX_work post (w, b, a1, a2, a3, a4, a5, a6, a7, a8, a9, a10, a11, a12) x y :=
  rb_w2 hs H
theorem rb_input {post : Int32 → Prop} {p : Int32} (h1 : rb_inp p → post 1) (h0 : ¬ rb_inp p → post 0) : wpX_isInput post () p :=
  br_c (fun a => h0 (fun t => t.1 a)) (fun a => br_c (fun c => h0 (fun t => t.2 (rb_16.mp c))) (fun c => h1 ⟨a, fun t => c (rb_16.mpr t)⟩))
theorem rb_unit {post : Int32 → St2 → Prop} {w b : Int32} {a1 a2 a3 a4 a5 a6 a7 a8 a9 a10 a11 a12 : Nat → Int32} {x y : Int32} (hs : rb_sg a1)
    (H1 : rb_inp x ∧ rb_inp y → ∀ s, (rb_U a1 x y 0 ≤ 0 → post 0 (w, b, a1, s, a3, a4, a5, a6, a7, a8, a9, a10, a11, a12)) ∧ (¬ rb_U a1 x y 0 ≤ 0 → post (rb_U a1 x y 0) (w, b, a1, s, a3, a4, a5, a6, a7, a8, a9, a10, a11, a12)))
    (H0 : ¬ (rb_inp x ∧ rb_inp y) → post (-2) (w, b, a1, a2, a3, a4, a5, a6, a7, a8, a9, a10, a11, a12)) : wpX_unit post (w, b, a1, a2, a3, a4, a5, a6, a7, a8, a9, a10, a11, a12) 0 x y := by
  unfold wpX_unit
  refine br_f (by decide) (br_t (by decide) (rb_input (fun hx => br_f (by decide) (rb_input (fun hy => br_f (by decide) (rb_work hs (fun s e _ => ?_))) (fun hy => br_t rfl (H0 (fun t => hy t.2))))) (fun hx => br_t rfl (H0 (fun t => hx t.1)))))
  have h := H1 ⟨hx, hy⟩ s
  rw [← e] at h
  exact ⟨pk_in 0 6 (by omega), h.1, fun n => ⟨pk_in 0 6 (by omega), h.2 n⟩⟩
theorem rb_result {post : Int32 → St2 → Prop} {w b : Int32} {a1 a2 a3 a4 a5 a6 a7 a8 a9 a10 a11 a12 : Nat → Int32} {x y : Int32} (hs : rb_sg a1)
    (H1 : rb_inp x ∧ rb_inp y → ∀ s, post (a1 19) (w, b, a1, s, a3, a4, a5, a6, a7, a8, a9, a10, a11, a12))
    (H0 : ¬ (rb_inp x ∧ rb_inp y) → post (-1000000) (w, b, a1, a2, a3, a4, a5, a6, a7, a8, a9, a10, a11, a12)) : wpX_result post (w, b, a1, a2, a3, a4, a5, a6, a7, a8, a9, a10, a11, a12) x y := by
  unfold wpX_result
  refine rb_input (fun hx => br_f (by decide) (rb_input (fun hy => br_f (by decide) (rb_work hs (fun s _ e => ?_))) (fun hy => br_t rfl (H0 (fun t => hy t.2))))) (fun hx => br_t rfl (H0 (fun t => hx t.1)))
  have h := H1 ⟨hx, hy⟩ s
  rw [← e] at h
  exact h
end
section
theorem rb_e91 {post : St2 → Prop} {w b : Int32} {a1 a2 a3 a4 a5 a6 a7 a8 a9 a10 a11 a12 : Nat → Int32} {x4 x5 x7 z0 z1 : Int32} {k : Nat} (hk : k < 6) (H : ∀ M, (x7 = 0 → z0 = 0 → M = z1) → post (w, b, a1, a2, a3, upd a4 k M, a5, a6, a7, a8, a9, a10, a11, a12)) : wX_exact_91 post x4 x5 x7 z0 z1 (nI k) w b a1 a2 a3 a4 a5 a6 a7 a8 a9 a10 a11 a12 := by
  have q : ∀ x : Int32, x7 = 0 → z0 = 0 → (z1 + z0) + (x7 * x) = z1 := by
    intro x e1 e2
    rw [e1, e2, Int32.zero_mul, Int32.add_zero, Int32.add_zero]
  unfold wX_exact_91
  rw [nI_clamp (show k < 2 ^ 31 by omega)]
  exact br_c (fun _ => ⟨pk_in k 6 hk, nm_e (H _ (q x4))⟩) (fun _ => ⟨pk_in k 6 hk, nm_e (H _ (q x5))⟩)
theorem rb_e62 {post : St2 → Prop} {w b : Int32} {a1 a2 a3 a4 a5 a6 a7 a8 a9 a10 a11 a12 : Nat → Int32} {x2 x3 x4 x5 x6 x7 z0 z1 : Int32} {k : Nat} (hk : k < 6) (H : ∀ L M, (x6 = 0 → x7 = 0 → M = a7 k) → post (w, b, a1, a2, upd a3 k L, upd a4 k M, a5, a6, a7, a8, a9, a10, a11, a12)) : wX_exact_62 post (nI k) x2 x3 x4 x5 x6 x7 z0 z1 (nI k) w b a1 a2 a3 a4 a5 a6 a7 a8 a9 a10 a11 a12 := by
  have q : ∀ x : Int32, x6 = 0 → x6 * x = 0 := by
    intro x e1
    rw [e1, Int32.zero_mul]
  unfold wX_exact_62
  rw [nI_clamp (show k < 2 ^ 31 by omega)]
  exact ⟨pk_in k 6 hk, nm_e ⟨pk_in k 6 hk, br_c (fun _ => rb_e91 hk (fun M hM => H _ M (fun e6 e7 => hM e7 (q _ e6)))) (fun _ => rb_e91 hk (fun M hM => H _ M (fun e6 e7 => hM e7 (q _ e6))))⟩⟩
theorem rb_e43 {post : St2 → Prop} {w b : Int32} {a1 a2 a3 a4 a5 a6 a7 a8 a9 a10 a11 a12 : Nat → Int32} {x2 x3 x4 x5 x6 x7 z0 z1 : Int32} {k : Nat} (hk : k < 6) (H : ∀ L M, (x6 = 0 → x7 = 0 → M = a7 k) → post (w, b, a1, a2, upd a3 k L, upd a4 k M, a5, a6, a7, a8, a9, a10, a11, a12)) : wX_exact_43 post (nI k) x2 x3 x4 x5 x6 x7 z0 z1 (nI k) w b a1 a2 a3 a4 a5 a6 a7 a8 a9 a10 a11 a12 :=
  br_c (fun _ => rb_e62 hk H) (fun _ => rb_e62 hk H)
theorem rb_exact {post : St2 → Prop} {w b : Int32} {a1 a2 a3 a4 a5 a6 a7 a8 a9 a10 a11 a12 : Nat → Int32} {l0 h0 l1 h1 : Int32} {k : Nat} (hk : k < 6) (H : ∀ L M, (a5 k = 0 → a6 k = 0 → M = a7 k) → post (w, b, a1, a2, upd a3 k L, upd a4 k M, a5, a6, a7, a8, a9, a10, a11, a12)) : wpX_exact post (w, b, a1, a2, a3, a4, a5, a6, a7, a8, a9, a10, a11, a12) (nI k) l0 h0 l1 h1 := by
  unfold wpX_exact
  rw [nI_clamp (show k < 2 ^ 31 by omega)]
  exact ⟨pk_in k 6 hk, nm_e ⟨pk_in k 6 hk, nm_e ⟨pk_in k 6 hk, br_c (fun _ => rb_e43 hk H) (fun _ => rb_e43 hk H)⟩⟩⟩
theorem rb_finish {post : St2 → Prop} {w b : Int32} {a1 a2 a3 a4 a5 a6 a7 a8 a9 a10 a11 a12 : Nat → Int32} {l0 h0 l1 h1 : Int32} {k : Nat} (hk : k < 6) (h5 : a5 k = 0) (h6 : a6 k = 0) (h4 : a4 k = 0) (H : ∀ s t, t k = a7 k → (∀ j, j ≠ k → t j = a4 j) → post (w, b, a1, a2, s, t, a5, a6, a7, a8, a9, a10, a11, a12)) : wpX_finish post (w, b, a1, a2, a3, a4, a5, a6, a7, a8, a9, a10, a11, a12) (nI k) l0 h0 l1 h1 := by
  unfold wpX_finish
  rw [nI_clamp (show k < 2 ^ 31 by omega)]
  refine ⟨pk_in k 6 hk, nm_e ⟨pk_in k 6 hk, nm_e (rb_exact hk (fun L M hM => ⟨pk_in k 6 hk, pk_in k 6 hk, nm_e ⟨pk_in k 6 hk, pk_in k 6 hk, nm_e (H _ _ ?_ ?_)⟩⟩))⟩⟩
  · rw [pk_us, pk_us, h4, Int32.add_zero, hM h5 h6]
  · intro j n
    rw [pk_un n, pk_un n]
theorem rb_begin {post : St2 → Prop} {w b : Int32} {a1 a2 a3 a4 a5 a6 a7 a8 a9 a10 a11 a12 : Nat → Int32} {p : Int32} {k : Nat} (hk : k < 6) (H : post (w, b, a1, a2, upd a3 k 0, upd a4 k 0, upd a5 k 0, upd a6 k 0, upd a7 k p, upd a8 k 1, a9, a10, a11, a12)) : wpX_begin post (w, b, a1, a2, a3, a4, a5, a6, a7, a8, a9, a10, a11, a12) (nI k) p := by
  unfold wpX_begin
  rw [nI_clamp (show k < 2 ^ 31 by omega)]
  exact ⟨pk_in k 6 hk, nm_e ⟨pk_in k 6 hk, nm_e ⟨pk_in k 6 hk, nm_e ⟨pk_in k 6 hk, nm_e ⟨pk_in k 6 hk, nm_e ⟨pk_in k 6 hk, nm_e H⟩⟩⟩⟩⟩⟩
theorem rb_bring {post : St2 → Prop} {w b : Int32} {a1 a2 a3 a4 a5 a6 a7 a8 a9 a10 a11 a12 : Nat → Int32} {p q : Int32} {i : Nat} (hi : i < 6) (h : q = 0 ∨ ¬ 0 < a4 i) (H : post (w, b, a1, a2, a3, a4, a5, a6, a7, a8, a9, a10, a11, a12)) : wpX_bring post (w, b, a1, a2, a3, a4, a5, a6, a7, a8, a9, a10, a11, a12) p (nI i) q := by
  unfold wpX_bring
  rw [nI_clamp (show i < 2 ^ 31 by omega)]
  exact br_c (fun _ => H) (fun n => ⟨pk_in i 6 hi, br_f (h.resolve_left n) H⟩)
theorem rb_r113 {post : St2 → Prop} {J : Int32 → Int32 → Int32 → (Nat → Int32) → (Nat → Int32) → (Nat → Int32) → (Nat → Int32) → (Nat → Int32) → (Nat → Int32) → (Nat → Int32) → (Nat → Int32) → (Nat → Int32) → (Nat → Int32) → (Nat → Int32) → (Nat → Int32) → Prop} {w b : Int32} {a1 a2 a3 a4 a5 a6 a7 a8 a9 a10 a11 a12 : Nat → Int32} {l0 h0 l1 h1 : Int32} {m : Nat} (hm : m < 2) (hz : ∀ i, i < 3 → a1 (9 + 3 * m + i) = 0 ∨ ¬ 0 < a4 i) (h5 : a5 (3 + m) = 0) (h6 : a6 (3 + m) = 0) (h4 : a4 (3 + m) = 0)
    (H : ∀ s t, t (3 + m) = a7 (3 + m) → (∀ j, j ≠ 3 + m → t j = a4 j) → J (nI (3 + m + 1)) w b a1 a2 s t a5 a6 a7 a8 a9 a10 a11 a12) : ∃ n, wX_range_113 post J l0 h0 l1 h1 (nI (3 + m)) n 0 w b a1 a2 a3 a4 a5 a6 a7 a8 a9 a10 a11 a12 :=
  pk_loop (σ := Unit) (fun n i _ => wX_range_113 post J l0 h0 l1 h1 (nI (3 + m)) n (nI i) w b a1 a2 a3 a4 a5 a6 a7 a8 a9 a10 a11 a12) (fun _ _ => True) 3 0 () (by omega) trivial
    (fun n _ _ => pk_le 3 3 (fun _ => rb_finish (by omega) h5 h6 h4 (fun s t e1 e2 => nm_r (nI_1 (3 + m)) (H s t e1 e2))) (fun z => absurd z (by omega)))
    (fun n i _ hi _ hw => pk_le 3 i (fun z => absurd z (by omega)) (fun _ => ⟨pk_in (9 + 3 * m + i) 20 (by omega) (rb_i9' m i),
      rb_bring (by omega) (by rw [rb_i9', nI_clamp (show 9 + 3 * m + i < 2 ^ 31 by omega)]; exact hz i hi) (nm_r (nI_1 i) (hw () trivial))⟩))
theorem rb_r182 {post : St2 → Prop} {w b : Int32} {a1 a2 a3 a4 a5 a6 a7 a8 a9 a10 a11 a12 : Nat → Int32} {l0 h0 l1 h1 : Int32} (hz : ∀ i, 3 ≤ i → i < 5 → a1 (14 + i) = 0 ∨ ¬ 0 < a4 i) (h5 : a5 5 = 0) (h6 : a6 5 = 0) (h4 : a4 5 = 0)
    (H : ∀ s t, t 5 = a7 5 → post (w, b, a1, a2, s, t, a5, a6, a7, a8, a9, a10, a11, a12)) : ∃ n, wX_range_182 post l0 h0 l1 h1 n 3 w b a1 a2 a3 a4 a5 a6 a7 a8 a9 a10 a11 a12 :=
  pk_loop (σ := Unit) (fun n i _ => wX_range_182 post l0 h0 l1 h1 n (nI i) w b a1 a2 a3 a4 a5 a6 a7 a8 a9 a10 a11 a12) (fun i _ => 3 ≤ i) 5 3 () (by omega) (Nat.le_refl 3)
    (fun n _ _ => pk_le 5 5 (fun _ => rb_finish (k := 5) (by omega) h5 h6 h4 (fun s t e1 _ => H s t e1)) (fun z => absurd z (by omega)))
    (fun n i _ hi h3 hw => pk_le 5 i (fun z => absurd z (by omega)) (fun _ => ⟨pk_in (14 + i) 20 (by omega) (nI_add 14 i),
      rb_bring (by omega) (by rw [show ((14 : Int32) + nI i).toNatClampNeg = 14 + i from pk_cl _ (nI_add 14 i)]; exact hz i h3 hi) (nm_r (nI_1 i) (hw () (by omega)))⟩))
/-- the unit j of the first layer has no numbers -/
def rb_Z (a : Nat → Int32) (j : Nat) : Prop := a (2 * j) = 0 ∧ a (2 * j + 1) = 0 ∧ a (6 + j) = 0
theorem rb_np {x : Int32} (h : x = 0) : ¬ 0 < x := by
  rw [h]
  decide
theorem rb_r88 {post : St2 → Prop} {w b : Int32} {a1 a2 a3 a4 a5 a6 a7 a8 a9 a10 a11 a12 : Nat → Int32} {l0 h0 l1 h1 : Int32} (hs : rb_sg a1) (hz : ∀ j, j < 3 → rb_Z a1 j → a4 j = 0)
    (H : ∀ s3 s4 s5 s6 s7 s8, s4 5 = a1 19 → post (w, b, a1, a2, s3, s4, s5, s6, s7, s8, a9, a10, a11, a12)) : ∃ n, wX_range_88 post l0 h0 l1 h1 n 3 w b a1 a2 a3 a4 a5 a6 a7 a8 a9 a10 a11 a12 := by
  refine pk_loop (fun n i s => wX_range_88 post l0 h0 l1 h1 n (nI i) w b a1 a2 s.1 s.2.1 s.2.2.1 s.2.2.2.1 s.2.2.2.2.1 s.2.2.2.2.2 a9 a10 a11 a12)
    (fun i s => 3 ≤ i ∧ (∀ j, j < 3 → rb_Z a1 j → s.2.1 j = 0) ∧ ∀ j, 3 ≤ j → j < i → s.2.1 j = a1 (12 + j)) 5 3 (a3, a4, a5, a6, a7, a8) (by omega) ⟨Nat.le_refl 3, hz, fun j h1 h2 => absurd h1 (by omega)⟩ ?_ ?_
  · intro n s h
    obtain ⟨_, _, h2⟩ := h
    refine pk_le 5 5 (fun _ => rb_begin (k := 5) (by omega) (rb_r182 (fun i i3 i5 => ?_) pk_us pk_us pk_us (fun s3 s4 e => H _ _ _ _ _ _ (e.trans pk_us)))) (fun z => absurd z (by omega))
    rw [pk_un (show i ≠ 5 by omega), h2 i i3 i5]
    rcases hs (14 + i) (12 + i) (by omega) with e | e
    · exact Or.inl e
    · exact Or.inr (rb_np e)
  · intro n i s hi h hw
    obtain ⟨h3, h1, h2⟩ := h
    obtain ⟨m, rfl⟩ : ∃ m, i = 3 + m := ⟨i - 3, by omega⟩
    refine pk_le 5 (3 + m) (fun z => absurd z (by omega)) (fun _ => ⟨pk_in (12 + (3 + m)) 20 (by omega) (nI_add 12 (3 + m)), rb_begin (by omega) (rb_r113 (by omega) (fun j hj => ?_) pk_us pk_us pk_us (fun s3 s4 e1 e2 => hw (s3, s4, _, _, _, _) ⟨by omega, fun j hj zj => ?_, fun j j3 hj => ?_⟩))⟩)
    · by_cases e : a1 (9 + 3 * m + j) = 0
      · exact Or.inl e
      · refine Or.inr (rb_np ?_)
        rw [pk_un (show j ≠ 3 + m by omega)]
        exact h1 j hj (rb_Uz hs hj e)
    · show s4 j = 0
      rw [e2 j (by omega), pk_un (show j ≠ 3 + m by omega)]
      exact h1 j hj zj
    · show s4 j = a1 (12 + j)
      by_cases e : j = 3 + m
      · rw [e, e1, pk_us, show ((12 : Int32) + nI (3 + m)).toNatClampNeg = 12 + (3 + m) from pk_cl _ (nI_add 12 (3 + m))]
      · rw [e2 j e, pk_un e]
        exact h2 j j3 (by omega)
theorem rb_r3 {post : St2 → Prop} {w b : Int32} {a1 a2 a3 a4 a5 a6 a7 a8 a9 a10 a11 a12 : Nat → Int32} {l0 h0 l1 h1 : Int32} (hs : rb_sg a1)
    (H : ∀ s3 s4 s5 s6 s7 s8, s4 5 = a1 19 → post (w, b, a1, a2, s3, s4, s5, s6, s7, s8, a9, a10, a11, a12)) : ∃ n, wX_range_3 post l0 h0 l1 h1 n 0 w b a1 a2 a3 a4 a5 a6 a7 a8 a9 a10 a11 a12 := by
  refine pk_loop (fun n i s => wX_range_3 post l0 h0 l1 h1 n (nI i) w b a1 a2 s.1 s.2.1 s.2.2.1 s.2.2.2.1 s.2.2.2.2.1 s.2.2.2.2.2 a9 a10 a11 a12)
    (fun i s => ∀ j, j < i → rb_Z a1 j → s.2.1 j = 0) 3 0 (a3, a4, a5, a6, a7, a8) (by omega) (fun j hj => absurd hj (by omega)) ?_ ?_
  · intro n s h
    exact pk_le 3 3 (fun _ => rb_r88 hs h H) (fun z => absurd z (by omega))
  · intro n i s hi h hw
    have c0 : (nI i).toNatClampNeg = i := nI_clamp (by omega)
    have c1 : ((2 : Int32) * nI i).toNatClampNeg = 2 * i := pk_cl _ (pk_mul 2 i)
    have c2 : ((2 : Int32) * nI i + 1).toNatClampNeg = 2 * i + 1 := pk_cl _ (rb_i2 i)
    have c3 : ((6 : Int32) + nI i).toNatClampNeg = 6 + i := pk_cl _ (nI_add 6 i)
    refine pk_le 3 i (fun z => absurd z (by omega)) (fun _ => ⟨pk_in (2 * i) 20 (by omega) (pk_mul 2 i), pk_in i 6 (by omega),
      nm_r (e' := upd s.2.2.1 i (a1 (2 * i))) (by rw [c0, c1]) ⟨pk_in (2 * i + 1) 20 (by omega) (rb_i2 i), pk_in i 6 (by omega),
      nm_r (e' := upd s.2.2.2.1 i (a1 (2 * i + 1))) (by rw [c0, c2]) ⟨pk_in (6 + i) 20 (by omega) (nI_add 6 i), pk_in i 6 (by omega),
      nm_r (e' := upd s.2.2.2.2.1 i (a1 (6 + i))) (by rw [c0, c3]) ⟨pk_in i 6 (by omega),
      nm_e (rb_exact (by omega) (fun L M hM => nm_r (nI_1 i) (hw (_, _, _, _, _, _) (fun j hj zj => ?_))))⟩⟩⟩⟩)
    rw [pk_us, pk_us, pk_us] at hM
    show upd s.2.1 i M j = 0
    by_cases e : j = i
    · rw [e] at zj ⊢
      rw [pk_us, hM zj.1 zj.2.1]
      exact zj.2.2
    · rw [pk_un e]
      exact h j (by omega) zj
theorem rb_range {post : St2 → Prop} {w b : Int32} {a1 a2 a3 a4 a5 a6 a7 a8 a9 a10 a11 a12 : Nat → Int32} {l0 h0 l1 h1 : Int32} (hs : rb_sg a1)
    (H : ∀ s3 s4 s5 s6 s7 s8, s4 5 = a1 19 → post (w, b, a1, a2, s3, s4, s5, s6, s7, s8, a9, a10, a11, a12)) : wpX_range post (w, b, a1, a2, a3, a4, a5, a6, a7, a8, a9, a10, a11, a12) l0 h0 l1 h1 :=
  rb_r3 hs H
end
section
/-- an input by its number -/
def rb_v (n : Nat) : Int32 := nI n - 16
theorem rb_mid : ∀ A, A < 32 → ∀ B, B < 32 → (rb_v A + rb_v B) >>> ((1 : Int32) &&& 31) = rb_v ((A + B) / 2) := by decide +kernel
theorem rb_vle : ∀ A, A < 32 → ∀ B, B < 32 → (rb_v B ≤ rb_v A ↔ B ≤ A) := by decide +kernel
theorem rb_veq : ∀ A, A < 32 → ∀ B, B < 32 → (rb_v A = rb_v B ↔ A = B) := by decide +kernel
theorem rb_out (A C : Nat) : ((32 * (rb_v A + 16)) + rb_v C) + 16 = 32 * nI A + nI C := by
  unfold rb_v
  rw [Int32.sub_add_cancel, Int32.add_assoc, Int32.sub_add_cancel]
/-- the box at the place k of the stack -/
def rb_pic (a9 a10 a11 a12 : Nat → Int32) (k A B C D : Nat) : Prop := a9 k = rb_v A ∧ a10 k = rb_v B ∧ a11 k = rb_v C ∧ a12 k = rb_v D
theorem rb_interval {post : Int32 → Prop} {p : Int32} (h1 : rb_iv p → post 1) (h0 : ¬ rb_iv p → post 0) : wpX_isInterval post () p :=
  br_c (fun a => h0 (fun t => t.1 a)) (fun a => br_c (fun c => h0 (fun t => t.2.1 c)) (fun c => br_c (fun d => h0 (fun t => t.2.2 d)) (fun d => h1 ⟨a, c, d⟩)))
theorem rb_opn {post : St2 → Prop} {w b : Int32} {a1 a2 a3 a4 a5 a6 a7 a8 a9 a10 a11 a12 : Nat → Int32} {p q : Int32} (H : post (1, b, a1, a2, a3, a4, a5, a6, a7, a8, upd a9 0 ((p >>> ((5 : Int32) &&& 31)) - 16), upd a10 0 ((p &&& 31) - 16), upd a11 0 ((q >>> ((5 : Int32) &&& 31)) - 16), upd a12 0 ((q &&& 31) - 16))) : wpX_open post (w, b, a1, a2, a3, a4, a5, a6, a7, a8, a9, a10, a11, a12) p q := by
  unfold wpX_open
  exact nm_e (nm_e (nm_e (nm_e H)))
theorem rb_point {post : Int32 → Prop} {w b : Int32} {a1 a2 a3 a4 a5 a6 a7 a8 a9 a10 a11 a12 : Nat → Int32} {k A B C D : Nat} (hk : k < 16) (hB : B < 32) (hD : D < 32) (hA : A < 32) (hC : C < 32) (h : rb_pic a9 a10 a11 a12 k A B C D) (H1 : A = B ∧ C = D → post 1) (H0 : ¬ (A = B ∧ C = D) → post 0) : wpX_isPoint post (w, b, a1, a2, a3, a4, a5, a6, a7, a8, a9, a10, a11, a12) (nI k) := by
  obtain ⟨e1, e2, e3, e4⟩ := h
  unfold wpX_isPoint
  rw [nI_clamp (show k < 2 ^ 31 by omega)]
  refine ⟨pk_in k 16 hk, pk_in k 16 hk, br_c (fun z => ⟨pk_in k 16 hk, pk_in k 16 hk, br_c (fun z2 => H1 ⟨?_, ?_⟩) (fun z2 => H0 (fun t => z2 ?_))⟩) (fun z => H0 (fun t => z ?_))⟩
  · rw [e1, e2] at z
    exact (rb_veq A hA B hB).mp z
  · rw [e3, e4] at z2
    exact (rb_veq C hC D hD).mp z2
  · rw [e3, e4, t.2]
  · rw [e1, e2, t.1]
theorem rb_cutA {post : St2 → Prop} {w b : Int32} {a1 a2 a3 a4 a5 a6 a7 a8 a9 a10 a11 a12 : Nat → Int32} {k A B C D : Nat} (hk : k < 15) (hB : B < 32) (h : rb_pic a9 a10 a11 a12 k A B C D) (hAB : A < B)
    (H : ∀ s9 s10 s11 s12, rb_pic s9 s10 s11 s12 (k + 1) A ((A + B) / 2) C D → post (nI (k + 2), b, a1, a2, a3, a4, a5, a6, a7, a8, s9, s10, s11, s12)) : wpX_cut post (w, b, a1, a2, a3, a4, a5, a6, a7, a8, a9, a10, a11, a12) (nI k) := by
  obtain ⟨e1, e2, e3, e4⟩ := h
  have c0 : (nI k).toNatClampNeg = k := nI_clamp (by omega)
  have c1 : (nI k + 1).toNatClampNeg = k + 1 := pk_cl _ (nI_1 k)
  have i0 : vp_in (nI k) 16 := pk_in k 16 (by omega)
  have i1 : vp_in (nI k + 1) 16 := pk_in (k + 1) 16 (by omega) (nI_1 k)
  have g : ¬ (1 : Int32) = 0 := by decide
  have hc : ¬ a10 (nI k).toNatClampNeg ≤ a9 (nI k).toNatClampNeg := by
    rw [c0, e1, e2, rb_vle A (by omega) B hB]
    omega
  refine ⟨i0, i0, br_f hc (br_f g (br_f g ⟨i0, br_f g ⟨i0, nm_r (e' := rb_v ((A + B) / 2)) (by rw [c0, e1, e2]; exact rb_mid A (by omega) B hB) ⟨i0, i1,
    nm_r (e' := upd a9 (k + 1) (rb_v A)) (by rw [c0, c1, e1]) (br_f g ⟨i1,
    nm_r (e' := upd a10 (k + 1) (rb_v ((A + B) / 2))) (by rw [c1]) ⟨i0, i1,
    nm_r (e' := upd a11 (k + 1) (rb_v C)) (by rw [c0, c1, e3]) (br_f g ⟨i0, i1,
    nm_r (e' := upd a12 (k + 1) (rb_v D)) (by rw [c0, c1, e4]) (br_f g ⟨i0,
    nm_r (e' := upd (upd a9 (k + 1) (rb_v A)) k (rb_v ((A + B) / 2) + 1)) (by rw [c0]) (br_f g ⟨i0, i0,
    nm_r (e' := upd (upd a11 (k + 1) (rb_v C)) k (upd a11 (k + 1) (rb_v C) k)) (by rw [c0]) (nm_r (nI_add k 2) (H _ _ _ _ ⟨?_, pk_us, ?_, pk_us⟩))⟩)⟩)⟩)⟩⟩)⟩⟩⟩))⟩
  · rw [pk_un (by omega), pk_us]
  · rw [pk_un (by omega), pk_us]
theorem rb_cutC {post : St2 → Prop} {w b : Int32} {a1 a2 a3 a4 a5 a6 a7 a8 a9 a10 a11 a12 : Nat → Int32} {k A B C D : Nat} (hk : k < 15) (hD : D < 32) (h : rb_pic a9 a10 a11 a12 k A B C D) (hAB : A = B) (hCD : C < D)
    (H : ∀ s9 s10 s11 s12, rb_pic s9 s10 s11 s12 (k + 1) A B C ((C + D) / 2) → post (nI (k + 2), b, a1, a2, a3, a4, a5, a6, a7, a8, s9, s10, s11, s12)) : wpX_cut post (w, b, a1, a2, a3, a4, a5, a6, a7, a8, a9, a10, a11, a12) (nI k) := by
  obtain ⟨e1, e2, e3, e4⟩ := h
  have c0 : (nI k).toNatClampNeg = k := nI_clamp (by omega)
  have c1 : (nI k + 1).toNatClampNeg = k + 1 := pk_cl _ (nI_1 k)
  have i0 : vp_in (nI k) 16 := pk_in k 16 (by omega)
  have i1 : vp_in (nI k + 1) 16 := pk_in (k + 1) 16 (by omega) (nI_1 k)
  have hc : a10 (nI k).toNatClampNeg ≤ a9 (nI k).toNatClampNeg := by
    rw [c0, e1, e2, hAB]
    exact Int32.le_refl _
  have hd : ¬ a11 (nI k).toNatClampNeg = a12 (nI k).toNatClampNeg := by
    rw [c0, e3, e4, rb_veq C (by omega) D hD]
    omega
  refine ⟨i0, i0, br_t hc (br_t rfl ⟨i0, i0, br_f hd (br_t rfl ⟨i0, br_t rfl ⟨i0, nm_r (e' := rb_v ((C + D) / 2)) (by rw [c0, e3, e4]; exact rb_mid C (by omega) D hD) ⟨i0, i1,
    nm_r (e' := upd a9 (k + 1) (rb_v A)) (by rw [c0, c1, e1]) (br_t rfl ⟨i0, i1,
    nm_r (e' := upd a10 (k + 1) (rb_v B)) (by rw [c0, c1, e2]) ⟨i0, i1,
    nm_r (e' := upd a11 (k + 1) (rb_v C)) (by rw [c0, c1, e3]) (br_t rfl ⟨i1,
    nm_r (e' := upd a12 (k + 1) (rb_v ((C + D) / 2))) (by rw [c1]) (br_t rfl ⟨i0, i0,
    nm_r (e' := upd (upd a9 (k + 1) (rb_v A)) k (upd a9 (k + 1) (rb_v A) k)) (by rw [c0]) (br_t rfl ⟨i0,
    nm_r (e' := upd (upd a11 (k + 1) (rb_v C)) k (rb_v ((C + D) / 2) + 1)) (by rw [c0]) (nm_r (nI_add k 2) (H _ _ _ _ ⟨?_, pk_us, ?_, pk_us⟩))⟩)⟩)⟩)⟩⟩)⟩⟩⟩)⟩)⟩
  · rw [pk_un (by omega), pk_us]
  · rw [pk_un (by omega), pk_us]
theorem rb_half {A B p : Nat} (h : A < B) (h2 : B < A + 2 ^ p) : ∃ q, p = q + 1 ∧ (A + B) / 2 < A + 2 ^ q := by
  cases p with
  | zero => exact absurd h2 (by rw [Nat.pow_zero]; omega)
  | succ q =>
    refine ⟨q, rfl, ?_⟩
    rw [Nat.pow_succ] at h2
    omega
theorem rb_fa {post : Int32 → St2 → Prop} {a1 : Nat → Int32} {x3 : Int32} (hs : rb_sg a1) (hl : ¬ a1 19 ≤ x3) {A C : Nat} (H : ∀ (w b : Int32) (a2 a3 a4 a5 a6 a7 a8 a9 a10 a11 a12 : Nat → Int32), post (32 * nI A + nI C) (w, b, a1, a2, a3, a4, a5, a6, a7, a8, a9, a10, a11, a12)) :
    ∀ (t k B D p q : Nat) (b : Int32) (a2 a3 a4 a5 a6 a7 a8 a9 a10 a11 a12 : Nat → Int32), p + q = t → k + t ≤ 10 → A ≤ B → C ≤ D → B < 32 → D < 32 → B < A + 2 ^ p → D < C + 2 ^ q → rb_pic a9 a10 a11 a12 k A B C D →
      wX_firstAbove_9 post x3 (t + 1) (nI k) (nI (k + 1)) b a1 a2 a3 a4 a5 a6 a7 a8 a9 a10 a11 a12 := by
  intro t
  induction t using Nat.strongRecOn with
  | ind t ih =>
    intro k B D p q b a2 a3 a4 a5 a6 a7 a8 a9 a10 a11 a12 ht hk hAB hCD hB hD hp hq hpic
    have i0 : vp_in (nI k) 16 := pk_in k 16 (by omega)
    refine pk_le 2048 k (fun z => absurd z (by omega)) (fun _ => br_f (nI_nle (by omega) (by omega)) (nm_r (nI_pred k) ⟨i0, i0, i0, i0, rb_range hs (fun s3 s4 s5 s6 s7 s8 e => br_f (by rw [e]; exact hl)
      (rb_point (by omega) hB hD (by omega) (by omega) hpic (fun z => br_f (by decide) ⟨i0, i0, ?_⟩) (fun z => br_t rfl ?_)))⟩))
    · rw [nI_clamp (show k < 2 ^ 31 by omega), hpic.1, hpic.2.2.1, rb_out]
      exact H _ _ _ _ _ _ _ _ _ _ _ _ _
    · by_cases hx : A < B
      · obtain ⟨p', rfl, hm⟩ := rb_half hx hp
        obtain ⟨t', rfl⟩ : ∃ t', t = t' + 1 := ⟨t - 1, by omega⟩
        exact rb_cutA (by omega) hB hpic hx (fun s9 s10 s11 s12 hn => nm_r (nI_1 k) (ih t' (by omega) (k + 1) ((A + B) / 2) D p' q _ _ _ _ _ _ _ _ _ _ _ _ (by omega) (by omega) (by omega) hCD (by omega) hD hm hq hn))
      · have hy : A = B := by omega
        have hz : C < D := by
          rcases Nat.lt_or_ge C D with g | g
          · exact g
          · exact absurd ⟨hy, by omega⟩ z
        obtain ⟨q', rfl, hm⟩ := rb_half hz hq
        obtain ⟨t', rfl⟩ : ∃ t', t = t' + 1 := ⟨t - 1, by omega⟩
        exact rb_cutC (by omega) hD hpic hy hz (fun s9 s10 s11 s12 hn => nm_r (nI_1 k) (ih t' (by omega) (k + 1) B ((C + D) / 2) p q' _ _ _ _ _ _ _ _ _ _ _ _ (by omega) (by omega) hAB (by omega) hB (by omega) hp hm hn))
theorem rb_firstAbove {post : Int32 → St2 → Prop} {w b : Int32} {a1 a2 a3 a4 a5 a6 a7 a8 a9 a10 a11 a12 : Nat → Int32} {x p q : Int32} (hs : rb_sg a1) (hl : ¬ a1 19 ≤ x) (hp : rb_iv p) (hq : rb_iv q) (H : ∀ (w b : Int32) (a2 a3 a4 a5 a6 a7 a8 a9 a10 a11 a12 : Nat → Int32), post ((32 * (p >>> ((5 : Int32) &&& 31))) + (q >>> ((5 : Int32) &&& 31))) (w, b, a1, a2, a3, a4, a5, a6, a7, a8, a9, a10, a11, a12)) : wpX_firstAbove post (w, b, a1, a2, a3, a4, a5, a6, a7, a8, a9, a10, a11, a12) p q x := by
  obtain ⟨A, B, hAB, hB, e1, e2⟩ := rb_iv_of hp
  obtain ⟨C, D, hCD, hD, e3, e4⟩ := rb_iv_of hq
  rw [e1, e3] at H
  unfold wpX_firstAbove
  refine rb_opn ⟨10 + 1, ?_⟩
  rw [e1, e2, e3, e4]
  exact rb_fa hs hl H 10 0 B D 5 5 _ _ _ _ _ _ _ _ _ _ _ _ (by omega) (by omega) hAB hCD hB hD (by omega) (by omega) ⟨pk_us, pk_us, pk_us, pk_us⟩
theorem rb_x38b {post : Int32 → St2 → Prop} {w b : Int32} {a1 a2 a3 a4 a5 a6 a7 a8 a9 a10 a11 a12 : Nat → Int32} {n : Nat} (H : post b (0, b, a1, a2, a3, a4, a5, a6, a7, a8, a9, a10, a11, a12)) : wX_extreme_38 post 5 1 (n + 1) 1 0 b a1 a2 a3 a4 a5 a6 a7 a8 a9 a10 a11 a12 :=
  br_f (by decide) (br_t (by decide) H)
theorem rb_x38a {post : Int32 → St2 → Prop} {w b : Int32} {a1 a2 a3 a4 a5 a6 a7 a8 a9 a10 a11 a12 : Nat → Int32} {n : Nat} (hs : rb_sg a1) (hb : b = a1 19) (H : ∀ (w b : Int32) (a2 a3 a4 a5 a6 a7 a8 a9 a10 a11 a12 : Nat → Int32), post (a1 19) (w, b, a1, a2, a3, a4, a5, a6, a7, a8, a9, a10, a11, a12)) : wX_extreme_38 post 5 1 (n + 1 + 1) 0 1 b a1 a2 a3 a4 a5 a6 a7 a8 a9 a10 a11 a12 := by
  subst hb
  refine br_f (by decide) (br_f (by decide) (nm_r (e' := 0) (by decide) ⟨pk_in 0 16 (by omega), pk_in 0 16 (by omega), pk_in 0 16 (by omega), pk_in 0 16 (by omega), rb_range hs (fun s3 s4 s5 s6 s7 s8 e => br_f (by decide) ⟨pk_in 5 6 (by omega), br_t ?_ (nm_r (e' := 1) (by decide) (rb_x38b (w := 0) (H _ _ _ _ _ _ _ _ _ _ _ _ _)))⟩)⟩))
  show s4 5 ≤ a1 19
  rw [e]
  exact Int32.le_refl _
theorem rb_extreme {post : Int32 → St2 → Prop} {w b : Int32} {a1 a2 a3 a4 a5 a6 a7 a8 a9 a10 a11 a12 : Nat → Int32} {p q : Int32} (hs : rb_sg a1) (H : ∀ (w b : Int32) (a2 a3 a4 a5 a6 a7 a8 a9 a10 a11 a12 : Nat → Int32), post (a1 19) (w, b, a1, a2, a3, a4, a5, a6, a7, a8, a9, a10, a11, a12)) : wpX_extreme post (w, b, a1, a2, a3, a4, a5, a6, a7, a8, a9, a10, a11, a12) p q 5 1 := by
  unfold wpX_extreme
  refine rb_opn (rb_work hs (fun s _ e => ⟨pk_in 5 6 (by omega), nm_r (e' := a1 19) ?_ ⟨0 + 1 + 1, rb_x38a (w := 0) hs rfl H⟩⟩))
  show (1 : Int32) * s 5 = a1 19
  rw [e, Int32.one_mul]
theorem rb_most {post : Int32 → St2 → Prop} {w b : Int32} {a1 a2 a3 a4 a5 a6 a7 a8 a9 a10 a11 a12 : Nat → Int32} {p q : Int32} (hs : rb_sg a1) (H1 : rb_iv p ∧ rb_iv q → ∀ (w b : Int32) (a2 a3 a4 a5 a6 a7 a8 a9 a10 a11 a12 : Nat → Int32), post (a1 19) (w, b, a1, a2, a3, a4, a5, a6, a7, a8, a9, a10, a11, a12)) (H0 : ¬ (rb_iv p ∧ rb_iv q) → post (-1000000) (w, b, a1, a2, a3, a4, a5, a6, a7, a8, a9, a10, a11, a12)) : wpX_most post (w, b, a1, a2, a3, a4, a5, a6, a7, a8, a9, a10, a11, a12) p q := by
  unfold wpX_most
  exact rb_interval (fun hp => br_f (by decide) (rb_interval (fun hq => br_f (by decide) (rb_extreme hs (H1 ⟨hp, hq⟩))) (fun hq => br_t rfl (H0 (fun t => hq t.2))))) (fun hp => br_t rfl (H0 (fun t => hp t.1)))
theorem rb_mostAt {post : Int32 → St2 → Prop} {w b : Int32} {a1 a2 a3 a4 a5 a6 a7 a8 a9 a10 a11 a12 : Nat → Int32} {p q : Int32} (hs : rb_sg a1) (hl : ¬ a1 19 ≤ a1 19 - 1) (H1 : rb_iv p ∧ rb_iv q → ∀ (w b : Int32) (a2 a3 a4 a5 a6 a7 a8 a9 a10 a11 a12 : Nat → Int32), post ((32 * (p >>> ((5 : Int32) &&& 31))) + (q >>> ((5 : Int32) &&& 31))) (w, b, a1, a2, a3, a4, a5, a6, a7, a8, a9, a10, a11, a12)) (H0 : ¬ (rb_iv p ∧ rb_iv q) → post (-1) (w, b, a1, a2, a3, a4, a5, a6, a7, a8, a9, a10, a11, a12)) : wpX_mostAt post (w, b, a1, a2, a3, a4, a5, a6, a7, a8, a9, a10, a11, a12) p q := by
  unfold wpX_mostAt
  exact rb_interval (fun hp => br_f (by decide) (rb_interval (fun hq => br_f (by decide) (rb_extreme hs (fun w b a2 a3 a4 a5 a6 a7 a8 a9 a10 a11 a12 => rb_firstAbove hs hl hp hq (H1 ⟨hp, hq⟩)))) (fun hq => br_t rfl (H0 (fun t => hq t.2))))) (fun hp => br_t rfl (H0 (fun t => hp t.1)))
end
section
/-- a place of an offset, as the law says it -/
def rb_off (p : Int32) : Prop := (¬ p ≤ 5 ∧ p < 9) ∨ p = 15 ∨ p = 16 ∨ p = 19
theorem rb_off12 {post : Int32 → Prop} {p : Int32} (n : ¬ (¬ p ≤ 5 ∧ p < 9)) (h1 : rb_off p → post 1) (h0 : ¬ rb_off p → post 0) : wX_isOffset_12 post p :=
  br_c (fun e => h1 (Or.inr (Or.inl e))) (fun g1 => br_c (fun e => h1 (Or.inr (Or.inr (Or.inl e)))) (fun g2 => br_c (fun e => h1 (Or.inr (Or.inr (Or.inr e)))) (fun g3 => h0 (fun t => t.elim n (fun t => t.elim g1 (fun t => t.elim g2 g3))))))
theorem rb_offset {post : Int32 → Prop} {p : Int32} (h1 : rb_off p → post 1) (h0 : ¬ rb_off p → post 0) : wpX_isOffset post () p :=
  br_c (fun a => rb_off12 (fun t => t.1 (rb_6.mp a)) h1 h0) (fun a => br_c (fun c => h1 (Or.inl ⟨fun t => a (rb_6.mpr t), rb_8.mp c⟩)) (fun c => rb_off12 (fun t => c (rb_8.mpr t.2)) h1 h0))
/-- a good place -/
def rb_gp (p : Int32) : Prop := ¬ p < 0 ∧ ¬ (19 : Int32) < p
/-- a good value under the limit m -/
def rb_gv (m v : Int32) : Prop := ¬ v < -m ∧ ¬ m < v
theorem rb_set25 {post : Int32 → St2 → Prop} {w b : Int32} {a1 a2 a3 a4 a5 a6 a7 a8 a9 a10 a11 a12 : Nat → Int32} {j : Nat} {v m : Int32} (hj : j < 20) (h0 : a1 j = 0) (Hn : ¬ rb_gv m v → post (-2) (w, b, a1, a2, a3, a4, a5, a6, a7, a8, a9, a10, a11, a12)) (Hv : rb_gv m v → (v = 0 → post 0 (w, b, upd a1 j v, a2, a3, a4, a5, a6, a7, a8, a9, a10, a11, a12)) ∧ (¬ v = 0 → post 1 (w, b, upd a1 j v, a2, a3, a4, a5, a6, a7, a8, a9, a10, a11, a12))) : wX_set_25 post (nI j) v m w b a1 a2 a3 a4 a5 a6 a7 a8 a9 a10 a11 a12 := by
  have c : (nI j).toNatClampNeg = j := nI_clamp (by omega)
  have i : vp_in (nI j) 20 := pk_in j 20 hj
  refine br_c (fun z => Hn (fun t => t.1 z)) (fun z => br_c (fun y => ⟨i, br_c (fun e => ⟨i, nm_r (congrArg (fun t => upd a1 t v) c) ?_⟩) (fun e => ⟨i, nm_r (congrArg (fun t => upd a1 t v) c) ?_⟩)⟩) (fun y => Hn (fun t => y (Int32.not_lt.mp t.2))))
  · rw [c, h0] at e
    exact (Hv ⟨z, Int32.not_lt.mpr y⟩).1 e.symm
  · rw [c, h0] at e
    exact (Hv ⟨z, Int32.not_lt.mpr y⟩).2 (fun t => e t.symm)
theorem rb_set {post : Int32 → St2 → Prop} {w b : Int32} {a1 a2 a3 a4 a5 a6 a7 a8 a9 a10 a11 a12 : Nat → Int32} {p v m : Int32} (h0 : ∀ j, a1 j = 0) (hm : (rb_off p ∧ m = 50) ∨ (¬ rb_off p ∧ m = 5))
    (Hp : ¬ rb_gp p → post (-1) (w, b, a1, a2, a3, a4, a5, a6, a7, a8, a9, a10, a11, a12)) (Hn : rb_gp p → ¬ rb_gv m v → post (-2) (w, b, a1, a2, a3, a4, a5, a6, a7, a8, a9, a10, a11, a12))
    (Hv : ∀ j : Nat, j < 20 → p = nI j → rb_gv m v → (v = 0 → post 0 (w, b, upd a1 j v, a2, a3, a4, a5, a6, a7, a8, a9, a10, a11, a12)) ∧ (¬ v = 0 → post 1 (w, b, upd a1 j v, a2, a3, a4, a5, a6, a7, a8, a9, a10, a11, a12))) : wpX_set post (w, b, a1, a2, a3, a4, a5, a6, a7, a8, a9, a10, a11, a12) p v := by
  unfold wpX_set
  refine br_c (fun z => Hp (fun t => t.1 z)) (fun z => br_c (fun y => ?_) (fun y => Hp (fun t => y (Int32.not_lt.mp t.2))))
  have hg : rb_gp p := ⟨z, Int32.not_lt.mpr y⟩
  obtain ⟨j, hj, e⟩ := nI_of2 (M := 19) (n := 19) (by decide) z y
  have Hn' := Hn hg
  have Hv' := Hv j (by omega) e
  refine rb_offset (fun o => br_f (by decide) ?_) (fun o => br_t rfl ?_)
  · rcases hm with ⟨_, hm⟩ | ⟨no, _⟩
    · rw [hm] at Hn' Hv'
      rw [e]
      exact rb_set25 (by omega) (h0 j) Hn' Hv'
    · exact absurd o no
  · rcases hm with ⟨no, _⟩ | ⟨_, hm⟩
    · exact absurd no o
    · rw [hm] at Hn' Hv'
      rw [e]
      exact rb_set25 (by omega) (h0 j) Hn' Hv'
theorem rb_get {post : Int32 → Prop} {w b : Int32} {a1 a2 a3 a4 a5 a6 a7 a8 a9 a10 a11 a12 : Nat → Int32} {p : Int32} (Hp : ¬ rb_gp p → post (-1000)) (Hv : rb_gp p → ∀ j : Nat, j < 20 → p = nI j → post (a1 j)) : wpX_get post (w, b, a1, a2, a3, a4, a5, a6, a7, a8, a9, a10, a11, a12) p := by
  unfold wpX_get
  refine br_c (fun z => Hp (fun t => t.1 z)) (fun z => br_c (fun y => Hp (fun t => t.2 y)) (fun y => ?_))
  obtain ⟨j, hj, e⟩ := nI_of2 (M := 19) (n := 19) (by decide) z (Int32.not_lt.mp y)
  have h := Hv ⟨z, y⟩ j (by omega) e
  rw [e, nI_clamp (show j < 2 ^ 31 by omega)]
  exact ⟨pk_in j 20 (by omega), h⟩
/-- a flag that says P -/
def rb_fl (z : Int32) (P : Prop) : Prop := (z = 0 ∧ ¬ P) ∨ (z = 1 ∧ P)
theorem rb_l418 {post : Int32 → St0 → Prop} {mc ms kc ks : Nat} {p q z r f : Int32} {w b : Int32} {a1 a2 a3 a4 a5 a6 a7 a8 a9 a10 a11 a12 : Nat → Int32} (hp : post 1 ()) (hs : rb_sg a1) (hl : ¬ a1 19 ≤ a1 19 - 1) (hz : rb_fl z (rb_iv p ∧ rb_iv q)) (hr : r = f) : wL_lawOf_418 post mc ms p q z f r kc ks w b a1 a2 a3 a4 a5 a6 a7 a8 a9 a10 a11 a12 := by
  refine br_t hr (rb_mostAt hs hl (fun h w b a2 a3 a4 a5 a6 a7 a8 a9 a10 a11 a12 => ?_) (fun h => ?_))
  · rcases hz with ⟨_, n⟩ | ⟨e, _⟩
    · exact absurd h n
    · exact br_f (by rw [e]; decide) (br_t rfl hp)
  · rcases hz with ⟨e, _⟩ | ⟨_, n⟩
    · exact br_t e (br_t rfl hp)
    · exact absurd n h
theorem rb_l395 {post : Int32 → St0 → Prop} {mc ms kc ks : Nat} {p q z f : Int32} {w b : Int32} {a1 a2 a3 a4 a5 a6 a7 a8 a9 a10 a11 a12 : Nat → Int32} (hp : post 1 ()) (hs : rb_sg a1) (hl : ¬ a1 19 ≤ a1 19 - 1) (hf : a1 19 = f) (hz : rb_fl z (rb_iv p ∧ rb_iv q)) : wL_lawOf_395 post mc ms p q f z kc ks w b a1 a2 a3 a4 a5 a6 a7 a8 a9 a10 a11 a12 := by
  unfold wL_lawOf_395
  refine rb_most hs (fun h w b a2 a3 a4 a5 a6 a7 a8 a9 a10 a11 a12 => ?_) (fun h => ?_)
  · have hz' := hz
    rcases hz with ⟨_, n⟩ | ⟨e, _⟩
    · exact absurd h n
    · exact br_f (by rw [e]; decide) (rb_l418 hp hs hl hz' hf)
  · have hz' := hz
    rcases hz with ⟨e, _⟩ | ⟨_, n⟩
    · exact br_t e (rb_l418 hp hs hl hz' rfl)
    · exact absurd n h
theorem rb_l378 {post : Int32 → St0 → Prop} {mc ms kc ks : Nat} {p q y z f : Int32} {w b : Int32} {a1 a2 a3 a4 a5 a6 a7 a8 a9 a10 a11 a12 : Nat → Int32} (hp : post 1 ()) (hs : rb_sg a1) (hl : ¬ a1 19 ≤ a1 19 - 1) (hf : a1 19 = f) (hy : rb_fl y (rb_iv p)) (hz : rb_fl z (rb_iv q)) : wL_lawOf_378 post mc ms p q f y z kc ks w b a1 a2 a3 a4 a5 a6 a7 a8 a9 a10 a11 a12 := by
  rcases hy with ⟨e, n⟩ | ⟨e, g⟩
  · exact br_t e (rb_l395 hp hs hl hf (Or.inl ⟨rfl, fun t => n t.1⟩))
  · refine br_f (by rw [e]; decide) ?_
    rcases hz with ⟨e2, n⟩ | ⟨e2, g2⟩
    · exact br_t e2 (rb_l395 hp hs hl hf (Or.inl ⟨rfl, fun t => n t.2⟩))
    · exact br_f (by rw [e2]; decide) (rb_l395 hp hs hl hf (Or.inr ⟨rfl, g, g2⟩))
theorem rb_l346 {post : Int32 → St0 → Prop} {mc ms kc ks : Nat} {p q y f : Int32} {w b : Int32} {a1 a2 a3 a4 a5 a6 a7 a8 a9 a10 a11 a12 : Nat → Int32} (hp : post 1 ()) (hs : rb_sg a1) (hl : ¬ a1 19 ≤ a1 19 - 1) (hf : a1 19 = f) (hy : rb_fl y (rb_iv p)) : wL_lawOf_346 post mc ms p q f y kc ks w b a1 a2 a3 a4 a5 a6 a7 a8 a9 a10 a11 a12 :=
  br_c (fun z => rb_l378 hp hs hl hf hy (Or.inl ⟨rfl, fun t => t.1 z⟩)) (fun z1 => br_c (fun z => rb_l378 hp hs hl hf hy (Or.inl ⟨rfl, fun t => t.2.1 z⟩)) (fun z2 => br_c (fun z => rb_l378 hp hs hl hf hy (Or.inl ⟨rfl, fun t => t.2.2 z⟩)) (fun z3 => rb_l378 hp hs hl hf hy (Or.inr ⟨rfl, z1, z2, z3⟩))))
theorem rb_l311 {post : Int32 → St0 → Prop} {mc ms kc ks : Nat} {p q f z r : Int32} {w b : Int32} {a1 a2 a3 a4 a5 a6 a7 a8 a9 a10 a11 a12 : Nat → Int32} (hp : post 1 ()) (hs : rb_sg a1) (hl : ¬ a1 19 ≤ a1 19 - 1) (hf : a1 19 = f) (hr : r = z) : wL_lawOf_311 post mc ms p q f z r kc ks w b a1 a2 a3 a4 a5 a6 a7 a8 a9 a10 a11 a12 :=
  br_t hr (br_c (fun z => rb_l346 hp hs hl hf (Or.inl ⟨rfl, fun t => t.1 z⟩)) (fun z1 => br_c (fun z => rb_l346 hp hs hl hf (Or.inl ⟨rfl, fun t => t.2.1 z⟩)) (fun z2 => br_c (fun z => rb_l346 hp hs hl hf (Or.inl ⟨rfl, fun t => t.2.2 z⟩)) (fun z3 => rb_l346 hp hs hl hf (Or.inr ⟨rfl, z1, z2, z3⟩)))))
theorem rb_l290 {post : Int32 → St0 → Prop} {mc ms kc ks : Nat} {x y p q f z : Int32} {w b : Int32} {a1 a2 a3 a4 a5 a6 a7 a8 a9 a10 a11 a12 : Nat → Int32} (hp : post 1 ()) (hs : rb_sg a1) (hl : ¬ a1 19 ≤ a1 19 - 1) (hf : a1 19 = f) (hz : rb_fl z (rb_inp x ∧ rb_inp y)) : wL_lawOf_290 post mc ms x y p q z f kc ks w b a1 a2 a3 a4 a5 a6 a7 a8 a9 a10 a11 a12 := by
  unfold wL_lawOf_290
  refine rb_result hs (fun h s => ?_) (fun h => ?_)
  · rcases hz with ⟨_, n⟩ | ⟨e, _⟩
    · exact absurd h n
    · exact br_f (by rw [e]; decide) (rb_l311 hp hs hl hf hf)
  · rcases hz with ⟨e, _⟩ | ⟨_, n⟩
    · exact br_t e (rb_l311 hp hs hl hf rfl)
    · exact absurd n h
theorem rb_l273 {post : Int32 → St0 → Prop} {mc ms kc ks : Nat} {pl x y p q h z c r : Int32} {w b : Int32} {a1 a2 a3 a4 a5 a6 a7 a8 a9 a10 a11 a12 : Nat → Int32} (hp : post 1 ()) (hs : rb_sg a1) (hl : ¬ a1 19 ≤ a1 19 - 1) (hf1 : pl = 19 → a1 19 = h) (hf0 : ¬ pl = 19 → a1 19 = 0) (hz : rb_fl z (rb_inp x ∧ rb_inp y)) (hr : r = c) : wL_lawOf_273 post mc ms pl x y p q h z c r kc ks w b a1 a2 a3 a4 a5 a6 a7 a8 a9 a10 a11 a12 :=
  br_t hr (br_c (fun e => rb_l290 hp hs hl (hf1 e) hz) (fun e => rb_l290 hp hs hl (hf0 e) hz))
theorem rb_l242 {post : Int32 → St0 → Prop} {mc ms kc ks : Nat} {pl x y p q h z t : Int32} {w b : Int32} {a1 a2 a3 a4 a5 a6 a7 a8 a9 a10 a11 a12 : Nat → Int32} (hp : post 1 ()) (hs : rb_sg a1) (hl : ¬ a1 19 ≤ a1 19 - 1) (hf1 : pl = 19 → a1 19 = h) (hf0 : ¬ pl = 19 → a1 19 = 0) (hz : rb_fl z (rb_inp x ∧ rb_inp y)) (ht : rb_U a1 x y 0 = t) : wL_lawOf_242 post mc ms pl x y p q h z t kc ks w b a1 a2 a3 a4 a5 a6 a7 a8 a9 a10 a11 a12 := by
  unfold wL_lawOf_242
  have hz' := hz
  refine rb_unit hs (fun g s => ?_) (fun g => ?_)
  · rw [ht]
    rcases hz with ⟨_, n⟩ | ⟨e, _⟩
    · exact absurd g n
    · have e0 : ¬ z = 0 := by
        rw [e]
        decide
      exact ⟨fun c => br_f e0 (br_t c (rb_l273 hp hs hl hf1 hf0 hz' rfl)), fun c => br_f e0 (br_f c (rb_l273 hp hs hl hf1 hf0 hz' rfl))⟩
  · rcases hz with ⟨e, _⟩ | ⟨_, n⟩
    · exact br_t e (rb_l273 hp hs hl hf1 hf0 hz' rfl)
    · exact absurd n g
/-- what the state must hold after set: place pl holds h, all else is 0 -/
def rb_ok (a1 : Nat → Int32) (pl h : Int32) : Prop :=
  rb_sg a1 ∧ ¬ a1 19 ≤ a1 19 - 1 ∧ (pl = 19 → a1 19 = h) ∧ (¬ pl = 19 → a1 19 = 0) ∧ (pl = 0 → ∀ x y, rb_U a1 x y 0 = h * x) ∧ (pl = 1 → ∀ x y, rb_U a1 x y 0 = h * y) ∧ (pl = 6 → ∀ x y, rb_U a1 x y 0 = h) ∧ (¬ pl = 0 → ¬ pl = 1 → ¬ pl = 6 → ∀ x y, rb_U a1 x y 0 = 0)
theorem rb_l205 {post : Int32 → St0 → Prop} {mc ms kc ks : Nat} {pl x y p q h z : Int32} {w b : Int32} {a1 a2 a3 a4 a5 a6 a7 a8 a9 a10 a11 a12 : Nat → Int32} (hp : post 1 ()) (hk : rb_ok a1 pl h) (hz : rb_fl z (rb_inp x ∧ rb_inp y)) : wL_lawOf_205 post mc ms pl x y p q h z kc ks w b a1 a2 a3 a4 a5 a6 a7 a8 a9 a10 a11 a12 := by
  obtain ⟨hs, hl, hf1, hf0, u0, u1, u6, un⟩ := hk
  exact br_c (fun e => rb_l242 hp hs hl hf1 hf0 hz (u0 e x y)) (fun n0 => br_c (fun e => rb_l242 hp hs hl hf1 hf0 hz (u1 e x y)) (fun n1 => br_c (fun e => rb_l242 hp hs hl hf1 hf0 hz (u6 e x y)) (fun n6 => rb_l242 hp hs hl hf1 hf0 hz (un n0 n1 n6 x y))))
theorem rb_l171 {post : Int32 → St0 → Prop} {mc ms kc ks : Nat} {pl x y p q h c r : Int32} {w b : Int32} {a1 a2 a3 a4 a5 a6 a7 a8 a9 a10 a11 a12 : Nat → Int32} (hp : post 1 ()) (hk : rb_ok a1 pl h) (hr : r = c) : wL_lawOf_171 post mc ms pl x y p q h c r kc ks w b a1 a2 a3 a4 a5 a6 a7 a8 a9 a10 a11 a12 :=
  br_t hr (br_c (fun z => rb_l205 hp hk (Or.inl ⟨rfl, fun t => t.1.1 z⟩)) (fun z1 => br_c (fun z => rb_l205 hp hk (Or.inl ⟨rfl, fun t => t.1.2 z⟩)) (fun z2 => br_c (fun z => rb_l205 hp hk (Or.inl ⟨rfl, fun t => t.2.1 z⟩)) (fun z3 => br_c (fun z => rb_l205 hp hk (Or.inl ⟨rfl, fun t => t.2.2 z⟩)) (fun z4 => rb_l205 hp hk (Or.inr ⟨rfl, ⟨z1, z2⟩, z3, z4⟩))))))
theorem rb_l150 {post : Int32 → St0 → Prop} {mc ms kc ks : Nat} {pl x y p q h g : Int32} {w b : Int32} {a1 a2 a3 a4 a5 a6 a7 a8 a9 a10 a11 a12 : Nat → Int32} (hp : post 1 ()) (hk : rb_ok a1 pl h) (hg : rb_fl g (rb_gp pl)) (hh : ∀ j : Nat, j < 20 → pl = nI j → a1 j = h) : wL_lawOf_150 post mc ms pl x y p q g h kc ks w b a1 a2 a3 a4 a5 a6 a7 a8 a9 a10 a11 a12 := by
  unfold wL_lawOf_150
  refine rb_get (fun n => ?_) (fun n j hj e => ?_)
  · rcases hg with ⟨e, _⟩ | ⟨_, t⟩
    · exact br_t e (rb_l171 hp hk rfl)
    · exact absurd t n
  · rcases hg with ⟨_, t⟩ | ⟨e1, _⟩
    · exact absurd n t
    · exact br_f (by rw [e1]; decide) (rb_l171 hp hk (hh j hj e))
theorem rb_ok0 (pl : Int32) : rb_ok (fun _ => 0) pl 0 := by
  have u : ∀ x y, rb_U (fun _ => 0) x y 0 = 0 := by
    intro x y
    show (0 : Int32) * x + 0 * y + 0 = 0
    rw [Int32.zero_mul, Int32.zero_mul, Int32.add_zero, Int32.add_zero]
  refine ⟨rb_sg0, by decide, fun _ => rfl, fun _ => rfl, fun _ x y => ?_, fun _ x y => ?_, fun _ => u, fun _ _ _ => u⟩
  · rw [u, Int32.zero_mul]
  · rw [u, Int32.zero_mul]
theorem rb_vm5 {v : Int32} (h : ¬ v < -50) : ¬ v ≤ v - 1 := by
  rw [Int32.lt_iff_toInt_lt, show (-50 : Int32).toInt = -50 by decide] at h
  have h2 : v.toInt < 2 ^ 31 := v.toInt_lt
  rw [Int32.le_iff_toInt_le, Int32.toInt_sub, show (1 : Int32).toInt = 1 by decide, Int.bmod_eq_of_le_mul_two (by omega) (by omega)]
  omega
theorem rb_vm {v m : Int32} (hv : rb_gv m v) (hm : m = 5 ∨ m = 50) : ¬ v ≤ v - 1 := by
  rcases hm with e | e
  · refine rb_vm5 (fun t => hv.1 ?_)
    rw [e]
    rw [Int32.lt_iff_toInt_lt, show (-50 : Int32).toInt = -50 by decide] at t
    rw [Int32.lt_iff_toInt_lt, show (-5 : Int32).toInt = -5 by decide]
    omega
  · rw [e] at hv
    exact rb_vm5 hv.1
theorem rb_okU {j : Nat} (hj : j < 20) {v m : Int32} (hv : rb_gv m v) (hm : m = 5 ∨ m = 50) : rb_ok (upd (fun _ => 0) j v) (nI j) v := by
  have e0 : nI j = 0 ↔ j = 0 := nI_eq (b := 0) (by omega) (by omega)
  have e1 : nI j = 1 ↔ j = 1 := nI_eq (b := 1) (by omega) (by omega)
  have e6 : nI j = 6 ↔ j = 6 := nI_eq (b := 6) (by omega) (by omega)
  have e19 : nI j = 19 ↔ j = 19 := nI_eq (b := 19) (by omega) (by omega)
  have hb : ¬ v ≤ v - 1 := rb_vm hv hm
  have z : ∀ i, i ≠ j → upd (fun _ => 0) j v i = 0 := fun i n => pk_un n
  unfold rb_ok rb_U
  rw [e0, e1, e6, e19]
  refine ⟨rb_sgU j v, ?_, fun e => ?_, fun e => z 19 (by omega), fun e x y => ?_, fun e x y => ?_, fun e x y => ?_, fun n0 n1 n6 x y => ?_⟩
  · by_cases e : j = 19
    · rw [e, pk_us]
      exact hb
    · rw [z 19 (by omega)]
      decide
  · rw [e, pk_us]
  · rw [z (2 * 0 + 1) (by omega), z (6 + 0) (by omega), e, show 2 * 0 = 0 from rfl, pk_us, Int32.zero_mul, Int32.add_zero, Int32.add_zero]
  · rw [z (2 * 0) (by omega), z (6 + 0) (by omega), e, show 2 * 0 + 1 = 1 from rfl, pk_us, Int32.zero_mul, Int32.zero_add, Int32.add_zero]
  · rw [z (2 * 0) (by omega), z (2 * 0 + 1) (by omega), e, show 6 + 0 = 6 from rfl, pk_us, Int32.zero_mul, Int32.zero_mul, Int32.zero_add, Int32.zero_add]
  · rw [z (2 * 0) (by omega), z (2 * 0 + 1) (by omega), z (6 + 0) (by omega), Int32.zero_mul, Int32.zero_mul, Int32.add_zero, Int32.add_zero]
theorem rb_l130 {post : Int32 → St0 → Prop} {mc ms kc ks : Nat} {pl v x y p q g gv c r : Int32} {w b : Int32} {a1 a2 a3 a4 a5 a6 a7 a8 a9 a10 a11 a12 : Nat → Int32} (hp : post 1 ()) (hr : r = c) (hg : rb_fl g (rb_gp pl)) (H0 : g = 0 ∨ gv = 0 → rb_ok a1 pl 0 ∧ ∀ j : Nat, j < 20 → pl = nI j → a1 j = 0) (H1 : ¬ g = 0 → ¬ gv = 0 → rb_ok a1 pl v ∧ ∀ j : Nat, j < 20 → pl = nI j → a1 j = v) : wL_lawOf_130 post mc ms pl v x y p q g gv c r kc ks w b a1 a2 a3 a4 a5 a6 a7 a8 a9 a10 a11 a12 :=
  br_t hr (br_c (fun e => rb_l150 hp (H0 (Or.inl e)).1 hg (H0 (Or.inl e)).2) (fun n => br_c (fun e => rb_l150 hp (H0 (Or.inr e)).1 hg (H0 (Or.inr e)).2) (fun n2 => rb_l150 hp (H1 n n2).1 hg (H1 n n2).2)))
theorem rb_l93 {post : Int32 → St0 → Prop} {mc ms kc ks : Nat} {pl v x y p q g gv m : Int32} {w b : Int32} {a1 a2 a3 a4 a5 a6 a7 a8 a9 a10 a11 a12 : Nat → Int32} (hp : post 1 ()) (ha : a1 = fun _ => 0) (hm : (rb_off pl ∧ m = 50) ∨ (¬ rb_off pl ∧ m = 5)) (hg : rb_fl g (rb_gp pl)) (hv : rb_fl gv (rb_gv m v)) : wL_lawOf_93 post mc ms pl v x y p q g gv kc ks w b a1 a2 a3 a4 a5 a6 a7 a8 a9 a10 a11 a12 := by
  subst ha
  unfold wL_lawOf_93
  have g1 : rb_gp pl → ¬ g = 0 := by
    intro h
    rcases hg with ⟨_, n⟩ | ⟨e, _⟩
    · exact absurd h n
    · rw [e]
      decide
  have g0 : ¬ rb_gp pl → g = 0 := by
    intro h
    rcases hg with ⟨e, _⟩ | ⟨_, n⟩
    · exact e
    · exact absurd n h
  have v1 : rb_gv m v → ¬ gv = 0 := by
    intro h
    rcases hv with ⟨_, n⟩ | ⟨e, _⟩
    · exact absurd h n
    · rw [e]
      decide
  have v0 : ¬ rb_gv m v → gv = 0 := by
    intro h
    rcases hv with ⟨e, _⟩ | ⟨_, n⟩
    · exact e
    · exact absurd n h
  refine rb_set (fun _ => rfl) hm (fun n => ?_) (fun n n2 => ?_) (fun j hj e n2 => ?_)
  · exact br_t (g0 n) (rb_l130 hp rfl hg (fun _ => ⟨rb_ok0 pl, fun _ _ _ => rfl⟩) (fun t => absurd (g0 n) t))
  · exact br_f (g1 n) (br_t (v0 n2) (rb_l130 hp rfl hg (fun _ => ⟨rb_ok0 pl, fun _ _ _ => rfl⟩) (fun _ t => absurd (v0 n2) t)))
  · have hpl : rb_gp pl := by
      rw [e]
      exact ⟨nI_pos (by omega), nI_nlt (a := 19) (b := j) (by omega) (by omega)⟩
    have hk : rb_ok (upd (fun _ => 0) j v) pl v := by
      rw [e]
      exact rb_okU hj n2 (hm.elim (fun t => Or.inr t.2) (fun t => Or.inl t.2))
    have hh : ∀ i : Nat, i < 20 → pl = nI i → upd (fun _ => 0) j v i = v := by
      intro i hi e2
      rw [e] at e2
      have : j = i := (nI_eq (by omega) (by omega)).mp e2
      rw [← this, pk_us]
    have K0 : g = 0 ∨ gv = 0 → rb_ok (upd (fun _ => 0) j v) pl 0 ∧ ∀ i : Nat, i < 20 → pl = nI i → upd (fun _ => 0) j v i = 0 := by
      intro t
      rcases t with t | t
      · exact absurd t (g1 hpl)
      · exact absurd t (v1 n2)
    exact ⟨fun c => br_f (g1 hpl) (br_f (v1 n2) (br_t c (rb_l130 hp rfl hg K0 (fun _ _ => ⟨hk, hh⟩)))), fun c => br_f (g1 hpl) (br_f (v1 n2) (br_f c (rb_l130 hp rfl hg K0 (fun _ _ => ⟨hk, hh⟩))))⟩
theorem rb_l73 {post : Int32 → St0 → Prop} {mc ms kc ks : Nat} {pl v x y p q g m : Int32} {w b : Int32} {a1 a2 a3 a4 a5 a6 a7 a8 a9 a10 a11 a12 : Nat → Int32} (hp : post 1 ()) (ha : a1 = fun _ => 0) (hm : (rb_off pl ∧ m = 50) ∨ (¬ rb_off pl ∧ m = 5)) (hg : rb_fl g (rb_gp pl)) : wL_lawOf_73 post mc ms pl v x y p q g m kc ks w b a1 a2 a3 a4 a5 a6 a7 a8 a9 a10 a11 a12 :=
  br_c (fun z => rb_l93 hp ha hm hg (Or.inl ⟨rfl, fun t => t.1 z⟩)) (fun z1 => br_c (fun z => rb_l93 hp ha hm hg (Or.inl ⟨rfl, fun t => t.2 z⟩)) (fun z2 => rb_l93 hp ha hm hg (Or.inr ⟨rfl, z1, z2⟩)))
theorem rb_l55 {post : Int32 → St0 → Prop} {mc ms kc ks : Nat} {pl v x y p q g : Int32} {w b : Int32} {a1 a2 a3 a4 a5 a6 a7 a8 a9 a10 a11 a12 : Nat → Int32} (hp : post 1 ()) (ha : a1 = fun _ => 0) (hm : rb_off pl) (hg : rb_fl g (rb_gp pl)) : wL_lawOf_55 post mc ms pl v x y p q g kc ks w b a1 a2 a3 a4 a5 a6 a7 a8 a9 a10 a11 a12 :=
  br_f (c := (1 : Int32) = 0) (by decide) (rb_l73 hp ha (Or.inl ⟨hm, rfl⟩) hg)
theorem rb_l60 {post : Int32 → St0 → Prop} {mc ms kc ks : Nat} {pl v x y p q g : Int32} {w b : Int32} {a1 a2 a3 a4 a5 a6 a7 a8 a9 a10 a11 a12 : Nat → Int32} (hp : post 1 ()) (ha : a1 = fun _ => 0) (hm : ¬ rb_off pl) (hg : rb_fl g (rb_gp pl)) : wL_lawOf_60 post mc ms pl v x y p q g 0 kc ks w b a1 a2 a3 a4 a5 a6 a7 a8 a9 a10 a11 a12 :=
  br_t rfl (rb_l73 hp ha (Or.inr ⟨hm, rfl⟩) hg)
theorem rb_l37 {post : Int32 → St0 → Prop} {mc ms kc ks : Nat} {pl v x y p q g : Int32} {w b : Int32} {a1 a2 a3 a4 a5 a6 a7 a8 a9 a10 a11 a12 : Nat → Int32} (hp : post 1 ()) (ha : a1 = fun _ => 0) (n : ¬ (¬ pl ≤ 5 ∧ pl < 9)) (hg : rb_fl g (rb_gp pl)) : wL_lawOf_37 post mc ms pl v x y p q g kc ks w b a1 a2 a3 a4 a5 a6 a7 a8 a9 a10 a11 a12 :=
  br_c (fun e => rb_l55 hp ha (Or.inr (Or.inl e)) hg) (fun n1 => br_c (fun e => rb_l55 hp ha (Or.inr (Or.inr (Or.inl e))) hg) (fun n2 => br_c (fun e => rb_l55 hp ha (Or.inr (Or.inr (Or.inr e))) hg) (fun n3 => rb_l60 hp ha (fun t => t.elim n (fun t => t.elim n1 (fun t => t.elim n2 n3))) hg)))
theorem rb_l24 {post : Int32 → St0 → Prop} {mc ms kc ks : Nat} {pl v x y p q g : Int32} {w b : Int32} {a1 a2 a3 a4 a5 a6 a7 a8 a9 a10 a11 a12 : Nat → Int32} (hp : post 1 ()) (ha : a1 = fun _ => 0) (hg : rb_fl g (rb_gp pl)) : wL_lawOf_24 post mc ms pl v x y p q g kc ks w b a1 a2 a3 a4 a5 a6 a7 a8 a9 a10 a11 a12 :=
  br_c (fun e => rb_l37 hp ha (fun t => t.1 e) hg) (fun n1 => br_c (fun e => rb_l55 hp ha (Or.inl ⟨n1, e⟩) hg) (fun n2 => rb_l37 hp ha (fun t => n2 t.2) hg))
theorem rb_lawOf {post : Int32 → St0 → Prop} {pl v x y p q : Int32} (hp : post 1 ()) : wpL_lawOf post 13 140 () pl v x y p q := by
  refine ⟨by omega, by omega, 12, 126, by omega, by omega, ?_⟩
  unfold wpX_init
  refine ⟨by omega, by omega, by omega, by omega, by omega, by omega, by omega, by omega, by omega, by omega, by omega, by omega, by omega, by omega, by omega, by omega, by omega, by omega, by omega, by omega, by omega, by omega, by omega, by omega, ?_⟩
  exact br_c (fun z => rb_l24 hp rfl (Or.inl ⟨rfl, fun t => t.1 z⟩)) (fun z1 => br_c (fun z => rb_l24 hp rfl (Or.inl ⟨rfl, fun t => t.2 z⟩)) (fun z2 => rb_l24 hp rfl (Or.inr ⟨rfl, z1, z2⟩)))
end
section
theorem rb_cell {post : Int32 → Prop} {L : Nat} {xs : Nat → Int32} {k : Nat} (hL : L ≤ 6) (hk : k < 100) (H : ∀ r, post r) : wpL_cellAt post L xs () (nI k) :=
  pk_le L k (fun _ => H _) (fun z => ⟨pk_in k L z, H _⟩)
theorem i_vc (xs : Nat → Int32) (L : Nat) (hL : L ≤ 6) : wpL_law (fun r => r = 1) L xs :=
  rb_cell (k := 0) hL (by omega) (fun _ => rb_cell (k := 1) hL (by omega) (fun _ => rb_cell (k := 2) hL (by omega) (fun _ => rb_cell (k := 3) hL (by omega) (fun _ => rb_cell (k := 4) hL (by omega) (fun _ => rb_cell (k := 5) hL (by omega) (fun _ => ⟨13, 140, by omega, by omega, rb_lawOf rfl⟩))))))
end
