section
/-! ints: rl_I z is z as an Int32; sums and products pass through it, comparisons where both are small -/
def rl_I (z : Int) : Int32 := Int32.ofInt z
theorem rl_nI (n : Nat) : nI n = rl_I (n : Int) := Int32.ofInt_eq_ofNat.symm
theorem rl_add (a b : Int) : rl_I a + rl_I b = rl_I (a + b) := (Int32.ofInt_add a b).symm
theorem rl_sub (a b : Int) : rl_I a - rl_I b = rl_I (a - b) := (Int32.ofInt_sub a b).symm
theorem rl_mul (a b : Int) : rl_I a * rl_I b = rl_I (a * b) := (Int32.ofInt_mul a b).symm
theorem rl_toI {z : Int} (h : -2000000000 ≤ z ∧ z ≤ 2000000000) : (rl_I z).toInt = z := Int32.toInt_ofInt_of_le (by omega) (by omega)
theorem rl_leI {a b : Int} (ha : -2000000000 ≤ a ∧ a ≤ 2000000000) (hb : -2000000000 ≤ b ∧ b ≤ 2000000000) : rl_I a ≤ rl_I b ↔ a ≤ b := by
  rw [Int32.le_iff_toInt_le, rl_toI ha, rl_toI hb]
theorem rl_ltI {a b : Int} (ha : -2000000000 ≤ a ∧ a ≤ 2000000000) (hb : -2000000000 ≤ b ∧ b ≤ 2000000000) : rl_I a < rl_I b ↔ a < b := by
  rw [Int32.lt_iff_toInt_lt, rl_toI ha, rl_toI hb]
theorem rl_eqI {a b : Int} (ha : -2000000000 ≤ a ∧ a ≤ 2000000000) (hb : -2000000000 ≤ b ∧ b ≤ 2000000000) : rl_I a = rl_I b ↔ a = b := by
  rw [← Int32.toInt_inj, rl_toI ha, rl_toI hb]
theorem rl_le {x y : Int32} {A B : Prop} (a b : Int) (f : a ≤ b → A) (g : b < a → B) (hx : x = rl_I a := by rfl) (hy : y = rl_I b := by rfl) (ha : -2000000000 ≤ a ∧ a ≤ 2000000000 := by omega) (hb : -2000000000 ≤ b ∧ b ≤ 2000000000 := by omega) : (x ≤ y → A) ∧ (¬ x ≤ y → B) := by
  subst hx hy
  rw [rl_leI ha hb]
  exact ⟨f, fun z => g (by omega)⟩
theorem rl_lt {x y : Int32} {A B : Prop} (a b : Int) (f : a < b → A) (g : b ≤ a → B) (hx : x = rl_I a := by rfl) (hy : y = rl_I b := by rfl) (ha : -2000000000 ≤ a ∧ a ≤ 2000000000 := by omega) (hb : -2000000000 ≤ b ∧ b ≤ 2000000000 := by omega) : (x < y → A) ∧ (¬ x < y → B) := by
  subst hx hy
  rw [rl_ltI ha hb]
  exact ⟨f, fun z => g (by omega)⟩
theorem rl_eq {x y : Int32} {A B : Prop} (a b : Int) (f : a = b → A) (g : a ≠ b → B) (hx : x = rl_I a := by rfl) (hy : y = rl_I b := by rfl) (ha : -2000000000 ≤ a ∧ a ≤ 2000000000 := by omega) (hb : -2000000000 ≤ b ∧ b ≤ 2000000000 := by omega) : (x = y → A) ∧ (¬ x = y → B) := by
  subst hx hy
  rw [rl_eqI ha hb]
  exact ⟨f, g⟩
theorem rl_div {a b : Int} (ha : 0 ≤ a ∧ a ≤ 2000000000) (hb : 0 < b ∧ b ≤ 2000000000) : rl_I a / rl_I b = rl_I (a / b) := by
  apply Int32.toInt_inj.mp
  have h1 : 0 ≤ a / b := Int.ediv_nonneg ha.1 (by omega)
  have h2 : a / b ≤ a := Int.ediv_le_self b ha.1
  rw [lg_idiv_nonneg (by rw [rl_toI (by omega)]; omega) (by rw [rl_toI (by omega)]; omega), rl_toI (by omega), rl_toI (by omega), rl_toI (by omega)]
theorem rl_0 : (0 : Int32) = rl_I 0 := by rfl
theorem rl_1 : (1 : Int32) = rl_I 1 := by rfl
theorem rl_nil {x : Int32} {z : Int} (h : x = rl_I z) (hz : -2000000000 ≤ z ∧ z ≤ 2000000000) (h0 : z ≠ 0) : ¬ x = 0 := by
  rw [h, rl_0, rl_eqI hz (by omega)]
  exact h0
theorem rl_uself {α : Type} (p : Nat → α) (m : Nat) (x : α) (h : p m = x) : va_up p m x = p := by
  funext j
  by_cases e : j = m
  · rw [e, va_up_self, h]
  · rw [va_up_ne p x e]
/-- products of small numbers -/
theorem rl_pb {a b : Int} (ha : 0 ≤ a) {A : Int} (hA : a ≤ A) (hb : 0 ≤ b) {B : Int} (hB : b ≤ B) : 0 ≤ a * b ∧ a * b ≤ A * B :=
  ⟨Int.mul_nonneg ha hb, Int.mul_le_mul hA hB hb (by omega)⟩
end
section
/-! the picture of a meter: kind, rate, burst, span, granted, tokens, filled, due, the queue of (time, cost) -/
abbrev rl_P : Type := Int × Int × Int × Int × Int × Int × Int × Int × List (Int × Int)
def rl_sum : List (Int × Int) → Int
  | [] => 0
  | e :: q => e.2 + rl_sum q
/-- times rise from lo up to t, each cost is 1 to 20 -/
def rl_ok (t : Int) : Int → List (Int × Int) → Prop
  | _, [] => True
  | lo, e :: q => (lo ≤ e.1 ∧ e.1 ≤ t) ∧ (1 ≤ e.2 ∧ e.2 ≤ 20) ∧ rl_ok t e.1 q
def rl_cuT (t r b T F : Int) : Int := if b ≤ T + r * (t - F) then b else T + r * (t - F)
def rl_cuQ (t s : Int) : List (Int × Int) → List (Int × Int)
  | [] => []
  | e :: q => if e.1 ≤ t - s then rl_cuQ t s q else e :: q
def rl_base (t D : Int) : Int := if D ≤ t then t else D
def rl_cu (t : Int) (x : rl_P) : rl_P := match x with
  | (k, r, b, s, g, T, F, D, q) => (k, r, b, s, g, rl_cuT t r b T F, t, D, rl_cuQ t s q)
def rl_room (t : Int) (x : rl_P) : Int := match x with
  | (k, r, b, s, g, T, F, D, q) => if k = 0 then T else if k = 1 then b - rl_sum q else (b * s - (rl_base t D - t)) / s
def rl_gr (t c : Int) (x : rl_P) : rl_P := match x with
  | (k, r, b, s, g, T, F, D, q) => if k = 0 then (k, r, b, s, g + c, T - c, F, D, q) else if k = 1 then (k, r, b, s, g + c, T, F, D, q ++ [(t, c)]) else (k, r, b, s, g + c, T, F, rl_base t D + c * s, q)
def rl_lw (s t : Int) : Int → Int → List (Int × Int) → Int
  | _, w, [] => w
  | o, w, e :: q => if o ≤ 0 then w else rl_lw s t (o - e.2) (e.1 + s - t) q
def rl_wait (t c : Int) (x : rl_P) : Int := match x with
  | (k, r, b, s, g, T, F, D, q) => if c ≤ rl_room t (k, r, b, s, g, T, F, D, q) then 0 else if k = 1 then rl_lw s t (rl_sum q + c - b) 0 q else if k = 0 then (c - T + r - 1) / r else D + (c - b) * s - t
def rl_W (t : Int) (x : rl_P) : Prop := match x with
  | (k, r, b, s, g, T, F, D, q) => (0 ≤ k ∧ k ≤ 2) ∧ (1 ≤ r ∧ r ≤ 5) ∧ (1 ≤ b ∧ b ≤ 30) ∧ (1 ≤ s ∧ s ≤ 10) ∧ (0 ≤ T ∧ T ≤ b) ∧ (0 ≤ F ∧ F ≤ t ∧ t ≤ 100000) ∧ (-1000000 ≤ D ∧ D ≤ t + b * s) ∧ rl_ok t 0 q ∧ rl_sum q ≤ b ∧ 0 ≤ g ∧ (k = 0 → g + T ≤ b + r * F)
/-- what never changes, and what was granted -/
def rl_c (x : rl_P) : Int × Int × Int := (x.1, x.2.1, x.2.2.1)
def rl_g (x : rl_P) : Int := x.2.2.2.2.1
def rl_b (x : rl_P) : Int := x.2.2.1
theorem rl_cu_c (t : Int) (x : rl_P) : rl_c (rl_cu t x) = rl_c x := by
  obtain ⟨k, r, b, s, g, T, F, D, q⟩ := x
  rfl
theorem rl_cu_g (t : Int) (x : rl_P) : rl_g (rl_cu t x) = rl_g x := by
  obtain ⟨k, r, b, s, g, T, F, D, q⟩ := x
  rfl
theorem rl_cu_b (t : Int) (x : rl_P) : rl_b (rl_cu t x) = rl_b x := by
  obtain ⟨k, r, b, s, g, T, F, D, q⟩ := x
  rfl
theorem rl_gr_c (t c : Int) (x : rl_P) : rl_c (rl_gr t c x) = rl_c x := by
  obtain ⟨k, r, b, s, g, T, F, D, q⟩ := x
  unfold rl_gr
  dsimp only
  split
  · rfl
  · split <;> rfl
theorem rl_gr_g (t c : Int) (x : rl_P) : rl_g (rl_gr t c x) = rl_g x + c := by
  obtain ⟨k, r, b, s, g, T, F, D, q⟩ := x
  unfold rl_gr
  dsimp only
  split
  · rfl
  · split <;> rfl
/-! the queue -/
theorem rl_ok_lo {t : Int} {q : List (Int × Int)} {lo lo' : Int} (h : rl_ok t lo q) (hl : lo' ≤ lo) : rl_ok t lo' q := by
  cases q with
  | nil => trivial
  | cons e q =>
    obtain ⟨h1, h2, h3⟩ := h
    exact ⟨⟨by omega, h1.2⟩, h2, h3⟩
theorem rl_ok_t {t t' : Int} (ht : t ≤ t') : ∀ {q : List (Int × Int)} {lo : Int}, rl_ok t lo q → rl_ok t' lo q := by
  intro q
  induction q with
  | nil => intro lo _; trivial
  | cons e q ih =>
    intro lo h
    obtain ⟨h1, h2, h3⟩ := h
    exact ⟨⟨h1.1, by omega⟩, h2, ih h3⟩
theorem rl_ok_cu {t s : Int} : ∀ {q : List (Int × Int)} {lo : Int}, rl_ok t lo q → rl_ok t lo (rl_cuQ t s q) := by
  intro q
  induction q with
  | nil => intro lo _; trivial
  | cons e q ih =>
    intro lo h
    unfold rl_cuQ
    obtain ⟨h1, h2, h3⟩ := h
    split
    · exact rl_ok_lo (ih h3) h1.1
    · exact ⟨h1, h2, h3⟩
theorem rl_ok_new {t s : Int} : ∀ {q : List (Int × Int)} {lo : Int}, rl_ok t lo q → rl_ok t (t - s + 1) (rl_cuQ t s q) := by
  intro q
  induction q with
  | nil => intro lo _; trivial
  | cons e q ih =>
    intro lo h
    unfold rl_cuQ
    obtain ⟨h1, h2, h3⟩ := h
    split
    · exact ih h3
    · exact ⟨⟨by omega, h1.2⟩, h2, h3⟩
theorem rl_cuQ2 (t s : Int) (q : List (Int × Int)) : rl_cuQ t s (rl_cuQ t s q) = rl_cuQ t s q := by
  induction q with
  | nil => rfl
  | cons e q ih =>
    by_cases h : e.1 ≤ t - s
    · have h1 : rl_cuQ t s (e :: q) = rl_cuQ t s q := by
        conv => lhs; unfold rl_cuQ
        rw [if_pos h]
      rw [h1, ih]
    · have h1 : rl_cuQ t s (e :: q) = e :: q := by
        conv => lhs; unfold rl_cuQ
        rw [if_neg h]
      rw [h1, h1]
theorem rl_len {t : Int} : ∀ {q : List (Int × Int)} {lo : Int}, rl_ok t lo q → (q.length : Int) ≤ rl_sum q := by
  intro q
  induction q with
  | nil => intro lo _; exact Int.le_refl 0
  | cons e q ih =>
    intro lo h
    obtain ⟨h1, h2, h3⟩ := h
    have := ih h3
    unfold rl_sum
    rw [List.length_cons]
    omega
theorem rl_sum_cu {t t' s : Int} : ∀ {q : List (Int × Int)} {lo : Int}, rl_ok t lo q → rl_sum (rl_cuQ t' s q) ≤ rl_sum q := by
  intro q
  induction q with
  | nil => intro lo _; exact Int.le_refl 0
  | cons e q ih =>
    intro lo h
    obtain ⟨h1, h2, h3⟩ := h
    have h4 := ih h3
    have h5 : rl_sum (e :: q) = e.2 + rl_sum q := rfl
    unfold rl_cuQ
    split
    · omega
    · exact Int.le_refl _
theorem rl_sum_app (q : List (Int × Int)) (e : Int × Int) : rl_sum (q ++ [e]) = rl_sum q + e.2 := by
  induction q with
  | nil =>
    show e.2 + 0 = 0 + e.2
    omega
  | cons f q ih =>
    show f.2 + rl_sum (q ++ [e]) = f.2 + rl_sum q + e.2
    rw [ih]
    omega
theorem rl_ok_app {t c : Int} (hc : 1 ≤ c ∧ c ≤ 20) : ∀ {q : List (Int × Int)} {lo : Int}, lo ≤ t → rl_ok t lo q → rl_ok t lo (q ++ [(t, c)]) := by
  intro q
  induction q with
  | nil => intro lo hl _; exact ⟨⟨hl, Int.le_refl t⟩, hc, trivial⟩
  | cons e q ih =>
    intro lo hl h
    obtain ⟨h1, h2, h3⟩ := h
    exact ⟨h1, h2, ih h1.2 h3⟩
/-! how long a log has to wait -/
theorem rl_lw_ge {s t : Int} : ∀ {q : List (Int × Int)} {lo o w : Int}, rl_ok t lo q → w ≤ lo + s - t → w ≤ rl_lw s t o w q := by
  intro q
  induction q with
  | nil => intro lo o w _ _; exact Int.le_refl w
  | cons e q ih =>
    intro lo o w h hw
    obtain ⟨h1, h2, h3⟩ := h
    unfold rl_lw
    split
    · exact Int.le_refl w
    · have := ih (o := o - e.2) (w := e.1 + s - t) h3 (Int.le_refl _)
      omega
theorem rl_lw_le {s t : Int} : ∀ {q : List (Int × Int)} {lo o w : Int}, rl_ok t lo q → w ≤ s → rl_lw s t o w q ≤ s := by
  intro q
  induction q with
  | nil => intro lo o w _ hw; exact hw
  | cons e q ih =>
    intro lo o w h hw
    obtain ⟨h1, h2, h3⟩ := h
    unfold rl_lw
    split
    · exact hw
    · exact ih h3 (by omega)
theorem rl_lw_sum {s t : Int} : ∀ {q : List (Int × Int)} {lo o w : Int}, rl_ok t lo q → o ≤ rl_sum q → o + rl_sum (rl_cuQ (t + rl_lw s t o w q) s q) ≤ rl_sum q := by
  intro q
  induction q with
  | nil =>
    intro lo o w _ ho
    show o + 0 ≤ 0
    have : o ≤ 0 := ho
    omega
  | cons e q ih =>
    intro lo o w h ho
    by_cases hz : o ≤ 0
    · have := rl_sum_cu (t' := t + rl_lw s t o w (e :: q)) (s := s) h
      omega
    · have h5 : rl_sum (e :: q) = e.2 + rl_sum q := rfl
      obtain ⟨h1, h2, h3⟩ := h
      have e1 : rl_lw s t o w (e :: q) = rl_lw s t (o - e.2) (e.1 + s - t) q := by
        conv => lhs; unfold rl_lw
        rw [if_neg hz]
      have h6 := ih (o := o - e.2) (w := e.1 + s - t) h3 (by omega)
      have h7 := rl_lw_ge (o := o - e.2) (w := e.1 + s - t) h3 (Int.le_refl _)
      have e2 : rl_cuQ (t + rl_lw s t o w (e :: q)) s (e :: q) = rl_cuQ (t + rl_lw s t (o - e.2) (e.1 + s - t) q) s q := by
        rw [e1]
        conv => lhs; unfold rl_cuQ
        rw [if_pos (by omega)]
      rw [e2]
      omega
theorem rl_lw_pos {s t : Int} {q : List (Int × Int)} {o w : Int} (h : rl_ok t (t - s + 1) q) (ho : 0 < o) (hq : o ≤ rl_sum q) : 1 ≤ rl_lw s t o w q := by
  cases q with
  | nil =>
    have : o ≤ 0 := hq
    omega
  | cons e q =>
    obtain ⟨h1, h2, h3⟩ := h
    unfold rl_lw
    rw [if_neg (by omega)]
    have := rl_lw_ge (s := s) (o := o - e.2) (w := e.1 + s - t) h3 (Int.le_refl _)
    omega
end
section
/-! the picture's laws -/
theorem rl_cuT_in {t r b T F : Int} (hr : 1 ≤ r) (hT : 0 ≤ T) (hb : 0 ≤ b) (hF : F ≤ t) : 0 ≤ rl_cuT t r b T F ∧ rl_cuT t r b T F ≤ b ∧ rl_cuT t r b T F ≤ T + r * (t - F) := by
  have h : 0 ≤ r * (t - F) := Int.mul_nonneg (by omega) (by omega)
  unfold rl_cuT
  split <;> omega
theorem rl_cuT_same {t r b T : Int} (hT : T ≤ b) : rl_cuT t r b T t = T := by
  unfold rl_cuT
  rw [Int.sub_self, Int.mul_zero]
  split <;> omega
theorem rl_cu_W {t : Int} {x : rl_P} (h : rl_W t x) : rl_W t (rl_cu t x) := by
  obtain ⟨k, r, b, s, g, T, F, D, q⟩ := x
  obtain ⟨hk, hr, hb, hs, hT, hF, hD, hq, hsum, hg, hv⟩ := h
  have h1 := rl_cuT_in (t := t) (r := r) (b := b) (T := T) (F := F) hr.1 hT.1 (by omega) hF.2.1
  have h2 := rl_sum_cu (t' := t) (s := s) hq
  refine ⟨hk, hr, hb, hs, ⟨h1.1, h1.2.1⟩, ⟨by omega, Int.le_refl t, hF.2.2⟩, hD, rl_ok_cu hq, by omega, hg, fun z => ?_⟩
  have h3 := hv z
  have h4 : r * (t - F) = r * t - r * F := Int.mul_sub r t F
  omega
theorem rl_cu_cu {t : Int} {x : rl_P} (h : rl_W t x) : rl_cu t (rl_cu t x) = rl_cu t x := by
  obtain ⟨k, r, b, s, g, T, F, D, q⟩ := x
  obtain ⟨hk, hr, hb, hs, hT, hF, hD, hq, hsum, hg, hv⟩ := h
  have h1 := rl_cuT_in (t := t) (r := r) (b := b) (T := T) (F := F) hr.1 hT.1 (by omega) hF.2.1
  show (k, r, b, s, g, rl_cuT t r b (rl_cuT t r b T F) t, t, D, rl_cuQ t s (rl_cuQ t s q)) = (k, r, b, s, g, rl_cuT t r b T F, t, D, rl_cuQ t s q)
  rw [rl_cuQ2, rl_cuT_same h1.2.1]
theorem rl_W_t {t t' : Int} {x : rl_P} (h : rl_W t x) (h1 : t ≤ t') (h2 : t' ≤ 100000) : rl_W t' x := by
  obtain ⟨k, r, b, s, g, T, F, D, q⟩ := x
  obtain ⟨hk, hr, hb, hs, hT, hF, hD, hq, hsum, hg, hv⟩ := h
  exact ⟨hk, hr, hb, hs, hT, ⟨hF.1, by omega, h2⟩, ⟨hD.1, by omega⟩, rl_ok_t h1 hq, hsum, hg, hv⟩
theorem rl_base_in {t D : Int} : t ≤ rl_base t D ∧ D ≤ rl_base t D ∧ (rl_base t D = t ∨ rl_base t D = D) := by
  unfold rl_base
  split <;> omega
theorem rl_room_in {t : Int} {x : rl_P} (h : rl_W t x) : 0 ≤ rl_room t x ∧ rl_room t x ≤ rl_b x ∧ rl_b x ≤ 30 := by
  obtain ⟨k, r, b, s, g, T, F, D, q⟩ := x
  obtain ⟨hk, hr, hb, hs, hT, hF, hD, hq, hsum, hg, hv⟩ := h
  have h0 := rl_len hq
  have h1 := rl_base_in (t := t) (D := D)
  have h3 : 0 ≤ b * s := Int.mul_nonneg (by omega) (by omega)
  show 0 ≤ (if k = 0 then T else if k = 1 then b - rl_sum q else (b * s - (rl_base t D - t)) / s) ∧ (if k = 0 then T else if k = 1 then b - rl_sum q else (b * s - (rl_base t D - t)) / s) ≤ b ∧ b ≤ 30
  refine ⟨?_, ?_, hb.2⟩
  · split
    · omega
    · split
      · omega
      · exact Int.ediv_nonneg (by omega) (by omega)
  · split
    · omega
    · split
      · omega
      · have h2 : (b * s - (rl_base t D - t)) / s < b + 1 := by
          rw [Int.ediv_lt_iff_lt_mul (by omega), Int.add_mul]
          omega
        omega
theorem rl_gr_W {t c : Int} {x : rl_P} (h : rl_W t x) (hc : 1 ≤ c ∧ c ≤ 20) (hr : c ≤ rl_room t x) : rl_W t (rl_gr t c x) := by
  obtain ⟨k, r, b, s, g, T, F, D, q⟩ := x
  obtain ⟨hk, hr', hb, hs, hT, hF, hD, hq, hsum, hg, hv⟩ := h
  have hr2 : c ≤ (if k = 0 then T else if k = 1 then b - rl_sum q else (b * s - (rl_base t D - t)) / s) := hr
  unfold rl_gr
  dsimp only
  split
  · rename_i hk0
    rw [if_pos hk0] at hr2
    exact ⟨hk, hr', hb, hs, ⟨by omega, by omega⟩, hF, hD, hq, hsum, by omega, fun z => by have := hv z; omega⟩
  · rename_i hk0
    rw [if_neg hk0] at hr2
    split
    · rename_i hk1
      rw [if_pos hk1] at hr2
      have h1 := rl_sum_app q (t, c)
      have h2 : ((t, c) : Int × Int).2 = c := rfl
      exact ⟨hk, hr', hb, hs, hT, hF, hD, rl_ok_app hc (by omega) hq, by omega, by omega, fun z => absurd z hk0⟩
    · rename_i hk1
      rw [if_neg hk1, Int.le_ediv_iff_mul_le (by omega)] at hr2
      have h1 := rl_base_in (t := t) (D := D)
      have h3 : 0 ≤ c * s := Int.mul_nonneg (by omega) (by omega)
      exact ⟨hk, hr', hb, hs, hT, hF, ⟨by omega, by omega⟩, hq, hsum, by omega, fun z => absurd z hk0⟩
/-- a meter that is up to date -/
theorem rl_up {t k r b s g T F D : Int} {q : List (Int × Int)} (h : rl_cu t (k, r, b, s, g, T, F, D, q) = (k, r, b, s, g, T, F, D, q)) : F = t ∧ rl_cuQ t s q = q := by
  have h1 : t = F := congrArg (fun y : rl_P => y.2.2.2.2.2.2.1) h
  have h2 : rl_cuQ t s q = q := congrArg (fun y : rl_P => y.2.2.2.2.2.2.2.2) h
  exact ⟨h1.symm, h2⟩
theorem rl_wait_0 {t c : Int} {x : rl_P} (h : c ≤ rl_room t x) : rl_wait t c x = 0 := by
  obtain ⟨k, r, b, s, g, T, F, D, q⟩ := x
  unfold rl_wait
  dsimp only
  rw [if_pos h]
theorem rl_wait_pos {t c : Int} {x : rl_P} (h : rl_W t x) (hu : rl_cu t x = x) (hc : 1 ≤ c ∧ c ≤ 20) (hb : c ≤ rl_b x) (hn : ¬ c ≤ rl_room t x) : 1 ≤ rl_wait t c x ∧ rl_wait t c x ≤ 1000 := by
  obtain ⟨k, r, b, s, g, T, F, D, q⟩ := x
  obtain ⟨hk, hr, hb', hs, hT, hF, hD, hq, hsum, hg, hv⟩ := h
  obtain ⟨u1, u2⟩ := rl_up hu
  have hb2 : c ≤ b := hb
  have hn2 : ¬ c ≤ (if k = 0 then T else if k = 1 then b - rl_sum q else (b * s - (rl_base t D - t)) / s) := hn
  unfold rl_wait
  dsimp only
  rw [if_neg hn]
  split
  · rename_i k1
    rw [if_neg (by omega), if_pos k1] at hn2
    have h1 := rl_ok_new (s := s) hq
    rw [u2] at h1
    have h2 := rl_lw_pos (s := s) (o := rl_sum q + c - b) (w := 0) h1 (by omega) (by omega)
    have h3 := rl_lw_le (s := s) (o := rl_sum q + c - b) (w := 0) hq (by omega)
    omega
  · rename_i k1
    split
    · rename_i k0
      rw [if_pos k0] at hn2
      have h1 : (1 : Int) ≤ (c - T + r - 1) / r := by
        rw [Int.le_ediv_iff_mul_le (by omega)]
        omega
      have h2 : (c - T + r - 1) / r ≤ c - T + r - 1 := Int.ediv_le_self r (by omega)
      omega
    · rename_i k0
      rw [if_neg k0, if_neg k1, Int.le_ediv_iff_mul_le (by omega)] at hn2
      have h1 := rl_base_in (t := t) (D := D)
      have h2 : (c - b) * s = c * s - b * s := Int.sub_mul c b s
      have h3 := rl_pb (a := b) (b := s) (by omega) hb'.2 (by omega) hs.2
      have h4 : c * s ≤ b * s := Int.mul_le_mul_of_nonneg_right hb2 (by omega)
      omega
theorem rl_wait_ok {t c : Int} {x : rl_P} (h : rl_W t x) (hu : rl_cu t x = x) (hc : 1 ≤ c ∧ c ≤ 20) (hb : c ≤ rl_b x) {w : Int} (hw : rl_wait t c x = w) : c ≤ rl_room (t + w) (rl_cu (t + w) x) := by
  by_cases hn : c ≤ rl_room t x
  · rw [rl_wait_0 hn] at hw
    rw [← hw, Int.add_zero, hu]
    exact hn
  · have hp := rl_wait_pos h hu hc hb hn
    rw [hw] at hp
    obtain ⟨k, r, b, s, g, T, F, D, q⟩ := x
    obtain ⟨hk, hr, hb', hs, hT, hF, hD, hq, hsum, hg, hv⟩ := h
    obtain ⟨u1, u2⟩ := rl_up hu
    have hb2 : c ≤ b := hb
    unfold rl_wait at hw
    dsimp only at hw
    rw [if_neg hn] at hw
    show c ≤ (if k = 0 then rl_cuT (t + w) r b T F else if k = 1 then b - rl_sum (rl_cuQ (t + w) s q) else (b * s - (rl_base (t + w) D - (t + w))) / s)
    by_cases k1 : k = 1
    · rw [if_pos k1] at hw
      rw [if_neg (by omega), if_pos k1]
      have h1 := rl_lw_sum (s := s) (o := rl_sum q + c - b) (w := 0) hq (by omega)
      rw [hw] at h1
      omega
    · rw [if_neg k1] at hw
      by_cases k0 : k = 0
      · rw [if_pos k0] at hw
        rw [if_pos k0]
        have h1 : c - T + r - 1 < (w + 1) * r := by
          rw [← Int.ediv_lt_iff_lt_mul (by omega)]
          omega
        have h2 : (w + 1) * r = w * r + r := by rw [Int.add_mul, Int.one_mul]
        have h3 : r * (t + w - F) = w * r := by
          rw [u1, show t + w - t = w by omega, Int.mul_comm]
        unfold rl_cuT
        rw [h3]
        split <;> omega
      · rw [if_neg k0] at hw
        rw [if_neg k0, if_neg k1, Int.le_ediv_iff_mul_le (by omega)]
        have h2 : (c - b) * s = c * s - b * s := Int.sub_mul c b s
        have h4 : c * s ≤ b * s := Int.mul_le_mul_of_nonneg_right hb2 (by omega)
        have h1 := rl_base_in (t := t + w) (D := D)
        omega
end
section
/-! the arrays show the picture -/
def rl_ring (a b : Nat → Int32) (m : Nat) : Nat → List (Int × Int) → Prop
  | _, [] => True
  | h, e :: q => a (m * 32 + h % 32) = rl_I e.1 ∧ b (m * 32 + h % 32) = rl_I e.2 ∧ rl_ring a b m (h + 1) q
theorem rl_ring_fr {a b a' b' : Nat → Int32} {m : Nat} : ∀ {q : List (Int × Int)} {h : Nat}, rl_ring a b m h q → (∀ i, i < q.length → a' (m * 32 + (h + i) % 32) = a (m * 32 + (h + i) % 32) ∧ b' (m * 32 + (h + i) % 32) = b (m * 32 + (h + i) % 32)) → rl_ring a' b' m h q := by
  intro q
  induction q with
  | nil => intro h _ _; trivial
  | cons e q ih =>
    intro h hr hf
    obtain ⟨h1, h2, h3⟩ := hr
    have f0 := hf 0 (by rw [List.length_cons]; omega)
    rw [Nat.add_zero] at f0
    refine ⟨f0.1.trans h1, f0.2.trans h2, ih h3 (fun i hi => ?_)⟩
    have f1 := hf (i + 1) (by rw [List.length_cons]; omega)
    rw [show h + (i + 1) = h + 1 + i by omega] at f1
    exact f1
theorem rl_ring_app {a b : Nat → Int32} {m : Nat} {e : Int × Int} : ∀ {q : List (Int × Int)} {h : Nat}, rl_ring a b m h q → a (m * 32 + (h + q.length) % 32) = rl_I e.1 → b (m * 32 + (h + q.length) % 32) = rl_I e.2 → rl_ring a b m h (q ++ [e]) := by
  intro q
  induction q with
  | nil => intro h _ h1 h2; exact ⟨h1, h2, trivial⟩
  | cons f q ih =>
    intro h hr h1 h2
    obtain ⟨r1, r2, r3⟩ := hr
    rw [List.length_cons, show h + (q.length + 1) = h + 1 + q.length by omega] at h1 h2
    exact ⟨r1, r2, ih r3 h1 h2⟩
theorem rl_ring_put {a b : Nat → Int32} {m : Nat} {x y : Int32} {e : Int × Int} {q : List (Int × Int)} {h : Nat} (hr : rl_ring a b m h q) (hl : q.length < 32) (hx : x = rl_I e.1) (hy : y = rl_I e.2) :
    rl_ring (upd a (m * 32 + (h + q.length) % 32) x) (upd b (m * 32 + (h + q.length) % 32) y) m h (q ++ [e]) := by
  refine rl_ring_app (rl_ring_fr hr (fun i hi => ?_)) (by rw [pk_us, hx]) (by rw [pk_us, hy])
  have hne : m * 32 + (h + i) % 32 ≠ m * 32 + (h + q.length) % 32 := by omega
  exact ⟨pk_un hne, pk_un hne⟩
def rl_V (m : Nat) (a1 a2 a3 a4 a5 a7 a8 a9 a10 a11 a12 a13 a14 : Nat → Int32) (x : rl_P) : Prop := match x with
  | (k, r, b, s, g, T, F, D, q) => a1 m = rl_I k ∧ a2 m = rl_I r ∧ a3 m = rl_I b ∧ a4 m = rl_I s ∧ a5 m = rl_I g ∧ a7 m = rl_I T ∧ a8 m = rl_I F ∧ a9 m = rl_I D ∧ ∃ h : Nat, a10 m = nI (h % 32) ∧ a11 m = nI q.length ∧ a12 m = rl_I (rl_sum q) ∧ rl_ring a13 a14 m h q
def rl_R (N : Nat) (u : St1) (t : Int) (p : Nat → rl_P) : Prop := match u with
  | (an, a1, a2, a3, a4, a5, a6, a7, a8, a9, a10, a11, a12, a13, a14) => an = rl_I t ∧ ∀ j, j < N → rl_V j a1 a2 a3 a4 a5 a7 a8 a9 a10 a11 a12 a13 a14 (p j)
/-- one meter is written, the others stay -/
theorem rl_fr {N M m : Nat} {t : Int} {p : Nat → rl_P} {x : rl_P} {an : Int32} {a1 a2 a3 a4 a5 a6 a7 a8 a9 a10 a11 a12 a13 a14 : Nat → Int32} {c6 : Nat → Int32} {b1 b2 b3 b4 b5 b7 b8 b9 b10 b11 b12 b13 b14 : Nat → Int32} (hR : rl_R N (an, a1, a2, a3, a4, a5, a6, a7, a8, a9, a10, a11, a12, a13, a14) t p) (hV : rl_V m b1 b2 b3 b4 b5 b7 b8 b9 b10 b11 b12 b13 b14 x)
    (hN : ∀ j, j < M → j ≠ m → j < N)
    (f1 : ∀ j, j ≠ m → b1 j = a1 j := by first | exact fun _ _ => rfl | exact fun _ h => pk_un h)
    (f2 : ∀ j, j ≠ m → b2 j = a2 j := by first | exact fun _ _ => rfl | exact fun _ h => pk_un h)
    (f3 : ∀ j, j ≠ m → b3 j = a3 j := by first | exact fun _ _ => rfl | exact fun _ h => pk_un h)
    (f4 : ∀ j, j ≠ m → b4 j = a4 j := by first | exact fun _ _ => rfl | exact fun _ h => pk_un h)
    (f5 : ∀ j, j ≠ m → b5 j = a5 j := by first | exact fun _ _ => rfl | exact fun _ h => pk_un h)
    (f7 : ∀ j, j ≠ m → b7 j = a7 j := by first | exact fun _ _ => rfl | exact fun _ h => pk_un h)
    (f8 : ∀ j, j ≠ m → b8 j = a8 j := by first | exact fun _ _ => rfl | exact fun _ h => pk_un h)
    (f9 : ∀ j, j ≠ m → b9 j = a9 j := by first | exact fun _ _ => rfl | exact fun _ h => pk_un h)
    (f10 : ∀ j, j ≠ m → b10 j = a10 j := by first | exact fun _ _ => rfl | exact fun _ h => pk_un h)
    (f11 : ∀ j, j ≠ m → b11 j = a11 j := by first | exact fun _ _ => rfl | exact fun _ h => pk_un h)
    (f12 : ∀ j, j ≠ m → b12 j = a12 j := by first | exact fun _ _ => rfl | exact fun _ h => pk_un h)
    (f13 : ∀ j i, j ≠ m → i < 32 → b13 (j * 32 + i) = a13 (j * 32 + i) := by first | exact fun _ _ _ _ => rfl | exact fun j i h hi => pk_un (by omega))
    (f14 : ∀ j i, j ≠ m → i < 32 → b14 (j * 32 + i) = a14 (j * 32 + i) := by first | exact fun _ _ _ _ => rfl | exact fun j i h hi => pk_un (by omega)) :
    rl_R M (an, b1, b2, b3, b4, b5, c6, b7, b8, b9, b10, b11, b12, b13, b14) t (va_up p m x) := by
  obtain ⟨hn, hA⟩ := hR
  refine ⟨hn, fun j hj => ?_⟩
  by_cases e : j = m
  · rw [e, va_up_self]
    exact hV
  · rw [va_up_ne p x e]
    have v := hA j (hN j hj e)
    rcases hp : p j with ⟨k, r, b, s, g, T, F, D, q⟩
    rw [hp] at v
    obtain ⟨v1, v2, v3, v4, v5, v7, v8, v9, h, v10, v11, v12, vr⟩ := v
    exact ⟨(f1 j e).trans v1, (f2 j e).trans v2, (f3 j e).trans v3, (f4 j e).trans v4, (f5 j e).trans v5, (f7 j e).trans v7, (f8 j e).trans v8, (f9 j e).trans v9, h, (f10 j e).trans v10, (f11 j e).trans v11, (f12 j e).trans v12,
      rl_ring_fr vr (fun i hi => ⟨f13 j _ e (Nat.mod_lt _ (by decide)), f14 j _ e (Nat.mod_lt _ (by decide))⟩)⟩
/-- the count of refusals isn't shown -/
theorem rl_R6 {N : Nat} {t : Int} {p : Nat → rl_P} {an : Int32} {a1 a2 a3 a4 a5 a6 a7 a8 a9 a10 a11 a12 a13 a14 : Nat → Int32} {c6 : Nat → Int32} (hR : rl_R N (an, a1, a2, a3, a4, a5, a6, a7, a8, a9, a10, a11, a12, a13, a14) t p) : rl_R N (an, a1, a2, a3, a4, a5, c6, a7, a8, a9, a10, a11, a12, a13, a14) t p := hR
theorem rl_Rt {N : Nat} {t t' : Int} {p : Nat → rl_P} {an : Int32} {a1 a2 a3 a4 a5 a6 a7 a8 a9 a10 a11 a12 a13 a14 : Nat → Int32} {n : Int32} (hR : rl_R N (an, a1, a2, a3, a4, a5, a6, a7, a8, a9, a10, a11, a12, a13, a14) t p) (h : n = rl_I t') : rl_R N (n, a1, a2, a3, a4, a5, a6, a7, a8, a9, a10, a11, a12, a13, a14) t' p := ⟨h, hR.2⟩
theorem rl_cl {m : Nat} (hm : m < 4) : (nI m).toNatClampNeg = m := nI_clamp (by omega)
theorem rl_i4 {m : Nat} (hm : m < 4) : vp_in (nI m) 4 := vp_in_nI hm (by decide)
end
section
/-! the methods: catching up -/
theorem rl_c64 {post : St1 → Prop} {m : Nat} (hm : m < 4) {t k r b s g T F D : Int} (ht : 0 ≤ t ∧ t ≤ 100000) (hs : 1 ≤ s ∧ s ≤ 10) {an : Int32} {a1 a2 a3 a4 a5 a6 a7 a8 a9 a13 a14 : Nat → Int32} :
    ∀ (q : List (Int × Int)) (fu i : Nat) (a10 a11 a12 : Nat → Int32) (p : Nat → rl_P), q.length < fu → i + q.length ≤ 31 → p m = (k, r, b, s, g, T, F, D, q) → rl_R 4 (an, a1, a2, a3, a4, a5, a6, a7, a8, a9, a10, a11, a12, a13, a14) t p → rl_ok t 0 q →
    (∀ u', rl_R 4 u' t (va_up p m (k, r, b, s, g, T, F, D, rl_cuQ t s q)) → post u') → wX_catchUp_64 post (nI m) an fu (nI i) a1 a2 a3 a4 a5 a6 a7 a8 a9 a10 a11 a12 a13 a14 := by
  intro q
  induction q with
  | nil =>
    intro fu i a10 a11 a12 p hf hi hp hR hok H
    obtain ⟨fu, rfl⟩ : ∃ f, fu = f + 1 := ⟨fu - 1, by omega⟩
    have hv := hR.2 m hm
    rw [hp] at hv
    obtain ⟨v1, v2, v3, v4, v5, v7, v8, v9, h, v10, v11, v12, vr⟩ := hv
    refine pk_le 32 i (fun z => absurd z (by omega)) (fun _ => ⟨rl_i4 hm, ?_⟩)
    rw [rl_cl hm, v11]
    refine br_t (by decide) (H _ ?_)
    rw [show rl_cuQ t s [] = [] from rfl, rl_uself p m _ hp]
    exact hR
  | cons e q ih =>
    intro fu i a10 a11 a12 p hf hi hp hR hok H
    rw [List.length_cons] at hf hi
    obtain ⟨fu, rfl⟩ : ∃ f, fu = f + 1 := ⟨fu - 1, by omega⟩
    have hv := hR.2 m hm
    rw [hp] at hv
    obtain ⟨v1, v2, v3, v4, v5, v7, v8, v9, h, v10, v11, v12, vr⟩ := hv
    obtain ⟨r1, r2, r3⟩ := vr
    obtain ⟨o1, o2, o3⟩ := hok
    have hn : an = rl_I t := hR.1
    have hx : nI m * 32 + a10 m = nI (m * 32 + h % 32) := by
      rw [v10]
      show nI m * nI 32 + _ = _
      rw [pk_mul, nI_add]
    have hxl : m * 32 + h % 32 < 128 := by omega
    have hxc : (nI (m * 32 + h % 32)).toNatClampNeg = m * 32 + h % 32 := nI_clamp (by omega)
    refine pk_le 32 i (fun z => absurd z (by omega)) (fun _ => ⟨rl_i4 hm, ?_⟩)
    rw [rl_cl hm, hx, hxc]
    refine br_f (by rw [v11]; exact nI_nle (by rw [List.length_cons]; omega) (by rw [List.length_cons]; omega)) ⟨rl_i4 hm, vp_in_nI hxl (by decide), rl_i4 hm, ?_⟩
    refine rl_lt (t - s) e.1 (fun z => H _ ?_) (fun z => ?_) (by rw [hn, v4, rl_sub]) r1
    · have e1 : rl_cuQ t s (e :: q) = e :: q := by
        conv => lhs; unfold rl_cuQ
        rw [if_neg (by omega)]
      rw [e1, rl_uself p m _ hp]
      exact hR
    · have e1 : rl_cuQ t s (e :: q) = rl_cuQ t s q := by
        conv => lhs; unfold rl_cuQ
        rw [if_pos (by omega)]
      rw [e1] at H
      refine ⟨rl_i4 hm, rl_i4 hm, vp_in_nI hxl (by decide), rl_i4 hm, nm_r (e' := upd a12 m (rl_I (rl_sum q))) ?_ ⟨rl_i4 hm, rl_i4 hm, nm_r (e' := upd a10 m (nI ((h + 1) % 32))) ?_ ⟨rl_i4 hm, rl_i4 hm, nm_r (e' := upd a11 m (nI q.length)) ?_ (nm_r (nI_1 i) ?_)⟩⟩⟩
      · rw [v12, r2, rl_sub]
        exact congrArg (fun z => upd a12 m (rl_I z)) (show e.2 + rl_sum q - e.2 = rl_sum q by omega)
      · rw [v10, nI_1, pk_andN (by omega) 5 (by decide)]
        exact congrArg (fun z => upd a10 m (nI z)) (by omega)
      · rw [v11, List.length_cons, nI_pred]
      · refine ih fu (i + 1) _ _ _ (va_up p m (k, r, b, s, g, T, F, D, q)) (by omega) (by omega) (va_up_self _ _ _) (rl_fr hR ?_ (fun j hj _ => hj)) (rl_ok_lo o3 o1.1) ?_
        · exact ⟨v1, v2, v3, v4, v5, v7, v8, v9, h + 1, pk_us, pk_us, pk_us, r3⟩
        · intro u' hu'
          rw [bx_uu] at hu'
          exact H u' hu'
theorem rl_c51 {post : St1 → Prop} {m : Nat} (hm : m < 4) {t k r b s g T F D : Int} {q : List (Int × Int)} {an : Int32} {a1 a2 a3 a4 a5 a6 a7 a8 a9 a10 a11 a12 a13 a14 : Nat → Int32} {p : Nat → rl_P} {z0 : Int32} (hR : rl_R 4 (an, a1, a2, a3, a4, a5, a6, a7, a8, a9, a10, a11, a12, a13, a14) t p) (hp : p m = (k, r, b, s, g, T, F, D, q)) (hW : rl_W t (k, r, b, s, g, T, F, D, q)) (hz : z0 = rl_I (rl_cuT t r b T F))
    (H : ∀ u', rl_R 4 u' t (va_up p m (rl_cu t (k, r, b, s, g, T, F, D, q))) → post u') : wX_catchUp_51 post (nI m) z0 (nI m) an a1 a2 a3 a4 a5 a6 a7 a8 a9 a10 a11 a12 a13 a14 := by
  obtain ⟨hk, hr, hb, hs, hT, hF, hD, hq, hsum, hg, hv⟩ := hW
  have hl := rl_len hq
  have v := hR.2 m hm
  rw [hp] at v
  obtain ⟨v1, v2, v3, v4, v5, v7, v8, v9, h, v10, v11, v12, vr⟩ := v
  unfold wX_catchUp_51
  rw [rl_cl hm]
  refine ⟨rl_i4 hm, nm_e ⟨rl_i4 hm, nm_e ⟨33, ?_⟩⟩⟩
  have w := rl_c64 (post := post) hm (t := t) (k := k) (r := r) (b := b) (s := s) (g := g) (T := rl_cuT t r b T F) (F := t) (D := D) (by omega) hs (an := an) (a1 := a1) (a2 := a2) (a3 := a3) (a4 := a4) (a5 := a5) (a6 := a6) (a7 := upd a7 m z0) (a8 := upd a8 m an) (a9 := a9) (a13 := a13) (a14 := a14) q 33 0 a10 a11 a12 (va_up p m (k, r, b, s, g, rl_cuT t r b T F, t, D, q)) (by omega) (by omega) (va_up_self _ _ _) (rl_fr hR ?_ (fun j hj _ => hj)) hq ?_
  · rw [nI_0] at w
    exact w
  · exact ⟨v1, v2, v3, v4, v5, by rw [pk_us, hz], by rw [pk_us]; exact hR.1, v9, h, v10, v11, v12, vr⟩
  · intro u' hu'
    rw [bx_uu] at hu'
    exact H u' hu'
theorem rl_catchUp {post : St1 → Prop} {u : St1} {m : Nat} (hm : m < 4) {t : Int} {p : Nat → rl_P} (hR : rl_R 4 u t p) (hW : rl_W t (p m)) (H : ∀ u', rl_R 4 u' t (va_up p m (rl_cu t (p m))) → post u') : wpX_catchUp post u (nI m) := by
  obtain ⟨an, a1, a2, a3, a4, a5, a6, a7, a8, a9, a10, a11, a12, a13, a14⟩ := u
  rcases hp : p m with ⟨k, r, b, s, g, T, F, D, q⟩
  rw [hp] at hW H
  have v := hR.2 m hm
  rw [hp] at v
  obtain ⟨v1, v2, v3, v4, v5, v7, v8, v9, h, v10, v11, v12, vr⟩ := v
  have hn : an = rl_I t := hR.1
  have hW' := hW
  obtain ⟨hk, hr, hb, hs, hT, hF, hD, hq, hsum, hg, hv⟩ := hW'
  have hm5 := rl_pb (a := r) (b := t - F) (by omega) hr.2 (by omega) (show t - F ≤ 100000 by omega)
  unfold wpX_catchUp
  dsimp only
  rw [rl_cl hm]
  refine ⟨rl_i4 hm, rl_i4 hm, rl_i4 hm, nm_r (e' := rl_I (T + r * (t - F))) (by rw [v7, v2, hn, v8, rl_sub, rl_mul, rl_add]) ⟨rl_i4 hm, rl_le b (T + r * (t - F)) (fun z => ⟨rl_i4 hm, ?_⟩) (fun z => ?_) v3⟩⟩
  · exact rl_c51 hm hR hp hW (by rw [v3]; unfold rl_cuT; rw [if_pos z]) H
  · exact rl_c51 hm hR hp hW (by unfold rl_cuT; rw [if_neg (by omega)]) H
theorem rl_bs {post : Int32 → Prop} {u : St1} {m : Nat} (hm : m < 4) {t : Int} {p : Nat → rl_P} {k r b s g T F D : Int} {q : List (Int × Int)} (hR : rl_R 4 u t p) (hp : p m = (k, r, b, s, g, T, F, D, q)) (hD : -1000000 ≤ D ∧ D ≤ 200000) (ht : 0 ≤ t ∧ t ≤ 100000) (H : post (rl_I (rl_base t D))) : wpX_base post u (nI m) := by
  obtain ⟨an, a1, a2, a3, a4, a5, a6, a7, a8, a9, a10, a11, a12, a13, a14⟩ := u
  have v := hR.2 m hm
  rw [hp] at v
  obtain ⟨v1, v2, v3, v4, v5, v7, v8, v9, h, v10, v11, v12, vr⟩ := v
  have hn : an = rl_I t := hR.1
  unfold wpX_base
  dsimp only
  rw [rl_cl hm]
  unfold rl_base at H
  refine ⟨rl_i4 hm, rl_le D t (fun z => ?_) (fun z => ⟨rl_i4 hm, ?_⟩) v9 hn⟩
  · rw [hn]
    rw [if_pos z] at H
    exact H
  · rw [v9]
    rw [if_neg (by omega)] at H
    exact H
theorem rl_roomOf {post : Int32 → St1 → Prop} {u : St1} {m : Nat} (hm : m < 4) {t : Int} {p : Nat → rl_P} (hR : rl_R 4 u t p) (hW : rl_W t (p m)) (H : ∀ u', rl_R 4 u' t (va_up p m (rl_cu t (p m))) → post (rl_I (rl_room t (rl_cu t (p m)))) u') : wpX_roomOf post u (nI m) := by
  obtain ⟨an, a1, a2, a3, a4, a5, a6, a7, a8, a9, a10, a11, a12, a13, a14⟩ := u
  unfold wpX_roomOf
  dsimp only
  refine rl_catchUp hm hR hW (fun u' hR' => ?_)
  have H' := H u' hR'
  have hW' := rl_cu_W hW
  obtain ⟨bn, b1, b2, b3, b4, b5, b6, b7, b8, b9, b10, b11, b12, b13, b14⟩ := u'
  dsimp only
  obtain ⟨x, hx⟩ : ∃ x, rl_cu t (p m) = x := ⟨_, rfl⟩
  rw [hx] at H' hW' hR'
  obtain ⟨k, r, b, s, g, T, F, D, q⟩ := x
  have v := hR'.2 m hm
  rw [va_up_self] at v
  obtain ⟨v1, v2, v3, v4, v5, v7, v8, v9, h, v10, v11, v12, vr⟩ := v
  have hn : bn = rl_I t := hR'.1
  have hW2 := hW'
  obtain ⟨hk, hr, hb, hs, hT, hF, hD, hq, hsum, hg, hv⟩ := hW2
  have h3 := rl_pb (a := b) (b := s) (by omega) hb.2 (by omega) hs.2
  have hbs := rl_base_in (t := t) (D := D)
  unfold rl_room at H'
  dsimp only at H'
  rw [rl_cl hm]
  refine ⟨rl_i4 hm, rl_eq k 0 (fun z => ⟨rl_i4 hm, ?_⟩) (fun z => ⟨rl_i4 hm, rl_eq k 1 (fun z1 => ⟨rl_i4 hm, rl_i4 hm, ?_⟩) (fun z1 => ?_) v1⟩) v1⟩
  · rw [v7]
    rw [if_pos z] at H'
    exact H'
  · rw [v3, v12, rl_sub]
    rw [if_neg z, if_pos z1] at H'
    exact H'
  · rw [if_neg z, if_neg z1] at H'
    refine rl_bs hm hR' (va_up_self _ _ _) (by omega) (by omega) ?_
    refine nm_r (e' := rl_I (rl_base t D - t)) (by rw [hn, rl_sub]) ⟨rl_i4 hm, rl_i4 hm, nm_r (e' := rl_I (b * s - (rl_base t D - t))) (by rw [v3, v4, rl_mul, rl_sub]) ?_⟩
    refine rl_le 0 (b * s - (rl_base t D - t)) (fun y => ⟨rl_i4 hm, rl_le s 0 (fun y2 => absurd y2 (by omega)) (fun y2 => ⟨rl_i4 hm, rl_nil v4 (by omega) (by omega), ?_⟩) v4⟩) (fun y => absurd y (by omega))
    rw [v4, rl_div (by omega) (by omega)]
    exact H'
end
section
/-! asking -/
theorem rl_bad {post : Int32 → Prop} {m : Nat} (hm : m < 4) (H : post 0) : wpX_bad post () (nI m) :=
  pk_lt m 0 (fun z => absurd z (by omega)) (fun _ => pk_lt m 4 (fun _ => H) (fun z => absurd z (by omega)))
theorem rl_badCost {post : Int32 → Prop} {c : Int} (hc : 1 ≤ c ∧ c ≤ 20) (H : post 0) : wpX_badCost post () (rl_I c) :=
  rl_lt c 1 (fun z => absurd z (by omega)) (fun _ => rl_le c 20 (fun _ => H) (fun z => absurd z (by omega)))
/-- the room as it is told -/
def rl_r20 (z : Int) : Int := if z ≤ 20 then z else 20
theorem rl_r20_in {c z : Int} (hc : c ≤ 20) : c ≤ rl_r20 z ↔ c ≤ z := by
  unfold rl_r20
  split <;> omega
theorem rl_r20_b {z : Int} (h : 0 ≤ z) : 0 ≤ rl_r20 z ∧ rl_r20 z ≤ 20 := by
  unfold rl_r20
  split <;> omega
theorem rl_roomM {post : Int32 → St1 → Prop} {u : St1} {m : Nat} (hm : m < 4) {t : Int} {p : Nat → rl_P} (hR : rl_R 4 u t p) (hW : rl_W t (p m)) (H : ∀ u', rl_R 4 u' t (va_up p m (rl_cu t (p m))) → post (rl_I (rl_r20 (rl_room t (rl_cu t (p m))))) u') : wpX_room post u (nI m) := by
  obtain ⟨an, a1, a2, a3, a4, a5, a6, a7, a8, a9, a10, a11, a12, a13, a14⟩ := u
  unfold wpX_room
  dsimp only
  refine rl_bad hm (br_t rfl (rl_roomOf hm hR hW (fun u' hR' => ?_)))
  have H' := H u' hR'
  have hi := rl_room_in (rl_cu_W hW)
  obtain ⟨bn, b1, b2, b3, b4, b5, b6, b7, b8, b9, b10, b11, b12, b13, b14⟩ := u'
  dsimp only
  unfold rl_r20 at H'
  refine rl_le 0 (rl_room t (rl_cu t (p m))) (fun _ => rl_le (rl_room t (rl_cu t (p m))) 20 (fun z => ?_) (fun z => ?_)) (fun z => absurd z (by omega))
  · rw [if_pos z] at H'
    exact H'
  · rw [if_neg (by omega)] at H'
    exact H'
theorem rl_grant {post : St1 → Prop} {u : St1} {m : Nat} (hm : m < 4) {t c : Int} {p : Nat → rl_P} (hR : rl_R 4 u t p) (hW : rl_W t (p m)) (H : ∀ u', rl_R 4 u' t (va_up p m (rl_gr t c (p m))) → post u') : wpX_grant post u (nI m) (rl_I c) := by
  obtain ⟨an, a1, a2, a3, a4, a5, a6, a7, a8, a9, a10, a11, a12, a13, a14⟩ := u
  rcases hp : p m with ⟨k, r, b, s, g, T, F, D, q⟩
  rw [hp] at hW H
  have v := hR.2 m hm
  rw [hp] at v
  obtain ⟨v1, v2, v3, v4, v5, v7, v8, v9, h, v10, v11, v12, vr⟩ := v
  have hn : an = rl_I t := hR.1
  have hW' := hW
  obtain ⟨hk, hr, hb, hs, hT, hF, hD, hq, hsum, hg, hv⟩ := hW'
  have hl := rl_len hq
  unfold rl_gr at H
  dsimp only at H
  unfold wpX_grant
  dsimp only
  rw [rl_cl hm]
  refine ⟨rl_i4 hm, rl_i4 hm, nm_r (e' := upd a5 m (rl_I (g + c))) (by rw [v5, rl_add]) ⟨rl_i4 hm, rl_eq k 0 (fun z => ⟨rl_i4 hm, rl_i4 hm, nm_r (e' := upd a7 m (rl_I (T - c))) (by rw [v7, rl_sub]) ?_⟩) (fun z => ⟨rl_i4 hm, rl_eq k 1 (fun z1 => ?_) (fun z1 => ?_) v1⟩) v1⟩⟩
  · rw [if_pos z] at H
    exact H _ (rl_fr hR ⟨v1, v2, v3, v4, pk_us, pk_us, v8, v9, h, v10, v11, v12, vr⟩ (fun j hj _ => hj))
  · rw [if_neg z, if_pos z1] at H
    have hx : nI m * 32 + ((a10 m + a11 m) &&& 31) = nI (m * 32 + (h + q.length) % 32) := by
      rw [v10, v11, nI_add, pk_andN (by omega) 5 (by decide)]
      show nI m * nI 32 + _ = _
      rw [pk_mul, nI_add]
      exact congrArg nI (by omega)
    have hxl : m * 32 + (h + q.length) % 32 < 128 := by omega
    have hxc : (nI (m * 32 + (h + q.length) % 32)).toNatClampNeg = m * 32 + (h + q.length) % 32 := nI_clamp (by omega)
    refine ⟨rl_i4 hm, rl_i4 hm, nm_r hx ?_⟩
    rw [hxc]
    refine ⟨vp_in_nI hxl (by decide), nm_e ⟨vp_in_nI hxl (by decide), nm_e ⟨rl_i4 hm, rl_i4 hm, nm_r (e' := upd a11 m (nI (q ++ [(t, c)]).length)) (by rw [v11, nI_1, List.length_append]; rfl) ⟨rl_i4 hm, rl_i4 hm, nm_r (e' := upd a12 m (rl_I (rl_sum (q ++ [(t, c)])))) (by rw [v12, rl_add, rl_sum_app]) ?_⟩⟩⟩⟩
    exact H _ (rl_fr hR ⟨v1, v2, v3, v4, pk_us, v7, v8, v9, h, v10, pk_us, pk_us, rl_ring_put vr (by omega) hn rfl⟩ (fun j hj _ => hj))
  · rw [if_neg z, if_neg z1] at H
    have hR5 : rl_R 4 (an, a1, a2, a3, a4, upd a5 m (rl_I (g + c)), a6, a7, a8, a9, a10, a11, a12, a13, a14) t (va_up p m (k, r, b, s, g + c, T, F, D, q)) := rl_fr hR ⟨v1, v2, v3, v4, pk_us, v7, v8, v9, h, v10, v11, v12, vr⟩ (fun j hj _ => hj)
    have h3 := rl_pb (a := b) (b := s) (by omega) hb.2 (by omega) hs.2
    refine rl_bs hm hR5 (va_up_self _ _ _) (by omega) (by omega) ?_
    refine ⟨rl_i4 hm, rl_i4 hm, nm_r (e' := upd a9 m (rl_I (rl_base t D + c * s))) (by rw [v4, rl_mul, rl_add]) ?_⟩
    exact H _ (rl_fr hR ⟨v1, v2, v3, v4, pk_us, v7, v8, pk_us, h, v10, v11, v12, vr⟩ (fun j hj _ => hj))
theorem rl_ask {post : Int32 → St1 → Prop} {u : St1} {m : Nat} (hm : m < 4) {t c : Int} {p : Nat → rl_P} (hc : 1 ≤ c ∧ c ≤ 20) (hR : rl_R 4 u t p) (hW : rl_W t (p m))
    (H1 : c ≤ rl_room t (rl_cu t (p m)) → ∀ u', rl_R 4 u' t (va_up p m (rl_gr t c (rl_cu t (p m)))) → post 1 u')
    (H0 : ¬ c ≤ rl_room t (rl_cu t (p m)) → ∀ u', rl_R 4 u' t (va_up p m (rl_cu t (p m))) → post 0 u') : wpX_ask post u (nI m) (rl_I c) := by
  obtain ⟨an, a1, a2, a3, a4, a5, a6, a7, a8, a9, a10, a11, a12, a13, a14⟩ := u
  unfold wpX_ask
  dsimp only
  refine rl_bad hm (br_t rfl (rl_badCost hc (br_t rfl (rl_roomOf hm hR hW (fun u' hR' => ?_)))))
  have hi := rl_room_in (rl_cu_W hW)
  obtain ⟨bn, b1, b2, b3, b4, b5, b6, b7, b8, b9, b10, b11, b12, b13, b14⟩ := u'
  dsimp only
  refine rl_le c (rl_room t (rl_cu t (p m))) (fun z => ?_) (fun z => ?_)
  · refine rl_grant hm hR' (by rw [va_up_self]; exact rl_cu_W hW) (fun u2 hR2 => ?_)
    rw [va_up_self, bx_uu] at hR2
    obtain ⟨dn, d1, d2, d3, d4, d5, d6, d7, d8, d9, d10, d11, d12, d13, d14⟩ := u2
    exact H1 z _ hR2
  · rw [rl_cl hm]
    exact ⟨rl_i4 hm, rl_i4 hm, nm_e (H0 (by omega) _ (rl_R6 hR'))⟩
/-! waiting -/
theorem rl_w22 {post : Int32 → Prop} {m : Nat} (hm : m < 4) {t s : Int} {N h : Nat} (ht : 0 ≤ t ∧ t ≤ 100000) (hs : 1 ≤ s ∧ s ≤ 10) (hN : N ≤ 31) {an : Int32} {a1 a2 a3 a4 a5 a6 a7 a8 a9 a10 a11 a12 a13 a14 : Nat → Int32} (hn : an = rl_I t) (v4 : a4 m = rl_I s) (v10 : a10 m = nI (h % 32)) (v11 : a11 m = nI N) :
    ∀ (q : List (Int × Int)) (fu i : Nat) (o w : Int), q.length < fu → i + q.length = N → (-100 ≤ o ∧ o ≤ 100) → rl_ring a13 a14 m (h + i) q → rl_ok t 0 q → post (rl_I (rl_lw s t o w q)) → wX_logWait_22 post (nI m) an a1 a2 a3 a4 a5 a6 a7 a8 a9 a10 a11 a12 a13 a14 fu (rl_I o) (rl_I w) (nI i) := by
  intro q
  induction q with
  | nil =>
    intro fu i o w hf hi ho hr hok H
    obtain ⟨fu, rfl⟩ : ∃ f, fu = f + 1 := ⟨fu - 1, by omega⟩
    refine ⟨rl_i4 hm, ?_⟩
    rw [rl_cl hm]
    exact pk_le N i (fun _ => H) (fun z => absurd hi (by rw [List.length_nil]; omega)) v11
  | cons e q ih =>
    intro fu i o w hf hi ho hr hok H
    rw [List.length_cons] at hf hi
    obtain ⟨fu, rfl⟩ : ∃ f, fu = f + 1 := ⟨fu - 1, by omega⟩
    obtain ⟨r1, r2, r3⟩ := hr
    obtain ⟨o1, o2, o3⟩ := hok
    unfold rl_lw at H
    refine ⟨rl_i4 hm, ?_⟩
    rw [rl_cl hm]
    refine pk_le N i (fun z => absurd z (by omega)) (fun _ => rl_le o 0 (fun z => ?_) (fun z => ⟨rl_i4 hm, nm_r (e' := nI (m * 32 + (h + i) % 32)) ?_ ?_⟩)) v11
    · rw [if_pos z] at H
      exact H
    · rw [v10, nI_add, pk_andN (by omega) 5 (by decide)]
      show nI m * nI 32 + _ = _
      rw [pk_mul, nI_add]
      exact congrArg nI (by omega)
    · rw [if_neg (by omega)] at H
      have hxl : m * 32 + (h + i) % 32 < 128 := by omega
      have hxc : (nI (m * 32 + (h + i) % 32)).toNatClampNeg = m * 32 + (h + i) % 32 := nI_clamp (by omega)
      rw [hxc]
      refine ⟨vp_in_nI hxl (by decide), nm_r (e' := rl_I (o - e.2)) (by rw [r2, rl_sub]) ⟨vp_in_nI hxl (by decide), rl_i4 hm, nm_r (e' := rl_I (e.1 + s - t)) (by rw [r1, v4, hn, rl_add, rl_sub]) (nm_r (nI_1 i) ?_)⟩⟩
      exact ih fu (i + 1) (o - e.2) (e.1 + s - t) (by omega) (by omega) (by omega) (by rw [show h + (i + 1) = h + i + 1 by omega]; exact r3) (rl_ok_lo o3 o1.1) H
theorem rl_logWait {post : Int32 → Prop} {u : St1} {m : Nat} (hm : m < 4) {t c : Int} {p : Nat → rl_P} {k r b s g T F D : Int} {q : List (Int × Int)} (hc : 1 ≤ c ∧ c ≤ 20) (hR : rl_R 4 u t p) (hp : p m = (k, r, b, s, g, T, F, D, q)) (hW : rl_W t (k, r, b, s, g, T, F, D, q)) (H : post (rl_I (rl_lw s t (rl_sum q + c - b) 0 q))) : wpX_logWait post u (nI m) (rl_I c) := by
  obtain ⟨an, a1, a2, a3, a4, a5, a6, a7, a8, a9, a10, a11, a12, a13, a14⟩ := u
  have v := hR.2 m hm
  rw [hp] at v
  obtain ⟨v1, v2, v3, v4, v5, v7, v8, v9, h, v10, v11, v12, vr⟩ := v
  obtain ⟨hk, hr, hb, hs, hT, hF, hD, hq, hsum, hg, hv⟩ := hW
  have hl := rl_len hq
  unfold wpX_logWait
  dsimp only
  rw [rl_cl hm]
  refine ⟨rl_i4 hm, rl_i4 hm, nm_r (e' := rl_I (rl_sum q + c - b)) (by rw [v12, v3, rl_add, rl_sub]) ⟨33, ?_⟩⟩
  have w := rl_w22 (post := post) hm (t := t) (s := s) (N := q.length) (h := h) (by omega) hs (by omega) (an := an) (a1 := a1) (a2 := a2) (a3 := a3) (a4 := a4) (a5 := a5) (a6 := a6) (a7 := a7) (a8 := a8) (a9 := a9) (a10 := a10) (a11 := a11) (a12 := a12) (a13 := a13) (a14 := a14) hR.1 v4 v10 v11 q 33 0 (rl_sum q + c - b) 0 (by omega) (by omega) (by omega) vr hq H
  rw [nI_0, ← rl_0] at w
  exact w
theorem rl_waitFor {post : Int32 → St1 → Prop} {u : St1} {m : Nat} (hm : m < 4) {t c : Int} {p : Nat → rl_P} (hc : 1 ≤ c ∧ c ≤ 20) (hR : rl_R 4 u t p) (hW : rl_W t (p m))
    (H4 : rl_b (p m) < c → post (-4) u)
    (H : c ≤ rl_b (p m) → ∀ u', rl_R 4 u' t (va_up p m (rl_cu t (p m))) → post (rl_I (rl_wait t c (rl_cu t (p m)))) u') : wpX_waitFor post u (nI m) (rl_I c) := by
  obtain ⟨an, a1, a2, a3, a4, a5, a6, a7, a8, a9, a10, a11, a12, a13, a14⟩ := u
  have v3 : a3 m = rl_I (rl_b (p m)) := by
    have v := hR.2 m hm
    rcases hp : p m with ⟨k, r, b, s, g, T, F, D, q⟩
    rw [hp] at v
    exact v.2.2.1
  have hi0 := rl_room_in hW
  unfold wpX_waitFor
  dsimp only
  rw [rl_cl hm]
  refine rl_bad hm (br_t rfl (rl_badCost hc (br_t rfl ⟨rl_i4 hm, rl_le c (rl_b (p m)) (fun z => ?_) H4 rfl v3⟩)))
  refine rl_roomOf hm hR hW (fun u' hR' => ?_)
  have H' := H z u' hR'
  have hW' := rl_cu_W hW
  have hi := rl_room_in hW'
  have hz : c ≤ rl_b (rl_cu t (p m)) := by rw [rl_cu_b]; exact z
  obtain ⟨bn, b1, b2, b3, b4, b5, b6, b7, b8, b9, b10, b11, b12, b13, b14⟩ := u'
  dsimp only
  refine rl_lt (rl_room t (rl_cu t (p m))) c (fun y => ?_) (fun y => ?_)
  · obtain ⟨x, hx⟩ : ∃ x, rl_cu t (p m) = x := ⟨_, rfl⟩
    rw [hx] at H' hW' hR' hi y hz
    obtain ⟨k, r, b, s, g, T, F, D, q⟩ := x
    have v := hR'.2 m hm
    rw [va_up_self] at v
    obtain ⟨v1, v2, v3, v4, v5, v7, v8, v9, h, v10, v11, v12, vr⟩ := v
    have hn : bn = rl_I t := hR'.1
    have hW2 := hW'
    obtain ⟨hk, hr, hb, hs, hT, hF, hD, hq, hsum, hg, hv⟩ := hW2
    unfold rl_wait at H'
    dsimp only at H'
    rw [if_neg (by omega)] at H'
    have hy : ¬ c ≤ (if k = 0 then T else if k = 1 then b - rl_sum q else (b * s - (rl_base t D - t)) / s) := fun hh => absurd (show c ≤ rl_room t (k, r, b, s, g, T, F, D, q) from hh) (by omega)
    refine ⟨rl_i4 hm, rl_eq k 1 (fun z1 => ?_) (fun z1 => ⟨rl_i4 hm, rl_eq k 0 (fun z0 => ⟨rl_i4 hm, rl_le r 0 (fun y2 => absurd y2 (by omega)) (fun y2 => ⟨rl_i4 hm, ?_⟩) v2⟩) (fun z0 => ⟨rl_i4 hm, rl_i4 hm, rl_i4 hm, ?_⟩) v1⟩) v1⟩
    · rw [if_pos z1] at H'
      exact rl_logWait hm hc hR' (va_up_self _ _ _) hW' H'
    · rw [if_neg z1, if_pos z0] at H'
      rw [if_pos z0] at hy
      unfold wX_waitFor_90
      rw [rl_cl hm]
      refine ⟨rl_i4 hm, rl_nil v2 (by omega) (by omega), ?_⟩
      rw [v7, v2, rl_sub, rl_add, rl_1, rl_sub, rl_div (by omega) (by omega)]
      exact H'
    · rw [if_neg z1, if_neg z0] at H'
      have ev : b9 m + (rl_I c - b3 m) * b4 m - bn = rl_I (D + (c - b) * s - t) := by rw [v9, v3, v4, hn, rl_sub, rl_mul, rl_add, rl_sub]
      rw [ev]
      exact H'
  · rw [rl_wait_0 y] at H'
    exact H'
end
section
/-! asking all -/
abbrev rl_B (x : Int32) (i : Nat) : Prop := ((x >>> (nI i &&& 31)) &&& 1) = 1
def rl_all (x : Int32) (t c : Int) (p : Nat → rl_P) (n : Nat) : Prop := ∀ i, i < n → rl_B x i → c ≤ rl_room t (p i)
def rl_gp (x : Int32) (t c : Int) (p : Nat → rl_P) (n : Nat) : Nat → rl_P := fun j => if j < n ∧ rl_B x j then rl_gr t c (p j) else p j
theorem rl_gp_0 (x : Int32) (t c : Int) (p : Nat → rl_P) : rl_gp x t c p 0 = p := by
  funext j
  unfold rl_gp
  rw [if_neg (fun h => absurd h.1 (by omega))]
theorem rl_gp_at (x : Int32) (t c : Int) (p : Nat → rl_P) (n : Nat) : rl_gp x t c p n n = p n := by
  unfold rl_gp
  rw [if_neg (fun h => absurd h.1 (by omega))]
theorem rl_gp_y {x : Int32} {t c : Int} {p : Nat → rl_P} {n : Nat} (h : rl_B x n) : va_up (rl_gp x t c p n) n (rl_gr t c (p n)) = rl_gp x t c p (n + 1) := by
  funext j
  by_cases e : j = n
  · rw [e, va_up_self]
    unfold rl_gp
    rw [if_pos ⟨by omega, h⟩]
  · rw [va_up_ne _ _ e]
    unfold rl_gp
    by_cases g : j < n ∧ rl_B x j
    · rw [if_pos g, if_pos ⟨by omega, g.2⟩]
    · rw [if_neg g, if_neg (fun h2 => g ⟨by omega, h2.2⟩)]
theorem rl_gp_n {x : Int32} {t c : Int} {p : Nat → rl_P} {n : Nat} (h : ¬ rl_B x n) : rl_gp x t c p (n + 1) = rl_gp x t c p n := by
  funext j
  unfold rl_gp
  by_cases g : j < n ∧ rl_B x j
  · rw [if_pos g, if_pos ⟨by omega, g.2⟩]
  · rw [if_neg g, if_neg (fun h2 => ?_)]
    by_cases e : j = n
    · rw [e] at h2
      exact h h2.2
    · exact g ⟨by omega, h2.2⟩
theorem rl_a67 {post : Int32 → St1 → Prop} {x : Int32} {t c : Int} {p : Nat → rl_P} (hW : ∀ j, j < 4 → rl_W t (p j)) (H : ∀ u', rl_R 4 u' t (rl_gp x t c p 4) → post 1 u') :
    ∀ (d i fu : Nat) (an : Int32) (a1 a2 a3 a4 a5 a6 a7 a8 a9 a10 a11 a12 a13 a14 : Nat → Int32), i + d = 4 → d < fu → rl_R 4 (an, a1, a2, a3, a4, a5, a6, a7, a8, a9, a10, a11, a12, a13, a14) t (rl_gp x t c p i) → wX_askAll_67 post x (rl_I c) 1 fu (nI i) an a1 a2 a3 a4 a5 a6 a7 a8 a9 a10 a11 a12 a13 a14 := by
  intro d
  induction d with
  | zero =>
    intro i fu an a1 a2 a3 a4 a5 a6 a7 a8 a9 a10 a11 a12 a13 a14 hi hf hR
    obtain ⟨fu, rfl⟩ : ∃ f, fu = f + 1 := ⟨fu - 1, by omega⟩
    have hi' : i = 4 := by omega
    subst hi'
    exact pk_le 4 4 (fun _ => br_f (by decide) (H _ hR)) (fun z => absurd z (by omega))
  | succ d ih =>
    intro i fu an a1 a2 a3 a4 a5 a6 a7 a8 a9 a10 a11 a12 a13 a14 hi hf hR
    obtain ⟨fu, rfl⟩ : ∃ f, fu = f + 1 := ⟨fu - 1, by omega⟩
    refine pk_le 4 i (fun z => absurd z (by omega)) (fun _ => br_f (by decide) (br_c (fun hb => ?_) (fun hb => nm_r (nI_1 i) ?_)))
    · refine rl_grant (by omega) hR (by rw [rl_gp_at]; exact hW i (by omega)) (fun u' hR' => ?_)
      rw [rl_gp_at, rl_gp_y hb] at hR'
      obtain ⟨bn, b1, b2, b3, b4, b5, b6, b7, b8, b9, b10, b11, b12, b13, b14⟩ := u'
      exact nm_r (nI_1 i) (ih (i + 1) fu bn b1 b2 b3 b4 b5 b6 b7 b8 b9 b10 b11 b12 b13 b14 (by omega) (by omega) hR')
    · rw [← rl_gp_n hb] at hR
      exact ih (i + 1) fu an a1 a2 a3 a4 a5 a6 a7 a8 a9 a10 a11 a12 a13 a14 (by omega) (by omega) hR
theorem rl_a15 {post : Int32 → St1 → Prop} {x : Int32} {t c : Int} {p : Nat → rl_P} (hc : 1 ≤ c ∧ c ≤ 20) (hW : ∀ j, j < 4 → rl_W t (p j)) (hu : ∀ j, j < 4 → rl_cu t (p j) = p j)
    (H1 : rl_all x t c p 4 → ∀ u', rl_R 4 u' t (rl_gp x t c p 4) → post 1 u') (H0 : ¬ rl_all x t c p 4 → ∀ u', rl_R 4 u' t p → post 0 u') :
    ∀ (d i fu : Nat) (x3 : Int32) (an : Int32) (a1 a2 a3 a4 a5 a6 a7 a8 a9 a10 a11 a12 a13 a14 : Nat → Int32), i + d = 4 → d < fu → rl_R 4 (an, a1, a2, a3, a4, a5, a6, a7, a8, a9, a10, a11, a12, a13, a14) t p → ((x3 = 1 ∧ rl_all x t c p i) ∨ (x3 = 0 ∧ ¬ rl_all x t c p i)) → wX_askAll_15 post x (rl_I c) fu x3 (nI i) an a1 a2 a3 a4 a5 a6 a7 a8 a9 a10 a11 a12 a13 a14 := by
  intro d
  induction d with
  | zero =>
    intro i fu x3 an a1 a2 a3 a4 a5 a6 a7 a8 a9 a10 a11 a12 a13 a14 hi hf hR hx
    obtain ⟨fu, rfl⟩ : ∃ f, fu = f + 1 := ⟨fu - 1, by omega⟩
    have hi' : i = 4 := by omega
    subst hi'
    refine pk_le 4 4 (fun _ => ?_) (fun z => absurd z (by omega))
    rcases hx with ⟨e, hx⟩ | ⟨e, hx⟩
    · subst e
      rw [← rl_gp_0 x t c p] at hR
      have w := rl_a67 (post := post) hW (H1 hx) 4 0 5 an a1 a2 a3 a4 a5 a6 a7 a8 a9 a10 a11 a12 a13 a14 (by omega) (by omega) hR
      rw [nI_0] at w
      exact ⟨5, w⟩
    · subst e
      exact ⟨1, pk_le 4 0 (fun z => absurd z (by omega)) (fun _ => br_t rfl (br_t rfl (H0 hx _ hR)))⟩
  | succ d ih =>
    intro i fu x3 an a1 a2 a3 a4 a5 a6 a7 a8 a9 a10 a11 a12 a13 a14 hi hf hR hx
    obtain ⟨fu, rfl⟩ : ∃ f, fu = f + 1 := ⟨fu - 1, by omega⟩
    have hi4 : i < 4 := by omega
    refine pk_le 4 i (fun z => absurd z (by omega)) (fun _ => br_c (fun hb => ?_) (fun hb => nm_r (nI_1 i) ?_))
    · refine rl_roomOf hi4 hR (hW i hi4) (fun u' hR' => ?_)
      rw [hu i hi4, rl_uself p i _ rfl] at hR'
      rw [hu i hi4]
      have hin := rl_room_in (hW i hi4)
      obtain ⟨bn, b1, b2, b3, b4, b5, b6, b7, b8, b9, b10, b11, b12, b13, b14⟩ := u'
      dsimp only
      refine rl_le c (rl_room t (p i)) (fun z => nm_r (nI_1 i) ?_) (fun z => ?_)
      · refine ih (i + 1) fu x3 bn b1 b2 b3 b4 b5 b6 b7 b8 b9 b10 b11 b12 b13 b14 (by omega) (by omega) hR' ?_
        rcases hx with ⟨e, hx⟩ | ⟨e, hx⟩
        · refine Or.inl ⟨e, fun j hj hj2 => ?_⟩
          by_cases ej : j = i
          · rw [ej]
            exact z
          · exact hx j (by omega) hj2
        · exact Or.inr ⟨e, fun hh => hx (fun j hj hj2 => hh j (by omega) hj2)⟩
      · refine ⟨rl_i4 hi4, rl_i4 hi4, nm_e (nm_r (nI_1 i) ?_)⟩
        exact ih (i + 1) fu 0 bn b1 b2 b3 b4 b5 _ b7 b8 b9 b10 b11 b12 b13 b14 (by omega) (by omega) (rl_R6 hR') (Or.inr ⟨rfl, fun hh => absurd (hh i (by omega) hb) (by omega)⟩)
    · refine ih (i + 1) fu x3 an a1 a2 a3 a4 a5 a6 a7 a8 a9 a10 a11 a12 a13 a14 (by omega) (by omega) hR ?_
      rcases hx with ⟨e, hx⟩ | ⟨e, hx⟩
      · refine Or.inl ⟨e, fun j hj hj2 => ?_⟩
        by_cases ej : j = i
        · rw [ej] at hj2
          exact absurd hj2 hb
        · exact hx j (by omega) hj2
      · exact Or.inr ⟨e, fun hh => hx (fun j hj hj2 => hh j (by omega) hj2)⟩
theorem rl_askAll {post : Int32 → St1 → Prop} {u : St1} {x : Int32} {t c : Int} {p : Nat → rl_P} (hc : 1 ≤ c ∧ c ≤ 20) (hR : rl_R 4 u t p) (hW : ∀ j, j < 4 → rl_W t (p j)) (hu : ∀ j, j < 4 → rl_cu t (p j) = p j)
    (H1 : rl_all x t c p 4 → ∀ u', rl_R 4 u' t (rl_gp x t c p 4) → post 1 u') (H0 : ¬ rl_all x t c p 4 → ∀ u', rl_R 4 u' t p → post 0 u') : wpX_askAll post u x (rl_I c) := by
  obtain ⟨an, a1, a2, a3, a4, a5, a6, a7, a8, a9, a10, a11, a12, a13, a14⟩ := u
  unfold wpX_askAll
  dsimp only
  have w := rl_a15 (post := post) hc hW hu H1 H0 4 0 5 1 an a1 a2 a3 a4 a5 a6 a7 a8 a9 a10 a11 a12 a13 a14 (by omega) (by omega) hR (Or.inl ⟨rfl, fun i hi => absurd hi (by omega)⟩)
  rw [nI_0] at w
  exact rl_badCost hc (br_t rfl ⟨5, w⟩)
/-! time, what was granted, making -/
theorem rl_pass {post : Int32 → St1 → Prop} {u : St1} {t w : Int} {p : Nat → rl_P} (hR : rl_R 4 u t p) (ht : 0 ≤ t ∧ t ≤ 100000) (hw : 0 ≤ w ∧ w ≤ 1000) (H1 : t + w ≤ 100000 → ∀ u', rl_R 4 u' (t + w) p → post (rl_I (t + w)) u') (H0 : post (-4) u) : wpX_pass post u (rl_I w) := by
  obtain ⟨an, a1, a2, a3, a4, a5, a6, a7, a8, a9, a10, a11, a12, a13, a14⟩ := u
  have hn : an = rl_I t := hR.1
  have hs : an + rl_I w = rl_I (t + w) := by rw [hn, rl_add]
  unfold wpX_pass
  dsimp only
  refine rl_lt w 0 (fun z => absurd z (by omega)) (fun _ => rl_le w 1000 (fun _ => rl_le (t + w) 100000 (fun z => nm_r hs ?_) (fun _ => H0) hs) (fun z => absurd z (by omega)))
  exact H1 z _ (rl_Rt hR rfl)
theorem rl_granted {post : Int32 → Prop} {u : St1} {t : Int} {p : Nat → rl_P} (hR : rl_R 4 u t p) (H : post (rl_I (rl_g (p 0)))) : wpX_granted post u 0 := by
  obtain ⟨an, a1, a2, a3, a4, a5, a6, a7, a8, a9, a10, a11, a12, a13, a14⟩ := u
  have v5 : a5 0 = rl_I (rl_g (p 0)) := by
    have v := hR.2 0 (by omega)
    rcases hp : p 0 with ⟨k, r, b, s, g, T, F, D, q⟩
    rw [hp] at v
    exact v.2.2.2.2.1
  unfold wpX_granted
  dsimp only
  refine rl_bad (m := 0) (by omega) (br_t rfl ⟨rl_i4 (m := 0) (by omega), ?_⟩)
  rw [sb_cl0, v5]
  exact H
theorem rl_time {post : Int32 → Prop} {u : St1} {N : Nat} {t : Int} {p : Nat → rl_P} (hR : rl_R N u t p) (H : post (rl_I t)) : wpX_time post u := by
  obtain ⟨an, a1, a2, a3, a4, a5, a6, a7, a8, a9, a10, a11, a12, a13, a14⟩ := u
  have hn : an = rl_I t := hR.1
  unfold wpX_time
  dsimp only
  rw [hn]
  exact H
theorem rl_start {post : St1 → Prop} {u : St1} {N M m : Nat} (hm : m < 4) {t k r b s : Int} {p : Nat → rl_P} (hR : rl_R N u t p) (hN : ∀ j, j < M → j ≠ m → j < N) (H : ∀ u', rl_R M u' t (va_up p m (k, r, b, s, 0, b, t, -1000000, [])) → post u') : wpX_start post u (nI m) (rl_I k) (rl_I r) (rl_I b) (rl_I s) := by
  obtain ⟨an, a1, a2, a3, a4, a5, a6, a7, a8, a9, a10, a11, a12, a13, a14⟩ := u
  have hn : an = rl_I t := hR.1
  have i4 := rl_i4 hm
  unfold wpX_start
  dsimp only
  rw [rl_cl hm]
  refine ⟨i4, nm_e ⟨i4, nm_e ⟨i4, nm_e ⟨i4, nm_e ⟨i4, nm_e ⟨i4, nm_e ⟨i4, nm_e ⟨i4, nm_e ⟨i4, nm_e ⟨i4, nm_e ⟨i4, nm_e ⟨i4, nm_e ?_⟩⟩⟩⟩⟩⟩⟩⟩⟩⟩⟩⟩
  exact H _ (rl_fr hR ⟨pk_us, pk_us, pk_us, pk_us, pk_us.trans rl_0, pk_us, pk_us.trans hn, pk_us.trans (by rfl), 0, pk_us.trans nI_0.symm, pk_us.trans nI_0.symm, pk_us.trans rl_0, trivial⟩ hN)
theorem rl_set {post : Int32 → St1 → Prop} {u : St1} {N M m k r b s : Nat} (hm : m < 4) (hk : k ≤ 2) (hr : 1 ≤ r ∧ r ≤ 5) (hb : 1 ≤ b ∧ b ≤ 30) (hs : 1 ≤ s ∧ s ≤ 10) {t : Int} {p : Nat → rl_P} (hR : rl_R N u t p) (hN : ∀ j, j < M → j ≠ m → j < N) (H : ∀ u', rl_R M u' t (va_up p m (k, r, b, s, 0, b, t, -1000000, [])) → post 0 u') :
    wpX_set post u (nI m) (nI k) (nI (r + 8 * b + 256 * s)) := by
  obtain ⟨an, a1, a2, a3, a4, a5, a6, a7, a8, a9, a10, a11, a12, a13, a14⟩ := u
  have e1 : nI (r + 8 * b + 256 * s) &&& 7 = nI r := by
    rw [pk_andN (by omega) 3 (by decide)]
    exact congrArg nI (by omega)
  have e2 : (nI (r + 8 * b + 256 * s) >>> ((3 : Int32) &&& 31)) &&& 31 = nI b := by
    rw [pk_shrN (by omega) _ 3 (by decide), pk_andN (by omega) 5 (by decide)]
    exact congrArg nI (by omega)
  have e3 : (nI (r + 8 * b + 256 * s) >>> ((8 : Int32) &&& 31)) &&& 15 = nI s := by
    rw [pk_shrN (by omega) _ 8 (by decide), pk_andN (by omega) 4 (by decide)]
    exact congrArg nI (by omega)
  unfold wpX_set
  dsimp only
  refine rl_bad hm (br_t rfl (pk_lt k 0 (fun z => absurd z (by omega)) (fun _ => pk_le k 2 (fun _ => ?_) (fun z => absurd z (by omega)))))
  refine nm_r e1 (nm_r e2 (nm_r e3 ?_))
  refine pk_lt r 1 (fun z => absurd z (by omega)) (fun _ => pk_lt 5 r (fun z => absurd z (by omega)) (fun _ => pk_lt b 1 (fun z => absurd z (by omega)) (fun _ => pk_lt 30 b (fun z => absurd z (by omega)) (fun _ => pk_lt s 1 (fun z => absurd z (by omega)) (fun _ => pk_le s 10 (fun _ => ?_) (fun z => absurd z (by omega)))))))
  rw [rl_nI k, rl_nI r, rl_nI b, rl_nI s]
  refine rl_start hm hR hN (fun u' hR' => ?_)
  obtain ⟨bn, b1, b2, b3, b4, b5, b6, b7, b8, b9, b10, b11, b12, b13, b14⟩ := u'
  exact H _ hR'
theorem rl_in108 {post : St1 → Prop} {mc ms kc ks : Nat} {p : Nat → rl_P} (H : ∀ u', rl_R 0 u' 0 p → post u') :
    ∀ (d i fu : Nat) (an : Int32) (a1 a2 a3 a4 a5 a6 a7 a8 a9 a10 a11 a12 a13 a14 : Nat → Int32), i + d = 4 → d < fu → rl_R 0 (an, a1, a2, a3, a4, a5, a6, a7, a8, a9, a10, a11, a12, a13, a14) 0 p → wX_init_108 post mc ms kc ks fu (nI i) an a1 a2 a3 a4 a5 a6 a7 a8 a9 a10 a11 a12 a13 a14 := by
  intro d
  induction d with
  | zero =>
    intro i fu an a1 a2 a3 a4 a5 a6 a7 a8 a9 a10 a11 a12 a13 a14 hi hf hR
    obtain ⟨fu, rfl⟩ : ∃ f, fu = f + 1 := ⟨fu - 1, by omega⟩
    exact pk_le 4 i (fun _ => H _ hR) (fun z => absurd z (by omega))
  | succ d ih =>
    intro i fu an a1 a2 a3 a4 a5 a6 a7 a8 a9 a10 a11 a12 a13 a14 hi hf hR
    obtain ⟨fu, rfl⟩ : ∃ f, fu = f + 1 := ⟨fu - 1, by omega⟩
    refine pk_le 4 i (fun z => absurd z (by omega)) (fun _ => ?_)
    refine rl_start (M := 0) (k := 0) (r := 1) (b := 10) (s := 1) (by omega) hR (fun j hj => absurd hj (by omega)) (fun u' hR' => ?_)
    obtain ⟨bn, b1, b2, b3, b4, b5, b6, b7, b8, b9, b10, b11, b12, b13, b14⟩ := u'
    exact nm_r (nI_1 i) (ih (i + 1) fu bn b1 b2 b3 b4 b5 b6 b7 b8 b9 b10 b11 b12 b13 b14 (by omega) (by omega) ⟨hR'.1, fun j hj => absurd hj (by omega)⟩)
theorem rl_init {post : St1 → Prop} {p : Nat → rl_P} (H : ∀ u', rl_R 0 u' 0 p → post u') : wpX_init post 14 304 0 := by
  unfold wpX_init
  refine ⟨by decide, by decide, by decide, by decide, by decide, by decide, by decide, by decide, by decide, by decide, by decide, by decide, by decide, by decide, by decide, by decide, by decide, by decide, by decide, by decide, by decide, by decide, by decide, by decide, by decide, by decide, by decide, by decide, 5, ?_⟩
  have w := rl_in108 (post := post) (mc := 14) (ms := 304) (kc := 14) (ks := 304) (p := p) H 4 0 5 0 (fun _ => 0) (fun _ => 0) (fun _ => 0) (fun _ => 0) (fun _ => 0) (fun _ => 0) (fun _ => 0) (fun _ => 0) (fun _ => 0) (fun _ => 0) (fun _ => 0) (fun _ => 0) (fun _ => 0) (fun _ => 0) (by omega) (by omega) ⟨rl_0, fun j hj => absurd hj (by omega)⟩
  rw [nI_0] at w
  exact w
/-! the law's own little methods -/
theorem rl_md (y : Int32) {M D : Int32} (k d : Nat) (hM : M.toBitVec.toNat = 2 ^ k - 1) (hk : 2 ^ k < 2 ^ 31) (hD : D = nI d) (hd : 0 < d ∧ d < 2 ^ 31) : 1 + ((y &&& M) - (y &&& M) / D * D) = nI (1 + y.toBitVec.toNat % 2 ^ k % d) := by
  have h : y.toBitVec.toNat % 2 ^ k < 2 ^ k := Nat.mod_lt _ (Nat.two_pow_pos k)
  rw [pk_and y k hM, hD, pk_rem (by omega) hd.1 hd.2]
  show nI 1 + _ = _
  rw [nI_add]
def rl_nr (x : Int32) : Nat := 1 + x.toBitVec.toNat % 2 ^ 4 % 5
def rl_nb (x : Int32) : Nat := 1 + (x >>> ((4 : Int32) &&& 31)).toBitVec.toNat % 2 ^ 8 % 30
def rl_ns (x : Int32) : Nat := 1 + (x >>> ((12 : Int32) &&& 31)).toBitVec.toNat % 2 ^ 4 % 10
theorem rl_nr_e (x : Int32) : 1 + ((x &&& 15) - (x &&& 15) / 5 * 5) = nI (rl_nr x) := rl_md x 4 5 (by decide) (by decide) rfl (by decide)
theorem rl_nb_e (x : Int32) : 1 + (((x >>> ((4 : Int32) &&& 31)) &&& 255) - ((x >>> ((4 : Int32) &&& 31)) &&& 255) / 30 * 30) = nI (rl_nb x) := rl_md _ 8 30 (by decide) (by decide) rfl (by decide)
theorem rl_ns_e (x : Int32) : 1 + (((x >>> ((12 : Int32) &&& 31)) &&& 15) - ((x >>> ((12 : Int32) &&& 31)) &&& 15) / 10 * 10) = nI (rl_ns x) := rl_md _ 4 10 (by decide) (by decide) rfl (by decide)
theorem rl_nr_b (x : Int32) : 1 ≤ rl_nr x ∧ rl_nr x ≤ 5 := by unfold rl_nr; omega
theorem rl_nb_b (x : Int32) : 1 ≤ rl_nb x ∧ rl_nb x ≤ 30 := by unfold rl_nb; omega
theorem rl_ns_b (x : Int32) : 1 ≤ rl_ns x ∧ rl_ns x ≤ 10 := by unfold rl_ns; omega
theorem rl_numbers {post : Int32 → Prop} {x : Int32} (H : post (nI (rl_nr x + 8 * rl_nb x + 256 * rl_ns x))) : wpL_numbers post () x := by
  unfold wpL_numbers
  refine ⟨by decide, nm_r (rl_nr_e x) ⟨by decide, nm_r (rl_nb_e x) ⟨by decide, nm_r (rl_ns_e x) ?_⟩⟩⟩
  have e : nI (rl_nr x) + 8 * nI (rl_nb x) + 256 * nI (rl_ns x) = nI (rl_nr x + 8 * rl_nb x + 256 * rl_ns x) := by
    show nI (rl_nr x) + nI 8 * nI (rl_nb x) + nI 256 * nI (rl_ns x) = _
    rw [pk_mul, pk_mul, nI_add, nI_add]
  rw [e]
  exact H
theorem rl_cell {post : Int32 → Prop} {L k : Nat} {xs : Nat → Int32} (hL : L < 2 ^ 31) (hk : k < 2 ^ 31) (H : ∀ x, post x) : wpL_cell post L xs () (nI k) :=
  pk_le L k (fun _ => H _) (fun z => ⟨vp_in_nI z hL, H _⟩)
end
section
/-! the law's loop: what holds at its head -/
def rl_Inv (r b sum : Int) (u : St1) (t : Int) (p : Nat → rl_P) : Prop := rl_R 4 u t p ∧ (∀ j, j < 4 → rl_W t (p j)) ∧ rl_c (p 0) = (0, r, b) ∧ rl_g (p 0) = sum
theorem rl_W_tb {t : Int} {x : rl_P} (h : rl_W t x) : 0 ≤ t ∧ t ≤ 100000 := by
  obtain ⟨k, r, b, s, g, T, F, D, q⟩ := x
  obtain ⟨hk, hr, hb, hs, hT, hF, hD, hq, hsum, hg, hv⟩ := h
  omega
theorem rl_W_g {t r b : Int} {x : rl_P} (h : rl_W t x) (hc : rl_c x = (0, r, b)) : 0 ≤ rl_g x ∧ rl_g x ≤ b + r * t ∧ (0 ≤ r * t ∧ r * t ≤ 500000) ∧ (0 ≤ b ∧ b ≤ 30) := by
  obtain ⟨k, r', b', s, g, T, F, D, q⟩ := x
  obtain ⟨hk, hr, hb, hs, hT, hF, hD, hq, hsum, hg, hv⟩ := h
  have e1 : k = 0 := congrArg (fun y : Int × Int × Int => y.1) hc
  have e2 : r' = r := congrArg (fun y : Int × Int × Int => y.2.1) hc
  have e3 : b' = b := congrArg (fun y : Int × Int × Int => y.2.2) hc
  subst e2 e3
  have h1 := hv e1
  have h2 : r' * F ≤ r' * t := Int.mul_le_mul_of_nonneg_left hF.2.1 (by omega)
  have h3 := rl_pb (a := r') (b := t) (by omega) hr.2 (by omega) hF.2.2
  show 0 ≤ g ∧ g ≤ b' + r' * t ∧ _
  omega
theorem rl_Inv_up {r b sum t d : Int} {u u' : St1} {p : Nat → rl_P} {m : Nat} {x : rl_P} (hI : rl_Inv r b sum u t p) (hR : rl_R 4 u' t (va_up p m x)) (hW : rl_W t x) (hc : rl_c x = rl_c (p m)) (hg : rl_g x = rl_g (p m) + d) :
    (m = 0 → rl_Inv r b (sum + d) u' t (va_up p m x)) ∧ (m ≠ 0 → rl_Inv r b sum u' t (va_up p m x)) := by
  obtain ⟨i1, i2, i3, i4⟩ := hI
  have hW' : ∀ j, j < 4 → rl_W t (va_up p m x j) := by
    intro j hj
    by_cases e : j = m
    · rw [e, va_up_self]
      exact hW
    · rw [va_up_ne _ _ e]
      exact i2 j hj
  refine ⟨fun z => ⟨hR, hW', ?_, ?_⟩, fun z => ⟨hR, hW', ?_, ?_⟩⟩
  · rw [z, va_up_self, hc, z]
    exact i3
  · rw [z, va_up_self, hg, z, i4]
  · rw [va_up_ne _ _ (fun e => z e.symm)]
    exact i3
  · rw [va_up_ne _ _ (fun e => z e.symm)]
    exact i4
theorem rl_Inv_cu {r b sum t : Int} {u u' : St1} {p : Nat → rl_P} {m : Nat} (hm : m < 4) (hI : rl_Inv r b sum u t p) (hR : rl_R 4 u' t (va_up p m (rl_cu t (p m)))) : rl_Inv r b sum u' t (va_up p m (rl_cu t (p m))) := by
  have h := rl_Inv_up (d := 0) hI hR (rl_cu_W (hI.2.1 m hm)) (rl_cu_c t _) (by rw [rl_cu_g, Int.add_zero])
  rw [Int.add_zero] at h
  by_cases e : m = 0
  · exact h.1 e
  · exact h.2 e
theorem rl_Inv_t {r b sum t t' : Int} {u u' : St1} {p : Nat → rl_P} (hI : rl_Inv r b sum u t p) (hR : rl_R 4 u' t' p) (h1 : t ≤ t') (h2 : t' ≤ 100000) : rl_Inv r b sum u' t' p :=
  ⟨hR, fun j hj => rl_W_t (hI.2.1 j hj) h1 h2, hI.2.2⟩
theorem rl_Inv_R {r b sum t : Int} {u u' : St1} {p : Nat → rl_P} (hI : rl_Inv r b sum u t p) (hR : rl_R 4 u' t p) : rl_Inv r b sum u' t p := ⟨hR, hI.2⟩
/-- what the loop's head is asked for -/
def rl_J (J : Int32 → Int32 → Int32 → (Nat → Int32) → (Nat → Int32) → (Nat → Int32) → (Nat → Int32) → (Nat → Int32) → (Nat → Int32) → (Nat → Int32) → (Nat → Int32) → (Nat → Int32) → (Nat → Int32) → (Nat → Int32) → (Nat → Int32) → (Nat → Int32) → (Nat → Int32) → Prop) (r b : Int) (k : Nat) : Prop :=
  ∀ (sum t : Int) (p : Nat → rl_P) (an : Int32) (a1 a2 a3 a4 a5 a6 a7 a8 a9 a10 a11 a12 a13 a14 : Nat → Int32), rl_Inv r b sum (an, a1, a2, a3, a4, a5, a6, a7, a8, a9, a10, a11, a12, a13, a14) t p → J (rl_I sum) (nI (k + 2)) an a1 a2 a3 a4 a5 a6 a7 a8 a9 a10 a11 a12 a13 a14
section LAW
variable {post : Int32 → Prop} {L : Nat} {xs : Nat → Int32} {J : Int32 → Int32 → Int32 → (Nat → Int32) → (Nat → Int32) → (Nat → Int32) → (Nat → Int32) → (Nat → Int32) → (Nat → Int32) → (Nat → Int32) → (Nat → Int32) → (Nat → Int32) → (Nat → Int32) → (Nat → Int32) → (Nat → Int32) → (Nat → Int32) → (Nat → Int32) → Prop} {r b sum t : Int} {p : Nat → rl_P} {k kc ks : Nat} {an : Int32} {a1 a2 a3 a4 a5 a6 a7 a8 a9 a10 a11 a12 a13 a14 : Nat → Int32}
theorem rl_490 (hJ : rl_J J r b k) (hI : rl_Inv r b sum (an, a1, a2, a3, a4, a5, a6, a7, a8, a9, a10, a11, a12, a13, a14) t p) : wL_law_490 post L xs J (rl_I r) (rl_I b) (rl_I sum) (nI k) kc ks an a1 a2 a3 a4 a5 a6 a7 a8 a9 a10 a11 a12 a13 a14 := by
  have hg := rl_W_g (hI.2.1 0 (by omega)) hI.2.2.1
  rw [hI.2.2.2] at hg
  unfold wL_law_490
  refine rl_granted hI.1 ?_
  rw [hI.2.2.2]
  refine br_t rfl (rl_time hI.1 ?_)
  refine rl_le sum (b + r * t) (fun _ => nm_r (show nI k + nI 2 = nI (k + 2) from nI_add k 2) ?_) (fun z => absurd z (by omega)) rfl (by rw [rl_mul, rl_add])
  exact hJ sum t p an a1 a2 a3 a4 a5 a6 a7 a8 a9 a10 a11 a12 a13 a14 hI
theorem rl_474 (hJ : rl_J J r b k) (hI : rl_Inv r b sum (an, a1, a2, a3, a4, a5, a6, a7, a8, a9, a10, a11, a12, a13, a14) t p) : wL_law_474 post L xs J (rl_I r) (rl_I b) (rl_I sum) (nI k) kc ks an a1 a2 a3 a4 a5 a6 a7 a8 a9 a10 a11 a12 a13 a14 := by
  unfold wL_law_474
  exact rl_490 hJ hI
theorem rl_347 (hJ : rl_J J r b k) (hI : rl_Inv r b sum (an, a1, a2, a3, a4, a5, a6, a7, a8, a9, a10, a11, a12, a13, a14) t p) : wL_law_347 post L xs J (rl_I r) (rl_I b) (rl_I sum) (nI k) kc ks an a1 a2 a3 a4 a5 a6 a7 a8 a9 a10 a11 a12 a13 a14 := by
  unfold wL_law_347
  exact rl_490 hJ hI
theorem rl_268 (hJ : rl_J J r b k) (hI : rl_Inv r b sum (an, a1, a2, a3, a4, a5, a6, a7, a8, a9, a10, a11, a12, a13, a14) t p) : wL_law_268 post L xs J (rl_I r) (rl_I b) (nI k) (rl_I sum) kc ks an a1 a2 a3 a4 a5 a6 a7 a8 a9 a10 a11 a12 a13 a14 := by
  unfold wL_law_268
  exact rl_490 hJ hI
theorem rl_266 (hJ : rl_J J r b k) (hI : rl_Inv r b sum (an, a1, a2, a3, a4, a5, a6, a7, a8, a9, a10, a11, a12, a13, a14) t p) : wL_law_266 post L xs J (rl_I r) (rl_I b) (rl_I sum) (nI k) kc ks an a1 a2 a3 a4 a5 a6 a7 a8 a9 a10 a11 a12 a13 a14 := by
  unfold wL_law_266
  exact rl_268 hJ hI
theorem rl_337 (hJ : rl_J J r b k) (hI : rl_Inv r b sum (an, a1, a2, a3, a4, a5, a6, a7, a8, a9, a10, a11, a12, a13, a14) t p) : wL_law_337 post L xs J (rl_I r) (rl_I b) (nI k) 1 (rl_I sum) kc ks an a1 a2 a3 a4 a5 a6 a7 a8 a9 a10 a11 a12 a13 a14 := by
  unfold wL_law_337
  exact br_t rfl (rl_347 hJ hI)
/-- an ask that was granted -/
theorem rl_206y {m : Nat} (hm : m < 4) {c ro : Int} (hc : 1 ≤ c ∧ c ≤ 20) (hro : 0 ≤ ro ∧ ro ≤ 20) (hcr : c ≤ ro) (hJ : rl_J J r b k) (hI0 : m = 0 → rl_Inv r b (sum + c) (an, a1, a2, a3, a4, a5, a6, a7, a8, a9, a10, a11, a12, a13, a14) t p) (hI1 : m ≠ 0 → rl_Inv r b sum (an, a1, a2, a3, a4, a5, a6, a7, a8, a9, a10, a11, a12, a13, a14) t p) :
    wL_law_206 post L xs J (rl_I r) (rl_I b) (rl_I sum) (nI k) (nI m) (rl_I c) (rl_I ro) 0 1 1 kc ks an a1 a2 a3 a4 a5 a6 a7 a8 a9 a10 a11 a12 a13 a14 := by
  unfold wL_law_206
  refine rl_lt ro c (fun z => absurd z (by omega)) (fun _ => ?_)
  unfold wL_law_218
  refine br_t rfl (br_t rfl ?_)
  unfold wL_law_232
  refine br_t rfl ?_
  unfold wL_law_242
  refine br_t rfl (pk_eq m 0 (fun z => br_t rfl ?_) (fun z => ?_))
  · rw [rl_add]
    exact rl_268 hJ (hI0 z)
  · exact rl_266 hJ (hI1 z)
/-- an ask that was refused -/
theorem rl_206n {m : Nat} (hm : m < 4) {c ro : Int} {x12 : Int32} (hc : 1 ≤ c ∧ c ≤ 20) (hro : 0 ≤ ro ∧ ro ≤ 20) (hcr : ¬ c ≤ ro) (hw : ¬ x12 = 0) (hJ : rl_J J r b k) (hI : rl_Inv r b sum (an, a1, a2, a3, a4, a5, a6, a7, a8, a9, a10, a11, a12, a13, a14) t p) :
    wL_law_206 post L xs J (rl_I r) (rl_I b) (rl_I sum) (nI k) (nI m) (rl_I c) (rl_I ro) x12 0 0 kc ks an a1 a2 a3 a4 a5 a6 a7 a8 a9 a10 a11 a12 a13 a14 := by
  unfold wL_law_206
  refine rl_lt ro c (fun _ => ?_) (fun z => absurd z (by omega))
  unfold wL_law_218
  refine br_t rfl (br_f (by decide) ?_)
  unfold wL_law_232
  refine br_f hw ?_
  unfold wL_law_242
  exact br_t rfl (pk_eq m 0 (fun z => br_f (by decide) (rl_266 hJ hI)) (fun z => rl_266 hJ hI))
theorem rl_425y (hJ : rl_J J r b k) {x11 x12 x13 x14 : Int32} (hI : rl_Inv r b sum (an, a1, a2, a3, a4, a5, a6, a7, a8, a9, a10, a11, a12, a13, a14) t p) : wL_law_425 post L xs J (rl_I r) (rl_I b) (nI k) x11 x12 x13 x14 1 (rl_I sum) kc ks an a1 a2 a3 a4 a5 a6 a7 a8 a9 a10 a11 a12 a13 a14 := by
  unfold wL_law_425
  exact br_f (by decide) (rl_474 hJ hI)
theorem rl_425n (hJ : rl_J J r b k) (hu : ∀ j, j < 4 → rl_cu t (p j) = p j) (hI : rl_Inv r b sum (an, a1, a2, a3, a4, a5, a6, a7, a8, a9, a10, a11, a12, a13, a14) t p) :
    wL_law_425 post L xs J (rl_I r) (rl_I b) (nI k) (rl_I (rl_r20 (rl_room t (p 0)))) (rl_I (rl_r20 (rl_room t (p 1)))) (rl_I (rl_r20 (rl_room t (p 2)))) (rl_I (rl_r20 (rl_room t (p 3)))) 0 (rl_I sum) kc ks an a1 a2 a3 a4 a5 a6 a7 a8 a9 a10 a11 a12 a13 a14 := by
  have hs : ∀ j, j < 4 → va_up p j (rl_cu t (p j)) = p := fun j hj => rl_uself p j _ (hu j hj).symm
  unfold wL_law_425
  refine br_t rfl (rl_roomM (m := 0) (by omega) hI.1 (hI.2.1 0 (by omega)) (fun u' hR' => ?_))
  rw [hs 0 (by omega)] at hR'
  rw [hu 0 (by omega)]
  obtain ⟨bn, b1, b2, b3, b4, b5, b6, b7, b8, b9, b10, b11, b12, b13, b14⟩ := u'
  refine br_t rfl (rl_roomM (m := 1) (by omega) hR' (hI.2.1 1 (by omega)) (fun u2 hR2 => ?_))
  rw [hs 1 (by omega)] at hR2
  rw [hu 1 (by omega)]
  obtain ⟨dn, d1, d2, d3, d4, d5, d6, d7, d8, d9, d10, d11, d12, d13, d14⟩ := u2
  refine br_t rfl (rl_roomM (m := 2) (by omega) hR2 (hI.2.1 2 (by omega)) (fun u3 hR3 => ?_))
  rw [hs 2 (by omega)] at hR3
  rw [hu 2 (by omega)]
  obtain ⟨en, e1, e2, e3, e4, e5, e6, e7, e8, e9, e10, e11, e12, e13, e14⟩ := u3
  refine br_t rfl (rl_roomM (m := 3) (by omega) hR3 (hI.2.1 3 (by omega)) (fun u4 hR4 => ?_))
  rw [hs 3 (by omega)] at hR4
  rw [hu 3 (by omega)]
  obtain ⟨fn, f1, f2, f3, f4, f5, f6, f7, f8, f9, f10, f11, f12, f13, f14⟩ := u4
  exact br_t rfl (rl_474 hJ (rl_Inv_R hI hR4))
theorem rl_423y (hJ : rl_J J r b k) {x11 x12 x13 x14 : Int32} (hI : rl_Inv r b sum (an, a1, a2, a3, a4, a5, a6, a7, a8, a9, a10, a11, a12, a13, a14) t p) : wL_law_423 post L xs J (rl_I r) (rl_I b) (rl_I sum) (nI k) x11 x12 x13 x14 1 kc ks an a1 a2 a3 a4 a5 a6 a7 a8 a9 a10 a11 a12 a13 a14 := by
  unfold wL_law_423
  exact rl_425y hJ hI
theorem rl_423n (hJ : rl_J J r b k) (hu : ∀ j, j < 4 → rl_cu t (p j) = p j) (hI : rl_Inv r b sum (an, a1, a2, a3, a4, a5, a6, a7, a8, a9, a10, a11, a12, a13, a14) t p) :
    wL_law_423 post L xs J (rl_I r) (rl_I b) (rl_I sum) (nI k) (rl_I (rl_r20 (rl_room t (p 0)))) (rl_I (rl_r20 (rl_room t (p 1)))) (rl_I (rl_r20 (rl_room t (p 2)))) (rl_I (rl_r20 (rl_room t (p 3)))) 0 kc ks an a1 a2 a3 a4 a5 a6 a7 a8 a9 a10 a11 a12 a13 a14 := by
  unfold wL_law_423
  exact rl_425n hJ hu hI
end LAW
theorem rl_gp_Inv {r b sum t c : Int} {u u' : St1} {p : Nat → rl_P} {x : Int32} (hc : 1 ≤ c ∧ c ≤ 20) (hI : rl_Inv r b sum u t p) (hall : rl_all x t c p 4) (hR : rl_R 4 u' t (rl_gp x t c p 4)) :
    (rl_B x 0 → rl_Inv r b (sum + c) u' t (rl_gp x t c p 4)) ∧ (¬ rl_B x 0 → rl_Inv r b sum u' t (rl_gp x t c p 4)) := by
  have hW : ∀ j, j < 4 → rl_W t (rl_gp x t c p 4 j) := by
    intro j hj
    unfold rl_gp
    split
    · rename_i h
      exact rl_gr_W (hI.2.1 j hj) hc (hall j hj h.2)
    · exact hI.2.1 j hj
  refine ⟨fun z => ?_, fun z => ?_⟩
  · have e : rl_gp x t c p 4 0 = rl_gr t c (p 0) := by
      unfold rl_gp
      rw [if_pos ⟨by omega, z⟩]
    refine ⟨hR, hW, ?_, ?_⟩
    · rw [e, rl_gr_c]
      exact hI.2.2.1
    · rw [e, rl_gr_g, hI.2.2.2]
  · have e : rl_gp x t c p 4 0 = p 0 := by
      unfold rl_gp
      rw [if_neg (fun h => z h.2)]
    refine ⟨hR, hW, ?_, ?_⟩
    · rw [e]
      exact hI.2.2.1
    · rw [e]
      exact hI.2.2.2
end
section
/-! one turn of the law's loop -/
section TURN
variable {post : Int32 → Prop} {L : Nat} {xs : Nat → Int32} {J : Int32 → Int32 → Int32 → (Nat → Int32) → (Nat → Int32) → (Nat → Int32) → (Nat → Int32) → (Nat → Int32) → (Nat → Int32) → (Nat → Int32) → (Nat → Int32) → (Nat → Int32) → (Nat → Int32) → (Nat → Int32) → (Nat → Int32) → (Nat → Int32) → (Nat → Int32) → Prop} {r b sum t : Int} {p : Nat → rl_P} {k kc ks : Nat} {an : Int32} {a1 a2 a3 a4 a5 a6 a7 a8 a9 a10 a11 a12 a13 a14 : Nat → Int32}
theorem rl_156 {z0 z1 z2 x8 : Int32} {kd m : Nat} (hkd : kd < 16) (hm : m < 4) {c : Int} (hc : 1 ≤ c ∧ c ≤ 20) (hz : ¬ z0 = 0) (hx : z2 + (z1 - z1 / z0 * z0) = rl_I c) (hJ : rl_J J r b k) (hI : rl_Inv r b sum (an, a1, a2, a3, a4, a5, a6, a7, a8, a9, a10, a11, a12, a13, a14) t p) :
    wL_law_156 post L xs J (rl_I r) (rl_I b) (rl_I sum) (nI k) (nI kd) x8 (nI m) z0 z1 z2 kc ks an a1 a2 a3 a4 a5 a6 a7 a8 a9 a10 a11 a12 a13 a14 := by
  have htb := rl_W_tb (hI.2.1 0 (by omega))
  unfold wL_law_156
  refine ⟨hz, nm_r hx (pk_le 8 kd (fun z8 => pk_le 10 kd (fun z10 => pk_le 13 kd (fun z13 => ?_) (fun z13 => ?_)) (fun z10 => ?_)) (fun z8 => ?_))⟩
  · obtain ⟨w, hw, ew⟩ := pk_andE (x8 >>> ((10 : Int32) &&& 31)) (m := 7) 3 (by decide)
    rw [ew, rl_nI w]
    refine rl_pass hI.1 htb (by omega) (fun h1 u' hR' => ?_) ?_
    · obtain ⟨bn, b1, b2, b3, b4, b5, b6, b7, b8, b9, b10, b11, b12, b13, b14⟩ := u'
      exact rl_490 hJ (rl_Inv_t hI hR' (by omega) h1)
    · exact rl_490 hJ hI
  · refine rl_roomM (m := 0) (by omega) hI.1 (hI.2.1 0 (by omega)) (fun u1 hR1 => ?_)
    have hI1 := rl_Inv_cu (by omega) hI hR1
    obtain ⟨bn, b1, b2, b3, b4, b5, b6, b7, b8, b9, b10, b11, b12, b13, b14⟩ := u1
    refine rl_roomM (m := 1) (by omega) hI1.1 (hI1.2.1 1 (by omega)) (fun u2 hR2 => ?_)
    have hI2 := rl_Inv_cu (by omega) hI1 hR2
    obtain ⟨cn, c1, c2, c3, c4, c5, c6, c7, c8, c9, c10, c11, c12, c13, c14⟩ := u2
    refine rl_roomM (m := 2) (by omega) hI2.1 (hI2.2.1 2 (by omega)) (fun u3 hR3 => ?_)
    have hI3 := rl_Inv_cu (by omega) hI2 hR3
    obtain ⟨dn, d1, d2, d3, d4, d5, d6, d7, d8, d9, d10, d11, d12, d13, d14⟩ := u3
    refine rl_roomM (m := 3) (by omega) hI3.1 (hI3.2.1 3 (by omega)) (fun u4 hR4 => ?_)
    have hI4 := rl_Inv_cu (by omega) hI3 hR4
    obtain ⟨en, e1, e2, e3, e4, e5, e6, e7, e8, e9, e10, e11, e12, e13, e14⟩ := u4
    obtain ⟨P4, hP4⟩ : ∃ P, va_up (va_up (va_up (va_up p 0 (rl_cu t (p 0))) 1 (rl_cu t (va_up p 0 (rl_cu t (p 0)) 1))) 2 (rl_cu t (va_up (va_up p 0 (rl_cu t (p 0))) 1 (rl_cu t (va_up p 0 (rl_cu t (p 0)) 1)) 2))) 3 (rl_cu t (va_up (va_up (va_up p 0 (rl_cu t (p 0))) 1 (rl_cu t (va_up p 0 (rl_cu t (p 0)) 1))) 2 (rl_cu t (va_up (va_up p 0 (rl_cu t (p 0))) 1 (rl_cu t (va_up p 0 (rl_cu t (p 0)) 1)) 2)) 3)) = P := ⟨_, rfl⟩
    rw [hP4] at hI4
    have q0 : P4 0 = rl_cu t (p 0) := by rw [← hP4]; rfl
    have q1 : P4 1 = rl_cu t (va_up p 0 (rl_cu t (p 0)) 1) := by rw [← hP4]; rfl
    have q2 : P4 2 = rl_cu t (va_up (va_up p 0 (rl_cu t (p 0))) 1 (rl_cu t (va_up p 0 (rl_cu t (p 0)) 1)) 2) := by rw [← hP4]; rfl
    have q3 : P4 3 = rl_cu t (va_up (va_up (va_up p 0 (rl_cu t (p 0))) 1 (rl_cu t (va_up p 0 (rl_cu t (p 0)) 1))) 2 (rl_cu t (va_up (va_up p 0 (rl_cu t (p 0))) 1 (rl_cu t (va_up p 0 (rl_cu t (p 0)) 1)) 2)) 3) := by rw [← hP4]; rfl
    have hu : ∀ j, j < 4 → rl_cu t (P4 j) = P4 j := fun j hj => co_4 (P := fun j => rl_cu t (P4 j) = P4 j)
      (by rw [q0]; exact rl_cu_cu (hI.2.1 0 (by omega))) (by rw [q1]; exact rl_cu_cu (hI1.2.1 1 (by omega))) (by rw [q2]; exact rl_cu_cu (hI2.2.1 2 (by omega))) (by rw [q3]; exact rl_cu_cu (hI3.2.1 3 (by omega))) hj
    rw [← q3, ← q2, ← q1, ← q0]
    clear q0 q1 q2 q3 hR1 hR2 hR3 hR4 hI1 hI2 hI3
    have hB : ((x8 >>> ((10 : Int32) &&& 31)) >>> (nI 0 &&& 31)) = x8 >>> ((10 : Int32) &&& 31) := sb_shr0 _
    refine rl_askAll hc hI4.1 hI4.2.1 hu (fun hall u5 hR5 => ?_) (fun hn u5 hR5 => ?_)
    · have hIg := rl_gp_Inv hc hI4 hall hR5
      unfold rl_B at hIg
      rw [hB] at hIg
      obtain ⟨fn, f1, f2, f3, f4, f5, f6, f7, f8, f9, f10, f11, f12, f13, f14⟩ := u5
      refine br_t rfl (br_c (fun hb => ?_) (fun hb => ?_))
      · rw [rl_add]
        exact rl_425y hJ (hIg.1 hb)
      · exact rl_423y hJ (hIg.2 hb)
    · obtain ⟨fn, f1, f2, f3, f4, f5, f6, f7, f8, f9, f10, f11, f12, f13, f14⟩ := u5
      exact br_f (by decide) (rl_423n hJ hu (rl_Inv_R hI4 hR5))
  · have hWm := hI.2.1 m hm
    refine rl_waitFor hm hc hI.1 hWm (fun hb => ?_) (fun hb u1 hR1 => ?_)
    · exact br_t (by decide) (rl_347 hJ hI)
    · have hI1 := rl_Inv_cu hm hI hR1
      have hb' : c ≤ rl_b (rl_cu t (p m)) := by rw [rl_cu_b]; exact hb
      obtain ⟨w, hwe⟩ : ∃ w, rl_wait t c (rl_cu t (p m)) = w := ⟨_, rfl⟩
      have hw : 0 ≤ w ∧ w ≤ 1000 := by
        by_cases g : c ≤ rl_room t (rl_cu t (p m))
        · rw [rl_wait_0 g] at hwe
          omega
        · have := rl_wait_pos (rl_cu_W hWm) (rl_cu_cu hWm) hc hb' g
          omega
      rw [hwe]
      obtain ⟨bn, b1, b2, b3, b4, b5, b6, b7, b8, b9, b10, b11, b12, b13, b14⟩ := u1
      refine rl_lt w 0 (fun z => absurd z (by omega)) (fun _ => rl_lt 1000 w (fun z => absurd z (by omega)) (fun _ => rl_pass hI1.1 htb hw (fun h1 u2 hR2 => ?_) ?_))
      · have hI2 := rl_Inv_t hI1 hR2 (by omega) h1
        obtain ⟨dn, d1, d2, d3, d4, d5, d6, d7, d8, d9, d10, d11, d12, d13, d14⟩ := u2
        refine rl_lt (t + w) 0 (fun z => absurd z (by omega)) (fun _ => rl_ask hm hc hI2.1 (hI2.2.1 m hm) (fun hr u3 hR3 => ?_) (fun hr => absurd ?_ hr))
        · have hIu := rl_Inv_up (d := c) hI2 hR3 (rl_gr_W (rl_cu_W (hI2.2.1 m hm)) hc hr) (by rw [rl_gr_c, rl_cu_c]) (by rw [rl_gr_g, rl_cu_g])
          obtain ⟨en, e1, e2, e3, e4, e5, e6, e7, e8, e9, e10, e11, e12, e13, e14⟩ := u3
          refine pk_eq m 0 (fun z => ?_) (fun z => ?_)
          · rw [rl_add]
            exact rl_337 hJ (hIu.1 z)
          · exact rl_337 hJ (hIu.2 z)
        · rw [va_up_self]
          exact rl_wait_ok (rl_cu_W hWm) (rl_cu_cu hWm) hc hb' hwe
      · exact br_t (by decide) (rl_347 hJ hI1)
  · have hWm := hI.2.1 m hm
    refine rl_roomM hm hI.1 hWm (fun u1 hR1 => ?_)
    have hI1 := rl_Inv_cu hm hI hR1
    obtain ⟨p1, hp1⟩ : ∃ P, va_up p m (rl_cu t (p m)) = P := ⟨_, rfl⟩
    have e1 : rl_cu t (p m) = p1 m := by rw [← hp1, va_up_self]
    rw [hp1] at hI1
    rw [e1]
    have hu : rl_cu t (p1 m) = p1 m := by rw [← e1]; exact rl_cu_cu hWm
    have hs : va_up p1 m (rl_cu t (p1 m)) = p1 := rl_uself _ _ _ hu.symm
    have hW1 := hI1.2.1 m hm
    have hro := rl_room_in hW1
    have hro2 := rl_r20_b hro.1
    have hri := rl_r20_in (z := rl_room t (p1 m)) hc.2
    clear hR1 e1 hp1
    obtain ⟨bn, b1, b2, b3, b4, b5, b6, b7, b8, b9, b10, b11, b12, b13, b14⟩ := u1
    refine rl_waitFor hm hc hI1.1 hW1 (fun hb => ?_) (fun hb u2 hR2 => ?_)
    · refine rl_ask hm hc hI1.1 hW1 (fun hr => absurd hr (by rw [hu]; omega)) (fun hr u3 hR3 => ?_)
      rw [hs] at hR3
      obtain ⟨dn, d1, d2, d3, d4, d5, d6, d7, d8, d9, d10, d11, d12, d13, d14⟩ := u3
      exact br_f (by decide) (rl_206n hm hc hro2 (by rw [hri]; omega) (by decide) hJ (rl_Inv_R hI1 hR3))
    · rw [hs] at hR2
      rw [hu]
      obtain ⟨dn, d1, d2, d3, d4, d5, d6, d7, d8, d9, d10, d11, d12, d13, d14⟩ := u2
      refine rl_ask hm hc hR2 hW1 (fun hr u3 hR3 => ?_) (fun hr u3 hR3 => ?_)
      · rw [hu] at hr hR3
        have hIu := rl_Inv_up (d := c) hI1 hR3 (rl_gr_W hW1 hc hr) (rl_gr_c _ _ _) (rl_gr_g _ _ _)
        rw [rl_wait_0 hr, ← rl_0]
        obtain ⟨en, e1, e2, e3, e4, e5, e6, e7, e8, e9, e10, e11, e12, e13, e14⟩ := u3
        exact br_t rfl (rl_206y hm hc hro2 (hri.mpr hr) hJ hIu.1 hIu.2)
      · rw [hs] at hR3
        rw [hu] at hr
        have hwp := rl_wait_pos hW1 hu hc hb hr
        obtain ⟨en, e1, e2, e3, e4, e5, e6, e7, e8, e9, e10, e11, e12, e13, e14⟩ := u3
        exact br_f (by decide) (rl_206n hm hc hro2 (by rw [hri]; exact hr) (rl_nil rfl (by omega) (by omega)) hJ (rl_Inv_R hI1 hR3))
end TURN
end
section
/-! the law's loops, and the law -/
theorem rl_525 {L : Nat} {xs : Nat → Int32} {kc ks : Nat} {r b sum t : Int} {p : Nat → rl_P} {an : Int32} {a1 a2 a3 a4 a5 a6 a7 a8 a9 a10 a11 a12 a13 a14 : Nat → Int32} (hI : rl_Inv r b sum (an, a1, a2, a3, a4, a5, a6, a7, a8, a9, a10, a11, a12, a13, a14) t p) : wL_law_525 (fun r => r = 1) L xs kc ks an a1 a2 a3 a4 a5 a6 a7 a8 a9 a10 a11 a12 a13 a14 := by
  have htb := rl_W_tb (hI.2.1 0 (by omega))
  unfold wL_law_525
  exact rl_time hI.1 (rl_lt t 0 (fun z => absurd z (by omega)) (fun _ => rfl))
theorem rl_93 {L : Nat} (hL : L ≤ 260) {xs : Nat → Int32} {kc ks : Nat} {r b : Int} : ∀ (fu k : Nat) (sum t : Int) (p : Nat → rl_P) (an : Int32) (a1 a2 a3 a4 a5 a6 a7 a8 a9 a10 a11 a12 a13 a14 : Nat → Int32), k ≤ 151 → 150 - k < fu → rl_Inv r b sum (an, a1, a2, a3, a4, a5, a6, a7, a8, a9, a10, a11, a12, a13, a14) t p → wL_law_93 (fun r => r = 1) L xs (rl_I r) (rl_I b) kc ks fu (rl_I sum) (nI k) an a1 a2 a3 a4 a5 a6 a7 a8 a9 a10 a11 a12 a13 a14 := by
  intro fu
  induction fu with
  | zero => intro k sum t p an a1 a2 a3 a4 a5 a6 a7 a8 a9 a10 a11 a12 a13 a14 _ z; omega
  | succ fu ih =>
    intro k sum t p an a1 a2 a3 a4 a5 a6 a7 a8 a9 a10 a11 a12 a13 a14 hk hf hI
    refine pk_le L (k + 1) (fun _ => rl_525 hI) (fun z => pk_le 150 k (fun _ => rl_525 hI) (fun z2 => ?_)) rfl (nI_1 k)
    obtain ⟨kd, hkd, ekd⟩ := pk_andE (xs (nI k).toNatClampNeg) (m := 15) 4 (by decide)
    refine ⟨vp_in_nI (by omega) (by omega), nm_r ekd ⟨by rw [nI_1]; exact vp_in_nI z (by omega), nm_e ?_⟩⟩
    generalize xs (nI k + 1).toNatClampNeg = x
    obtain ⟨m, hm, em⟩ := pk_andE x (m := 3) 2 (by decide)
    have hJ : rl_J (wL_law_93 (fun r => r = 1) L xs (rl_I r) (rl_I b) kc ks fu) r b k := fun sum t p bn b1 b2 b3 b4 b5 b6 b7 b8 b9 b10 b11 b12 b13 b14 hI => ih (k + 2) sum t p bn b1 b2 b3 b4 b5 b6 b7 b8 b9 b10 b11 b12 b13 b14 (by omega) (by omega) hI
    refine nm_r em (br_c (fun _ => ?_) (fun _ => ?_))
    · exact rl_156 hkd hm (c := ((1 + (x >>> ((2 : Int32) &&& 31)).toBitVec.toNat % 2 ^ 8 % 5 : Nat) : Int)) (by omega) (by decide) ((rl_md _ 8 5 (by decide) (by decide) rfl (by decide)).trans (rl_nI _)) hJ hI
    · exact rl_156 hkd hm (c := ((1 + (x >>> ((2 : Int32) &&& 31)).toBitVec.toNat % 2 ^ 8 % 20 : Nat) : Int)) (by omega) (by decide) ((rl_md _ 8 20 (by decide) (by decide) rfl (by decide)).trans (rl_nI _)) hJ hI
theorem rl_W_new {k r b s : Nat} (hk : k ≤ 2) (hr : 1 ≤ r ∧ r ≤ 5) (hb : 1 ≤ b ∧ b ≤ 30) (hs : 1 ≤ s ∧ s ≤ 10) : rl_W 0 ((k : Int), (r : Int), (b : Int), (s : Int), 0, (b : Int), 0, -1000000, []) := by
  have h := Int.mul_nonneg (show (0 : Int) ≤ (b : Int) by omega) (show (0 : Int) ≤ (s : Int) by omega)
  exact ⟨by omega, by omega, by omega, by omega, by omega, by omega, by omega, trivial, show (0 : Int) ≤ (b : Int) by omega, by omega, fun _ => by rw [Int.mul_zero]; omega⟩
theorem rl_54 {L : Nat} (hL : L ≤ 260) {xs : Nat → Int32} {kc ks : Nat} {r b : Int} : ∀ (d m fu : Nat) (p : Nat → rl_P) (an : Int32) (a1 a2 a3 a4 a5 a6 a7 a8 a9 a10 a11 a12 a13 a14 : Nat → Int32), m + d = 4 → 1 ≤ m → d < fu → rl_R m (an, a1, a2, a3, a4, a5, a6, a7, a8, a9, a10, a11, a12, a13, a14) 0 p → (∀ j, j < m → rl_W 0 (p j)) → rl_c (p 0) = (0, r, b) → rl_g (p 0) = 0 →
    wL_law_54 (fun r => r = 1) L xs (rl_I r) (rl_I b) 0 kc ks fu (nI m) an a1 a2 a3 a4 a5 a6 a7 a8 a9 a10 a11 a12 a13 a14 := by
  intro d
  induction d with
  | zero =>
    intro m fu p an a1 a2 a3 a4 a5 a6 a7 a8 a9 a10 a11 a12 a13 a14 hm h1 hf hR hW hc hg
    obtain ⟨fu, rfl⟩ : ∃ f, fu = f + 1 := ⟨fu - 1, by omega⟩
    have hm' : m = 4 := by omega
    subst hm'
    have w := rl_93 hL (xs := xs) (kc := kc) (ks := ks) 200 4 0 0 p an a1 a2 a3 a4 a5 a6 a7 a8 a9 a10 a11 a12 a13 a14 (by omega) (by omega) ⟨hR, hW, hc, hg⟩
    rw [← rl_0] at w
    exact pk_le 4 4 (fun _ => ⟨200, w⟩) (fun z => absurd z (by omega))
  | succ d ih =>
    intro m fu p an a1 a2 a3 a4 a5 a6 a7 a8 a9 a10 a11 a12 a13 a14 hm h1 hf hR hW hc hg
    obtain ⟨fu, rfl⟩ : ∃ f, fu = f + 1 := ⟨fu - 1, by omega⟩
    have e3 : nI m - nI m / 3 * 3 = nI (m % 3) := pk_rem (d := 3) (by omega) (by omega) (by omega)
    refine pk_le 4 m (fun z => absurd z (by omega)) (fun _ => rl_cell (by omega) (by omega) (fun x => ⟨by decide, rl_numbers ?_⟩))
    rw [e3]
    refine rl_set (M := m + 1) (by omega) (by omega) (rl_nr_b x) (rl_nb_b x) (rl_ns_b x) hR (fun j hj hne => by omega) (fun u' hR' => ?_)
    obtain ⟨bn, b1, b2, b3, b4, b5, b6, b7, b8, b9, b10, b11, b12, b13, b14⟩ := u'
    refine nm_r (nI_1 m) (ih (m + 1) fu _ bn b1 b2 b3 b4 b5 b6 b7 b8 b9 b10 b11 b12 b13 b14 (by omega) (by omega) (by omega) hR' (fun j hj => ?_) ?_ ?_)
    · by_cases e : j = m
      · rw [e, va_up_self]
        exact rl_W_new (by omega) (rl_nr_b x) (rl_nb_b x) (rl_ns_b x)
      · rw [va_up_ne _ _ e]
        exact hW j (by omega)
    · rw [va_up_ne _ _ (by omega)]
      exact hc
    · rw [va_up_ne _ _ (by omega)]
      exact hg
theorem i_vc (xs : Nat → Int32) (L : Nat) (hL : L ≤ 260) : wpL_law (fun r => r = 1) L xs := by
  refine ⟨14, 304, by decide, by decide, rl_init (p := fun _ => (0, 0, 0, 0, 0, 0, 0, 0, [])) (fun u hR => ?_)⟩
  obtain ⟨an, a1, a2, a3, a4, a5, a6, a7, a8, a9, a10, a11, a12, a13, a14⟩ := u
  refine rl_cell (k := 0) (by omega) (by omega) (fun x => ⟨by decide, nm_r (rl_nr_e x) ⟨by decide, nm_r (rl_nb_e x) (rl_numbers ?_)⟩⟩)
  refine rl_set (m := 0) (k := 0) (M := 1) (by omega) (by omega) (rl_nr_b x) (rl_nb_b x) (rl_ns_b x) hR (fun j hj hne => by omega) (fun u' hR' => ?_)
  obtain ⟨bn, b1, b2, b3, b4, b5, b6, b7, b8, b9, b10, b11, b12, b13, b14⟩ := u'
  have w := rl_54 hL (xs := xs) (kc := 1 + 14) (ks := 15 + 304) (r := (rl_nr x : Int)) (b := (rl_nb x : Int)) 3 1 5 _ bn b1 b2 b3 b4 b5 b6 b7 b8 b9 b10 b11 b12 b13 b14 (by omega) (by omega) (by omega) hR' (fun j hj => ?_) rfl rfl
  · rw [← rl_nI, ← rl_nI] at w
    exact ⟨5, w⟩
  · have e : j = 0 := by omega
    rw [e, va_up_self]
    exact rl_W_new (by omega) (rl_nr_b x) (rl_nb_b x) (rl_ns_b x)
end
