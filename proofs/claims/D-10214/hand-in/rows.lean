section
/-! Bellman-Ford by ticks, over arcs k < P (src, dst, len, rs: has room) on the nodes 0..5; node 0 is the root. -/
def bf_up {α : Type} (f : Nat → α) (k : Nat) (x : α) : Nat → α := fun j => if j = k then x else f j
theorem bf_us {α : Type} {f : Nat → α} {k : Nat} {x : α} : bf_up f k x k = x := by unfold bf_up; rw [if_pos rfl]
theorem bf_un {α : Type} {f : Nat → α} {k j : Nat} {x : α} (h : j ≠ k) : bf_up f k x j = f j := by unfold bf_up; rw [if_neg h]
/-- reached, longest, last arc -/
abbrev bf_S : Type := (Nat → Bool) × (Nat → Int) × (Nat → Nat)
abbrev bf_c (src dst : Nat → Nat) (len : Nat → Int) (rs : Nat → Bool) (k : Nat) (s : bf_S) : Prop :=
  s.1 (src k) = true ∧ rs k = true ∧ dst k ≠ 0 ∧ (s.1 (dst k) = false ∨ s.2.1 (dst k) < s.2.1 (src k) + len k)
def bf_x (src dst : Nat → Nat) (len : Nat → Int) (rs : Nat → Bool) (k : Nat) (s : bf_S) : bf_S :=
  if bf_c src dst len rs k s then (bf_up s.1 (dst k) true, bf_up s.2.1 (dst k) (s.2.1 (src k) + len k), bf_up s.2.2 (dst k) k) else s
def bf_0 : bf_S := (fun v => decide (v = 0), fun _ => 0, fun _ => 0)
def bf_run (src dst : Nat → Nat) (len : Nat → Int) (rs : Nat → Bool) (P : Nat) : Nat → bf_S
  | 0 => bf_0
  | t + 1 => bf_x src dst len rs (t % P) (bf_run src dst len rs P t)
section
variable {src dst : Nat → Nat} {len : Nat → Int} {rs : Nat → Bool} {P : Nat}
theorem bf_x_t {k : Nat} {s : bf_S} (h : bf_c src dst len rs k s) : bf_x src dst len rs k s = (bf_up s.1 (dst k) true, bf_up s.2.1 (dst k) (s.2.1 (src k) + len k), bf_up s.2.2 (dst k) k) := by
  unfold bf_x; rw [if_pos h]
theorem bf_x_f {k : Nat} {s : bf_S} (h : ¬ bf_c src dst len rs k s) : bf_x src dst len rs k s = s := by
  unfold bf_x; rw [if_neg h]
theorem bf_x_mono {k v : Nat} {s : bf_S} (h : s.1 v = true) : (bf_x src dst len rs k s).1 v = true ∧ s.2.1 v ≤ (bf_x src dst len rs k s).2.1 v := by
  by_cases c : bf_c src dst len rs k s
  · rw [bf_x_t c]
    dsimp only
    by_cases e : v = dst k
    · subst e
      rw [bf_us, bf_us]
      obtain ⟨_, _, _, c4⟩ := c
      rcases c4 with c4 | c4
      · rw [h] at c4; cases c4
      · exact ⟨rfl, by omega⟩
    · rw [bf_un e, bf_un e]
      exact ⟨h, Int.le_refl _⟩
  · rw [bf_x_f c]
    exact ⟨h, Int.le_refl _⟩
theorem bf_x_0 {k : Nat} {s : bf_S} (h : s.1 0 = true) (h2 : s.2.1 0 = 0) : (bf_x src dst len rs k s).1 0 = true ∧ (bf_x src dst len rs k s).2.1 0 = 0 := by
  by_cases c : bf_c src dst len rs k s
  · rw [bf_x_t c]
    dsimp only
    have e : 0 ≠ dst k := fun z => c.2.2.1 z.symm
    rw [bf_un e, bf_un e]
    exact ⟨h, h2⟩
  · rw [bf_x_f c]
    exact ⟨h, h2⟩
theorem bf_x_push {k : Nat} {s : bf_S} (h1 : s.1 (src k) = true) (h2 : rs k = true) (h3 : dst k ≠ 0) : (bf_x src dst len rs k s).1 (dst k) = true ∧ s.2.1 (src k) + len k ≤ (bf_x src dst len rs k s).2.1 (dst k) := by
  by_cases c : bf_c src dst len rs k s
  · rw [bf_x_t c]
    dsimp only
    rw [bf_us, bf_us]
    exact ⟨rfl, Int.le_refl _⟩
  · rw [bf_x_f c]
    by_cases a : s.1 (dst k) = true
    · refine ⟨a, ?_⟩
      by_cases b : s.2.1 (dst k) < s.2.1 (src k) + len k
      · exact absurd ⟨h1, h2, h3, Or.inr b⟩ c
      · omega
    · have a' : s.1 (dst k) = false := by
        cases g : s.1 (dst k)
        · rfl
        · exact absurd g a
      exact absurd ⟨h1, h2, h3, Or.inl a'⟩ c
theorem bf_x_chg {k v : Nat} {s : bf_S} {x : Int} (h : ¬ (s.1 v = true ∧ s.2.1 v = x)) (h1 : (bf_x src dst len rs k s).1 v = true) (h2 : (bf_x src dst len rs k s).2.1 v = x) :
    v = dst k ∧ v ≠ 0 ∧ rs k = true ∧ s.1 (src k) = true ∧ x = s.2.1 (src k) + len k ∧ (bf_x src dst len rs k s).2.2 v = k := by
  by_cases c : bf_c src dst len rs k s
  · rw [bf_x_t c] at h1 h2 ⊢
    dsimp only at h1 h2 ⊢
    by_cases e : v = dst k
    · subst e
      rw [bf_us] at h2 ⊢
      exact ⟨rfl, c.2.2.1, c.2.1, c.1, h2.symm, rfl⟩
    · rw [bf_un e] at h1 h2
      exact absurd ⟨h1, h2⟩ h
  · rw [bf_x_f c] at h1 h2
    exact absurd ⟨h1, h2⟩ h
theorem bf_x_par {k v : Nat} {s : bf_S} {x : Int} (h : s.1 v = true ∧ s.2.1 v = x) (h2 : (bf_x src dst len rs k s).2.1 v = x) : (bf_x src dst len rs k s).2.2 v = s.2.2 v := by
  by_cases c : bf_c src dst len rs k s
  · rw [bf_x_t c] at h2 ⊢
    dsimp only at h2 ⊢
    by_cases e : v = dst k
    · subst e
      rw [bf_us] at h2
      obtain ⟨_, _, _, c4⟩ := c
      rcases c4 with c4 | c4
      · rw [h.1] at c4; cases c4
      · omega
    · rw [bf_un e]
  · rw [bf_x_f c]
theorem bf_x_le {RR : Nat → Prop} {π : Nat → Int} {k : Nat} {s : bf_S} (hc : rs k = true → RR (src k) → RR (dst k) ∧ π (src k) + len k ≤ π (dst k))
    (h : ∀ v, s.1 v = true → RR v ∧ s.2.1 v ≤ π v) : ∀ v, (bf_x src dst len rs k s).1 v = true → RR v ∧ (bf_x src dst len rs k s).2.1 v ≤ π v := by
  intro v hv
  by_cases c : bf_c src dst len rs k s
  · rw [bf_x_t c] at hv ⊢
    dsimp only at hv ⊢
    by_cases e : v = dst k
    · subst e
      rw [bf_us]
      have a := h _ c.1
      have b := hc c.2.1 a.1
      exact ⟨b.1, by omega⟩
    · rw [bf_un e] at hv ⊢
      exact h v hv
  · rw [bf_x_f c] at hv ⊢
    exact h v hv
theorem bf_run_s (t : Nat) : bf_run src dst len rs P (t + 1) = bf_x src dst len rs (t % P) (bf_run src dst len rs P t) := rfl
theorem bf_re0 (t : Nat) : (bf_run src dst len rs P t).1 0 = true ∧ (bf_run src dst len rs P t).2.1 0 = 0 := by
  induction t with
  | zero => exact ⟨rfl, rfl⟩
  | succ t ih => rw [bf_run_s]; exact bf_x_0 ih.1 ih.2
theorem bf_le {RR : Nat → Prop} {π : Nat → Int} (hP : 0 < P) (r0 : RR 0) (p0 : π 0 = 0) (hc : ∀ k, k < P → rs k = true → RR (src k) → RR (dst k) ∧ π (src k) + len k ≤ π (dst k)) (t : Nat) :
    ∀ v, (bf_run src dst len rs P t).1 v = true → RR v ∧ (bf_run src dst len rs P t).2.1 v ≤ π v := by
  induction t with
  | zero =>
    intro v hv
    have e : v = 0 := of_decide_eq_true hv
    subst e
    exact ⟨r0, by rw [p0]; exact Int.le_refl _⟩
  | succ t ih => rw [bf_run_s]; exact bf_x_le (hc _ (Nat.mod_lt _ hP)) ih
theorem bf_mono {t t' v : Nat} (h : t ≤ t') (hv : (bf_run src dst len rs P t).1 v = true) : (bf_run src dst len rs P t').1 v = true ∧ (bf_run src dst len rs P t).2.1 v ≤ (bf_run src dst len rs P t').2.1 v := by
  induction h with
  | refl => exact ⟨hv, Int.le_refl _⟩
  | @step m _ ih =>
    rw [Nat.succ_eq_add_one, bf_run_s]
    have a := bf_x_mono (src := src) (dst := dst) (len := len) (rs := rs) (k := m % P) ih.1
    exact ⟨a.1, Int.le_trans ih.2 a.2⟩
theorem bf_stab {t : Nat} (hP : 0 < P) (h : ∀ k, k < P → ¬ bf_c src dst len rs k (bf_run src dst len rs P t)) {t' : Nat} (ht : t ≤ t') : bf_run src dst len rs P t' = bf_run src dst len rs P t := by
  induction ht with
  | refl => rfl
  | step _ ih => rw [Nat.succ_eq_add_one, bf_run_s, ih]; exact bf_x_f (h _ (Nat.mod_lt _ hP))
theorem bf_bd (hl : ∀ k, k < P → -9 ≤ len k ∧ len k ≤ 9) (hP : 0 < P) (t : Nat) : ∀ v, -(9 * (t : Int)) ≤ (bf_run src dst len rs P t).2.1 v ∧ (bf_run src dst len rs P t).2.1 v ≤ 9 * (t : Int) := by
  induction t with
  | zero =>
    intro v
    show -(9 * ((0 : Nat) : Int)) ≤ (0 : Int) ∧ (0 : Int) ≤ 9 * ((0 : Nat) : Int)
    omega
  | succ t ih =>
    intro v
    rw [bf_run_s]
    by_cases c : bf_c src dst len rs (t % P) (bf_run src dst len rs P t)
    · rw [bf_x_t c]
      dsimp only
      by_cases e : v = dst (t % P)
      · subst e
        rw [bf_us]
        have a := ih (src (t % P))
        have b := hl _ (Nat.mod_lt t hP)
        omega
      · rw [bf_un e]
        have a := ih v
        omega
    · rw [bf_x_f c]
      have a := ih v
      omega
end
/-- the next tick of an arc -/
theorem bf_next (a P k : Nat) (hk : k < P) : ∃ t, a ≤ t ∧ t < a + P ∧ t % P = k := by
  have h1 : a % P < P := Nat.mod_lt _ (by omega)
  have h2 := Nat.div_add_mod a P
  by_cases c : a % P ≤ k
  · refine ⟨P * (a / P) + k, by omega, by omega, ?_⟩
    rw [Nat.mul_add_mod, Nat.mod_eq_of_lt hk]
  · refine ⟨P * (a / P + 1) + k, ?_, ?_, ?_⟩
    · rw [Nat.mul_add]; omega
    · rw [Nat.mul_add]; omega
    · rw [Nat.mul_add_mod, Nat.mod_eq_of_lt hk]
/-- counting -/
def bf_n (p : Nat → Bool) : Nat → Nat
  | 0 => 0
  | n + 1 => bf_n p n + (if p n = true then 1 else 0)
theorem bf_n_le {p q : Nat → Bool} {n : Nat} (h : ∀ w, w < n → p w = true → q w = true) : bf_n p n ≤ bf_n q n := by
  induction n with
  | zero => exact Nat.le_refl _
  | succ n ih =>
    have a := ih (fun w hw => h w (by omega))
    have b := h n (by omega)
    unfold bf_n
    by_cases c : p n = true
    · rw [if_pos c, if_pos (b c)]; omega
    · rw [if_neg c]; split <;> omega
theorem bf_n_lt {p q : Nat → Bool} {n a : Nat} (h : ∀ w, w < n → p w = true → q w = true) (ha : a < n) (h1 : p a = false) (h2 : q a = true) : bf_n p n < bf_n q n := by
  induction n with
  | zero => omega
  | succ n ih =>
    have b := h n (by omega)
    unfold bf_n
    by_cases e : a = n
    · subst e
      have x := bf_n_le (p := p) (q := q) (n := a) (fun w hw => h w (by omega))
      rw [if_pos h2, if_neg (by rw [h1]; decide)]; omega
    · have x := ih (fun w hw => h w (by omega)) (by omega)
      by_cases c : p n = true
      · rw [if_pos c, if_pos (b c)]; omega
      · rw [if_neg c]; split <;> omega
theorem bf_n_all (n : Nat) : bf_n (fun _ => true) n = n := by
  induction n with
  | zero => rfl
  | succ n ih => unfold bf_n; rw [ih, if_pos rfl]
def bf_rk (T : Nat → Nat) (v : Nat) : Nat := bf_n (fun w => decide (T w < T v)) 6
theorem bf_rk_lt {T : Nat → Nat} {a b : Nat} (ha : a < 6) (h : T a < T b) : bf_rk T a < bf_rk T b := by
  refine bf_n_lt (fun w _ hp => ?_) ha ?_ ?_
  · have x : T w < T a := of_decide_eq_true hp
    exact decide_eq_true (by omega)
  · exact decide_eq_false (by omega)
  · exact decide_eq_true h
theorem bf_rk_5 {T : Nat → Nat} {a : Nat} (ha : a < 6) : bf_rk T a ≤ 5 := by
  have x : bf_rk T a < bf_n (fun _ => true) 6 := bf_n_lt (fun _ _ _ => rfl) ha (decide_eq_false (by omega)) rfl
  rw [bf_n_all] at x
  omega
/-- a rising bounded row of ints settles -/
theorem bf_settle (f : Nat → Int) (B : Int) : ∀ (m t0 : Nat), (B - f t0).toNat ≤ m → (∀ t t', t0 ≤ t → t ≤ t' → f t ≤ f t') → (∀ t, t0 ≤ t → f t ≤ B) → ∃ t1, t0 ≤ t1 ∧ ∀ t, t1 ≤ t → f t = f t1 := by
  intro m
  induction m with
  | zero =>
    intro t0 hm h1 h2
    refine ⟨t0, Nat.le_refl _, fun t ht => ?_⟩
    have a := h1 t0 t (Nat.le_refl _) ht
    have b := h2 t ht
    omega
  | succ m ih =>
    intro t0 hm h1 h2
    by_cases c : ∃ t, t0 ≤ t ∧ f t0 < f t
    · obtain ⟨t, ht, hlt⟩ := c
      have b := h2 t ht
      obtain ⟨t1, g1, g2⟩ := ih t (by omega) (fun x y hx hy => h1 x y (by omega) hy) (fun x hx => h2 x (by omega))
      exact ⟨t1, by omega, g2⟩
    · refine ⟨t0, Nat.le_refl _, fun t ht => ?_⟩
      have a := h1 t0 t (Nat.le_refl _) ht
      by_cases d : f t0 < f t
      · exact absurd ⟨t, ht, d⟩ c
      · omega
end
section
/-! The main theorem of Bellman-Ford: after 6P ticks all is settled -/
section
variable {src dst : Nat → Nat} {len : Nat → Int} {rs : Nat → Bool} {P : Nat}
theorem bf_lim1 {RR : Nat → Prop} {π : Nat → Int} (hP : 0 < P) (r0 : RR 0) (p0 : π 0 = 0) (hc : ∀ k, k < P → rs k = true → RR (src k) → RR (dst k) ∧ π (src k) + len k ≤ π (dst k)) (v : Nat) :
    ∃ t1, ∀ t, t1 ≤ t → (bf_run src dst len rs P t).1 v = true → (bf_run src dst len rs P t1).1 v = true ∧ (bf_run src dst len rs P t).2.1 v = (bf_run src dst len rs P t1).2.1 v := by
  by_cases c : ∃ t0, (bf_run src dst len rs P t0).1 v = true
  · obtain ⟨t0, h0⟩ := c
    obtain ⟨t1, g1, g2⟩ := bf_settle (fun t => (bf_run src dst len rs P t).2.1 v) (π v) _ t0 (Nat.le_refl _)
      (fun t t' h h' => (bf_mono h' (bf_mono h h0).1).2)
      (fun t h => (bf_le hP r0 p0 hc t v (bf_mono h h0).1).2)
    exact ⟨t1, fun t ht _ => ⟨(bf_mono g1 h0).1, g2 t ht⟩⟩
  · exact ⟨0, fun t _ h => absurd ⟨t, h⟩ c⟩
theorem bf_lim {RR : Nat → Prop} {π : Nat → Int} (hP : 0 < P) (r0 : RR 0) (p0 : π 0 = 0) (hc : ∀ k, k < P → rs k = true → RR (src k) → RR (dst k) ∧ π (src k) + len k ≤ π (dst k)) (n : Nat) :
    ∃ t1, ∀ v, v < n → ∀ t, t1 ≤ t → (bf_run src dst len rs P t).1 v = true → (bf_run src dst len rs P t1).1 v = true ∧ (bf_run src dst len rs P t).2.1 v = (bf_run src dst len rs P t1).2.1 v := by
  induction n with
  | zero => exact ⟨0, fun v hv => absurd hv (by omega)⟩
  | succ n ih =>
    obtain ⟨ta, ha⟩ := ih
    obtain ⟨tb, hb⟩ := bf_lim1 hP r0 p0 hc n
    refine ⟨max ta tb, fun v hv t ht hr => ?_⟩
    by_cases e : v = n
    · subst e
      have x := hb t (by omega) hr
      have y := hb (max ta tb) (by omega) (bf_mono (by omega) x.1).1
      exact ⟨(bf_mono (Nat.le_max_right ta tb) x.1).1, by rw [x.2, y.2]⟩
    · have x := ha v (by omega) t (by omega) hr
      have y := ha v (by omega) (max ta tb) (by omega) (bf_mono (by omega) x.1).1
      exact ⟨(bf_mono (Nat.le_max_left ta tb) x.1).1, by rw [x.2, y.2]⟩
/-- what a finished search gives: labels s, times T -/
def bf_ok (src dst : Nat → Nat) (len : Nat → Int) (rs : Nat → Bool) (P : Nat) (s : bf_S) (T : Nat → Nat) : Prop :=
  (s.1 0 = true ∧ s.2.1 0 = 0 ∧ T 0 = 0) ∧
  (∀ k, k < P → rs k = true → s.1 (src k) = true → s.1 (dst k) = true ∧ s.2.1 (src k) + len k ≤ s.2.1 (dst k)) ∧
  (∀ v, v < 6 → v ≠ 0 → s.1 v = true → s.2.2 v < P ∧ rs (s.2.2 v) = true ∧ dst (s.2.2 v) = v ∧ s.1 (src (s.2.2 v)) = true ∧ s.2.1 v = s.2.1 (src (s.2.2 v)) + len (s.2.2 v) ∧ T (src (s.2.2 v)) < T v ∧ T v ≤ 6 * P ∧ (T v - 1) % P = s.2.2 v) ∧
  (∀ v w, v < 6 → w < 6 → s.1 v = true → T v < T w → T v ≤ 4 * P) ∧
  (∀ t, t < 6 * P → rs (t % P) = true → s.1 (src (t % P)) = true → s.2.1 (dst (t % P)) = s.2.1 (src (t % P)) + len (t % P) → T (src (t % P)) ≤ t → T (dst (t % P)) ≤ t + 1)
theorem bf_main {RR : Nat → Prop} {π : Nat → Int} (hP : 0 < P) (hs : ∀ k, k < P → src k < 6) (hd : ∀ k, k < P → dst k < 6) (r0 : RR 0) (p0 : π 0 = 0)
    (hc : ∀ k, k < P → rs k = true → RR (src k) → RR (dst k) ∧ π (src k) + len k ≤ π (dst k)) :
    ∃ T, bf_ok src dst len rs P (bf_run src dst len rs P (6 * P)) T := by
  obtain ⟨t0, hlim⟩ := bf_lim hP r0 p0 hc 6
  -- the settled labels
  have hre : ∀ v, v < 6 → ∀ t, (bf_run src dst len rs P t).1 v = true → (bf_run src dst len rs P t0).1 v = true := by
    intro v hv t h
    exact (hlim v hv (max t t0) (by omega) (bf_mono (by omega) h).1).1
  have hub : ∀ v, v < 6 → ∀ t, (bf_run src dst len rs P t).1 v = true → (bf_run src dst len rs P t).2.1 v ≤ (bf_run src dst len rs P t0).2.1 v := by
    intro v hv t h
    have a := bf_mono (show t ≤ max t t0 by omega) h
    have b := hlim v hv (max t t0) (by omega) a.1
    rw [← b.2]
    exact a.2
  have hmono : ∀ v, v < 6 → ∀ t t', t ≤ t' → ((bf_run src dst len rs P t).1 v = true ∧ (bf_run src dst len rs P t).2.1 v = (bf_run src dst len rs P t0).2.1 v) → ((bf_run src dst len rs P t').1 v = true ∧ (bf_run src dst len rs P t').2.1 v = (bf_run src dst len rs P t0).2.1 v) := by
    intro v hv t t' htt h
    have a := bf_mono htt h.1
    have b := hub v hv t' a.1
    exact ⟨a.1, by have := a.2; have := h.2; omega⟩
  -- fixpoint of the settled labels
  have hfix : ∀ k, k < P → rs k = true → (bf_run src dst len rs P t0).1 (src k) = true → (bf_run src dst len rs P t0).1 (dst k) = true ∧ (bf_run src dst len rs P t0).2.1 (src k) + len k ≤ (bf_run src dst len rs P t0).2.1 (dst k) := by
    intro k hk hr h
    by_cases e : dst k = 0
    · rw [e]
      have a := bf_le hP r0 p0 hc t0 (src k) h
      have b := hc k hk hr a.1
      have c := bf_re0 (src := src) (dst := dst) (len := len) (rs := rs) (P := P) t0
      rw [e, p0] at b
      exact ⟨c.1, by have := b.2; have := a.2; have := c.2; omega⟩
    · obtain ⟨t, h1, h2, h3⟩ := bf_next t0 P k hk
      have a := bf_mono (show t0 ≤ t from h1) h
      have a2 := hlim (src k) (hs k hk) t h1 a.1
      have b := bf_x_push (src := src) (dst := dst) (len := len) (rs := rs) (k := k) a.1 hr e
      rw [← h3] at b
      rw [← bf_run_s, h3] at b
      have c := hlim (dst k) (hd k hk) (t + 1) (by omega) b.1
      exact ⟨c.1, by have := b.2; have := a2.2; have := c.2; omega⟩
  -- times
  have hT1 : ∀ v, ∃ y : Nat, v < 6 → (bf_run src dst len rs P t0).1 v = true → ∀ t, (((bf_run src dst len rs P t).1 v = true ∧ (bf_run src dst len rs P t).2.1 v = (bf_run src dst len rs P t0).2.1 v) ↔ y ≤ t) := by
    intro v
    by_cases c : v < 6 ∧ (bf_run src dst len rs P t0).1 v = true
    · obtain ⟨y, g1, g2⟩ := pk_least (fun t => (bf_run src dst len rs P t).1 v = true ∧ (bf_run src dst len rs P t).2.1 v = (bf_run src dst len rs P t0).2.1 v) ⟨t0, c.2, rfl⟩
      refine ⟨y, fun _ _ t => ⟨fun h => ?_, fun h => hmono v c.1 y t h g1⟩⟩
      by_cases d : y ≤ t
      · exact d
      · exact absurd h (g2 t (by omega))
    · exact ⟨0, fun a b => absurd ⟨a, b⟩ c⟩
  obtain ⟨T, hT⟩ := Classical.skolem.mp hT1
  have hT0 : T 0 = 0 := by
    have a := bf_re0 (src := src) (dst := dst) (len := len) (rs := rs) (P := P) t0
    have b := (hT 0 (by omega) a.1 0).mp ⟨rfl, by rw [a.2]; rfl⟩
    omega
  -- parents
  have hpar : ∀ v, v < 6 → v ≠ 0 → (bf_run src dst len rs P t0).1 v = true → ∃ k, k < P ∧ rs k = true ∧ dst k = v ∧ (bf_run src dst len rs P t0).1 (src k) = true ∧ (bf_run src dst len rs P t0).2.1 v = (bf_run src dst len rs P t0).2.1 (src k) + len k ∧ T (src k) < T v ∧ (T v - 1) % P = k ∧ T v ≤ T (src k) + P ∧ ∀ t, T v ≤ t → (bf_run src dst len rs P t).2.2 v = k := by
    intro v hv hv0 hr
    have h0 : T v ≠ 0 := by
      intro z
      have a := (hT v hv hr 0).mpr (by omega)
      have b : v = 0 := of_decide_eq_true a.1
      exact hv0 b
    have n1 : ¬ ((bf_run src dst len rs P (T v - 1)).1 v = true ∧ (bf_run src dst len rs P (T v - 1)).2.1 v = (bf_run src dst len rs P t0).2.1 v) := by
      intro z
      have a := (hT v hv hr _).mp z
      omega
    have n2 := (hT v hv hr (T v - 1 + 1)).mpr (by omega)
    rw [bf_run_s] at n2
    have k1 := Nat.mod_lt (T v - 1) hP
    obtain ⟨c1, c2, c3, c4, c5, c6⟩ := bf_x_chg n1 n2.1 n2.2
    rw [← bf_run_s, show T v - 1 + 1 = T v by omega] at c6
    have s1 := hre _ (hs _ k1) _ c4
    have s2 := hfix _ k1 c3 s1
    have s3 := hub _ (hs _ k1) _ c4
    rw [← c1] at s2
    have s4 := (hT _ (hs _ k1) s1 (T v - 1)).mp ⟨c4, by have := s2.2; omega⟩
    refine ⟨(T v - 1) % P, k1, c3, c1.symm, s1, by have := s2.2; omega, by omega, rfl, ?_, ?_⟩
    · obtain ⟨t, h1, h2, h3⟩ := bf_next (T (src ((T v - 1) % P))) P _ k1
      have a := (hT _ (hs _ k1) s1 t).mpr h1
      have b := bf_x_push (src := src) (dst := dst) (len := len) (rs := rs) (k := (T v - 1) % P) a.1 c3 (by rw [← c1]; exact c2)
      rw [← c1] at b
      have e : bf_x src dst len rs ((T v - 1) % P) (bf_run src dst len rs P t) = bf_run src dst len rs P (t + 1) := by rw [bf_run_s, h3]
      rw [e] at b
      have c := hub v hv _ b.1
      have d := (hT v hv hr (t + 1)).mp ⟨b.1, by have := b.2; have := a.2; have := s2.2; omega⟩
      omega
    · intro t ht
      induction ht with
      | refl => exact c6
      | @step m hm ih =>
        rw [Nat.succ_eq_add_one, bf_run_s]
        have a := (hT v hv hr m).mpr hm
        have b := (hT v hv hr (m + 1)).mpr (by have : T v ≤ m := hm; omega)
        rw [bf_run_s] at b
        rw [bf_x_par a b.2]
        exact ih
  -- ranks
  have hrk : ∀ m v, T v ≤ m → v < 6 → (bf_run src dst len rs P t0).1 v = true → T v ≤ P * bf_rk T v := by
    intro m
    induction m with
    | zero => intro v h _ _; omega
    | succ m ih =>
      intro v h hv hr
      by_cases e : v = 0
      · subst e; omega
      · obtain ⟨k, k1, _, _, k4, _, k6, _, k8, _⟩ := hpar v hv e hr
        have a := ih (src k) (by omega) (hs k k1) k4
        have b := bf_rk_lt (hs k k1) k6
        have c : P * (bf_rk T (src k) + 1) ≤ P * bf_rk T v := Nat.mul_le_mul_left P b
        rw [Nat.mul_add] at c
        omega
  have h5 : ∀ v, v < 6 → (bf_run src dst len rs P t0).1 v = true → T v ≤ 5 * P := by
    intro v hv hr
    have a := hrk _ v (Nat.le_refl _) hv hr
    have b : P * bf_rk T v ≤ P * 5 := Nat.mul_le_mul_left P (bf_rk_5 hv)
    omega
  -- the state at 6P
  have hE : ∀ v, v < 6 → (bf_run src dst len rs P t0).1 v = true → (bf_run src dst len rs P (6 * P)).1 v = true ∧ (bf_run src dst len rs P (6 * P)).2.1 v = (bf_run src dst len rs P t0).2.1 v := by
    intro v hv hr
    have a := h5 v hv hr
    exact (hT v hv hr (6 * P)).mpr (by omega)
  refine ⟨T, ⟨(bf_re0 _).1, (bf_re0 _).2, hT0⟩, ?_, ?_, ?_, ?_⟩
  · intro k hk hr h
    have a := hre _ (hs k hk) _ h
    have b := hfix k hk hr a
    have c := hE _ (hd k hk) b.1
    have d := hE _ (hs k hk) a
    exact ⟨c.1, by rw [c.2, d.2]; exact b.2⟩
  · intro v hv hv0 h
    have a := hre _ hv _ h
    obtain ⟨k, k1, k2, k3, k4, k5, k6, k7, k8, k9⟩ := hpar v hv hv0 a
    have b := h5 v hv a
    have e := k9 (6 * P) (by omega)
    rw [e]
    have c := hE _ hv a
    have d := hE _ (hs k k1) k4
    exact ⟨k1, k2, k3, d.1, by rw [c.2, d.2]; exact k5, k6, by omega, k7⟩
  · intro v w hv hw h hlt
    have a := hre _ hv _ h
    have b := hrk _ v (Nat.le_refl _) hv a
    have c := bf_rk_lt hv hlt
    have d := bf_rk_5 (T := T) hw
    have e : P * bf_rk T v ≤ P * 4 := Nat.mul_le_mul_left P (by omega)
    omega
  · intro t ht hr h1 h2 h3
    have k1 := Nat.mod_lt t hP
    have a := hre _ (hs _ k1) _ h1
    have b := hfix _ k1 hr a
    by_cases e : dst (t % P) = 0
    · rw [e, hT0]; omega
    · have d := hE _ (hs _ k1) a
      have c := hE _ (hd _ k1) b.1
      have f := (hT _ (hs _ k1) a t).mpr h3
      have g := bf_x_push (src := src) (dst := dst) (len := len) (rs := rs) (k := t % P) f.1 hr e
      rw [← bf_run_s] at g
      have i := hub _ (hd _ k1) _ g.1
      refine (hT _ (hd _ k1) b.1 (t + 1)).mp ⟨g.1, ?_⟩
      have := g.2; have := f.2
      rw [c.2, d.2] at h2
      omega
end
end
section
/-! The network of n jobs: arc k < 4n is line k/2 (job k/4; even line: slow, odd: fast), walked back if k is odd -/
def nw_src (fr to : Nat → Nat) (k : Nat) : Nat := if k % 2 = 0 then fr (k / 4) else to (k / 4)
def nw_dst (fr to : Nat → Nat) (k : Nat) : Nat := if k % 2 = 0 then to (k / 4) else fr (k / 4)
def nw_ln (sl fa : Nat → Int) (l : Nat) : Int := if l % 2 = 0 then sl (l / 2) else fa (l / 2)
def nw_len (sl fa : Nat → Int) (k : Nat) : Int := if k % 2 = 0 then nw_ln sl fa (k / 2) else - nw_ln sl fa (k / 2)
def nw_room (pr f : Nat → Int) (k : Nat) : Int := if k % 2 = 0 then (if k / 2 % 2 = 0 then pr (k / 4) - f (k / 2) else 1000000) else f (k / 2)
def nw_rs (pr f : Nat → Int) (k : Nat) : Bool := decide (nw_room pr f k ≠ 0)
def nw_J (n : Nat) (fr to : Nat → Nat) (sl fa pr : Nat → Int) : Prop := n ≤ 7 ∧ ∀ j, j < n → fr j < to j ∧ to j ≤ 5 ∧ 0 ≤ fa j ∧ fa j ≤ sl j ∧ sl j ≤ 9 ∧ 1 ≤ pr j ∧ pr j ≤ 20
def nw_F (n : Nat) (pr f : Nat → Int) : Prop := ∀ l, l < 2 * n → 0 ≤ f l ∧ (l % 2 = 0 → f l ≤ pr (l / 2))
def nw_V (n : Nat) (fr to : Nat → Nat) (sl fa pr f : Nat → Int) (RR : Nat → Prop) (π : Nat → Int) : Prop :=
  RR 0 ∧ π 0 = 0 ∧ ∀ k, k < 4 * n → nw_rs pr f k = true → RR (nw_src fr to k) → RR (nw_dst fr to k) ∧ π (nw_src fr to k) + nw_len sl fa k ≤ π (nw_dst fr to k)
theorem nw_rs_t {pr f : Nat → Int} {k : Nat} (h : nw_room pr f k ≠ 0) : nw_rs pr f k = true := decide_eq_true h
theorem nw_rs_r {pr f : Nat → Int} {k : Nat} (h : nw_rs pr f k = true) : nw_room pr f k ≠ 0 := of_decide_eq_true h
theorem nw_room_0 {n : Nat} {pr f : Nat → Int} (h : nw_F n pr f) {k : Nat} (hk : k < 4 * n) : 0 ≤ nw_room pr f k := by
  unfold nw_room
  have a := h (k / 2) (by omega)
  split
  · split
    · rename_i e
      have b := a.2 e
      rw [show k / 2 / 2 = k / 4 by omega] at b
      omega
    · omega
  · exact a.1
theorem nw_src_lt {n : Nat} {fr to : Nat → Nat} {sl fa pr : Nat → Int} (h : nw_J n fr to sl fa pr) {k : Nat} (hk : k < 4 * n) : nw_src fr to k < 6 := by
  have a := h.2 (k / 4) (by omega)
  unfold nw_src
  split <;> omega
theorem nw_dst_lt {n : Nat} {fr to : Nat → Nat} {sl fa pr : Nat → Int} (h : nw_J n fr to sl fa pr) {k : Nat} (hk : k < 4 * n) : nw_dst fr to k < 6 := by
  have a := h.2 (k / 4) (by omega)
  unfold nw_dst
  split <;> omega
theorem nw_len_b {n : Nat} {fr to : Nat → Nat} {sl fa pr : Nat → Int} (h : nw_J n fr to sl fa pr) {k : Nat} (hk : k < 4 * n) : -9 ≤ nw_len sl fa k ∧ nw_len sl fa k ≤ 9 := by
  have a := h.2 (k / 4) (by omega)
  have e : k / 2 / 2 = k / 4 := by omega
  unfold nw_len nw_ln
  rw [e]
  split <;> split <;> omega
/-- the opposite of an arc -/
theorem nw_rev {fr to : Nat → Nat} {sl fa : Nat → Int} {k k' : Nat} (h : k / 2 = k' / 2) (hne : k ≠ k') : nw_src fr to k = nw_dst fr to k' ∧ nw_dst fr to k = nw_src fr to k' ∧ nw_len sl fa k = - nw_len sl fa k' := by
  have e : k / 4 = k' / 4 := by omega
  unfold nw_src nw_dst nw_len
  rw [e, h]
  by_cases c : k % 2 = 0
  · have d : ¬ k' % 2 = 0 := by omega
    rw [if_pos c, if_pos c, if_pos c, if_neg d, if_neg d, if_neg d]
    exact ⟨rfl, rfl, by omega⟩
  · have d : k' % 2 = 0 := by omega
    rw [if_neg c, if_neg c, if_neg c, if_pos d, if_pos d, if_pos d]
    exact ⟨rfl, rfl, by omega⟩
/-! sums -/
def nw_sum (g : Nat → Int) : Nat → Int
  | 0 => 0
  | m + 1 => nw_sum g m + g m
theorem nw_sum_s (g : Nat → Int) (m : Nat) : nw_sum g (m + 1) = nw_sum g m + g m := rfl
theorem nw_sum_c {g h : Nat → Int} {m : Nat} (e : ∀ l, l < m → g l = h l) : nw_sum g m = nw_sum h m := by
  induction m with
  | zero => rfl
  | succ m ih => unfold nw_sum; rw [ih (fun l hl => e l (by omega)), e m (by omega)]
theorem nw_sum_le {g h : Nat → Int} {m : Nat} (e : ∀ l, l < m → g l ≤ h l) : nw_sum g m ≤ nw_sum h m := by
  induction m with
  | zero => exact Int.le_refl _
  | succ m ih => unfold nw_sum; have a := ih (fun l hl => e l (by omega)); have b := e m (by omega); omega
theorem nw_sum_add (g h : Nat → Int) (m : Nat) : nw_sum (fun l => g l + h l) m = nw_sum g m + nw_sum h m := by
  induction m with
  | zero => rfl
  | succ m ih => unfold nw_sum; rw [ih]; omega
theorem nw_sum_k (c : Int) (m : Nat) : nw_sum (fun _ => c) m = c * m := by
  induction m with
  | zero => show (0 : Int) = c * ((0 : Nat) : Int); grind
  | succ m ih => unfold nw_sum; rw [ih]; grind
/-- one place carries c, the others 0 -/
theorem nw_sum_1 (c : Int) (a : Nat) (m : Nat) : nw_sum (fun l => if l = a then c else 0) m = if a < m then c else 0 := by
  induction m with
  | zero => rfl
  | succ m ih =>
    unfold nw_sum
    rw [ih]
    by_cases e : m = a
    · rw [if_pos e, if_neg (by omega), if_pos (by omega)]; omega
    · rw [if_neg e]
      by_cases d : a < m
      · rw [if_pos d, if_pos (by omega)]; omega
      · rw [if_neg d, if_neg (by omega)]; omega
theorem nw_sum_up {f c : Nat → Int} {l0 : Nat} {δ : Int} {m : Nat} (h : l0 < m) : nw_sum (fun l => bf_up f l0 (f l0 + δ) l * c l) m = nw_sum (fun l => f l * c l) m + δ * c l0 := by
  have e : nw_sum (fun l => bf_up f l0 (f l0 + δ) l * c l) m = nw_sum (fun l => f l * c l + (if l = l0 then δ * c l0 else 0)) m := by
    refine nw_sum_c (fun l _ => ?_)
    by_cases d : l = l0
    · subst d
      rw [bf_us, if_pos rfl]
      grind
    · rw [bf_un d, if_neg d]; omega
  rw [e, nw_sum_add, nw_sum_1, if_pos h]
/-- two lines a job -/
theorem nw_sum_2 (g : Nat → Int) (n : Nat) : nw_sum g (2 * n) = nw_sum (fun j => g (2 * j) + g (2 * j + 1)) n := by
  induction n with
  | zero => rfl
  | succ n ih =>
    rw [show 2 * (n + 1) = 2 * n + 1 + 1 by omega, nw_sum_s, nw_sum_s, nw_sum_s, ih]
    omega
/-! the way from 5 back to 0 by parents p -/
def wy_ch (fr to p : Nat → Nat) : Nat → Nat
  | 0 => 5
  | i + 1 => if wy_ch fr to p i = 0 then 0 else nw_src fr to (p (wy_ch fr to p i))
def wy_w (fr to p : Nat → Nat) (pr f : Nat → Int) : Nat → Int
  | 0 => 1000000
  | i + 1 => if nw_room pr f (p (wy_ch fr to p i)) < wy_w fr to p pr f i then nw_room pr f (p (wy_ch fr to p i)) else wy_w fr to p pr f i
def wy_f (fr to p : Nat → Nat) (f : Nat → Int) (α : Int) : Nat → (Nat → Int)
  | 0 => f
  | i + 1 => bf_up (wy_f fr to p f α i) (p (wy_ch fr to p i) / 2) (wy_f fr to p f α i (p (wy_ch fr to p i) / 2) + (if p (wy_ch fr to p i) % 2 = 0 then α else -α))
/-- the way: q arcs, all sound -/
def wy_ok (n : Nat) (fr to : Nat → Nat) (sl fa pr f : Nat → Int) (s : bf_S) (T : Nat → Nat) (q : Nat) : Prop :=
  1 ≤ q ∧ q ≤ 5 ∧ wy_ch fr to s.2.2 q = 0 ∧
  ∀ i, i < q → wy_ch fr to s.2.2 i < 6 ∧ wy_ch fr to s.2.2 i ≠ 0 ∧ s.1 (wy_ch fr to s.2.2 i) = true ∧ s.2.2 (wy_ch fr to s.2.2 i) < 4 * n ∧
    nw_rs pr f (s.2.2 (wy_ch fr to s.2.2 i)) = true ∧ nw_dst fr to (s.2.2 (wy_ch fr to s.2.2 i)) = wy_ch fr to s.2.2 i ∧ nw_src fr to (s.2.2 (wy_ch fr to s.2.2 i)) = wy_ch fr to s.2.2 (i + 1) ∧
    s.2.1 (wy_ch fr to s.2.2 i) = s.2.1 (wy_ch fr to s.2.2 (i + 1)) + nw_len sl fa (s.2.2 (wy_ch fr to s.2.2 i)) ∧ T (wy_ch fr to s.2.2 (i + 1)) < T (wy_ch fr to s.2.2 i) ∧
    T (wy_ch fr to s.2.2 i) ≤ 6 * (4 * n) ∧ (T (wy_ch fr to s.2.2 i) - 1) % (4 * n) = s.2.2 (wy_ch fr to s.2.2 i)
abbrev nw_bf (n : Nat) (fr to : Nat → Nat) (sl fa pr f : Nat → Int) (s : bf_S) (T : Nat → Nat) : Prop := bf_ok (nw_src fr to) (nw_dst fr to) (nw_len sl fa) (nw_rs pr f) (4 * n) s T
theorem wy_ex {n : Nat} {fr to : Nat → Nat} {sl fa pr f : Nat → Int} {s : bf_S} {T : Nat → Nat} (hJ : nw_J n fr to sl fa pr) (hb : nw_bf n fr to sl fa pr f s T) (h5 : s.1 5 = true) :
    ∃ q, wy_ok n fr to sl fa pr f s T q := by
  obtain ⟨b1, b2, b3, b4, b5⟩ := hb
  have A : ∀ i, wy_ch fr to s.2.2 i < 6 ∧ s.1 (wy_ch fr to s.2.2 i) = true := by
    intro i
    induction i with
    | zero => exact ⟨by show 5 < 6; omega, h5⟩
    | succ i ih =>
      unfold wy_ch
      by_cases c : wy_ch fr to s.2.2 i = 0
      · rw [if_pos c]; exact ⟨by omega, b1.1⟩
      · rw [if_neg c]
        have x := b3 _ ih.1 c ih.2
        exact ⟨nw_src_lt hJ x.1, x.2.2.2.1⟩
  have S : ∀ i, wy_ch fr to s.2.2 i ≠ 0 → wy_ch fr to s.2.2 (i + 1) = nw_src fr to (s.2.2 (wy_ch fr to s.2.2 i)) := by
    intro i c
    show (if wy_ch fr to s.2.2 i = 0 then 0 else nw_src fr to (s.2.2 (wy_ch fr to s.2.2 i))) = _
    rw [if_neg c]
  have R : ∀ i, (∀ i', i' < i → wy_ch fr to s.2.2 i' ≠ 0) → bf_rk T (wy_ch fr to s.2.2 i) + i ≤ 5 := by
    intro i
    induction i with
    | zero => intro _; exact bf_rk_5 (A 0).1
    | succ i ih =>
      intro h
      have x := ih (fun i' hi => h i' (by omega))
      have c := h i (by omega)
      have y := b3 _ (A i).1 c (A i).2
      have z := bf_rk_lt (T := T) (nw_src_lt hJ y.1) y.2.2.2.2.2.1
      rw [← S i c] at z
      omega
  have E : ∃ q, wy_ch fr to s.2.2 q = 0 := by
    by_cases c : ∃ q, wy_ch fr to s.2.2 q = 0
    · exact c
    · have x := R 6 (fun i' _ z => c ⟨i', z⟩)
      omega
  obtain ⟨q, q1, q2⟩ := pk_least (fun q => wy_ch fr to s.2.2 q = 0) E
  have q3 := R q (fun i' hi => q2 i' hi)
  refine ⟨q, ?_, by omega, q1, ?_⟩
  · rcases Nat.eq_zero_or_pos q with z | z
    · rw [z] at q1
      exact absurd q1 (by show ¬ 5 = 0; omega)
    · exact z
  · intro i hi
    have c := q2 i hi
    have y := b3 _ (A i).1 c (A i).2
    have e := S i c
    rw [e]
    exact ⟨(A i).1, c, (A i).2, y.1, y.2.1, y.2.2.1, rfl, y.2.2.2.2.1, y.2.2.2.2.2.1, y.2.2.2.2.2.2.1, y.2.2.2.2.2.2.2⟩
section
variable {n : Nat} {fr to : Nat → Nat} {sl fa pr f : Nat → Int} {s : bf_S} {T : Nat → Nat} {q : Nat}
theorem wy_dec (h : wy_ok n fr to sl fa pr f s T q) {i i' : Nat} (hi : i < i') (hq : i' ≤ q) : T (wy_ch fr to s.2.2 i') < T (wy_ch fr to s.2.2 i) := by
  induction hi with
  | refl => exact (h.2.2.2 i (by omega)).2.2.2.2.2.2.2.2.1
  | @step m hm ih =>
    have a := ih (by omega)
    have b := (h.2.2.2 m (by omega)).2.2.2.2.2.2.2.2.1
    have e : m.succ = m + 1 := rfl
    rw [e]
    omega
theorem wy_inj (h : wy_ok n fr to sl fa pr f s T q) {i i' : Nat} (hi : i ≤ q) (hi' : i' ≤ q) (e : wy_ch fr to s.2.2 i = wy_ch fr to s.2.2 i') : i = i' := by
  rcases Nat.lt_trichotomy i i' with c | c | c
  · have a := wy_dec h c hi'
    rw [e] at a
    omega
  · exact c
  · have a := wy_dec h c hi
    rw [e] at a
    omega
/-- no line twice -/
theorem wy_line (h : wy_ok n fr to sl fa pr f s T q) {i i' : Nat} (hi : i < q) (hi' : i' < q) (e : s.2.2 (wy_ch fr to s.2.2 i) / 2 = s.2.2 (wy_ch fr to s.2.2 i') / 2) : i = i' := by
  have a := h.2.2.2 i hi
  have b := h.2.2.2 i' hi'
  by_cases c : s.2.2 (wy_ch fr to s.2.2 i) = s.2.2 (wy_ch fr to s.2.2 i')
  · have x := a.2.2.2.2.2.1
    have y := b.2.2.2.2.2.1
    rw [c, y] at x
    exact wy_inj h (by omega) (by omega) x.symm
  · have x := nw_rev (fr := fr) (to := to) (sl := sl) (fa := fa) e c
    rw [a.2.2.2.2.2.1, a.2.2.2.2.2.2.1, b.2.2.2.2.2.1, b.2.2.2.2.2.2.1] at x
    have u := a.2.2.2.2.2.2.2.2.1
    have v := b.2.2.2.2.2.2.2.2.1
    rw [x.1, x.2.1] at u
    omega
theorem wy_w_le (h : wy_ok n fr to sl fa pr f s T q) {m : Nat} (hm : m ≤ q) : wy_w fr to s.2.2 pr f m ≤ 1000000 ∧ (∀ i, i < m → wy_w fr to s.2.2 pr f m ≤ nw_room pr f (s.2.2 (wy_ch fr to s.2.2 i))) ∧ (wy_w fr to s.2.2 pr f m = 1000000 ∨ ∃ i, i < m ∧ wy_w fr to s.2.2 pr f m = nw_room pr f (s.2.2 (wy_ch fr to s.2.2 i))) := by
  induction m with
  | zero => exact ⟨Int.le_refl _, fun i hi => absurd hi (by omega), Or.inl rfl⟩
  | succ m ih =>
    obtain ⟨a, b, c⟩ := ih (by omega)
    unfold wy_w
    by_cases d : nw_room pr f (s.2.2 (wy_ch fr to s.2.2 m)) < wy_w fr to s.2.2 pr f m
    · rw [if_pos d]
      refine ⟨by omega, fun i hi => ?_, Or.inr ⟨m, by omega, rfl⟩⟩
      by_cases e : i = m
      · rw [e]; exact Int.le_refl _
      · have := b i (by omega); omega
    · rw [if_neg d]
      refine ⟨a, fun i hi => ?_, ?_⟩
      · by_cases e : i = m
        · rw [e]; omega
        · exact b i (by omega)
      · rcases c with c | ⟨i, hi, c⟩
        · exact Or.inl c
        · exact Or.inr ⟨i, by omega, c⟩
theorem wy_w_pos (hF : nw_F n pr f) (h : wy_ok n fr to sl fa pr f s T q) {m : Nat} (hm : m ≤ q) : 1 ≤ wy_w fr to s.2.2 pr f m := by
  obtain ⟨_, _, c⟩ := wy_w_le h hm
  rcases c with c | ⟨i, hi, c⟩
  · omega
  · have a := h.2.2.2 i (by omega)
    have b := nw_room_0 hF a.2.2.2.1
    have d := nw_rs_r a.2.2.2.2.1
    omega
/-- the flow after m steps of sending -/
theorem wy_f_is (h : wy_ok n fr to sl fa pr f s T q) {α : Int} {m : Nat} (hm : m ≤ q) :
    (∀ i, i < m → wy_f fr to s.2.2 f α m (s.2.2 (wy_ch fr to s.2.2 i) / 2) = f (s.2.2 (wy_ch fr to s.2.2 i) / 2) + (if s.2.2 (wy_ch fr to s.2.2 i) % 2 = 0 then α else -α)) ∧
    (∀ l, (∀ i, i < m → s.2.2 (wy_ch fr to s.2.2 i) / 2 ≠ l) → wy_f fr to s.2.2 f α m l = f l) := by
  induction m with
  | zero => exact ⟨fun i hi => absurd hi (by omega), fun l _ => rfl⟩
  | succ m ih =>
    obtain ⟨a, b⟩ := ih (by omega)
    have e := b (s.2.2 (wy_ch fr to s.2.2 m) / 2) (fun i hi z => by have := wy_line h (by omega) (by omega) z; omega)
    unfold wy_f
    refine ⟨fun i hi => ?_, fun l hl => ?_⟩
    · by_cases c : i = m
      · rw [c, bf_us, e]
      · rw [bf_un (fun z => c (wy_line h (by omega) (by omega) z))]
        exact a i (by omega)
    · rw [bf_un (fun z => hl m (by omega) z.symm)]
      exact b l (fun i hi => hl i (by omega))
theorem wy_f_cut (h : wy_ok n fr to sl fa pr f s T q) {α : Int} (c : Nat → Int) {m : Nat} (hm : m ≤ q) :
    nw_sum (fun l => wy_f fr to s.2.2 f α m l * (c (fr (l / 2)) - c (to (l / 2)))) (2 * n) = nw_sum (fun l => f l * (c (fr (l / 2)) - c (to (l / 2)))) (2 * n) + α * (c (wy_ch fr to s.2.2 m) - c 5) := by
  induction m with
  | zero =>
    show nw_sum (fun l => f l * (c (fr (l / 2)) - c (to (l / 2)))) (2 * n) = nw_sum (fun l => f l * (c (fr (l / 2)) - c (to (l / 2)))) (2 * n) + α * (c 5 - c 5)
    grind
  | succ m ih =>
    have a := ih (by omega)
    have b := h.2.2.2 m (by omega)
    unfold wy_f
    rw [nw_sum_up (f := wy_f fr to s.2.2 f α m) (c := fun l => c (fr (l / 2)) - c (to (l / 2))) (by have := b.2.2.2.1; omega), a]
    have d1 := b.2.2.2.2.2.1
    have d2 := b.2.2.2.2.2.2.1
    unfold nw_dst at d1
    unfold nw_src at d2
    rw [show s.2.2 (wy_ch fr to s.2.2 m) / 2 / 2 = s.2.2 (wy_ch fr to s.2.2 m) / 4 by omega]
    by_cases e : s.2.2 (wy_ch fr to s.2.2 m) % 2 = 0
    · rw [if_pos e] at d1 d2 ⊢
      rw [d1, d2]
      grind
    · rw [if_neg e] at d1 d2 ⊢
      rw [d1, d2]
      grind
end
end
section
/-! the four arcs of a job -/
theorem nw_a0 (fr to : Nat → Nat) (sl fa pr f : Nat → Int) (j : Nat) : nw_src fr to (4 * j) = fr j ∧ nw_dst fr to (4 * j) = to j ∧ nw_len sl fa (4 * j) = sl j ∧ nw_room pr f (4 * j) = pr j - f (2 * j) := by
  unfold nw_src nw_dst nw_len nw_room nw_ln
  rw [show 4 * j / 4 = j by omega, show 4 * j / 2 = 2 * j by omega, show 2 * j / 2 = j by omega]
  rw [if_pos (by omega), if_pos (by omega), if_pos (by omega), if_pos (by omega), if_pos (by omega), if_pos (by omega)]
  exact ⟨rfl, rfl, rfl, rfl⟩
theorem nw_a1 (fr to : Nat → Nat) (sl fa pr f : Nat → Int) (j : Nat) : nw_src fr to (4 * j + 1) = to j ∧ nw_dst fr to (4 * j + 1) = fr j ∧ nw_len sl fa (4 * j + 1) = - sl j ∧ nw_room pr f (4 * j + 1) = f (2 * j) := by
  unfold nw_src nw_dst nw_len nw_room nw_ln
  rw [show (4 * j + 1) / 4 = j by omega, show (4 * j + 1) / 2 = 2 * j by omega, show 2 * j / 2 = j by omega]
  have e1 : ¬ (4 * j + 1) % 2 = 0 := by omega
  have e2 : 2 * j % 2 = 0 := by omega
  exact ⟨if_neg e1, if_neg e1, by rw [if_neg e1, if_pos e2], if_neg e1⟩
theorem nw_a2 (fr to : Nat → Nat) (sl fa pr f : Nat → Int) (j : Nat) : nw_src fr to (4 * j + 2) = fr j ∧ nw_dst fr to (4 * j + 2) = to j ∧ nw_len sl fa (4 * j + 2) = fa j ∧ nw_room pr f (4 * j + 2) = 1000000 := by
  unfold nw_src nw_dst nw_len nw_room nw_ln
  rw [show (4 * j + 2) / 4 = j by omega, show (4 * j + 2) / 2 = 2 * j + 1 by omega, show (2 * j + 1) / 2 = j by omega]
  rw [if_pos (by omega), if_pos (by omega), if_pos (by omega), if_neg (by omega), if_pos (by omega), if_neg (by omega)]
  exact ⟨rfl, rfl, rfl, rfl⟩
theorem nw_a3 (fr to : Nat → Nat) (sl fa pr f : Nat → Int) (j : Nat) : nw_src fr to (4 * j + 3) = to j ∧ nw_dst fr to (4 * j + 3) = fr j ∧ nw_len sl fa (4 * j + 3) = - fa j ∧ nw_room pr f (4 * j + 3) = f (2 * j + 1) := by
  unfold nw_src nw_dst nw_len nw_room nw_ln
  rw [show (4 * j + 3) / 4 = j by omega, show (4 * j + 3) / 2 = 2 * j + 1 by omega, show (2 * j + 1) / 2 = j by omega]
  rw [if_neg (by omega), if_neg (by omega), if_neg (by omega), if_neg (by omega), if_neg (by omega)]
  exact ⟨rfl, rfl, rfl, rfl⟩
theorem nw_fast {n : Nat} {fr to : Nat → Nat} {sl fa pr f : Nat → Int} {RR : Nat → Prop} {π : Nat → Int} (h : nw_V n fr to sl fa pr f RR π) {j : Nat} (hj : j < n) (hr : RR (fr j)) : RR (to j) ∧ π (fr j) + fa j ≤ π (to j) := by
  have a := nw_a2 fr to sl fa pr f j
  have b := h.2.2 (4 * j + 2) (by omega) (nw_rs_t (by rw [a.2.2.2]; decide)) (by rw [a.1]; exact hr)
  rw [a.1, a.2.1, a.2.2.1] at b
  exact b
theorem nw_fback {n : Nat} {fr to : Nat → Nat} {sl fa pr f : Nat → Int} {RR : Nat → Prop} {π : Nat → Int} (h : nw_V n fr to sl fa pr f RR π) {j : Nat} (hj : j < n) (hr : RR (to j)) (h0 : f (2 * j + 1) ≠ 0) : π (to j) ≤ π (fr j) + fa j := by
  have a := nw_a3 fr to sl fa pr f j
  have b := (h.2.2 (4 * j + 3) (by omega) (nw_rs_t (by rw [a.2.2.2]; exact h0)) (by rw [a.1]; exact hr)).2
  rw [a.1, a.2.1, a.2.2.1] at b
  omega
theorem nw_room_c {pr f g : Nat → Int} {k : Nat} (h : f (k / 2) = g (k / 2)) : nw_room pr f k = nw_room pr g k := by
  unfold nw_room
  rw [h]
section
variable {n : Nat} {fr to : Nat → Nat} {sl fa pr f : Nat → Int} {s : bf_S} {T : Nat → Nat} {q : Nat}
/-- which lines the sending changes -/
theorem wy_f_cases (h : wy_ok n fr to sl fa pr f s T q) (α : Int) (l : Nat) :
    (wy_f fr to s.2.2 f α q l = f l ∧ ∀ i, i < q → s.2.2 (wy_ch fr to s.2.2 i) / 2 ≠ l) ∨
    (∃ i, i < q ∧ s.2.2 (wy_ch fr to s.2.2 i) / 2 = l ∧ s.2.2 (wy_ch fr to s.2.2 i) % 2 = 0 ∧ wy_f fr to s.2.2 f α q l = f l + α) ∨
    (∃ i, i < q ∧ s.2.2 (wy_ch fr to s.2.2 i) / 2 = l ∧ s.2.2 (wy_ch fr to s.2.2 i) % 2 = 1 ∧ wy_f fr to s.2.2 f α q l = f l - α) := by
  obtain ⟨a, b⟩ := wy_f_is h (α := α) (Nat.le_refl q)
  by_cases c : ∃ i, i < q ∧ s.2.2 (wy_ch fr to s.2.2 i) / 2 = l
  · obtain ⟨i, hi, e⟩ := c
    have d := a i hi
    rw [e] at d
    by_cases z : s.2.2 (wy_ch fr to s.2.2 i) % 2 = 0
    · rw [if_pos z] at d
      exact Or.inr (Or.inl ⟨i, hi, e, z, d⟩)
    · rw [if_neg z] at d
      exact Or.inr (Or.inr ⟨i, hi, e, by omega, by omega⟩)
  · have c' : ∀ i, i < q → s.2.2 (wy_ch fr to s.2.2 i) / 2 ≠ l := fun i hi z => c ⟨i, hi, z⟩
    exact Or.inl ⟨b l c', c'⟩
theorem wy_feas (hF : nw_F n pr f) (h : wy_ok n fr to sl fa pr f s T q) : nw_F n pr (wy_f fr to s.2.2 f (wy_w fr to s.2.2 pr f q) q) := by
  intro l hl
  have g := hF l hl
  have w1 := wy_w_pos hF h (Nat.le_refl q)
  have w2 := wy_w_le h (Nat.le_refl q)
  rcases wy_f_cases h (wy_w fr to s.2.2 pr f q) l with c | ⟨i, hi, e, z, c⟩ | ⟨i, hi, e, z, c⟩
  · rw [c.1]; exact g
  · rw [c]
    refine ⟨by omega, fun hl2 => ?_⟩
    have r := w2.2.1 i hi
    unfold nw_room at r
    rw [if_pos z, e, if_pos hl2, show s.2.2 (wy_ch fr to s.2.2 i) / 4 = l / 2 by omega] at r
    omega
  · rw [c]
    have r := w2.2.1 i hi
    unfold nw_room at r
    rw [if_neg (by omega), e] at r
    exact ⟨by omega, fun hl2 => by have := g.2 hl2; omega⟩
theorem wy_f_max (hF : nw_F n pr f) (h : wy_ok n fr to sl fa pr f s T q) (l : Nat) : wy_f fr to s.2.2 f (wy_w fr to s.2.2 pr f q) q l ≤ f l + 1000000 := by
  have w1 := wy_w_pos hF h (Nat.le_refl q)
  have w2 := (wy_w_le h (Nat.le_refl q)).1
  rcases wy_f_cases h (wy_w fr to s.2.2 pr f q) l with c | ⟨i, hi, e, z, c⟩ | ⟨i, hi, e, z, c⟩
  · rw [c.1]; omega
  · rw [c]; omega
  · rw [c]; omega
/-- a potential that is tight along the way serves the new flow too -/
theorem wy_pot {RR : Nat → Prop} {π : Nat → Int} (h : wy_ok n fr to sl fa pr f s T q) (α : Int) (hV : nw_V n fr to sl fa pr f RR π)
    (hw : ∀ i, i < q → RR (wy_ch fr to s.2.2 i) ∧ RR (wy_ch fr to s.2.2 (i + 1)) ∧ π (wy_ch fr to s.2.2 i) = π (wy_ch fr to s.2.2 (i + 1)) + nw_len sl fa (s.2.2 (wy_ch fr to s.2.2 i))) :
    nw_V n fr to sl fa pr (wy_f fr to s.2.2 f α q) RR π := by
  refine ⟨hV.1, hV.2.1, fun k hk hr hs => ?_⟩
  by_cases c : nw_rs pr f k = true
  · exact hV.2.2 k hk c hs
  · rcases wy_f_cases h α (k / 2) with d | d
    · exfalso
      unfold nw_rs at c hr
      rw [nw_room_c d.1] at hr
      exact c hr
    · have ⟨i, hi, e⟩ : ∃ i, i < q ∧ s.2.2 (wy_ch fr to s.2.2 i) / 2 = k / 2 := by
        rcases d with ⟨i, hi, e, _⟩ | ⟨i, hi, e, _⟩ <;> exact ⟨i, hi, e⟩
      have a := h.2.2.2 i hi
      have ne : k ≠ s.2.2 (wy_ch fr to s.2.2 i) := by
        intro z
        rw [z] at c
        exact c a.2.2.2.2.1
      have r := nw_rev (fr := fr) (to := to) (sl := sl) (fa := fa) e.symm ne
      rw [a.2.2.2.2.2.1, a.2.2.2.2.2.2.1] at r
      have b := hw i hi
      rw [r.1, r.2.1, r.2.2]
      exact ⟨b.2.1, by omega⟩
end
/-- every reached node but 0 has a job that comes from a reached one -/
def nw_P (n : Nat) (fr to : Nat → Nat) (RR : Nat → Prop) : Prop := ∀ v, v < 6 → RR v → v ≠ 0 → ∃ j, j < n ∧ to j = v ∧ RR (fr j)
theorem nw_bfV {n : Nat} {fr to : Nat → Nat} {sl fa pr f : Nat → Int} {s : bf_S} {T : Nat → Nat} (hb : nw_bf n fr to sl fa pr f s T) : nw_V n fr to sl fa pr f (fun v => s.1 v = true) s.2.1 :=
  ⟨hb.1.1, hb.1.2.1, fun k hk hr hs => hb.2.1 k hk hr hs⟩
theorem nw_reach {n : Nat} {fr to : Nat → Nat} {sl fa pr f : Nat → Int} {RR QQ : Nat → Prop} {π : Nat → Int} (hJ : nw_J n fr to sl fa pr) (hV : nw_V n fr to sl fa pr f RR π) (hp : nw_P n fr to QQ) :
    ∀ m v, v ≤ m → v < 6 → QQ v → RR v := by
  intro m
  induction m with
  | zero =>
    intro v h _ _
    have e : v = 0 := by omega
    rw [e]; exact hV.1
  | succ m ih =>
    intro v h hv hq
    by_cases e : v = 0
    · rw [e]; exact hV.1
    · obtain ⟨j, hj, h1, h2⟩ := hp v hv hq e
      have a := hJ.2 j hj
      have b := ih (fr j) (by omega) (by omega) h2
      rw [← h1]
      exact (nw_fast hV hj b).1
theorem nw_pos {n : Nat} {fr to : Nat → Nat} {sl fa pr f : Nat → Int} {RR : Nat → Prop} {π : Nat → Int} (hJ : nw_J n fr to sl fa pr) (hV : nw_V n fr to sl fa pr f RR π) (hp : nw_P n fr to RR) :
    ∀ m v, v ≤ m → v < 6 → RR v → 0 ≤ π v := by
  intro m
  induction m with
  | zero =>
    intro v h _ _
    have e : v = 0 := by omega
    rw [e, hV.2.1]; exact Int.le_refl _
  | succ m ih =>
    intro v h hv hq
    by_cases e : v = 0
    · rw [e, hV.2.1]; exact Int.le_refl _
    · obtain ⟨j, hj, h1, h2⟩ := hp v hv hq e
      have a := hJ.2 j hj
      have b := ih (fr j) (by omega) (by omega) h2
      have c := (nw_fast hV hj h2).2
      rw [h1] at c
      omega
/-- the first search: no flow -/
theorem nw_V0 {n : Nat} {fr to : Nat → Nat} {sl fa pr : Nat → Int} (hJ : nw_J n fr to sl fa pr) {f : Nat → Int} (h0 : ∀ l, l < 2 * n → f l = 0) : nw_V n fr to sl fa pr f (fun _ => True) (fun v => 9 * (v : Int)) := by
  refine ⟨trivial, by decide, fun k hk hr _ => ⟨trivial, ?_⟩⟩
  have a := hJ.2 (k / 4) (by omega)
  have e : k % 2 = 0 := by
    by_cases c : k % 2 = 0
    · exact c
    · have r := nw_rs_r hr
      unfold nw_room at r
      rw [if_neg c] at r
      exact absurd (h0 (k / 2) (by omega)) r
  unfold nw_src nw_dst nw_len nw_ln
  rw [if_pos e, if_pos e, if_pos e, show k / 2 / 2 = k / 4 by omega]
  dsimp only
  split <;> omega
theorem nw_P0 {n : Nat} {fr to : Nat → Nat} {sl fa pr f : Nat → Int} {s : bf_S} {T : Nat → Nat} (h0 : ∀ l, l < 2 * n → f l = 0) (hb : nw_bf n fr to sl fa pr f s T) : nw_P n fr to (fun v => s.1 v = true) := by
  intro v hv hr h
  obtain ⟨a1, a2, a3, a4, _⟩ := hb.2.2.1 v hv h hr
  have e : s.2.2 v % 2 = 0 := by
    by_cases c : s.2.2 v % 2 = 0
    · exact c
    · have r := nw_rs_r a2
      unfold nw_room at r
      rw [if_neg c] at r
      exact absurd (h0 (s.2.2 v / 2) (by omega)) r
  unfold nw_dst at a3
  unfold nw_src at a4
  rw [if_pos e] at a3 a4
  exact ⟨s.2.2 v / 4, by omega, a3, a4⟩
end
section
/-! The cut: while the longest way is longer than every fast way, the flow is bounded by prices -/
def ct_S (n : Nat) (fr to : Nat → Nat) (fa d : Nat → Int) : Nat → Nat → Prop
  | 0, v => v = 0
  | m + 1, v => v = 0 ∨ ∃ j, j < n ∧ to j = v ∧ ct_S n fr to fa d m (fr j) ∧ d v = d (fr j) + fa j
/-- reached from 0 by tight fast lines -/
def ct_R (n : Nat) (fr to : Nat → Nat) (fa d : Nat → Int) (v : Nat) : Prop := ∃ m, ct_S n fr to fa d m v
theorem ct_R0 {n : Nat} {fr to : Nat → Nat} {fa d : Nat → Int} : ct_R n fr to fa d 0 := ⟨0, rfl⟩
theorem ct_Rs {n : Nat} {fr to : Nat → Nat} {fa d : Nat → Int} {j : Nat} (hj : j < n) (h : ct_R n fr to fa d (fr j)) (e : d (to j) = d (fr j) + fa j) : ct_R n fr to fa d (to j) := by
  obtain ⟨m, hm⟩ := h
  exact ⟨m + 1, Or.inr ⟨j, hj, rfl, hm, e⟩⟩
theorem ct_RR {n : Nat} {fr to : Nat → Nat} {sl fa pr f : Nat → Int} {RR : Nat → Prop} {π : Nat → Int} (hV : nw_V n fr to sl fa pr f RR π) {v : Nat} (h : ct_R n fr to fa π v) : RR v := by
  obtain ⟨m, hm⟩ := h
  induction m generalizing v with
  | zero => rw [show v = 0 from hm]; exact hV.1
  | succ m ih =>
    rcases hm with e | ⟨j, hj, h1, h2, _⟩
    · rw [e]; exact hV.1
    · rw [← h1]; exact (nw_fast hV hj (ih h2)).1
/-- other labels, at least as long on those nodes -/
theorem ct_ge {n : Nat} {fr to : Nat → Nat} {sl fa pr f : Nat → Int} {RR : Nat → Prop} {π e : Nat → Int} (hV : nw_V n fr to sl fa pr f RR π) {v : Nat} (h : ct_R n fr to fa e v) (e0 : e 0 = 0) : RR v ∧ e v ≤ π v := by
  obtain ⟨m, hm⟩ := h
  induction m generalizing v with
  | zero => rw [show v = 0 from hm, e0, hV.2.1]; exact ⟨hV.1, Int.le_refl _⟩
  | succ m ih =>
    rcases hm with z | ⟨j, hj, h1, h2, h3⟩
    · rw [z, e0, hV.2.1]; exact ⟨hV.1, Int.le_refl _⟩
    · have a := ih h2
      have b := nw_fast hV hj a.1
      rw [h1] at b
      exact ⟨b.1, by omega⟩
noncomputable def ct_i (p : Prop) : Int := @ite Int p (Classical.propDecidable p) 1 0
theorem ct_it {p : Prop} (h : p) : ct_i p = 1 := by unfold ct_i; exact @if_pos _ (Classical.propDecidable p) h _ _ _
theorem ct_if {p : Prop} (h : ¬ p) : ct_i p = 0 := by unfold ct_i; exact @if_neg _ (Classical.propDecidable p) h _ _ _
theorem ct_i01 (p : Prop) : ct_i p = 0 ∨ ct_i p = 1 := by
  by_cases h : p
  · exact Or.inr (ct_it h)
  · exact Or.inl (ct_if h)
/-- the flow over every cut is F -/
def ct_C (n : Nat) (fr to : Nat → Nat) (f : Nat → Int) (F : Int) : Prop := ∀ c : Nat → Int, c 0 = 1 → c 5 = 0 → nw_sum (fun l => f l * (c (fr (l / 2)) - c (to (l / 2)))) (2 * n) = F
theorem ct_pos {g : Nat → Int} {m l : Nat} (h : ∀ i, i < m → 0 ≤ g i) (hl : l < m) (hp : 0 < g l) : 0 < nw_sum g m := by
  have a : nw_sum (fun i => if i = l then g l else 0) m ≤ nw_sum g m := by
    refine nw_sum_le (fun i hi => ?_)
    by_cases e : i = l
    · rw [if_pos e, e]; exact Int.le_refl _
    · rw [if_neg e]; exact h i hi
  rw [nw_sum_1, if_pos hl] at a
  omega
theorem ct_ex {g : Nat → Int} {m : Nat} (hp : 0 < nw_sum g m) : ∃ l, l < m ∧ 0 < g l := by
  induction m with
  | zero => exact absurd hp (by show ¬ (0 : Int) < 0; omega)
  | succ m ih =>
    rw [nw_sum_s] at hp
    by_cases c : 0 < g m
    · exact ⟨m, by omega, c⟩
    · obtain ⟨l, a, b⟩ := ih (by omega)
      exact ⟨l, by omega, b⟩
/-- what flows out of an inner node flows in, and the other way -/
theorem ct_bal {n : Nat} {fr to : Nat → Nat} {f : Nat → Int} {F : Int} (hC : ct_C n fr to f F) {v : Nat} (h0 : v ≠ 0) (h5 : v ≠ 5) :
    nw_sum (fun l => f l * ct_i (fr (l / 2) = v)) (2 * n) = nw_sum (fun l => f l * ct_i (to (l / 2) = v)) (2 * n) := by
  have a := hC (fun x => ct_i (x = 0)) (ct_it rfl) (ct_if (by omega))
  have b := hC (fun x => ct_i (x = 0) + ct_i (x = v)) (by rw [ct_it rfl, ct_if (fun z => h0 z.symm)]; rfl) (by rw [ct_if (by omega), ct_if (fun z => h5 z.symm)]; rfl)
  have e : nw_sum (fun l => f l * (ct_i (fr (l / 2) = 0) + ct_i (fr (l / 2) = v) - (ct_i (to (l / 2) = 0) + ct_i (to (l / 2) = v)))) (2 * n)
      + nw_sum (fun l => f l * ct_i (to (l / 2) = v)) (2 * n) = nw_sum (fun l => f l * (ct_i (fr (l / 2) = 0) - ct_i (to (l / 2) = 0))) (2 * n) + nw_sum (fun l => f l * ct_i (fr (l / 2) = v)) (2 * n) := by
    rw [← nw_sum_add, ← nw_sum_add]
    refine nw_sum_c (fun l _ => ?_)
    grind
  rw [a, b] at e
  omega
theorem ct_in {n : Nat} {fr to : Nat → Nat} {pr f : Nat → Int} {F : Int} (hF : nw_F n pr f) (hC : ct_C n fr to f F) {l : Nat} (hl : l < 2 * n) (hp : 0 < f l) (h0 : fr (l / 2) ≠ 0) (h5 : fr (l / 2) ≠ 5) :
    ∃ l', l' < 2 * n ∧ 0 < f l' ∧ to (l' / 2) = fr (l / 2) := by
  have a := ct_bal hC h0 h5
  have b : 0 < nw_sum (fun i => f i * ct_i (fr (i / 2) = fr (l / 2))) (2 * n) := by
    refine ct_pos (l := l) (fun i hi => ?_) hl ?_
    · have := (hF i hi).1
      rcases ct_i01 (fr (i / 2) = fr (l / 2)) with z | z <;> rw [z] <;> omega
    · rw [ct_it rfl]; omega
  rw [a] at b
  obtain ⟨l', h1, h2⟩ := ct_ex b
  refine ⟨l', h1, ?_, ?_⟩
  · rcases ct_i01 (to (l' / 2) = fr (l / 2)) with z | z <;> rw [z] at h2 <;> omega
  · by_cases c : to (l' / 2) = fr (l / 2)
    · exact c
    · rw [ct_if c] at h2; omega
theorem ct_out {n : Nat} {fr to : Nat → Nat} {pr f : Nat → Int} {F : Int} (hF : nw_F n pr f) (hC : ct_C n fr to f F) {l : Nat} (hl : l < 2 * n) (hp : 0 < f l) (h0 : to (l / 2) ≠ 0) (h5 : to (l / 2) ≠ 5) :
    ∃ l', l' < 2 * n ∧ 0 < f l' ∧ fr (l' / 2) = to (l / 2) := by
  have a := ct_bal hC h0 h5
  have b : 0 < nw_sum (fun i => f i * ct_i (to (i / 2) = to (l / 2))) (2 * n) := by
    refine ct_pos (l := l) (fun i hi => ?_) hl ?_
    · have := (hF i hi).1
      rcases ct_i01 (to (i / 2) = to (l / 2)) with z | z <;> rw [z] <;> omega
    · rw [ct_it rfl]; omega
  rw [← a] at b
  obtain ⟨l', h1, h2⟩ := ct_ex b
  refine ⟨l', h1, ?_, ?_⟩
  · rcases ct_i01 (fr (l' / 2) = to (l / 2)) with z | z <;> rw [z] at h2 <;> omega
  · by_cases c : fr (l' / 2) = to (l / 2)
    · exact c
    · rw [ct_if c] at h2; omega
theorem ct_source {n : Nat} {fr to : Nat → Nat} {sl fa pr f : Nat → Int} {F : Int} (hJ : nw_J n fr to sl fa pr) (hF : nw_F n pr f) (hC : ct_C n fr to f F) :
    ∀ m l, l < 2 * n → 0 < f l → fr (l / 2) ≤ m → fr (l / 2) ≠ 0 → ∃ j, j < n ∧ fr j = 0 ∧ to j ≤ fr (l / 2) := by
  intro m
  induction m with
  | zero => intro l _ _ h h'; omega
  | succ m ih =>
    intro l hl hp hm h0
    have a := hJ.2 (l / 2) (by omega)
    obtain ⟨l', h1, h2, h3⟩ := ct_in hF hC hl hp h0 (by omega)
    have b := hJ.2 (l' / 2) (by omega)
    by_cases c : fr (l' / 2) = 0
    · exact ⟨l' / 2, by omega, c, by omega⟩
    · obtain ⟨j, j1, j2, j3⟩ := ih l' h1 h2 (by omega) c
      exact ⟨j, j1, j2, by omega⟩
theorem ct_sink {n : Nat} {fr to : Nat → Nat} {sl fa pr f : Nat → Int} {F : Int} (hJ : nw_J n fr to sl fa pr) (hF : nw_F n pr f) (hC : ct_C n fr to f F) :
    ∀ m l, l < 2 * n → 0 < f l → 5 - to (l / 2) ≤ m → to (l / 2) ≠ 5 → ∃ j, j < n ∧ to j = 5 ∧ to (l / 2) ≤ fr j := by
  intro m
  induction m with
  | zero => intro l hl _ h h'; have a := hJ.2 (l / 2) (by omega); omega
  | succ m ih =>
    intro l hl hp hm h0
    have a := hJ.2 (l / 2) (by omega)
    obtain ⟨l', h1, h2, h3⟩ := ct_out hF hC hl hp (by omega) h0
    have b := hJ.2 (l' / 2) (by omega)
    by_cases c : to (l' / 2) = 5
    · exact ⟨l' / 2, by omega, c, by omega⟩
    · obtain ⟨j, j1, j2, j3⟩ := ih l' h1 h2 (by omega) c
      exact ⟨j, j1, j2, by omega⟩
/-- credits: 8 for an inner job, 1 for one at 0 or 5 -/
def ct_cr (fr to : Nat → Nat) (j : Nat) : Int := if fr j ≠ 0 ∧ to j ≠ 5 then 8 else 1
theorem ct_cr_i {fr to : Nat → Nat} {j : Nat} (h : fr j ≠ 0 ∧ to j ≠ 5) : ct_cr fr to j = 8 := if_pos h
theorem ct_cr_o {fr to : Nat → Nat} {j : Nat} (h : ¬ (fr j ≠ 0 ∧ to j ≠ 5)) : ct_cr fr to j = 1 := if_neg h
theorem ct_cr_b (fr to : Nat → Nat) (j : Nat) : ct_cr fr to j = 8 ∨ ct_cr fr to j = 1 := by
  by_cases h : fr j ≠ 0 ∧ to j ≠ 5
  · exact Or.inl (ct_cr_i h)
  · exact Or.inr (ct_cr_o h)
theorem ct_bound {n : Nat} {fr to : Nat → Nat} {sl fa pr f : Nat → Int} {RR : Nat → Prop} {π : Nat → Int} {F : Int} (hJ : nw_J n fr to sl fa pr) (hF : nw_F n pr f) (hC : ct_C n fr to f F)
    (hV : nw_V n fr to sl fa pr f RR π) (h5 : ¬ ct_R n fr to fa π 5) : F ≤ 140 ∧ F + nw_sum (ct_cr fr to) n ≤ 147 := by
  have hn := hJ.1
  -- the crossing jobs with flow
  have X : ∃ x : Nat → Int, (∀ j, x j = ct_i (ct_R n fr to fa π (fr j) ∧ ¬ ct_R n fr to fa π (to j) ∧ 0 < f (2 * j))) := ⟨_, fun j => rfl⟩
  obtain ⟨x, hx⟩ := X
  have hF1 : F ≤ nw_sum (fun j => 20 * x j) n := by
    have a := hC (fun v => ct_i (ct_R n fr to fa π v)) (ct_it ct_R0) (ct_if h5)
    rw [nw_sum_2] at a
    rw [← a]
    refine nw_sum_le (fun j hj => ?_)
    rw [show 2 * j / 2 = j by omega, show (2 * j + 1) / 2 = j by omega]
    have g1 := hF (2 * j) (by omega)
    have g2 := hF (2 * j + 1) (by omega)
    have g3 := hJ.2 j hj
    have g4 := g1.2 (by omega)
    rw [show 2 * j / 2 = j by omega] at g4
    have x01 := ct_i01 (ct_R n fr to fa π (fr j) ∧ ¬ ct_R n fr to fa π (to j) ∧ 0 < f (2 * j))
    rw [← hx j] at x01
    by_cases c1 : ct_R n fr to fa π (fr j)
    · rw [ct_it c1]
      by_cases c2 : ct_R n fr to fa π (to j)
      · rw [ct_it c2]
        rcases x01 with z | z <;> omega
      · rw [ct_if c2]
        have b := nw_fast hV hj (ct_RR hV c1)
        have z : f (2 * j + 1) = 0 := by
          by_cases z : f (2 * j + 1) = 0
          · exact z
          · have y := nw_fback hV hj b.1 z
            exact absurd (ct_Rs hj c1 (by omega)) c2
        by_cases c3 : 0 < f (2 * j)
        · have e : x j = 1 := by rw [hx j]; exact ct_it ⟨c1, c2, c3⟩
          rw [e, z]; omega
        · rw [z]
          rcases x01 with w | w <;> omega
    · rw [ct_if c1]
      rcases ct_i01 (ct_R n fr to fa π (to j)) with z | z
      · rw [z]
        rcases x01 with w | w <;> omega
      · rw [z]
        rcases x01 with w | w <;> omega
  have x01 : ∀ j, x j = 0 ∨ x j = 1 := by
    intro j
    rw [hx j]
    exact ct_i01 _
  refine ⟨?_, ?_⟩
  · have a : nw_sum (fun j => 20 * x j) n ≤ nw_sum (fun _ => 20) n := by
      refine nw_sum_le (fun j _ => ?_)
      rcases x01 j with z | z <;> omega
    rw [nw_sum_k] at a
    omega
  · have E : F + nw_sum (ct_cr fr to) n ≤ nw_sum (fun j => 20 * x j + ct_cr fr to j) n := by
      rw [nw_sum_add]
      have e : nw_sum (fun j => ct_cr fr to j) n = nw_sum (ct_cr fr to) n := rfl
      rw [e]
      omega
    by_cases c : ∃ j, j < n ∧ (fr j ≠ 0 ∧ to j ≠ 5) ∧ x j = 1
    · obtain ⟨j0, g1, g2, g3⟩ := c
      have g4 : ct_R n fr to fa π (fr j0) ∧ ¬ ct_R n fr to fa π (to j0) ∧ 0 < f (2 * j0) := by
        by_cases z : ct_R n fr to fa π (fr j0) ∧ ¬ ct_R n fr to fa π (to j0) ∧ 0 < f (2 * j0)
        · exact z
        · rw [hx j0, ct_if z] at g3
          omega
      have g5 := hJ.2 j0 g1
      have e0 : 2 * j0 / 2 = j0 := by omega
      obtain ⟨l1, a1, a2, a3⟩ := ct_in hF hC (l := 2 * j0) (by omega) g4.2.2 (by rw [e0]; exact g2.1) (by rw [e0]; omega)
      obtain ⟨l2, b1, b2, b3⟩ := ct_out hF hC (l := 2 * j0) (by omega) g4.2.2 (by rw [e0]; omega) (by rw [e0]; exact g2.2)
      obtain ⟨js, s1, s2, s3⟩ := ct_source hJ hF hC _ (2 * j0) (by omega) g4.2.2 (Nat.le_refl _) (by rw [e0]; exact g2.1)
      obtain ⟨jt, t1, t2, t3⟩ := ct_sink hJ hF hC _ (2 * j0) (by omega) g4.2.2 (Nat.le_refl _) (by rw [e0]; exact g2.2)
      rw [e0] at a3 b3 s3 t3
      have x1 : x (l1 / 2) = 0 := by
        rw [hx]
        refine ct_if (fun z => z.2.1 ?_)
        rw [a3]; exact g4.1
      have x2 : x (l2 / 2) = 0 := by
        rw [hx]
        refine ct_if (fun z => g4.2.1 ?_)
        rw [← b3]; exact z.1
      have h1 := hJ.2 (l1 / 2) (by omega)
      have h2 := hJ.2 (l2 / 2) (by omega)
      have n12 : l1 / 2 ≠ l2 / 2 := by intro z; rw [z] at a3; omega
      have nst : js ≠ jt := by intro z; rw [z] at s3; omega
      have cs : ct_cr fr to js = 1 := ct_cr_o (fun z => z.1 s2)
      have cc : ct_cr fr to jt = 1 := ct_cr_o (fun z => z.2 t2)
      have K : nw_sum (fun j => (20 * x j + ct_cr fr to j) + ((if j = l1 / 2 then 20 else 0) + ((if j = l2 / 2 then 20 else 0) + ((if j = js then 7 else 0) + (if j = jt then 7 else 0))))) n ≤ nw_sum (fun _ => 28) n := by
        refine nw_sum_le (fun j hj => ?_)
        have y1 : x j + (if j = l1 / 2 then 1 else 0) + (if j = l2 / 2 then 1 else 0) ≤ 1 := by
          by_cases d1 : j = l1 / 2
          · rw [if_pos d1, if_neg (by omega), d1, x1]; omega
          · rw [if_neg d1]
            by_cases d2 : j = l2 / 2
            · rw [if_pos d2, d2, x2]; omega
            · rw [if_neg d2]
              rcases x01 j with z | z <;> omega
        have y2 : ct_cr fr to j + (if j = js then 7 else 0) + (if j = jt then 7 else 0) ≤ 8 := by
          by_cases d1 : j = js
          · rw [if_pos d1, if_neg (by omega), d1, cs]; omega
          · rw [if_neg d1]
            by_cases d2 : j = jt
            · rw [if_pos d2, d2, cc]; omega
            · rw [if_neg d2]
              rcases ct_cr_b fr to j with z | z <;> omega
        have y3 : (if j = l1 / 2 then (20 : Int) else 0) = 20 * (if j = l1 / 2 then 1 else 0) := by split <;> omega
        have y4 : (if j = l2 / 2 then (20 : Int) else 0) = 20 * (if j = l2 / 2 then 1 else 0) := by split <;> omega
        rw [y3, y4]
        omega
      rw [nw_sum_add, nw_sum_add, nw_sum_add, nw_sum_add, nw_sum_add, nw_sum_1, nw_sum_1, nw_sum_1, nw_sum_1, nw_sum_k, if_pos (by omega), if_pos (by omega), if_pos s1, if_pos t1] at K
      omega
    · have K : nw_sum (fun j => 20 * x j + ct_cr fr to j) n ≤ nw_sum (fun _ => 21) n := by
        refine nw_sum_le (fun j hj => ?_)
        rcases x01 j with z | z
        · rcases ct_cr_b fr to j with w | w <;> omega
        · rw [ct_cr_o (fun w => c ⟨j, hj, w, z⟩), z]; omega
      rw [nw_sum_k] at K
      omega
end
section
/-! Ties: ways as long as the longest fast way. e: the labels at the first tie; Th: lower bounds of the times at which a node gets label e -/
def tp_C (n : Nat) (fr to : Nat → Nat) (sl fa pr f e : Nat → Int) (Th : Nat → Nat) : Prop :=
  Th 0 = 0 ∧ ∀ t, t < 6 * (4 * n) → nw_rs pr f (t % (4 * n)) = true → e (nw_dst fr to (t % (4 * n))) = e (nw_src fr to (t % (4 * n))) + nw_len sl fa (t % (4 * n)) →
    Th (nw_src fr to (t % (4 * n))) ≤ t → Th (nw_dst fr to (t % (4 * n))) ≤ t + 1
/-- the open slots of line l, from a to b -/
def tp_O (n : Nat) (l a b : Nat) (Th : Nat → Nat) : Nat := bf_n (fun r => decide (Th b ≤ r * (4 * n) + 2 * l + 1 ∧ Th a ≤ r * (4 * n) + 2 * l + 2)) 4
def tp_V (n : Nat) (fr to : Nat → Nat) (pr f : Nat → Int) (Th : Nat → Nat) (j : Nat) : Int :=
  if fr j ≠ 0 ∧ to j ≠ 5 then (tp_O n (2 * j) (fr j) (to j) Th : Int) + (tp_O n (2 * j + 1) (fr j) (to j) Th : Int) else (if pr j - f (2 * j) ≠ 0 then 1 else 0)
def tp_P (n : Nat) (fr to : Nat → Nat) (pr f : Nat → Int) (Th : Nat → Nat) : Int := nw_sum (tp_V n fr to pr f Th) n
theorem tp_V_i {n : Nat} {fr to : Nat → Nat} {pr f : Nat → Int} {Th : Nat → Nat} {j : Nat} (h : fr j ≠ 0 ∧ to j ≠ 5) : tp_V n fr to pr f Th j = (tp_O n (2 * j) (fr j) (to j) Th : Int) + (tp_O n (2 * j + 1) (fr j) (to j) Th : Int) := if_pos h
theorem tp_V_o {n : Nat} {fr to : Nat → Nat} {pr f : Nat → Int} {Th : Nat → Nat} {j : Nat} (h : ¬ (fr j ≠ 0 ∧ to j ≠ 5)) : tp_V n fr to pr f Th j = (if pr j - f (2 * j) ≠ 0 then 1 else 0) := if_neg h
theorem tp_O4 (n l a b : Nat) (Th : Nat → Nat) : tp_O n l a b Th ≤ 4 := by
  have x : tp_O n l a b Th ≤ bf_n (fun _ => true) 4 := bf_n_le (fun _ _ _ => rfl)
  rw [bf_n_all] at x
  exact x
theorem tp_0 (n : Nat) (fr to : Nat → Nat) (pr f : Nat → Int) (Th : Nat → Nat) : 0 ≤ tp_P n fr to pr f Th ∧ tp_P n fr to pr f Th ≤ nw_sum (ct_cr fr to) n := by
  constructor
  · have a : nw_sum (fun _ => 0) n ≤ tp_P n fr to pr f Th := by
      refine nw_sum_le (fun j _ => ?_)
      by_cases h : fr j ≠ 0 ∧ to j ≠ 5
      · rw [tp_V_i h]; omega
      · rw [tp_V_o h]; split <;> omega
    rw [nw_sum_k] at a
    omega
  · refine nw_sum_le (fun j _ => ?_)
    by_cases h : fr j ≠ 0 ∧ to j ≠ 5
    · rw [tp_V_i h, ct_cr_i h]
      have a := tp_O4 n (2 * j) (fr j) (to j) Th
      have b := tp_O4 n (2 * j + 1) (fr j) (to j) Th
      omega
    · rw [tp_V_o h, ct_cr_o h]; split <;> omega
theorem tp_slot {r n l x : Nat} (hr : r < 4) (hl : l < 2 * n) (hx : x ≤ 2) : r * (4 * n) + 2 * l + x ≤ 6 * (4 * n) := by
  have a : r * (4 * n) ≤ 3 * (4 * n) := Nat.mul_le_mul_right _ (by omega)
  omega
theorem tp_O_le {n l a b : Nat} {Th T' : Nat → Nat} (hl : l < 2 * n) (ha : T' a ≤ 6 * (4 * n) → Th a ≤ T' a) (hb : T' b ≤ 6 * (4 * n) → Th b ≤ T' b) : tp_O n l a b T' ≤ tp_O n l a b Th := by
  refine bf_n_le (fun r hr h => ?_)
  have z : T' b ≤ r * (4 * n) + 2 * l + 1 ∧ T' a ≤ r * (4 * n) + 2 * l + 2 := of_decide_eq_true h
  have s1 := tp_slot (x := 1) hr hl (by omega)
  have s2 := tp_slot (x := 2) hr hl (by omega)
  have y1 := ha (by omega)
  have y2 := hb (by omega)
  exact decide_eq_true ⟨by omega, by omega⟩
theorem tp_O_lt {n l a b : Nat} {Th T' : Nat → Nat} (hl : l < 2 * n) (ha : T' a ≤ 6 * (4 * n) → Th a ≤ T' a) (hb : T' b ≤ 6 * (4 * n) → Th b ≤ T' b) {r : Nat} (hr : r < 4)
    (h1 : Th b ≤ r * (4 * n) + 2 * l + 1 ∧ Th a ≤ r * (4 * n) + 2 * l + 2) (h2 : ¬ (T' b ≤ r * (4 * n) + 2 * l + 1 ∧ T' a ≤ r * (4 * n) + 2 * l + 2)) : tp_O n l a b T' < tp_O n l a b Th := by
  refine bf_n_lt (a := r) (fun r hr h => ?_) hr (decide_eq_false h2) (decide_eq_true h1)
  have z : T' b ≤ r * (4 * n) + 2 * l + 1 ∧ T' a ≤ r * (4 * n) + 2 * l + 2 := of_decide_eq_true h
  have s1 := tp_slot (x := 1) hr hl (by omega)
  have s2 := tp_slot (x := 2) hr hl (by omega)
  have y1 := ha (by omega)
  have y2 := hb (by omega)
  exact decide_eq_true ⟨by omega, by omega⟩
theorem tp_mono {n : Nat} {fr to : Nat → Nat} {sl fa pr f : Nat → Int} {Th T' : Nat → Nat} (hJ : nw_J n fr to sl fa pr) (h : ∀ v, v < 6 → T' v ≤ 6 * (4 * n) → Th v ≤ T' v) : tp_P n fr to pr f T' ≤ tp_P n fr to pr f Th := by
  refine nw_sum_le (fun j hj => ?_)
  have g := hJ.2 j hj
  by_cases c : fr j ≠ 0 ∧ to j ≠ 5
  · rw [tp_V_i c, tp_V_i c]
    have a := tp_O_le (n := n) (l := 2 * j) (a := fr j) (b := to j) (Th := Th) (T' := T') (by omega) (h _ (by omega)) (h _ (by omega))
    have b := tp_O_le (n := n) (l := 2 * j + 1) (a := fr j) (b := to j) (Th := Th) (T' := T') (by omega) (h _ (by omega)) (h _ (by omega))
    omega
  · rw [tp_V_o c, tp_V_o c]; exact Int.le_refl _
/-- the times of this search, for labels e -/
def tp_T (n : Nat) (s : bf_S) (e : Nat → Int) (T : Nat → Nat) (v : Nat) : Nat := if s.1 v = true ∧ s.2.1 v = e v then T v else 6 * (4 * n) + 1
section
variable {n : Nat} {fr to : Nat → Nat} {sl fa pr f e : Nat → Int} {s : bf_S} {T Th : Nat → Nat} {q : Nat} {RR : Nat → Prop}
theorem tp_T_t {v : Nat} (h : s.1 v = true ∧ s.2.1 v = e v) : tp_T n s e T v = T v := if_pos h
theorem tp_T_i {v : Nat} (h : tp_T n s e T v ≤ 6 * (4 * n)) : (s.1 v = true ∧ s.2.1 v = e v) ∧ tp_T n s e T v = T v := by
  by_cases c : s.1 v = true ∧ s.2.1 v = e v
  · exact ⟨c, tp_T_t c⟩
  · exfalso
    unfold tp_T at h
    rw [if_neg c] at h
    omega
theorem tp_T_C (hV : nw_V n fr to sl fa pr f RR e) (hb : nw_bf n fr to sl fa pr f s T) (hle : ∀ v, s.1 v = true → RR v ∧ s.2.1 v ≤ e v) : tp_C n fr to sl fa pr f e (tp_T n s e T) := by
  refine ⟨?_, fun t ht hr he h => ?_⟩
  · rw [tp_T_t ⟨hb.1.1, by rw [hb.1.2.1, hV.2.1]⟩]; exact hb.1.2.2
  · have k1 : t % (4 * n) < 4 * n := Nat.mod_lt _ (by omega)
    obtain ⟨a, b⟩ := tp_T_i (Nat.le_trans h (by omega))
    have c := hb.2.1 _ k1 hr a.1
    have d := hle _ c.1
    have x : s.2.1 (nw_dst fr to (t % (4 * n))) = e (nw_dst fr to (t % (4 * n))) := by have := c.2; have := a.2; omega
    rw [tp_T_t ⟨c.1, x⟩]
    rw [b] at h
    exact hb.2.2.2.2 t ht hr a.1 (by have := a.2; omega) h
theorem tp_T_ge (hJ : nw_J n fr to sl fa pr) (hV : nw_V n fr to sl fa pr f RR e) (hb : nw_bf n fr to sl fa pr f s T) (hle : ∀ v, s.1 v = true → RR v ∧ s.2.1 v ≤ e v) (hC : tp_C n fr to sl fa pr f e Th) :
    ∀ m v, T v ≤ m → v < 6 → s.1 v = true → s.2.1 v = e v → Th v ≤ T v := by
  intro m
  induction m with
  | zero =>
    intro v hm hv hr hd
    by_cases c : v = 0
    · rw [c, hC.1]; omega
    · have a := hb.2.2.1 v hv c hr
      omega
  | succ m ih =>
    intro v hm hv hr hd
    by_cases c : v = 0
    · rw [c, hC.1]; omega
    · obtain ⟨a1, a2, a3, a4, a5, a6, a7, a8⟩ := hb.2.2.1 v hv c hr
      have b := hV.2.2 _ a1 a2 (hle _ a4).1
      rw [a3] at b
      have g := (hle _ a4).2
      have x : s.2.1 (nw_src fr to (s.2.2 v)) = e (nw_src fr to (s.2.2 v)) := by have := b.2; omega
      have y := ih _ (by omega) (nw_src_lt hJ a1) a4 x
      have z := hC.2 (T v - 1) (by omega)
      rw [a8, a3] at z
      have w := z a2 (by omega) (by omega)
      omega
/-- along the way the labels are e -/
theorem tp_way (hV : nw_V n fr to sl fa pr f RR e) (hb : nw_bf n fr to sl fa pr f s T) (hle : ∀ v, s.1 v = true → RR v ∧ s.2.1 v ≤ e v) (h5 : ct_R n fr to fa e 5) (hw : wy_ok n fr to sl fa pr f s T q) :
    ∀ i, i ≤ q → s.1 (wy_ch fr to s.2.2 i) = true ∧ s.2.1 (wy_ch fr to s.2.2 i) = e (wy_ch fr to s.2.2 i) := by
  intro i
  induction i with
  | zero =>
    intro _
    have a := ct_ge (nw_bfV hb) h5 hV.2.1
    have b := hle 5 a.1
    exact ⟨a.1, by show s.2.1 5 = e 5; have := a.2; have := b.2; omega⟩
  | succ i ih =>
    intro hi
    have a := ih (by omega)
    have b := hw.2.2.2 i (by omega)
    have r : s.1 (wy_ch fr to s.2.2 (i + 1)) = true := by
      by_cases c : i + 1 = q
      · rw [c, hw.2.2.1]; exact hb.1.1
      · exact (hw.2.2.2 (i + 1) (by omega)).2.2.1
    have g := hle _ r
    have x := hV.2.2 _ b.2.2.2.1 b.2.2.2.2.1 (by rw [b.2.2.2.2.2.2.1]; exact g.1)
    rw [b.2.2.2.2.2.2.1, b.2.2.2.2.2.1] at x
    have y := b.2.2.2.2.2.2.2.1
    exact ⟨r, by have := x.2; have := a.2; have := g.2; omega⟩
theorem tp_V' (hV : nw_V n fr to sl fa pr f RR e) (hb : nw_bf n fr to sl fa pr f s T) (hle : ∀ v, s.1 v = true → RR v ∧ s.2.1 v ≤ e v) (h5 : ct_R n fr to fa e 5) (hw : wy_ok n fr to sl fa pr f s T q) (α : Int) :
    nw_V n fr to sl fa pr (wy_f fr to s.2.2 f α q) RR e := by
  have A := tp_way hV hb hle h5 hw
  refine wy_pot hw α hV (fun i hi => ?_)
  have a := A i (by omega)
  have b := A (i + 1) (by omega)
  have c := (hw.2.2.2 i hi).2.2.2.2.2.2.2.1
  exact ⟨(hle _ a.1).1, (hle _ b.1).1, by have := a.2; have := b.2; omega⟩
/-- a way never walks a job at 0 or 5 back -/
theorem tp_nb (hw : wy_ok n fr to sl fa pr f s T q) {i : Nat} (hi : i < q) (ho : ¬ (fr (s.2.2 (wy_ch fr to s.2.2 i) / 4) ≠ 0 ∧ to (s.2.2 (wy_ch fr to s.2.2 i) / 4) ≠ 5)) : s.2.2 (wy_ch fr to s.2.2 i) % 2 = 0 := by
  have a := hw.2.2.2 i hi
  by_cases c : s.2.2 (wy_ch fr to s.2.2 i) % 2 = 0
  · exact c
  · exfalso
    have a1 := a.2.2.2.2.2.1
    have a2 := a.2.2.2.2.2.2.1
    unfold nw_dst at a1
    unfold nw_src at a2
    rw [if_neg c] at a1 a2
    refine ho ⟨?_, ?_⟩
    · rw [a1]; exact a.2.1
    · rw [a2]
      intro z
      have x := wy_inj hw (i := i + 1) (i' := 0) (by omega) (by omega) (by rw [z]; rfl)
      omega
theorem tp_step (hJ : nw_J n fr to sl fa pr) (hF : nw_F n pr f) (hV : nw_V n fr to sl fa pr f RR e) (hb : nw_bf n fr to sl fa pr f s T) (hle : ∀ v, s.1 v = true → RR v ∧ s.2.1 v ≤ e v) (h5 : ct_R n fr to fa e 5)
    (hw : wy_ok n fr to sl fa pr f s T q) (hC : tp_C n fr to sl fa pr f e Th) (hα : wy_w fr to s.2.2 pr f q < 1000000) :
    ∃ Th', tp_C n fr to sl fa pr (wy_f fr to s.2.2 f (wy_w fr to s.2.2 pr f q) q) e Th' ∧ tp_P n fr to pr (wy_f fr to s.2.2 f (wy_w fr to s.2.2 pr f q) q) Th' + 1 ≤ tp_P n fr to pr f Th := by
  have A := tp_way hV hb hle h5 hw
  obtain ⟨w1, w2, w3⟩ := wy_w_le hw (Nat.le_refl q)
  have wp := wy_w_pos hF hw (Nat.le_refl q)
  -- the arc that is filled
  have ⟨i, hi, hr⟩ : ∃ i, i < q ∧ wy_w fr to s.2.2 pr f q = nw_room pr f (s.2.2 (wy_ch fr to s.2.2 i)) := by
    rcases w3 with z | z
    · omega
    · exact z
  obtain ⟨a1, a2, a3, a4, a5, a6, a7, a8, a9, a10, a11⟩ := hw.2.2.2 i hi
  have TT : ∀ i', i' ≤ q → tp_T n s e T (wy_ch fr to s.2.2 i') = T (wy_ch fr to s.2.2 i') := fun i' h => tp_T_t (A i' h)
  have crit : nw_rs pr (wy_f fr to s.2.2 f (wy_w fr to s.2.2 pr f q) q) (s.2.2 (wy_ch fr to s.2.2 i)) = false := by
    have x := (wy_f_is hw (α := wy_w fr to s.2.2 pr f q) (Nat.le_refl q)).1 i hi
    unfold nw_rs
    refine decide_eq_false (fun z => z ?_)
    unfold nw_room at hr ⊢
    by_cases c : s.2.2 (wy_ch fr to s.2.2 i) % 2 = 0
    · rw [if_pos c] at hr x ⊢
      by_cases d : s.2.2 (wy_ch fr to s.2.2 i) / 2 % 2 = 0
      · rw [if_pos d] at hr ⊢
        rw [x]; omega
      · rw [if_neg d] at hr
        omega
    · rw [if_neg c] at hr x ⊢
      rw [x]; omega
  have C0 := tp_T_C hV hb hle
  -- the new bounds
  refine ⟨fun v => if v = wy_ch fr to s.2.2 i then T v + 1 else tp_T n s e T v, ⟨?_, ?_⟩, ?_⟩
  · dsimp only
    rw [if_neg (fun z => a2 z.symm)]
    exact C0.1
  · intro t ht hrs he h
    have k1 : t % (4 * n) < 4 * n := Nat.mod_lt _ (by omega)
    dsimp only at h ⊢
    have h' : tp_T n s e T (nw_src fr to (t % (4 * n))) ≤ t := by
      by_cases c : nw_src fr to (t % (4 * n)) = wy_ch fr to s.2.2 i
      · rw [if_pos c] at h
        rw [c] at h ⊢
        rw [TT i (by omega)]
        omega
      · rw [if_neg c] at h
        exact h
    by_cases d : nw_rs pr f (t % (4 * n)) = true
    · have x := C0.2 t ht d he h'
      by_cases c : nw_dst fr to (t % (4 * n)) = wy_ch fr to s.2.2 i
      · rw [if_pos c]
        rw [c] at x ⊢
        rw [TT i (by omega)] at x
        by_cases g : T (wy_ch fr to s.2.2 i) = t + 1
        · exfalso
          rw [g, show t + 1 - 1 = t by omega] at a11
          rw [a11, crit] at hrs
          cases hrs
        · omega
      · rw [if_neg c]
        exact x
    · -- the opposite of an arc of the way
      rcases wy_f_cases hw (wy_w fr to s.2.2 pr f q) (t % (4 * n) / 2) with g | g
      · exfalso
        unfold nw_rs at d hrs
        rw [nw_room_c g.1] at hrs
        exact d hrs
      · have ⟨i', hi', e'⟩ : ∃ i', i' < q ∧ s.2.2 (wy_ch fr to s.2.2 i') / 2 = t % (4 * n) / 2 := by
          rcases g with ⟨i', hi', e', _⟩ | ⟨i', hi', e', _⟩ <;> exact ⟨i', hi', e'⟩
        have b := hw.2.2.2 i' hi'
        have ne : t % (4 * n) ≠ s.2.2 (wy_ch fr to s.2.2 i') := by
          intro z
          rw [z] at d
          exact d b.2.2.2.2.1
        have r := nw_rev (fr := fr) (to := to) (sl := sl) (fa := fa) e'.symm ne
        rw [b.2.2.2.2.2.1, b.2.2.2.2.2.2.1] at r
        rw [r.1, TT i' (by omega)] at h'
        rw [r.2.1]
        have y := b.2.2.2.2.2.2.2.2.1
        by_cases c : wy_ch fr to s.2.2 (i' + 1) = wy_ch fr to s.2.2 i
        · rw [if_pos c]; omega
        · rw [if_neg c, TT (i' + 1) (by omega)]; omega
  · -- the potential falls
    refine Int.le_trans ?_ (tp_mono hJ (T' := tp_T n s e T) (fun v hv hx => ?_))
    rotate_left 1
    · obtain ⟨c, d⟩ := tp_T_i hx
      rw [d]
      exact tp_T_ge hJ hV hb hle hC _ v (Nat.le_refl _) hv c.1 c.2
    · have up : ∀ v, (if v = wy_ch fr to s.2.2 i then T v + 1 else tp_T n s e T v) ≤ 6 * (4 * n) → tp_T n s e T v ≤ (if v = wy_ch fr to s.2.2 i then T v + 1 else tp_T n s e T v) := by
        intro v _
        by_cases c : v = wy_ch fr to s.2.2 i
        · rw [if_pos c, c, TT i (by omega)]; omega
        · rw [if_neg c]; omega
      have hb4 := hb.2.2.2.1
      have E : tp_P n fr to pr (wy_f fr to s.2.2 f (wy_w fr to s.2.2 pr f q) q) (fun v => if v = wy_ch fr to s.2.2 i then T v + 1 else tp_T n s e T v) + 1
          = nw_sum (fun j => tp_V n fr to pr (wy_f fr to s.2.2 f (wy_w fr to s.2.2 pr f q) q) (fun v => if v = wy_ch fr to s.2.2 i then T v + 1 else tp_T n s e T v) j + (if j = s.2.2 (wy_ch fr to s.2.2 i) / 4 then 1 else 0)) n := by
        rw [nw_sum_add, nw_sum_1, if_pos (by omega)]
        rfl
      rw [E]
      refine nw_sum_le (fun j hj => ?_)
      have g := hJ.2 j hj
      by_cases c : fr j ≠ 0 ∧ to j ≠ 5
      · rw [tp_V_i c, tp_V_i c]
        have o1 := tp_O_le (n := n) (l := 2 * j) (a := fr j) (b := to j) (Th := tp_T n s e T) (T' := fun v => if v = wy_ch fr to s.2.2 i then T v + 1 else tp_T n s e T v) (by omega) (up _) (up _)
        have o2 := tp_O_le (n := n) (l := 2 * j + 1) (a := fr j) (b := to j) (Th := tp_T n s e T) (T' := fun v => if v = wy_ch fr to s.2.2 i then T v + 1 else tp_T n s e T v) (by omega) (up _) (up _)
        by_cases d : j = s.2.2 (wy_ch fr to s.2.2 i) / 4
        · rw [if_pos d]
          -- the slot of this tick closes
          have r1 := Nat.div_add_mod (T (wy_ch fr to s.2.2 i) - 1) (4 * n)
          rw [a11] at r1
          have a6' := a6
          have a7' := a7
          unfold nw_dst at a6'
          unfold nw_src at a7'
          rw [← d] at a6' a7'
          have b5 : wy_ch fr to s.2.2 i ≠ 5 := by
            intro z
            rw [z] at a6'
            by_cases u : s.2.2 5 % 2 = 0
            · rw [if_pos u] at a6'; exact c.2 a6'
            · rw [if_neg u] at a6'; omega
          have i0 : i ≠ 0 := fun z => b5 (by rw [z]; rfl)
          have lt5 := wy_dec hw (i := 0) (i' := i) (by omega) (by omega)
          have le4 := hb4 (wy_ch fr to s.2.2 i) 5 a1 (by omega) a3 lt5
          have rr : (T (wy_ch fr to s.2.2 i) - 1) / (4 * n) < 4 := Nat.div_lt_of_lt_mul (by omega)
          have s1 : ∀ l, 2 * l = s.2.2 (wy_ch fr to s.2.2 i) ∨ 2 * l + 1 = s.2.2 (wy_ch fr to s.2.2 i) → l < 2 * n → tp_O n l (fr j) (to j) (fun v => if v = wy_ch fr to s.2.2 i then T v + 1 else tp_T n s e T v) < tp_O n l (fr j) (to j) (tp_T n s e T) := by
            intro l hl hl2
            refine tp_O_lt hl2 (up _) (up _) rr ?_ ?_
            · have mc : (T (wy_ch fr to s.2.2 i) - 1) / (4 * n) * (4 * n) = 4 * n * ((T (wy_ch fr to s.2.2 i) - 1) / (4 * n)) := Nat.mul_comm _ _
              by_cases u : s.2.2 (wy_ch fr to s.2.2 i) % 2 = 0
              · rw [if_pos u] at a6' a7'
                rw [a6', a7', TT i (by omega), TT (i + 1) (by omega), mc]
                constructor <;> omega
              · rw [if_neg u] at a6' a7'
                rw [a6', a7', TT i (by omega), TT (i + 1) (by omega), mc]
                constructor <;> omega
            · have mc : (T (wy_ch fr to s.2.2 i) - 1) / (4 * n) * (4 * n) = 4 * n * ((T (wy_ch fr to s.2.2 i) - 1) / (4 * n)) := Nat.mul_comm _ _
              by_cases u : s.2.2 (wy_ch fr to s.2.2 i) % 2 = 0
              · rw [if_pos u] at a6' a7'
                rw [a6', if_pos rfl, mc]
                omega
              · rw [if_neg u] at a6' a7'
                rw [a6', if_pos rfl, mc]
                omega
          by_cases u : s.2.2 (wy_ch fr to s.2.2 i) / 2 = 2 * j
          · have := s1 (2 * j) (by omega) (by omega)
            omega
          · have := s1 (2 * j + 1) (by omega) (by omega)
            omega
        · rw [if_neg d]
          omega
      · rw [tp_V_o c, tp_V_o c]
        -- a job at 0 or 5: its slow line is never walked back
        have f1 : wy_f fr to s.2.2 f (wy_w fr to s.2.2 pr f q) q (2 * j) = f (2 * j) ∨ wy_f fr to s.2.2 f (wy_w fr to s.2.2 pr f q) q (2 * j) = f (2 * j) + wy_w fr to s.2.2 pr f q := by
          rcases wy_f_cases hw (wy_w fr to s.2.2 pr f q) (2 * j) with z | ⟨i', _, _, _, z⟩ | ⟨i', hi', e', z', z⟩
          · exact Or.inl z.1
          · exact Or.inr z
          · exfalso
            have x := tp_nb hw hi' (by rw [show s.2.2 (wy_ch fr to s.2.2 i') / 4 = j by omega]; exact c)
            omega
        have f2 := hF (2 * j) (by omega)
        have f3 := f2.2 (by omega)
        rw [show 2 * j / 2 = j by omega] at f3
        have f4 := wy_feas hF hw (2 * j) (by omega)
        have f5 := f4.2 (by omega)
        rw [show 2 * j / 2 = j by omega] at f5
        by_cases d : j = s.2.2 (wy_ch fr to s.2.2 i) / 4
        · rw [if_pos d]
          have x := tp_nb hw hi (by rw [← d]; exact c)
          have y : s.2.2 (wy_ch fr to s.2.2 i) / 2 % 2 = 0 := by
            by_cases y : s.2.2 (wy_ch fr to s.2.2 i) / 2 % 2 = 0
            · exact y
            · unfold nw_room at hr
              rw [if_pos x, if_neg y] at hr
              omega
          have k4 : s.2.2 (wy_ch fr to s.2.2 i) = 4 * j := by omega
          have u1 := of_decide_eq_false crit
          have u2 := nw_rs_r a5
          rw [k4, (nw_a0 fr to sl fa pr _ j).2.2.2] at u1 u2
          rw [if_neg u1, if_pos u2]
          omega
        · rw [if_neg d]
          by_cases u : pr j - f (2 * j) ≠ 0
          · rw [if_pos u]; split <;> omega
          · rw [if_neg u, if_neg (by rcases f1 with z | z <;> omega)]
            omega
end
end
section
/-! The loop of sendAll: i ways so far (lengths wl, amounts wa), flow f -/
def sa_I (n : Nat) (fr to : Nat → Nat) (sl fa pr : Nat → Int) (i : Nat) (f wl wa : Nat → Int) : Prop :=
  nw_F n pr f ∧ (∀ l, l < 2 * n → f l ≤ 1000000 * (i : Int)) ∧ (∀ k, k < i → 1 ≤ wa k ∧ wa k < 1000000) ∧
  ∃ (RR : Nat → Prop) (π : Nat → Int), nw_V n fr to sl fa pr f RR π ∧ π 5 ≤ 45 ∧ (∀ k, k < i → π 5 ≤ wl k ∧ wl k ≤ 45) ∧ (∀ k k', k ≤ k' → k' < i → wl k' ≤ wl k) ∧
    ((i = 0 ∧ ∀ l, l < 2 * n → f l = 0) ∨ (nw_P n fr to RR ∧ RR 5)) ∧
    ((∃ F, ct_C n fr to f F ∧ F ≤ 140 ∧ (i : Int) ≤ F ∧ nw_sum wa i = F ∧ F + nw_sum (ct_cr fr to) n ≤ 147) ∨
     ((nw_P n fr to RR ∧ RR 5) ∧ ct_R n fr to fa π 5 ∧ (∃ Th, tp_C n fr to sl fa pr f π Th ∧ (i : Int) + tp_P n fr to pr f Th ≤ 147) ∧ ∃ i0, i0 ≤ i ∧ (∀ k, i0 ≤ k → k < i → wl k = π 5) ∧ nw_sum wa i0 ≤ 140))
/-- the finished table of m ways -/
def sa_W (m : Nat) (wl wa : Nat → Int) : Prop :=
  m ≤ 148 ∧ (m = 0 ∨ ((∀ k, k < m → 0 ≤ wl k ∧ wl k ≤ 45) ∧ (∀ k k', k ≤ k' → k' < m → wl k' ≤ wl k) ∧ wa (m - 1) = 1000000 ∧ (∀ k, k + 1 < m → 1 ≤ wa k ∧ wa k < 1000000) ∧
    ∃ i0, i0 < m ∧ (∀ k, i0 ≤ k → k < m → wl k = wl (m - 1)) ∧ nw_sum wa i0 ≤ 140))
theorem sa_cr0 (fr to : Nat → Nat) (n : Nat) : 0 ≤ nw_sum (ct_cr fr to) n ∧ nw_sum (ct_cr fr to) n ≤ 8 * n := by
  constructor
  · have a : nw_sum (fun _ => 0) n ≤ nw_sum (ct_cr fr to) n := nw_sum_le (fun j _ => by rcases ct_cr_b fr to j with z | z <;> omega)
    rw [nw_sum_k] at a
    omega
  · have a : nw_sum (ct_cr fr to) n ≤ nw_sum (fun _ => 8) n := nw_sum_le (fun j _ => by rcases ct_cr_b fr to j with z | z <;> omega)
    rw [nw_sum_k] at a
    exact a
theorem sa_lt {n : Nat} {fr to : Nat → Nat} {sl fa pr : Nat → Int} {i : Nat} {f wl wa : Nat → Int} (h : sa_I n fr to sl fa pr i f wl wa) : i ≤ 147 := by
  obtain ⟨_, _, _, RR, π, _, _, _, _, _, g⟩ := h
  rcases g with ⟨F, _, _, h1, _, h2⟩ | ⟨_, _, ⟨Th, _, h1⟩, _⟩
  · have a := (sa_cr0 fr to n).1
    omega
  · have a := (tp_0 n fr to pr f Th).1
    omega
theorem sa_0 {n : Nat} {fr to : Nat → Nat} {sl fa pr f wl wa : Nat → Int} (hJ : nw_J n fr to sl fa pr) (h0 : ∀ l, l < 2 * n → f l = 0) : sa_I n fr to sl fa pr 0 f wl wa := by
  have hn := hJ.1
  refine ⟨fun l hl => ?_, fun l hl => by rw [h0 l hl]; omega, fun k hk => absurd hk (by omega), _, _, nw_V0 hJ h0, by decide, fun k hk => absurd hk (by omega), fun k k' _ hk => absurd hk (by omega), Or.inl ⟨rfl, h0⟩, Or.inl ⟨0, ?_, by omega, by omega, rfl, ?_⟩⟩
  · have g := hJ.2 (l / 2) (by omega)
    rw [h0 l hl]
    exact ⟨by omega, fun _ => by omega⟩
  · intro c _ _
    have e : nw_sum (fun l => f l * (c (fr (l / 2)) - c (to (l / 2)))) (2 * n) = nw_sum (fun _ => 0) (2 * n) := by
      refine nw_sum_c (fun l hl => ?_)
      rw [h0 l hl]
      exact Int.zero_mul _
    rw [e, nw_sum_k]
    exact Int.zero_mul _
  · have a := (sa_cr0 fr to n).2
    omega
section
variable {n : Nat} {fr to : Nat → Nat} {sl fa pr f : Nat → Int} {i : Nat} {wl wa : Nat → Int} {s : bf_S} {T : Nat → Nat}
/-- after the first search node 5 is always reached -/
theorem sa_reach (hJ : nw_J n fr to sl fa pr) (h : sa_I n fr to sl fa pr i f wl wa) (hb : nw_bf n fr to sl fa pr f s T) (hi : 0 < i) : s.1 5 = true := by
  obtain ⟨_, _, _, RR, π, _, _, _, _, g, _⟩ := h
  rcases g with g | g
  · omega
  · exact nw_reach hJ (nw_bfV hb) g.1 5 5 (by omega) (by omega) g.2
/-- a search from the state of the loop is sound -/
theorem sa_bf (hJ : nw_J n fr to sl fa pr) (h : sa_I n fr to sl fa pr i f wl wa) (hn : 0 < n) : ∃ T, nw_bf n fr to sl fa pr f (bf_run (nw_src fr to) (nw_dst fr to) (nw_len sl fa) (nw_rs pr f) (4 * n) (6 * (4 * n))) T := by
  obtain ⟨_, _, _, RR, π, hV, _⟩ := h
  exact bf_main (RR := RR) (π := π) (by omega) (fun k hk => nw_src_lt hJ hk) (fun k hk => nw_dst_lt hJ hk) hV.1 hV.2.1 hV.2.2
theorem sa_sum_up {g : Nat → Int} {i : Nat} {x : Int} : nw_sum (bf_up g i x) (i + 1) = nw_sum g i + x := by
  rw [nw_sum_s, bf_us, nw_sum_c (h := g) (fun l hl => bf_un (by omega))]
theorem sa_go (hJ : nw_J n fr to sl fa pr) (hn : 0 < n) (h : sa_I n fr to sl fa pr i f wl wa) (hs : s = bf_run (nw_src fr to) (nw_dst fr to) (nw_len sl fa) (nw_rs pr f) (4 * n) (6 * (4 * n))) (hb : nw_bf n fr to sl fa pr f s T) (h5 : s.1 5 = true) {q : Nat} (hw : wy_ok n fr to sl fa pr f s T q) :
    (wy_w fr to s.2.2 pr f q < 1000000 → sa_I n fr to sl fa pr (i + 1) (wy_f fr to s.2.2 f (wy_w fr to s.2.2 pr f q) q) (bf_up wl i (s.2.1 5)) (bf_up wa i (wy_w fr to s.2.2 pr f q))) ∧
    (1000000 ≤ wy_w fr to s.2.2 pr f q → sa_W (i + 1) (bf_up wl i (s.2.1 5)) (bf_up wa i (wy_w fr to s.2.2 pr f q))) := by
  have hi := sa_lt h
  obtain ⟨hF, hM, hA, RR, π, hV, h45, hl1, hl2, hR, hm⟩ := h
  have w1 := wy_w_pos hF hw (Nat.le_refl q)
  have hle : ∀ v, s.1 v = true → RR v ∧ s.2.1 v ≤ π v := by
    rw [hs]
    exact bf_le (by omega) hV.1 hV.2.1 hV.2.2 _
  have hd5 := hle 5 h5
  -- the new reached set
  have hP : nw_P n fr to (fun v => s.1 v = true) := by
    rcases hR with g | g
    · exact nw_P0 g.2 hb
    · intro v hv hr h0
      obtain ⟨j, j1, j2, j3⟩ := g.1 v hv (hle v hr).1 h0
      have g3 := hJ.2 j j1
      exact ⟨j, j1, j2, nw_reach hJ (nw_bfV hb) g.1 _ _ (Nat.le_refl _) (by omega) j3⟩
  have hpos : 0 ≤ s.2.1 5 := nw_pos hJ (nw_bfV hb) hP 5 5 (by omega) (by omega) h5
  -- common: the lists
  have hA' : wy_w fr to s.2.2 pr f q < 1000000 → ∀ k, k < i + 1 → 1 ≤ bf_up wa i (wy_w fr to s.2.2 pr f q) k ∧ bf_up wa i (wy_w fr to s.2.2 pr f q) k < 1000000 := by
    intro hα k hk
    by_cases c : k = i
    · rw [c, bf_us]; exact ⟨w1, hα⟩
    · rw [bf_un c]; exact hA k (by omega)
  have hl1' : ∀ k, k < i + 1 → s.2.1 5 ≤ bf_up wl i (s.2.1 5) k ∧ bf_up wl i (s.2.1 5) k ≤ 45 := by
    intro k hk
    by_cases c : k = i
    · rw [c, bf_us]; exact ⟨Int.le_refl _, by omega⟩
    · rw [bf_un c]
      have := hl1 k (by omega)
      omega
  have hl2' : ∀ k k', k ≤ k' → k' < i + 1 → bf_up wl i (s.2.1 5) k' ≤ bf_up wl i (s.2.1 5) k := by
    intro k k' hk hk'
    by_cases c : k' = i
    · rw [c, bf_us]; exact (hl1' k (by omega)).1
    · rw [bf_un c, bf_un (by omega)]
      exact hl2 k k' hk (by omega)
  have hM' : ∀ l, l < 2 * n → wy_f fr to s.2.2 f (wy_w fr to s.2.2 pr f q) q l ≤ 1000000 * ((i + 1 : Nat) : Int) := by
    intro l hl
    have a := wy_f_max hF hw l
    have b := hM l hl
    omega
  have hF' := wy_feas hF hw
  have V1 : nw_V n fr to sl fa pr (wy_f fr to s.2.2 f (wy_w fr to s.2.2 pr f q) q) (fun v => s.1 v = true) s.2.1 := by
    refine wy_pot hw _ (nw_bfV hb) (fun i' hi' => ?_)
    have a := hw.2.2.2 i' hi'
    refine ⟨a.2.2.1, ?_, a.2.2.2.2.2.2.2.1⟩
    by_cases c : i' + 1 = q
    · rw [c, hw.2.2.1]; exact hb.1.1
    · exact (hw.2.2.2 (i' + 1) (by omega)).2.2.1
  -- the finished table
  have fin : ∀ i0, i0 ≤ i → (∀ k, i0 ≤ k → k < i → wl k = s.2.1 5) → nw_sum wa i0 ≤ 140 → 1000000 ≤ wy_w fr to s.2.2 pr f q → sa_W (i + 1) (bf_up wl i (s.2.1 5)) (bf_up wa i (wy_w fr to s.2.2 pr f q)) := by
    intro i0 h1 h2 h3 h4
    refine ⟨by omega, Or.inr ⟨fun k hk => ⟨by have := (hl1' k hk).1; omega, (hl1' k hk).2⟩, hl2', ?_, fun k hk => ?_, i0, by omega, fun k hk hk' => ?_, ?_⟩⟩
    · rw [show i + 1 - 1 = i by omega, bf_us]
      have := (wy_w_le hw (Nat.le_refl q)).1
      omega
    · rw [bf_un (by omega)]; exact hA k (by omega)
    · rw [show i + 1 - 1 = i by omega, bf_us]
      by_cases c : k = i
      · rw [c, bf_us]
      · rw [bf_un c]; exact h2 k hk (by omega)
    · rw [nw_sum_c (h := wa) (fun l hl => bf_un (by omega))]; exact h3
  rcases hm with ⟨F, c1, c2, c3, c4, c5⟩ | ⟨⟨t0, t0'⟩, t1, ⟨Th, t2, t3⟩, i0, t4, t5, t6⟩
  · -- no tie yet
    by_cases ht : ct_R n fr to fa s.2.1 5
    · refine ⟨fun hα => ?_, fin i (Nat.le_refl _) (fun k _ _ => by omega) (by omega)⟩
      have z := (tp_0 n fr to pr f (fun _ => 0)).2
      obtain ⟨Th', g1, g2⟩ := tp_step (Th := fun _ => 0) hJ hF (nw_bfV hb) hb (fun v hv => ⟨hv, Int.le_refl _⟩) ht hw ⟨rfl, fun t _ _ _ _ => Nat.zero_le _⟩ hα
      refine ⟨hF', hM', hA' hα, _, _, V1, by omega, hl1', hl2', Or.inr ⟨hP, h5⟩, Or.inr ⟨⟨hP, h5⟩, ht, ⟨Th', g1, by omega⟩, i, by omega, fun k hk hk' => ?_, ?_⟩⟩
      · rw [show k = i by omega, bf_us]
      · rw [nw_sum_c (h := wa) (fun l hl => bf_un (by omega))]; omega
    · have C' : ct_C n fr to (wy_f fr to s.2.2 f (wy_w fr to s.2.2 pr f q) q) (F + wy_w fr to s.2.2 pr f q) := by
        intro c e0 e5
        rw [wy_f_cut hw c (Nat.le_refl q), c1 c e0 e5, hw.2.2.1, e0, e5]
        omega
      have bd := ct_bound hJ hF' C' V1 ht
      refine ⟨fun hα => ?_, fun hα => by omega⟩
      exact ⟨hF', hM', hA' hα, _, _, V1, by omega, hl1', hl2', Or.inr ⟨hP, h5⟩, Or.inl ⟨_, C', bd.1, by omega, by rw [sa_sum_up, c4], bd.2⟩⟩
  · -- ties
    have A := tp_way hV hb hle t1 hw 0 (by omega)
    have e5 : s.2.1 5 = π 5 := A.2
    refine ⟨fun hα => ?_, fin i0 t4 (fun k hk hk' => by rw [t5 k hk hk', e5]) t6⟩
    obtain ⟨Th', g1, g2⟩ := tp_step hJ hF hV hb hle t1 hw t2 hα
    refine ⟨hF', hM', hA' hα, RR, π, tp_V' hV hb hle t1 hw _, h45, ?_, hl2', Or.inr ⟨t0, t0'⟩, Or.inr ⟨⟨t0, t0'⟩, t1, ⟨Th', g1, by omega⟩, i0, by omega, fun k hk hk' => ?_, ?_⟩⟩
    · rw [← e5]; exact hl1'
    · by_cases c : k = i
      · rw [c, bf_us, e5]
      · rw [bf_un c]; exact t5 k hk (by omega)
    · rw [nw_sum_c (h := wa) (fun l hl => bf_un (by omega))]; exact t6
end
end
section
/-! Int32 of ints -/
def zi (x : Int) : Int32 := Int32.ofInt x
def zi_r (x : Int) : Prop := -2147483648 ≤ x ∧ x < 2147483648
theorem zi_T {x : Int} (h : zi_r x) : (zi x).toInt = x := Int32.toInt_ofInt_of_le h.1 h.2
theorem zi_lt {x y : Int} (hx : zi_r x) (hy : zi_r y) : zi x < zi y ↔ x < y := by rw [Int32.lt_iff_toInt_lt, zi_T hx, zi_T hy]
theorem zi_le {x y : Int} (hx : zi_r x) (hy : zi_r y) : zi x ≤ zi y ↔ x ≤ y := by rw [Int32.le_iff_toInt_le, zi_T hx, zi_T hy]
theorem zi_eq {x y : Int} (hx : zi_r x) (hy : zi_r y) : zi x = zi y ↔ x = y := by rw [← Int32.toInt_inj, zi_T hx, zi_T hy]
theorem zi_add (x y : Int) : zi x + zi y = zi (x + y) := (Int32.ofInt_add x y).symm
theorem zi_sub (x y : Int) : zi x - zi y = zi (x - y) := (Int32.ofInt_sub x y).symm
theorem zi_neg (x : Int) : -zi x = zi (-x) := (Int32.ofInt_neg x).symm
theorem zi_mul (x y : Int) : zi x * zi y = zi (x * y) := (Int32.ofInt_mul x y).symm
theorem zi_n (n : Nat) : nI n = zi n := (Int32.ofInt_eq_ofNat (n := n)).symm
theorem zi_0 : (0 : Int32) = zi 0 := rfl
theorem zi_1 : (1 : Int32) = zi 1 := rfl
theorem zi_M : (1000000 : Int32) = zi 1000000 := rfl
theorem zi_and1 {l : Nat} (h : l < 2 ^ 31) : nI l &&& 1 = nI (l % 2) := pk_andN (m := 1) (by omega) 1 (by decide)
theorem zi_div2 {l : Nat} (h : l < 2 ^ 31) : nI l / 2 = nI (l / 2) := pk_div (d := 2) h (by omega) (by omega)
/-! what the arrays hold -/
def wk_J (n : Nat) (fr to : Nat → Nat) (sl fa pr : Nat → Int) (a1 a2 a3 a4 a5 : Nat → Int32) : Prop :=
  ∀ j, j < n → a1 j = nI (fr j) ∧ a2 j = nI (to j) ∧ a3 j = zi (sl j) ∧ a4 j = zi (fa j) ∧ a5 j = zi (pr j)
def wk_F (n : Nat) (f : Nat → Int) (a6 : Nat → Int32) : Prop := ∀ l, l < 2 * n → a6 l = zi (f l)
def wk_co (k : Nat) : Int32 := if k % 2 = 0 then nI (k / 2) else nI (k / 2 + 28)
def wk_b (b : Bool) : Int32 := if b = true then 1 else 0
def wk_L (s : bf_S) (a7 a8 a9 : Nat → Int32) : Prop := ∀ v, v < 6 → a7 v = zi (s.2.1 v) ∧ a8 v = wk_b (s.1 v) ∧ (s.1 v = true → v ≠ 0 → a9 v = wk_co (s.2.2 v))
theorem wk_b0 {b : Bool} : wk_b b = 0 ↔ ¬ b = true := by
  cases b
  · exact ⟨fun _ z => (by cases z), fun _ => rfl⟩
  · exact ⟨fun z => absurd z (by decide), fun z => absurd rfl z⟩
section
variable {n : Nat} {fr to : Nat → Nat} {sl fa pr f : Nat → Int} {fj fk fw : Int32} {a1 a2 a3 a4 a5 a6 a7 a8 a9 a10 a11 : Nat → Int32}
theorem wk_len {post : Int32 → Prop} (hJ : nw_J n fr to sl fa pr) (hj : wk_J n fr to sl fa pr a1 a2 a3 a4 a5) {l : Nat} (hl : l < 2 * n) (hp : post (zi (nw_ln sl fa l))) :
    wpX_lengthOf post (fj, fk, fw, a1, a2, a3, a4, a5, a6, a7, a8, a9, a10, a11) (nI l) := by
  have hn := hJ.1
  have g := hj (l / 2) (by omega)
  unfold wpX_lengthOf
  dsimp only
  rw [zi_and1 (by omega), zi_div2 (by omega), nI_clamp (by omega), g.2.2.1, g.2.2.2.1]
  unfold nw_ln at hp
  refine pk_eq (l % 2) 0 (fun h => ⟨by decide, pk_in (l / 2) 7 (by omega), ?_⟩) (fun h => ⟨by decide, pk_in (l / 2) 7 (by omega), ?_⟩)
  · rw [if_pos h] at hp; exact hp
  · rw [if_neg h] at hp; exact hp
theorem wk_room {post : Int32 → Prop} (hJ : nw_J n fr to sl fa pr) (hj : wk_J n fr to sl fa pr a1 a2 a3 a4 a5) (hf : wk_F n f a6) {k : Nat} (hk : k < 4 * n) (hp : post (zi (nw_room pr f k))) :
    wpX_roomOf post (fj, fk, fw, a1, a2, a3, a4, a5, a6, a7, a8, a9, a10, a11) (nI (k / 2)) (nI (k % 2)) := by
  have hn := hJ.1
  have g := hj (k / 4) (by omega)
  unfold wpX_roomOf
  dsimp only
  rw [zi_and1 (by omega), zi_div2 (by omega), nI_clamp (by omega), nI_clamp (by omega), show k / 2 / 2 = k / 4 by omega, g.2.2.2.2, hf (k / 2) (by omega)]
  unfold nw_room at hp
  refine pk_eq (k % 2) 0 (fun h => ?_) (fun h => ?_)
  · rw [if_pos h] at hp
    refine pk_eq (k / 2 % 2) 0 (fun h2 => ⟨by decide, pk_in (k / 4) 7 (by omega), pk_in (k / 2) 14 (by omega), ?_⟩) (fun h2 => ?_)
    · rw [if_pos h2] at hp
      rw [zi_sub]; exact hp
    · rw [if_neg h2] at hp; exact hp
  · rw [if_neg h] at hp
    exact ⟨pk_in (k / 2) 14 (by omega), hp⟩
theorem wk_L_up {s : bf_S} (h : wk_L s a7 a8 a9) {b k : Nat} {x : Int} : wk_L (bf_up s.1 b true, bf_up s.2.1 b x, bf_up s.2.2 b k) (upd a7 b (zi x)) (upd a8 b 1) (upd a9 b (wk_co k)) := by
  intro v hv
  have g := h v hv
  dsimp only
  by_cases e : v = b
  · rw [e, bf_us, bf_us, bf_us, pk_us, pk_us, pk_us]
    exact ⟨rfl, rfl, fun _ _ => rfl⟩
  · rw [bf_un e, bf_un e, bf_un e, pk_un e, pk_un e, pk_un e]
    exact g
abbrev wk_bd (s : bf_S) : Prop := ∀ v, -100000 ≤ s.2.1 v ∧ s.2.1 v ≤ 100000
abbrev wk_cd (n : Nat) (fr to : Nat → Nat) (sl fa pr f : Nat → Int) (k : Nat) (s : bf_S) : Prop := bf_c (nw_src fr to) (nw_dst fr to) (nw_len sl fa) (nw_rs pr f) k s
abbrev wk_x (fr to : Nat → Nat) (sl fa pr f : Nat → Int) (k : Nat) (s : bf_S) : bf_S := bf_x (nw_src fr to) (nw_dst fr to) (nw_len sl fa) (nw_rs pr f) k s
theorem wk_123 {post : Int32 → St1 → Prop} (hJ : nw_J n fr to sl fa pr) {s : bf_S} (hL : wk_L s a7 a8 a9) {k : Nat} (hk : k < 4 * n) {x5 : Int32} (hx : x5 = zi (s.2.1 (nw_src fr to k) + nw_len sl fa k)) (hc : wk_cd n fr to sl fa pr f k s)
    (hp : ∀ b7 b8 b9, wk_L (wk_x fr to sl fa pr f k s) b7 b8 b9 → post 1 (fj, fk, fw, a1, a2, a3, a4, a5, a6, b7, b8, b9, a10, a11)) :
    wX_stretch_123 post (nI (k / 2)) (nI (k % 2)) (nI (nw_dst fr to k)) x5 fj fk fw a1 a2 a3 a4 a5 a6 a7 a8 a9 a10 a11 := by
  have hn := hJ.1
  have d := nw_dst_lt hJ hk
  have u := wk_L_up hL (b := nw_dst fr to k) (k := k) (x := s.2.1 (nw_src fr to k) + nw_len sl fa k)
  rw [← bf_x_t hc] at u
  unfold wX_stretch_123
  rw [nI_clamp (by omega), hx]
  unfold wk_co at u
  refine ⟨pk_in _ 6 d, nm_e ⟨pk_in _ 6 d, nm_e (pk_eq (k % 2) 0 (fun h => ⟨pk_in _ 6 d, nm_e ?_⟩) (fun h => ⟨pk_in _ 6 d, nm_e ?_⟩))⟩⟩
  · rw [if_pos h] at u
    exact hp _ _ _ u
  · rw [if_neg h, ← nI_add] at u
    exact hp _ _ _ u
theorem wk_73 {post : Int32 → St1 → Prop} (hJ : nw_J n fr to sl fa pr) (hj : wk_J n fr to sl fa pr a1 a2 a3 a4 a5) (hf : wk_F n f a6) (hr : ∀ k, k < 4 * n → zi_r (nw_room pr f k)) {s : bf_S} (hL : wk_L s a7 a8 a9) (hB : wk_bd s) {k : Nat} (hk : k < 4 * n)
    (hp0 : ¬ wk_cd n fr to sl fa pr f k s → post 0 (fj, fk, fw, a1, a2, a3, a4, a5, a6, a7, a8, a9, a10, a11))
    (hp : wk_cd n fr to sl fa pr f k s → ∀ b7 b8 b9, wk_L (wk_x fr to sl fa pr f k s) b7 b8 b9 → post 1 (fj, fk, fw, a1, a2, a3, a4, a5, a6, b7, b8, b9, a10, a11)) :
    wX_stretch_73 post (nI (k / 2)) (nI (k % 2)) (nI (nw_src fr to k)) (nI (nw_dst fr to k)) (zi (nw_len sl fa k)) (a7 (nw_src fr to k)) fj fk fw a1 a2 a3 a4 a5 a6 a7 a8 a9 a10 a11 := by
  have hn := hJ.1
  have d := nw_dst_lt hJ hk
  have c := nw_src_lt hJ hk
  have l9 := nw_len_b hJ hk
  have g := hL _ c
  have g' := hL _ d
  have b1 := hB (nw_src fr to k)
  have b2 := hB (nw_dst fr to k)
  unfold wX_stretch_73
  rw [nI_clamp (by omega), nI_clamp (by omega)]
  refine nm_r (show a7 (nw_src fr to k) + zi (nw_len sl fa k) = zi (s.2.1 (nw_src fr to k) + nw_len sl fa k) by rw [g.1, zi_add]) ⟨pk_in _ 6 c, ?_⟩
  refine ek_if (d := ¬ s.1 (nw_src fr to k) = true) (by rw [g.2.1]; exact wk_b0) (fun h => hp0 (fun z => h z.1)) (fun h => ?_)
  have h1 : s.1 (nw_src fr to k) = true := Classical.byContradiction h
  refine wk_room hJ hj hf hk ?_
  refine ek_if (d := nw_room pr f k = 0) (by rw [zi_0]; exact zi_eq (hr k hk) (by unfold zi_r; omega)) (fun h2 => hp0 (fun z => nw_rs_r z.2.1 h2)) (fun h2 => ?_)
  refine pk_eq (nw_dst fr to k) 0 (fun h3 => hp0 (fun z => z.2.2.1 h3)) (fun h3 => ⟨pk_in _ 6 d, ?_⟩) rfl rfl (by omega)
  refine ek_if (d := ¬ s.1 (nw_dst fr to k) = true) (by rw [g'.2.1]; exact wk_b0) (fun h4 => ?_) (fun h4 => ⟨pk_in _ 6 d, ?_⟩)
  · have h5 : s.1 (nw_dst fr to k) = false := by
      cases z : s.1 (nw_dst fr to k)
      · rfl
      · exact absurd z h4
    have hc : wk_cd n fr to sl fa pr f k s := ⟨h1, nw_rs_t h2, h3, Or.inl h5⟩
    exact wk_123 hJ hL hk rfl hc (hp hc)
  · refine ek_if (d := s.2.1 (nw_dst fr to k) < s.2.1 (nw_src fr to k) + nw_len sl fa k) (by rw [g'.1]; exact zi_lt (by unfold zi_r; omega) (by unfold zi_r; omega)) (fun h5 => ?_) (fun h5 => hp0 (fun z => ?_))
    · have hc : wk_cd n fr to sl fa pr f k s := ⟨h1, nw_rs_t h2, h3, Or.inr h5⟩
      exact wk_123 hJ hL hk rfl hc (hp hc)
    · rcases z.2.2.2 with w | w
      · exact h4 (by rw [w]; decide)
      · exact h5 w
theorem wk_stretch {post : Int32 → St1 → Prop} (hJ : nw_J n fr to sl fa pr) (hj : wk_J n fr to sl fa pr a1 a2 a3 a4 a5) (hf : wk_F n f a6) (hr : ∀ k, k < 4 * n → zi_r (nw_room pr f k)) {s : bf_S} (hL : wk_L s a7 a8 a9) (hB : wk_bd s) {k : Nat} (hk : k < 4 * n)
    (hp0 : ¬ wk_cd n fr to sl fa pr f k s → post 0 (fj, fk, fw, a1, a2, a3, a4, a5, a6, a7, a8, a9, a10, a11))
    (hp : wk_cd n fr to sl fa pr f k s → ∀ b7 b8 b9, wk_L (wk_x fr to sl fa pr f k s) b7 b8 b9 → post 1 (fj, fk, fw, a1, a2, a3, a4, a5, a6, b7, b8, b9, a10, a11)) :
    wpX_stretch post (fj, fk, fw, a1, a2, a3, a4, a5, a6, a7, a8, a9, a10, a11) (nI (k / 2)) (nI (k % 2)) := by
  have hn := hJ.1
  have m := wk_73 (fj := fj) (fk := fk) (fw := fw) (a10 := a10) (a11 := a11) (post := post) hJ hj hf hr hL hB hk hp0 hp
  have g := hj (k / 4) (by omega)
  have q := hJ.2 (k / 4) (by omega)
  have c := nw_src_lt hJ hk
  unfold wpX_stretch
  dsimp only
  rw [zi_div2 (by omega), nI_clamp (by omega), show k / 2 / 2 = k / 4 by omega, g.1, g.2.1]
  unfold nw_src nw_dst nw_len at m
  unfold nw_src at c
  refine pk_eq (k % 2) 0 (fun h => ⟨by decide, pk_in (k / 4) 7 (by omega), ?_⟩) (fun h => ⟨by decide, pk_in (k / 4) 7 (by omega), ?_⟩)
  · rw [if_pos h, if_pos h, if_pos h] at m
    rw [if_pos h] at c
    unfold wX_stretch_23
    rw [zi_div2 (by omega), nI_clamp (by omega), show k / 2 / 2 = k / 4 by omega, g.1, g.2.1]
    refine br_t (by rw [h]; rfl) ⟨by decide, pk_in (k / 4) 7 (by omega), ?_⟩
    unfold wX_stretch_47
    rw [nI_clamp (by omega)]
    exact ⟨pk_in _ 6 c, br_t (by rw [h]; rfl) (wk_len hJ hj (by omega) m)⟩
  · have h' : ¬ nI (k % 2) = 0 := nI_ne0 (by omega) (by omega)
    rw [if_neg h, if_neg h, if_neg h] at m
    rw [if_neg h] at c
    unfold wX_stretch_23
    rw [zi_div2 (by omega), nI_clamp (by omega), show k / 2 / 2 = k / 4 by omega, g.1, g.2.1]
    refine br_f h' ⟨by decide, pk_in (k / 4) 7 (by omega), ?_⟩
    unfold wX_stretch_47
    rw [nI_clamp (by omega)]
    refine ⟨pk_in _ 6 c, br_f h' (wk_len hJ hj (by omega) ?_)⟩
    rw [zi_neg]
    exact m
theorem wk_stretch' {post : Int32 → St1 → Prop} (hJ : nw_J n fr to sl fa pr) (hj : wk_J n fr to sl fa pr a1 a2 a3 a4 a5) (hf : wk_F n f a6) (hr : ∀ k, k < 4 * n → zi_r (nw_room pr f k)) {s : bf_S} (hL : wk_L s a7 a8 a9) (hB : wk_bd s) (k : Nat) (hk : k < 4 * n) {x y : Int32} (hx : x = nI (k / 2)) (hy : y = nI (k % 2))
    (hp0 : ¬ wk_cd n fr to sl fa pr f k s → post 0 (fj, fk, fw, a1, a2, a3, a4, a5, a6, a7, a8, a9, a10, a11))
    (hp : wk_cd n fr to sl fa pr f k s → ∀ b7 b8 b9, wk_L (wk_x fr to sl fa pr f k s) b7 b8 b9 → post 1 (fj, fk, fw, a1, a2, a3, a4, a5, a6, b7, b8, b9, a10, a11)) :
    wpX_stretch post (fj, fk, fw, a1, a2, a3, a4, a5, a6, a7, a8, a9, a10, a11) x y := by
  rw [hx, hy]
  exact wk_stretch hJ hj hf hr hL hB hk hp0 hp
end
end
section
/-! findLongest -/
abbrev fl_R (n : Nat) (fr to : Nat → Nat) (sl fa pr f : Nat → Int) (t : Nat) : bf_S := bf_run (nw_src fr to) (nw_dst fr to) (nw_len sl fa) (nw_rs pr f) (4 * n) t
theorem fl_mod {n r k : Nat} (h : k < 4 * n) : (r * (4 * n) + k) % (4 * n) = k := by
  rw [Nat.mul_comm, Nat.mul_add_mod, Nat.mod_eq_of_lt h]
theorem fl_bd {n : Nat} {fr to : Nat → Nat} {sl fa pr f : Nat → Int} (hJ : nw_J n fr to sl fa pr) (hn : 0 < n) {t : Nat} (ht : t ≤ 10000) : wk_bd (fl_R n fr to sl fa pr f t) := by
  intro v
  have a := bf_bd (src := nw_src fr to) (dst := nw_dst fr to) (len := nw_len sl fa) (rs := nw_rs pr f) (P := 4 * n) (fun k hk => nw_len_b hJ hk) (by omega) t v
  unfold fl_R
  omega
theorem fl_s {n : Nat} {fr to : Nat → Nat} {sl fa pr f : Nat → Int} {r k : Nat} (h : k < 4 * n) : fl_R n fr to sl fa pr f (r * (4 * n) + (k + 1)) = wk_x fr to sl fa pr f k (fl_R n fr to sl fa pr f (r * (4 * n) + k)) := by
  show fl_R n fr to sl fa pr f (r * (4 * n) + k + 1) = _
  unfold fl_R
  rw [bf_run_s, fl_mod h]
section
variable {n : Nat} {fr to : Nat → Nat} {sl fa pr f : Nat → Int} {fj fk fw : Int32} {a1 a2 a3 a4 a5 a6 a7 a8 a9 a10 a11 : Nat → Int32}
theorem wk_89 {post : St1 → Prop} {J47 J61 : Int32 → Int32 → Int32 → Int32 → Int32 → (Nat → Int32) → (Nat → Int32) → (Nat → Int32) → (Nat → Int32) → (Nat → Int32) → (Nat → Int32) → (Nat → Int32) → (Nat → Int32) → (Nat → Int32) → (Nat → Int32) → (Nat → Int32) → Prop}
    (hJ : nw_J n fr to sl fa pr) (hj : wk_J n fr to sl fa pr a1 a2 a3 a4 a5) (hf : wk_F n f a6) (hr : ∀ k, k < 4 * n → zi_r (nw_room pr f k)) {s : bf_S} (hL : wk_L s a7 a8 a9) (hB : wk_bd s) {l : Nat} (hl : l < 2 * n) {x2 z0 : Int32}
    (H : ∀ x1 b7 b8 b9, wk_L (wk_x fr to sl fa pr f (2 * l + 1) s) b7 b8 b9 → (x1 = 0 → z0 = 0 ∧ ¬ wk_cd n fr to sl fa pr f (2 * l + 1) s) → J61 x1 (nI (l + 1)) fj fk fw a1 a2 a3 a4 a5 a6 b7 b8 b9 a10 a11) :
    wX_findLongest_89 post J47 J61 x2 (nI l) z0 fj fk fw a1 a2 a3 a4 a5 a6 a7 a8 a9 a10 a11 := by
  unfold wX_findLongest_89
  refine wk_stretch' hJ hj hf hr hL hB (2 * l + 1) (by omega) (by rw [show (2 * l + 1) / 2 = l by omega]) (by rw [show (2 * l + 1) % 2 = 1 by omega]; rfl) (fun hc => ?_) (fun hc b7 b8 b9 hb => ?_)
  · exact br_t rfl (br_c (fun hz => nm_r (nI_1 l) (H _ _ _ _ (by unfold wk_x; rw [bf_x_f hc]; exact hL) (fun _ => ⟨hz, hc⟩))) (fun hz => nm_r (nI_1 l) (H _ _ _ _ (by unfold wk_x; rw [bf_x_f hc]; exact hL) (fun z => absurd z (by decide)))))
  · exact br_f (by decide) (nm_r (nI_1 l) (H _ _ _ _ hb (fun z => absurd z (by decide))))
theorem wk_61 {post : St1 → Prop} {J47 : Int32 → Int32 → Int32 → Int32 → Int32 → (Nat → Int32) → (Nat → Int32) → (Nat → Int32) → (Nat → Int32) → (Nat → Int32) → (Nat → Int32) → (Nat → Int32) → (Nat → Int32) → (Nat → Int32) → (Nat → Int32) → (Nat → Int32) → Prop}
    (hJ : nw_J n fr to sl fa pr) (hj : wk_J n fr to sl fa pr a1 a2 a3 a4 a5) (hf : wk_F n f a6) (hr : ∀ k, k < 4 * n → zi_r (nw_room pr f k)) {r : Nat} (hr6 : r < 6) (hL : wk_L (fl_R n fr to sl fa pr f (r * (4 * n))) a7 a8 a9)
    (H : ∀ x1 b7 b8 b9, wk_L (fl_R n fr to sl fa pr f ((r + 1) * (4 * n))) b7 b8 b9 → (x1 = 0 → ∀ k, k < 4 * n → ¬ wk_cd n fr to sl fa pr f k (fl_R n fr to sl fa pr f ((r + 1) * (4 * n)))) → J47 x1 (nI (r + 1)) (nI n) fk fw a1 a2 a3 a4 a5 a6 b7 b8 b9 a10 a11) :
    ∃ fu, wX_findLongest_61 post J47 (nI r) fu 0 0 (nI n) fk fw a1 a2 a3 a4 a5 a6 a7 a8 a9 a10 a11 := by
  have hn := hJ.1
  refine pk_loop (σ := Int32 × (Nat → Int32) × (Nat → Int32) × (Nat → Int32)) (fun m l s => wX_findLongest_61 post J47 (nI r) m s.1 (nI l) (nI n) fk fw a1 a2 a3 a4 a5 a6 s.2.1 s.2.2.1 s.2.2.2 a10 a11)
    (fun l s => wk_L (fl_R n fr to sl fa pr f (r * (4 * n) + 2 * l)) s.2.1 s.2.2.1 s.2.2.2 ∧ (s.1 = 0 → fl_R n fr to sl fa pr f (r * (4 * n) + 2 * l) = fl_R n fr to sl fa pr f (r * (4 * n)) ∧ ∀ k, k < 2 * l → ¬ wk_cd n fr to sl fa pr f k (fl_R n fr to sl fa pr f (r * (4 * n)))))
    (2 * n) 0 (0, a7, a8, a9) (by omega) ⟨hL, fun _ => ⟨rfl, fun k hk => absurd hk (by omega)⟩⟩ ?_ ?_
  · intro m s ⟨h1, h2⟩
    have e : r * (4 * n) + 2 * (2 * n) = (r + 1) * (4 * n) := by rw [Nat.add_mul]; omega
    rw [e] at h1 h2
    refine pk_le (2 * n) (2 * n) (fun _ => nm_r (nI_1 r) (H _ _ _ _ h1 (fun hz k hk => ?_))) (fun z => absurd z (by omega)) (pk_mul 2 n) rfl (by omega) (by omega)
    have a := h2 hz
    rw [a.1]
    exact a.2 k (by omega)
  · intro m l s hl ⟨h1, h2⟩ hw
    have hn0 : 0 < n := by omega
    have hr5 : r * (4 * n) ≤ 5 * (4 * n) := Nat.mul_le_mul_right _ (by omega)
    have B0 := fl_bd (n := n) (fr := fr) (to := to) (sl := sl) (fa := fa) (pr := pr) (f := f) hJ hn0 (t := r * (4 * n) + 2 * l) (by omega)
    have B1 := fl_bd (n := n) (fr := fr) (to := to) (sl := sl) (fa := fa) (pr := pr) (f := f) hJ hn0 (t := r * (4 * n) + (2 * l + 1)) (by omega)
    have e1 : 2 * l / 2 = l := by omega
    have e2 : 2 * l % 2 = 0 := by omega
    have s1 : fl_R n fr to sl fa pr f (r * (4 * n) + (2 * l + 1)) = wk_x fr to sl fa pr f (2 * l) (fl_R n fr to sl fa pr f (r * (4 * n) + 2 * l)) := fl_s (by omega)
    have s2 : fl_R n fr to sl fa pr f (r * (4 * n) + 2 * (l + 1)) = wk_x fr to sl fa pr f (2 * l + 1) (fl_R n fr to sl fa pr f (r * (4 * n) + (2 * l + 1))) := fl_s (k := 2 * l + 1) (by omega)
    -- the second stretch
    have S2 : ∀ z0 b7 b8 b9, wk_L (fl_R n fr to sl fa pr f (r * (4 * n) + (2 * l + 1))) b7 b8 b9 → (z0 = 0 → s.1 = 0 ∧ ¬ wk_cd n fr to sl fa pr f (2 * l) (fl_R n fr to sl fa pr f (r * (4 * n) + 2 * l))) →
        wX_findLongest_89 post J47 (wX_findLongest_61 post J47 (nI r) m) (nI r) (nI l) z0 (nI n) fk fw a1 a2 a3 a4 a5 a6 b7 b8 b9 a10 a11 := by
      intro z0 b7 b8 b9 hb hz
      refine wk_89 hJ hj hf hr hb B1 hl (fun x1 c7 c8 c9 hc hx => ?_)
      rw [← s2] at hc
      refine hw (x1, c7, c8, c9) ⟨hc, fun h0 => ?_⟩
      obtain ⟨y1, y2⟩ := hx h0
      obtain ⟨y3, y4⟩ := hz y1
      obtain ⟨y5, y6⟩ := h2 y3
      have t1 : fl_R n fr to sl fa pr f (r * (4 * n) + (2 * l + 1)) = fl_R n fr to sl fa pr f (r * (4 * n)) := by rw [s1]; unfold wk_x; rw [bf_x_f y4, y5]
      have t2 : fl_R n fr to sl fa pr f (r * (4 * n) + 2 * (l + 1)) = fl_R n fr to sl fa pr f (r * (4 * n)) := by rw [s2]; unfold wk_x; rw [bf_x_f y2, t1]
      refine ⟨t2, fun k hk => ?_⟩
      by_cases k1 : k = 2 * l + 1
      · rw [k1, ← t1]; exact y2
      · by_cases k2 : k = 2 * l
        · rw [k2, ← y5]; exact y4
        · exact y6 k (by omega)
    refine pk_le (2 * n) l (fun z => absurd z (by omega)) (fun _ => ?_) (pk_mul 2 n) rfl (by omega) (by omega)
    refine wk_stretch' hJ hj hf hr h1 B0 (2 * l) (by omega) (by rw [e1]) (by rw [e2]; rfl) (fun hc => ?_) (fun hc b7 b8 b9 hb => ?_)
    · exact br_t rfl (br_c (fun hz => S2 _ _ _ _ (by rw [s1]; unfold wk_x; rw [bf_x_f hc]; exact h1) (fun _ => ⟨hz, hc⟩)) (fun hz => S2 _ _ _ _ (by rw [s1]; unfold wk_x; rw [bf_x_f hc]; exact h1) (fun z => absurd z (by decide))))
    · exact br_f (by decide) (S2 _ _ _ _ (by rw [s1]; exact hb) (fun z => absurd z (by decide)))
theorem wk_47 {post : St1 → Prop} (hJ : nw_J n fr to sl fa pr) (hj : wk_J n fr to sl fa pr a1 a2 a3 a4 a5) (hf : wk_F n f a6) (hr : ∀ k, k < 4 * n → zi_r (nw_room pr f k)) (hL : wk_L bf_0 a7 a8 a9)
    (H : ∀ b7 b8 b9, wk_L (fl_R n fr to sl fa pr f (6 * (4 * n))) b7 b8 b9 → post (nI n, fk, fw, a1, a2, a3, a4, a5, a6, b7, b8, b9, a10, a11)) :
    ∃ fu, wX_findLongest_47 post fu 1 0 (nI n) fk fw a1 a2 a3 a4 a5 a6 a7 a8 a9 a10 a11 := by
  refine pk_loop (σ := Int32 × (Nat → Int32) × (Nat → Int32) × (Nat → Int32)) (fun m r s => wX_findLongest_47 post m s.1 (nI r) (nI n) fk fw a1 a2 a3 a4 a5 a6 s.2.1 s.2.2.1 s.2.2.2 a10 a11)
    (fun r s => wk_L (fl_R n fr to sl fa pr f (r * (4 * n))) s.2.1 s.2.2.1 s.2.2.2 ∧ (s.1 = 0 → ∀ k, k < 4 * n → ¬ wk_cd n fr to sl fa pr f k (fl_R n fr to sl fa pr f (r * (4 * n)))))
    6 0 (1, a7, a8, a9) (by omega) ⟨by rw [Nat.zero_mul]; exact hL, fun (z : (1 : Int32) = 0) => absurd z (by decide)⟩ ?_ ?_
  · intro m s ⟨h1, h2⟩
    exact pk_le 6 6 (fun _ => H _ _ _ h1) (fun z => absurd z (by omega))
  · intro m r s hr6 ⟨h1, h2⟩ hw
    refine pk_le 6 r (fun z => absurd z (by omega)) (fun _ => br_c (fun hz => H _ _ _ ?_) (fun hz => wk_61 hJ hj hf hr hr6 h1 (fun x1 b7 b8 b9 hb hx => hw (x1, b7, b8, b9) ⟨hb, hx⟩)))
    have e : fl_R n fr to sl fa pr f (6 * (4 * n)) = fl_R n fr to sl fa pr f (r * (4 * n)) := by
      by_cases c : n = 0
      · have e0 : r * (4 * n) = 6 * (4 * n) := by rw [c]; omega
        rw [e0]
      · exact bf_stab (by omega) (h2 hz) (Nat.mul_le_mul_right _ (by omega))
    rw [e]
    exact h1
theorem wk_find {post : St1 → Prop} (hJ : nw_J n fr to sl fa pr) (hj : wk_J n fr to sl fa pr a1 a2 a3 a4 a5) (hf : wk_F n f a6) (hr : ∀ k, k < 4 * n → zi_r (nw_room pr f k))
    (H : ∀ b7 b8 b9, wk_L (fl_R n fr to sl fa pr f (6 * (4 * n))) b7 b8 b9 → post (nI n, fk, fw, a1, a2, a3, a4, a5, a6, b7, b8, b9, a10, a11)) :
    wpX_findLongest post (nI n, fk, fw, a1, a2, a3, a4, a5, a6, a7, a8, a9, a10, a11) := by
  unfold wpX_findLongest
  dsimp only
  refine pk_loop (σ := (Nat → Int32) × (Nat → Int32) × (Nat → Int32)) (fun m i s => wX_findLongest_2 post (nI n) fk fw m (nI i) a1 a2 a3 a4 a5 a6 s.1 s.2.1 s.2.2 a10 a11)
    (fun i s => ∀ v, v < i → s.1 v = zi 0 ∧ s.2.1 v = wk_b (decide (v = 0))) 6 0 (a7, a8, a9) (by omega) (fun v hv => absurd hv (by omega)) ?_ ?_
  · intro m s h
    refine pk_le 6 6 (fun _ => wk_47 hJ hj hf hr (fun v hv => ⟨(h v hv).1, (h v hv).2, fun z z' => absurd (of_decide_eq_true z) z'⟩) H) (fun z => absurd z (by omega))
  · intro m i s hi h hw
    have K : ∀ z0 : Int32, z0 = wk_b (decide (i = 0)) → wX_findLongest_22 post (wX_findLongest_2 post (nI n) fk fw m) (nI i) z0 (nI i) (nI n) fk fw a1 a2 a3 a4 a5 a6 s.1 s.2.1 s.2.2 a10 a11 := by
      intro z0 hz
      unfold wX_findLongest_22
      rw [nI_clamp (by omega)]
      refine ⟨pk_in i 6 hi, nm_e ⟨pk_in i 6 hi, nm_e ⟨pk_in i 6 hi, nm_e (nm_r (nI_1 i) (hw (upd s.1 i 0, upd s.2.1 i (vp_nar .boolean z0), upd s.2.2 i (-1)) (fun v hv => ?_)))⟩⟩⟩
      dsimp only
      by_cases e : v = i
      · rw [e, pk_us, pk_us, hz]
        refine ⟨rfl, ?_⟩
        cases decide (i = 0) <;> rfl
      · rw [pk_un e, pk_un e]
        exact h v (by omega)
    refine pk_le 6 i (fun z => absurd z (by omega)) (fun _ => pk_eq i 0 (fun z => K 1 (by rw [z]; rfl)) (fun z => K 0 (by rw [decide_eq_false z]; rfl)))
end
end
section
/-! widthOfWay, send -/
section
variable {n : Nat} {fr to : Nat → Nat} {sl fa pr f : Nat → Int} {fj fk fw : Int32} {a1 a2 a3 a4 a5 a6 a7 a8 a9 a10 a11 : Nat → Int32} {s : bf_S} {T : Nat → Nat} {q : Nat}
theorem wk_82 {post : Int32 → Prop} {J7 : Int32 → Int32 → Int32 → Prop} (hJ : nw_J n fr to sl fa pr) (hj : wk_J n fr to sl fa pr a1 a2 a3 a4 a5) {k : Nat} (hk : k < 4 * n) {x3 z0 : Int32} {i : Nat} (h3 : x3 = nI i) (H : J7 z0 (nI (nw_src fr to k)) (nI (i + 1))) :
    wX_widthOfWay_82 post J7 x3 (nI (k % 2)) (nI (k / 2)) z0 fj fk fw a1 a2 a3 a4 a5 a6 a7 a8 a9 a10 a11 := by
  have hn := hJ.1
  have g := hj (k / 4) (by omega)
  unfold wX_widthOfWay_82
  rw [zi_div2 (by omega), nI_clamp (by omega), show k / 2 / 2 = k / 4 by omega, h3]
  unfold nw_src at H
  refine pk_eq (k % 2) 0 (fun h => ⟨by decide, pk_in (k / 4) 7 (by omega), nm_r g.1 (nm_r (nI_1 i) ?_)⟩) (fun h => ⟨by decide, pk_in (k / 4) 7 (by omega), nm_r g.2.1 (nm_r (nI_1 i) ?_)⟩)
  · rw [if_pos h] at H; exact H
  · rw [if_neg h] at H; exact H
theorem wk_co28 {k : Nat} (hk : k < 28) : (wk_co k < 28 ↔ k % 2 = 0) := by
  unfold wk_co
  by_cases c : k % 2 = 0
  · rw [if_pos c]
    exact ⟨fun _ => c, fun _ => nI_lt (b := 28) (by omega) (by omega)⟩
  · rw [if_neg c]
    exact ⟨fun z => absurd z (nI_nlt (b := 28) (by omega) (by omega)), fun z => absurd z c⟩
theorem wk_width {post : Int32 → Prop} (hJ : nw_J n fr to sl fa pr) (hj : wk_J n fr to sl fa pr a1 a2 a3 a4 a5) (hf : wk_F n f a6) (hF : nw_F n pr f) (hr : ∀ k, k < 4 * n → zi_r (nw_room pr f k)) (hL : wk_L s a7 a8 a9) (hw : wy_ok n fr to sl fa pr f s T q)
    (H : post (zi (wy_w fr to s.2.2 pr f q))) : wpX_widthOfWay post (fj, fk, fw, a1, a2, a3, a4, a5, a6, a7, a8, a9, a10, a11) := by
  have hn := hJ.1
  unfold wpX_widthOfWay
  dsimp only
  have hq := hw.2.1
  have hch : ∀ i, i ≤ q → wy_ch fr to s.2.2 i < 6 := by
    intro i hi
    by_cases c : i = q
    · rw [c, hw.2.2.1]; omega
    · exact (hw.2.2.2 i (by omega)).1
  refine pk_loop (σ := Unit) (fun m i _ => wX_widthOfWay_7 post fj fk fw a1 a2 a3 a4 a5 a6 a7 a8 a9 a10 a11 m (zi (wy_w fr to s.2.2 pr f i)) (nI (wy_ch fr to s.2.2 i)) (nI i)) (fun _ _ => True) q 0 () (by omega) trivial ?_ ?_
  · intro m _ _
    refine pk_le 6 q (fun z => absurd z (by omega)) (fun _ => br_t ?_ H)
    rw [hw.2.2.1]; rfl
  · intro m i _ hi _ hwk
    obtain ⟨b1, b2, b3, b4, b5, b6, b7, _⟩ := hw.2.2.2 i hi
    have c9 := (hL _ b1).2.2 b3 b2
    have K : ∀ k, k = s.2.2 (wy_ch fr to s.2.2 i) → wX_widthOfWay_58 post (wX_widthOfWay_7 post fj fk fw a1 a2 a3 a4 a5 a6 a7 a8 a9 a10 a11 m) (zi (wy_w fr to s.2.2 pr f i)) (nI i) (nI (k % 2)) (nI (k / 2)) fj fk fw a1 a2 a3 a4 a5 a6 a7 a8 a9 a10 a11 := by
      intro k hk
      rw [← hk] at b4 b7
      unfold wX_widthOfWay_58
      refine wk_room hJ hj hf b4 ?_
      have w1 := wy_w_le hw (m := i) (by omega)
      have w0 := wy_w_pos hF hw (m := i) (by omega)
      have nx := hwk () trivial
      have e : wy_w fr to s.2.2 pr f (i + 1) = if nw_room pr f k < wy_w fr to s.2.2 pr f i then nw_room pr f k else wy_w fr to s.2.2 pr f i := by rw [hk]; rfl
      rw [e, ← b7] at nx
      refine ek_if (zi_le (by unfold zi_r; omega) (hr k b4)) (fun h => wk_82 hJ hj b4 rfl ?_) (fun h => wk_82 hJ hj b4 rfl ?_)
      · rw [if_neg (by omega)] at nx; exact nx
      · rw [if_pos (by omega)] at nx; exact nx
    have K' := K _ rfl
    refine pk_le 6 i (fun z => absurd z (by omega)) (fun _ => pk_eq (wy_ch fr to s.2.2 i) 0 (fun z => absurd z b2) (fun _ => ⟨pk_in _ 6 b1, ?_⟩) rfl rfl (by omega))
    rw [nI_clamp (by omega), c9]
    refine ek_if (wk_co28 (by omega)) (fun h => ?_) (fun h => ?_)
    · unfold wX_widthOfWay_33
      rw [nI_clamp (by omega), c9]
      rw [h] at K'
      refine br_t rfl ⟨pk_in _ 6 b1, ?_⟩
      unfold wk_co
      rw [if_pos h]
      exact K'
    · unfold wX_widthOfWay_33
      rw [nI_clamp (by omega), c9]
      rw [show s.2.2 (wy_ch fr to s.2.2 i) % 2 = 1 by omega] at K'
      refine br_f (by decide) ⟨pk_in _ 6 b1, ?_⟩
      unfold wk_co
      rw [if_neg h, show nI (s.2.2 (wy_ch fr to s.2.2 i) / 2 + 28) - 28 = nI (s.2.2 (wy_ch fr to s.2.2 i) / 2) from by rw [← nI_add]; exact Int32.add_sub_cancel _ _]
      exact K'
theorem wk_76 {post : St1 → Prop} {J4 : Int32 → Int32 → (Nat → Int32) → (Nat → Int32) → (Nat → Int32) → (Nat → Int32) → (Nat → Int32) → (Nat → Int32) → (Nat → Int32) → (Nat → Int32) → (Nat → Int32) → (Nat → Int32) → (Nat → Int32) → Prop}
    (hJ : nw_J n fr to sl fa pr) (hj : wk_J n fr to sl fa pr a1 a2 a3 a4 a5) {k : Nat} (hk : k < 4 * n) {x1 x3 z0 z1 : Int32} {i : Nat} (h3 : x3 = nI i)
    (H : J4 (nI (nw_src fr to k)) (nI (i + 1)) a1 a2 a3 a4 a5 (upd a6 (k / 2) (z1 + z0)) a7 a8 a9 a10 a11) :
    wX_send_76 post J4 x1 x3 (nI (k % 2)) (nI (k / 2)) z0 z1 (nI (k / 2)) fj fk fw a1 a2 a3 a4 a5 a6 a7 a8 a9 a10 a11 := by
  have hn := hJ.1
  have g := hj (k / 4) (by omega)
  unfold wX_send_76
  rw [zi_div2 (by omega), nI_clamp (by omega), nI_clamp (by omega), show k / 2 / 2 = k / 4 by omega, h3]
  unfold nw_src at H
  refine ⟨pk_in (k / 2) 14 (by omega), nm_e (pk_eq (k % 2) 0 (fun h => ⟨by decide, pk_in (k / 4) 7 (by omega), nm_r g.1 (nm_r (nI_1 i) ?_)⟩) (fun h => ⟨by decide, pk_in (k / 4) 7 (by omega), nm_r g.2.1 (nm_r (nI_1 i) ?_)⟩))⟩
  · rw [if_pos h] at H; exact H
  · rw [if_neg h] at H; exact H
theorem wk_F_up {g : Nat → Int} {a : Nat → Int32} (h : wk_F n g a) {l : Nat} (hl : l < 2 * n) {x : Int} {y : Int32} (hx : y = zi (g l + x)) : wk_F n (bf_up g l (g l + x)) (upd a l y) := by
  intro l' hl'
  by_cases e : l' = l
  · rw [e, bf_us, pk_us, hx]
  · rw [bf_un e, pk_un e]; exact h l' hl'
theorem wk_send {post : St1 → Prop} (hJ : nw_J n fr to sl fa pr) (hj : wk_J n fr to sl fa pr a1 a2 a3 a4 a5) (hf : wk_F n f a6) (hL : wk_L s a7 a8 a9) (hw : wy_ok n fr to sl fa pr f s T q) {α : Int}
    (H : ∀ b6, wk_F n (wy_f fr to s.2.2 f α q) b6 → post (fj, fk, fw, a1, a2, a3, a4, a5, b6, a7, a8, a9, a10, a11)) : wpX_send post (fj, fk, fw, a1, a2, a3, a4, a5, a6, a7, a8, a9, a10, a11) (zi α) := by
  have hn := hJ.1
  unfold wpX_send
  dsimp only
  have hq := hw.2.1
  have hch : ∀ i, i ≤ q → wy_ch fr to s.2.2 i < 6 := by
    intro i hi
    by_cases c : i = q
    · rw [c, hw.2.2.1]; omega
    · exact (hw.2.2.2 i (by omega)).1
  refine pk_loop (σ := Nat → Int32) (fun m i b6 => wX_send_4 post (zi α) fj fk fw m (nI (wy_ch fr to s.2.2 i)) (nI i) a1 a2 a3 a4 a5 b6 a7 a8 a9 a10 a11) (fun i b6 => wk_F n (wy_f fr to s.2.2 f α i) b6) q 0 a6 (by omega) hf ?_ ?_
  · intro m b6 hb
    refine pk_le 6 q (fun z => absurd z (by omega)) (fun _ => br_t ?_ (H b6 hb))
    rw [hw.2.2.1]; rfl
  · intro m i b6 hi hb hwk
    obtain ⟨b1, b2, b3, b4, b5, b6', b7, _⟩ := hw.2.2.2 i hi
    have c9 := (hL _ b1).2.2 b3 b2
    have K : ∀ k, k = s.2.2 (wy_ch fr to s.2.2 i) → wX_send_55 post (wX_send_4 post (zi α) fj fk fw m) (zi α) (nI i) (nI (k % 2)) (nI (k / 2)) fj fk fw a1 a2 a3 a4 a5 b6 a7 a8 a9 a10 a11 := by
      intro k hk
      rw [← hk] at b4 b7
      have e6 := hb (k / 2) (by omega)
      have ef : wy_f fr to s.2.2 f α (i + 1) = bf_up (wy_f fr to s.2.2 f α i) (k / 2) (wy_f fr to s.2.2 f α i (k / 2) + (if k % 2 = 0 then α else -α)) := by rw [hk]; rfl
      unfold wX_send_55
      rw [nI_clamp (by omega), e6]
      refine ⟨pk_in (k / 2) 14 (by omega), pk_eq (k % 2) 0 (fun h => wk_76 hJ hj b4 rfl ?_) (fun h => wk_76 hJ hj b4 rfl ?_)⟩
      · rw [b7]
        refine hwk _ ?_
        rw [ef, if_pos h]
        exact wk_F_up hb (by omega) (zi_add _ _)
      · rw [b7]
        refine hwk _ ?_
        rw [ef, if_neg h]
        exact wk_F_up hb (by omega) (by rw [zi_neg, zi_add])
    have K' := K _ rfl
    refine pk_le 6 i (fun z => absurd z (by omega)) (fun _ => pk_eq (wy_ch fr to s.2.2 i) 0 (fun z => absurd z b2) (fun _ => ⟨pk_in _ 6 b1, ?_⟩) rfl rfl (by omega))
    rw [nI_clamp (by omega), c9]
    refine ek_if (wk_co28 (by omega)) (fun h => ?_) (fun h => ?_)
    · unfold wX_send_30
      rw [nI_clamp (by omega), c9]
      rw [h] at K'
      refine br_t rfl ⟨pk_in _ 6 b1, ?_⟩
      unfold wk_co
      rw [if_pos h]
      exact K'
    · unfold wX_send_30
      rw [nI_clamp (by omega), c9]
      rw [show s.2.2 (wy_ch fr to s.2.2 i) % 2 = 1 by omega] at K'
      refine br_f (by decide) ⟨pk_in _ 6 b1, ?_⟩
      unfold wk_co
      rw [if_neg h, show nI (s.2.2 (wy_ch fr to s.2.2 i) / 2 + 28) - 28 = nI (s.2.2 (wy_ch fr to s.2.2 i) / 2) from by rw [← nI_add]; exact Int32.add_sub_cancel _ _]
      exact K'
end
end
section
/-! sendAll -/
/-- the table of ways in the arrays -/
def wk_T (m : Nat) (wl wa : Nat → Int) (a10 a11 : Nat → Int32) : Prop := ∀ k, k < m → a10 k = zi (wl k) ∧ a11 k = zi (wa k)
theorem wk_T_up {m : Nat} {wl wa : Nat → Int} {a10 a11 : Nat → Int32} (h : wk_T m wl wa a10 a11) {x y : Int} {x' y' : Int32} (hx : x' = zi x) (hy : y' = zi y) : wk_T (m + 1) (bf_up wl m x) (bf_up wa m y) (upd a10 m x') (upd a11 m y') := by
  intro k hk
  by_cases e : k = m
  · rw [e, bf_us, bf_us, pk_us, pk_us]; exact ⟨hx, hy⟩
  · rw [bf_un e, bf_un e, pk_un e, pk_un e]; exact h k (by omega)
theorem wk_rr {n : Nat} {fr to : Nat → Nat} {sl fa pr : Nat → Int} {i : Nat} {f wl wa : Nat → Int} (hJ : nw_J n fr to sl fa pr) (h : sa_I n fr to sl fa pr i f wl wa) : ∀ k, k < 4 * n → zi_r (nw_room pr f k) := by
  intro k hk
  have hi := sa_lt h
  have a := h.1 (k / 2) (by omega)
  have b := h.2.1 (k / 2) (by omega)
  have c := hJ.2 (k / 4) (by omega)
  unfold nw_room zi_r
  split
  · split
    · rename_i e
      have d := a.2 e
      rw [show k / 2 / 2 = k / 4 by omega] at d
      omega
    · omega
  · omega
section
variable {n : Nat} {fr to : Nat → Nat} {sl fa pr : Nat → Int} {fk : Int32} {a1 a2 a3 a4 a5 : Nat → Int32}
theorem wk_43 {post : St1 → Prop} (hJ : nw_J n fr to sl fa pr) (hj : wk_J n fr to sl fa pr a1 a2 a3 a4 a5)
    (H : ∀ m wl wa b6 b7 b8 b9 b10 b11, sa_W m wl wa → wk_T m wl wa b10 b11 → post (nI n, fk, nI m, a1, a2, a3, a4, a5, b6, b7, b8, b9, b10, b11)) :
    ∀ (d i : Nat) (f wl wa : Nat → Int) (a6 a7 a8 a9 a10 a11 : Nat → Int32), i + d = 149 → sa_I n fr to sl fa pr i f wl wa → wk_F n f a6 → wk_T i wl wa a10 a11 →
      wX_sendAll_43 post (d + 2) 1 (nI i) (nI n) fk (nI i) a1 a2 a3 a4 a5 a6 a7 a8 a9 a10 a11 := by
  intro d
  induction d with
  | zero => intro i f wl wa a6 a7 a8 a9 a10 a11 hi hI _ _; have := sa_lt hI; omega
  | succ d ih =>
    intro i f wl wa a6 a7 a8 a9 a10 a11 hi hI hf hT
    have hi7 := sa_lt hI
    have hr := wk_rr hJ hI
    -- the end of the loop
    have E : ∀ (x2 : Int32) m wl wa b6 b7 b8 b9 b10 b11, sa_W m wl wa → wk_T m wl wa b10 b11 → wX_sendAll_43 post (d + 1 + 1) 0 x2 (nI n) fk (nI m) a1 a2 a3 a4 a5 b6 b7 b8 b9 b10 b11 :=
      fun x2 m wl wa b6 b7 b8 b9 b10 b11 h1 h2 => br_c (fun _ => H m wl wa b6 b7 b8 b9 b10 b11 h1 h2) (fun _ => br_t rfl (H m wl wa b6 b7 b8 b9 b10 b11 h1 h2))
    refine pk_le 149 i (fun z => absurd z (by omega)) (fun _ => br_f (by decide) (wk_find hJ hj hf hr (fun b7 b8 b9 hL => ?_)))
    have g5 := hL 5 (by omega)
    refine nm_e ?_
    refine ek_if (d := ¬ (fl_R n fr to sl fa pr f (6 * (4 * n))).1 5 = true) (by rw [g5.2.1]; exact wk_b0) (fun h => ?_) (fun h => ?_)
    · -- no way at all
      have i0 : i = 0 := by
        by_cases c : i = 0
        · exact c
        · exfalso
          by_cases n0 : 0 < n
          · obtain ⟨T, hb⟩ := sa_bf hJ hI n0
            exact h (sa_reach hJ hI hb (by omega))
          · obtain ⟨_, _, _, RR, π, _, _, _, _, g, _⟩ := hI
            rcases g with g | g
            · exact c g.1
            · obtain ⟨j, j1, _⟩ := g.1 5 (by omega) g.2 (by omega)
              omega
      have e8 : b8 5 = 0 := by rw [g5.2.1]; exact wk_b0.mpr h
      rw [e8]
      refine nm_e ?_
      rw [i0]
      exact E _ 0 wl wa _ _ _ _ _ _ ⟨by omega, Or.inl rfl⟩ (fun k hk => absurd hk (by omega))
    · have h5 : (fl_R n fr to sl fa pr f (6 * (4 * n))).1 5 = true := Classical.byContradiction h
      have n0 : 0 < n := by
        rcases Nat.eq_zero_or_pos n with z | z
        · exfalso
          rw [z] at h5
          exact absurd (show decide (5 = 0) = true from h5) (by decide)
        · exact z
      obtain ⟨T, hb⟩ := sa_bf hJ hI n0
      obtain ⟨q, hw⟩ := wy_ex hJ hb h5
      have G := sa_go hJ n0 hI rfl hb h5 hw
      have w1 : wy_w fr to (fl_R n fr to sl fa pr f (6 * (4 * n))).2.2 pr f q ≤ 1000000 := (wy_w_le hw (Nat.le_refl q)).1
      have w0 : 1 ≤ wy_w fr to (fl_R n fr to sl fa pr f (6 * (4 * n))).2.2 pr f q := wy_w_pos hI.1 hw (Nat.le_refl q)
      refine wk_width hJ hj hf hI.1 hr hL hw ?_
      rw [nI_clamp (by omega)]
      refine ⟨pk_in i 150 (by omega), nm_e ⟨pk_in i 150 (by omega), nm_e (nm_r (nI_1 i) ?_)⟩⟩
      have T' := wk_T_up hT g5.1 (rfl : zi (wy_w fr to (fl_R n fr to sl fa pr f (6 * (4 * n))).2.2 pr f q) = _)
      refine ek_if (d := 1000000 ≤ wy_w fr to (fl_R n fr to sl fa pr f (6 * (4 * n))).2.2 pr f q) (by rw [zi_M]; exact zi_le (by unfold zi_r; omega) (by unfold zi_r; omega)) (fun hc => ?_) (fun hc => ?_)
      · unfold wX_sendAll_120
        exact wk_send hJ hj hf hL hw (fun b6 _ => nm_e (E _ (i + 1) _ _ _ _ _ _ _ _ (G.2 hc) T'))
      · unfold wX_sendAll_120
        exact wk_send hJ hj hf hL hw (fun b6 hb6 => nm_r (nI_1 i) (ih (i + 1) _ _ _ b6 _ _ _ _ _ (by omega) (G.1 (show wy_w fr to (fl_R n fr to sl fa pr f (6 * (4 * n))).2.2 pr f q < 1000000 by omega)) hb6 T'))
theorem wk_sendAll0 {post : St1 → Prop} {fw : Int32} {a6 a7 a8 a9 a10 a11 : Nat → Int32} (hJ : nw_J n fr to sl fa pr) (hj : wk_J n fr to sl fa pr a1 a2 a3 a4 a5)
    (H : ∀ m wl wa b6 b7 b8 b9 b10 b11, sa_W m wl wa → wk_T m wl wa b10 b11 → post (nI n, 1, nI m, a1, a2, a3, a4, a5, b6, b7, b8, b9, b10, b11)) :
    wpX_sendAll post (nI n, 0, fw, a1, a2, a3, a4, a5, a6, a7, a8, a9, a10, a11) := by
  have hn := hJ.1
  unfold wpX_sendAll
  dsimp only
  refine br_t rfl ?_
  refine pk_loop (σ := Nat → Int32) (fun m i s => wX_sendAll_20 post (nI n) 1 0 m (nI i) a1 a2 a3 a4 a5 s a7 a8 a9 a10 a11) (fun i s => ∀ l, l < i → s l = 0) 14 0 a6 (by omega) (fun l hl => absurd hl (by omega)) ?_ ?_
  · intro m s h
    refine pk_le 14 14 (fun _ => ⟨149 + 2, ?_⟩) (fun z => absurd z (by omega))
    exact wk_43 hJ hj H 149 0 (fun _ => 0) (fun _ => 0) (fun _ => 0) s a7 a8 a9 a10 a11 (by omega) (sa_0 hJ (fun _ _ => rfl)) (fun l hl => h l (by omega)) (fun k hk => absurd hk (by omega))
  · intro m i s hi h hw
    refine pk_le 14 i (fun z => absurd z (by omega)) (fun _ => ⟨pk_in i 14 hi, nm_e (nm_r (nI_1 i) (hw _ ?_))⟩)
    rw [nI_clamp (by omega)]
    intro l hl
    by_cases e : l = i
    · rw [e, pk_us]
    · rw [pk_un e]; exact h l (by omega)
theorem wk_sendAll1 {post : St1 → Prop} {fj fw : Int32} {a6 a7 a8 a9 a10 a11 : Nat → Int32} (H : post (fj, 1, fw, a1, a2, a3, a4, a5, a6, a7, a8, a9, a10, a11)) :
    wpX_sendAll post (fj, 1, fw, a1, a2, a3, a4, a5, a6, a7, a8, a9, a10, a11) := by
  unfold wpX_sendAll
  dsimp only
  exact br_f (by decide) H
end
end
section
/-! What the table of ways costs -/
def ks_g (wl wa : Nat → Int) (t : Int) (k : Nat) : Int := if t < wl k then wa k * (wl k - t) else 0
def ks_C (m : Nat) (wl wa : Nat → Int) (t : Int) : Int := nw_sum (ks_g wl wa t) m
def ks_L (m : Nat) (wl : Nat → Int) : Int := if m = 0 then 0 else wl (m - 1)
def ks_S (m : Nat) (wl : Nat → Int) : Int := if m = 0 then 0 else wl 0
def ks_V (m : Nat) (wl wa : Nat → Int) (t : Int) : Int := if t < ks_L m wl then -1 else ks_C m wl wa t
/-- the laws of the costs -/
def ks_ok (V : Int → Int) (L S : Int) : Prop :=
  0 ≤ L ∧ L ≤ S ∧ S ≤ 45 ∧ (∀ t, t < L → V t = -1) ∧ (∀ t, L ≤ t → 0 ≤ V t ∧ V t ≤ 6300) ∧ (∀ t, L ≤ t → V (t + 1) ≤ V t) ∧ (∀ t, L ≤ t → V (t + 1) - V (t + 2) ≤ V t - V (t + 1)) ∧ (∀ t, S ≤ t → V t = 0)
theorem ks_term {a w t : Int} (ha : 0 ≤ a) : (0 ≤ (if t < w then a * (w - t) else 0)) ∧ ((if t + 1 < w then a * (w - (t + 1)) else 0) ≤ (if t < w then a * (w - t) else 0)) ∧
    ((if t + 1 < w then a * (w - (t + 1)) else 0) + (if t + 1 < w then a * (w - (t + 1)) else 0) ≤ (if t < w then a * (w - t) else 0) + (if t + 2 < w then a * (w - (t + 2)) else 0)) := by
  have e1 : a * (w - (t + 1)) = a * (w - t) - a := by grind
  have e2 : a * (w - (t + 2)) = a * (w - t) - a - a := by grind
  by_cases c : t < w
  · rw [if_pos c]
    have p : a * 1 ≤ a * (w - t) := Int.mul_le_mul_of_nonneg_left (by omega) ha
    by_cases c1 : t + 1 < w
    · rw [if_pos c1, e1]
      have p2 : a * 2 ≤ a * (w - t) := Int.mul_le_mul_of_nonneg_left (by omega) ha
      by_cases c2 : t + 2 < w
      · rw [if_pos c2, e2]; omega
      · rw [if_neg c2]
        have e3 : w - t = 2 := by omega
        rw [e3]; omega
    · rw [if_neg c1, if_neg (by omega)]; omega
  · rw [if_neg c, if_neg (by omega), if_neg (by omega)]; omega
theorem ks_main {m : Nat} {wl wa : Nat → Int} (h : sa_W m wl wa) : ks_ok (ks_V m wl wa) (ks_L m wl) (ks_S m wl) := by
  obtain ⟨hm, h⟩ := h
  rcases h with h | ⟨h1, h2, h3, h4, i0, g1, g2, g3⟩
  · subst h
    have z : ∀ t, ¬ t < ks_L 0 wl → ks_V 0 wl wa t = 0 := by
      intro t ht
      unfold ks_V
      rw [if_neg ht]; rfl
    have l0 : ks_L 0 wl = 0 := rfl
    have s0 : ks_S 0 wl = 0 := rfl
    refine ⟨by omega, by omega, by omega, fun t ht => if_pos ht, fun t ht => ?_, fun t ht => ?_, fun t ht => ?_, fun t ht => ?_⟩
    · rw [z t (by omega)]; omega
    · rw [z t (by omega), z (t + 1) (by omega)]; omega
    · rw [z t (by omega), z (t + 1) (by omega), z (t + 2) (by omega)]; omega
    · exact z t (by omega)
  · have m0 : m ≠ 0 := by omega
    have eL : ks_L m wl = wl (m - 1) := if_neg m0
    have eS : ks_S m wl = wl 0 := if_neg m0
    have V1 : ∀ t, wl (m - 1) ≤ t → ks_V m wl wa t = nw_sum (ks_g wl wa t) m := by
      intro t ht
      unfold ks_V
      rw [eL, if_neg (by omega)]; rfl
    -- the places of the sum
    have P : ∀ t k, wl (m - 1) ≤ t → k < m → 0 ≤ ks_g wl wa t k ∧ ks_g wl wa (t + 1) k ≤ ks_g wl wa t k ∧ ks_g wl wa (t + 1) k + ks_g wl wa (t + 1) k ≤ ks_g wl wa t k + ks_g wl wa (t + 2) k := by
      intro t k ht hk
      by_cases c : k + 1 < m
      · exact ks_term (by have := h4 k c; omega)
      · have e : k = m - 1 := by omega
        unfold ks_g
        rw [e, if_neg (by omega), if_neg (by omega), if_neg (by omega)]; omega
    have a0 := h1 0 (by omega)
    have a1 := h1 (m - 1) (by omega)
    have a2 := h2 0 (m - 1) (by omega) (by omega)
    rw [eL, eS]
    refine ⟨a1.1, a2, a0.2, fun t ht => ?_, fun t ht => ?_, fun t ht => ?_, fun t ht => ?_, fun t ht => ?_⟩
    · unfold ks_V
      rw [eL, if_pos ht]
    · rw [V1 t ht]
      constructor
      · have x : nw_sum (fun _ => 0) m ≤ nw_sum (ks_g wl wa t) m := nw_sum_le (fun k hk => (P t k ht hk).1)
        rw [nw_sum_k] at x
        omega
      · have B : ∀ j, j ≤ m → nw_sum (ks_g wl wa t) j ≤ 45 * nw_sum wa (min j i0) := by
          intro j
          induction j with
          | zero => intro _; rw [Nat.zero_min]; exact Int.le_refl _
          | succ j ih =>
            intro hj
            have x := ih (by omega)
            rw [nw_sum_s]
            by_cases c : j < i0
            · rw [show min (j + 1) i0 = j + 1 by omega, nw_sum_s]
              rw [show min j i0 = j by omega] at x
              have y := h4 j (by omega)
              have y' := h1 j (by omega)
              have u : ks_g wl wa t j ≤ 45 * wa j := by
                unfold ks_g
                by_cases c2 : t < wl j
                · rw [if_pos c2]
                  have v : wa j * (wl j - t) ≤ wa j * 45 := Int.mul_le_mul_of_nonneg_left (by omega) (by omega)
                  omega
                · rw [if_neg c2]; omega
              omega
            · rw [show min (j + 1) i0 = i0 by omega]
              rw [show min j i0 = i0 by omega] at x
              have u : ks_g wl wa t j = 0 := by
                unfold ks_g
                rw [if_neg (by rw [g2 j (by omega) (by omega)]; omega)]
              omega
        have x := B m (Nat.le_refl _)
        rw [show min m i0 = i0 by omega] at x
        omega
    · rw [V1 t ht, V1 (t + 1) (by omega)]
      exact nw_sum_le (fun k hk => (P t k ht hk).2.1)
    · rw [V1 t ht, V1 (t + 1) (by omega), V1 (t + 2) (by omega)]
      have x : nw_sum (fun k => ks_g wl wa (t + 1) k + ks_g wl wa (t + 1) k) m ≤ nw_sum (fun k => ks_g wl wa t k + ks_g wl wa (t + 2) k) m := nw_sum_le (fun k hk => (P t k ht hk).2.2)
      rw [nw_sum_add, nw_sum_add] at x
      have e1 : nw_sum (fun k => ks_g wl wa (t + 1) k) m = nw_sum (ks_g wl wa (t + 1)) m := rfl
      have e2 : nw_sum (fun k => ks_g wl wa t k) m = nw_sum (ks_g wl wa t) m := rfl
      have e3 : nw_sum (fun k => ks_g wl wa (t + 2) k) m = nw_sum (ks_g wl wa (t + 2)) m := rfl
      omega
    · rw [V1 t (by omega)]
      have x : nw_sum (ks_g wl wa t) m = nw_sum (fun _ => 0) m := by
        refine nw_sum_c (fun k hk => ?_)
        unfold ks_g
        rw [if_neg (by have := h2 0 k (by omega) hk; omega)]
      rw [x, nw_sum_k]
      omega
end
section
/-! The questions, on a finished table -/
section
variable {m : Nat} {wl wa : Nat → Int} {fj fk : Int32} {a1 a2 a3 a4 a5 a6 a7 a8 a9 a10 a11 : Nat → Int32}
theorem wq_costFor {post : Int32 → Prop} (hW : sa_W m wl wa) (hT : wk_T m wl wa a10 a11) {t : Int} (h0 : 0 ≤ t) (h1 : t ≤ 100000) (H : post (zi (ks_V m wl wa t))) :
    wpX_costFor post (fj, fk, nI m, a1, a2, a3, a4, a5, a6, a7, a8, a9, a10, a11) (zi t) := by
  obtain ⟨hm, hW⟩ := hW
  unfold wpX_costFor
  dsimp only
  by_cases c : t < ks_L m wl
  · have V : ks_V m wl wa t = -1 := if_pos c
    rw [V] at H
    have m0 : m ≠ 0 := by
      intro z
      subst z
      have e : ks_L 0 wl = 0 := rfl
      omega
    have eL : ks_L m wl = wl (m - 1) := if_neg m0
    rw [eL] at c
    rcases hW with z | ⟨w1, w2, w3, w4, _⟩
    · exact absurd z m0
    refine pk_loop (σ := Int32) (fun n k s => wX_costFor_4 post (zi t) fj fk (nI m) a1 a2 a3 a4 a5 a6 a7 a8 a9 a10 a11 n s (nI k)) (fun _ _ => True) (m - 1) 0 0 (by omega) trivial ?_ ?_
    · intro n s _
      have g := hT (m - 1) (by omega)
      have b := w1 (m - 1) (by omega)
      refine pk_le m (m - 1) (fun z => absurd z (by omega)) (fun _ => ⟨pk_in (m - 1) 150 (by omega), ?_⟩)
      rw [nI_clamp (by omega), g.1, g.2]
      refine ek_if (zi_le (by unfold zi_r; omega) (by unfold zi_r; omega)) (fun z => absurd z (by omega)) (fun _ => ⟨pk_in (m - 1) 150 (by omega), ?_⟩)
      refine ek_if (d := wa (m - 1) < 1000000) (by rw [zi_M]; exact zi_lt (by unfold zi_r; omega) (by unfold zi_r; omega)) (fun z => absurd z (by omega)) (fun _ => H)
    · intro n k s hk _ hw
      have g := hT k (by omega)
      have b := w1 k (by omega)
      have b2 := w2 k (m - 1) (by omega) (by omega)
      have b4 := w4 k (by omega)
      refine pk_le m k (fun z => absurd z (by omega)) (fun _ => ⟨pk_in k 150 (by omega), ?_⟩)
      rw [nI_clamp (by omega), g.1, g.2]
      refine ek_if (zi_le (by unfold zi_r; omega) (by unfold zi_r; omega)) (fun z => absurd z (by omega)) (fun _ => ⟨pk_in k 150 (by omega), ?_⟩)
      refine ek_if (d := wa k < 1000000) (by rw [zi_M]; exact zi_lt (by unfold zi_r; omega) (by unfold zi_r; omega)) (fun _ => ⟨pk_in k 150 (by omega), pk_in k 150 (by omega), nm_e (nm_r (nI_1 k) (hw _ trivial))⟩) (fun z => absurd b4.2 z)
  · have V : ks_V m wl wa t = nw_sum (ks_g wl wa t) m := if_neg c
    rw [V] at H
    refine pk_loop (σ := Int32) (fun n k s => wX_costFor_4 post (zi t) fj fk (nI m) a1 a2 a3 a4 a5 a6 a7 a8 a9 a10 a11 n s (nI k)) (fun k s => s = zi (nw_sum (ks_g wl wa t) k)) m 0 0 (by omega) rfl ?_ ?_
    · intro n s h
      refine pk_le m m (fun _ => ?_) (fun z => absurd z (by omega))
      rw [h]; exact H
    · intro n k s hk h hw
      rcases hW with z | ⟨w1, w2, w3, w4, _⟩
      · omega
      have g := hT k (by omega)
      have b := w1 k (by omega)
      have eL : ks_L m wl = wl (m - 1) := if_neg (by omega)
      rw [eL] at c
      refine pk_le m k (fun z => absurd z (by omega)) (fun _ => ⟨pk_in k 150 (by omega), ?_⟩)
      rw [nI_clamp (by omega), g.1, g.2]
      refine ek_if (zi_le (by unfold zi_r; omega) (by unfold zi_r; omega)) (fun z => nm_r (nI_1 k) (hw _ ?_)) (fun z => ⟨pk_in k 150 (by omega), ?_⟩)
      · have e : ks_g wl wa t k = 0 := if_neg (by omega)
        rw [nw_sum_s, e, h, Int.add_zero]
      · have km : k + 1 < m := by
          by_cases d : k + 1 < m
          · exact d
          · have e : k = m - 1 := by omega
            rw [e] at z
            omega
        have b4 := w4 k km
        refine ek_if (d := wa k < 1000000) (by rw [zi_M]; exact zi_lt (by unfold zi_r; omega) (by unfold zi_r; omega)) (fun _ => ⟨pk_in k 150 (by omega), pk_in k 150 (by omega), nm_e (nm_r (nI_1 k) (hw _ ?_))⟩) (fun z => absurd b4.2 z)
        have e : ks_g wl wa t k = wa k * (wl k - t) := if_pos (by omega)
        rw [nw_sum_s, e, h, zi_sub, zi_mul, zi_add]
theorem wq_slowest {post : Int32 → St1 → Prop} (hW : sa_W m wl wa) (hT : wk_T m wl wa a10 a11) (H : post (zi (ks_S m wl)) (fj, 1, nI m, a1, a2, a3, a4, a5, a6, a7, a8, a9, a10, a11)) :
    (nI m = 0 → post 0 (fj, 1, nI m, a1, a2, a3, a4, a5, a6, a7, a8, a9, a10, a11)) ∧ (¬ nI m = 0 → post (a10 0) (fj, 1, nI m, a1, a2, a3, a4, a5, a6, a7, a8, a9, a10, a11)) := by
  have hm := hW.1
  refine pk_eq m 0 (fun z => ?_) (fun z => ?_)
  · subst z; exact H
  · have e : ks_S m wl = wl 0 := if_neg z
    rw [e] at H
    rw [(hT 0 (by omega)).1]; exact H
theorem wq_fastest {post : Int32 → St1 → Prop} (hW : sa_W m wl wa) (hT : wk_T m wl wa a10 a11) (H : post (zi (ks_L m wl)) (fj, 1, nI m, a1, a2, a3, a4, a5, a6, a7, a8, a9, a10, a11)) :
    wpX_fastest post (fj, 1, nI m, a1, a2, a3, a4, a5, a6, a7, a8, a9, a10, a11) := by
  have hm := hW.1
  unfold wpX_fastest
  dsimp only
  refine wk_sendAll1 ?_
  dsimp only
  refine pk_eq m 0 (fun z => ?_) (fun z => ?_)
  · subst z; exact H
  · have e : ks_L m wl = wl (m - 1) := if_neg z
    rw [e] at H
    have e2 : nI m - 1 = nI (m - 1) := by
      have := nI_pred (m - 1)
      rw [show m - 1 + 1 = m by omega] at this
      exact this
    rw [e2, nI_clamp (by omega), (hT (m - 1) (by omega)).1]
    exact ⟨pk_in (m - 1) 150 (by omega), H⟩
theorem wq_cost {post : Int32 → St1 → Prop} (hW : sa_W m wl wa) (hT : wk_T m wl wa a10 a11) {t : Int} (h0 : 0 ≤ t) (h1 : t ≤ 100000) (H : post (zi (ks_V m wl wa t)) (fj, 1, nI m, a1, a2, a3, a4, a5, a6, a7, a8, a9, a10, a11)) :
    wpX_cost post (fj, 1, nI m, a1, a2, a3, a4, a5, a6, a7, a8, a9, a10, a11) (zi t) := by
  unfold wpX_cost
  dsimp only
  refine ek_if (d := 0 ≤ t) (by rw [zi_0]; exact zi_le (by unfold zi_r; omega) (by unfold zi_r; omega)) (fun _ => wk_sendAll1 ?_) (fun z => absurd h0 z)
  dsimp only
  exact wq_costFor hW hT h0 h1 H
theorem wq_step {post : Int32 → St1 → Prop} (hW : sa_W m wl wa) (hT : wk_T m wl wa a10 a11) {t : Int} (h0 : 0 ≤ t) (h1 : t ≤ 1000)
    (H : post (zi (if 0 ≤ ks_V m wl wa t then ks_V m wl wa t - ks_V m wl wa (t + 1) else -1)) (fj, 1, nI m, a1, a2, a3, a4, a5, a6, a7, a8, a9, a10, a11)) :
    wpX_step post (fj, 1, nI m, a1, a2, a3, a4, a5, a6, a7, a8, a9, a10, a11) (zi t) := by
  have ok := ks_main hW
  have rV : zi_r (ks_V m wl wa t) := by
    unfold zi_r
    by_cases c : t < ks_L m wl
    · rw [ok.2.2.2.1 t c]; omega
    · have := ok.2.2.2.2.1 t (by omega); omega
  unfold wpX_step
  dsimp only
  refine ek_if (d := 0 ≤ t) (by rw [zi_0]; exact zi_le (by unfold zi_r; omega) (by unfold zi_r; omega)) (fun _ => wk_sendAll1 ?_) (fun z => absurd h0 z)
  dsimp only
  refine wq_costFor hW hT h0 (by omega) ?_
  refine ek_if (d := 0 ≤ ks_V m wl wa t) (by rw [zi_0]; exact zi_le (by unfold zi_r; omega) rV) (fun c => ?_) (fun c => ?_)
  · refine ek_if (d := t ≤ 1000) (by rw [show (1000 : Int32) = zi 1000 from rfl]; exact zi_le (by unfold zi_r; omega) (by unfold zi_r; omega)) (fun _ => ?_) (fun z => absurd h1 z)
    rw [zi_1, zi_add]
    refine wq_costFor hW hT (by omega) (by omega) ?_
    rw [if_pos c] at H
    rw [zi_sub]; exact H
  · rw [if_neg c] at H
    exact H
theorem wq_within {post : Int32 → St1 → Prop} (hW : sa_W m wl wa) (hT : wk_T m wl wa a10 a11) {b : Int} (h0 : 0 ≤ b) (h1 : b ≤ 100000)
    (H : ∀ r : Int, -1 ≤ r → r ≤ 45 → (∀ t, 0 ≤ t → t ≤ 45 → 0 ≤ ks_V m wl wa t → ks_V m wl wa t ≤ b → r ≤ t) → post (zi r) (fj, 1, nI m, a1, a2, a3, a4, a5, a6, a7, a8, a9, a10, a11)) :
    wpX_within post (fj, 1, nI m, a1, a2, a3, a4, a5, a6, a7, a8, a9, a10, a11) (zi b) := by
  have ok := ks_main hW
  have rV : ∀ t, zi_r (ks_V m wl wa t) := by
    intro t
    unfold zi_r
    by_cases c : t < ks_L m wl
    · rw [ok.2.2.2.1 t c]; omega
    · have := ok.2.2.2.2.1 t (by omega); omega
  unfold wpX_within
  dsimp only
  refine ek_if (d := 0 ≤ b) (by rw [zi_0]; exact zi_le (by unfold zi_r; omega) (by unfold zi_r; omega)) (fun _ => wk_sendAll1 ?_) (fun z => absurd h0 z)
  dsimp only
  refine pk_loop (σ := Unit) (fun n t _ => wX_within_12 post (zi b) fj 1 (nI m) a1 a2 a3 a4 a5 a6 a7 a8 a9 a10 a11 n (nI t)) (fun i _ => ∀ t : Int, 0 ≤ t → t < (i : Int) → ¬ (0 ≤ ks_V m wl wa t ∧ ks_V m wl wa t ≤ b)) 46 0 () (by omega) (fun t h h' => absurd h' (by omega)) ?_ ?_
  · intro n _ h
    have x := H (-1) (by omega) (by omega) (fun t _ _ _ _ => by omega)
    exact pk_lt 45 46 (fun _ => x) (fun z => absurd z (by omega))
  · intro n i _ hi h hw
    refine pk_lt 45 i (fun z => absurd z (by omega)) (fun _ => ?_)
    rw [zi_n i]
    refine wq_costFor hW hT (by omega) (by omega) ?_
    have nx : ¬ (0 ≤ ks_V m wl wa (i : Int) ∧ ks_V m wl wa (i : Int) ≤ b) → wX_within_12 post (zi b) fj 1 (nI m) a1 a2 a3 a4 a5 a6 a7 a8 a9 a10 a11 n (zi (i : Int) + 1) := by
      intro z
      rw [← zi_n, nI_1]
      refine hw () (fun t t0 t1 => ?_)
      by_cases c : t < (i : Int)
      · exact h t t0 c
      · rw [show t = (i : Int) by omega]; exact z
    refine ek_if (d := ks_V m wl wa (i : Int) < 0) (by rw [zi_0]; exact zi_lt (rV _) (by unfold zi_r; omega)) (fun c => nm_e (nx (by omega))) (fun c => ?_)
    refine ek_if (d := b < ks_V m wl wa (i : Int)) (zi_lt (by unfold zi_r; omega) (rV _)) (fun c2 => nm_e (nx (by omega))) (fun c2 => ?_)
    refine H (i : Int) (by omega) (by omega) (fun t t0 t1 t2 t3 => ?_)
    by_cases d : t < (i : Int)
    · exact absurd ⟨t2, t3⟩ (h t t0 d)
    · omega
theorem wq_total {post : Int32 → St1 → Prop} (hW : sa_W m wl wa) (hT : wk_T m wl wa a10 a11) {p : Int} (h0 : 0 ≤ p) (h1 : p ≤ 200)
    (H : ∀ r : Int, (∀ t, ks_L m wl ≤ t → t ≤ 45 → r ≤ ks_V m wl wa t + p * t) → (∃ t, ks_L m wl ≤ t ∧ t ≤ 45 ∧ r = ks_V m wl wa t + p * t) → post (zi r) (fj, 1, nI m, a1, a2, a3, a4, a5, a6, a7, a8, a9, a10, a11)) :
    wpX_total post (fj, 1, nI m, a1, a2, a3, a4, a5, a6, a7, a8, a9, a10, a11) (zi p) := by
  have ok := ks_main hW
  have rV : ∀ t, zi_r (ks_V m wl wa t) := by
    intro t
    unfold zi_r
    by_cases c : t < ks_L m wl
    · rw [ok.2.2.2.1 t c]; omega
    · have := ok.2.2.2.2.1 t (by omega); omega
  have pt : ∀ t : Int, 0 ≤ t → t ≤ 45 → 0 ≤ p * t ∧ p * t ≤ 9000 := by
    intro t t0 t1
    have x : 0 ≤ p * t := Int.mul_nonneg h0 t0
    have y : p * t ≤ p * 45 := Int.mul_le_mul_of_nonneg_left t1 h0
    omega
  unfold wpX_total
  dsimp only
  refine ek_if (d := p < 0) (by rw [zi_0]; exact zi_lt (by unfold zi_r; omega) (by unfold zi_r; omega)) (fun z => absurd z (by omega)) (fun _ => ?_)
  refine ek_if (d := p ≤ 200) (by rw [show (200 : Int32) = zi 200 from rfl]; exact zi_le (by unfold zi_r; omega) (by unfold zi_r; omega)) (fun _ => wk_sendAll1 ?_) (fun z => absurd h1 z)
  dsimp only
  refine pk_loop (σ := Int32) (fun n t s => wX_total_21 post (zi p) fj 1 (nI m) a1 a2 a3 a4 a5 a6 a7 a8 a9 a10 a11 n s (nI t))
    (fun i s => ((i : Int) ≤ ks_L m wl → s = zi (-1)) ∧ (ks_L m wl < (i : Int) → ∃ r : Int, s = zi r ∧ (∀ t, ks_L m wl ≤ t → t < (i : Int) → r ≤ ks_V m wl wa t + p * t) ∧ ∃ t, ks_L m wl ≤ t ∧ t < (i : Int) ∧ r = ks_V m wl wa t + p * t))
    46 0 (-1) (by omega) ⟨fun _ => rfl, fun z => absurd z (by have := ok.1; omega)⟩ ?_ ?_
  · intro n s h
    refine pk_lt 45 46 (fun _ => ?_) (fun z => absurd z (by omega))
    obtain ⟨r, r1, r2, t, t1, t2, t3⟩ := h.2 (by have := ok.2.1; have := ok.2.2.1; omega)
    rw [r1]
    exact H r (fun t' h1 h2 => r2 t' h1 (by omega)) ⟨t, t1, by omega, t3⟩
  · intro n i s hi h hw
    have l0 := ok.1
    refine pk_lt 45 i (fun z => absurd z (by omega)) (fun _ => ?_)
    rw [zi_n i]
    refine wq_costFor hW hT (by omega) (by omega) ?_
    have pi := pt (i : Int) (by omega) (by omega)
    refine ek_if (d := ks_V m wl wa (i : Int) < 0) (by rw [zi_0]; exact zi_lt (rV _) (by unfold zi_r; omega)) (fun c => nm_e ?_) (fun c => ?_)
    · have cl : (i : Int) < ks_L m wl := by
        by_cases d : (i : Int) < ks_L m wl
        · exact d
        · have := ok.2.2.2.2.1 (i : Int) (by omega); omega
      rw [← zi_n, nI_1]
      refine hw s ⟨fun _ => h.1 (by omega), fun z => absurd z (by omega)⟩
    · have cl : ks_L m wl ≤ (i : Int) := by
        by_cases d : (i : Int) < ks_L m wl
        · have := ok.2.2.2.1 (i : Int) d; omega
        · omega
      have vi := ok.2.2.2.2.1 (i : Int) cl
      -- a new best
      have nb : (∀ t, ks_L m wl ≤ t → t < (i : Int) → ks_V m wl wa (i : Int) + p * (i : Int) ≤ ks_V m wl wa t + p * t) → wX_total_53 post (wX_total_21 post (zi p) fj 1 (nI m) a1 a2 a3 a4 a5 a6 a7 a8 a9 a10 a11 n) (zi p) (zi (i : Int)) (zi (ks_V m wl wa (i : Int))) fj 1 (nI m) a1 a2 a3 a4 a5 a6 a7 a8 a9 a10 a11 := by
        intro hb
        unfold wX_total_53
        refine nm_r (show zi (ks_V m wl wa (i : Int)) + (zi p * zi (i : Int)) = zi (ks_V m wl wa (i : Int) + p * (i : Int)) by rw [zi_mul, zi_add]) (nm_r (show zi (i : Int) + 1 = nI (i + 1) by rw [← zi_n, nI_1]) ?_)
        refine hw _ ⟨fun z => absurd z (by omega), fun _ => ⟨_, rfl, fun t t0 t1 => ?_, (i : Int), cl, by omega, rfl⟩⟩
        by_cases d : t < (i : Int)
        · exact hb t t0 d
        · rw [show t = (i : Int) by omega]; exact Int.le_refl _
      by_cases f : (i : Int) ≤ ks_L m wl
      · have e := h.1 f
        refine br_t (by rw [e]; decide) (nb (fun t t0 t1 => by omega))
      · obtain ⟨r, r1, r2, t, t1, t2, t3⟩ := h.2 (by omega)
        have pt' := pt t (by omega) (by omega)
        have vt := ok.2.2.2.2.1 t t1
        have rr : zi_r r := by unfold zi_r; omega
        rw [r1]
        refine ek_if (d := r < 0) (by rw [zi_0]; exact zi_lt rr (by unfold zi_r; omega)) (fun z => absurd z (by omega)) (fun _ => ?_)
        rw [zi_mul, zi_add]
        refine ek_if (d := r ≤ ks_V m wl wa (i : Int) + p * (i : Int)) (zi_le rr (by unfold zi_r; omega)) (fun z => nm_e ?_) (fun z => nb (fun t' u0 u1 => by have := r2 t' u0 u1; omega))
        rw [← zi_n, nI_1]
        refine hw _ ⟨fun z => absurd z (by omega), fun _ => ⟨r, rfl, fun t' u0 u1 => ?_, t, t1, by omega, t3⟩⟩
        by_cases d : t' < (i : Int)
        · exact r2 t' u0 d
        · rw [show t' = (i : Int) by omega]; exact z
end
end
section
/-! holds -/
section
variable {n : Nat} {fr to : Nat → Nat} {sl fa pr : Nat → Int} {a1 a2 a3 a4 a5 : Nat → Int32}
/-- known: the table is there -/
def wh_K (fk fw : Int32) (a10 a11 : Nat → Int32) : Prop := fk = 0 ∨ (fk = 1 ∧ ∃ m wl wa, fw = nI m ∧ sa_W m wl wa ∧ wk_T m wl wa a10 a11)
theorem wh_slowest {post : Int32 → St1 → Prop} {fk fw : Int32} {a6 a7 a8 a9 a10 a11 : Nat → Int32} (hJ : nw_J n fr to sl fa pr) (hj : wk_J n fr to sl fa pr a1 a2 a3 a4 a5) (hK : wh_K fk fw a10 a11)
    (H : ∀ m wl wa b6 b7 b8 b9 b10 b11, sa_W m wl wa → wk_T m wl wa b10 b11 → post (zi (ks_S m wl)) (nI n, 1, nI m, a1, a2, a3, a4, a5, b6, b7, b8, b9, b10, b11)) :
    wpX_slowest post (nI n, fk, fw, a1, a2, a3, a4, a5, a6, a7, a8, a9, a10, a11) := by
  unfold wpX_slowest
  dsimp only
  rcases hK with h | ⟨h, m, wl, wa, h2, h3, h4⟩
  · subst h
    exact wk_sendAll0 hJ hj (fun m wl wa b6 b7 b8 b9 b10 b11 h3 h4 => wq_slowest h3 h4 (H m wl wa b6 b7 b8 b9 b10 b11 h3 h4))
  · subst h
    subst h2
    exact wk_sendAll1 (wq_slowest h3 h4 (H m wl wa a6 a7 a8 a9 a10 a11 h3 h4))
theorem wh_72 {post : Int32 → St1 → Prop} {m : Nat} {wl wa : Nat → Int} {fj : Int32} {a6 a7 a8 a9 a10 a11 : Nat → Int32} (hW : sa_W m wl wa) (hT : wk_T m wl wa a10 a11) {p : Int} (h0 : 0 ≤ p) (h1 : p ≤ 200)
    (H : post 1 (fj, 1, nI m, a1, a2, a3, a4, a5, a6, a7, a8, a9, a10, a11)) :
    ∃ fu, wL_holds_72 post (zi p) (zi (ks_S m wl)) (zi (ks_L m wl)) fu (zi (ks_V m wl wa (ks_L m wl))) (zi (ks_V m wl wa (ks_L m wl) - ks_V m wl wa (ks_L m wl + 1))) 1000000 0 fj 1 (nI m) a1 a2 a3 a4 a5 a6 a7 a8 a9 a10 a11 := by
  have ok := ks_main hW
  obtain ⟨o1, o2, o3, o4, o5, o6, o7, o8⟩ := ok
  have rV : ∀ t, zi_r (ks_V m wl wa t) := by
    intro t
    unfold zi_r
    by_cases c : t < ks_L m wl
    · rw [o4 t c]; omega
    · have := o5 t (by omega); omega
  have pt : ∀ t : Int, 0 ≤ t → t ≤ 47 → 0 ≤ p * t ∧ p * t ≤ 9400 := by
    intro t t0 t1
    have x : 0 ≤ p * t := Int.mul_nonneg h0 t0
    have y : p * t ≤ p * 47 := Int.mul_le_mul_of_nonneg_left t1 h0
    omega
  refine pk_loop (σ := Int32 × Int32 × Int32) (fun n i s => wL_holds_72 post (zi p) (zi (ks_S m wl)) (zi (ks_L m wl)) n s.1 s.2.1 s.2.2 (nI i) fj 1 (nI m) a1 a2 a3 a4 a5 a6 a7 a8 a9 a10 a11)
    (fun i s => ∃ last step best : Int, (s.1 = zi last ∧ s.2.1 = zi step ∧ s.2.2 = zi best) ∧
      ((i : Int) ≤ ks_L m wl → last = ks_V m wl wa (ks_L m wl) ∧ step = ks_V m wl wa (ks_L m wl) - ks_V m wl wa (ks_L m wl + 1) ∧ best = 1000000) ∧
      (ks_L m wl < (i : Int) → last = ks_V m wl wa ((i : Int) - 1) ∧ step = ks_V m wl wa ((i : Int) - 1) - ks_V m wl wa (i : Int) ∧ (∀ t, ks_L m wl ≤ t → t < (i : Int) → best ≤ ks_V m wl wa t + p * t) ∧ ∃ t, ks_L m wl ≤ t ∧ t < (i : Int) ∧ best = ks_V m wl wa t + p * t))
    (ks_S m wl + 2).toNat 0 (_, _, _) (by omega) ⟨_, _, 1000000, ⟨rfl, rfl, rfl⟩, fun _ => ⟨rfl, rfl, rfl⟩, fun z => absurd z (by omega)⟩ ?_ ?_
  · intro n s ⟨last, step, best, ⟨e1, e2, e3⟩, _, hb⟩
    obtain ⟨b1, b2, b3, t, t1, t2, t3⟩ := hb (by omega)
    have pi := pt t (by omega) (by omega)
    have vi := o5 t t1
    rw [e1, e2, e3]
    refine ek_if (d := ks_S m wl + 1 < (((ks_S m wl + 2).toNat : Nat) : Int)) (by rw [zi_1, zi_add, zi_n]; exact zi_lt (by unfold zi_r; omega) (by unfold zi_r; omega)) (fun _ => ?_) (fun z => absurd z (by omega))
    refine wq_total hW hT h0 h1 (fun r r1 ⟨t', u1, u2, u3⟩ => ?_)
    have pi' := pt t' (by omega) (by omega)
    have vi' := o5 t' u1
    have e : r = best := by
      have x : r ≤ best := by
        by_cases c : t ≤ 45
        · have := r1 t t1 c; omega
        · have y := r1 45 (by omega) (by omega)
          have z := o8 45 (by omega)
          have z' := o8 t (by omega)
          have w : p * 45 ≤ p * t := Int.mul_le_mul_of_nonneg_left (by omega) h0
          omega
      have x' : best ≤ r := by
        by_cases c : t' ≤ ks_S m wl + 1
        · have := b3 t' u1 (by omega); omega
        · have y := b3 (ks_S m wl) (by omega) (by omega)
          have z := o8 (ks_S m wl) (by omega)
          have w : p * ks_S m wl ≤ p * t' := Int.mul_le_mul_of_nonneg_left (by omega) h0
          omega
      omega
    exact ek_if (zi_eq (by unfold zi_r; omega) (by unfold zi_r; omega)) (fun _ => H) (fun z => absurd e z)
  · intro n i s hi ⟨last, step, best, ⟨e1, e2, e3⟩, ha, hb⟩ hw
    have ii : (i : Int) ≤ ks_S m wl + 1 := by omega
    rw [e1, e2, e3]
    refine ek_if (d := ks_S m wl + 1 < (i : Int)) (by rw [zi_1, zi_add, zi_n]; exact zi_lt (by unfold zi_r; omega) (by unfold zi_r; omega)) (fun z => absurd z (by omega)) (fun _ => ?_)
    rw [zi_n i]
    refine wq_cost hW hT (by omega) (by omega) ?_
    refine ek_if (d := ks_L m wl ≤ (i : Int)) (zi_le (by unfold zi_r; omega) (by unfold zi_r; omega)) (fun c => ?_) (fun c => ?_)
    · -- the deadline can be met
      have vi := o5 (i : Int) c
      have vi1 := o5 ((i : Int) + 1) (by omega)
      have dn := o6 (i : Int) c
      have pi := pt (i : Int) (by omega) (by omega)
      have L1 : ks_V m wl wa (i : Int) ≤ last ∧ last ≤ 6300 := by
        by_cases d : (i : Int) ≤ ks_L m wl
        · have e : (i : Int) = ks_L m wl := by omega
          have x := (ha d).1
          rw [e] at vi ⊢
          omega
        · have x := (hb (by omega)).1
          have y := o6 ((i : Int) - 1) (by omega)
          have z := o5 ((i : Int) - 1) (by omega)
          rw [show (i : Int) - 1 + 1 = (i : Int) by omega] at y
          omega
      have L2 : ks_V m wl wa (i : Int) - ks_V m wl wa ((i : Int) + 1) ≤ step ∧ step ≤ 6300 := by
        by_cases d : (i : Int) ≤ ks_L m wl
        · have e : (i : Int) = ks_L m wl := by omega
          have x := (ha d).2.1
          rw [e] at vi vi1 ⊢
          omega
        · have x := (hb (by omega)).2.1
          have y := o7 ((i : Int) - 1) (by omega)
          have z := o5 ((i : Int) - 1) (by omega)
          rw [show (i : Int) - 1 + 1 = (i : Int) by omega, show (i : Int) - 1 + 2 = (i : Int) + 1 by omega] at y
          omega
      refine wq_step hW hT (by omega) (by omega) ?_
      rw [if_pos vi.1]
      refine ek_if (d := ks_V m wl wa (i : Int) < 0) (by rw [zi_0]; exact zi_lt (rV _) (by unfold zi_r; omega)) (fun z => absurd z (by omega)) (fun _ => ?_)
      refine ek_if (d := last < ks_V m wl wa (i : Int)) (zi_lt (by unfold zi_r; omega) (rV _)) (fun z => absurd z (by omega)) (fun _ => ?_)
      refine wq_within hW hT vi.1 (by omega) (fun r r1 r2 r3 => ?_)
      have rt : r ≤ (i : Int) := by
        by_cases d : (i : Int) ≤ 45
        · exact r3 (i : Int) (by omega) d vi.1 (by omega)
        · omega
      refine ek_if (d := (i : Int) < r) (zi_lt (by unfold zi_r; omega) (by unfold zi_r; omega)) (fun z => absurd z (by omega)) (fun _ => ?_)
      refine ek_if (d := ks_V m wl wa (i : Int) - ks_V m wl wa ((i : Int) + 1) < 0) (by rw [zi_0]; exact zi_lt (by unfold zi_r; omega) (by unfold zi_r; omega)) (fun z => absurd z (by omega)) (fun _ => ?_)
      refine ek_if (d := step < ks_V m wl wa (i : Int) - ks_V m wl wa ((i : Int) + 1)) (zi_lt (by unfold zi_r; omega) (by unfold zi_r; omega)) (fun z => absurd z (by omega)) (fun _ => ?_)
      rw [zi_1, zi_add]
      refine wq_cost hW hT (by omega) (by omega) ?_
      rw [zi_sub, zi_mul, zi_add]
      refine br_t rfl ?_
      -- the best so far
      have bb : zi_r best ∧ (∀ t, ks_L m wl ≤ t → t < (i : Int) → best ≤ ks_V m wl wa t + p * t) ∧ ((best = 1000000) ∨ ∃ t, ks_L m wl ≤ t ∧ t < (i : Int) ∧ best = ks_V m wl wa t + p * t) := by
        by_cases d : (i : Int) ≤ ks_L m wl
        · have x := (ha d).2.2
          exact ⟨by unfold zi_r; omega, fun t t0 t1 => by omega, Or.inl x⟩
        · obtain ⟨_, _, b3, t, t1, t2, t3⟩ := hb (by omega)
          have y := o5 t t1
          have z := pt t (by omega) (by omega)
          exact ⟨by unfold zi_r; omega, b3, Or.inr ⟨t, t1, t2, t3⟩⟩
      obtain ⟨q1, q2, q3⟩ := bb
      have nx : ∀ b' : Int, (∀ t, ks_L m wl ≤ t → t < (i : Int) + 1 → b' ≤ ks_V m wl wa t + p * t) → (∃ t, ks_L m wl ≤ t ∧ t < (i : Int) + 1 ∧ b' = ks_V m wl wa t + p * t) →
          wL_holds_72 post (zi p) (zi (ks_S m wl)) (zi (ks_L m wl)) n (zi (ks_V m wl wa (i : Int))) (zi (ks_V m wl wa (i : Int) - ks_V m wl wa ((i : Int) + 1))) (zi b') (nI (i + 1)) fj 1 (nI m) a1 a2 a3 a4 a5 a6 a7 a8 a9 a10 a11 := by
        intro b' g1 g2
        refine hw (_, _, _) ⟨_, _, b', ⟨rfl, rfl, rfl⟩, fun z => absurd z (by omega), fun _ => ?_⟩
        rw [show ((i + 1 : Nat) : Int) - 1 = (i : Int) by omega, show ((i + 1 : Nat) : Int) = (i : Int) + 1 by omega]
        exact ⟨rfl, rfl, g1, g2⟩
      refine ek_if (d := best ≤ ks_V m wl wa (i : Int) + p * (i : Int)) (zi_le q1 (by unfold zi_r; omega)) (fun z => nm_r (show zi ((i : Int) + 1) = nI (i + 1) by rw [zi_n]; rfl) (nx best (fun t t0 t1 => ?_) ?_)) (fun z => nm_e (nm_r (show zi ((i : Int) + 1) = nI (i + 1) by rw [zi_n]; rfl) (nx _ (fun t t0 t1 => ?_) ⟨(i : Int), c, by omega, rfl⟩)))
      · by_cases d : t < (i : Int)
        · exact q2 t t0 d
        · rw [show t = (i : Int) by omega]; exact z
      · rcases q3 with q3 | ⟨t, t1, t2, t3⟩
        · omega
        · exact ⟨t, t1, by omega, t3⟩
      · by_cases d : t < (i : Int)
        · have := q2 t t0 d; omega
        · rw [show t = (i : Int) by omega]; exact Int.le_refl _
    · -- too early
      have v := o4 (i : Int) (by omega)
      rw [v]
      refine br_t rfl (wq_step hW hT (by omega) (by omega) ?_)
      rw [v, if_neg (by omega)]
      refine br_t rfl (nm_r (show zi (i : Int) + 1 = nI (i + 1) by rw [← zi_n, nI_1]) (hw (_, _, _) ⟨last, step, best, ⟨rfl, rfl, rfl⟩, fun _ => ha (by omega), fun z => absurd z (by omega)⟩))
theorem wh_holds {post : Int32 → St1 → Prop} {fk fw : Int32} {a6 a7 a8 a9 a10 a11 : Nat → Int32} (hJ : nw_J n fr to sl fa pr) (hj : wk_J n fr to sl fa pr a1 a2 a3 a4 a5) (hK : wh_K fk fw a10 a11) {p : Int} (h0 : 0 ≤ p) (h1 : p ≤ 200)
    (H : ∀ m wl wa b6 b7 b8 b9 b10 b11, sa_W m wl wa → wk_T m wl wa b10 b11 → post 1 (nI n, 1, nI m, a1, a2, a3, a4, a5, b6, b7, b8, b9, b10, b11)) :
    wpL_holds post (nI n, fk, fw, a1, a2, a3, a4, a5, a6, a7, a8, a9, a10, a11) (zi p) := by
  unfold wpL_holds
  dsimp only
  refine wh_slowest hJ hj hK (fun m wl wa b6 b7 b8 b9 b10 b11 hW hT => ?_)
  have ok := ks_main hW
  obtain ⟨o1, o2, o3, o4, o5, o6, o7, o8⟩ := ok
  have vL := o5 (ks_L m wl) (Int.le_refl _)
  dsimp only
  refine wq_fastest hW hT ?_
  dsimp only
  refine ek_if (d := ks_S m wl < ks_L m wl) (zi_lt (by unfold zi_r; omega) (by unfold zi_r; omega)) (fun z => absurd z (by omega)) (fun _ => ?_)
  refine ek_if (d := ks_L m wl < 0) (by rw [zi_0]; exact zi_lt (by unfold zi_r; omega) (by unfold zi_r; omega)) (fun z => absurd z (by omega)) (fun _ => ?_)
  refine ek_if (d := 45 < ks_S m wl) (by rw [show (45 : Int32) = zi 45 from rfl]; exact zi_lt (by unfold zi_r; omega) (by unfold zi_r; omega)) (fun z => absurd z (by omega)) (fun _ => ?_)
  refine wq_cost hW hT (by omega) (by omega) ?_
  dsimp only
  rw [o8 (ks_S m wl) (Int.le_refl _)]
  refine br_t rfl (wq_cost hW hT (by omega) (by omega) ?_)
  dsimp only
  refine ek_if (d := ks_V m wl wa (ks_L m wl) < 0) (by rw [zi_0]; exact zi_lt (by unfold zi_r; omega) (by unfold zi_r; omega)) (fun z => absurd z (by omega)) (fun _ => ?_)
  refine wq_total (p := 0) hW hT (by omega) (by omega) (fun r r1 ⟨t, t1, t2, t3⟩ => ?_)
  have x := r1 (ks_S m wl) o2 o3
  rw [o8 (ks_S m wl) (Int.le_refl _)] at x
  have y := o5 t t1
  have e : r = 0 := by omega
  rw [e]
  dsimp only
  refine br_t rfl (wq_cost hW hT (by omega) (by omega) ?_)
  dsimp only
  refine wq_step hW hT (by omega) (by omega) ?_
  dsimp only
  rw [if_pos vL.1]
  exact wh_72 hW hT h0 h1 (H m wl wa b6 b7 b8 b9 b10 b11 hW hT)
end
end
section
/-! add, drop, price -/
section
variable {n : Nat} {fr to : Nat → Nat} {sl fa pr : Nat → Int} {fk fw : Int32} {a1 a2 a3 a4 a5 a6 a7 a8 a9 a10 a11 : Nat → Int32}
theorem we_add {post : Int32 → St1 → Prop} (hJ : nw_J n fr to sl fa pr) (hj : wk_J n fr to sl fa pr a1 a2 a3 a4 a5) {F T S A P : Nat} (h1 : F < T) (h2 : T ≤ 5) (h3 : A ≤ S) (h4 : S ≤ 9) (h5 : S ≤ A + 3) (h6 : 1 ≤ P) (h7 : P ≤ 20)
    (H7 : n = 7 → post (-1) (nI n, fk, fw, a1, a2, a3, a4, a5, a6, a7, a8, a9, a10, a11))
    (H : n < 7 → ∀ fr' to' sl' fa' pr' b1 b2 b3 b4 b5, nw_J (n + 1) fr' to' sl' fa' pr' → wk_J (n + 1) fr' to' sl' fa' pr' b1 b2 b3 b4 b5 → post (nI (n + 1)) (nI (n + 1), 0, fw, b1, b2, b3, b4, b5, a6, a7, a8, a9, a10, a11)) :
    wpX_add post (nI n, fk, fw, a1, a2, a3, a4, a5, a6, a7, a8, a9, a10, a11) (nI F) (nI T) (nI S) (nI A) (nI P) := by
  have hn := hJ.1
  unfold wpX_add
  dsimp only
  refine br_f (nI_pos (by omega)) (pk_le T F (fun z => absurd z (by omega)) (fun _ => pk_lt 5 T (fun z => absurd z (by omega)) (fun _ => ?_)))
  unfold wX_add_19
  rw [pk_sub h3]
  refine br_f (nI_pos (by omega)) (pk_lt S A (fun z => absurd z (by omega)) (fun _ => pk_lt 9 S (fun z => absurd z (by omega)) (fun _ => pk_lt 3 (S - A) (fun z => absurd z (by omega)) (fun _ => ?_))))
  unfold wX_add_51
  refine pk_le 7 n (fun z => H7 (by omega)) (fun z => br_f (by decide) (br_f (by decide) (pk_lt P 1 (fun z => absurd z (by omega)) (fun _ => pk_le P 20 (fun _ => ?_) (fun z => absurd z (by omega))))))
  have i7 := pk_in (x := nI n) n 7 z
  refine ⟨i7, nm_e ⟨i7, nm_e ⟨i7, nm_e ⟨i7, nm_e ⟨i7, nm_e (nm_r (nI_1 n) ?_)⟩⟩⟩⟩⟩
  rw [nI_clamp (by omega)]
  refine H z (bf_up fr n F) (bf_up to n T) (bf_up sl n S) (bf_up fa n A) (bf_up pr n P) _ _ _ _ _ ⟨by omega, fun j hj' => ?_⟩ (fun j hj' => ?_)
  · by_cases e : j = n
    · rw [e, bf_us, bf_us, bf_us, bf_us, bf_us]; omega
    · rw [bf_un e, bf_un e, bf_un e, bf_un e, bf_un e]; exact hJ.2 j (by omega)
  · by_cases e : j = n
    · rw [e, bf_us, bf_us, bf_us, bf_us, bf_us, pk_us, pk_us, pk_us, pk_us, pk_us]
      exact ⟨rfl, rfl, zi_n S, zi_n A, zi_n P⟩
    · rw [bf_un e, bf_un e, bf_un e, bf_un e, bf_un e, pk_un e, pk_un e, pk_un e, pk_un e, pk_un e]; exact hj j (by omega)
theorem we_price {post : Int32 → St1 → Prop} (hJ : nw_J n fr to sl fa pr) (hj : wk_J n fr to sl fa pr a1 a2 a3 a4 a5) {k P : Nat} (hk : k < n) (h6 : 1 ≤ P) (h7 : P ≤ 20)
    (H : ∀ x pr' b5, nw_J n fr to sl fa pr' → wk_J n fr to sl fa pr' a1 a2 a3 a4 b5 → post x (nI n, 0, fw, a1, a2, a3, a4, b5, a6, a7, a8, a9, a10, a11)) :
    wpX_price post (nI n, fk, fw, a1, a2, a3, a4, a5, a6, a7, a8, a9, a10, a11) (nI k) (nI P) := by
  have hn := hJ.1
  unfold wpX_price
  dsimp only
  have i7 := pk_in (x := nI k) k 7 (by omega)
  refine br_f (nI_pos (by omega)) (pk_le n k (fun z => absurd z (by omega)) (fun _ => pk_lt P 1 (fun z => absurd z (by omega)) (fun _ => pk_le P 20 (fun _ => ⟨i7, nm_e ⟨i7, nm_e ?_⟩⟩) (fun z => absurd z (by omega)))))
  rw [nI_clamp (by omega)]
  refine H _ (bf_up pr k P) _ ⟨hn, fun j hj' => ?_⟩ (fun j hj' => ?_)
  · have g := hJ.2 j hj'
    by_cases e : j = k
    · rw [e] at g ⊢
      rw [bf_us]; omega
    · rw [bf_un e]; exact g
  · have g := hj j hj'
    by_cases e : j = k
    · rw [e] at g ⊢
      rw [bf_us, pk_us]
      exact ⟨g.1, g.2.1, g.2.2.1, g.2.2.2.1, zi_n P⟩
    · rw [bf_un e, pk_un e]; exact g
def we_sh (k x : Nat) (a b : Nat → Int32) : Prop := ∀ j, j < 7 → b j = if k ≤ j ∧ j < x then a (j + 1) else a j
theorem we_sh_s {k x : Nat} {a b : Nat → Int32} (h : we_sh k x a b) (hk : k ≤ x) (hx : x < 6) : we_sh k (x + 1) a (upd b x (b (x + 1))) := by
  intro j hj
  by_cases e : j = x
  · rw [e, pk_us, h (x + 1) (by omega), if_neg (by omega), if_pos (by omega)]
  · rw [pk_un e, h j hj]
    by_cases c : k ≤ j ∧ j < x
    · rw [if_pos c, if_pos (by omega)]
    · rw [if_neg c, if_neg (by omega)]
theorem we_drop {post : Int32 → St1 → Prop} (hJ : nw_J n fr to sl fa pr) (hj : wk_J n fr to sl fa pr a1 a2 a3 a4 a5) {k : Nat} (hk : k < n)
    (H : ∀ fr' to' sl' fa' pr' b1 b2 b3 b4 b5, nw_J (n - 1) fr' to' sl' fa' pr' → wk_J (n - 1) fr' to' sl' fa' pr' b1 b2 b3 b4 b5 → post (nI (n - 1)) (nI (n - 1), 0, fw, b1, b2, b3, b4, b5, a6, a7, a8, a9, a10, a11)) :
    wpX_drop post (nI n, fk, fw, a1, a2, a3, a4, a5, a6, a7, a8, a9, a10, a11) (nI k) := by
  have hn := hJ.1
  unfold wpX_drop
  dsimp only
  have e1 : nI n - 1 = nI (n - 1) := by
    have := nI_pred (n - 1)
    rw [show n - 1 + 1 = n by omega] at this
    exact this
  refine br_f (nI_pos (by omega)) (pk_lt k n (fun _ => nm_r e1 ?_) (fun z => absurd z (by omega)))
  refine pk_loop (σ := (Nat → Int32) × (Nat → Int32) × (Nat → Int32) × (Nat → Int32) × (Nat → Int32)) (fun m x s => wX_drop_26 post (nI (n - 1)) fk fw m (nI x) s.1 s.2.1 s.2.2.1 s.2.2.2.1 s.2.2.2.2 a6 a7 a8 a9 a10 a11)
    (fun x s => k ≤ x ∧ we_sh k x a1 s.1 ∧ we_sh k x a2 s.2.1 ∧ we_sh k x a3 s.2.2.1 ∧ we_sh k x a4 s.2.2.2.1 ∧ we_sh k x a5 s.2.2.2.2) (n - 1) k (a1, a2, a3, a4, a5) (by omega) ?_ ?_ ?_
  · have g : ∀ a : Nat → Int32, we_sh k k a a := fun a j _ => by rw [if_neg (by omega)]
    exact ⟨Nat.le_refl _, g _, g _, g _, g _, g _⟩
  · intro m s ⟨_, s1, s2, s3, s4, s5⟩
    refine pk_le (n - 1) (n - 1) (fun _ => ?_) (fun z => absurd z (by omega))
    refine H (fun j => fr (if k ≤ j then j + 1 else j)) (fun j => to (if k ≤ j then j + 1 else j)) (fun j => sl (if k ≤ j then j + 1 else j)) (fun j => fa (if k ≤ j then j + 1 else j)) (fun j => pr (if k ≤ j then j + 1 else j)) _ _ _ _ _ ⟨by omega, fun j hj' => ?_⟩ (fun j hj' => ?_)
    · exact hJ.2 _ (by split <;> omega)
    · rw [s1 j (by omega), s2 j (by omega), s3 j (by omega), s4 j (by omega), s5 j (by omega)]
      by_cases c : k ≤ j
      · have c2 : k ≤ j ∧ j < n - 1 := ⟨c, hj'⟩
        simp only [if_pos c, if_pos c2]
        exact hj (j + 1) (by omega)
      · have c2 : ¬ (k ≤ j ∧ j < n - 1) := fun z => c z.1
        simp only [if_neg c, if_neg c2]
        exact hj j (by omega)
  · intro m x s hx ⟨s0, s1, s2, s3, s4, s5⟩ hw
    have i1 := pk_in (x := nI x + 1) (x + 1) 7 (by omega) (nI_1 x)
    have i0 := pk_in (x := nI x) x 7 (by omega)
    refine pk_le (n - 1) x (fun z => absurd z (by omega)) (fun _ => ⟨i1, i0, nm_e ⟨i1, i0, nm_e ⟨i1, i0, nm_e ⟨i1, i0, nm_e ⟨i1, i0, nm_e (nm_r (nI_1 x) ?_)⟩⟩⟩⟩⟩)
    rw [nI_1, nI_clamp (by omega), nI_clamp (by omega)]
    exact hw (_, _, _, _, _) ⟨by omega, we_sh_s s1 s0 (by omega), we_sh_s s2 s0 (by omega), we_sh_s s3 s0 (by omega), we_sh_s s4 s0 (by omega), we_sh_s s5 s0 (by omega)⟩
end
end
section
/-! the law's loop -/
section
variable {L : Nat} {xs : Nat → Int32} {kc ks : Nat}
theorem wl_238 {n : Nat} {fr to : Nat → Nat} {sl fa pr : Nat → Int} {fk fw : Int32} {a1 a2 a3 a4 a5 a6 a7 a8 a9 a10 a11 : Nat → Int32} (hJ : nw_J n fr to sl fa pr) (hj : wk_J n fr to sl fa pr a1 a2 a3 a4 a5) (hK : wh_K fk fw a10 a11) :
    wL_law_238 (fun r => r = 1) L xs kc ks (nI n) fk fw a1 a2 a3 a4 a5 a6 a7 a8 a9 a10 a11 := by
  unfold wL_law_238
  exact wh_holds (p := 3) hJ hj hK (by omega) (by omega) (fun m wl wa b6 b7 b8 b9 b10 b11 _ _ => rfl)
theorem wl_212 {J12 : Int32 → Int32 → Int32 → Int32 → Int32 → (Nat → Int32) → (Nat → Int32) → (Nat → Int32) → (Nat → Int32) → (Nat → Int32) → (Nat → Int32) → (Nat → Int32) → (Nat → Int32) → (Nat → Int32) → (Nat → Int32) → (Nat → Int32) → Prop}
    {n : Nat} {fr to : Nat → Nat} {sl fa pr : Nat → Int} {fk fw : Int32} {a1 a2 a3 a4 a5 a6 a7 a8 a9 a10 a11 : Nat → Int32} (hJ : nw_J n fr to sl fa pr) (hj : wk_J n fr to sl fa pr a1 a2 a3 a4 a5) (hK : wh_K fk fw a10 a11) {c : Nat} (hc : 5 * c + 5 ≤ L) (hL : L ≤ 260) {x2 : Int32}
    (H : ∀ fk' fw' b6 b7 b8 b9 b10 b11, wh_K fk' fw' b10 b11 → J12 x2 (nI (5 * (c + 1))) (nI n) fk' fw' a1 a2 a3 a4 a5 b6 b7 b8 b9 b10 b11) :
    wL_law_212 (fun r => r = 1) L xs J12 x2 (nI (5 * c)) kc ks (nI n) fk fw a1 a2 a3 a4 a5 a6 a7 a8 a9 a10 a11 := by
  unfold wL_law_212
  obtain ⟨j, hj1, hj2⟩ := pk_andE (xs (nI (5 * c) + 4).toNatClampNeg >>> ((8 : Int32) &&& 31)) (m := 127) 7 (by decide)
  rw [hj2, zi_n j]
  refine ⟨pk_in (5 * c + 4) L (by omega) (nI_add (5 * c) 4) (by omega), wh_holds hJ hj hK (by omega) (by omega) (fun m wl wa b6 b7 b8 b9 b10 b11 h3 h4 => ?_)⟩
  exact br_f (by decide) (nm_r (nI_add (5 * c) 5) (H _ _ _ _ _ _ _ _ (Or.inr ⟨rfl, m, wl, wa, rfl, h3, h4⟩)))
theorem wl_12 (hL : L ≤ 260) : ∀ (d c n : Nat) (fr to : Nat → Nat) (sl fa pr : Nat → Int) (fk fw : Int32) (a1 a2 a3 a4 a5 a6 a7 a8 a9 a10 a11 : Nat → Int32), c + d = 20 → nw_J n fr to sl fa pr → wk_J n fr to sl fa pr a1 a2 a3 a4 a5 → wh_K fk fw a10 a11 →
    wL_law_12 (fun r => r = 1) L xs kc ks (d + 1) (nI n) (nI (5 * c)) (nI n) fk fw a1 a2 a3 a4 a5 a6 a7 a8 a9 a10 a11 := by
  intro d
  induction d with
  | zero =>
    intro c n fr to sl fa pr fk fw a1 a2 a3 a4 a5 a6 a7 a8 a9 a10 a11 hc hJ hj hK
    exact br_c (fun _ => wl_238 hJ hj hK) (fun _ => pk_le 100 (5 * c) (fun _ => wl_238 hJ hj hK) (fun z => absurd z (by omega)))
  | succ d ih =>
    intro c n fr to sl fa pr fk fw a1 a2 a3 a4 a5 a6 a7 a8 a9 a10 a11 hc hJ hj hK
    have hn := hJ.1
    refine pk_lt L (5 * c + 5) (fun _ => wl_238 hJ hj hK) (fun h5 => pk_le 100 (5 * c) (fun _ => wl_238 hJ hj hK) (fun _ => ?_)) rfl (nI_add (5 * c) 5)
    have i0 := pk_in (x := nI (5 * c)) (5 * c) L (by omega) rfl (by omega)
    have i1 := pk_in (x := nI (5 * c) + 1) (5 * c + 1) L (by omega) (nI_add (5 * c) 1) (by omega)
    have i2 := pk_in (x := nI (5 * c) + 2) (5 * c + 2) L (by omega) (nI_add (5 * c) 2) (by omega)
    have i3 := pk_in (x := nI (5 * c) + 3) (5 * c + 3) L (by omega) (nI_add (5 * c) 3) (by omega)
    have i4 := pk_in (x := nI (5 * c) + 4) (5 * c + 4) L (by omega) (nI_add (5 * c) 4) (by omega)
    obtain ⟨k, k1, k2⟩ := pk_andE (xs (nI (5 * c)).toNatClampNeg) (m := 7) 3 (by decide)
    obtain ⟨j1, j1h, j1e⟩ := pk_andE (xs (nI (5 * c) + 1).toNatClampNeg) (m := 255) 8 (by decide)
    obtain ⟨j2, j2h, j2e⟩ := pk_andE (xs (nI (5 * c) + 1).toNatClampNeg >>> ((8 : Int32) &&& 31)) (m := 255) 8 (by decide)
    obtain ⟨j3, j3h, j3e⟩ := pk_andE (xs (nI (5 * c) + 2).toNatClampNeg) (m := 255) 8 (by decide)
    obtain ⟨j4, j4h, j4e⟩ := pk_andE (xs (nI (5 * c) + 3).toNatClampNeg) (m := 3) 2 (by decide)
    obtain ⟨j5, j5h, j5e⟩ := pk_andE (xs (nI (5 * c) + 4).toNatClampNeg) (m := 255) 8 (by decide)
    rw [k2, j1e, j2e, j3e, j4e, j5e]
    have f1 : j1 % 5 < 5 := Nat.mod_lt _ (by omega)
    have e5 : (5 : Int32) - nI (j1 % 5) = nI (5 - j1 % 5) := pk_sub (a := 5) (by omega)
    have m2 : j2 % (5 - j1 % 5) < 5 - j1 % 5 := Nat.mod_lt _ (by omega)
    have m3 : j3 % 7 < 7 := Nat.mod_lt _ (by omega)
    have m5 : j5 % 20 < 20 := Nat.mod_lt _ (by omega)
    refine ⟨i0, nm_e ⟨i1, by decide, nm_r (pk_rem (d := 5) (by omega) (by omega) (by omega)) ⟨i1, ?_⟩⟩⟩
    rw [e5]
    refine ⟨nI_ne0 (by omega) (by omega), nm_r (e' := nI (j1 % 5 + 1 + j2 % (5 - j1 % 5))) (by rw [pk_rem (by omega) (by omega) (by omega), nI_1, nI_add]) ⟨i2, by decide, nm_r (pk_rem (d := 7) (by omega) (by omega) (by omega)) ⟨i3, nm_r (nI_add _ _) ⟨i4, by decide, nm_r (e' := nI (1 + j5 % 20)) (by rw [show nI j5 - nI j5 / 20 * 20 = nI (j5 % 20) from pk_rem (d := 20) (by omega) (by omega) (by omega)]; exact nI_add 1 _) ?_⟩⟩⟩⟩
    -- after the change: holds, and on
    have nx : ∀ (n' : Nat) fr' to' sl' fa' pr' fk' fw' b1 b2 b3 b4 b5 b6 b7 b8 b9 b10 b11, nw_J n' fr' to' sl' fa' pr' → wk_J n' fr' to' sl' fa' pr' b1 b2 b3 b4 b5 → wh_K fk' fw' b10 b11 →
        wL_law_212 (fun r => r = 1) L xs (wL_law_12 (fun r => r = 1) L xs kc ks (d + 1)) (nI n') (nI (5 * c)) kc ks (nI n') fk' fw' b1 b2 b3 b4 b5 b6 b7 b8 b9 b10 b11 :=
      fun n' fr' to' sl' fa' pr' fk' fw' b1 b2 b3 b4 b5 b6 b7 b8 b9 b10 b11 g1 g2 g3 => wl_212 g1 g2 g3 (by omega) hL (fun fk'' fw'' c6 c7 c8 c9 c10 c11 g4 => ih (c + 1) n' fr' to' sl' fa' pr' fk'' fw'' b1 b2 b3 b4 b5 c6 c7 c8 c9 c10 c11 (by omega) g1 g2 g4)
    refine pk_lt 5 k (fun hk => ?_) (fun hk => ?_)
    · refine pk_le n 0 (fun _ => nx n fr to sl fa pr fk fw _ _ _ _ _ _ _ _ _ _ _ hJ hj hK) (fun hn0 => ⟨i1, nI_ne0 hn0 (by omega), nm_r (pk_rem (by omega) (by omega) (by omega)) ?_⟩)
      have mk : j1 % n < n := Nat.mod_lt _ hn0
      refine pk_eq k 6 (fun _ => ?_) (fun _ => ?_)
      · exact we_price hJ hj mk (by omega) (by omega) (fun x pr' b5 g1 g2 => nx n fr to sl fa pr' _ _ _ _ _ _ _ _ _ _ _ _ _ g1 g2 (Or.inl rfl))
      · exact we_drop hJ hj mk (fun fr' to' sl' fa' pr' b1 b2 b3 b4 b5 g1 g2 => nx (n - 1) fr' to' sl' fa' pr' _ _ _ _ _ _ _ _ _ _ _ _ _ g1 g2 (Or.inl rfl))
    · refine we_add hJ hj (by omega) (by omega) (by omega) (by omega) (by omega) (by omega) (by omega) (fun n7 => ?_) (fun n7 fr' to' sl' fa' pr' b1 b2 b3 b4 b5 g1 g2 => ?_)
      · subst n7
        refine br_t rfl ?_
        unfold wL_law_146
        refine br_t rfl (br_t rfl ?_)
        unfold wL_law_165
        exact nx 7 fr to sl fa pr fk fw _ _ _ _ _ _ _ _ _ _ _ hJ hj hK
      · refine pk_eq n 7 (fun z => absurd z (by omega)) (fun _ => ?_)
        unfold wL_law_146
        refine br_t (nI_1 n).symm (pk_eq n 7 (fun z => absurd z (by omega)) (fun _ => ?_))
        unfold wL_law_165
        rw [nI_1]
        exact nx (n + 1) fr' to' sl' fa' pr' _ _ _ _ _ _ _ _ _ _ _ _ _ g1 g2 (Or.inl rfl)
end
theorem i_vc (xs : Nat → Int32) (L : Nat) (hL : L ≤ 260) : wpL_law (fun r => r = 1) L xs := by
  refine ⟨11, 367, by omega, by omega, ?_⟩
  unfold wpX_init
  refine ⟨by omega, by omega, by omega, by omega, by omega, by omega, by omega, by omega, by omega, by omega, by omega, by omega, by omega, by omega, by omega, by omega, by omega, by omega, by omega, by omega, by omega, by omega, 20 + 1, ?_⟩
  exact wl_12 hL 20 0 0 (fun _ => 0) (fun _ => 0) (fun _ => 0) (fun _ => 0) (fun _ => 0) 0 0 _ _ _ _ _ _ _ _ _ _ _ (by omega) ⟨by omega, fun j hj => absurd hj (by omega)⟩ (fun j hj => absurd hj (by omega)) (Or.inl rfl)
end
