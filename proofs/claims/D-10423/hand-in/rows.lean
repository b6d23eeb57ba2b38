section
/-! ===== the pure picture: n t actions of thread t, ac t i the code of its action i (l: takes l; l + 8: gives l) ===== -/
def lo_w (t : Nat) : Nat := if t = 0 then 343 else if t = 1 then 49 else if t = 2 then 7 else 1
def lo_d (s t : Nat) : Nat := s / lo_w t % 7
def lo_b (h l : Nat) : Nat := h / 2 ^ l % 2
def lo_step (h c : Nat) : Nat := if c < 8 then h ||| 2 ^ c else h &&& (31 ^^^ 2 ^ (c - 8))
def lo_H (ac : Nat → Nat → Nat) (t : Nat) : Nat → Nat
  | 0 => 0
  | i + 1 => lo_step (lo_H ac t i) (ac t i)
def lo_act (c : Nat) : Int32 := if c < 8 then nI c else (-1) - nI (c - 8)
def lo_C (h c : Nat) : Prop := (c < 5 ∧ lo_b h c = 0) ∨ (8 ≤ c ∧ c < 13)
/-- the picture is well formed -/
def lo_P (n : Nat → Nat) (ac : Nat → Nat → Nat) : Prop := (∀ t, t < 4 → n t ≤ 6) ∧ (∀ t, t < 4 → ∀ i, i < n t → lo_C (lo_H ac t i) (ac t i))
/-- count, action, held match the picture -/
def lo_K (n : Nat → Nat) (ac : Nat → Nat → Nat) (a1 a2 a3 : Nat → Int32) : Prop := (∀ t, t < 4 → a1 t = nI (n t)) ∧ (∀ t, t < 4 → ∀ i, i < n t → a2 (6 * t + i) = lo_act (ac t i)) ∧ (∀ t, t < 4 → ∀ i, i ≤ n t → a3 (7 * t + i) = nI (lo_H ac t i))
def lo_lsum (n : Nat → Nat) : Nat → Nat
  | 0 => 0
  | i + 1 => lo_lsum n i + n i * lo_w i
def lo_last (n : Nat → Nat) : Nat := lo_lsum n 4
/-- a state that may be reached: digits within the counts, held sets apart -/
def lo_Ok (n : Nat → Nat) (ac : Nat → Nat → Nat) (s : Nat) : Prop := (∀ t, t < 4 → lo_d s t ≤ n t) ∧ (∀ t, t < 4 → ∀ q, q < 4 → q ≠ t → lo_H ac t (lo_d s t) &&& lo_H ac q (lo_d s q) = 0)
def lo_oth (ac : Nat → Nat → Nat) (s t : Nat) : Nat → Nat
  | 0 => 0
  | q + 1 => if q = t then lo_oth ac s t q else lo_oth ac s t q ||| lo_H ac q (lo_d s q)
def lo_may (n : Nat → Nat) (ac : Nat → Nat → Nat) (s t : Nat) : Prop := lo_d s t < n t ∧ (8 ≤ ac t (lo_d s t) ∨ lo_b (lo_oth ac s t 4) (ac t (lo_d s t)) = 0)
/-- a finished thread holds a lock that an unfinished one asks for -/
def lo_wt (n : Nat → Nat) (ac : Nat → Nat → Nat) (s : Nat) : Prop := ∃ t, t < 4 ∧ ∃ q, q < 4 ∧ lo_d s t = n t ∧ lo_d s q < n q ∧ ac q (lo_d s q) < 5 ∧ lo_b (lo_H ac t (n t)) (ac q (lo_d s q)) = 1
/-- every thread has held one lock at most -/
def lo_sg (n : Nat → Nat) (ac : Nat → Nat → Nat) : Prop := ∀ t, t < 4 → ∀ i, i ≤ n t → lo_H ac t i &&& (lo_H ac t i - 1) = 0
/-! ===== finite facts ===== -/
theorem lo_step_lt : ∀ h, h < 32 → ∀ c, c < 13 → (c < 5 ∨ 8 ≤ c) → lo_step h c < 32 := by decide +kernel
theorem lo_b_or : ∀ a, a < 32 → ∀ b, b < 32 → ∀ l, l < 5 → (lo_b (a ||| b) l = 0 ↔ lo_b a l = 0 ∧ lo_b b l = 0) := by decide +kernel
theorem lo_b_and : ∀ a, a < 32 → ∀ b, b < 32 → ∀ l, l < 5 → a &&& b = 0 → lo_b a l = 1 → lo_b b l = 0 := by decide +kernel
def lo_disB (a b c : Nat) : Bool := !(decide (a &&& b = 0) && (decide (8 ≤ c) || (decide (c < 5) && decide (lo_b b c = 0)))) || decide (lo_step a c &&& b = 0)
theorem lo_disT : ∀ a, a < 32 → ∀ b, b < 32 → ∀ c, c < 13 → lo_disB a b c = true := by decide +kernel
theorem lo_step_dis (a : Nat) (ha : a < 32) (b : Nat) (hb : b < 32) (c : Nat) (hc : c < 13) (h1 : a &&& b = 0) (h2 : 8 ≤ c ∨ (c < 5 ∧ lo_b b c = 0)) : lo_step a c &&& b = 0 := by
  have h := lo_disT a ha b hb c hc
  unfold lo_disB at h
  simp only [Bool.or_eq_true, Bool.not_eq_true', Bool.and_eq_false_imp, Bool.and_eq_true, decide_eq_true_eq, decide_eq_false_iff_not] at h
  rcases h with h | h
  · exfalso
    have h3 := h h1
    simp only [Bool.or_eq_false_iff, Bool.and_eq_false_imp, decide_eq_false_iff_not, decide_eq_true_eq] at h3
    rcases h2 with h2 | ⟨h2, h4⟩
    · exact h3.1 h2
    · exact h3.2 h2 h4
  · exact h
theorem lo_step_two : ∀ h, h < 32 → ∀ c, c < 5 → h ≠ 0 → lo_b h c = 0 → ¬ lo_step h c &&& (lo_step h c - 1) = 0 := by decide +kernel
theorem lo_or_lt {a b : Nat} (ha : a < 32) (hb : b < 32) : a ||| b < 32 := Nat.or_lt_two_pow (n := 5) ha hb
theorem lo_b01 (h l : Nat) : lo_b h l = 0 ∨ lo_b h l = 1 := Nat.mod_two_eq_zero_or_one _
theorem lo_b_0 (l : Nat) : lo_b 0 l = 0 := by unfold lo_b; rw [Nat.zero_div]
/-! ===== what is held ===== -/
theorem lo_H_lt {n : Nat → Nat} {ac : Nat → Nat → Nat} (hP : lo_P n ac) {t : Nat} (ht : t < 4) : ∀ i, i ≤ n t → lo_H ac t i < 32 := by
  intro i
  induction i with
  | zero => intro _; show 0 < 32; decide
  | succ i ih =>
    intro hi
    have h1 := ih (by omega)
    have h2 := hP.2 t ht i (by omega)
    show lo_step (lo_H ac t i) (ac t i) < 32
    rcases h2 with ⟨h3, _⟩ | ⟨h3, h4⟩
    · exact lo_step_lt _ h1 _ (by omega) (Or.inl h3)
    · exact lo_step_lt _ h1 _ h4 (Or.inr h3)
theorem lo_H_congr {ac ac' : Nat → Nat → Nat} {t : Nat} : ∀ i, (∀ j, j < i → ac t j = ac' t j) → lo_H ac t i = lo_H ac' t i := by
  intro i
  induction i with
  | zero => intro _; rfl
  | succ i ih =>
    intro h
    show lo_step (lo_H ac t i) (ac t i) = lo_step (lo_H ac' t i) (ac' t i)
    rw [ih (fun j hj => h j (by omega)), h i (by omega)]
/-! ===== digits ===== -/
theorem lo_w0 : lo_w 0 = 343 := rfl
theorem lo_w1 : lo_w 1 = 49 := rfl
theorem lo_w2 : lo_w 2 = 7 := rfl
theorem lo_w3 : lo_w 3 = 1 := rfl
theorem lo_w_pos (t : Nat) : 0 < lo_w t := by unfold lo_w; split <;> (try split) <;> (try split) <;> omega
theorem lo_w_le (t : Nat) : lo_w t ≤ 343 := by unfold lo_w; split <;> (try split) <;> (try split) <;> omega
theorem lo_d_lt (s t : Nat) : lo_d s t < 7 := Nat.mod_lt _ (by decide)
theorem lo_d_0 (t : Nat) : lo_d 0 t = 0 := by unfold lo_d; rw [Nat.zero_div]
theorem lo_four {t : Nat} (h : t < 4) : t = 0 ∨ t = 1 ∨ t = 2 ∨ t = 3 := by omega
theorem lo_d_step {s t : Nat} (hs : s < 2401) (ht : t < 4) (h : lo_d s t < 6) : s + lo_w t < 2401 ∧ lo_d (s + lo_w t) t = lo_d s t + 1 ∧ ∀ q, q < 4 → q ≠ t → lo_d (s + lo_w t) q = lo_d s q := by
  rcases lo_four ht with rfl | rfl | rfl | rfl
  all_goals
    refine ⟨?_, ?_, fun q hq hn => ?_⟩
    · simp only [lo_d, lo_w0, lo_w1, lo_w2, lo_w3] at h ⊢
      omega
    · simp only [lo_d, lo_w0, lo_w1, lo_w2, lo_w3] at h ⊢
      omega
    · rcases lo_four hq with rfl | rfl | rfl | rfl
      all_goals
        simp only [lo_d, lo_w0, lo_w1, lo_w2, lo_w3] at h ⊢
        omega
theorem lo_last_eq (n : Nat → Nat) : lo_last n = n 0 * 343 + n 1 * 49 + n 2 * 7 + n 3 := by
  show 0 + n 0 * 343 + n 1 * 49 + n 2 * 7 + n 3 * 1 = _
  omega
theorem lo_last_lt {n : Nat → Nat} (h : ∀ t, t < 4 → n t ≤ 6) : lo_last n < 2401 := by
  have h0 := h 0 (by decide)
  have h1 := h 1 (by decide)
  have h2 := h 2 (by decide)
  have h3 := h 3 (by decide)
  rw [lo_last_eq]
  omega
theorem lo_recon {s : Nat} (hs : s < 2401) : 343 * lo_d s 0 + 49 * lo_d s 1 + 7 * lo_d s 2 + lo_d s 3 = s := by
  simp only [lo_d, lo_w0, lo_w1, lo_w2, lo_w3]
  omega
theorem lo_last_of {n : Nat → Nat} {s : Nat} (hs : s < 2401) (h : ∀ t, t < 4 → lo_d s t = n t) : s = lo_last n := by
  have h0 := h 0 (by decide)
  have h1 := h 1 (by decide)
  have h2 := h 2 (by decide)
  have h3 := h 3 (by decide)
  have e := lo_recon hs
  rw [lo_last_eq]
  omega
/-! ===== reached states stay well formed ===== -/
theorem lo_ok_0 (n : Nat → Nat) (ac : Nat → Nat → Nat) : lo_Ok n ac 0 := by
  refine ⟨fun t _ => by rw [lo_d_0]; exact Nat.zero_le _, fun t _ q _ _ => ?_⟩
  rw [lo_d_0, lo_d_0]
  exact Nat.zero_and _
theorem lo_oth_lt {n : Nat → Nat} {ac : Nat → Nat → Nat} (hP : lo_P n ac) {s t : Nat} (hd : ∀ q, q < 4 → lo_d s q ≤ n q) : ∀ k, k ≤ 4 → lo_oth ac s t k < 32 := by
  intro k
  induction k with
  | zero => intro _; show 0 < 32; decide
  | succ k ih =>
    intro hk
    show (if k = t then lo_oth ac s t k else lo_oth ac s t k ||| lo_H ac k (lo_d s k)) < 32
    split
    · exact ih (by omega)
    · exact lo_or_lt (ih (by omega)) (lo_H_lt hP (by omega) _ (hd k (by omega)))
theorem lo_oth_bit {n : Nat → Nat} {ac : Nat → Nat → Nat} (hP : lo_P n ac) {s t l : Nat} (hl : l < 5) (hd : ∀ q, q < 4 → lo_d s q ≤ n q) : ∀ k, k ≤ 4 → (lo_b (lo_oth ac s t k) l = 0 ↔ ∀ q, q < k → q ≠ t → lo_b (lo_H ac q (lo_d s q)) l = 0) := by
  intro k
  induction k with
  | zero => intro _; exact ⟨fun _ q hq => absurd hq (by omega), fun _ => lo_b_0 l⟩
  | succ k ih =>
    intro hk
    have ih := ih (by omega)
    have hlt := lo_oth_lt hP (t := t) hd k (by omega)
    show lo_b (if k = t then lo_oth ac s t k else lo_oth ac s t k ||| lo_H ac k (lo_d s k)) l = 0 ↔ _
    by_cases e : k = t
    · rw [if_pos e, ih]
      refine ⟨fun h q hq hn => h q ?_ hn, fun h q hq hn => h q (by omega) hn⟩
      have : q ≠ k := fun z => hn (z.trans e)
      omega
    · rw [if_neg e, lo_b_or _ hlt _ (lo_H_lt hP (by omega) _ (hd k (by omega))) l hl, ih]
      constructor
      · intro h q hq hn
        by_cases eq : q = k
        · rw [eq]; exact h.2
        · exact h.1 q (by omega) hn
      · intro h
        exact ⟨fun q hq hn => h q (by omega) hn, h k (by omega) e⟩
theorem lo_ok_step {n : Nat → Nat} {ac : Nat → Nat → Nat} (hP : lo_P n ac) {s t : Nat} (hs : s < 2401) (ht : t < 4) (hO : lo_Ok n ac s) (hm : lo_may n ac s t) : s + lo_w t < 2401 ∧ lo_Ok n ac (s + lo_w t) := by
  have h6 := hP.1 t ht
  obtain ⟨hd, hx⟩ := hO
  obtain ⟨m1, m2⟩ := hm
  obtain ⟨e1, e2, e3⟩ := lo_d_step hs ht (show lo_d s t < 6 by omega)
  have hC := hP.2 t ht _ m1
  have key : ∀ q, q < 4 → q ≠ t → lo_H ac t (lo_d s t + 1) &&& lo_H ac q (lo_d s q) = 0 := by
    intro q hq hn
    show lo_step (lo_H ac t (lo_d s t)) (ac t (lo_d s t)) &&& lo_H ac q (lo_d s q) = 0
    have ha := lo_H_lt hP ht _ (hd t ht)
    have hb := lo_H_lt hP hq _ (hd q hq)
    rcases hC with ⟨c1, _⟩ | ⟨c1, c2⟩
    · refine lo_step_dis _ ha _ hb _ (by omega) (hx t ht q hq hn) (Or.inr ⟨c1, ?_⟩)
      rcases m2 with m2 | m2
      · omega
      · exact (lo_oth_bit hP c1 hd 4 (by omega)).mp m2 q hq hn
    · exact lo_step_dis _ ha _ hb _ c2 (hx t ht q hq hn) (Or.inl c1)
  refine ⟨e1, fun q hq => ?_, fun q hq r hr hn => ?_⟩
  · by_cases e : q = t
    · rw [e, e2]; omega
    · rw [e3 q hq e]; exact hd q hq
  · by_cases eq : q = t
    · subst eq
      rw [e2, e3 r hr hn]
      exact key r hr hn
    · by_cases er : r = t
      · subst er
        rw [e2, e3 q hq eq, Nat.and_comm]
        exact key q hq eq
      · rw [e3 q hq eq, e3 r hr er]
        exact hx q hq r hr hn
/-! ===== rings ===== -/
def lo_pl (k t : Nat) : Nat := k / 2 ^ (3 * t) % 8
def lo_req (n : Nat → Nat) (ac : Nat → Nat → Nat) (t i : Nat) : Prop := i < n t ∧ ac t i < 5 ∧ lo_H ac t i ≠ 0
def lo_gd (n : Nat → Nat) (ac : Nat → Nat → Nat) (p : Nat → Nat) : Prop := ∀ t, t < 4 → p t = 7 ∨ lo_req n ac t (p t)
def lo_hold (ac : Nat → Nat → Nat) (p : Nat → Nat) (l : Nat) : Nat → Nat
  | 0 => 4
  | t + 1 => if p t < 7 ∧ lo_b (lo_H ac t (p t)) l = 1 then t else lo_hold ac p l t
def lo_many (p : Nat → Nat) : Nat → Nat
  | 0 => 0
  | t + 1 => if p t < 7 then lo_many p t + 1 else lo_many p t
def lo_all (ac : Nat → Nat → Nat) (p : Nat → Nat) : Nat → Nat
  | 0 => 0
  | t + 1 => if p t < 7 then lo_all ac p t ||| lo_H ac t (p t) else lo_all ac p t
def lo_ap (ac : Nat → Nat → Nat) (p : Nat → Nat) : Nat → Prop
  | 0 => True
  | t + 1 => lo_ap ac p t ∧ (p t < 7 → lo_all ac p t &&& lo_H ac t (p t) = 0)
def lo_st (p : Nat → Nat) : Nat := if p 0 = 7 then (if p 1 = 7 then (if p 2 = 7 then 3 else 2) else 1) else 0
def lo_go (g : Nat → Nat) (st many : Nat) : Nat → Nat → Nat → Bool
  | 0, _, _ => false
  | r + 1, step, a => if g a = 4 ∨ g a = st then decide (g a = st ∧ step = many - 1) else lo_go g st many r (step + 1) (g a)
def lo_ring (ac : Nat → Nat → Nat) (p : Nat → Nat) : Prop := lo_ap ac p 4 ∧ 1 < lo_many p 4 ∧ lo_go (fun t => lo_hold ac p (ac t (p t)) 4) (lo_st p) (lo_many p 4) (lo_many p 4) 0 (lo_st p) = true
def lo_RA (n : Nat → Nat) (ac : Nat → Nat → Nat) (k : Nat) : Prop := lo_gd n ac (lo_pl k) ∧ lo_ring ac (lo_pl k)
theorem lo_many_0 {p : Nat → Nat} : ∀ k, (∀ t, t < k → p t = 7) → lo_many p k = 0 := by
  intro k
  induction k with
  | zero => intro _; rfl
  | succ k ih =>
    intro h
    show (if p k < 7 then lo_many p k + 1 else lo_many p k) = 0
    rw [if_neg (by rw [h k (by omega)]; omega)]
    exact ih (fun t ht => h t (by omega))
/-- single: no ring -/
theorem lo_sg_RA {n : Nat → Nat} {ac : Nat → Nat → Nat} (hP : lo_P n ac) (h1 : lo_sg n ac) (k : Nat) : ¬ lo_RA n ac k := by
  intro ⟨hg, _, hm, _⟩
  have h7 : ∀ t, t < 4 → lo_pl k t = 7 := by
    intro t ht
    rcases hg t ht with h | ⟨r1, r2, r3⟩
    · exact h
    · exfalso
      have hC := hP.2 t ht _ r1
      rcases hC with ⟨c1, c2⟩ | ⟨c1, c2⟩
      · exact lo_step_two _ (lo_H_lt hP ht _ (by omega)) _ c1 r3 c2 (h1 t ht (lo_pl k t + 1) (by omega))
      · omega
  rw [lo_many_0 4 h7] at hm
  omega
theorem lo_hold_uniq {ac : Nat → Nat → Nat} {p : Nat → Nat} {l x : Nat} (hx : p x < 7 ∧ lo_b (lo_H ac x (p x)) l = 1) : ∀ k, x < k → (∀ q, q < k → q ≠ x → ¬ (p q < 7 ∧ lo_b (lo_H ac q (p q)) l = 1)) → lo_hold ac p l k = x := by
  intro k
  induction k with
  | zero => intro h; omega
  | succ k ih =>
    intro h hu
    show (if p k < 7 ∧ lo_b (lo_H ac k (p k)) l = 1 then k else lo_hold ac p l k) = x
    by_cases e : k = x
    · rw [e, if_pos hx]
    · rw [if_neg (hu k (by omega) e)]
      exact ih (by omega) (fun q hq => hu q (by omega))
theorem lo_hold_lt {ac : Nat → Nat → Nat} {p : Nat → Nat} {l : Nat} : ∀ k, k ≤ 4 → (lo_hold ac p l k = 4 ∨ (lo_hold ac p l k < 4 ∧ p (lo_hold ac p l k) < 7)) := by
  intro k
  induction k with
  | zero => intro _; exact Or.inl rfl
  | succ k ih =>
    intro hk
    show (if p k < 7 ∧ lo_b (lo_H ac k (p k)) l = 1 then k else lo_hold ac p l k) = 4 ∨ ((if p k < 7 ∧ lo_b (lo_H ac k (p k)) l = 1 then k else lo_hold ac p l k) < 4 ∧ p (if p k < 7 ∧ lo_b (lo_H ac k (p k)) l = 1 then k else lo_hold ac p l k) < 7)
    by_cases e : p k < 7 ∧ lo_b (lo_H ac k (p k)) l = 1
    · rw [if_pos e]
      exact Or.inr ⟨by omega, e.1⟩
    · rw [if_neg e]
      exact ih (by omega)
theorem lo_go_congr {g f : Nat → Nat} {m : Nat → Prop} {st many : Nat} (h : ∀ t, m t → g t = f t ∧ m (f t)) : ∀ r step a, m a → lo_go g st many r step a = lo_go f st many r step a := by
  intro r
  induction r with
  | zero => intro step a _; rfl
  | succ r ih =>
    intro step a ha
    obtain ⟨h1, h2⟩ := h a ha
    show (if g a = 4 ∨ g a = st then decide (g a = st ∧ step = many - 1) else lo_go g st many r (step + 1) (g a)) = (if f a = 4 ∨ f a = st then decide (f a = st ∧ step = many - 1) else lo_go f st many r (step + 1) (f a))
    rw [h1, ih (step + 1) (f a) h2]
theorem lo_ap_of {n : Nat → Nat} {ac : Nat → Nat → Nat} {p : Nat → Nat} (hP : lo_P n ac) (hp : ∀ t, t < 4 → p t < 7 → p t ≤ n t) (hx : ∀ t, t < 4 → ∀ q, q < 4 → q ≠ t → p t < 7 → p q < 7 → lo_H ac t (p t) &&& lo_H ac q (p q) = 0) : ∀ k, k ≤ 4 → lo_ap ac p k ∧ lo_all ac p k < 32 ∧ (∀ q, k ≤ q → q < 4 → p q < 7 → lo_all ac p k &&& lo_H ac q (p q) = 0) := by
  intro k
  induction k with
  | zero => intro _; exact ⟨trivial, (by decide : 0 < 32), fun q _ _ _ => Nat.zero_and _⟩
  | succ k ih =>
    intro hk
    obtain ⟨i1, i2, i3⟩ := ih (by omega)
    show (lo_ap ac p k ∧ (p k < 7 → lo_all ac p k &&& lo_H ac k (p k) = 0)) ∧ (if p k < 7 then lo_all ac p k ||| lo_H ac k (p k) else lo_all ac p k) < 32 ∧ (∀ q, k + 1 ≤ q → q < 4 → p q < 7 → (if p k < 7 then lo_all ac p k ||| lo_H ac k (p k) else lo_all ac p k) &&& lo_H ac q (p q) = 0)
    refine ⟨⟨i1, i3 k (Nat.le_refl k) (by omega)⟩, ?_⟩
    by_cases e : p k < 7
    · rw [if_pos e]
      refine ⟨lo_or_lt i2 (lo_H_lt hP (by omega) _ (hp k (by omega) e)), fun q hq hq4 hq7 => ?_⟩
      rw [Nat.and_or_distrib_right, i3 q (by omega) hq4 hq7, hx k (by omega) q hq4 (by omega) e hq7]
      rfl
    · rw [if_neg e]
      exact ⟨i2, fun q hq hq4 hq7 => i3 q (by omega) hq4 hq7⟩
/-! ===== the finite table: a function without a fixed point on the unfinished threads has a cycle ===== -/
def lo_tb (f0 f1 f2 f3 t : Nat) : Nat := if t = 0 then f0 else if t = 1 then f1 else if t = 2 then f2 else if t = 3 then f3 else 4
def lo_mp (c t : Nat) : Nat := if c / 2 ^ t % 2 = 1 then 0 else 7
def lo_chk (F : Nat → Nat) (c : Nat) : Bool := (List.range 4).all (fun t => decide (lo_mp c t = 7) || (decide (F t < 4) && decide (lo_mp c (F t) = 0) && (List.range 4).any (fun q => decide (lo_mp c q = 0) && decide (F q = t)))) && decide (1 < lo_many (lo_mp c) 4) && lo_go F (lo_st (lo_mp c)) (lo_many (lo_mp c) 4) (lo_many (lo_mp c) 4) 0 (lo_st (lo_mp c)) && decide (lo_mp c (lo_st (lo_mp c)) = 0)
def lo_pre (F : Nat → Nat) : Bool := (List.range 4).all (fun t => decide (F t ≠ t) && (decide (F t = 4) || decide (F (F t) < 4))) && (List.range 4).any (fun t => decide (F t < 4))
theorem lo_table : ∀ f0, f0 < 5 → ∀ f1, f1 < 5 → ∀ f2, f2 < 5 → ∀ f3, f3 < 5 → lo_pre (lo_tb f0 f1 f2 f3) = true → (List.range 16).any (fun c => lo_chk (lo_tb f0 f1 f2 f3) c) = true := by decide +kernel
theorem lo_chk_of {F : Nat → Nat} {c : Nat} (h : lo_chk F c = true) : (∀ t, t < 4 → lo_mp c t = 0 → F t < 4 ∧ lo_mp c (F t) = 0 ∧ ∃ q, q < 4 ∧ lo_mp c q = 0 ∧ F q = t) ∧ 1 < lo_many (lo_mp c) 4 ∧ lo_go F (lo_st (lo_mp c)) (lo_many (lo_mp c) 4) (lo_many (lo_mp c) 4) 0 (lo_st (lo_mp c)) = true ∧ lo_mp c (lo_st (lo_mp c)) = 0 := by
  unfold lo_chk at h
  simp only [Bool.and_eq_true, Bool.or_eq_true, decide_eq_true_eq, List.all_eq_true, List.any_eq_true, List.mem_range] at h
  obtain ⟨⟨⟨h1, h2⟩, h3⟩, h4⟩ := h
  refine ⟨fun t ht hm => ?_, h2, h3, h4⟩
  rcases h1 t ht with z | ⟨⟨z1, z2⟩, q, z3, z4, z5⟩
  · omega
  · exact ⟨z1, z2, q, z3, z4, z5⟩
theorem lo_cycle {F : Nat → Nat} (h5 : ∀ t, t < 4 → F t < 5) (hF : ∀ t, t < 4 → F t ≠ t ∧ (F t = 4 ∨ F (F t) < 4)) (hx : ∃ t, t < 4 ∧ F t < 4) : ∃ c, c < 16 ∧ (∀ t, t < 4 → lo_mp c t = 0 → F t < 4 ∧ lo_mp c (F t) = 0 ∧ ∃ q, q < 4 ∧ lo_mp c q = 0 ∧ F q = t) ∧ 1 < lo_many (lo_mp c) 4 ∧ lo_go F (lo_st (lo_mp c)) (lo_many (lo_mp c) 4) (lo_many (lo_mp c) 4) 0 (lo_st (lo_mp c)) = true ∧ lo_mp c (lo_st (lo_mp c)) = 0 := by
  have et : ∀ t, t < 4 → lo_tb (F 0) (F 1) (F 2) (F 3) t = F t := by
    intro t ht
    rcases lo_four ht with rfl | rfl | rfl | rfl <;> rfl
  have hpre : lo_pre (lo_tb (F 0) (F 1) (F 2) (F 3)) = true := by
    unfold lo_pre
    simp only [Bool.and_eq_true, Bool.or_eq_true, decide_eq_true_eq, List.all_eq_true, List.any_eq_true, List.mem_range]
    refine ⟨fun t ht => ?_, ?_⟩
    · rw [et t ht]
      refine ⟨(hF t ht).1, ?_⟩
      rcases (hF t ht).2 with z | z
      · exact Or.inl z
      · by_cases e : F t = 4
        · exact Or.inl e
        · right
          rw [et (F t) (by have := h5 t ht; omega)]
          exact z
    · obtain ⟨t, ht, hz⟩ := hx
      exact ⟨t, ht, by rw [et t ht]; exact hz⟩
  have tb := lo_table _ (h5 0 (by decide)) _ (h5 1 (by decide)) _ (h5 2 (by decide)) _ (h5 3 (by decide)) hpre
  simp only [List.any_eq_true, List.mem_range] at tb
  obtain ⟨c, hc, hk⟩ := tb
  obtain ⟨k1, k2, k3, k4⟩ := lo_chk_of hk
  refine ⟨c, hc, fun t ht hm => ?_, k2, ?_, k4⟩
  · obtain ⟨z1, z2, q, z3, z4, z5⟩ := k1 t ht hm
    rw [et t ht] at z1 z2
    rw [et q z3] at z5
    exact ⟨z1, z2, q, z3, z4, z5⟩
  · rw [← k3]
    symm
    have st4 : lo_st (lo_mp c) < 4 := by unfold lo_st; split <;> (try split) <;> (try split) <;> omega
    exact lo_go_congr (m := fun t => t < 4 ∧ lo_mp c t = 0) (fun t ht => ⟨et t ht.1, (by have z := k1 t ht.1 ht.2; rw [et t ht.1] at z; exact ⟨z.1, z.2.1⟩)⟩) _ _ _ ⟨st4, k4⟩
theorem lo_many_congr {p q : Nat → Nat} : ∀ k, (∀ t, t < k → (p t < 7 ↔ q t < 7)) → lo_many p k = lo_many q k := by
  intro k
  induction k with
  | zero => intro _; rfl
  | succ k ih =>
    intro h
    have e := ih (fun t ht => h t (by omega))
    show (if p k < 7 then lo_many p k + 1 else lo_many p k) = (if q k < 7 then lo_many q k + 1 else lo_many q k)
    by_cases z : p k < 7
    · rw [if_pos z, if_pos ((h k (by omega)).mp z), e]
    · rw [if_neg z, if_neg (fun y => z ((h k (by omega)).mpr y)), e]
theorem lo_st_congr {p q : Nat → Nat} (h : ∀ t, t < 4 → (p t = 7 ↔ q t = 7)) : lo_st p = lo_st q := by
  unfold lo_st
  have h0 := h 0 (by decide)
  have h1 := h 1 (by decide)
  have h2 := h 2 (by decide)
  simp only [h0, h1, h2]
theorem lo_pl_of {p0 p1 p2 p3 : Nat} (h0 : p0 < 8) (h1 : p1 < 8) (h2 : p2 < 8) (h3 : p3 < 8) : p0 + 8 * p1 + 64 * p2 + 512 * p3 < 4096 ∧ lo_pl (p0 + 8 * p1 + 64 * p2 + 512 * p3) 0 = p0 ∧ lo_pl (p0 + 8 * p1 + 64 * p2 + 512 * p3) 1 = p1 ∧ lo_pl (p0 + 8 * p1 + 64 * p2 + 512 * p3) 2 = p2 ∧ lo_pl (p0 + 8 * p1 + 64 * p2 + 512 * p3) 3 = p3 := by
  refine ⟨by omega, ?_, ?_, ?_, ?_⟩
  · show (p0 + 8 * p1 + 64 * p2 + 512 * p3) / 1 % 8 = p0
    omega
  · show (p0 + 8 * p1 + 64 * p2 + 512 * p3) / 8 % 8 = p1
    omega
  · show (p0 + 8 * p1 + 64 * p2 + 512 * p3) / 64 % 8 = p2
    omega
  · show (p0 + 8 * p1 + 64 * p2 + 512 * p3) / 512 % 8 = p3
    omega
theorem lo_pl_ex {p : Nat → Nat} (h : ∀ t, t < 4 → p t < 8) : ∃ k, k < 4096 ∧ ∀ t, t < 4 → lo_pl k t = p t := by
  obtain ⟨e, e0, e1, e2, e3⟩ := lo_pl_of (h 0 (by decide)) (h 1 (by decide)) (h 2 (by decide)) (h 3 (by decide))
  refine ⟨_, e, fun t ht => ?_⟩
  rcases lo_four ht with rfl | rfl | rfl | rfl
  · exact e0
  · exact e1
  · exact e2
  · exact e3
theorem lo_mp2 (c t : Nat) : lo_mp c t = 0 ∨ lo_mp c t = 7 := by
  unfold lo_mp
  split
  · exact Or.inl rfl
  · exact Or.inr rfl
/-- stuck, not the last state, no ring: a finished thread holds an asked lock -/
theorem lo_stuck_wt {n : Nat → Nat} {ac : Nat → Nat → Nat} (hP : lo_P n ac) {s : Nat} (hs : s < 2401) (hO : lo_Ok n ac s) (hst : ∀ t, t < 4 → ¬ lo_may n ac s t) (hl : s ≠ lo_last n) (hr : ∀ k, k < 4096 → ¬ lo_RA n ac k) : lo_wt n ac s := by
  apply Classical.byContradiction
  intro hw
  have ask : ∀ t, t < 4 → lo_d s t < n t → ac t (lo_d s t) < 5 ∧ ∃ q, q < 4 ∧ q ≠ t ∧ lo_d s q < n q ∧ lo_b (lo_H ac q (lo_d s q)) (ac t (lo_d s t)) = 1 := by
    intro t ht hd
    have hC := hP.2 t ht _ hd
    have nm := hst t ht
    have c5 : ac t (lo_d s t) < 5 := by
      rcases hC with c | c
      · exact c.1
      · exact absurd ⟨hd, Or.inl c.1⟩ nm
    refine ⟨c5, ?_⟩
    apply Classical.byContradiction
    intro hno
    apply nm
    refine ⟨hd, Or.inr ((lo_oth_bit hP c5 hO.1 4 (by omega)).mpr (fun q hq hn => ?_))⟩
    rcases lo_b01 (lo_H ac q (lo_d s q)) (ac t (lo_d s t)) with z | z
    · exact z
    · exfalso
      by_cases e : lo_d s q < n q
      · exact hno ⟨q, hq, hn, e, z⟩
      · have e' : lo_d s q = n q := by have := hO.1 q hq; omega
        rw [e'] at z
        exact hw ⟨q, hq, t, ht, e', hd, c5, z⟩
  have ex : ∀ t, ∃ q, t < 4 → ((q = 4 ∧ lo_d s t = n t) ∨ (q < 4 ∧ q ≠ t ∧ lo_d s t < n t ∧ lo_d s q < n q ∧ lo_b (lo_H ac q (lo_d s q)) (ac t (lo_d s t)) = 1)) := by
    intro t
    by_cases ht : t < 4
    · by_cases hd : lo_d s t < n t
      · obtain ⟨_, q, h1, h2, h3, h4⟩ := ask t ht hd
        exact ⟨q, fun _ => Or.inr ⟨h1, h2, hd, h3, h4⟩⟩
      · exact ⟨4, fun _ => Or.inl ⟨rfl, by have := hO.1 t ht; omega⟩⟩
    · exact ⟨0, fun z => absurd z ht⟩
  obtain ⟨F, hF⟩ : ∃ F : Nat → Nat, ∀ t, t < 4 → ((F t = 4 ∧ lo_d s t = n t) ∨ (F t < 4 ∧ F t ≠ t ∧ lo_d s t < n t ∧ lo_d s (F t) < n (F t) ∧ lo_b (lo_H ac (F t) (lo_d s (F t))) (ac t (lo_d s t)) = 1)) := ⟨fun t => Classical.choose (ex t), fun t => Classical.choose_spec (ex t)⟩
  have some : ∃ t, t < 4 ∧ F t < 4 := by
    apply Classical.byContradiction
    intro hno
    apply hl
    apply lo_last_of hs
    intro t ht
    rcases hF t ht with z | z
    · exact z.2
    · exact absurd ⟨t, ht, z.1⟩ hno
  obtain ⟨c, hc, k1, k2, k3, k4⟩ := lo_cycle (F := F) (fun t ht => by rcases hF t ht with z | z <;> omega) (fun t ht => by
    rcases hF t ht with z | z
    · exact ⟨by omega, Or.inl z.1⟩
    · refine ⟨z.2.1, Or.inr ?_⟩
      rcases hF (F t) z.1 with y | y
      · omega
      · exact y.1) some
  have mem : ∀ t, t < 4 → lo_mp c t = 0 → F t < 4 ∧ lo_d s t < n t ∧ lo_b (lo_H ac (F t) (lo_d s (F t))) (ac t (lo_d s t)) = 1 := by
    intro t ht hm
    have h1 := (k1 t ht hm).1
    rcases hF t ht with z | z
    · omega
    · exact ⟨h1, z.2.2.1, z.2.2.2.2⟩
  obtain ⟨k, hk, ek⟩ := lo_pl_ex (p := fun t => if lo_mp c t = 0 then lo_d s t else 7) (fun t _ => by
    have := lo_d_lt s t
    show (if lo_mp c t = 0 then lo_d s t else 7) < 8
    split <;> omega)
  have e0 : ∀ t, t < 4 → lo_mp c t = 0 → lo_pl k t = lo_d s t := fun t ht hm => (ek t ht).trans (if_pos hm)
  have e7 : ∀ t, t < 4 → ¬ lo_mp c t = 0 → lo_pl k t = 7 := fun t ht hm => (ek t ht).trans (if_neg hm)
  have i7 : ∀ t, t < 4 → lo_pl k t < 7 → lo_mp c t = 0 := by
    intro t ht h
    by_cases z : lo_mp c t = 0
    · exact z
    · rw [e7 t ht z] at h
      omega
  have m7 : ∀ t, t < 4 → (lo_pl k t < 7 ↔ lo_mp c t < 7) := by
    intro t ht
    refine ⟨fun h => by rw [i7 t ht h]; decide, fun h => ?_⟩
    rcases lo_mp2 c t with z | z
    · rw [e0 t ht z]; exact lo_d_lt s t
    · omega
  have m7' : ∀ t, t < 4 → (lo_pl k t = 7 ↔ lo_mp c t = 7) := by
    intro t ht
    have hm := m7 t ht
    have h1 : lo_pl k t < 8 := Nat.mod_lt _ (by decide)
    have h2 := lo_mp2 c t
    omega
  have dis : ∀ t, t < 4 → ∀ q, q < 4 → q ≠ t → lo_pl k t < 7 → lo_pl k q < 7 → lo_H ac t (lo_pl k t) &&& lo_H ac q (lo_pl k q) = 0 := by
    intro t ht q hq hn h1 h2
    rw [e0 t ht (i7 t ht h1), e0 q hq (i7 q hq h2)]
    exact hO.2 t ht q hq hn
  apply hr k hk
  refine ⟨fun t ht => ?_, (lo_ap_of hP (fun t ht h => ?_) dis 4 (by omega)).1, ?_, ?_⟩
  · by_cases z : lo_mp c t = 0
    · right
      obtain ⟨_, h2, _⟩ := mem t ht z
      obtain ⟨_, _, q, hq, hm, hFq⟩ := k1 t ht z
      obtain ⟨_, _, g3⟩ := mem q hq hm
      rw [hFq] at g3
      rw [e0 t ht z]
      refine ⟨h2, (ask t ht h2).1, fun y => ?_⟩
      rw [y, lo_b_0] at g3
      omega
    · exact Or.inl (e7 t ht z)
  · rw [e0 t ht (i7 t ht h)]
    exact hO.1 t ht
  · rw [lo_many_congr 4 m7]
    exact k2
  · rw [lo_many_congr 4 m7, lo_st_congr m7', ← k3]
    have st4 : lo_st (lo_mp c) < 4 := by unfold lo_st; split <;> (try split) <;> (try split) <;> omega
    refine lo_go_congr (m := fun t => t < 4 ∧ lo_mp c t = 0) (fun t ht => ⟨?_, (k1 t ht.1 ht.2).1, (k1 t ht.1 ht.2).2.1⟩) _ _ _ ⟨st4, k4⟩
    obtain ⟨h1, h2, h3⟩ := mem t ht.1 ht.2
    have hmF := (k1 t ht.1 ht.2).2.1
    show lo_hold ac (lo_pl k) (ac t (lo_pl k t)) 4 = F t
    rw [e0 t ht.1 ht.2]
    have c5 := (ask t ht.1 h2).1
    refine lo_hold_uniq ⟨by rw [e0 _ h1 hmF]; exact lo_d_lt _ _, by rw [e0 _ h1 hmF]; exact h3⟩ 4 h1 (fun q hq hn hh => ?_)
    have hmq := i7 q hq hh.1
    have h5 := hh.2
    rw [e0 q hq hmq] at h5
    have h6 := lo_b_and _ (lo_H_lt hP h1 _ (hO.1 _ h1)) _ (lo_H_lt hP hq _ (hO.1 q hq)) _ c5 (hO.2 (F t) h1 q hq hn) h3
    omega
end
section
section
variable {kn cm sm rm ms mo : Int32} {a1 a2 a3 a4 a5 a6 a7 a8 a9 : Nat → Int32} {n : Nat → Nat} {ac : Nat → Nat → Nat} {s t i l : Nat}
/-! ===== ints ===== -/
theorem lo_or (a b : Nat) : nI a ||| nI b = nI (a ||| b) := by
  apply Int32.toBitVec_inj.1
  show BitVec.ofNat 32 a ||| BitVec.ofNat 32 b = BitVec.ofNat 32 (a ||| b)
  apply BitVec.eq_of_getLsbD_eq
  intro i hi
  simp [hi]
theorem lo_and (a b : Nat) : nI a &&& nI b = nI (a &&& b) := by
  apply Int32.toBitVec_inj.1
  show BitVec.ofNat 32 a &&& BitVec.ofNat 32 b = BitVec.ofNat 32 (a &&& b)
  apply BitVec.eq_of_getLsbD_eq
  intro i hi
  simp [hi]
theorem lo_bit : ∀ h, h < 32 → ∀ l, l < 5 → (nI h >>> (nI l &&& 31)) &&& 1 = nI (lo_b h l) := by decide +kernel
theorem lo_act_lo {c : Nat} (h : c < 5) : lo_act c = nI c := if_pos (by omega)
theorem lo_act_neg : ∀ c, c < 13 → 8 ≤ c → lo_act c < 0 := by decide +kernel
theorem lo_6 (t i : Nat) : 6 * nI t + nI i = nI (6 * t + i) := by
  have h : nI 6 * nI t + nI i = nI (6 * t + i) := by rw [pk_mul, nI_add]
  exact h
theorem lo_7 (t i : Nat) : 7 * nI t + nI i = nI (7 * t + i) := by
  have h : nI 7 * nI t + nI i = nI (7 * t + i) := by rw [pk_mul, nI_add]
  exact h
/-! ===== weightOf, lastState, doneIn, heldAfter ===== -/
theorem lo_weightOf {post : Int32 → Prop} (ht : t < 4) (hp : post (nI (lo_w t))) : wpX_weightOf post (kn, cm, sm, rm, ms, mo, a1, a2, a3, a4, a5, a6, a7, a8, a9) (nI t) := by
  unfold wpX_weightOf
  dsimp only
  rcases lo_four ht with rfl | rfl | rfl | rfl
  · exact br_t rfl hp
  · exact br_f (by decide) (br_t rfl hp)
  · exact br_f (by decide) (br_f (by decide) (br_t rfl hp))
  · exact br_f (by decide) (br_f (by decide) (br_f (by decide) hp))
theorem lo_lastState {post : Int32 → Prop} (hK : lo_K n ac a1 a2 a3) (hp : post (nI (lo_last n))) : wpX_lastState post (kn, cm, sm, rm, ms, mo, a1, a2, a3, a4, a5, a6, a7, a8, a9) := by
  unfold wpX_lastState
  dsimp only
  exact loop_0 (fun f i (x : Int32) => wX_lastState_4 post kn cm sm rm ms mo a1 a2 a3 a4 a5 a6 a7 a8 a9 f x (nI i)) (fun i x => x = nI (lo_lsum n i)) 4 0 rfl
    (fun f x h => pk_le 4 4 (fun _ => by rw [h]; exact hp) (fun z => absurd z (by omega)))
    (fun f i x hi h hw => pk_le 4 i (fun z => absurd z (by omega)) (fun _ => ⟨pk_in i 4 hi, lo_weightOf hi (nm_r (e' := nI (lo_lsum n (i + 1))) (by rw [h, nI_clamp (by omega), hK.1 i hi, pk_mul, nI_add]; rfl) (nm_r (nI_1 i) (hw _ rfl)))⟩))
theorem lo_doneIn {post : Int32 → Prop} (hs : s < 2 ^ 31) (ht : t < 4) (hp : post (nI (lo_d s t))) : wpX_doneIn post (kn, cm, sm, rm, ms, mo, a1, a2, a3, a4, a5, a6, a7, a8, a9) (nI s) (nI t) := by
  have hw1 := lo_w_pos t
  have hw2 := lo_w_le t
  have hq := Nat.div_le_self s (lo_w t)
  have e : nI s / nI (lo_w t) - nI s / nI (lo_w t) / 7 * 7 = nI (lo_d s t) := by
    rw [pk_div hs hw1 (by omega)]
    exact pk_rem (d := 7) (by omega) (by decide) (by decide)
  unfold wpX_doneIn
  dsimp only
  refine lo_weightOf ht ⟨nI_ne0 hw1 (by omega), by decide, ?_⟩
  rw [e]
  exact hp
theorem lo_heldAfter {post : Int32 → Prop} (ht : t < 4) (hi : i < 7) (hp : post (a3 (7 * t + i))) : wpX_heldAfter post (kn, cm, sm, rm, ms, mo, a1, a2, a3, a4, a5, a6, a7, a8, a9) (nI t) (nI i) := by
  unfold wpX_heldAfter
  dsimp only
  rw [lo_7, nI_clamp (by omega)]
  exact ⟨vp_in_nI (by omega) (by omega), hp⟩
theorem lo_heldK {post : Int32 → Prop} (hP : lo_P n ac) (hK : lo_K n ac a1 a2 a3) (ht : t < 4) (hi : i ≤ n t) (hp : post (nI (lo_H ac t i))) : wpX_heldAfter post (kn, cm, sm, rm, ms, mo, a1, a2, a3, a4, a5, a6, a7, a8, a9) (nI t) (nI i) :=
  lo_heldAfter ht (by have := hP.1 t ht; omega) (by rw [hK.2.2 t ht i hi]; exact hp)
/-! ===== heldByOthers, mayGoOn ===== -/
theorem lo_heldByOthers {post : Int32 → Prop} (hP : lo_P n ac) (hK : lo_K n ac a1 a2 a3) (hs : s < 2401) (ht : t < 4) (hd : ∀ q, q < 4 → lo_d s q ≤ n q) (hp : post (nI (lo_oth ac s t 4))) : wpX_heldByOthers post (kn, cm, sm, rm, ms, mo, a1, a2, a3, a4, a5, a6, a7, a8, a9) (nI s) (nI t) := by
  unfold wpX_heldByOthers
  dsimp only
  refine loop_0 (fun f i (x : Int32) => wX_heldByOthers_5 post (nI s) (nI t) kn cm sm rm ms mo a1 a2 a3 a4 a5 a6 a7 a8 a9 f x (nI i)) (fun i x => x = nI (lo_oth ac s t i)) 4 0 rfl
    (fun f x h => pk_le 4 4 (fun _ => by rw [h]; exact hp) (fun z => absurd z (by omega)))
    (fun f i x hi h hw => pk_le 4 i (fun z => absurd z (by omega)) (fun _ => pk_eq i t (fun e => nm_r (nI_1 i) (hw _ ?_)) (fun e => lo_doneIn (by omega) hi (lo_heldK hP hK hi (hd i hi) (nm_r (e' := nI (lo_oth ac s t (i + 1))) ?_ (nm_r (nI_1 i) (hw _ rfl)))))))
  · show x = nI (if i = t then lo_oth ac s t i else lo_oth ac s t i ||| lo_H ac i (lo_d s i))
    rw [if_pos e]
    exact h
  · show x ||| nI (lo_H ac i (lo_d s i)) = nI (if i = t then lo_oth ac s t i else lo_oth ac s t i ||| lo_H ac i (lo_d s i))
    rw [if_neg e, h, lo_or]
theorem lo_mayGoOn {post : Int32 → Prop} (hP : lo_P n ac) (hK : lo_K n ac a1 a2 a3) (hs : s < 2401) (ht : t < 4) (hd : ∀ q, q < 4 → lo_d s q ≤ n q) (h1 : lo_may n ac s t → post 1) (h0 : ¬ lo_may n ac s t → post 0) : wpX_mayGoOn post (kn, cm, sm, rm, ms, mo, a1, a2, a3, a4, a5, a6, a7, a8, a9) (nI s) (nI t) := by
  have h6 := hP.1 t ht
  have h7 := lo_d_lt s t
  unfold wpX_mayGoOn
  dsimp only
  refine lo_doneIn (by omega) ht ⟨pk_in t 4 ht, ?_⟩
  rw [nI_clamp (show t < 2 ^ 31 by omega), hK.1 t ht]
  refine pk_lt (lo_d s t) (n t) (fun z => ?_) (fun z => h0 (fun m => absurd m.1 (by omega)))
  rw [lo_6, nI_clamp (by omega), hK.2.1 t ht _ z]
  refine ⟨vp_in_nI (by omega) (by omega), nm_e (lo_heldByOthers hP hK hs ht hd ?_)⟩
  have ho := lo_oth_lt hP (t := t) hd 4 (by omega)
  rcases hP.2 t ht _ z with ⟨c1, _⟩ | ⟨c1, c2⟩
  · rw [lo_act_lo c1, lo_bit _ ho _ c1]
    refine br_f (nI_pos (by omega)) ?_
    have hb := lo_b01 (lo_oth ac s t 4) (ac t (lo_d s t))
    refine pk_eq (lo_b (lo_oth ac s t 4) (ac t (lo_d s t))) 0 (fun e => h1 ⟨z, Or.inr e⟩) (fun e => h0 (fun m => ?_))
    rcases m.2 with y | y
    · omega
    · exact e y
  · exact br_t (lo_act_neg _ c2 c1) (h1 ⟨z, Or.inl c1⟩)
end
end
section
section
variable {kn cm sm rm ms mo : Int32} {a1 a2 a3 a4 a5 a6 a7 a8 a9 : Nat → Int32} {n : Nat → Nat} {ac : Nat → Nat → Nat} {s t i l m : Nat}
/-! ===== goOnFrom ===== -/
def lo_Cm (n : Nat → Nat) (ac : Nat → Nat → Nat) (a4 : Nat → Int32) : Prop := ∀ j, j < 2401 → a4 j ≠ 0 → lo_Ok n ac j
def lo_Wy (a4 a5 : Nat → Int32) : Prop := ∀ j, j < 2401 → a5 j ≠ 0 → a4 j ≠ 0
theorem lo_short {s : Nat} (h : s < 32768) : (nI s).toInt16.toInt32 = nI s := by
  apply Int32.toInt_inj.mp
  rw [Int16.toInt_toInt32, Int32.toInt_toInt16, nI_toInt (by omega)]
  rw [Int.bmod_def]
  split <;> omega
theorem lo_one_ne : ¬ (1 : Int32) = 0 := by decide
theorem lo_ne1 {x : Int32} (h : x = 1) : ¬ x = 0 := by rw [h]; exact lo_one_ne
theorem lo_goOnFrom {post : St1 → Prop} (hP : lo_P n ac) (hK : lo_K n ac a1 a2 a3) (hs : s < 2401) (hm : m < 2401) (hc : lo_Cm n ac a4) (hy : lo_Wy a4 a5) (ha : a4 s ≠ 0)
    (hp : ∀ (cm' : Int32) (m' : Nat) (b4 b5 b6 : Nat → Int32), lo_Cm n ac b4 → lo_Wy b4 b5 → (∀ j, a4 j ≠ 0 → b4 j ≠ 0) →
      ((m' = m ∧ b6 = a6 ∧ ((∃ j, s < j ∧ j < 2401 ∧ b4 j ≠ 0) ∨ s = lo_last n)) ∨ (m' = m + 1 ∧ b6 = upd a6 m (nI s) ∧ s ≠ lo_last n ∧ ∀ t, t < 4 → ¬ lo_may n ac s t)) → post (kn, cm', (nI m'), rm, ms, mo, a1, a2, a3, b4, b5, b6, a7, a8, a9)) :
    wpX_goOnFrom post (kn, cm, (nI m), rm, ms, mo, a1, a2, a3, a4, a5, a6, a7, a8, a9) (nI s) := by
  have hO := hc s hs ha
  have hll := lo_last_lt hP.1
  unfold wpX_goOnFrom
  dsimp only
  refine loop_0 (σ := Int32 × (Nat → Int32) × (Nat → Int32)) (fun f i z => wX_goOnFrom_4 post (nI s) kn cm (nI m) rm ms mo f z.1 (nI i) a1 a2 a3 z.2.1 z.2.2 a6 a7 a8 a9)
    (fun i z => lo_Cm n ac z.2.1 ∧ lo_Wy z.2.1 z.2.2 ∧ (∀ j, a4 j ≠ 0 → z.2.1 j ≠ 0) ∧ ((z.1 = 0 ∧ ∀ q, q < i → ¬ lo_may n ac s q) ∨ (z.1 = 1 ∧ ∃ j, s < j ∧ j < 2401 ∧ z.2.1 j ≠ 0))) 4 (0, a4, a5) ⟨hc, hy, fun _ h => h, Or.inl ⟨rfl, fun q hq => absurd hq (by omega)⟩⟩ ?_ ?_
  · rintro f ⟨x, b4, b5⟩ ⟨g1, g2, g3, g4⟩
    refine pk_le 4 4 (fun _ => nm_e (lo_lastState hK ?_)) (fun z => absurd z (by omega))
    rcases g4 with ⟨gx, gn⟩ | ⟨gx, gj⟩
    · refine br_t gx (pk_eq s (lo_last n) (fun e => hp _ m b4 b5 a6 g1 g2 g3 (Or.inl ⟨rfl, rfl, Or.inr e⟩)) (fun e => ⟨pk_in m 2401 hm, nm_r (e' := upd a6 m (nI s)) (by rw [nI_clamp (by omega), lo_short (by omega)]) (nm_r (nI_1 m) (hp _ (m + 1) b4 b5 _ g1 g2 g3 (Or.inr ⟨rfl, rfl, e, gn⟩)))⟩))
    · exact br_f (lo_ne1 gx) (hp _ m b4 b5 a6 g1 g2 g3 (Or.inl ⟨rfl, rfl, Or.inl gj⟩))
  · rintro f i ⟨x, b4, b5⟩ hi ⟨g1, g2, g3, g4⟩ hw
    refine pk_le 4 i (fun z => absurd z (by omega)) (fun _ => lo_mayGoOn hP hK hs hi hO.1 (fun hmay => br_f lo_one_ne ?_) (fun hn => br_t rfl (nm_r (nI_1 i) (hw (x, b4, b5) ⟨g1, g2, g3, ?_⟩))))
    · obtain ⟨k1, k2⟩ := lo_ok_step hP hs hi hO hmay
      have k4 : s < s + lo_w i := by have := lo_w_pos i; omega
      refine lo_weightOf hi (nm_r (nI_add s (lo_w i)) ?_)
      generalize s + lo_w i = k at k1 k2 k4
      refine ⟨pk_in k 2401 k1, nm_r (e' := upd b4 k 1) (by rw [nI_clamp (by omega)]) ⟨pk_in k 2401 k1, pk_in s 2401 hs, by decide, pk_in k 2401 k1, ?_⟩⟩
      intro c5 e5
      rw [nI_clamp (show k < 2 ^ 31 by omega)] at e5
      refine nm_r (nI_1 i) (hw (1, upd b4 k 1, c5) ⟨fun j hj h => ?_, fun j hj h => ?_, fun j h => ?_, Or.inr ⟨rfl, k, k4, k1, ?_⟩⟩)
      · by_cases e : j = k
        · rw [e]; exact k2
        · have h' : upd b4 k 1 j ≠ 0 := h
          rw [pk_un e] at h'
          exact g1 j hj h'
      · show upd b4 k 1 j ≠ 0
        by_cases e : j = k
        · rw [e, pk_us]; exact lo_one_ne
        · rw [pk_un e]
          have h' : c5 j ≠ 0 := h
          rw [e5, pk_un e] at h'
          exact g2 j hj h'
      · show upd b4 k 1 j ≠ 0
        by_cases e : j = k
        · rw [e, pk_us]; exact lo_one_ne
        · rw [pk_un e]; exact g3 j h
      · show upd b4 k 1 k ≠ 0
        rw [pk_us]; exact lo_one_ne
    · rcases g4 with ⟨gx, gn⟩ | g
      · refine Or.inl ⟨gx, fun q hq => ?_⟩
        by_cases e : q = i
        · rw [e]; exact hn
        · exact gn q (by omega)
      · exact Or.inr g
/-! ===== findStates ===== -/
def lo_SL (n : Nat → Nat) (ac : Nat → Nat → Nat) (m : Nat) (b4 b6 : Nat → Int32) : Prop := ∀ k, k < m → ∃ s, s < 2401 ∧ b6 k = nI s ∧ b4 s ≠ 0 ∧ s ≠ lo_last n ∧ ∀ t, t < 4 → ¬ lo_may n ac s t
def lo_FS (n : Nat → Nat) (ac : Nat → Nat → Nat) (m : Nat) (b4 b5 b6 : Nat → Int32) : Prop := m ≤ 2401 ∧ lo_Cm n ac b4 ∧ lo_Wy b4 b5 ∧ lo_SL n ac m b4 b6 ∧ (0 < m ∨ b4 (lo_last n) ≠ 0)
theorem lo_states55 {post : St1 → Prop} (hP : lo_P n ac) (hK : lo_K n ac a1 a2 a3) (hc : lo_Cm n ac a4) (hy : lo_Wy a4 a5) (h0 : a4 0 ≠ 0)
    (hp : ∀ (cm' : Int32) (m : Nat) (b4 b5 b6 : Nat → Int32), lo_FS n ac m b4 b5 b6 → post (kn, cm', (nI m), rm, ms, mo, a1, a2, a3, b4, b5, b6, a7, a8, a9)) : ∃ f, wX_findStates_55 post f 0 kn 0 0 rm ms mo a1 a2 a3 a4 a5 a6 a7 a8 a9 := by
  refine loop_0 (σ := Int32 × Int32 × (Nat → Int32) × (Nat → Int32) × (Nat → Int32)) (fun f i z => wX_findStates_55 post f (nI i) kn z.1 z.2.1 rm ms mo a1 a2 a3 z.2.2.1 z.2.2.2.1 z.2.2.2.2 a7 a8 a9)
    (fun i z => ∃ m, z.2.1 = nI m ∧ m ≤ i ∧ lo_Cm n ac z.2.2.1 ∧ lo_Wy z.2.2.1 z.2.2.2.1 ∧ lo_SL n ac m z.2.2.1 z.2.2.2.2 ∧ (0 < m ∨ z.2.2.1 (lo_last n) ≠ 0 ∨ ∃ j, i ≤ j ∧ j < 2401 ∧ z.2.2.1 j ≠ 0)) 2401 (0, 0, a4, a5, a6) ⟨0, rfl, by omega, hc, hy, fun k hk => absurd hk (by omega), Or.inr (Or.inr ⟨0, by omega, by omega, h0⟩)⟩ ?_ ?_
  · rintro f ⟨c, x, b4, b5, b6⟩ ⟨m, e, g1, g2, g3, g4, g5⟩
    refine pk_le 2401 2401 (fun _ => ?_) (fun z => absurd z (by omega))
    have e' : x = nI m := e
    subst e'
    refine hp c m b4 b5 b6 ⟨g1, g2, g3, g4, ?_⟩
    rcases g5 with g | g | ⟨j, j1, j2, _⟩
    · exact Or.inl g
    · exact Or.inr g
    · omega
  · rintro f i ⟨c, x, b4, b5, b6⟩ hi ⟨m, e, g1, g2, g3, g4, g5⟩ hw
    have e' : x = nI m := e
    subst e'
    refine pk_le 2401 i (fun z => absurd z (by omega)) (fun _ => ⟨pk_in i 2401 hi, br_c (fun hz => nm_r (nI_1 i) (hw (c, nI m, b4, b5, b6) ⟨m, rfl, by omega, g2, g3, g4, ?_⟩)) (fun hz => lo_goOnFrom hP hK hi (by omega) g2 g3 (by rw [nI_clamp (by omega)] at hz; exact hz) ?_)⟩)
    · have hz' : b4 i = 0 := by
        have hz2 : b4 (nI i).toNatClampNeg = 0 := hz
        rw [nI_clamp (by omega)] at hz2
        exact hz2
      rcases g5 with g | g | ⟨j, j1, j2, j3⟩
      · exact Or.inl g
      · exact Or.inr (Or.inl g)
      · refine Or.inr (Or.inr ⟨j, ?_, j2, j3⟩)
        have : j ≠ i := fun z => j3 (by rw [z]; exact hz')
        omega
    · intro c' m' d4 d5 d6 q1 q2 q3 q4
      have hzi : b4 i ≠ 0 := by
        have hz2 : ¬ b4 (nI i).toNatClampNeg = 0 := hz
        rw [nI_clamp (by omega)] at hz2
        exact hz2
      refine nm_r (nI_1 i) (hw (c', nI m', d4, d5, d6) ?_)
      rcases q4 with ⟨rfl, rfl, q⟩ | ⟨rfl, rfl, ql, qn⟩
      · refine ⟨m', rfl, by omega, q1, q2, fun k hk => ?_, ?_⟩
        · obtain ⟨s, s1, s2, s3, s4, s5⟩ := g4 k hk
          exact ⟨s, s1, s2, q3 s s3, s4, s5⟩
        · rcases q with ⟨j, j1, j2, j3⟩ | q
          · exact Or.inr (Or.inr ⟨j, by omega, j2, j3⟩)
          · exact Or.inr (Or.inl (by rw [← q]; exact q3 i hzi))
      · refine ⟨m + 1, rfl, by omega, q1, q2, fun k hk => ?_, Or.inl (by omega)⟩
        show ∃ s, s < 2401 ∧ upd b6 m (nI i) k = nI s ∧ d4 s ≠ 0 ∧ s ≠ lo_last n ∧ ∀ t, t < 4 → ¬ lo_may n ac s t
        by_cases e : k = m
        · rw [e, pk_us]
          exact ⟨i, hi, rfl, q3 i hzi, ql, qn⟩
        · rw [pk_un e]
          obtain ⟨s, s1, s2, s3, s4, s5⟩ := g4 k (by omega)
          exact ⟨s, s1, s2, q3 s s3, s4, s5⟩
theorem lo_findStates {post : St1 → Prop} (hP : lo_P n ac) (hK : lo_K n ac a1 a2 a3)
    (hp : ∀ (cm' : Int32) (m : Nat) (b4 b5 b6 : Nat → Int32), lo_FS n ac m b4 b5 b6 → post (kn, cm', (nI m), rm, ms, mo, a1, a2, a3, b4, b5, b6, a7, a8, a9)) : wpX_findStates post (kn, cm, sm, rm, ms, mo, a1, a2, a3, a4, a5, a6, a7, a8, a9) := by
  unfold wpX_findStates
  dsimp only
  refine loop_0 (σ := (Nat → Int32) × (Nat → Int32)) (fun f i z => wX_findStates_2 post kn cm sm rm ms mo f (nI i) a1 a2 a3 z.1 z.2 a6 a7 a8 a9) (fun i z => (∀ j, j < i → z.1 j = 0) ∧ (∀ j, j < i → z.2 j = 0)) 2401 (a4, a5) ⟨fun j hj => absurd hj (by omega), fun j hj => absurd hj (by omega)⟩ ?_ ?_
  · rintro f ⟨b4, b5⟩ ⟨g1, g2⟩
    refine pk_le 2401 2401 (fun _ => nm_e (nm_e (lo_states55 hP hK ?_ ?_ ?_ hp))) (fun z => absurd z (by omega))
    · intro j hj h
      by_cases e : j = 0
      · rw [e]; exact lo_ok_0 n ac
      · rw [pk_un e] at h
        exact absurd (g1 j hj) h
    · intro j hj h
      by_cases e : j = 0
      · rw [e, pk_us]; exact lo_one_ne
      · rw [pk_un e] at h
        exact absurd (g2 j hj) h
    · rw [pk_us]; exact lo_one_ne
  · rintro f i ⟨b4, b5⟩ hi ⟨g1, g2⟩ hw
    refine pk_le 2401 i (fun z => absurd z (by omega)) (fun _ => ⟨pk_in i 2401 hi, nm_r (e' := upd b4 i 0) (by rw [nI_clamp (by omega)]) ⟨pk_in i 2401 hi, nm_r (e' := upd b5 i 0) (by rw [nI_clamp (by omega)]) (nm_r (nI_1 i) (hw (upd b4 i 0, upd b5 i 0) ⟨fun j hj => ?_, fun j hj => ?_⟩))⟩⟩)
    · show upd b4 i 0 j = 0
      by_cases e : j = i
      · rw [e, pk_us]
      · rw [pk_un e]; exact g1 j (by omega)
    · show upd b5 i 0 j = 0
      by_cases e : j = i
      · rw [e, pk_us]
      · rw [pk_un e]; exact g2 j (by omega)
end
end
section
section
variable {kn cm sm rm ms mo : Int32} {a1 a2 a3 a4 a5 a6 a7 a8 a9 : Nat → Int32} {n : Nat → Nat} {ac : Nat → Nat → Nat} {p : Nat → Nat} {t i l k : Nat}
/-! ===== isRequest, holderOf ===== -/
theorem lo_isRequest {post : Int32 → Prop} (hP : lo_P n ac) (hK : lo_K n ac a1 a2 a3) (ht : t < 4) (hi : i < 7) (h1 : lo_req n ac t i → post 1) (h0 : ¬ lo_req n ac t i → post 0) : wpX_isRequest post (kn, cm, sm, rm, ms, mo, a1, a2, a3, a4, a5, a6, a7, a8, a9) (nI t) (nI i) := by
  have h6 := hP.1 t ht
  unfold wpX_isRequest
  dsimp only
  rw [nI_clamp (show t < 2 ^ 31 by omega), hK.1 t ht]
  refine ⟨vp_in_nI ht (by omega), pk_le (n t) i (fun z => h0 (fun r => absurd r.1 (by omega))) (fun z => ?_)⟩
  rw [lo_6, nI_clamp (by omega), hK.2.1 t ht i z]
  refine ⟨vp_in_nI (by omega) (by omega), ?_⟩
  rcases hP.2 t ht i z with ⟨c1, _⟩ | ⟨c1, c2⟩
  · rw [lo_act_lo c1]
    refine br_f (nI_pos (by omega)) (lo_heldK hP hK ht (by omega) ?_)
    have hh := lo_H_lt hP ht i (by omega)
    exact pk_eq (lo_H ac t i) 0 (fun e => h0 (fun r => r.2.2 e)) (fun e => h1 ⟨z, c1, e⟩)
  · exact br_t (lo_act_neg _ c2 c1) (h0 (fun r => by have := r.2.1; omega))
def lo_hv (h : Nat) : Int32 := if h = 4 then -1 else nI h
theorem lo_gd_le (hg : lo_gd n ac p) (ht : t < 4) (h : p t < 7) : lo_req n ac t (p t) := by
  rcases hg t ht with z | z
  · omega
  · exact z
theorem lo_holderOf {post : Int32 → Prop} (hP : lo_P n ac) (hK : lo_K n ac a1 a2 a3) (h9 : ∀ t, t < 4 → a9 t = nI (p t)) (h8 : ∀ t, t < 4 → p t < 8) (hg : lo_gd n ac p) (hl : l < 5) (hp : post (lo_hv (lo_hold ac p l 4))) : wpX_holderOf post (kn, cm, sm, rm, ms, mo, a1, a2, a3, a4, a5, a6, a7, a8, a9) (nI l) := by
  unfold wpX_holderOf
  dsimp only
  refine loop_0 (fun f i (x : Int32) => wX_holderOf_4 post (nI l) kn cm sm rm ms mo a1 a2 a3 a4 a5 a6 a7 a8 a9 f x (nI i)) (fun i x => x = lo_hv (lo_hold ac p l i)) 4 (-1) rfl
    (fun f x h => pk_le 4 4 (fun _ => by rw [h]; exact hp) (fun z => absurd z (by omega))) ?_
  intro f i x hi h hw
  have c : (nI i).toNatClampNeg = i := nI_clamp (by omega)
  have g8 := h8 i hi
  refine pk_le 4 i (fun z => absurd z (by omega)) (fun _ => ⟨pk_in i 4 hi, ?_⟩)
  rw [c, h9 i hi]
  refine pk_le 7 (p i) (fun z => br_t rfl (nm_r (nI_1 i) (hw _ ?_))) (fun z => ⟨pk_in i 4 hi, ?_⟩)
  · show x = lo_hv (if p i < 7 ∧ lo_b (lo_H ac i (p i)) l = 1 then i else lo_hold ac p l i)
    rw [if_neg (fun y => absurd y.1 (by omega))]
    exact h
  · have hr := (lo_gd_le hg hi z).1
    have hh := lo_H_lt hP hi (p i) (by omega)
    refine lo_heldK hP hK hi (by omega) ?_
    rw [lo_bit _ hh _ hl]
    have hb := lo_b01 (lo_H ac i (p i)) l
    refine pk_eq (lo_b (lo_H ac i (p i)) l) 1 (fun e => br_f lo_one_ne (nm_r (nI_1 i) (hw _ ?_))) (fun e => br_t rfl (nm_r (nI_1 i) (hw _ ?_)))
    · show nI i = lo_hv (if p i < 7 ∧ lo_b (lo_H ac i (p i)) l = 1 then i else lo_hold ac p l i)
      rw [if_pos ⟨z, e⟩]
      exact (if_neg (by omega)).symm
    · show x = lo_hv (if p i < 7 ∧ lo_b (lo_H ac i (p i)) l = 1 then i else lo_hold ac p l i)
      rw [if_neg (fun y => e y.2)]
      exact h
/-! ===== goesRound ===== -/
theorem lo_st_le (p : Nat → Nat) : lo_st p ≤ 3 := by unfold lo_st; split <;> (try split) <;> (try split) <;> omega
theorem lo_st_7 {j : Nat} (h : j < lo_st p) : p j = 7 := by
  unfold lo_st at h
  by_cases e0 : p 0 = 7
  · rw [if_pos e0] at h
    by_cases e1 : p 1 = 7
    · rw [if_pos e1] at h
      by_cases e2 : p 2 = 7
      · rw [if_pos e2] at h
        rcases (show j = 0 ∨ j = 1 ∨ j = 2 by omega) with rfl | rfl | rfl
        · exact e0
        · exact e1
        · exact e2
      · rw [if_neg e2] at h
        rcases (show j = 0 ∨ j = 1 by omega) with rfl | rfl
        · exact e0
        · exact e1
    · rw [if_neg e1] at h
      rw [show j = 0 by omega]
      exact e0
  · rw [if_neg e0] at h
    omega
theorem lo_st_n (h : lo_st p < 3) : p (lo_st p) ≠ 7 := by
  unfold lo_st at h ⊢
  by_cases e0 : p 0 = 7
  · rw [if_pos e0] at h ⊢
    by_cases e1 : p 1 = 7
    · rw [if_pos e1] at h ⊢
      by_cases e2 : p 2 = 7
      · rw [if_pos e2] at h
        omega
      · rw [if_neg e2]
        exact e2
    · rw [if_neg e1]
      exact e1
  · rw [if_neg e0]
    exact e0
theorem lo_many_le (p : Nat → Nat) : ∀ k, lo_many p k ≤ k := by
  intro k
  induction k with
  | zero => exact Nat.le_refl 0
  | succ k ih =>
    show (if p k < 7 then lo_many p k + 1 else lo_many p k) ≤ k + 1
    split <;> omega
theorem lo_st_in (h8 : ∀ t, t < 4 → p t < 8) (h : 0 < lo_many p 4) : p (lo_st p) < 7 := by
  have hs := lo_st_le p
  have h1 := h8 (lo_st p) (by omega)
  by_cases e : lo_st p < 3
  · have := lo_st_n e
    omega
  · have e3 : lo_st p = 3 := by omega
    have z := lo_many_0 (p := p) 3 (fun t ht => lo_st_7 (by omega))
    have h' : 0 < (if p 3 < 7 then lo_many p 3 + 1 else lo_many p 3) := h
    rw [e3]
    by_cases y : p 3 < 7
    · exact y
    · rw [if_neg y, z] at h'
      omega
theorem lo_m1_ne : ∀ j, j < 4 → ¬ (-1 : Int32) = nI j := by decide
theorem lo_m1_lt : lo_hv 4 < 0 := by decide
theorem lo_nIpred {M : Nat} (h : 0 < M) : nI M - 1 = nI (M - 1) := by
  obtain ⟨m, rfl⟩ : ∃ m, M = m + 1 := ⟨M - 1, by omega⟩
  rw [Nat.add_sub_cancel]
  exact nI_pred m
theorem lo_round29 {post : Int32 → Prop} {M st : Nat} (hP : lo_P n ac) (hK : lo_K n ac a1 a2 a3) (h9 : ∀ t, t < 4 → a9 t = nI (p t)) (h8 : ∀ t, t < 4 → p t < 8) (hg : lo_gd n ac p) (hM : M ≤ 4) (hst : st < 4) : ∀ r step a, step + r = M → a < 4 → p a < 7 → post (if lo_go (fun t => lo_hold ac p (ac t (p t)) 4) st M r step a = true then (1 : Int32) else 0) → wX_goesRound_29 post (nI M) (nI st) kn cm sm rm ms mo a1 a2 a3 a4 a5 a6 a7 a8 a9 (r + 1) (nI a) (nI step) := by
  intro r
  induction r with
  | zero =>
    intro step a e ha h7 hp
    have hp' : post (if false = true then (1 : Int32) else 0) := hp
    rw [if_neg (by decide)] at hp'
    exact pk_le M step (fun _ => hp') (fun z => absurd z (by omega))
  | succ r ih =>
    intro step a e ha h7 hp
    have hq := lo_gd_le hg ha h7
    have hq1 := hq.1
    have h6 := hP.1 a ha
    have c : (nI a).toNatClampNeg = a := nI_clamp (by omega)
    refine pk_le M step (fun z => absurd z (by omega)) (fun _ => ⟨pk_in a 4 ha, ?_⟩)
    rw [c, h9 a ha, lo_6, nI_clamp (by omega), hK.2.1 a ha _ hq1, lo_act_lo hq.2.1]
    refine ⟨vp_in_nI (by omega) (by omega), lo_holderOf hP hK h9 h8 hg hq.2.1 ?_⟩
    have hp' : post (if (if lo_hold ac p (ac a (p a)) 4 = 4 ∨ lo_hold ac p (ac a (p a)) 4 = st then decide (lo_hold ac p (ac a (p a)) 4 = st ∧ step = M - 1) else lo_go (fun t => lo_hold ac p (ac t (p t)) 4) st M r (step + 1) (lo_hold ac p (ac a (p a)) 4)) = true then (1 : Int32) else 0) := hp
    have hh := lo_hold_lt (ac := ac) (p := p) (l := ac a (p a)) 4 (by omega)
    generalize lo_hold ac p (ac a (p a)) 4 = h at hp' hh ⊢
    rcases hh with e4 | ⟨e4, e7⟩
    · subst e4
      have nst : ¬ (4 = st ∧ step = M - 1) := by omega
      rw [if_pos (Or.inl rfl), decide_eq_false nst, if_neg (by decide)] at hp'
      exact br_t lo_m1_lt (br_f (lo_m1_ne st hst) hp')
    · have ev : lo_hv h = nI h := if_neg (by omega)
      rw [ev]
      refine br_f (nI_pos (by omega)) (pk_eq h st (fun eh => ?_) (fun eh => ?_))
      · rw [if_pos (Or.inr eh)] at hp'
        refine br_t (by rw [eh]) (pk_eq step (M - 1) (fun es => ?_) (fun es => ?_) rfl (lo_nIpred (by omega)))
        · rw [decide_eq_true ⟨eh, es⟩, if_pos rfl] at hp'
          exact hp'
        · rw [decide_eq_false (fun y => es y.2), if_neg (by decide)] at hp'
          exact hp'
      · rw [if_neg (show ¬ (h = 4 ∨ h = st) by omega)] at hp'
        exact nm_r (nI_1 step) (ih (step + 1) h (by omega) e4 e7 hp')
theorem lo_goesRound {post : Int32 → Prop} (hP : lo_P n ac) (hK : lo_K n ac a1 a2 a3) (h9 : ∀ t, t < 4 → a9 t = nI (p t)) (h8 : ∀ t, t < 4 → p t < 8) (hg : lo_gd n ac p) (h1 : 1 < lo_many p 4) (hp : post (if lo_go (fun t => lo_hold ac p (ac t (p t)) 4) (lo_st p) (lo_many p 4) (lo_many p 4) 0 (lo_st p) = true then (1 : Int32) else 0)) : wpX_goesRound post (kn, cm, sm, rm, ms, mo, a1, a2, a3, a4, a5, a6, a7, a8, a9) (nI (lo_many p 4)) := by
  have hs3 := lo_st_le p
  have m4 := lo_many_le p 4
  have main : ∃ f, wX_goesRound_29 post (nI (lo_many p 4)) (nI (lo_st p)) kn cm sm rm ms mo a1 a2 a3 a4 a5 a6 a7 a8 a9 f (nI (lo_st p)) 0 := ⟨lo_many p 4 + 1, lo_round29 hP hK h9 h8 hg m4 (by omega) (lo_many p 4) 0 (lo_st p) (by omega) (by omega) (lo_st_in h8 (by omega)) hp⟩
  unfold wpX_goesRound
  dsimp only
  exact pk_loop (σ := Unit) (fun f i _ => wX_goesRound_2 post (nI (lo_many p 4)) kn cm sm rm ms mo a1 a2 a3 a4 a5 a6 a7 a8 a9 f (nI i)) (fun _ _ => True) (lo_st p) 0 () (by omega) trivial
    (fun f _ _ => pk_le 3 (lo_st p) (fun _ => main) (fun z => ⟨pk_in (lo_st p) 4 (by omega), br_f (by rw [nI_clamp (by omega), h9 _ (by omega)]; exact fun y => lo_st_n z ((nI_eq (by have := h8 (lo_st p) (by omega); omega) (by decide)).mp y)) main⟩))
    (fun f i _ hi _ hw => pk_le 3 i (fun z => absurd z (by omega)) (fun z => ⟨pk_in i 4 (by omega), br_t (by rw [nI_clamp (by omega), h9 i (by omega), lo_st_7 hi]; rfl) (nm_r (nI_1 i) (hw () trivial))⟩))
/-! ===== isRing ===== -/
theorem lo_isRing {post : Int32 → Prop} (hP : lo_P n ac) (hK : lo_K n ac a1 a2 a3) (h9 : ∀ t, t < 4 → a9 t = nI (p t)) (h8 : ∀ t, t < 4 → p t < 8) (hg : lo_gd n ac p) (h1 : lo_ring ac p → post 1) (h0 : ¬ lo_ring ac p → post 0) : wpX_isRing post (kn, cm, sm, rm, ms, mo, a1, a2, a3, a4, a5, a6, a7, a8, a9) := by
  unfold wpX_isRing
  dsimp only
  refine loop_0 (σ := Int32 × Int32 × Int32) (fun f i z => wX_isRing_9 post kn cm sm rm ms mo a1 a2 a3 a4 a5 a6 a7 a8 a9 f z.1 z.2.1 z.2.2 (nI i)) (fun i z => z.1 = nI (lo_all ac p i) ∧ z.2.1 = nI (lo_many p i) ∧ ((z.2.2 = 1 ∧ lo_ap ac p i) ∨ (z.2.2 = 0 ∧ ¬ lo_ap ac p i))) 4 (0, 0, 1) ⟨rfl, rfl, Or.inl ⟨rfl, trivial⟩⟩ ?_ ?_
  · rintro f ⟨x1, x2, x3⟩ ⟨e1, e2, e3⟩
    have e2' : x2 = nI (lo_many p 4) := e2
    subst e2'
    have m4 := lo_many_le p 4
    refine pk_le 4 4 (fun _ => ?_) (fun z => absurd z (by omega))
    rcases e3 with ⟨e3, e4⟩ | ⟨e3, e4⟩
    · refine br_f (lo_ne1 e3) (pk_le (lo_many p 4) 1 (fun z => h0 (fun r => absurd r.2.1 (by omega))) (fun z => lo_goesRound hP hK h9 h8 hg z ?_))
      by_cases g : lo_go (fun t => lo_hold ac p (ac t (p t)) 4) (lo_st p) (lo_many p 4) (lo_many p 4) 0 (lo_st p) = true
      · rw [if_pos g]
        exact br_f lo_one_ne (h1 ⟨e4, z, g⟩)
      · rw [if_neg g]
        exact br_t rfl (h0 (fun r => g r.2.2))
    · exact br_t e3 (h0 (fun r => e4 r.1))
  · rintro f i ⟨x1, x2, x3⟩ hi ⟨e1, e2, e3⟩ hw
    have e1' : x1 = nI (lo_all ac p i) := e1
    have e2' : x2 = nI (lo_many p i) := e2
    subst e1' e2'
    have c : (nI i).toNatClampNeg = i := nI_clamp (by omega)
    have g8 := h8 i hi
    refine pk_le 4 i (fun z => absurd z (by omega)) (fun _ => ⟨pk_in i 4 hi, ?_⟩)
    rw [c, h9 i hi]
    refine pk_le 7 (p i) (fun z => nm_r (nI_1 i) (hw (nI (lo_all ac p i), nI (lo_many p i), x3) ⟨?_, ?_, ?_⟩)) (fun z => ⟨pk_in i 4 hi, ?_⟩)
    · show nI (lo_all ac p i) = nI (if p i < 7 then lo_all ac p i ||| lo_H ac i (p i) else lo_all ac p i)
      rw [if_neg (by omega)]
    · show nI (lo_many p i) = nI (if p i < 7 then lo_many p i + 1 else lo_many p i)
      rw [if_neg (by omega)]
    · rcases e3 with ⟨a, b⟩ | ⟨a, b⟩
      · exact Or.inl ⟨a, b, fun y => absurd y (by omega)⟩
      · exact Or.inr ⟨a, fun y => b y.1⟩
    · have hr := (lo_gd_le hg hi z).1
      have hh := lo_H_lt hP hi (p i) (by omega)
      have hab : lo_all ac p i &&& lo_H ac i (p i) < 2 ^ 31 := Nat.lt_of_le_of_lt Nat.and_le_right (by omega)
      have A : nI (lo_all ac p i) ||| nI (lo_H ac i (p i)) = nI (lo_all ac p (i + 1)) := by
        rw [lo_or]
        show _ = nI (if p i < 7 then lo_all ac p i ||| lo_H ac i (p i) else lo_all ac p i)
        rw [if_pos z]
      have M : nI (lo_many p i) + 1 = nI (lo_many p (i + 1)) := by
        rw [nI_1]
        show _ = nI (if p i < 7 then lo_many p i + 1 else lo_many p i)
        rw [if_pos z]
      refine lo_heldK hP hK hi (by omega) ?_
      rcases e3 with ⟨a, b⟩ | ⟨a, b⟩
      · refine br_f (lo_ne1 a) ?_
        exact pk_eq (lo_all ac p i &&& lo_H ac i (p i)) 0 (fun e => nm_r A (nm_r M (nm_r (nI_1 i) (hw (nI (lo_all ac p (i + 1)), nI (lo_many p (i + 1)), 1) ⟨rfl, rfl, Or.inl ⟨rfl, b, fun _ => e⟩⟩)))) (fun e => nm_r A (nm_r M (nm_r (nI_1 i) (hw (nI (lo_all ac p (i + 1)), nI (lo_many p (i + 1)), 0) ⟨rfl, rfl, Or.inr ⟨rfl, fun y => e (y.2 z)⟩⟩)))) (lo_and _ _) rfl hab (by decide)
      · exact br_t a (nm_r A (nm_r M (nm_r (nI_1 i) (hw (nI (lo_all ac p (i + 1)), nI (lo_many p (i + 1)), 0) ⟨rfl, rfl, Or.inr ⟨rfl, fun y => b y.1⟩⟩))))
/-! ===== findRings ===== -/
theorem lo_rg (hk : k < 4096) (ht : t < 4) : (nI k >>> ((3 * nI t) &&& 31)) &&& 7 = nI (lo_pl k t) := by
  have hd : ∀ j, k / 2 ^ j < 2 ^ 32 := fun j => by have := Nat.div_le_self k (2 ^ j); omega
  rcases lo_four ht with rfl | rfl | rfl | rfl
  · rw [pk_shrN (by omega) _ 0 (by decide), pk_andN (hd 0) 3 (by decide)]; rfl
  · rw [pk_shrN (by omega) _ 3 (by decide), pk_andN (hd 3) 3 (by decide)]; rfl
  · rw [pk_shrN (by omega) _ 6 (by decide), pk_andN (hd 6) 3 (by decide)]; rfl
  · rw [pk_shrN (by omega) _ 9 (by decide), pk_andN (hd 9) 3 (by decide)]; rfl
theorem lo_byte : ∀ j, j < 64 → (nI j).toInt8.toInt32 = nI j := by decide +kernel
theorem lo_pl_lt (k t : Nat) : lo_pl k t < 8 := Nat.mod_lt _ (by decide)
theorem lo_rings18 {post : St1 → Prop} {J : Int32 → Int32 → (Nat → Int32) → (Nat → Int32) → (Nat → Int32) → (Nat → Int32) → (Nat → Int32) → (Nat → Int32) → (Nat → Int32) → (Nat → Int32) → (Nat → Int32) → Prop} {R : Nat} (hP : lo_P n ac) (hK : lo_K n ac a1 a2 a3) (hk : k < 4096) (hR : R < 4096)
    (h0 : ¬ lo_RA n ac k → ∀ b9, J (nI (k + 1)) (nI R) a1 a2 a3 a4 a5 a6 a7 a8 b9) (h1 : lo_RA n ac k → ∀ b7 b9, J (nI (k + 1)) (nI (R + 1)) a1 a2 a3 a4 a5 a6 b7 (upd a8 R 0) b9) : ∃ f, wX_findRings_18 post J (nI k) kn cm sm (nI R) ms mo f 1 0 a1 a2 a3 a4 a5 a6 a7 a8 a9 := by
  refine loop_0 (σ := Int32 × (Nat → Int32)) (fun f i z => wX_findRings_18 post J (nI k) kn cm sm (nI R) ms mo f z.1 (nI i) a1 a2 a3 a4 a5 a6 a7 a8 z.2) (fun i z => (∀ q, q < i → z.2 q = nI (lo_pl k q)) ∧ ((z.1 = 1 ∧ ∀ q, q < i → (lo_pl k q = 7 ∨ lo_req n ac q (lo_pl k q))) ∨ (z.1 = 0 ∧ ¬ lo_gd n ac (lo_pl k)))) 4 (1, a9) ⟨fun q hq => absurd hq (by omega), Or.inl ⟨rfl, fun q hq => absurd hq (by omega)⟩⟩ ?_ ?_
  · rintro f ⟨x, b9⟩ ⟨g1, g2⟩
    refine pk_le 4 4 (fun _ => ?_) (fun z => absurd z (by omega))
    rcases g2 with ⟨gx, gg⟩ | ⟨gx, gn⟩
    · refine br_f (lo_ne1 gx) (lo_isRing hP hK (p := lo_pl k) g1 (fun t _ => lo_pl_lt k t) gg (fun r => br_f lo_one_ne (br_f lo_one_ne ⟨pk_in R 4096 hR, fun b7 _ => ⟨pk_in R 4096 hR, nm_r (e' := upd a8 R 0) (by rw [nI_clamp (by omega)]) (nm_r (nI_1 R) (nm_r (nI_1 k) (h1 ⟨gg, r⟩ b7 b9)))⟩⟩)) (fun r => br_t rfl (br_t rfl (nm_r (nI_1 k) (h0 (fun y => r y.2) b9)))))
    · exact br_t gx (br_t rfl (nm_r (nI_1 k) (h0 (fun y => gn y.1) b9)))
  · rintro f i ⟨x, b9⟩ hi ⟨g1, g2⟩ hw
    have h8 := lo_pl_lt k i
    have F : ∀ q, q < i + 1 → upd b9 i (nI (lo_pl k i)) q = nI (lo_pl k q) := by
      intro q hq
      by_cases e : q = i
      · rw [e, pk_us]
      · rw [pk_un e]
        exact g1 q (by omega)
    refine pk_le 4 i (fun z => absurd z (by omega)) (fun _ => nm_r (lo_rg hk hi) ⟨pk_in i 4 hi, nm_r (e' := upd b9 i (nI (lo_pl k i))) (by rw [nI_clamp (by omega), lo_byte _ (by omega)]) ?_⟩)
    rcases g2 with ⟨gx, gg⟩ | ⟨gx, gn⟩
    · have ext : (lo_pl k i = 7 ∨ lo_req n ac i (lo_pl k i)) → ∀ q, q < i + 1 → (lo_pl k q = 7 ∨ lo_req n ac q (lo_pl k q)) := by
        intro h q hq
        by_cases e : q = i
        · rw [e]; exact h
        · exact gg q (by omega)
      exact br_f (lo_ne1 gx) (pk_eq (lo_pl k i) 7 (fun e => nm_r (nI_1 i) (hw (1, upd b9 i (nI (lo_pl k i))) ⟨F, Or.inl ⟨rfl, ext (Or.inl e)⟩⟩)) (fun e => lo_isRequest hP hK hi (by omega) (fun r => br_f lo_one_ne (nm_r (nI_1 i) (hw (1, upd b9 i (nI (lo_pl k i))) ⟨F, Or.inl ⟨rfl, ext (Or.inr r)⟩⟩))) (fun r => br_t rfl (nm_r (nI_1 i) (hw (0, upd b9 i (nI (lo_pl k i))) ⟨F, Or.inr ⟨rfl, fun g => (g i hi).elim e r⟩⟩)))))
    · exact br_t gx (nm_r (nI_1 i) (hw (0, upd b9 i (nI (lo_pl k i))) ⟨F, Or.inr ⟨rfl, gn⟩⟩))
theorem lo_findRings {post : St1 → Prop} (hP : lo_P n ac) (hK : lo_K n ac a1 a2 a3)
    (hp : ∀ (R : Nat) (b7 b8 b9 : Nat → Int32), R ≤ 4096 → (∀ r, r < R → b8 r = 0) → (R = 0 → ∀ k, k < 4096 → ¬ lo_RA n ac k) → (lo_sg n ac → R = 0) → post (kn, cm, sm, (nI R), ms, mo, a1, a2, a3, a4, a5, a6, b7, b8, b9)) : wpX_findRings post (kn, cm, sm, rm, ms, mo, a1, a2, a3, a4, a5, a6, a7, a8, a9) := by
  unfold wpX_findRings
  dsimp only
  refine loop_0 (σ := Int32 × (Nat → Int32) × (Nat → Int32) × (Nat → Int32)) (fun f i z => wX_findRings_7 post kn cm sm ms mo f (nI i) z.1 a1 a2 a3 a4 a5 a6 z.2.1 z.2.2.1 z.2.2.2) (fun i z => ∃ R, z.1 = nI R ∧ R ≤ i ∧ (∀ r, r < R → z.2.2.1 r = 0) ∧ (R = 0 → ∀ k, k < i → ¬ lo_RA n ac k) ∧ (lo_sg n ac → R = 0)) 4096 (0, a7, a8, a9) ⟨0, rfl, by omega, fun r hr => absurd hr (by omega), fun _ k hk => absurd hk (by omega), fun _ => rfl⟩ ?_ ?_
  · rintro f ⟨x, b7, b8, b9⟩ ⟨R, e, g1, g2, g3, g4⟩
    have e' : x = nI R := e
    subst e'
    exact pk_le 4096 4096 (fun _ => hp R b7 b8 b9 g1 g2 g3 g4) (fun z => absurd z (by omega))
  · rintro f i ⟨x, b7, b8, b9⟩ hi ⟨R, e, g1, g2, g3, g4⟩ hw
    have e' : x = nI R := e
    subst e'
    refine pk_le 4096 i (fun z => absurd z (by omega)) (fun _ => lo_rings18 hP hK hi (by omega) (fun hn d9 => hw (nI R, b7, b8, d9) ⟨R, rfl, by omega, g2, fun h0 k hk => ?_, g4⟩) (fun hr d7 d9 => hw (nI (R + 1), d7, upd b8 R 0, d9) ⟨R + 1, rfl, by omega, fun r hr => ?_, fun z => absurd z (by omega), fun z => absurd hr (lo_sg_RA hP z i)⟩))
    · by_cases e : k = i
      · rw [e]; exact hn
      · exact g3 h0 k (by omega)
    · show upd b8 R 0 r = 0
      by_cases e : r = R
      · rw [e, pk_us]
      · rw [pk_un e]; exact g2 r (by omega)
end
end
section
section
variable {kn cm sm rm ms mo : Int32} {a1 a2 a3 a4 a5 a6 a7 a8 a9 : Nat → Int32} {n : Nat → Nat} {ac : Nat → Nat → Nat} {s t i l k m R c : Nat}
/-! ===== sumOf, meets, meetRings ===== -/
theorem lo_sumOf {post : Int32 → Prop} (hs : s < 2 ^ 31) (hp : ∀ x, x ≤ 24 → post (nI x)) : wpX_sumOf post (kn, cm, sm, rm, ms, mo, a1, a2, a3, a4, a5, a6, a7, a8, a9) (nI s) := by
  unfold wpX_sumOf
  dsimp only
  refine loop_0 (fun f i (x : Int32) => wX_sumOf_4 post (nI s) kn cm sm rm ms mo a1 a2 a3 a4 a5 a6 a7 a8 a9 f x (nI i)) (fun i x => ∃ y, x = nI y ∧ y ≤ 6 * i) 4 0 ⟨0, rfl, by omega⟩ ?_ ?_
  · rintro f x ⟨y, rfl, hy⟩
    exact pk_le 4 4 (fun _ => hp y (by omega)) (fun z => absurd z (by omega))
  · rintro f i x hi ⟨y, rfl, hy⟩ hw
    have h7 := lo_d_lt s i
    exact pk_le 4 i (fun z => absurd z (by omega)) (fun _ => lo_doneIn hs hi (nm_r (nI_add y (lo_d s i)) (nm_r (nI_1 i) (hw _ ⟨y + lo_d s i, rfl, by omega⟩))))
theorem lo_bool01 {x : Int32} (h : x = 0 ∨ x = 1) : narrow .boolean (.int x) = .int x := by
  rcases h with rfl | rfl <;> rfl
theorem lo_meets {post : Int32 → Prop} {r : Nat} (hs : s < 2 ^ 31) (hr : r < 4096) (h0 : post 0) (h1 : post 1) : wpX_meets post (kn, cm, sm, rm, ms, mo, a1, a2, a3, a4, a5, a6, a7, a8, a9) (nI s) (nI r) := by
  unfold wpX_meets
  dsimp only
  refine loop_0 (fun f i (x : Int32) => wX_meets_5 post (nI s) (nI r) kn cm sm rm ms mo a1 a2 a3 a4 a5 a6 a7 a8 a9 f x (nI i)) (fun i x => x = 0 ∨ x = 1) 4 1 (Or.inr rfl) ?_ ?_
  · intro f x h
    refine pk_le 4 4 (fun _ => ⟨lo_bool01 h, ?_⟩) (fun z => absurd z (by omega))
    rcases h with rfl | rfl
    · exact h0
    · exact h1
  · intro f i x hi h hw
    exact pk_le 4 i (fun z => absurd z (by omega)) (fun _ => ⟨pk_in r 4096 hr, nm_e (br_c (fun _ => nm_r (nI_1 i) (hw _ (Or.inl rfl))) (fun _ => br_c (fun _ => nm_r (nI_1 i) (hw _ (Or.inr rfl))) (fun _ => lo_doneIn hs hi (br_c (fun _ => nm_r (nI_1 i) (hw _ (Or.inr rfl))) (fun _ => nm_r (nI_1 i) (hw _ (Or.inl rfl)))))))⟩)
theorem lo_nar0 : vp_nar .boolean 0 = 0 := by rfl
theorem lo_nar1 : vp_nar .boolean 1 = 1 := by rfl
theorem lo_meetRings {post : Int32 → St1 → Prop} (hs : s < 2 ^ 31) (hR : R ≤ 4096) (hp : ∀ (x : Int32) (b8 : Nat → Int32), ((x = 0 ∧ ((∃ r, r < R ∧ b8 r ≠ 0) ↔ ∃ r, r < R ∧ a8 r ≠ 0)) ∨ (x = 1 ∧ ∃ r, r < R ∧ b8 r ≠ 0)) → post x (kn, cm, sm, (nI R), ms, mo, a1, a2, a3, a4, a5, a6, a7, b8, a9)) : wpX_meetRings post (kn, cm, sm, (nI R), ms, mo, a1, a2, a3, a4, a5, a6, a7, a8, a9) (nI s) := by
  unfold wpX_meetRings
  dsimp only
  refine loop_0 (σ := Int32 × (Nat → Int32)) (fun f i z => wX_meetRings_4 post (nI s) kn cm sm (nI R) ms mo f z.1 (nI i) a1 a2 a3 a4 a5 a6 a7 z.2 a9) (fun i z => (∀ r, a8 r ≠ 0 → z.2 r ≠ 0) ∧ ((z.1 = 0 ∧ ∀ r, z.2 r ≠ 0 → a8 r ≠ 0) ∨ (z.1 = 1 ∧ ∃ r, r < R ∧ z.2 r ≠ 0))) R (0, a8) ⟨fun _ h => h, Or.inl ⟨rfl, fun _ h => h⟩⟩ ?_ ?_
  · rintro f ⟨x, b8⟩ ⟨g1, g2⟩
    refine pk_le R R (fun _ => ⟨lo_bool01 (g2.elim (fun h => Or.inl h.1) (fun h => Or.inr h.1)), hp x b8 ?_⟩) (fun z => absurd z (by omega))
    rcases g2 with ⟨gx, g2⟩ | ⟨gx, g2⟩
    · refine Or.inl ⟨gx, ?_, ?_⟩
      · rintro ⟨r, h1, h2⟩
        exact ⟨r, h1, g2 r h2⟩
      · rintro ⟨r, h1, h2⟩
        exact ⟨r, h1, g1 r h2⟩
    · exact Or.inr ⟨gx, g2⟩
  · rintro f i ⟨x, b8⟩ hi ⟨g1, g2⟩ hw
    have c : (nI i).toNatClampNeg = i := nI_clamp (by omega)
    have fin : ∀ (r3 z0 v : Int32), vp_nar .boolean z0 = v → ((v = 0 ∧ b8 i = 0 ∧ r3 = 0) ∨ (v = 1 ∧ ((r3 = 0 ∧ b8 i ≠ 0) ∨ r3 = 1))) → wX_meetRings_44 post (wX_meetRings_4 post (nI s) kn cm sm (nI R) ms mo f) (nI s) x (nI i) r3 z0 (nI i) kn cm sm (nI R) ms mo a1 a2 a3 a4 a5 a6 a7 b8 a9 := by
      intro r3 z0 v ev hv
      refine ⟨pk_in i 4096 (by omega), nm_r (e' := upd b8 i v) (by rw [c, ev]) ?_⟩
      have mono : ∀ r, b8 r ≠ 0 → upd b8 i v r ≠ 0 := by
        intro r h
        by_cases e : r = i
        · rw [e] at h ⊢
          rw [pk_us]
          rcases hv with ⟨_, y, _⟩ | ⟨y, _⟩
          · exact absurd y h
          · rw [y]; exact lo_one_ne
        · rw [pk_un e]; exact h
      have m1 : ∀ r, a8 r ≠ 0 → upd b8 i v r ≠ 0 := fun r h => mono r (g1 r h)
      rcases g2 with ⟨gx, g2⟩ | ⟨gx, r, hr, g2⟩
      · refine br_t gx (br_c (fun e0 => nm_r (nI_1 i) (hw (0, upd b8 i v) ⟨m1, Or.inl ⟨rfl, fun r h => ?_⟩⟩)) (fun e0 => nm_r (nI_1 i) (hw (1, upd b8 i v) ⟨m1, Or.inr ⟨rfl, i, hi, ?_⟩⟩)))
        · have h' : upd b8 i v r ≠ 0 := h
          by_cases e : r = i
          · rw [e] at h' ⊢
            rw [pk_us] at h'
            rcases hv with ⟨y, _, _⟩ | ⟨_, ⟨_, y⟩ | y⟩
            · exact absurd y h'
            · exact g2 i y
            · rw [y] at e0; exact absurd e0 lo_one_ne
          · rw [pk_un e] at h'
            exact g2 r h'
        · show upd b8 i v i ≠ 0
          rw [pk_us]
          rcases hv with ⟨_, _, y⟩ | ⟨y, _⟩
          · exact absurd y e0
          · rw [y]; exact lo_one_ne
      · exact br_f (lo_ne1 gx) (nm_r (nI_1 i) (hw (1, upd b8 i v) ⟨m1, Or.inr ⟨rfl, r, hr, mono r g2⟩⟩))
    refine pk_le R i (fun z => absurd z (by omega)) (fun _ => lo_meets hs (by omega) ⟨pk_in i 4096 (by omega), ?_⟩ ⟨pk_in i 4096 (by omega), ?_⟩)
    · rw [c]
      exact br_c (fun e => br_t rfl (fin 0 0 0 lo_nar0 (Or.inl ⟨rfl, e, rfl⟩))) (fun e => fin 0 1 1 lo_nar1 (Or.inr ⟨rfl, Or.inl ⟨rfl, e⟩⟩))
    · rw [c]
      exact br_c (fun e => br_f lo_one_ne (fin 1 1 1 lo_nar1 (Or.inr ⟨rfl, Or.inr rfl⟩))) (fun e => fin 1 1 1 lo_nar1 (Or.inr ⟨rfl, Or.inr rfl⟩))
/-! ===== findMet ===== -/
theorem lo_m4 : (-4 : Int32) < 0 := by decide
theorem lo_m4n : ∀ y, y < 25 → ¬ nI y = (-4 : Int32) := by decide +kernel
theorem lo_findMet {post : St1 → Prop} (hR : R ≤ 4096) (h8 : ∀ r, r < R → a8 r = 0)
    (hp : ∀ (c : Nat) (mo' : Int32) (b8 : Nat → Int32), c ≤ 2401 → ((∃ r, r < R ∧ b8 r ≠ 0) ↔ c ≠ 0) → (mo' = -4 ↔ c = 0) → post (kn, cm, sm, (nI R), (nI c), mo', a1, a2, a3, a4, a5, a6, a7, b8, a9)) : wpX_findMet post (kn, cm, sm, (nI R), ms, mo, a1, a2, a3, a4, a5, a6, a7, a8, a9) := by
  unfold wpX_findMet
  dsimp only
  refine loop_0 (σ := Int32 × Int32 × (Nat → Int32)) (fun f i z => wX_findMet_13 post f (nI i) kn cm sm (nI R) z.1 z.2.1 a1 a2 a3 a4 a5 a6 a7 z.2.2 a9) (fun i z => ∃ c, z.1 = nI c ∧ c ≤ i ∧ ((∃ r, r < R ∧ z.2.2 r ≠ 0) ↔ c ≠ 0) ∧ ((c = 0 ∧ z.2.1 = -4) ∨ (c ≠ 0 ∧ ∃ y, y ≤ 24 ∧ z.2.1 = nI y))) 2401 (0, -4, a8) ⟨0, rfl, by omega, ⟨fun ⟨r, h1, h2⟩ => absurd (h8 r h1) h2, fun h => absurd rfl h⟩, Or.inl ⟨rfl, rfl⟩⟩ ?_ ?_
  · rintro f ⟨x, y, b8⟩ ⟨c, e, g1, g2, g3⟩
    have e' : x = nI c := e
    subst e'
    refine pk_le 2401 2401 (fun _ => hp c y b8 g1 g2 ?_) (fun z => absurd z (by omega))
    rcases g3 with ⟨g3, g4⟩ | ⟨g3, w, g4, g5⟩
    · exact ⟨fun _ => g3, fun _ => g4⟩
    · refine ⟨fun z => absurd z ?_, fun z => absurd z g3⟩
      rw [show y = nI w from g5]
      exact lo_m4n w (by omega)
  · rintro f i ⟨x, y, b8⟩ hi ⟨c, e, g1, g2, g3⟩ hw
    have e' : x = nI c := e
    subst e'
    refine pk_le 2401 i (fun z => absurd z (by omega)) (fun _ => ⟨pk_in i 2401 hi, br_c (fun _ => br_t rfl (nm_r (nI_1 i) (hw (nI c, y, b8) ⟨c, rfl, by omega, g2, g3⟩))) (fun _ => lo_meetRings (by omega) hR ?_)⟩)
    intro x' d8 hx
    rcases hx with ⟨rfl, hx⟩ | ⟨rfl, hx⟩
    · exact br_t rfl (br_t rfl (nm_r (nI_1 i) (hw (nI c, y, d8) ⟨c, rfl, by omega, hx.trans g2, g3⟩)))
    · have nxt : ∀ w, w ≤ 24 → ∃ c', nI (c + 1) = nI c' ∧ c' ≤ i + 1 ∧ ((∃ r, r < R ∧ d8 r ≠ 0) ↔ c' ≠ 0) ∧ ((c' = 0 ∧ nI w = -4) ∨ (c' ≠ 0 ∧ ∃ y, y ≤ 24 ∧ nI w = nI y)) := fun w hw => ⟨c + 1, rfl, by omega, ⟨fun _ => by omega, fun _ => hx⟩, Or.inr ⟨by omega, w, hw, rfl⟩⟩
      refine br_f lo_one_ne (br_f lo_one_ne (lo_sumOf (by omega) (fun w hw24 => nm_r (nI_1 c) ?_)))
      rcases g3 with ⟨g3, g4⟩ | ⟨g3, v, g4, g5⟩
      · exact br_t (by rw [show y = -4 from g4]; exact lo_m4) (nm_r (nI_1 i) (hw (nI (c + 1), nI w, d8) (nxt w hw24)))
      · have g5' : y = nI v := g5
        subst g5'
        exact br_f (nI_pos (by omega)) (br_c (fun _ => nm_r (nI_1 i) (hw (nI (c + 1), nI v, d8) (nxt v g4))) (fun _ => nm_r (nI_1 i) (hw (nI (c + 1), nI w, d8) (nxt w hw24))))
/-! ===== find ===== -/
def lo_F (n : Nat → Nat) (ac : Nat → Nat → Nat) (m R c : Nat) (mo : Int32) (a4 a5 a6 a8 : Nat → Int32) : Prop := m ≤ 2401 ∧ R ≤ 4096 ∧ c ≤ 2401 ∧ (∀ k, k < m → ∃ s, s < 2401 ∧ a6 k = nI s ∧ a4 s ≠ 0 ∧ lo_Ok n ac s ∧ (R = 0 → lo_wt n ac s)) ∧ (0 < m ∨ a4 (lo_last n) ≠ 0) ∧ (a5 (lo_last n) ≠ 0 → a4 (lo_last n) ≠ 0) ∧ (lo_sg n ac → R = 0) ∧ ((∃ r, r < R ∧ a8 r ≠ 0) ↔ c ≠ 0) ∧ (mo = -4 ↔ c = 0)
def lo_V (n : Nat → Nat) (ac : Nat → Nat → Nat) (kn sm rm ms mo : Int32) (a4 a5 a6 a8 : Nat → Int32) : Prop := kn = 0 ∨ (kn = 1 ∧ ∃ m R c, sm = nI m ∧ rm = nI R ∧ ms = nI c ∧ lo_F n ac m R c mo a4 a5 a6 a8)
theorem lo_find1 {post : St1 → Prop} (hp : post (1, cm, sm, rm, ms, mo, a1, a2, a3, a4, a5, a6, a7, a8, a9)) : wpX_find post (1, cm, sm, rm, ms, mo, a1, a2, a3, a4, a5, a6, a7, a8, a9) := by
  unfold wpX_find
  exact br_f lo_one_ne hp
theorem lo_find {post : St1 → Prop} (hP : lo_P n ac) (hK : lo_K n ac a1 a2 a3) (hV : lo_V n ac kn sm rm ms mo a4 a5 a6 a8)
    (hp : ∀ (cm' mo' : Int32) (m R c : Nat) (b4 b5 b6 b7 b8 b9 : Nat → Int32), lo_F n ac m R c mo' b4 b5 b6 b8 → post (1, cm', (nI m), (nI R), (nI c), mo', a1, a2, a3, b4, b5, b6, b7, b8, b9)) : wpX_find post (kn, cm, sm, rm, ms, mo, a1, a2, a3, a4, a5, a6, a7, a8, a9) := by
  rcases hV with h | ⟨h, m, R, c, e1, e2, e3, hF⟩
  · have hll := lo_last_lt hP.1
    unfold wpX_find
    refine br_t h (lo_findStates hP hK (fun cm' m b4 b5 b6 hFS => lo_findRings hP hK (fun R b7 b8 b9 r1 r2 r3 r4 => lo_findMet r1 r2 (fun c mo' d8 c1 c2 c3 => hp cm' mo' m R c b4 b5 b6 b7 d8 b9 ?_))))
    obtain ⟨f1, f2, f3, f4, f5⟩ := hFS
    refine ⟨f1, r1, c1, fun k hk => ?_, f5, f3 _ hll, r4, c2, c3⟩
    obtain ⟨s, s1, s2, s3, s4, s5⟩ := f4 k hk
    exact ⟨s, s1, s2, s3, f2 s s1 s3, fun h0 => lo_stuck_wt hP s1 (f2 s s1 s3) s5 s4 (r3 h0)⟩
  · subst h e1 e2 e3
    exact lo_find1 (hp cm mo m R c a4 a5 a6 a7 a8 a9 hF)
/-! ===== the questions, once known ===== -/
theorem lo_rings1 {post : Int32 → St1 → Prop} (hp : post rm (1, cm, sm, rm, ms, mo, a1, a2, a3, a4, a5, a6, a7, a8, a9)) : wpX_rings post (1, cm, sm, rm, ms, mo, a1, a2, a3, a4, a5, a6, a7, a8, a9) := by
  unfold wpX_rings
  exact lo_find1 hp
theorem lo_stuck1 {post : Int32 → St1 → Prop} (hp : post sm (1, cm, sm, rm, ms, mo, a1, a2, a3, a4, a5, a6, a7, a8, a9)) : wpX_stuck post (1, cm, sm, rm, ms, mo, a1, a2, a3, a4, a5, a6, a7, a8, a9) := by
  unfold wpX_stuck
  exact lo_find1 hp
theorem lo_statesMet1 {post : Int32 → St1 → Prop} (hp : post ms (1, cm, sm, rm, ms, mo, a1, a2, a3, a4, a5, a6, a7, a8, a9)) : wpX_statesMet post (1, cm, sm, rm, ms, mo, a1, a2, a3, a4, a5, a6, a7, a8, a9) := by
  unfold wpX_statesMet
  exact lo_find1 hp
theorem lo_soonest1 {post : Int32 → St1 → Prop} (hp : post mo (1, cm, sm, rm, ms, mo, a1, a2, a3, a4, a5, a6, a7, a8, a9)) : wpX_soonest post (1, cm, sm, rm, ms, mo, a1, a2, a3, a4, a5, a6, a7, a8, a9) := by
  unfold wpX_soonest
  exact lo_find1 hp
theorem lo_ringsMet1 {post : Int32 → St1 → Prop} (hR : R ≤ 4096) (hp : ∀ y, y ≤ R → (y ≠ 0 ↔ ∃ r, r < R ∧ a8 r ≠ 0) → post (nI y) (1, cm, sm, (nI R), ms, mo, a1, a2, a3, a4, a5, a6, a7, a8, a9)) : wpX_ringsMet post (1, cm, sm, (nI R), ms, mo, a1, a2, a3, a4, a5, a6, a7, a8, a9) := by
  unfold wpX_ringsMet
  refine lo_find1 ?_
  refine loop_0 (fun f i (x : Int32) => wX_ringsMet_8 post 1 cm sm (nI R) ms mo a1 a2 a3 a4 a5 a6 a7 a8 a9 f x (nI i)) (fun i x => ∃ y, x = nI y ∧ y ≤ i ∧ (y ≠ 0 ↔ ∃ r, r < i ∧ a8 r ≠ 0)) R 0 ⟨0, rfl, by omega, ⟨fun h => absurd rfl h, fun ⟨r, h, _⟩ => absurd h (by omega)⟩⟩ ?_ ?_
  · rintro f x ⟨y, rfl, h1, h2⟩
    exact pk_le R R (fun _ => hp y h1 h2) (fun z => absurd z (by omega))
  · rintro f i x hi ⟨y, rfl, h1, h2⟩ hw
    refine pk_le R i (fun z => absurd z (by omega)) (fun _ => ⟨pk_in i 4096 (by omega), ?_⟩)
    rw [nI_clamp (by omega)]
    refine br_c (fun e => nm_r (nI_1 i) (hw _ ⟨y, rfl, by omega, h2.trans ⟨?_, ?_⟩⟩)) (fun e => nm_r (nI_1 y) (nm_r (nI_1 i) (hw _ ⟨y + 1, rfl, by omega, ⟨fun _ => ⟨i, by omega, e⟩, fun _ => by omega⟩⟩)))
    · rintro ⟨r, r1, r2⟩
      exact ⟨r, by omega, r2⟩
    · rintro ⟨r, r1, r2⟩
      refine ⟨r, ?_, r2⟩
      have : r ≠ i := fun z => r2 (by rw [z]; exact e)
      omega
theorem lo_canFinish1 {post : Int32 → St1 → Prop} (hP : lo_P n ac) (hK : lo_K n ac a1 a2 a3) (h1 : a4 (lo_last n) ≠ 0 → post 1 (1, cm, sm, rm, ms, mo, a1, a2, a3, a4, a5, a6, a7, a8, a9)) (h0 : a4 (lo_last n) = 0 → post 0 (1, cm, sm, rm, ms, mo, a1, a2, a3, a4, a5, a6, a7, a8, a9)) : wpX_canFinish post (1, cm, sm, rm, ms, mo, a1, a2, a3, a4, a5, a6, a7, a8, a9) := by
  have hll := lo_last_lt hP.1
  unfold wpX_canFinish
  refine lo_find1 (lo_lastState hK ⟨pk_in _ 2401 hll, ?_⟩)
  rw [nI_clamp (by omega)]
  exact br_c h0 h1
theorem lo_ways1 {post : Int32 → St1 → Prop} (hP : lo_P n ac) (hK : lo_K n ac a1 a2 a3) (hp : post (a5 (lo_last n)) (1, cm, sm, rm, ms, mo, a1, a2, a3, a4, a5, a6, a7, a8, a9)) : wpX_ways post (1, cm, sm, rm, ms, mo, a1, a2, a3, a4, a5, a6, a7, a8, a9) := by
  have hll := lo_last_lt hP.1
  unfold wpX_ways
  refine lo_find1 (lo_lastState hK ⟨pk_in _ 2401 hll, ?_⟩)
  rw [nI_clamp (by omega)]
  exact hp
theorem lo_stuckAt1 {post : Int32 → St1 → Prop} (hk : k < m) (hm : m ≤ 2401) (ht : t < 4) (hs : s < 2401) (e : a6 k = nI s) (hp : post (nI (lo_d s t)) (1, cm, (nI m), rm, ms, mo, a1, a2, a3, a4, a5, a6, a7, a8, a9)) : wpX_stuckAt post (1, cm, (nI m), rm, ms, mo, a1, a2, a3, a4, a5, a6, a7, a8, a9) (nI k) (nI t) := by
  unfold wpX_stuckAt
  refine br_f (nI_pos (by omega)) (br_t (nI_lt ht (by decide)) (lo_find1 (br_f (nI_pos (by omega)) (br_t (nI_lt hk (by omega)) ⟨pk_in k 2401 (by omega), ?_⟩))))
  rw [nI_clamp (by omega), e]
  exact lo_doneIn (by omega) ht hp
theorem lo_badCount {post : Int32 → Prop} {x : Nat} (hx : x < 7) (hp : post 0) : wpX_badCount post (kn, cm, sm, rm, ms, mo, a1, a2, a3, a4, a5, a6, a7, a8, a9) (nI x) := by
  unfold wpX_badCount
  exact br_f (nI_pos (by omega)) (br_t (nI_le (show x ≤ 6 by omega) (by decide)) hp)
theorem lo_343 (a b c d : Nat) : 343 * nI a + 49 * nI b + 7 * nI c + nI d = nI (343 * a + 49 * b + 7 * c + d) := by
  have h : nI 343 * nI a + nI 49 * nI b + nI 7 * nI c + nI d = nI (343 * a + 49 * b + 7 * c + d) := by rw [pk_mul, pk_mul, pk_mul, nI_add, nI_add, nI_add]
  exact h
theorem lo_reached1 {post : Int32 → St1 → Prop} (hs : s < 2401) (h4 : a4 s ≠ 0) (hp : post 1 (1, cm, sm, rm, ms, mo, a1, a2, a3, a4, a5, a6, a7, a8, a9)) : wpX_reached post (1, cm, sm, rm, ms, mo, a1, a2, a3, a4, a5, a6, a7, a8, a9) (nI (lo_d s 0)) (nI (lo_d s 1)) (nI (lo_d s 2)) (nI (lo_d s 3)) := by
  unfold wpX_reached
  refine lo_badCount (lo_d_lt s 0) (br_t rfl (lo_badCount (lo_d_lt s 1) (br_t rfl (lo_badCount (lo_d_lt s 2) (br_t rfl (lo_badCount (lo_d_lt s 3) (br_t rfl (lo_find1 ?_))))))))
  dsimp only
  rw [lo_343, lo_recon hs, nI_clamp (by omega)]
  exact ⟨vp_in_nI hs (by decide), br_f h4 hp⟩
end
end
section
section
variable {kn cm sm rm ms mo : Int32} {a1 a2 a3 a4 a5 a6 a7 a8 a9 : Nat → Int32} {n : Nat → Nat} {ac : Nat → Nat → Nat} {t i j q l c v : Nat}
/-! ===== the picture, changed ===== -/
def lo_un (n : Nat → Nat) (t v : Nat) : Nat → Nat := fun q => if q = t then v else n q
def lo_ua (ac : Nat → Nat → Nat) (t i c : Nat) : Nat → Nat → Nat := fun q j => if q = t ∧ j = i then c else ac q j
theorem lo_un_s : lo_un n t v t = v := if_pos rfl
theorem lo_un_n (h : q ≠ t) : lo_un n t v q = n q := if_neg h
theorem lo_ua_s : lo_ua ac t i c t i = c := if_pos ⟨rfl, rfl⟩
theorem lo_ua_n (h : ¬ (q = t ∧ j = i)) : lo_ua ac t i c q j = ac q j := if_neg h
theorem lo_H_ua (h : q ≠ t ∨ j ≤ i) : lo_H (lo_ua ac t i c) q j = lo_H ac q j := lo_H_congr j (fun x hx => lo_ua_n (by omega))
theorem lo_H_uas : lo_H (lo_ua ac t i c) t (i + 1) = lo_step (lo_H ac t i) c := by
  show lo_step (lo_H (lo_ua ac t i c) t i) (lo_ua ac t i c t i) = _
  rw [lo_H_ua (Or.inr (Nat.le_refl i)), lo_ua_s]
theorem lo_P_put (hP : lo_P n ac) (hn : n t < 6) (hc : lo_C (lo_H ac t (n t)) c) : lo_P (lo_un n t (n t + 1)) (lo_ua ac t (n t) c) := by
  refine ⟨fun q hq => ?_, fun q hq i hi => ?_⟩
  · by_cases e : q = t
    · rw [e, lo_un_s]; omega
    · rw [lo_un_n e]; exact hP.1 q hq
  · by_cases e : q = t
    · subst e
      rw [lo_un_s] at hi
      rw [lo_H_ua (Or.inr (by omega))]
      by_cases ei : i = n q
      · rw [ei, lo_ua_s]; exact hc
      · rw [lo_ua_n (fun y => ei y.2)]
        exact hP.2 q hq i (by omega)
    · rw [lo_un_n e] at hi
      rw [lo_H_ua (Or.inl e), lo_ua_n (fun y => e y.1)]
      exact hP.2 q hq i hi
theorem lo_K_put (hP : lo_P n ac) (hK : lo_K n ac a1 a2 a3) (ht : t < 4) (hn : n t < 6) : lo_K (lo_un n t (n t + 1)) (lo_ua ac t (n t) c) (upd a1 t (nI (n t + 1))) (upd a2 (6 * t + n t) (lo_act c)) (upd a3 (7 * t + n t + 1) (nI (lo_step (lo_H ac t (n t)) c))) := by
  refine ⟨fun q hq => ?_, fun q hq i hi => ?_, fun q hq i hi => ?_⟩
  · by_cases e : q = t
    · rw [e, lo_un_s, pk_us]
    · rw [lo_un_n e, pk_un e]; exact hK.1 q hq
  · by_cases e : q = t
    · subst e
      rw [lo_un_s] at hi
      by_cases ei : i = n q
      · rw [ei, lo_ua_s, pk_us]
      · rw [lo_ua_n (fun y => ei y.2), pk_un (by omega)]
        exact hK.2.1 q hq i (by omega)
    · rw [lo_un_n e] at hi
      have h6 := hP.1 q hq
      rw [lo_ua_n (fun y => e y.1), pk_un (by omega)]
      exact hK.2.1 q hq i hi
  · by_cases e : q = t
    · subst e
      rw [lo_un_s] at hi
      by_cases ei : i = n q + 1
      · rw [ei, lo_H_uas, show 7 * q + (n q + 1) = 7 * q + n q + 1 by omega, pk_us]
      · rw [lo_H_ua (Or.inr (by omega)), pk_un (by omega)]
        exact hK.2.2 q hq i (by omega)
    · rw [lo_un_n e] at hi
      have h6 := hP.1 q hq
      rw [lo_H_ua (Or.inl e), pk_un (by omega)]
      exact hK.2.2 q hq i hi
theorem lo_P_drop (hP : lo_P n ac) (ht : t < 4) : lo_P (lo_un n t (n t - 1)) ac := by
  have h6 := hP.1 t ht
  refine ⟨fun q hq => ?_, fun q hq i hi => ?_⟩
  · by_cases e : q = t
    · rw [e, lo_un_s]; omega
    · rw [lo_un_n e]; exact hP.1 q hq
  · refine hP.2 q hq i ?_
    by_cases e : q = t
    · subst e
      rw [lo_un_s] at hi
      omega
    · rw [lo_un_n e] at hi
      exact hi
theorem lo_un_le (h : v ≤ n t) : lo_un n t v q ≤ n q := by
  by_cases e : q = t
  · rw [e, lo_un_s]; exact h
  · rw [lo_un_n e]; exact Nat.le_refl _
theorem lo_K_drop (hK : lo_K n ac a1 a2 a3) : lo_K (lo_un n t (n t - 1)) ac (upd a1 t (nI (n t - 1))) a2 a3 := by
  have hle : ∀ q, lo_un n t (n t - 1) q ≤ n q := fun q => lo_un_le (by omega)
  refine ⟨fun q hq => ?_, fun q hq i hi => hK.2.1 q hq i (Nat.lt_of_lt_of_le hi (hle q)), fun q hq i hi => hK.2.2 q hq i (Nat.le_trans hi (hle q))⟩
  by_cases e : q = t
  · rw [e, lo_un_s, pk_us]
  · rw [lo_un_n e, pk_un e]; exact hK.1 q hq
/-! ===== put, take, give, drop ===== -/
theorem lo_put {post : Int32 → St1 → Prop} {w x : Int32} (hP : lo_P n ac) (hK : lo_K n ac a1 a2 a3) (ht : t < 4) (hn : n t < 6) (hw : w.toInt8.toInt32 = lo_act c) (hx : x.toInt8.toInt32 = nI (lo_step (lo_H ac t (n t)) c))
    (hp : post (nI (n t + 1)) (0, cm, sm, rm, ms, mo, (upd a1 t (nI (n t + 1))), (upd a2 (6 * t + n t) (lo_act c)), (upd a3 (7 * t + n t + 1) (nI (lo_step (lo_H ac t (n t)) c))), a4, a5, a6, a7, a8, a9)) : wpX_put post (kn, cm, sm, rm, ms, mo, a1, a2, a3, a4, a5, a6, a7, a8, a9) (nI t) w x := by
  unfold wpX_put
  dsimp only
  rw [nI_clamp (show t < 2 ^ 31 by omega), hK.1 t ht, hw, hx, nI_1 (n t), lo_byte _ (by omega)]
  refine ⟨vp_in_nI ht (by decide), nm_e ?_⟩
  rw [lo_6, lo_7, nI_1 (7 * t + n t), nI_clamp (show 6 * t + n t < 2 ^ 31 by omega), nI_clamp (show 7 * t + n t + 1 < 2 ^ 31 by omega)]
  refine ⟨vp_in_nI (by omega) (by decide), nm_e ⟨vp_in_nI (by omega) (by decide), nm_e ⟨vp_in_nI ht (by decide), vp_in_nI ht (by decide), nm_e ⟨vp_in_nI ht (by decide), ?_⟩⟩⟩⟩
  rw [pk_us]
  exact hp
theorem lo_badArgs {post : Int32 → Prop} (ht : t < 4) (hl : l < 5) (hp : post 0) : wpX_badArguments post (kn, cm, sm, rm, ms, mo, a1, a2, a3, a4, a5, a6, a7, a8, a9) (nI t) (nI l) := by
  unfold wpX_badArguments
  exact br_f (nI_pos (by omega)) (br_f (nI_ge (b := 4) ht (by decide)) (br_f (nI_pos (by omega)) (br_t (nI_lt hl (by decide)) hp)))
theorem lo_w_take : ∀ l, l < 5 → (nI l).toInt8.toInt32 = lo_act l := by decide +kernel
theorem lo_w_give : ∀ l, l < 5 → ((-1) - nI l).toInt8.toInt32 = lo_act (l + 8) := by decide +kernel
theorem lo_x_take : ∀ h, h < 32 → ∀ l, l < 5 → (nI h ||| ((1 : Int32) <<< (nI l &&& 31))).toInt8.toInt32 = nI (lo_step h l) := by decide +kernel
theorem lo_x_give : ∀ h, h < 32 → ∀ l, l < 5 → (nI h &&& (((1 : Int32) <<< (nI l &&& 31)) ^^^ (-1))).toInt8.toInt32 = nI (lo_step h (l + 8)) := by decide +kernel
theorem lo_le2 : (-2 : Int32) ≤ 0 := by decide
theorem lo_le4 : (-4 : Int32) ≤ 0 := by decide
theorem lo_take {post : Int32 → St1 → Prop} (hP : lo_P n ac) (hK : lo_K n ac a1 a2 a3) (ht : t < 4) (hl : l < 5) (h0 : ∀ r : Int32, r ≤ 0 → post r (kn, cm, sm, rm, ms, mo, a1, a2, a3, a4, a5, a6, a7, a8, a9))
    (h1 : n t < 6 → lo_C (lo_H ac t (n t)) l → ∀ b1 b2 b3, lo_P (lo_un n t (n t + 1)) (lo_ua ac t (n t) l) → lo_K (lo_un n t (n t + 1)) (lo_ua ac t (n t) l) b1 b2 b3 → post (nI (n t + 1)) (0, cm, sm, rm, ms, mo, b1, b2, b3, a4, a5, a6, a7, a8, a9)) : wpX_take post (kn, cm, sm, rm, ms, mo, a1, a2, a3, a4, a5, a6, a7, a8, a9) (nI t) (nI l) := by
  have h6 := hP.1 t ht
  have hh := lo_H_lt hP ht (n t) (Nat.le_refl _)
  unfold wpX_take
  dsimp only
  rw [nI_clamp (show t < 2 ^ 31 by omega), hK.1 t ht]
  refine lo_badArgs ht hl (br_t rfl ⟨vp_in_nI ht (by decide), pk_eq (n t) 6 (fun _ => h0 _ lo_le2) (fun e => ⟨vp_in_nI ht (by decide), lo_heldK hP hK ht (Nat.le_refl _) ?_⟩)⟩)
  rw [lo_bit _ hh _ hl]
  have hb := lo_b01 (lo_H ac t (n t)) l
  refine pk_eq (lo_b (lo_H ac t (n t)) l) 1 (fun _ => h0 _ lo_le4) (fun e1 => ?_)
  have hC : lo_C (lo_H ac t (n t)) l := Or.inl ⟨hl, by omega⟩
  exact lo_put hP hK ht (by omega) (lo_w_take l hl) (lo_x_take _ hh l hl) (h1 (by omega) hC _ _ _ (lo_P_put hP (by omega) hC) (lo_K_put hP hK ht (by omega)))
theorem lo_give {post : Int32 → St1 → Prop} (hP : lo_P n ac) (hK : lo_K n ac a1 a2 a3) (ht : t < 4) (hl : l < 5) (h0 : ∀ r : Int32, r ≤ 0 → post r (kn, cm, sm, rm, ms, mo, a1, a2, a3, a4, a5, a6, a7, a8, a9))
    (h1 : n t < 6 → lo_C (lo_H ac t (n t)) (l + 8) → ∀ b1 b2 b3, lo_P (lo_un n t (n t + 1)) (lo_ua ac t (n t) (l + 8)) → lo_K (lo_un n t (n t + 1)) (lo_ua ac t (n t) (l + 8)) b1 b2 b3 → post (nI (n t + 1)) (0, cm, sm, rm, ms, mo, b1, b2, b3, a4, a5, a6, a7, a8, a9)) : wpX_give post (kn, cm, sm, rm, ms, mo, a1, a2, a3, a4, a5, a6, a7, a8, a9) (nI t) (nI l) := by
  have h6 := hP.1 t ht
  have hh := lo_H_lt hP ht (n t) (Nat.le_refl _)
  unfold wpX_give
  dsimp only
  rw [nI_clamp (show t < 2 ^ 31 by omega), hK.1 t ht]
  refine lo_badArgs ht hl (br_t rfl ⟨vp_in_nI ht (by decide), pk_eq (n t) 6 (fun _ => h0 _ lo_le2) (fun e => ⟨vp_in_nI ht (by decide), lo_heldK hP hK ht (Nat.le_refl _) ?_⟩)⟩)
  rw [lo_bit _ hh _ hl]
  have hb := lo_b01 (lo_H ac t (n t)) l
  refine pk_eq (lo_b (lo_H ac t (n t)) l) 0 (fun _ => h0 _ lo_le4) (fun e1 => ?_)
  have hC : lo_C (lo_H ac t (n t)) (l + 8) := Or.inr ⟨by omega, by omega⟩
  exact lo_put hP hK ht (by omega) (lo_w_give l hl) (lo_x_give _ hh l hl) (h1 (by omega) hC _ _ _ (lo_P_put hP (by omega) hC) (lo_K_put hP hK ht (by omega)))
theorem lo_drop {post : Int32 → St1 → Prop} (hP : lo_P n ac) (hK : lo_K n ac a1 a2 a3) (ht : t < 4) (h0 : post (-4) (kn, cm, sm, rm, ms, mo, a1, a2, a3, a4, a5, a6, a7, a8, a9)) (h1 : 0 < n t → ∀ b1, lo_K (lo_un n t (n t - 1)) ac b1 a2 a3 → post (nI (n t - 1)) (0, cm, sm, rm, ms, mo, b1, a2, a3, a4, a5, a6, a7, a8, a9)) : wpX_drop post (kn, cm, sm, rm, ms, mo, a1, a2, a3, a4, a5, a6, a7, a8, a9) (nI t) := by
  have h6 := hP.1 t ht
  unfold wpX_drop
  dsimp only
  rw [nI_clamp (show t < 2 ^ 31 by omega), hK.1 t ht]
  refine br_f (nI_pos (by omega)) (br_t (nI_lt ht (by decide)) ⟨vp_in_nI ht (by decide), pk_eq (n t) 0 (fun _ => h0) (fun e => ⟨vp_in_nI ht (by decide), vp_in_nI ht (by decide), nm_r (e' := upd a1 t (nI (n t - 1))) (by rw [lo_nIpred (by omega), lo_byte _ (by omega)]) ⟨vp_in_nI ht (by decide), ?_⟩⟩)⟩)
  rw [pk_us]
  exact h1 (by omega) _ (lo_K_drop hK)
/-! ===== nibbles of a long ===== -/
def lo_nib (x : Int64) (j : Nat) : Nat := x.toBitVec.toNat / 2 ^ (4 * j) % 16
theorem lo_nib_lt (x : Int64) (j : Nat) : lo_nib x j < 16 := Nat.mod_lt _ (by decide)
theorem lo_c64 : ∀ k, k < 64 → (((nI k).toInt64 &&& 63).toBitVec.smod 64).toNat = k := by decide +kernel
theorem lo_nib_bit (x : Int64) (j i : Nat) : (lo_nib x j).testBit i = (decide (i < 4) && x.toBitVec.getLsbD (i + 4 * j)) := by
  unfold lo_nib
  rw [show (16 : Nat) = 2 ^ 4 from rfl, Nat.testBit_mod_two_pow, Nat.testBit_div_two_pow, BitVec.testBit_toNat]
theorem lo_nibI (x : Int64) (hj : j < 13) : ((x >>> ((nI (4 * j)).toInt64 &&& 63)).toInt32) &&& 15 = nI (lo_nib x j) := by
  rw [pk_and _ 4 (by decide)]
  refine congrArg nI (Nat.eq_of_testBit_eq (fun i => ?_))
  rw [lo_nib_bit, Nat.testBit_mod_two_pow, BitVec.testBit_toNat, Int64.toBitVec_toInt32, BitVec.getLsbD_signExtend]
  by_cases hi : i < 4
  · have e : (x >>> ((nI (4 * j)).toInt64 &&& 63)).toBitVec.getLsbD i = (x.toBitVec.sshiftRight ((((nI (4 * j)).toInt64 &&& 63).toBitVec.smod 64).toNat)).getLsbD i := rfl
    rw [e, lo_c64 (4 * j) (by omega), BitVec.getLsbD_sshiftRight, if_pos (show i < 64 by omega), if_pos (show 4 * j + i < 64 by omega), Nat.add_comm (4 * j) i]
    simp [hi, show i < 32 by omega, show ¬ 64 ≤ i by omega]
  · simp [hi]
theorem lo_cnt (ht : t < 4) : 24 * (nI t &&& 1) + 4 * nI i = nI (4 * (6 * (t % 2) + i)) := by
  have h : nI 24 * (nI t &&& 1) + nI 4 * nI i = nI (4 * (6 * (t % 2) + i)) := by
    rw [pk_andN (show t < 2 ^ 32 by omega) 1 (by decide), pk_mul, pk_mul, nI_add]
    refine congrArg nI ?_
    omega
  exact h
theorem lo_nibU (x : Int64) (hj : j < 12) (hc : c < 16) : lo_nib ((x &&& (((15 : Int64) <<< ((nI (4 * j)).toInt64 &&& 63)) ^^^ (-1))) ||| ((nI c).toInt64 <<< ((nI (4 * j)).toInt64 &&& 63))) j = c ∧ ∀ i, i < 13 → i ≠ j → lo_nib ((x &&& (((15 : Int64) <<< ((nI (4 * j)).toInt64 &&& 63)) ^^^ (-1))) ||| ((nI c).toInt64 <<< ((nI (4 * j)).toInt64 &&& 63))) i = lo_nib x i := by
  have h15 : ∀ m, m < 64 → (15 : Int64).toBitVec.getLsbD m = decide (m < 4) := by decide +kernel
  have hm1 : ∀ m, m < 64 → (-1 : Int64).toBitVec.getLsbD m = true := by decide +kernel
  have hcb : ∀ m, m < 64 → (nI c).toInt64.toBitVec.getLsbD m = c.testBit m := by
    intro m hm
    rw [nI_l (by omega)]
    show (BitVec.ofNat 64 c).getLsbD m = _
    rw [BitVec.getLsbD_ofNat]
    simp [hm]
  have hc4 : ∀ m, 4 ≤ m → c.testBit m = false := by
    intro m hm
    refine Nat.testBit_lt_two_pow (Nat.lt_of_lt_of_le (show c < 2 ^ 4 from hc) (Nat.pow_le_pow_right (by decide) hm))
  have sh : ∀ (y : Int64) (m : Nat), (y <<< ((nI (4 * j)).toInt64 &&& 63)).toBitVec.getLsbD m = (decide (m < 64) && !decide (m < 4 * j) && y.toBitVec.getLsbD (m - 4 * j)) := by
    intro y m
    have e : (y <<< ((nI (4 * j)).toInt64 &&& 63)).toBitVec.getLsbD m = (y.toBitVec <<< ((((nI (4 * j)).toInt64 &&& 63).toBitVec.smod 64).toNat)).getLsbD m := rfl
    rw [e, lo_c64 (4 * j) (by omega), BitVec.getLsbD_shiftLeft]
  have bit : ∀ m, m < 64 → ((x &&& (((15 : Int64) <<< ((nI (4 * j)).toInt64 &&& 63)) ^^^ (-1))) ||| ((nI c).toInt64 <<< ((nI (4 * j)).toInt64 &&& 63))).toBitVec.getLsbD m = ((x.toBitVec.getLsbD m && ((!decide (m < 4 * j) && decide (m - 4 * j < 4)) ^^ true)) || (!decide (m < 4 * j) && c.testBit (m - 4 * j))) := by
    intro m hm
    rw [Int64.toBitVec_or, Int64.toBitVec_and, Int64.toBitVec_xor, BitVec.getLsbD_or, BitVec.getLsbD_and, BitVec.getLsbD_xor, sh, sh, hm1 m hm, h15 (m - 4 * j) (by omega), hcb (m - 4 * j) (by omega)]
    simp [hm]
  constructor
  · refine Nat.eq_of_testBit_eq (fun i => ?_)
    rw [lo_nib_bit]
    by_cases hi : i < 4
    · rw [bit _ (by omega), show i + 4 * j - 4 * j = i by omega]
      simp [hi, show ¬ i + 4 * j < 4 * j by omega]
    · rw [hc4 i (by omega)]
      simp [hi]
  · intro k hk hn
    refine Nat.eq_of_testBit_eq (fun i => ?_)
    rw [lo_nib_bit, lo_nib_bit]
    by_cases hi : i < 4
    · rw [bit _ (by omega)]
      by_cases h : i + 4 * k < 4 * j
      · simp [h]
      · rw [hc4 (i + 4 * k - 4 * j) (by omega)]
        simp [show ¬ i + 4 * k - 4 * j < 4 by omega]
    · simp [hi]
/-! ===== sizes ===== -/
def lo_sz (n : Nat → Nat) : Nat := n 0 + 16 * n 1 + 256 * n 2 + 4096 * n 3
theorem lo_szn (h : ∀ t, t < 4 → n t ≤ 6) (ht : t < 4) : (nI (lo_sz n) >>> ((4 * nI t) &&& 31)) &&& 15 = nI (n t) := by
  have h0 := h 0 (by decide)
  have h1 := h 1 (by decide)
  have h2 := h 2 (by decide)
  have h3 := h 3 (by decide)
  have hs : lo_sz n < 2 ^ 31 := by unfold lo_sz; omega
  have hd : ∀ j, lo_sz n / 2 ^ j < 2 ^ 32 := fun j => by have := Nat.div_le_self (lo_sz n) (2 ^ j); omega
  rcases lo_four ht with rfl | rfl | rfl | rfl
  · rw [pk_shrN hs _ 0 (by decide), pk_andN (hd 0) 4 (by decide)]
    refine congrArg nI ?_
    unfold lo_sz
    omega
  · rw [pk_shrN hs _ 4 (by decide), pk_andN (hd 4) 4 (by decide)]
    refine congrArg nI ?_
    unfold lo_sz
    omega
  · rw [pk_shrN hs _ 8 (by decide), pk_andN (hd 8) 4 (by decide)]
    refine congrArg nI ?_
    unfold lo_sz
    omega
  · rw [pk_shrN hs _ 12 (by decide), pk_andN (hd 12) 4 (by decide)]
    refine congrArg nI ?_
    unfold lo_sz
    omega
theorem lo_16 : ∀ t, t < 4 → (1 : Int32) <<< ((4 * nI t) &&& 31) = nI (16 ^ t) := by decide +kernel
theorem lo_sz_un (v : Nat) (ht : t < 4) : lo_sz (lo_un n t v) + 16 ^ t * n t = lo_sz n + 16 ^ t * v := by
  rcases lo_four ht with rfl | rfl | rfl | rfl
  · show v + 16 * n 1 + 256 * n 2 + 4096 * n 3 + 1 * n 0 = n 0 + 16 * n 1 + 256 * n 2 + 4096 * n 3 + 1 * v
    omega
  · show n 0 + 16 * v + 256 * n 2 + 4096 * n 3 + 16 * n 1 = n 0 + 16 * n 1 + 256 * n 2 + 4096 * n 3 + 16 * v
    omega
  · show n 0 + 16 * n 1 + 256 * v + 4096 * n 3 + 256 * n 2 = n 0 + 16 * n 1 + 256 * n 2 + 4096 * n 3 + 256 * v
    omega
  · show n 0 + 16 * n 1 + 256 * n 2 + 4096 * v + 4096 * n 3 = n 0 + 16 * n 1 + 256 * n 2 + 4096 * n 3 + 4096 * v
    omega
theorem lo_sz_add (ht : t < 4) : nI (lo_sz n) + ((1 : Int32) <<< ((4 * nI t) &&& 31)) = nI (lo_sz (lo_un n t (n t + 1))) := by
  rw [lo_16 t ht, nI_add]
  have h := lo_sz_un (n := n) (n t + 1) ht
  rw [Nat.mul_add] at h
  refine congrArg nI ?_
  omega
theorem lo_sz_sub (ht : t < 4) (h0 : 0 < n t) : nI (lo_sz n) - ((1 : Int32) <<< ((4 * nI t) &&& 31)) = nI (lo_sz (lo_un n t (n t - 1))) := by
  have h := lo_sz_un (n := n) (n t - 1) ht
  obtain ⟨m, hm⟩ : ∃ m, n t = m + 1 := ⟨n t - 1, by omega⟩
  rw [hm, Nat.add_sub_cancel, Nat.mul_add] at h
  rw [hm, Nat.add_sub_cancel, lo_16 t ht, pk_sub (by omega)]
  refine congrArg nI ?_
  omega
end
end
section
section
variable {kn cm sm rm ms mo : Int32} {a1 a2 a3 a4 a5 a6 a7 a8 a9 : Nat → Int32} {n : Nat → Nat} {ac : Nat → Nat → Nat} {t i k m s : Nat} {lo hi : Int64} {sz sg : Int32}
/-! ===== the law's own record: nibbles of two longs, sizes ===== -/
def lo_L (n : Nat → Nat) (ac : Nat → Nat → Nat) (lo hi : Int64) (sz : Int32) : Prop := sz = nI (lo_sz n) ∧ (∀ t, t < 4 → t < 2 → ∀ i, i < n t → lo_nib lo (6 * (t % 2) + i) = ac t i) ∧ (∀ t, t < 4 → 2 ≤ t → ∀ i, i < n t → lo_nib hi (6 * (t % 2) + i) = ac t i)
theorem lo_set : ∀ h, h < 32 → ∀ c, c < 5 → nI h ||| ((1 : Int32) <<< (nI c &&& 31)) = nI (lo_step h c) := by decide +kernel
theorem lo_clr : ∀ h, h < 32 → ∀ c, c < 13 → 8 ≤ c → nI h &&& (((1 : Int32) <<< ((nI c - 8) &&& 31)) ^^^ (-1)) = nI (lo_step h c) := by decide +kernel
theorem lo_held24 {post : Int32 → Prop} {J : Int32 → Int32 → Prop} {x0 x2 z0 : Int64} {x5 : Int32} (hP : lo_P n ac) (ht : t < 4) (hi : i < n t) (hz : lo_nib z0 (6 * (t % 2) + i) = ac t i) (hJ : J (nI (lo_H ac t (i + 1))) (nI (i + 1))) : wL_held_24 post J x0 x2 (nI t) x5 (nI (lo_H ac t i)) (nI i) z0 := by
  have h6 := hP.1 t ht
  have hh := lo_H_lt hP ht i (by omega)
  unfold wL_held_24
  rw [lo_cnt ht, lo_nibI z0 (by omega), hz]
  refine nm_e ?_
  rcases hP.2 t ht i hi with ⟨c1, _⟩ | ⟨c1, c2⟩
  · exact br_f (nI_ge (b := 8) (by omega) (by decide)) (nm_r (lo_set _ hh _ c1) (nm_r (nI_1 i) hJ))
  · exact br_t (nI_le (a := 8) c1 (by omega)) (nm_r (lo_clr _ hh _ c2 c1) (nm_r (nI_1 i) hJ))
theorem lo_held {post : Int32 → Prop} {d : Nat} (hP : lo_P n ac) (hL : lo_L n ac lo hi sz) (ht : t < 4) (hd : d ≤ n t) (hp : post (nI (lo_H ac t d))) : wpL_held post () lo hi (nI t) (nI d) := by
  have h6 := hP.1 t ht
  unfold wpL_held
  refine loop_0 (fun f i (x : Int32) => wL_held_6 post lo hi (nI t) (nI d) f x (nI i)) (fun i x => x = nI (lo_H ac t i)) d 0 rfl
    (fun f x h => pk_le d d (fun _ => by rw [h]; exact hp) (fun z => absurd z (by omega))) ?_
  intro f i x hi h hw
  subst h
  exact pk_le d i (fun z => absurd z (by omega)) (fun _ => pk_le 2 t (fun z => lo_held24 hP ht (by omega) (hL.2.2 t ht z i (by omega)) (hw _ rfl)) (fun z => lo_held24 hP ht (by omega) (hL.2.1 t ht z i (by omega)) (hw _ rfl)))
/-! ===== waits ===== -/
theorem lo_b_meet : ∀ a, a < 32 → ∀ b, b < 32 → ∀ l, l < 5 → lo_b a l = 1 → lo_b b l = 1 → ¬ a &&& b = 0 := by decide +kernel
theorem lo_b_or1 : ∀ a, a < 32 → ∀ b, b < 32 → ∀ l, l < 5 → (lo_b a l = 1 ∨ lo_b b l = 1) → lo_b (a ||| b) l = 1 := by decide +kernel
theorem lo_b_st1 : ∀ a, a < 32 → ∀ c, c < 5 → ∀ l, l < 5 → (lo_b a l = 1 ∨ c = l) → lo_b (lo_step a c) l = 1 := by decide +kernel
theorem lo_waits {post : Int32 → St1 → Prop} (hP : lo_P n ac) (hL : lo_L n ac lo hi sz) (hk : k < m) (hm : m ≤ 2401) (hs : s < 2401) (e6 : a6 k = nI s) (hO : lo_Ok n ac s) (hwt : lo_wt n ac s) (hp : post 1 (1, cm, (nI m), rm, ms, mo, a1, a2, a3, a4, a5, a6, a7, a8, a9)) : wpL_waits post (1, cm, (nI m), rm, ms, mo, a1, a2, a3, a4, a5, a6, a7, a8, a9) lo hi sz (nI k) := by
  unfold wpL_waits
  refine loop_0 (σ := Int32 × Int32) (fun f i z => wL_waits_9 post lo hi sz (nI k) f z.1 z.2 (nI i) 1 cm (nI m) rm ms mo a1 a2 a3 a4 a5 a6 a7 a8 a9) (fun i z => ∃ K Q, z.1 = nI K ∧ z.2 = nI Q ∧ K < 32 ∧ Q < 32 ∧ (∀ q, q < i → lo_d s q = n q → ∀ l, l < 5 → lo_b (lo_H ac q (n q)) l = 1 → lo_b K l = 1) ∧ (∀ q, q < i → lo_d s q < n q → ac q (lo_d s q) < 5 → lo_b Q (ac q (lo_d s q)) = 1)) 4 (0, 0) ⟨0, 0, rfl, rfl, by decide, by decide, fun q hq => absurd hq (by omega), fun q hq => absurd hq (by omega)⟩ ?_ ?_
  · rintro f ⟨x, y⟩ ⟨K, Q, e1, e2, hK, hQ, h1, h2⟩
    have e1' : x = nI K := e1
    have e2' : y = nI Q := e2
    subst e1' e2'
    obtain ⟨t, ht, q, hq, w1, w2, w3, w4⟩ := hwt
    have b1 := h1 t ht w1 _ w3 w4
    have b2 := h2 q hq w2 w3
    have hne : ¬ nI K &&& nI Q = 0 := by
      rw [lo_and]
      intro z
      exact lo_b_meet K hK Q hQ _ w3 b1 b2 ((nI_eq (b := 0) (Nat.lt_of_le_of_lt Nat.and_le_right (by omega)) (by decide)).mp z)
    exact pk_le 4 4 (fun _ => br_f hne hp) (fun z => absurd z (by omega))
  · rintro f i ⟨x, y⟩ hi4 ⟨K, Q, e1, e2, hK, hQ, h1, h2⟩ hJ
    have e1' : x = nI K := e1
    have e2' : y = nI Q := e2
    subst e1' e2'
    have hd := hO.1 i hi4
    have h6 := hP.1 i hi4
    have h7 := lo_d_lt s i
    have w48 : ∀ z0 : Int64, (∀ j, j < n i → lo_nib z0 (6 * (i % 2) + j) = ac i j) → wL_waits_48 post (wL_waits_9 post lo hi sz (nI k) f) lo hi sz (nI k) (nI K) (nI Q) (nI i) (nI (lo_d s i)) (nI (n i)) z0 1 cm (nI m) rm ms mo a1 a2 a3 a4 a5 a6 a7 a8 a9 := by
      intro z0 hz
      unfold wL_waits_48
      rw [lo_cnt hi4, lo_nibI z0 (by omega)]
      refine nm_e (pk_eq (lo_d s i) (n i) (fun e => ?_) (fun e => ?_))
      · refine lo_held hP hL hi4 hd (nm_r (lo_or _ _) ?_)
        have hh := lo_H_lt hP hi4 _ hd
        refine pk_le (n i) (lo_d s i) (fun _ => nm_r (nI_1 i) (hJ (nI (K ||| lo_H ac i (lo_d s i)), nI Q) ⟨_, Q, rfl, rfl, lo_or_lt hK hh, hQ, fun q hq hqd l hl hb => ?_, fun q hq hqd => ?_⟩)) (fun z => absurd z (by omega))
        · by_cases eq : q = i
          · refine lo_b_or1 _ hK _ hh l hl (Or.inr ?_)
            rw [← eq, hqd]
            exact hb
          · exact lo_b_or1 _ hK _ hh l hl (Or.inl (h1 q (by omega) hqd l hl hb))
        · have : q ≠ i := fun z => by rw [z] at hqd; omega
          exact h2 q (by omega) hqd
      · have lt : lo_d s i < n i := by omega
        rw [hz _ lt]
        refine pk_le (n i) (lo_d s i) (fun z => absurd z (by omega)) (fun _ => ?_)
        have old : ∀ q, q < i + 1 → lo_d s q = n q → ∀ l, l < 5 → lo_b (lo_H ac q (n q)) l = 1 → lo_b K l = 1 := by
          intro q hq hqd
          have : q ≠ i := fun z => by rw [z] at hqd; omega
          exact h1 q (by omega) hqd
        rcases hP.2 i hi4 _ lt with ⟨c1, _⟩ | ⟨c1, c2⟩
        · refine br_f (nI_ge (b := 8) (by omega) (by decide)) (nm_r (lo_set Q hQ _ c1) (nm_r (nI_1 i) (hJ (nI K, nI (lo_step Q (ac i (lo_d s i)))) ⟨K, _, rfl, rfl, hK, lo_step_lt Q hQ _ (by omega) (Or.inl c1), old, fun q hq hqd hc => ?_⟩)))
          by_cases eq : q = i
          · rw [eq]
            exact lo_b_st1 Q hQ _ c1 _ c1 (Or.inr rfl)
          · exact lo_b_st1 Q hQ _ c1 _ hc (Or.inl (h2 q (by omega) hqd hc))
        · refine br_t (nI_le (a := 8) c1 (by omega)) (nm_r (nI_1 i) (hJ (nI K, nI Q) ⟨K, Q, rfl, rfl, hK, hQ, old, fun q hq hqd hc => ?_⟩))
          have : q ≠ i := fun z => by rw [z] at hc; omega
          exact h2 q (by omega) hqd hc
    have hn : (sz >>> ((4 * nI i) &&& 31)) &&& 15 = nI (n i) := by
      rw [hL.1]
      exact lo_szn hP.1 hi4
    exact pk_le 4 i (fun z => absurd z (by omega)) (fun _ => lo_stuckAt1 hk hm hi4 hs e6 (nm_r hn (pk_le 2 i (fun z => w48 hi (hL.2.2 i hi4 z)) (fun z => w48 lo (hL.2.1 i hi4 z)))))
/-! ===== holds ===== -/
theorem lo_rings0 {post : Int32 → St1 → Prop} (hP : lo_P n ac) (hK : lo_K n ac a1 a2 a3) (hV : lo_V n ac kn sm rm ms mo a4 a5 a6 a8)
    (hp : ∀ (cm' mo' : Int32) (m R c : Nat) (b4 b5 b6 b7 b8 b9 : Nat → Int32), lo_F n ac m R c mo' b4 b5 b6 b8 → post (nI R) (1, cm', (nI m), (nI R), (nI c), mo', a1, a2, a3, b4, b5, b6, b7, b8, b9)) : wpX_rings post (kn, cm, sm, rm, ms, mo, a1, a2, a3, a4, a5, a6, a7, a8, a9) := by
  unfold wpX_rings
  exact lo_find hP hK hV hp
theorem lo_holds113 {post : Int32 → St1 → Prop} {m R c y : Nat} (hP : lo_P n ac) (hK : lo_K n ac a1 a2 a3) (hF : lo_F n ac m R c mo a4 a5 a6 a8) (hsg : ¬ sg = 0 → lo_sg n ac) (y1 : y ≤ R) (y2 : y ≠ 0 ↔ ∃ r, r < R ∧ a8 r ≠ 0)
    (hp : post 1 (1, cm, (nI m), (nI R), (nI c), mo, a1, a2, a3, a4, a5, a6, a7, a8, a9)) : wL_holds_113 post sg (nI R) (nI m) (nI y) 1 cm (nI m) (nI R) (nI c) mo a1 a2 a3 a4 a5 a6 a7 a8 a9 := by
  obtain ⟨f1, f2, f3, f4, f5, f6, f7, f8, f9⟩ := hF
  have yc : y = 0 ↔ c = 0 := by
    have h := y2.trans f8
    omega
  have h204 : wL_holds_204 post sg (nI R) 1 cm (nI m) (nI R) (nI c) mo a1 a2 a3 a4 a5 a6 a7 a8 a9 := by
    unfold wL_holds_204
    exact br_c (fun _ => hp) (fun hs => br_t (by rw [f7 (hsg hs)]; rfl) hp)
  have h191 : ∀ r : Int32, (a5 (lo_last n) ≠ 0 → r = 1) → wL_holds_191 post sg (nI R) r 1 cm (nI m) (nI R) (nI c) mo a1 a2 a3 a4 a5 a6 a7 a8 a9 := by
    intro r hr
    unfold wL_holds_191
    exact lo_ways1 hP hK (br_c (fun _ => h204) (fun z => br_t (hr z) h204))
  have h169 : ∀ z : Int32, wL_holds_169 post sg (nI R) (nI m) z z 1 cm (nI m) (nI R) (nI c) mo a1 a2 a3 a4 a5 a6 a7 a8 a9 := by
    intro z
    unfold wL_holds_169
    refine br_t rfl (lo_canFinish1 hP hK (fun h => br_c (fun _ => h191 1 (fun _ => rfl)) (fun _ => br_t rfl (h191 1 (fun _ => rfl)))) (fun h => pk_lt 0 m (fun _ => h191 0 (fun w => absurd h (f6 w))) (fun w => absurd h ?_)))
    rcases f5 with f5 | f5
    · omega
    · exact f5
  unfold wL_holds_113
  refine pk_lt R y (fun z => absurd z (by omega)) (fun _ => ?_)
  by_cases hc : c = 0
  · have hy : y = 0 := yc.mpr hc
    subst hy
    refine br_t rfl ?_
    unfold wL_holds_130
    refine lo_statesMet1 (br_t (by rw [hc]; rfl) ?_)
    unfold wL_holds_142
    refine br_t rfl (br_t rfl ?_)
    unfold wL_holds_155
    exact lo_soonest1 (br_t (f9.mpr hc) (h169 1))
  · have hy : y ≠ 0 := fun z => hc (yc.mp z)
    refine br_f (nI_ne0 (by omega) (by omega)) ?_
    unfold wL_holds_130
    refine lo_statesMet1 (br_f (nI_ne0 (by omega) (by omega)) ?_)
    unfold wL_holds_142
    refine br_t rfl (br_f (nI_ne0 (by omega) (by omega)) ?_)
    unfold wL_holds_155
    exact lo_soonest1 (br_f (fun z => hc (f9.mp z)) (h169 0))
theorem lo_holds {post : Int32 → St1 → Prop} (hP : lo_P n ac) (hK : lo_K n ac a1 a2 a3) (hV : lo_V n ac kn sm rm ms mo a4 a5 a6 a8) (hL : lo_L n ac lo hi sz) (hsg : ¬ sg = 0 → lo_sg n ac)
    (hp : ∀ (cm' mo' : Int32) (m R c : Nat) (b4 b5 b6 b7 b8 b9 : Nat → Int32), lo_F n ac m R c mo' b4 b5 b6 b8 → post 1 (1, cm', (nI m), (nI R), (nI c), mo', a1, a2, a3, b4, b5, b6, b7, b8, b9)) : wpL_holds post (kn, cm, sm, rm, ms, mo, a1, a2, a3, a4, a5, a6, a7, a8, a9) lo hi sz sg := by
  unfold wpL_holds
  refine lo_rings0 hP hK hV (fun cm' mo' m R c b4 b5 b6 b7 b8 b9 hF => ?_)
  have fin := hp cm' mo' m R c b4 b5 b6 b7 b8 b9 hF
  obtain ⟨f1, f2, f3, f4, f5⟩ := id hF
  refine lo_stuck1 (lo_ringsMet1 f2 (fun y y1 y2 => ?_))
  have h113 := lo_holds113 hP hK hF hsg y1 y2 fin
  refine pk_loop (σ := Unit) (fun f i _ => wL_holds_21 post lo hi sz sg (nI R) (nI m) (nI y) f (nI i) 1 cm' (nI m) (nI R) (nI c) mo' a1 a2 a3 b4 b5 b6 b7 b8 b9) (fun _ _ => True) (min m 20) 0 () (by omega) trivial
    (fun f _ _ => pk_le m (min m 20) (fun _ => h113) (fun z => pk_le 20 (min m 20) (fun _ => h113) (fun z' => absurd z' (by omega)))) ?_
  intro f i _ him _ hw
  obtain ⟨s, s1, s2, s3, s4, s5⟩ := f4 i (by omega)
  refine pk_le m i (fun z => absurd z (by omega)) (fun z => pk_le 20 i (fun z' => absurd z' (by omega)) (fun _ => ?_))
  refine lo_stuckAt1 (t := 0) z f1 (by decide) s1 s2 ?_
  refine lo_stuckAt1 (t := 1) z f1 (by decide) s1 s2 ?_
  refine lo_stuckAt1 (t := 2) z f1 (by decide) s1 s2 ?_
  refine lo_stuckAt1 (t := 3) z f1 (by decide) s1 s2 ?_
  refine lo_reached1 s1 s3 (br_t rfl (pk_eq R 0 (fun e => ?_) (fun e => nm_r (nI_1 i) (hw () trivial))))
  exact lo_waits hP hL z f1 s1 s2 s4 (s5 e) (br_f lo_one_ne (nm_r (nI_1 i) (hw () trivial)))
end
end
section
section
variable {kn cm sm rm ms mo : Int32} {a1 a2 a3 a4 a5 a6 a7 a8 a9 : Nat → Int32} {n : Nat → Nat} {ac : Nat → Nat → Nat} {t i l op : Nat} {lo hi : Int64} {sz sg lk x10 : Int32} {post : Int32 → Prop} {L kc ks : Nat} {xs : Nat → Int32} {J : Int64 → Int64 → Int32 → Int32 → Int32 → Int32 → Int32 → Int32 → Int32 → Int32 → Int32 → Int32 → (Nat → Int32) → (Nat → Int32) → (Nat → Int32) → (Nat → Int32) → (Nat → Int32) → (Nat → Int32) → (Nat → Int32) → (Nat → Int32) → (Nat → Int32) → Prop}
/-- the law's loop: what holds between two turns -/
def lo_I (lo hi : Int64) (sz sg kn cm sm rm ms mo : Int32) (a1 a2 a3 a4 a5 a6 a7 a8 a9 : Nat → Int32) : Prop := ∃ n ac, lo_P n ac ∧ lo_K n ac a1 a2 a3 ∧ lo_L n ac lo hi sz ∧ lo_V n ac kn sm rm ms mo a4 a5 a6 a8 ∧ (¬ sg = 0 → lo_sg n ac)
def lo_JJ (J : Int64 → Int64 → Int32 → Int32 → Int32 → Int32 → Int32 → Int32 → Int32 → Int32 → Int32 → Int32 → (Nat → Int32) → (Nat → Int32) → (Nat → Int32) → (Nat → Int32) → (Nat → Int32) → (Nat → Int32) → (Nat → Int32) → (Nat → Int32) → (Nat → Int32) → Prop) (i : Nat) : Prop := ∀ (lo hi : Int64) (sz lk sg kn cm sm rm ms mo : Int32) (a1 a2 a3 a4 a5 a6 a7 a8 a9 : Nat → Int32), lo_I lo hi sz sg kn cm sm rm ms mo a1 a2 a3 a4 a5 a6 a7 a8 a9 → J lo hi sz lk sg (nI (2 * (i + 1))) kn cm sm rm ms mo a1 a2 a3 a4 a5 a6 a7 a8 a9
theorem lo_two (i : Nat) : nI (2 * i) + 2 = nI (2 * (i + 1)) := by
  have h : nI (2 * i) + nI 2 = nI (2 * (i + 1)) := by
    rw [nI_add]
    refine congrArg nI ?_
    omega
  exact h
theorem lo_325 (hP : lo_P n ac) (hK : lo_K n ac a1 a2 a3) (hL : lo_L n ac lo hi sz) (hV : lo_V n ac kn sm rm ms mo a4 a5 a6 a8) (hsg : ¬ sg = 0 → lo_sg n ac) (hJ : lo_JJ J i) : wL_law_325 post L xs J lo hi sz lk sg (nI (2 * i)) x10 kc ks kn cm sm rm ms mo a1 a2 a3 a4 a5 a6 a7 a8 a9 := by
  have hI : lo_I lo hi sz sg kn cm sm rm ms mo a1 a2 a3 a4 a5 a6 a7 a8 a9 := ⟨n, ac, hP, hK, hL, hV, hsg⟩
  unfold wL_law_325
  refine br_c (fun _ => nm_e (br_c (fun _ => nm_r (lo_two i) (hJ _ _ _ _ _ _ _ _ _ _ _ _ _ _ _ _ _ _ _ _ hI)) (fun _ => lo_holds hP hK hV hL hsg (fun cm' mo' m R c b4 b5 b6 b7 b8 b9 hF => br_f lo_one_ne (nm_r (lo_two i) (hJ _ _ _ _ _ _ _ _ _ _ _ _ _ _ _ _ _ _ _ _ ?_)))))) (fun _ => nm_r (lo_two i) (hJ _ _ _ _ _ _ _ _ _ _ _ _ _ _ _ _ _ _ _ _ hI))
  exact ⟨n, ac, hP, hK, hL, Or.inr ⟨rfl, m, R, c, rfl, rfl, rfl, hF⟩, hsg⟩
theorem lo_L_drop (hL : lo_L n ac lo hi sz) (ht : t < 4) (h0 : 0 < n t) : lo_L (lo_un n t (n t - 1)) ac lo hi (sz - ((1 : Int32) <<< ((4 * nI t) &&& 31))) := by
  have hle : ∀ q, lo_un n t (n t - 1) q ≤ n q := fun q => lo_un_le (by omega)
  refine ⟨?_, fun q hq hq2 i hi => hL.2.1 q hq hq2 i (Nat.lt_of_lt_of_le hi (hle q)), fun q hq hq2 i hi => hL.2.2 q hq hq2 i (Nat.lt_of_lt_of_le hi (hle q))⟩
  rw [hL.1]
  exact lo_sz_sub ht h0
theorem lo_298 (ht : t < 4) (hP : lo_P n ac) (hK : lo_K n ac a1 a2 a3) (hL : lo_L n ac lo hi sz) (hV : lo_V n ac kn sm rm ms mo a4 a5 a6 a8) (hsg : ¬ sg = 0 → lo_sg n ac) (hJ : lo_JJ J i) : wL_law_298 post L xs J lo hi sz lk sg (nI (2 * i)) x10 (nI op) (nI t) kc ks kn cm sm rm ms mo a1 a2 a3 a4 a5 a6 a7 a8 a9 := by
  have h6 := hP.1 t ht
  unfold wL_law_298
  refine br_c (fun _ => lo_drop hP hK ht (br_t lo_m4 (lo_325 hP hK hL hV hsg hJ)) (fun h0 b1 hK' => br_f (nI_pos (by omega)) (nm_e (lo_325 (lo_P_drop hP ht) hK' (lo_L_drop hL ht h0) (Or.inl rfl) (fun h q hq j hj => hsg h q hq j (Nat.le_trans hj (lo_un_le (by omega)))) hJ)))) (fun _ => lo_325 hP hK hL hV hsg hJ)
theorem lo_one : ∀ h, h < 32 → nI h &&& (nI h - 1) = 0 → h &&& (h - 1) = 0 := by decide +kernel
theorem lo_265 (ht : t < 4) (hP : lo_P n ac) (hK : lo_K n ac a1 a2 a3) (hL : lo_L n ac lo hi sz) (hV : lo_V n ac kn sm rm ms mo a4 a5 a6 a8) (hsg : ¬ sg = 0 → lo_H ac t (n t) &&& (lo_H ac t (n t) - 1) = 0 → lo_sg n ac) (hJ : lo_JJ J i) : wL_law_265 post L xs J lo hi sz lk sg (nI (2 * i)) x10 (nI op) (nI t) kc ks kn cm sm rm ms mo a1 a2 a3 a4 a5 a6 a7 a8 a9 := by
  have hh := lo_H_lt hP ht (n t) (Nat.le_refl _)
  unfold wL_law_265
  rw [show (sz >>> ((4 * nI t) &&& 31)) &&& 15 = nI (n t) by rw [hL.1]; exact lo_szn hP.1 ht]
  exact lo_held hP hL ht (Nat.le_refl _) (br_c (fun e => lo_298 ht hP hK hL hV (fun h => hsg h (lo_one _ hh e)) hJ) (fun _ => lo_298 ht hP hK hL hV (fun h => absurd rfl h) hJ))
/-! ===== one turn ===== -/
theorem lo_137a {x14 x15 r : Int32} (hr : r ≤ 0) (h : wL_law_265 post L xs J lo hi sz lk sg (nI (2 * i)) x10 (nI op) (nI t) kc ks kn cm sm rm ms mo a1 a2 a3 a4 a5 a6 a7 a8 a9) : wL_law_137 post L xs J lo hi sz lk sg (nI (2 * i)) x10 (nI op) (nI t) x14 x15 r kc ks kn cm sm rm ms mo a1 a2 a3 a4 a5 a6 a7 a8 a9 := by
  have h249 : wL_law_249 post L xs J lo hi sz lk sg (nI (2 * i)) x10 (nI op) (nI t) r kc ks kn cm sm rm ms mo a1 a2 a3 a4 a5 a6 a7 a8 a9 := by
    unfold wL_law_249
    exact br_t hr h
  have h224 : ∀ x17 x19 : Int64, wL_law_224 post L xs J lo hi sz lk sg (nI (2 * i)) x10 (nI op) (nI t) r x17 x19 kc ks kn cm sm rm ms mo a1 a2 a3 a4 a5 a6 a7 a8 a9 := by
    intro x17 x19
    unfold wL_law_224
    exact br_t hr h249
  have h185 : ∀ (x17 : Int64) (z0 : Int32), wL_law_185 post L xs J lo hi sz lk sg (nI (2 * i)) x10 (nI op) (nI t) x15 r x17 z0 kc ks kn cm sm rm ms mo a1 a2 a3 a4 a5 a6 a7 a8 a9 := by
    intro x17 z0
    unfold wL_law_185
    exact nm_e (br_t hr (h224 _ _))
  have h163 : ∀ (z0 z1 z2 : Int32) (z3 : Int64), wL_law_163 post L xs J lo hi sz lk sg (nI (2 * i)) x10 (nI op) (nI t) x14 x15 r z0 z1 z2 z3 kc ks kn cm sm rm ms mo a1 a2 a3 a4 a5 a6 a7 a8 a9 := by
    intro z0 z1 z2 z3
    unfold wL_law_163
    exact nm_e (br_c (fun _ => h185 _ _) (fun _ => h185 _ _))
  unfold wL_law_137
  exact br_c (fun _ => h163 _ _ _ _) (fun _ => h163 _ _ _ _)
theorem lo_L_putL {c : Nat} (hP : lo_P n ac) (hL : lo_L n ac lo hi sz) (ht : t < 4) (h2 : t < 2) (hn : n t < 6) (hc : c < 16) : lo_L (lo_un n t (n t + 1)) (lo_ua ac t (n t) c) ((lo &&& (((15 : Int64) <<< ((nI (4 * (6 * (t % 2) + n t))).toInt64 &&& 63)) ^^^ (-1))) ||| ((nI c).toInt64 <<< ((nI (4 * (6 * (t % 2) + n t))).toInt64 &&& 63))) hi (sz + ((1 : Int32) <<< ((4 * nI t) &&& 31))) := by
  obtain ⟨u1, u2⟩ := lo_nibU lo (j := 6 * (t % 2) + n t) (c := c) (by omega) hc
  refine ⟨by rw [hL.1]; exact lo_sz_add ht, fun q hq hq2 i hi => ?_, fun q hq hq2 i hi => ?_⟩
  · by_cases e : q = t
    · subst e
      rw [lo_un_s] at hi
      by_cases ei : i = n q
      · rw [ei, lo_ua_s]; exact u1
      · rw [lo_ua_n (fun y => ei y.2), u2 _ (by omega) (by omega)]
        exact hL.2.1 q hq hq2 i (by omega)
    · rw [lo_un_n e] at hi
      have h6 := hP.1 q hq
      rw [lo_ua_n (fun y => e y.1), u2 _ (by omega) (by omega)]
      exact hL.2.1 q hq hq2 i hi
  · have e : q ≠ t := by omega
    rw [lo_un_n e] at hi
    rw [lo_ua_n (fun y => e y.1)]
    exact hL.2.2 q hq hq2 i hi
theorem lo_L_putH {c : Nat} (hP : lo_P n ac) (hL : lo_L n ac lo hi sz) (ht : t < 4) (h2 : 2 ≤ t) (hn : n t < 6) (hc : c < 16) : lo_L (lo_un n t (n t + 1)) (lo_ua ac t (n t) c) lo ((hi &&& (((15 : Int64) <<< ((nI (4 * (6 * (t % 2) + n t))).toInt64 &&& 63)) ^^^ (-1))) ||| ((nI c).toInt64 <<< ((nI (4 * (6 * (t % 2) + n t))).toInt64 &&& 63))) (sz + ((1 : Int32) <<< ((4 * nI t) &&& 31))) := by
  obtain ⟨u1, u2⟩ := lo_nibU hi (j := 6 * (t % 2) + n t) (c := c) (by omega) hc
  refine ⟨by rw [hL.1]; exact lo_sz_add ht, fun q hq hq2 i hi => ?_, fun q hq hq2 i hi => ?_⟩
  · have e : q ≠ t := by omega
    rw [lo_un_n e] at hi
    rw [lo_ua_n (fun y => e y.1)]
    exact hL.2.1 q hq hq2 i hi
  · by_cases e : q = t
    · subst e
      rw [lo_un_s] at hi
      by_cases ei : i = n q
      · rw [ei, lo_ua_s]; exact u1
      · rw [lo_ua_n (fun y => ei y.2), u2 _ (by omega) (by omega)]
        exact hL.2.2 q hq hq2 i (by omega)
    · rw [lo_un_n e] at hi
      have h6 := hP.1 q hq
      rw [lo_ua_n (fun y => e y.1), u2 _ (by omega) (by omega)]
      exact hL.2.2 q hq hq2 i hi
theorem lo_137b {c v : Nat} {x14 : Int32} (hP : lo_P n ac) (hL : lo_L n ac lo hi sz) (ht : t < 4) (hn : n t < 6) (hv : 0 < v) (hv2 : v < 2 ^ 31) (hc : c < 16) (ho : op < 16) (hop : (8 ≤ op ∧ x14 + 8 = nI c) ∨ (op < 8 ∧ x14 = nI c))
    (h : ∀ (lo' hi' : Int64) (sz' : Int32), lo_L (lo_un n t (n t + 1)) (lo_ua ac t (n t) c) lo' hi' sz' → wL_law_265 post L xs J lo' hi' sz' lk sg (nI (2 * i)) x10 (nI op) (nI t) kc ks kn cm sm rm ms mo a1 a2 a3 a4 a5 a6 a7 a8 a9) : wL_law_137 post L xs J lo hi sz lk sg (nI (2 * i)) x10 (nI op) (nI t) x14 (nI (n t)) (nI v) kc ks kn cm sm rm ms mo a1 a2 a3 a4 a5 a6 a7 a8 a9 := by
  have hr : ¬ nI v ≤ 0 := nI_nle hv hv2
  have h185 : wL_law_185 post L xs J lo hi sz lk sg (nI (2 * i)) x10 (nI op) (nI t) (nI (n t)) (nI v) ((15 : Int64) <<< ((nI (4 * (6 * (t % 2) + n t))).toInt64 &&& 63)) (nI c) kc ks kn cm sm rm ms mo a1 a2 a3 a4 a5 a6 a7 a8 a9 := by
    unfold wL_law_185
    rw [lo_cnt ht]
    refine nm_e (br_f hr (pk_le 2 t (fun z => ?_) (fun z => nm_e ?_)))
    · unfold wL_law_224
      refine br_f hr (br_f (nI_ge (b := t) (a := 1) (by omega) (by omega)) (nm_e ?_))
      unfold wL_law_249
      exact br_f hr (nm_e (h _ _ _ (lo_L_putH hP hL ht z hn hc)))
    · unfold wL_law_224
      refine br_f hr (br_t (nI_le (a := t) (b := 1) (by omega) (by decide)) ?_)
      unfold wL_law_249
      exact br_f hr (nm_e (h _ _ _ (lo_L_putL hP hL ht z hn hc)))
  unfold wL_law_137
  refine pk_le 6 (n t) (fun z => absurd z (by omega)) (fun _ => ?_)
  unfold wL_law_163
  rw [lo_cnt ht]
  refine nm_e (pk_le 8 op (fun z => ?_) (fun z => ?_))
  · rcases hop with ⟨_, e⟩ | ⟨e, _⟩
    · rw [e]; exact h185
    · omega
  · rcases hop with ⟨e, _⟩ | ⟨_, e⟩
    · omega
    · rw [e]; exact h185
theorem lo_sg_put {c : Nat} (hs : lo_sg n ac) (h1 : lo_H (lo_ua ac t (n t) c) t (lo_un n t (n t + 1) t) &&& (lo_H (lo_ua ac t (n t) c) t (lo_un n t (n t + 1) t) - 1) = 0) : lo_sg (lo_un n t (n t + 1)) (lo_ua ac t (n t) c) := by
  intro q hq j hj
  rw [lo_un_s] at h1
  by_cases e : q = t
  · subst e
    rw [lo_un_s] at hj
    by_cases ej : j = n q + 1
    · rw [ej]; exact h1
    · rw [lo_H_ua (Or.inr (by omega))]
      exact hs q hq j (by omega)
  · rw [lo_un_n e] at hj
    rw [lo_H_ua (Or.inl e)]
    exact hs q hq j hj
theorem lo_85 {v w : Nat} (hv : v = 5 ∨ v = 3) (hw : w < 128) (ho : op < 16) (ht : t < 4) (hP : lo_P n ac) (hK : lo_K n ac a1 a2 a3) (hL : lo_L n ac lo hi sz) (hV : lo_V n ac kn sm rm ms mo a4 a5 a6 a8) (hsg : ¬ sg = 0 → lo_sg n ac) (hJ : lo_JJ J i) : wL_law_85 post L xs J lo hi sz lk sg (nI (2 * i)) x10 (nI op) (nI t) (nI v) (nI w) kc ks kn cm sm rm ms mo a1 a2 a3 a4 a5 a6 a7 a8 a9 := by
  have hl : w % v < 5 := by
    rcases hv with rfl | rfl <;> omega
  have hn : (sz >>> ((4 * nI t) &&& 31)) &&& 15 = nI (n t) := by
    rw [hL.1]
    exact lo_szn hP.1 ht
  have h6 := hP.1 t ht
  unfold wL_law_85
  refine ⟨nI_ne0 (by omega) (by omega), nm_r (pk_rem (by omega) (by omega) (by omega)) (nm_r hn ?_)⟩
  generalize w % v = l at hl
  have no : ∀ r : Int32, r ≤ 0 → wL_law_137 post L xs J lo hi sz lk sg (nI (2 * i)) x10 (nI op) (nI t) (nI l) (nI (n t)) r kc ks kn cm sm rm ms mo a1 a2 a3 a4 a5 a6 a7 a8 a9 := fun r hr => lo_137a hr (lo_265 ht hP hK hL hV (fun h _ => hsg h) hJ)
  refine pk_le 8 op (fun z => pk_le 13 op (fun _ => no (-1) (by decide)) (fun z2 => lo_give hP hK ht hl no (fun hn6 hC b1 b2 b3 hP' hK' => ?_))) (fun z => lo_take hP hK ht hl no (fun hn6 hC b1 b2 b3 hP' hK' => ?_))
  · exact lo_137b hP hL ht hn6 (by omega) (by omega) (show l + 8 < 16 by omega) ho (Or.inl ⟨z, nI_add l 8⟩) (fun lo' hi' sz' hL' => lo_265 ht hP' hK' hL' (Or.inl rfl) (fun h h1 => lo_sg_put (hsg h) h1) hJ)
  · exact lo_137b hP hL ht hn6 (by omega) (by omega) (show l < 16 by omega) ho (Or.inr ⟨z, rfl⟩) (fun lo' hi' sz' hL' => lo_265 ht hP' hK' hL' (Or.inl rfl) (fun h h1 => lo_sg_put (hsg h) h1) hJ)
theorem lo_cell {q : Int32 → Prop} {j : Nat} (hL : L ≤ 260) (hj : j < 2 ^ 31) (h : ∀ x, q x) : wpL_cell q L xs () (nI j) := by
  unfold wpL_cell
  exact pk_le L j (fun _ => h 0) (fun z => ⟨vp_in_nI z (by omega), h _⟩)
theorem lo_law25 (hL : L ≤ 260) (hI : lo_I lo hi sz sg kn cm sm rm ms mo a1 a2 a3 a4 a5 a6 a7 a8 a9) : ∃ f, wL_law_25 (fun r => r = 1) L xs kc ks f lo hi sz lk sg 0 kn cm sm rm ms mo a1 a2 a3 a4 a5 a6 a7 a8 a9 := by
  refine loop_0 (σ := Int64 × Int64 × Int32 × Int32 × Int32 × St1) (fun f i z => wL_law_25 (fun r => r = 1) L xs kc ks f z.1 z.2.1 z.2.2.1 z.2.2.2.1 z.2.2.2.2.1 (nI (2 * i)) z.2.2.2.2.2.1 z.2.2.2.2.2.2.1 z.2.2.2.2.2.2.2.1 z.2.2.2.2.2.2.2.2.1 z.2.2.2.2.2.2.2.2.2.1 z.2.2.2.2.2.2.2.2.2.2.1 z.2.2.2.2.2.2.2.2.2.2.2.1 z.2.2.2.2.2.2.2.2.2.2.2.2.1 z.2.2.2.2.2.2.2.2.2.2.2.2.2.1 z.2.2.2.2.2.2.2.2.2.2.2.2.2.2.1 z.2.2.2.2.2.2.2.2.2.2.2.2.2.2.2.1 z.2.2.2.2.2.2.2.2.2.2.2.2.2.2.2.2.1 z.2.2.2.2.2.2.2.2.2.2.2.2.2.2.2.2.2.1 z.2.2.2.2.2.2.2.2.2.2.2.2.2.2.2.2.2.2.1 z.2.2.2.2.2.2.2.2.2.2.2.2.2.2.2.2.2.2.2)
    (fun i z => lo_I z.1 z.2.1 z.2.2.1 z.2.2.2.2.1 z.2.2.2.2.2.1 z.2.2.2.2.2.2.1 z.2.2.2.2.2.2.2.1 z.2.2.2.2.2.2.2.2.1 z.2.2.2.2.2.2.2.2.2.1 z.2.2.2.2.2.2.2.2.2.2.1 z.2.2.2.2.2.2.2.2.2.2.2.1 z.2.2.2.2.2.2.2.2.2.2.2.2.1 z.2.2.2.2.2.2.2.2.2.2.2.2.2.1 z.2.2.2.2.2.2.2.2.2.2.2.2.2.2.1 z.2.2.2.2.2.2.2.2.2.2.2.2.2.2.2.1 z.2.2.2.2.2.2.2.2.2.2.2.2.2.2.2.2.1 z.2.2.2.2.2.2.2.2.2.2.2.2.2.2.2.2.2.1 z.2.2.2.2.2.2.2.2.2.2.2.2.2.2.2.2.2.2.1 z.2.2.2.2.2.2.2.2.2.2.2.2.2.2.2.2.2.2.2) ((L + 1) / 2) (lo, hi, sz, lk, sg, (kn, cm, sm, rm, ms, mo, a1, a2, a3, a4, a5, a6, a7, a8, a9)) hI ?_ ?_
  · rintro f ⟨lo, hi, sz, lk, sg, kn, cm, sm, rm, ms, mo, a1, a2, a3, a4, a5, a6, a7, a8, a9⟩ ⟨n, ac, hP, hK, hLL, hV, hsg⟩
    exact pk_le L (2 * ((L + 1) / 2)) (fun _ => lo_holds hP hK hV hLL hsg (fun cm' mo' m R c b4 b5 b6 b7 b8 b9 hF => rfl)) (fun z => absurd z (by omega))
  · rintro f i ⟨lo, hi, sz, lk, sg, kn, cm, sm, rm, ms, mo, a1, a2, a3, a4, a5, a6, a7, a8, a9⟩ hie ⟨n, ac, hP, hK, hLL, hV, hsg⟩ hw
    have hJ : lo_JJ (wL_law_25 (fun r => r = 1) L xs kc ks f) i := fun lo hi sz lk sg kn cm sm rm ms mo a1 a2 a3 a4 a5 a6 a7 a8 a9 hI => hw (lo, hi, sz, lk, sg, (kn, cm, sm, rm, ms, mo, a1, a2, a3, a4, a5, a6, a7, a8, a9)) hI
    refine pk_le L (2 * i) (fun z => absurd z (by omega)) (fun _ => lo_cell hL (by omega) (fun r75 => ?_))
    dsimp only
    rw [nI_1]
    refine lo_cell hL (by omega) (fun r76 => ?_)
    obtain ⟨op, ho, eo⟩ := pk_andE r75 (m := 15) 4 (by decide)
    obtain ⟨t, ht, et⟩ := pk_andE (r75 >>> ((4 : Int32) &&& 31)) (m := 3) 2 (by decide)
    obtain ⟨w, hw128, ew⟩ := pk_andE r76 (m := 127) 7 (by decide)
    refine nm_r eo (nm_r et ?_)
    rw [ew]
    exact br_c (fun _ => lo_85 (v := 5) (Or.inl rfl) hw128 ho ht hP hK hLL hV hsg hJ) (fun _ => lo_85 (v := 3) (Or.inr rfl) hw128 ho ht hP hK hLL hV hsg hJ)
theorem lo_I0 : lo_I 0 0 0 1 0 0 0 0 0 0 (fun _ => 0) (fun _ => 0) (fun _ => 0) (fun _ => 0) (fun _ => 0) (fun _ => 0) (fun _ => 0) (fun _ => 0) (fun _ => 0) := by
  refine ⟨fun _ => 0, fun _ _ => 0, ⟨fun t _ => Nat.zero_le 6, fun t _ i hi => absurd hi (Nat.not_lt_zero i)⟩, ⟨fun t _ => rfl, fun t _ i hi => absurd hi (Nat.not_lt_zero i), fun t _ i hi => ?_⟩, ⟨rfl, fun t _ _ i hi => absurd hi (Nat.not_lt_zero i), fun t _ _ i hi => absurd hi (Nat.not_lt_zero i)⟩, Or.inl rfl, fun _ t _ i hi => ?_⟩
  · have e : i = 0 := Nat.le_zero.mp hi
    subst e
    rfl
  · have e : i = 0 := Nat.le_zero.mp hi
    subst e
    exact Nat.zero_and _
end
theorem i_vc (xs : Nat → Int32) (L : Nat) (hL : L ≤ 260) : wpL_law (fun r => r = 1) L xs := by
  unfold wpL_law
  refine ⟨9, 15455, by omega, by omega, ?_⟩
  unfold wpX_init
  refine ⟨by omega, by omega, by omega, by omega, by omega, by omega, by omega, by omega, by omega, by omega, by omega, by omega, by omega, by omega, by omega, by omega, by omega, by omega, ?_⟩
  exact lo_law25 hL lo_I0
end
