section
/-! PURE 1: loops, counts, walks of a circuit -/
def rb_it {σ : Type} (f : Nat → σ → σ) : Nat → σ → σ
  | 0, s => s
  | n + 1, s => f n (rb_it f n s)
theorem rb_it_s {σ : Type} (f : Nat → σ → σ) (n : Nat) (s : σ) : rb_it f (n + 1) s = f n (rb_it f n s) := rfl
def rb_up {α : Type} (f : Nat → α) (k : Nat) (x : α) : Nat → α := fun j => if j = k then x else f j
theorem rb_up_s {α : Type} {f : Nat → α} {k : Nat} {x : α} : rb_up f k x k = x := by simp [rb_up]
theorem rb_up_n {α : Type} {f : Nat → α} {k j : Nat} {x : α} (h : j ≠ k) : rb_up f k x j = f j := by simp [rb_up, h]
theorem rb_it_inv {σ : Type} {f : Nat → σ → σ} {s : σ} (I : Nat → σ → Prop) (h0 : I 0 s) (hs : ∀ i t, I i t → I (i + 1) (f i t)) : ∀ n, I n (rb_it f n s) := by
  intro n
  induction n with
  | zero => exact h0
  | succ n ih => exact hs n _ ih
theorem rb_it_invl {σ : Type} {f : Nat → σ → σ} {s : σ} (N : Nat) (I : Nat → σ → Prop) (h0 : I 0 s) (hs : ∀ i t, i < N → I i t → I (i + 1) (f i t)) : ∀ n, n ≤ N → I n (rb_it f n s) := by
  intro n
  induction n with
  | zero => intro _; exact h0
  | succ n ih => intro h; exact hs n _ (by omega) (ih (by omega))
noncomputable def rb_cnt (P : Nat → Prop) : Nat → Nat
  | 0 => 0
  | n + 1 => rb_cnt P n + @ite _ (P n) (Classical.propDecidable _) 1 0
theorem rb_cnt_t {P : Nat → Prop} {n : Nat} (h : P n) : rb_cnt P (n + 1) = rb_cnt P n + 1 := by
  show rb_cnt P n + @ite _ (P n) (Classical.propDecidable _) 1 0 = _
  rw [if_pos h]
theorem rb_cnt_f {P : Nat → Prop} {n : Nat} (h : ¬ P n) : rb_cnt P (n + 1) = rb_cnt P n := by
  show rb_cnt P n + @ite _ (P n) (Classical.propDecidable _) 1 0 = _
  rw [if_neg h]
  omega
theorem rb_cnt_le (P : Nat → Prop) : ∀ n, rb_cnt P n ≤ n := by
  intro n
  induction n with
  | zero => exact Nat.le_refl 0
  | succ n ih =>
    by_cases h : P n
    · rw [rb_cnt_t h]; omega
    · rw [rb_cnt_f h]; omega
theorem rb_cnt_mono {P Q : Nat → Prop} : ∀ n, (∀ v, v < n → P v → Q v) → rb_cnt P n ≤ rb_cnt Q n := by
  intro n
  induction n with
  | zero => intro _; exact Nat.le_refl 0
  | succ n ih =>
    intro h
    have h1 := ih (fun v hv => h v (by omega))
    by_cases hp : P n
    · rw [rb_cnt_t hp, rb_cnt_t (h n (by omega) hp)]; omega
    · rw [rb_cnt_f hp]
      by_cases hq : Q n
      · rw [rb_cnt_t hq]; omega
      · rw [rb_cnt_f hq]; exact h1
theorem rb_cnt_lt {P Q : Nat → Prop} : ∀ n, (∀ v, v < n → P v → Q v) → (∃ v, v < n ∧ Q v ∧ ¬ P v) → rb_cnt P n < rb_cnt Q n := by
  intro n
  induction n with
  | zero =>
    intro _ h
    obtain ⟨v, hv, -⟩ := h
    omega
  | succ n ih =>
    intro h hx
    obtain ⟨v, hv, hq, hp⟩ := hx
    by_cases hvn : v = n
    · subst hvn
      rw [rb_cnt_t hq, rb_cnt_f hp]
      have := rb_cnt_mono (P := P) (Q := Q) v (fun w hw => h w (by omega))
      omega
    · have h1 := ih (fun w hw => h w (by omega)) ⟨v, by omega, hq, hp⟩
      by_cases hp : P n
      · rw [rb_cnt_t hp, rb_cnt_t (h n (by omega) hp)]; omega
      · rw [rb_cnt_f hp]
        by_cases hq : Q n
        · rw [rb_cnt_t hq]; omega
        · rw [rb_cnt_f hq]; exact h1
theorem rb_cnt_full {P : Nat → Prop} {n : Nat} (h : n ≤ rb_cnt P n) : ∀ v, v < n → P v := by
  intro v hv
  by_cases hp : P v
  · exact hp
  · have h1 := rb_cnt_lt (P := P) (Q := fun _ => True) n (fun _ _ _ => trivial) ⟨v, hv, trivial, hp⟩
    have h2 := rb_cnt_le (fun _ => True) n
    omega
theorem rb_cnt_ex {P : Nat → Prop} {n v : Nat} (hv : v < n) (hp : P v) : 1 ≤ rb_cnt P n := by
  have h1 := rb_cnt_lt (P := fun _ => False) (Q := P) n (fun _ _ h => h.elim) ⟨v, hv, hp, fun h => h⟩
  omega
/-- each round makes at least one more place right, until all are -/
theorem rb_grow (n c : Nat) (P : Nat → Nat → Prop) (Q : Nat → Prop) (h0 : c ≤ rb_cnt (P 0) n) (mono : ∀ t v, v < n → P t v → P (t + 1) v)
    (prog : ∀ t, (∃ v, v < n ∧ Q v ∧ ¬ P t v) → ∃ v, v < n ∧ P (t + 1) v ∧ ¬ P t v) : ∀ t, n ≤ c + t → ∀ v, v < n → Q v → P t v := by
  have key : ∀ t, (∀ v, v < n → Q v → P t v) ∨ c + t ≤ rb_cnt (P t) n := by
    intro t
    induction t with
    | zero => exact Or.inr (by omega)
    | succ t ih =>
      by_cases hall : ∀ v, v < n → Q v → P t v
      · exact Or.inl (fun v hv hq => mono t v hv (hall v hv hq))
      · rcases ih with h | h
        · exact absurd h hall
        · refine Or.inr ?_
          have hx : ∃ v, v < n ∧ Q v ∧ ¬ P t v := by
            apply Classical.byContradiction
            intro hno
            apply hall
            intro v hv hq
            apply Classical.byContradiction
            intro hp
            exact hno ⟨v, hv, hq, hp⟩
          have h2 := rb_cnt_lt (P := P t) (Q := P (t + 1)) n (fun v hv => mono t v hv) (prog t hx)
          omega
  intro t ht v hv hq
  rcases key t with h | h
  · exact h v hv hq
  · exact rb_cnt_full (by omega) v hv
/-- walks of k wires: registers w, delay d with both ends -/
def rb_wk (n m : Nat) (fr to : Nat → Nat) (dl hd : Nat → Int) : Nat → Nat → Nat → Int → Int → Prop
  | 0, u, v, w, d => u = v ∧ u < n ∧ w = 0 ∧ d = dl u
  | k + 1, u, v, w, d => ∃ (i : Nat) (w' d' : Int), i < m ∧ rb_wk n m fr to dl hd k u (fr i) w' d' ∧ to i = v ∧ w = w' + hd i ∧ d = d' + dl v
def rb_ok (n m : Nat) (fr to : Nat → Nat) (dl hd : Nat → Int) : Prop := 1 ≤ n ∧ n ≤ 5 ∧ m ≤ 12 ∧ (∀ i, i < m → fr i < n ∧ to i < n ∧ 0 ≤ hd i) ∧ ∀ v, 0 ≤ dl v ∧ dl v ≤ 9
section RBW
variable {n m : Nat} {fr to : Nat → Nat} {dl hd : Nat → Int}
theorem rb_wk_app : ∀ (k j u x v : Nat) (w1 d1 w2 d2 : Int), rb_wk n m fr to dl hd j u x w1 d1 → rb_wk n m fr to dl hd k x v w2 d2 → rb_wk n m fr to dl hd (j + k) u v (w1 + w2) (d1 + d2 - dl x) := by
  intro k
  induction k with
  | zero =>
    intro j u x v w1 d1 w2 d2 h1 h2
    obtain ⟨rfl, -, rfl, rfl⟩ := h2
    have e1 : w1 + 0 = w1 := by omega
    have e2 : d1 + dl x - dl x = d1 := by omega
    rw [e1, e2]
    exact h1
  | succ k ih =>
    intro j u x v w1 d1 w2 d2 h1 h2
    obtain ⟨i, w', d', hi, hw, hv, rfl, rfl⟩ := h2
    exact ⟨i, w1 + w', d1 + d' - dl x, hi, ih j u x (fr i) w1 d1 w' d' h1 hw, hv, by omega, by omega⟩
theorem rb_wk_one (ok : rb_ok n m fr to dl hd) {i : Nat} (hi : i < m) : rb_wk n m fr to dl hd 1 (fr i) (to i) (hd i) (dl (fr i) + dl (to i)) :=
  ⟨i, 0, dl (fr i), hi, ⟨rfl, (ok.2.2.2.1 i hi).1, rfl, rfl⟩, rfl, by omega, rfl⟩
theorem rb_wk_ends (ok : rb_ok n m fr to dl hd) : ∀ (k u v : Nat) (w d : Int), rb_wk n m fr to dl hd k u v w d → u < n ∧ v < n ∧ 0 ≤ w ∧ dl v ≤ d := by
  intro k
  induction k with
  | zero =>
    intro u v w d h
    obtain ⟨rfl, h1, rfl, rfl⟩ := h
    exact ⟨h1, h1, by omega, by omega⟩
  | succ k ih =>
    intro u v w d h
    obtain ⟨i, w', d', hi, hw, rfl, rfl, rfl⟩ := h
    obtain ⟨h1, h2, h3, h4⟩ := ih _ _ _ _ hw
    have h5 := ok.2.2.2.1 i hi
    have h6 := ok.2.2.2.2 (fr i)
    exact ⟨h1, h5.2.1, by omega, by omega⟩
/-- the weight of a walk under lags -/
theorem rb_wk_legal (r : Nat → Int) (hr : ∀ i, i < m → 0 ≤ hd i + r (to i) - r (fr i)) : ∀ (k u v : Nat) (w d : Int), rb_wk n m fr to dl hd k u v w d → 0 ≤ w + r v - r u := by
  intro k
  induction k with
  | zero =>
    intro u v w d h
    obtain ⟨rfl, -, rfl, -⟩ := h
    omega
  | succ k ih =>
    intro u v w d h
    obtain ⟨i, w', d', hi, hw, rfl, rfl, -⟩ := h
    have h1 := ih _ _ _ _ hw
    have h2 := hr i hi
    omega
/-- registers are few: each wire, and each couple of wires one behind the other -/
def rb_few (m : Nat) (fr to : Nat → Nat) (hd : Nat → Int) (a : Int) : Prop := (∀ i, i < m → hd i ≤ 3 + a) ∧ ∀ i j, i < m → j < m → to i = fr j → hd i + hd j ≤ 6 + a
theorem rb_wk_few {a : Int} (ha : 0 ≤ a) (hf : rb_few m fr to hd a) : ∀ (k u v : Nat) (w d : Int), rb_wk n m fr to dl hd k u v w d → k ≤ 5 → w ≤ 15 + 3 * a := by
  have one : ∀ (u v : Nat) (w d : Int), rb_wk n m fr to dl hd 1 u v w d → w ≤ 3 + a := by
    intro u v w d h
    obtain ⟨i, w', d', hi, ⟨-, -, rfl, -⟩, -, rfl, -⟩ := h
    have := hf.1 i hi
    omega
  have two : ∀ (k u v : Nat) (w d : Int), rb_wk n m fr to dl hd (k + 2) u v w d → ∃ (x : Nat) (w' d' : Int), rb_wk n m fr to dl hd k u x w' d' ∧ w ≤ w' + (6 + a) := by
    intro k u v w d h
    obtain ⟨i, w1, d1, hi, ⟨j, w2, d2, hj, hw, hji, rfl, -⟩, -, rfl, -⟩ := h
    have := hf.2 j i hj hi hji
    exact ⟨fr j, w2, d2, hw, by omega⟩
  have zero : ∀ (u v : Nat) (w d : Int), rb_wk n m fr to dl hd 0 u v w d → w ≤ 0 := by
    intro u v w d h
    obtain ⟨-, -, rfl, -⟩ := h
    exact Int.le_refl 0
  have le3 : ∀ (k u v : Nat) (w d : Int), k ≤ 3 → rb_wk n m fr to dl hd k u v w d → w ≤ 9 + 2 * a := by
    intro k u v w d hk h
    rcases (show k = 0 ∨ k = 1 ∨ k = 2 ∨ k = 3 by omega) with e | e | e | e <;> rw [e] at h
    · have := zero _ _ _ _ h; omega
    · have := one _ _ _ _ h; omega
    · obtain ⟨x, w', d', h1, h2⟩ := two 0 _ _ _ _ h
      have := zero _ _ _ _ h1
      omega
    · obtain ⟨x, w', d', h1, h2⟩ := two 1 _ _ _ _ h
      have := one _ _ _ _ h1
      omega
  intro k u v w d h hk
  by_cases h3 : k ≤ 3
  · have := le3 k u v w d h3 h
    omega
  · rcases (show k = 4 ∨ k = 5 by omega) with e | e
    · rw [e] at h
      obtain ⟨x, w', d', h1, h2⟩ := two 2 _ _ _ _ h
      have := le3 2 _ _ _ _ (by omega) h1
      omega
    · rw [e] at h
      obtain ⟨x, w', d', h1, h2⟩ := two 3 _ _ _ _ h
      have := le3 3 _ _ _ _ (by omega) h1
      omega
/-- what can be reached can be reached by at most five wires -/
theorem rb_wk_short (ok : rb_ok n m fr to dl hd) (u : Nat) : ∀ (k v : Nat) (w d : Int), rb_wk n m fr to dl hd (k + 1) u v w d → ∃ (k' : Nat) (w' d' : Int), k' < 5 ∧ rb_wk n m fr to dl hd (k' + 1) u v w' d' := by
  have g := rb_grow n 0 (fun t v => ∃ (k' : Nat) (w' d' : Int), k' < t ∧ rb_wk n m fr to dl hd (k' + 1) u v w' d') (fun v => ∃ (k : Nat) (w d : Int), rb_wk n m fr to dl hd (k + 1) u v w d)
    (Nat.zero_le _) (fun t v _ h => by
      obtain ⟨k', w', d', h1, h2⟩ := h
      exact ⟨k', w', d', by omega, h2⟩) (fun t hx => by
      obtain ⟨v, hv, ⟨k, w, d, hw⟩, hno⟩ := hx
      have key : ∀ (k v : Nat) (w d : Int), rb_wk n m fr to dl hd (k + 1) u v w d → (¬ ∃ (k' : Nat) (w' d' : Int), k' < t ∧ rb_wk n m fr to dl hd (k' + 1) u v w' d') → ∃ y, y < n ∧ (∃ (k' : Nat) (w' d' : Int), k' < t + 1 ∧ rb_wk n m fr to dl hd (k' + 1) u y w' d') ∧ ¬ ∃ (k' : Nat) (w' d' : Int), k' < t ∧ rb_wk n m fr to dl hd (k' + 1) u y w' d' := by
        intro k
        induction k with
        | zero =>
          intro v w d hw hno
          exact ⟨v, (rb_wk_ends ok _ _ _ _ _ hw).2.1, ⟨0, w, d, by omega, hw⟩, hno⟩
        | succ k ih =>
          intro v w d hw hno
          have hw0 := hw
          obtain ⟨i, w1, d1, hi, hw1, rfl, rfl, rfl⟩ := hw
          by_cases hx : ∃ (k' : Nat) (w' d' : Int), k' < t ∧ rb_wk n m fr to dl hd (k' + 1) u (fr i) w' d'
          · obtain ⟨k', w', d', h1, h2⟩ := hx
            exact ⟨to i, (ok.2.2.2.1 i hi).2.1, ⟨k' + 1, w' + hd i, d' + dl (to i), by omega, ⟨i, w', d', hi, h2, rfl, rfl, rfl⟩⟩, hno⟩
          · exact ih (fr i) w1 d1 hw1 hx
      exact key k v w d hw hno)
  intro k v w d hw
  obtain ⟨k', w', d', h1, h2⟩ := g n (by omega) v (rb_wk_ends ok _ _ _ _ _ hw).2.1 ⟨k, w, d, hw⟩
  exact ⟨k', w', d', by have := ok.2.1; omega, h2⟩
end RBW
end
section
/-! PURE 2: measure (Floyd and Warshall over couples of blocks) -/
abbrev rb_S : Type := (Nat → Int) × (Nat → Int)
def rb_offer (c : Nat) (r d : Int) (s : rb_S) : rb_S := if s.1 c < r ∨ (r = s.1 c ∧ d ≤ s.2 c) then s else (rb_up s.1 c r, rb_up s.2 c d)
def rb_m1 (fr to : Nat → Nat) (dl hd : Nat → Int) (i : Nat) (s : rb_S) : rb_S := rb_offer (5 * fr i + to i) (hd i) (dl (fr i) + dl (to i)) s
def rb_pr (dl : Nat → Int) (k q : Nat) (s : rb_S) : rb_S := if 1000 ≤ s.1 (5 * (q / 5) + k) ∨ 1000 ≤ s.1 (5 * k + q % 5) then s else rb_offer q (s.1 (5 * (q / 5) + k) + s.1 (5 * k + q % 5)) (s.2 (5 * (q / 5) + k) + s.2 (5 * k + q % 5) - dl k) s
def rb_st (dl : Nat → Int) (k : Nat) (s : rb_S) : rb_S := rb_it (rb_pr dl k) 25 s
def rb_s0 : rb_S := (fun _ => 1000, fun _ => 0)
def rb_s1 (m : Nat) (fr to : Nat → Nat) (dl hd : Nat → Int) : rb_S := rb_it (rb_m1 fr to dl hd) m rb_s0
def rb_ms (n m : Nat) (fr to : Nat → Nat) (dl hd : Nat → Int) : rb_S := rb_it (rb_st dl) n (rb_s1 m fr to dl hd)
def rb_lx (a b c d : Int) : Prop := a < c ∨ (a = c ∧ d ≤ b)
theorem rb_offer_at (c : Nat) (r d : Int) (s : rb_S) (q : Nat) : ((rb_offer c r d s).1 q = s.1 q ∧ (rb_offer c r d s).2 q = s.2 q ∧ (q = c → rb_lx (s.1 q) (s.2 q) r d)) ∨ (q = c ∧ (rb_offer c r d s).1 q = r ∧ (rb_offer c r d s).2 q = d ∧ rb_lx r d (s.1 q) (s.2 q)) := by
  unfold rb_offer rb_lx
  by_cases h : s.1 c < r ∨ (r = s.1 c ∧ d ≤ s.2 c)
  · rw [if_pos h]
    refine Or.inl ⟨rfl, rfl, fun e => ?_⟩
    subst e
    omega
  · rw [if_neg h]
    by_cases e : q = c
    · subst e
      refine Or.inr ⟨rfl, ?_, ?_, ?_⟩
      · exact rb_up_s
      · exact rb_up_s
      · omega
    · refine Or.inl ⟨?_, ?_, fun h => absurd h e⟩
      · exact rb_up_n e
      · exact rb_up_n e
/-- t is nowhere worse than s -/
def rb_bt (s t : rb_S) : Prop := ∀ c, rb_lx (t.1 c) (t.2 c) (s.1 c) (s.2 c)
theorem rb_bt_rf (s : rb_S) : rb_bt s s := fun c => Or.inr ⟨rfl, Int.le_refl _⟩
theorem rb_bt_tr {s t u : rb_S} (h1 : rb_bt s t) (h2 : rb_bt t u) : rb_bt s u := by
  intro c
  have a := h1 c
  have b := h2 c
  unfold rb_lx at *
  omega
theorem rb_bt_offer (c : Nat) (r d : Int) (s : rb_S) : rb_bt s (rb_offer c r d s) := by
  intro q
  rcases rb_offer_at c r d s q with ⟨h1, h2, -⟩ | ⟨-, h1, h2, h3⟩
  · rw [h1, h2]; exact Or.inr ⟨rfl, Int.le_refl _⟩
  · rw [h1, h2]; exact h3
theorem rb_bt_pr (dl : Nat → Int) (k q : Nat) (s : rb_S) : rb_bt s (rb_pr dl k q s) := by
  unfold rb_pr
  split
  · exact rb_bt_rf s
  · exact rb_bt_offer _ _ _ _
theorem rb_bt_it {f : Nat → rb_S → rb_S} (hf : ∀ i s, rb_bt s (f i s)) (s : rb_S) : ∀ n, rb_bt s (rb_it f n s) := by
  intro n
  induction n with
  | zero => exact rb_bt_rf s
  | succ n ih => exact rb_bt_tr ih (hf n _)
theorem rb_bt_it2 {f : Nat → rb_S → rb_S} (hf : ∀ i s, rb_bt s (f i s)) (s : rb_S) : ∀ n k, rb_bt (rb_it f k s) (rb_it f (k + n) s) := by
  intro n k
  induction n with
  | zero => exact rb_bt_rf _
  | succ n ih => exact rb_bt_tr ih (hf (k + n) _)
theorem rb_bt_st (dl : Nat → Int) (k : Nat) (s : rb_S) : rb_bt s (rb_st dl k s) := rb_bt_it (fun i s => rb_bt_pr dl k i s) s 25
/-- registers from 0 to 1000 -/
def rb_bd (s : rb_S) : Prop := ∀ c, 0 ≤ s.1 c ∧ s.1 c ≤ 1000
theorem rb_bd_offer {c : Nat} {r d : Int} {s : rb_S} (h : rb_bd s) (hr : 0 ≤ r) : rb_bd (rb_offer c r d s) := by
  intro q
  have h1 := h q
  rcases rb_offer_at c r d s q with ⟨h2, -, -⟩ | ⟨-, h2, -, h3⟩
  · rw [h2]; exact h1
  · rw [h2]
    unfold rb_lx at h3
    omega
theorem rb_bd_pr {dl : Nat → Int} {k q : Nat} {s : rb_S} (h : rb_bd s) : rb_bd (rb_pr dl k q s) := by
  unfold rb_pr
  split
  · exact h
  · refine rb_bd_offer h ?_
    have h1 := h (5 * (q / 5) + k)
    have h2 := h (5 * k + q % 5)
    omega
theorem rb_bd_prs {dl : Nat → Int} {k : Nat} {s : rb_S} (h : rb_bd s) (i : Nat) : rb_bd (rb_it (rb_pr dl k) i s) := rb_it_inv (f := rb_pr dl k) (fun _ s => rb_bd s) h (fun _ _ h => rb_bd_pr h) i
theorem rb_bd_sts {dl : Nat → Int} {s : rb_S} (h : rb_bd s) (k : Nat) : rb_bd (rb_it (rb_st dl) k s) := rb_it_inv (f := rb_st dl) (fun _ s => rb_bd s) h (fun _ _ h => rb_bd_prs h 25) k
theorem rb_bd_m1s {n m : Nat} {fr to : Nat → Nat} {dl hd : Nat → Int} (ok : rb_ok n m fr to dl hd) : ∀ i, i ≤ m → rb_bd (rb_it (rb_m1 fr to dl hd) i rb_s0) :=
  rb_it_invl (f := rb_m1 fr to dl hd) m (fun _ s => rb_bd s) (fun c => ⟨by show (0 : Int) ≤ 1000; decide, by show (1000 : Int) ≤ 1000; decide⟩) (fun i s hi h => rb_bd_offer h (ok.2.2.2.1 i hi).2.2)
/-- what stands there is the worth of a way -/
def rb_re (n m : Nat) (fr to : Nat → Nat) (dl hd : Nat → Int) (s : rb_S) : Prop := ∀ u v, u < 5 → v < 5 → s.1 (5 * u + v) < 1000 → ∃ k, rb_wk n m fr to dl hd (k + 1) u v (s.1 (5 * u + v)) (s.2 (5 * u + v))
section RBF
variable {n m : Nat} {fr to : Nat → Nat} {dl hd : Nat → Int}
theorem rb_re_offer {s : rb_S} {u v k : Nat} {r d : Int} (h : rb_re n m fr to dl hd s) (hu : u < 5) (hv : v < 5) (hw : rb_wk n m fr to dl hd (k + 1) u v r d) : rb_re n m fr to dl hd (rb_offer (5 * u + v) r d s) := by
  intro u' v' hu' hv' hf
  rcases rb_offer_at (5 * u + v) r d s (5 * u' + v') with ⟨h1, h2, -⟩ | ⟨h0, h1, h2, -⟩
  · rw [h1, h2]
    rw [h1] at hf
    exact h u' v' hu' hv' hf
  · rw [h1, h2]
    have e1 : u' = u := by omega
    have e2 : v' = v := by omega
    subst e1; subst e2
    exact ⟨k, hw⟩
theorem rb_re_pr {s : rb_S} {k q : Nat} (h : rb_re n m fr to dl hd s) (hk : k < 5) (hq : q < 25) : rb_re n m fr to dl hd (rb_pr dl k q s) := by
  unfold rb_pr
  split
  · exact h
  · rename_i hf
    have hu : q / 5 < 5 := by omega
    have hv : q % 5 < 5 := by omega
    obtain ⟨k1, h1⟩ := h (q / 5) k hu hk (by omega)
    obtain ⟨k2, h2⟩ := h k (q % 5) hk hv (by omega)
    have h3 := rb_wk_app (k2 + 1) (k1 + 1) (q / 5) k (q % 5) _ _ _ _ h1 h2
    have h4 := rb_re_offer (u := q / 5) (v := q % 5) (k := k1 + 1 + k2) h hu hv h3
    have e : 5 * (q / 5) + q % 5 = q := by omega
    rw [e] at h4
    exact h4
theorem rb_re_s1 (ok : rb_ok n m fr to dl hd) : rb_re n m fr to dl hd (rb_s1 m fr to dl hd) := by
  refine rb_it_invl (f := rb_m1 fr to dl hd) m (fun _ s => rb_re n m fr to dl hd s) ?_ ?_ m (Nat.le_refl m)
  · intro u v _ _ h
    exact absurd h (by show ¬ ((1000 : Int) < 1000); decide)
  · intro i s hi h
    have h1 := ok.2.2.2.1 i hi
    have h2 := ok.2.1
    exact rb_re_offer (k := 0) h (by omega) (by omega) (rb_wk_one ok hi)
theorem rb_re_ms (ok : rb_ok n m fr to dl hd) : rb_re n m fr to dl hd (rb_ms n m fr to dl hd) := by
  refine rb_it_invl (f := rb_st dl) n (fun _ s => rb_re n m fr to dl hd s) (rb_re_s1 ok) ?_ n (Nat.le_refl n)
  intro k s hk h
  have h2 := ok.2.1
  exact rb_it_invl (f := rb_pr dl k) 25 (fun _ s => rb_re n m fr to dl hd s) h (fun q s hq h => rb_re_pr h (by omega) hq) 25 (Nat.le_refl 25)
theorem rb_edge_s1 : ∀ j, ∀ i, i < j → rb_lx ((rb_it (rb_m1 fr to dl hd) j rb_s0).1 (5 * fr i + to i)) ((rb_it (rb_m1 fr to dl hd) j rb_s0).2 (5 * fr i + to i)) (hd i) (dl (fr i) + dl (to i)) := by
  intro j
  induction j with
  | zero => intro i hi; omega
  | succ j ih =>
    intro i hi
    have hb : rb_bt (rb_it (rb_m1 fr to dl hd) j rb_s0) (rb_it (rb_m1 fr to dl hd) (j + 1) rb_s0) := rb_bt_offer _ _ _ _
    by_cases h : i = j
    · subst h
      have h1 := rb_offer_at (5 * fr i + to i) (hd i) (dl (fr i) + dl (to i)) (rb_it (rb_m1 fr to dl hd) i rb_s0) (5 * fr i + to i)
      show rb_lx ((rb_offer _ _ _ _).1 _) ((rb_offer _ _ _ _).2 _) _ _
      rcases h1 with ⟨a, b, c⟩ | ⟨-, a, b, -⟩
      · rw [a, b]; exact c rfl
      · rw [a, b]; exact Or.inr ⟨rfl, Int.le_refl _⟩
    · have h1 := ih i (by omega)
      have h2 := hb (5 * fr i + to i)
      unfold rb_lx at *
      omega
/-- a stage: the middle block's row and column stay, so every couple is compared with the old ways over the middle -/
theorem rb_stage1 {k : Nat} (hk : k < 5) {s : rb_S} (hb : rb_bd s) : ∀ i, i ≤ 25 → ∀ u v, u < 5 → v < 5 → (rb_it (rb_pr dl k) i s).1 (5 * u + v) = if 5 * u + v < i then min (s.1 (5 * u + v)) (s.1 (5 * u + k) + s.1 (5 * k + v)) else s.1 (5 * u + v) := by
  intro i
  induction i with
  | zero =>
    intro _ u v _ _
    rw [if_neg (by omega)]
    rfl
  | succ i ih =>
    intro hi u v hu hv
    have ih := ih (by omega)
    have hkk := hb (5 * k + k)
    have hbi := rb_bd_prs (dl := dl) (k := k) hb i
    generalize hs : rb_it (rb_pr dl k) i s = t at ih hbi
    have hui : i / 5 < 5 := by omega
    have hvi : i % 5 < 5 := by omega
    have ea : t.1 (5 * (i / 5) + k) = s.1 (5 * (i / 5) + k) := by
      rw [ih (i / 5) k hui hk]
      split
      · omega
      · rfl
    have eb : t.1 (5 * k + i % 5) = s.1 (5 * k + i % 5) := by
      rw [ih k (i % 5) hk hvi]
      split
      · omega
      · rfl
    rw [rb_it_s, hs]
    have h0 := ih u v hu hv
    by_cases e : 5 * u + v = i
    · have eu : i / 5 = u := by omega
      have ev : i % 5 = v := by omega
      rw [eu] at ea
      rw [ev] at eb
      rw [if_neg (by omega)] at h0
      rw [if_pos (by omega)]
      have hbu := hb (5 * u + v)
      have hba := hb (5 * u + k)
      have hbb := hb (5 * k + v)
      unfold rb_pr
      rw [eu, ev]
      split
      · rw [h0]
        omega
      · rcases rb_offer_at i (t.1 (5 * u + k) + t.1 (5 * k + v)) (t.2 (5 * u + k) + t.2 (5 * k + v) - dl k) t (5 * u + v) with ⟨a, -, c⟩ | ⟨-, a, -, c⟩
        · rw [a]
          have c := c e
          unfold rb_lx at c
          omega
        · rw [a]
          unfold rb_lx at c
          omega
    · have h1 : (rb_pr dl k i t).1 (5 * u + v) = t.1 (5 * u + v) := by
        unfold rb_pr
        split
        · rfl
        · rcases rb_offer_at i (t.1 (5 * (i / 5) + k) + t.1 (5 * k + i % 5)) (t.2 (5 * (i / 5) + k) + t.2 (5 * k + i % 5) - dl k) t (5 * u + v) with ⟨a, -, -⟩ | ⟨h, -, -, -⟩
          · exact a
          · exact absurd h e
      rw [h1, h0]
      by_cases h : 5 * u + v < i
      · rw [if_pos h, if_pos (by omega)]
      · rw [if_neg h, if_neg (by omega)]
theorem rb_st1 {k : Nat} (hk : k < 5) {s : rb_S} (hb : rb_bd s) {u v : Nat} (hu : u < 5) (hv : v < 5) : (rb_st dl k s).1 (5 * u + v) = min (s.1 (5 * u + v)) (s.1 (5 * u + k) + s.1 (5 * k + v)) := by
  have h := rb_stage1 (dl := dl) hk hb 25 (Nat.le_refl 25) u v hu hv
  rw [if_pos (by omega)] at h
  unfold rb_st
  exact h
theorem rb_cl1 {s1 : rb_S} (hb : rb_bd s1) : ∀ k, k ≤ 5 → ∀ j u v, j < k → u < 5 → v < 5 → (rb_it (rb_st dl) k s1).1 (5 * u + v) ≤ (rb_it (rb_st dl) k s1).1 (5 * u + j) + (rb_it (rb_st dl) k s1).1 (5 * j + v) := by
  intro k
  induction k with
  | zero => intro _ j u v hj; omega
  | succ k ih =>
    intro hk j u v hj hu hv
    have ih := ih (by omega)
    have hbk := rb_bd_sts (dl := dl) hb k
    rw [rb_it_s]
    generalize rb_it (rb_st dl) k s1 = s at ih hbk
    rw [rb_st1 (by omega) hbk hu hv, rb_st1 (by omega) hbk hu (by omega), rb_st1 (by omega) hbk (by omega) hv]
    have z := hbk (5 * k + k)
    by_cases e : j = k
    · subst e
      have z1 := hbk (5 * u + j)
      have z2 := hbk (5 * j + v)
      omega
    · have a1 := ih j u v (by omega) hu hv
      have a2 := ih j k v (by omega) (by omega) hv
      have a3 := ih j u k (by omega) hu (by omega)
      have a4 := ih j k k (by omega) (by omega) (by omega)
      omega
end RBF
end
section
/-! PURE 3: measure in a sound circuit; what it says of walks -/
def rb_cb (dl : Nat → Int) (k : Nat) (s t : rb_S) (u v : Nat) : Prop :=
  ((t.1 (5 * u + v) = s.1 (5 * u + v) ∧ t.2 (5 * u + v) = s.2 (5 * u + v)) ∨ (s.1 (5 * u + k) < 1000 ∧ s.1 (5 * k + v) < 1000 ∧ t.1 (5 * u + v) = s.1 (5 * u + k) + s.1 (5 * k + v) ∧ t.2 (5 * u + v) = s.2 (5 * u + k) + s.2 (5 * k + v) - dl k)) ∧
  rb_lx (t.1 (5 * u + v)) (t.2 (5 * u + v)) (s.1 (5 * u + v)) (s.2 (5 * u + v)) ∧
  (s.1 (5 * u + k) < 1000 → s.1 (5 * k + v) < 1000 → rb_lx (t.1 (5 * u + v)) (t.2 (5 * u + v)) (s.1 (5 * u + k) + s.1 (5 * k + v)) (s.2 (5 * u + k) + s.2 (5 * k + v) - dl k))
section RBG
variable {n m : Nat} {fr to : Nat → Nat} {dl hd : Nat → Int}
theorem rb_stage2 {k : Nat} (hk : k < 5) {s : rb_S} (hkk : 1 ≤ s.1 (5 * k + k)) : ∀ i, i ≤ 25 → ∀ u v, u < 5 → v < 5 → (5 * u + v < i → rb_cb dl k s (rb_it (rb_pr dl k) i s) u v) ∧ (i ≤ 5 * u + v → (rb_it (rb_pr dl k) i s).1 (5 * u + v) = s.1 (5 * u + v) ∧ (rb_it (rb_pr dl k) i s).2 (5 * u + v) = s.2 (5 * u + v)) := by
  intro i
  induction i with
  | zero =>
    intro _ u v _ _
    exact ⟨fun h => by omega, fun _ => ⟨rfl, rfl⟩⟩
  | succ i ih =>
    intro hi u v hu hv
    have ih := ih (by omega)
    rw [rb_it_s]
    generalize rb_it (rb_pr dl k) i s = t at ih
    have hui : i / 5 < 5 := by omega
    have hvi : i % 5 < 5 := by omega
    have ea : t.1 (5 * (i / 5) + k) = s.1 (5 * (i / 5) + k) ∧ t.2 (5 * (i / 5) + k) = s.2 (5 * (i / 5) + k) := by
      obtain ⟨h1, h2⟩ := ih (i / 5) k hui hk
      by_cases h : 5 * (i / 5) + k < i
      · obtain ⟨a, b, -⟩ := h1 h
        rcases a with a | ⟨-, -, a, -⟩
        · exact a
        · unfold rb_lx at b
          omega
      · exact h2 (by omega)
    have eb : t.1 (5 * k + i % 5) = s.1 (5 * k + i % 5) ∧ t.2 (5 * k + i % 5) = s.2 (5 * k + i % 5) := by
      obtain ⟨h1, h2⟩ := ih k (i % 5) hk hvi
      by_cases h : 5 * k + i % 5 < i
      · obtain ⟨a, b, -⟩ := h1 h
        rcases a with a | ⟨-, -, a, -⟩
        · exact a
        · unfold rb_lx at b
          omega
      · exact h2 (by omega)
    obtain ⟨g1, g2⟩ := ih u v hu hv
    by_cases e : 5 * u + v = i
    · have eu : i / 5 = u := by omega
      have ev : i % 5 = v := by omega
      rw [eu] at ea
      rw [ev] at eb
      obtain ⟨z1, z2⟩ := g2 (by omega)
      refine ⟨fun _ => ?_, fun h => by omega⟩
      unfold rb_pr rb_cb
      rw [eu, ev]
      split
      · rename_i hf
        rw [z1, z2]
        refine ⟨Or.inl ⟨rfl, rfl⟩, Or.inr ⟨rfl, Int.le_refl _⟩, fun h1 h2 => ?_⟩
        rw [ea.1, eb.1] at hf
        omega
      · rename_i hf
        rcases rb_offer_at i (t.1 (5 * u + k) + t.1 (5 * k + v)) (t.2 (5 * u + k) + t.2 (5 * k + v) - dl k) t (5 * u + v) with ⟨a, b, c⟩ | ⟨-, a, b, c⟩
        · rw [a, b]
          have c := c e
          rw [z1, z2, ea.1, ea.2, eb.1, eb.2] at c
          rw [z1, z2]
          exact ⟨Or.inl ⟨rfl, rfl⟩, Or.inr ⟨rfl, Int.le_refl _⟩, fun _ _ => c⟩
        · rw [a, b]
          rw [z1, z2, ea.1, ea.2, eb.1, eb.2] at c
          rw [ea.1, eb.1] at hf
          rw [ea.1, ea.2, eb.1, eb.2]
          exact ⟨Or.inr ⟨by omega, by omega, rfl, rfl⟩, c, fun _ _ => Or.inr ⟨rfl, Int.le_refl _⟩⟩
    · have h1 : (rb_pr dl k i t).1 (5 * u + v) = t.1 (5 * u + v) ∧ (rb_pr dl k i t).2 (5 * u + v) = t.2 (5 * u + v) := by
        unfold rb_pr
        split
        · exact ⟨rfl, rfl⟩
        · rcases rb_offer_at i (t.1 (5 * (i / 5) + k) + t.1 (5 * k + i % 5)) (t.2 (5 * (i / 5) + k) + t.2 (5 * k + i % 5) - dl k) t (5 * u + v) with ⟨a, b, -⟩ | ⟨h, -, -, -⟩
          · exact ⟨a, b⟩
          · exact absurd h e
      refine ⟨fun h => ?_, fun h => ?_⟩
      · have h2 := g1 (by omega)
        unfold rb_cb at *
        rw [h1.1, h1.2]
        exact h2
      · rw [h1.1, h1.2]
        exact g2 (by omega)
theorem rb_cl2 {s1 : rb_S} (hb : rb_bd s1) : ∀ k, k ≤ 5 → (∀ j, j < k → 1 ≤ (rb_it (rb_st dl) k s1).1 (5 * j + j)) → ∀ j u v, j < k → u < 5 → v < 5 → (rb_it (rb_st dl) k s1).1 (5 * u + j) + (rb_it (rb_st dl) k s1).1 (5 * j + v) < 1000 →
    rb_lx ((rb_it (rb_st dl) k s1).1 (5 * u + v)) ((rb_it (rb_st dl) k s1).2 (5 * u + v)) ((rb_it (rb_st dl) k s1).1 (5 * u + j) + (rb_it (rb_st dl) k s1).1 (5 * j + v)) ((rb_it (rb_st dl) k s1).2 (5 * u + j) + (rb_it (rb_st dl) k s1).2 (5 * j + v) - dl j) := by
  intro k
  induction k with
  | zero => intro _ _ j u v hj; omega
  | succ k ih =>
    intro hk hs j u v hj hu hv
    have hbt := rb_bt_st dl k (rb_it (rb_st dl) k s1)
    have hs0 : ∀ j, j < k + 1 → 1 ≤ (rb_it (rb_st dl) k s1).1 (5 * j + j) := by
      intro j hj
      have h1 := hs j hj
      rw [rb_it_s] at h1
      have h2 := hbt (5 * j + j)
      unfold rb_lx at h2
      omega
    have ih := ih (by omega) (fun j hj => hs0 j (by omega))
    rw [rb_it_s]
    have hkk := hs0 k (by omega)
    have hbs := rb_bd_sts (dl := dl) hb k
    have hbt := rb_bd_prs (dl := dl) (k := k) hbs 25
    have cb : ∀ u v, u < 5 → v < 5 → rb_cb dl k (rb_it (rb_st dl) k s1) (rb_st dl k (rb_it (rb_st dl) k s1)) u v := fun u v hu hv => by
      have h9 := (rb_stage2 (dl := dl) (by omega) hkk 25 (Nat.le_refl 25) u v hu hv).1 (by omega)
      unfold rb_st
      unfold rb_st at h9
      exact h9
    have hbt : rb_bd (rb_st dl k (rb_it (rb_st dl) k s1)) := by
      unfold rb_st
      unfold rb_st at hbt
      exact hbt
    generalize rb_st dl k (rb_it (rb_st dl) k s1) = t at cb hbt
    generalize rb_it (rb_st dl) k s1 = s at *
    have hk5 : k < 5 := by omega
    have hj5 : j < 5 := by omega
    obtain ⟨-, c2, c3⟩ := cb u v hu hv
    by_cases e : j = k
    · subst e
      have r1 : t.1 (5 * u + j) = s.1 (5 * u + j) ∧ t.2 (5 * u + j) = s.2 (5 * u + j) := by
        obtain ⟨a, b, -⟩ := cb u j hu hj5
        rcases a with a | ⟨-, -, a, -⟩
        · exact a
        · unfold rb_lx at b; omega
      have r2 : t.1 (5 * j + v) = s.1 (5 * j + v) ∧ t.2 (5 * j + v) = s.2 (5 * j + v) := by
        obtain ⟨a, b, -⟩ := cb j v hj5 hv
        rcases a with a | ⟨-, -, a, -⟩
        · exact a
        · unfold rb_lx at b; omega
      rw [r1.1, r1.2, r2.1, r2.2]
      intro f1
      have y1 := hbs (5 * u + j)
      have y2 := hbs (5 * j + v)
      exact c3 (by omega) (by omega)
    · have hjk : j < k := by omega
      obtain ⟨a1, -, -⟩ := cb u j hu hj5
      obtain ⟨b1, -, -⟩ := cb j v hj5 hv
      have i1 := ih j u v hjk hu hv
      have i2 := ih j k v hjk hk5 hv
      have i3 := ih j u k hjk hu hk5
      have i4 := ih j k k hjk hk5 hk5
      intro f1
      have y1 := hbs (5 * u + j)
      have y2 := hbs (5 * j + v)
      have y3 := hbs (5 * u + k)
      have y4 := hbs (5 * k + v)
      have y5 := hbs (5 * j + k)
      have y6 := hbs (5 * k + j)
      unfold rb_lx at *
      rcases a1 with ⟨a, a'⟩ | ⟨ax, ay, a, a'⟩
      · rcases b1 with ⟨b, b'⟩ | ⟨bx, by_, b, b'⟩
        · have i1 := i1 (by omega)
          clear i2 i3 i4 c3
          omega
        · have i3 := i3 (by omega)
          have c3 := c3 (by omega) (by omega)
          clear i1 i2 i4 c2
          omega
      · rcases b1 with ⟨b, b'⟩ | ⟨bx, by_, b, b'⟩
        · have i2 := i2 (by omega)
          have c3 := c3 (by omega) (by omega)
          clear i1 i3 i4 c2
          omega
        · have i4 := i4 (by omega)
          have c3 := c3 (by omega) (by omega)
          clear i1 i2 i3 c2
          omega
/-! what measure says -/
theorem rb_E1 (ok : rb_ok n m fr to dl hd) : rb_bd (rb_ms n m fr to dl hd) := rb_bd_sts (rb_bd_m1s ok m (Nat.le_refl m)) n
theorem rb_E2 {i : Nat} (hi : i < m) : rb_lx ((rb_ms n m fr to dl hd).1 (5 * fr i + to i)) ((rb_ms n m fr to dl hd).2 (5 * fr i + to i)) (hd i) (dl (fr i) + dl (to i)) := by
  have h1 := rb_edge_s1 (fr := fr) (to := to) (dl := dl) (hd := hd) m i hi
  have h2 := rb_bt_it (f := rb_st dl) (fun k s => rb_bt_st dl k s) (rb_s1 m fr to dl hd) n (5 * fr i + to i)
  unfold rb_ms
  unfold rb_s1 at *
  unfold rb_lx at *
  omega
theorem rb_E3 (ok : rb_ok n m fr to dl hd) {j u v : Nat} (hj : j < n) (hu : u < 5) (hv : v < 5) : (rb_ms n m fr to dl hd).1 (5 * u + v) ≤ (rb_ms n m fr to dl hd).1 (5 * u + j) + (rb_ms n m fr to dl hd).1 (5 * j + v) :=
  rb_cl1 (rb_bd_m1s ok m (Nat.le_refl m)) n ok.2.1 j u v hj hu hv
theorem rb_E5 (ok : rb_ok n m fr to dl hd) : ∀ (k u v : Nat) (w d : Int), rb_wk n m fr to dl hd (k + 1) u v w d → (rb_ms n m fr to dl hd).1 (5 * u + v) ≤ w := by
  have h5 := ok.2.1
  have edge : ∀ i, i < m → (rb_ms n m fr to dl hd).1 (5 * fr i + to i) ≤ hd i := by
    intro i hi
    have := rb_E2 (n := n) (m := m) (fr := fr) (to := to) (dl := dl) (hd := hd) hi
    unfold rb_lx at this
    omega
  intro k
  induction k with
  | zero =>
    intro u v w d h
    obtain ⟨i, w', d', hi, ⟨e1, -, e2, -⟩, rfl, rfl, -⟩ := h
    have := edge i hi
    subst e1
    omega
  | succ k ih =>
    intro u v w d h
    obtain ⟨i, w', d', hi, hw, rfl, rfl, -⟩ := h
    have h1 := ih _ _ _ _ hw
    have h2 := edge i hi
    have h3 := rb_wk_ends ok _ _ _ _ _ hw
    have h4 := ok.2.2.2.1 i hi
    have h6 := rb_E3 ok (j := fr i) (u := u) (v := to i) h3.2.1 (by omega) (by omega)
    omega
def rb_snd (n : Nat) (s : rb_S) : Prop := ∀ v, v < n → s.1 (6 * v) ≠ 0
theorem rb_E6 (ok : rb_ok n m fr to dl hd) (hs : rb_snd n (rb_ms n m fr to dl hd)) : ∀ (k u v : Nat) (w d : Int), rb_wk n m fr to dl hd (k + 1) u v w d → w = (rb_ms n m fr to dl hd).1 (5 * u + v) → w < 1000 → d ≤ (rb_ms n m fr to dl hd).2 (5 * u + v) := by
  have h5 := ok.2.1
  have hb := rb_E1 ok
  have hs' : ∀ j, j < n → 1 ≤ (rb_it (rb_st dl) n (rb_s1 m fr to dl hd)).1 (5 * j + j) := by
    intro j hj
    have h1 := hs j hj
    have h2 := hb (6 * j)
    have e : 6 * j = 5 * j + j := by omega
    rw [e] at h1 h2
    show 1 ≤ (rb_ms n m fr to dl hd).1 (5 * j + j)
    omega
  have cl : ∀ j u v, j < n → u < 5 → v < 5 → (rb_ms n m fr to dl hd).1 (5 * u + j) + (rb_ms n m fr to dl hd).1 (5 * j + v) < 1000 → rb_lx ((rb_ms n m fr to dl hd).1 (5 * u + v)) ((rb_ms n m fr to dl hd).2 (5 * u + v)) ((rb_ms n m fr to dl hd).1 (5 * u + j) + (rb_ms n m fr to dl hd).1 (5 * j + v)) ((rb_ms n m fr to dl hd).2 (5 * u + j) + (rb_ms n m fr to dl hd).2 (5 * j + v) - dl j) :=
    fun j u v hj hu hv => rb_cl2 (dl := dl) (s1 := rb_s1 m fr to dl hd) (rb_bd_m1s ok m (Nat.le_refl m)) n h5 hs' j u v hj hu hv
  intro k
  induction k with
  | zero =>
    intro u v w d h e _
    obtain ⟨i, w', d', hi, ⟨e1, -, e2, e3⟩, rfl, rfl, rfl⟩ := h
    have h1 := rb_E2 (n := n) (m := m) (fr := fr) (to := to) (dl := dl) (hd := hd) hi
    subst e1
    unfold rb_lx at h1
    omega
  | succ k ih =>
    intro u v w d h e hf
    obtain ⟨i, w', d', hi, hw, rfl, rfl, rfl⟩ := h
    have h1 := rb_E2 (n := n) (m := m) (fr := fr) (to := to) (dl := dl) (hd := hd) hi
    have h2 := rb_E5 ok _ _ _ _ _ hw
    have h3 := rb_wk_ends ok _ _ _ _ _ hw
    have h4 := ok.2.2.2.1 i hi
    have h6 := rb_E3 ok (j := fr i) (u := u) (v := to i) h3.2.1 (by omega) (by omega)
    have b1 := hb (5 * u + fr i)
    have b2 := hb (5 * fr i + to i)
    unfold rb_lx at h1
    have h7 := cl (fr i) u (to i) h3.2.1 (by omega) (by omega) (by omega)
    have h8 := ih u (fr i) w' d' hw (by omega) (by omega)
    unfold rb_lx at h7
    omega
theorem rb_E7 (ok : rb_ok n m fr to dl hd) {a : Int} (ha : 0 ≤ a) (ha2 : a ≤ 252) (hf : rb_few m fr to hd a) {k u v : Nat} {w d : Int} (hw : rb_wk n m fr to dl hd (k + 1) u v w d) : (rb_ms n m fr to dl hd).1 (5 * u + v) < 1000 := by
  obtain ⟨k', w', d', h1, h2⟩ := rb_wk_short ok u k v w d hw
  have h3 := rb_wk_few ha hf _ _ _ _ _ h2 (by omega)
  have h4 := rb_E5 ok _ _ _ _ _ h2
  omega
end RBG
end
section
/-! PURE 4: difference bounds: the greatest solution, and the rounds that find it -/
def rb_sol (C : Nat → Nat → Int → Prop) (r : Nat → Int) : Prop := ∀ u v b, C u v b → r u ≤ r v + b
def rb_cok (n : Nat) (C : Nat → Nat → Int → Prop) : Prop := ∀ u v b, C u v b → u < n ∧ v < n ∧ -1 ≤ b
def rb_fea (n : Nat) (C : Nat → Nat → Int → Prop) : Prop := ∃ r, rb_sol C r ∧ ∀ v, v < n → r v ≤ 0
def rb_gr (n : Nat) (C : Nat → Nat → Int → Prop) (G : Nat → Int) : Prop := rb_sol C G ∧ (∀ v, v < n → G v ≤ 0) ∧ ∀ r, rb_sol C r → (∀ v, v < n → r v ≤ 0) → ∀ v, v < n → r v ≤ G v
section RBD
variable {n : Nat} {C : Nat → Nat → Int → Prop}
theorem rb_gr_ex (hC : rb_cok n C) (h : rb_fea n C) : ∃ G, rb_gr n C G := by
  obtain ⟨r0, hr0, hz0⟩ := h
  have hne : ∀ v, v < n → ∃ k : Nat, ∃ r, rb_sol C r ∧ (∀ w, w < n → r w ≤ 0) ∧ r v = -(k : Int) := by
    intro v hv
    refine ⟨(-(r0 v)).toNat, r0, hr0, hz0, ?_⟩
    have := hz0 v hv
    omega
  have hk : ∀ v, ∃ k : Nat, v < n → (∃ r, rb_sol C r ∧ (∀ w, w < n → r w ≤ 0) ∧ r v = -(k : Int)) ∧ ∀ j, j < k → ¬ ∃ r, rb_sol C r ∧ (∀ w, w < n → r w ≤ 0) ∧ r v = -(j : Int) := by
    intro v
    by_cases hv : v < n
    · obtain ⟨k, h1, h2⟩ := pk_least _ (hne v hv)
      exact ⟨k, fun _ => ⟨h1, h2⟩⟩
    · exact ⟨0, fun h => absurd h hv⟩
  refine ⟨fun v => -((Classical.choose (hk v) : Nat) : Int), ?_, ?_, ?_⟩
  · intro u v b hb
    obtain ⟨hu, hv, -⟩ := hC u v b hb
    obtain ⟨⟨r, h1, h2, h3⟩, -⟩ := Classical.choose_spec (hk u) hu
    have hm := (Classical.choose_spec (hk v) hv).2
    have h4 := h1 u v b hb
    have h5 := h2 v hv
    have h6 : ¬ (-(r v)).toNat < Classical.choose (hk v) := fun hlt => hm _ hlt ⟨r, h1, h2, by omega⟩
    show -((Classical.choose (hk u) : Nat) : Int) ≤ -((Classical.choose (hk v) : Nat) : Int) + b
    omega
  · intro v hv
    show -((Classical.choose (hk v) : Nat) : Int) ≤ 0
    omega
  · intro r h1 h2 v hv
    have hm := (Classical.choose_spec (hk v) hv).2
    have h5 := h2 v hv
    have h6 : ¬ (-(r v)).toNat < Classical.choose (hk v) := fun hlt => hm _ hlt ⟨r, h1, h2, by omega⟩
    show r v ≤ -((Classical.choose (hk v) : Nat) : Int)
    omega
theorem rb_raise {G : Nat → Int} (hG : rb_gr n C G) (T : Nat → Prop) (h1 : ∀ v, v < n → T v → G v ≤ -1) (h2 : ∀ u v b, C u v b → T u → ¬ T v → G u + 1 ≤ G v + b) : ∀ v, v < n → ¬ T v := by
  intro v hv ht
  have hsol : rb_sol C (fun v => @ite _ (T v) (Classical.propDecidable _) (G v + 1) (G v)) := by
    intro x y b hb
    have h3 := hG.1 x y b hb
    show @ite _ (T x) (Classical.propDecidable _) (G x + 1) (G x) ≤ @ite _ (T y) (Classical.propDecidable _) (G y + 1) (G y) + b
    by_cases hx : T x
    · rw [if_pos hx]
      by_cases hy : T y
      · rw [if_pos hy]; omega
      · rw [if_neg hy]; exact h2 x y b hb hx hy
    · rw [if_neg hx]
      by_cases hy : T y
      · rw [if_pos hy]; omega
      · rw [if_neg hy]; omega
  have h3 := hG.2.2 _ hsol (fun w hw => by
    show @ite _ (T w) (Classical.propDecidable _) (G w + 1) (G w) ≤ 0
    by_cases hx : T w
    · rw [if_pos hx]; have := h1 w hw hx; omega
    · rw [if_neg hx]; exact hG.2.1 w hw) v hv
  have h4 : @ite _ (T v) (Classical.propDecidable _) (G v + 1) (G v) ≤ G v := h3
  rw [if_pos ht] at h4
  omega
theorem rb_gr_low (hn : 1 ≤ n) (hC : rb_cok n C) {G : Nat → Int} (hG : rb_gr n C G) : ∀ v, v < n → -((n : Int) - 1) ≤ G v := by
  have h0 : 1 ≤ rb_cnt (fun v => -((0 : Nat) : Int) ≤ G v) n := by
    apply Classical.byContradiction
    intro hno
    have h := rb_raise hG (fun v => v < n) (fun v hv _ => by
      apply Classical.byContradiction
      intro hc
      exact hno (rb_cnt_ex (P := fun v => -((0 : Nat) : Int) ≤ G v) hv (by show -((0 : Nat) : Int) ≤ G v; omega))) (fun u v b hb _ hv => absurd (hC u v b hb).2.1 hv)
    exact h 0 (by omega) (by omega)
  have g := rb_grow n 1 (fun t v => -(t : Int) ≤ G v) (fun _ => True) h0 (fun t v _ h => by
    show -((t + 1 : Nat) : Int) ≤ G v
    have h : -(t : Int) ≤ G v := h
    omega) (fun t hx => by
    obtain ⟨v, hv, -, hno⟩ := hx
    apply Classical.byContradiction
    intro hc
    have hT : ∀ w, w < n → G w < -(t : Int) → G w + 2 ≤ -(t : Int) := by
      intro w hw h
      apply Classical.byContradiction
      intro h2
      exact hc ⟨w, hw, by show -((t + 1 : Nat) : Int) ≤ G w; omega, by show ¬ -(t : Int) ≤ G w; omega⟩
    have h := rb_raise hG (fun w => G w < -(t : Int)) (fun w hw h => by have := hT w hw h; omega) (fun u w b hb hu hw => by
      have h1 := hC u w b hb
      have h2 := hT u h1.1 hu
      have hw : ¬ G w < -(t : Int) := hw
      omega)
    have hno : ¬ -(t : Int) ≤ G v := hno
    exact h v hv (by show G v < -(t : Int); omega))
  intro v hv
  have h := g (n - 1) (by omega) v hv trivial
  have h : -((n - 1 : Nat) : Int) ≤ G v := h
  omega
end RBD
/-! lowering -/
abbrev rb_L : Type := (Nat → Int) × Bool
def rb_low (u v : Nat) (b : Int) (s : rb_L) : rb_L := if s.1 u ≤ s.1 v + b then s else (rb_up s.1 u (s.1 v + b), true)
/-- a round that began at g and has met the bounds D so far -/
def rb_lv (n : Nat) (C : Nat → Nat → Int → Prop) (g : Nat → Int) (s : rb_L) (D : Nat → Nat → Int → Prop) : Prop :=
  (∀ v, s.1 v ≤ g v) ∧ (∀ r, rb_sol C r → (∀ v, v < n → r v ≤ g v) → ∀ v, v < n → r v ≤ s.1 v) ∧ (∀ u v b, D u v b → s.1 u ≤ g v + b) ∧ (s.2 = false → s.1 = g ∧ ∀ u v b, D u v b → g u ≤ g v + b) ∧ (rb_sol C g → s = (g, false)) ∧ ∀ v, n ≤ v → s.1 v = g v
section RBE
variable {n : Nat} {C : Nat → Nat → Int → Prop} {g : Nat → Int}
theorem rb_lv_0 : rb_lv n C g (g, false) (fun _ _ _ => False) :=
  ⟨fun _ => Int.le_refl _, fun _ _ h v hv => h v hv, fun _ _ _ h => h.elim, fun _ => ⟨rfl, fun _ _ _ h => h.elim⟩, fun _ => rfl, fun _ _ => rfl⟩
theorem rb_lv_sub {s : rb_L} {D D' : Nat → Nat → Int → Prop} (h : rb_lv n C g s D) (hd : ∀ u v b, D' u v b → D u v b) : rb_lv n C g s D' :=
  ⟨h.1, h.2.1, fun u v b k => h.2.2.1 u v b (hd u v b k), fun k => ⟨(h.2.2.2.1 k).1, fun u v b q => (h.2.2.2.1 k).2 u v b (hd u v b q)⟩, h.2.2.2.2.1, h.2.2.2.2.2⟩
theorem rb_lv_s (hC : rb_cok n C) {s : rb_L} {D : Nat → Nat → Int → Prop} {u v : Nat} {b : Int} (hb : C u v b) (h : rb_lv n C g s D) : rb_lv n C g (rb_low u v b s) (fun u' v' b' => D u' v' b' ∨ (u' = u ∧ v' = v ∧ b' = b)) := by
  obtain ⟨h1, h2, h3, h4, h5, h6⟩ := h
  obtain ⟨hu, hv, -⟩ := hC u v b hb
  unfold rb_low
  by_cases hl : s.1 u ≤ s.1 v + b
  · rw [if_pos hl]
    refine ⟨h1, h2, ?_, ?_, h5, h6⟩
    · intro u' v' b' h
      rcases h with h | ⟨rfl, rfl, rfl⟩
      · exact h3 u' v' b' h
      · have := h1 v'; omega
    · intro hf
      obtain ⟨e, k⟩ := h4 hf
      refine ⟨e, ?_⟩
      intro u' v' b' h
      rcases h with h | ⟨rfl, rfl, rfl⟩
      · exact k u' v' b' h
      · rw [e] at hl; exact hl
  · rw [if_neg hl]
    have up_le : ∀ w, rb_up s.1 u (s.1 v + b) w ≤ s.1 w := by
      intro w
      by_cases e : w = u
      · subst e; rw [rb_up_s]; omega
      · rw [rb_up_n e]; exact Int.le_refl _
    refine ⟨?_, ?_, ?_, ?_, ?_, ?_⟩
    · intro w
      have a := up_le w
      have b := h1 w
      show rb_up s.1 u (s.1 v + _) w ≤ g w
      omega
    · intro r hr hg w hw
      show r w ≤ rb_up s.1 u (s.1 v + b) w
      by_cases e : w = u
      · subst e
        rw [rb_up_s]
        have a := hr w v b hb
        have c := h2 r hr hg v hv
        omega
      · rw [rb_up_n e]; exact h2 r hr hg w hw
    · intro u' v' b' h
      show rb_up s.1 u (s.1 v + b) u' ≤ g v' + b'
      rcases h with h | ⟨rfl, rfl, rfl⟩
      · have a := up_le u'
        have c := h3 u' v' b' h
        omega
      · rw [rb_up_s]
        have := h1 v'
        omega
    · intro hf
      exact Bool.noConfusion (show true = false from hf)
    · intro hs
      have e := h5 hs
      rw [e] at hl
      exact absurd (hs u v b hb) hl
    · intro w hw
      show rb_up s.1 u (s.1 v + b) w = g w
      rw [rb_up_n (by omega)]
      exact h6 w hw
/-- rounds until nothing is lowered -/
def rb_rk (rd : (Nat → Int) → rb_L) (_ : Nat) (s : rb_L) : rb_L := if s.2 then rd s.1 else s
def rb_rz : rb_L := (fun _ => 0, true)
theorem rb_rounds (hn : n ≤ 5) (hC : rb_cok n C) {rd : (Nat → Int) → rb_L} (hr : ∀ g, rb_lv n C g (rd g) C) :
    ((rb_it (rb_rk rd) 6 rb_rz).2 = false → rb_gr n C (rb_it (rb_rk rd) 6 rb_rz).1) ∧ (rb_fea n C → (rb_it (rb_rk rd) 6 rb_rz).2 = false) ∧ ∀ v, n ≤ v → (rb_it (rb_rk rd) 6 rb_rz).1 v = 0 := by
  have inv : ∀ t, (∀ v, (rb_it (rb_rk rd) t rb_rz).1 v ≤ 0) ∧ (∀ r, rb_sol C r → (∀ v, v < n → r v ≤ 0) → ∀ v, v < n → r v ≤ (rb_it (rb_rk rd) t rb_rz).1 v) ∧ ((rb_it (rb_rk rd) t rb_rz).2 = false → rb_sol C (rb_it (rb_rk rd) t rb_rz).1) ∧ ∀ v, n ≤ v → (rb_it (rb_rk rd) t rb_rz).1 v = 0 := by
    intro t
    induction t with
    | zero => exact ⟨fun v => Int.le_refl 0, fun r _ h v hv => h v hv, fun h => Bool.noConfusion (show true = false from h), fun _ _ => rfl⟩
    | succ t ih =>
      rw [rb_it_s]
      generalize rb_it (rb_rk rd) t rb_rz = s at ih
      obtain ⟨i1, i2, i3, i4⟩ := ih
      unfold rb_rk
      by_cases hf : s.2 = true
      · rw [if_pos hf]
        obtain ⟨l1, l2, l3, l4, l5, l6⟩ := hr s.1
        refine ⟨fun v => ?_, fun r hs hz v hv => l2 r hs (fun w hw => i2 r hs hz w hw) v hv, fun h => ?_, fun v hv => ?_⟩
        · have a := l1 v
          have b := i1 v
          omega
        · obtain ⟨e, k⟩ := l4 h
          rw [e]
          exact k
        · rw [l6 v hv]; exact i4 v hv
      · rw [if_neg hf]
        exact ⟨i1, i2, i3, i4⟩
  refine ⟨fun h => ?_, fun h => ?_, (inv 6).2.2.2⟩
  · obtain ⟨i1, i2, i3, -⟩ := inv 6
    exact ⟨i3 h, fun v _ => i1 v, i2⟩
  · obtain ⟨G, hG⟩ := rb_gr_ex hC h
    have g := rb_grow n 0 (fun t v => (rb_it (rb_rk rd) t rb_rz).1 v ≤ G v) (fun _ => True) (Nat.zero_le _) (fun t v _ h => by
      show (rb_it (rb_rk rd) (t + 1) rb_rz).1 v ≤ G v
      have h : (rb_it (rb_rk rd) t rb_rz).1 v ≤ G v := h
      rw [rb_it_s]
      generalize rb_it (rb_rk rd) t rb_rz = s at h
      unfold rb_rk
      by_cases hf : s.2 = true
      · rw [if_pos hf]
        have := (hr s.1).1 v
        omega
      · rw [if_neg hf]; exact h) (fun t hx => by
      obtain ⟨v, hv, -, hno⟩ := hx
      obtain ⟨i1, i2, i3, -⟩ := inv t
      show ∃ v, v < n ∧ (rb_it (rb_rk rd) (t + 1) rb_rz).1 v ≤ G v ∧ ¬ (rb_it (rb_rk rd) t rb_rz).1 v ≤ G v
      rw [rb_it_s]
      generalize rb_it (rb_rk rd) t rb_rz = s at i1 i2 i3 hno
      have hf : s.2 = true := by
        cases hq : s.2 with
        | true => rfl
        | false => exact absurd (hG.2.2 s.1 (i3 hq) (fun w _ => i1 w) v hv) hno
      unfold rb_rk
      rw [if_pos hf]
      obtain ⟨l1, l2, l3, -⟩ := hr s.1
      apply Classical.byContradiction
      intro hc
      have h := rb_raise hG (fun w => ¬ s.1 w ≤ G w) (fun w hw h => by
        have := i1 w
        omega) (fun u w b hb hu hw => by
        apply Classical.byContradiction
        intro hcc
        have a := l3 u w b hb
        have hw : s.1 w ≤ G w := Classical.not_not.mp hw
        exact hc ⟨u, (hC u w b hb).1, by omega, hu⟩)
      exact h v hv hno)
    have g5 : ∀ v, v < n → (rb_it (rb_rk rd) 5 rb_rz).1 v ≤ G v := fun v hv => g 5 (by omega) v hv trivial
    obtain ⟨i1, i2, i3, -⟩ := inv 5
    rw [show (6 : Nat) = 5 + 1 from rfl, rb_it_s]
    generalize rb_it (rb_rk rd) 5 rb_rz = s at g5 i1 i2 i3
    unfold rb_rk
    cases hq : s.2 with
    | false => rw [if_neg (by decide)]; exact hq
    | true =>
      rw [if_pos rfl]
      have hs : rb_sol C s.1 := by
        intro u v b hb
        obtain ⟨hu, hv, -⟩ := hC u v b hb
        have a1 := g5 u hu
        have a2 := i2 G hG.1 hG.2.1 v hv
        have a3 := hG.1 u v b hb
        omega
      rw [(hr s.1).2.2.2.2.1 hs]
end RBE
end
section
/-! PURE 5: the component's answers: period, canReach, best; retiming -/
def rb_mx1 (f : Nat → Int) (v : Nat) (most : Int) : Int := if most < f v then f v else most
def rb_mx (n : Nat) (f : Nat → Int) : Int := rb_it (rb_mx1 f) n 0
theorem rb_mx_spec (f : Nat → Int) : ∀ n, 0 ≤ rb_mx n f ∧ (∀ v, v < n → f v ≤ rb_mx n f) ∧ (rb_mx n f = 0 ∨ ∃ v, v < n ∧ rb_mx n f = f v) := by
  intro n
  unfold rb_mx
  induction n with
  | zero => exact ⟨Int.le_refl 0, fun v hv => by omega, Or.inl rfl⟩
  | succ n ih =>
    rw [rb_it_s]
    generalize rb_it (rb_mx1 f) n 0 = t at ih
    obtain ⟨h1, h2, h3⟩ := ih
    unfold rb_mx1
    by_cases h : t < f n
    · rw [if_pos h]
      refine ⟨by omega, fun v hv => ?_, Or.inr ⟨n, by omega, rfl⟩⟩
      by_cases e : v = n
      · subst e; exact Int.le_refl _
      · have := h2 v (by omega); omega
    · rw [if_neg h]
      refine ⟨h1, fun v hv => ?_, ?_⟩
      · by_cases e : v = n
        · subst e; omega
        · exact h2 v (by omega)
      · rcases h3 with h3 | ⟨v, hv, h3⟩
        · exact Or.inl h3
        · exact Or.inr ⟨v, by omega, h3⟩
def rb_r1 (fr to : Nat → Nat) (hd : Nat → Int) (i : Nat) (s : rb_L) : rb_L := rb_low (fr i) (to i) (hd i) s
def rb_r2 (t : rb_S) (p : Int) (c : Nat) (s : rb_L) : rb_L := if t.1 c < 1000 ∧ p < t.2 c then rb_low (c / 5) (c % 5) (t.1 c - 1) s else s
def rb_rd (m : Nat) (fr to : Nat → Nat) (hd : Nat → Int) (t : rb_S) (p : Int) (g : Nat → Int) : rb_L := rb_it (rb_r2 t p) 25 (rb_it (rb_r1 fr to hd) m (g, false))
def rb_rs (m : Nat) (fr to : Nat → Nat) (hd : Nat → Int) (t : rb_S) (p : Int) : rb_L := rb_it (rb_rk (rb_rd m fr to hd t p)) 6 rb_rz
def rb_can (n m : Nat) (fr to : Nat → Nat) (dl hd : Nat → Int) (t : rb_S) (p : Int) : Bool := if p < rb_mx n dl then false else !(rb_rs m fr to hd t p).2
def rb_pe1 (t : rb_S) (c : Nat) (most : Int) : Int := if t.1 c = 0 ∧ most < t.2 c then t.2 c else most
def rb_per (n : Nat) (dl : Nat → Int) (t : rb_S) : Int := rb_it (rb_pe1 t) 25 (rb_mx n dl)
def rb_be1 (n m : Nat) (fr to : Nat → Nat) (dl hd : Nat → Int) (t : rb_S) (c : Nat) (b : Int) : Int := if t.1 c < 1000 ∧ t.2 c < b ∧ rb_can n m fr to dl hd t (t.2 c) = true then t.2 c else b
def rb_best (n m : Nat) (fr to : Nat → Nat) (dl hd : Nat → Int) (t : rb_S) : Int := if rb_can n m fr to dl hd t (rb_mx n dl) = true then rb_mx n dl else rb_it (rb_be1 n m fr to dl hd t) 25 (rb_per n dl t)
/-- the bounds on differences for a period p -/
def rb_C (m : Nat) (fr to : Nat → Nat) (hd : Nat → Int) (t : rb_S) (p : Int) (u v : Nat) (b : Int) : Prop :=
  (∃ i, i < m ∧ u = fr i ∧ v = to i ∧ b = hd i) ∨ ∃ c, c < 25 ∧ t.1 c < 1000 ∧ p < t.2 c ∧ u = c / 5 ∧ v = c % 5 ∧ b = t.1 c - 1
section RBH
variable {n m : Nat} {fr to : Nat → Nat} {dl hd : Nat → Int}
theorem rb_C_ok (ok : rb_ok n m fr to dl hd) (p : Int) : rb_cok n (rb_C m fr to hd (rb_ms n m fr to dl hd) p) := by
  intro u v b h
  rcases h with ⟨i, hi, rfl, rfl, rfl⟩ | ⟨c, hc, h1, h2, rfl, rfl, rfl⟩
  · have := ok.2.2.2.1 i hi
    exact ⟨this.1, this.2.1, by omega⟩
  · have hb := rb_E1 ok c
    have e : 5 * (c / 5) + c % 5 = c := by omega
    obtain ⟨k, hw⟩ := rb_re_ms ok (c / 5) (c % 5) (by omega) (by omega) (by rw [e]; exact h1)
    have he := rb_wk_ends ok _ _ _ _ _ hw
    exact ⟨he.1, he.2.1, by omega⟩
theorem rb_rd_ok (ok : rb_ok n m fr to dl hd) (p : Int) (g : Nat → Int) : rb_lv n (rb_C m fr to hd (rb_ms n m fr to dl hd) p) g (rb_rd m fr to hd (rb_ms n m fr to dl hd) p g) (rb_C m fr to hd (rb_ms n m fr to dl hd) p) := by
  have hC := rb_C_ok ok p
  generalize rb_ms n m fr to dl hd = t at hC
  have h1 : rb_lv n (rb_C m fr to hd t p) g (rb_it (rb_r1 fr to hd) m (g, false)) (fun u v b => ∃ i, i < m ∧ u = fr i ∧ v = to i ∧ b = hd i) := by
    refine rb_it_invl (f := rb_r1 fr to hd) m (fun j s => rb_lv n (rb_C m fr to hd t p) g s (fun u v b => ∃ i, i < j ∧ u = fr i ∧ v = to i ∧ b = hd i)) ?_ ?_ m (Nat.le_refl m)
    · exact rb_lv_sub rb_lv_0 (fun u v b h => by obtain ⟨i, hi, -⟩ := h; omega)
    · intro j s hj h
      refine rb_lv_sub (rb_lv_s hC (Or.inl ⟨j, hj, rfl, rfl, rfl⟩) h) ?_
      intro u v b h
      obtain ⟨i, hi, a, b', c⟩ := h
      by_cases e : i = j
      · subst e; exact Or.inr ⟨a, b', c⟩
      · exact Or.inl ⟨i, by omega, a, b', c⟩
  have h2 : rb_lv n (rb_C m fr to hd t p) g (rb_it (rb_r2 t p) 25 (rb_it (rb_r1 fr to hd) m (g, false))) (fun u v b => (∃ i, i < m ∧ u = fr i ∧ v = to i ∧ b = hd i) ∨ ∃ c, c < 25 ∧ t.1 c < 1000 ∧ p < t.2 c ∧ u = c / 5 ∧ v = c % 5 ∧ b = t.1 c - 1) := by
    refine rb_it_invl (f := rb_r2 t p) 25 (fun j s => rb_lv n (rb_C m fr to hd t p) g s (fun u v b => (∃ i, i < m ∧ u = fr i ∧ v = to i ∧ b = hd i) ∨ ∃ c, c < j ∧ t.1 c < 1000 ∧ p < t.2 c ∧ u = c / 5 ∧ v = c % 5 ∧ b = t.1 c - 1)) ?_ ?_ 25 (Nat.le_refl 25)
    · refine rb_lv_sub h1 (fun u v b h => ?_)
      rcases h with h | ⟨c, hc, -⟩
      · exact h
      · omega
    · intro j s hj h
      unfold rb_r2
      by_cases hc : t.1 j < 1000 ∧ p < t.2 j
      · rw [if_pos hc]
        refine rb_lv_sub (rb_lv_s hC (Or.inr ⟨j, hj, hc.1, hc.2, rfl, rfl, rfl⟩) h) ?_
        intro u v b h
        rcases h with h | ⟨c, hc, a1, a2, a3, a4, a5⟩
        · exact Or.inl (Or.inl h)
        · by_cases e : c = j
          · subst e; exact Or.inr ⟨a3, a4, a5⟩
          · exact Or.inl (Or.inr ⟨c, by omega, a1, a2, a3, a4, a5⟩)
      · rw [if_neg hc]
        refine rb_lv_sub h ?_
        intro u v b h
        rcases h with h | ⟨c, hcc, a1, a2, a3⟩
        · exact Or.inl h
        · by_cases e : c = j
          · subst e; exact absurd ⟨a1, a2⟩ hc
          · exact Or.inr ⟨c, by omega, a1, a2, a3⟩
  exact h2
/-- canReach says whether there are lags; they are then the greatest -/
theorem rb_can_iff (ok : rb_ok n m fr to dl hd) (p : Int) : rb_can n m fr to dl hd (rb_ms n m fr to dl hd) p = true ↔ rb_mx n dl ≤ p ∧ rb_fea n (rb_C m fr to hd (rb_ms n m fr to dl hd) p) := by
  obtain ⟨h1, h2, -⟩ := rb_rounds ok.2.1 (rb_C_ok ok p) (fun g => rb_rd_ok ok p g)
  unfold rb_can rb_rs
  constructor
  · intro h
    by_cases hp : p < rb_mx n dl
    · rw [if_pos hp] at h
      exact Bool.noConfusion h
    · rw [if_neg hp] at h
      have hf : (rb_it (rb_rk (rb_rd m fr to hd (rb_ms n m fr to dl hd) p)) 6 rb_rz).2 = false := by
        cases hq : (rb_it (rb_rk (rb_rd m fr to hd (rb_ms n m fr to dl hd) p)) 6 rb_rz).2 with
        | false => rfl
        | true => rw [hq] at h; exact Bool.noConfusion h
      have hg := h1 hf
      exact ⟨by omega, _, hg.1, hg.2.1⟩
  · intro h
    rw [if_neg (by omega), h2 h.2]
    rfl
theorem rb_can_gr (ok : rb_ok n m fr to dl hd) (p : Int) (h : rb_can n m fr to dl hd (rb_ms n m fr to dl hd) p = true) : rb_gr n (rb_C m fr to hd (rb_ms n m fr to dl hd) p) (rb_rs m fr to hd (rb_ms n m fr to dl hd) p).1 := by
  obtain ⟨h1, h2, -⟩ := rb_rounds ok.2.1 (rb_C_ok ok p) (fun g => rb_rd_ok ok p g)
  exact h1 (h2 ((rb_can_iff ok p).mp h).2)
theorem rb_rs_out (ok : rb_ok n m fr to dl hd) (p : Int) : ∀ v, n ≤ v → (rb_rs m fr to hd (rb_ms n m fr to dl hd) p).1 v = 0 := (rb_rounds ok.2.1 (rb_C_ok ok p) (fun g => rb_rd_ok ok p g)).2.2
/-- lags are legal, and no way without registers under them takes longer than p -/
def rb_leg (m : Nat) (fr to : Nat → Nat) (hd : Nat → Int) (r : Nat → Int) : Prop := ∀ i, i < m → 0 ≤ hd i + r (to i) - r (fr i)
def rb_zb (n m : Nat) (fr to : Nat → Nat) (dl hd : Nat → Int) (p : Int) (r : Nat → Int) : Prop := ∀ (k u v : Nat) (w d : Int), rb_wk n m fr to dl hd k u v w d → w + r v - r u = 0 → d ≤ p
theorem rb_ret (ok : rb_ok n m fr to dl hd) {a : Int} (ha : 0 ≤ a) (ha2 : a ≤ 252) (hf : rb_few m fr to hd a) (hs : rb_snd n (rb_ms n m fr to dl hd)) (p : Int) (r : Nat → Int) :
    (rb_sol (rb_C m fr to hd (rb_ms n m fr to dl hd) p) r ∧ rb_mx n dl ≤ p) ↔ (rb_leg m fr to hd r ∧ rb_zb n m fr to dl hd p r) := by
  have hmx := rb_mx_spec dl n
  constructor
  · rintro ⟨h1, h2⟩
    have hl : rb_leg m fr to hd r := by
      intro i hi
      have := h1 (fr i) (to i) (hd i) (Or.inl ⟨i, hi, rfl, rfl, rfl⟩)
      omega
    refine ⟨hl, ?_⟩
    intro k u v w d hw hz
    match k, hw with
    | 0, hw =>
      obtain ⟨rfl, hu, rfl, rfl⟩ := hw
      have := hmx.2.1 u hu
      omega
    | k + 1, hw =>
      have h3 := rb_E7 ok ha ha2 hf hw
      have h4 := rb_E5 ok _ _ _ _ _ hw
      have he := rb_wk_ends ok _ _ _ _ _ hw
      have h5 := ok.2.1
      obtain ⟨k2, hw2⟩ := rb_re_ms ok u v (by omega) (by omega) h3
      have h6 := rb_wk_legal r hl _ _ _ _ _ hw2
      have h7 := rb_E6 ok hs _ _ _ _ _ hw (by omega) (by omega)
      apply Classical.byContradiction
      intro hc
      have e1 : (5 * u + v) / 5 = u := by omega
      have e2 : (5 * u + v) % 5 = v := by omega
      have h8 := h1 ((5 * u + v) / 5) ((5 * u + v) % 5) _ (Or.inr ⟨5 * u + v, by omega, h3, by omega, rfl, rfl, rfl⟩)
      rw [e1, e2] at h8
      omega
  · rintro ⟨h1, h2⟩
    refine ⟨?_, ?_⟩
    · intro u v b h
      rcases h with ⟨i, hi, rfl, rfl, rfl⟩ | ⟨c, hc, h3, h4, rfl, rfl, rfl⟩
      · have := h1 i hi
        omega
      · have e : 5 * (c / 5) + c % 5 = c := by omega
        obtain ⟨k, hw⟩ := rb_re_ms ok (c / 5) (c % 5) (by omega) (by omega) (by rw [e]; exact h3)
        rw [e] at hw
        have h6 := rb_wk_legal r h1 _ _ _ _ _ hw
        apply Classical.byContradiction
        intro hcc
        have := h2 _ _ _ _ _ hw (by omega)
        omega
    · have h0 : ∀ v, v < n → dl v ≤ p := fun v hv => h2 0 v v 0 (dl v) ⟨rfl, hv, rfl, rfl⟩ (by omega)
      rcases hmx.2.2 with h | ⟨v, hv, h⟩
      · have a1 := h0 0 (by have := ok.1; omega)
        have a2 := ok.2.2.2.2 0
        omega
      · have := h0 v hv
        omega
/-- p can be reached -/
theorem rb_F (ok : rb_ok n m fr to dl hd) {a : Int} (ha : 0 ≤ a) (ha2 : a ≤ 252) (hf : rb_few m fr to hd a) (hs : rb_snd n (rb_ms n m fr to dl hd)) (p : Int) :
    rb_can n m fr to dl hd (rb_ms n m fr to dl hd) p = true ↔ ∃ r, (∀ v, v < n → r v ≤ 0) ∧ rb_leg m fr to hd r ∧ rb_zb n m fr to dl hd p r := by
  rw [rb_can_iff ok p]
  constructor
  · rintro ⟨h1, r, h2, h3⟩
    have := (rb_ret ok ha ha2 hf hs p r).mp ⟨h2, h1⟩
    exact ⟨r, h3, this.1, this.2⟩
  · rintro ⟨r, h1, h2, h3⟩
    have := (rb_ret ok ha ha2 hf hs p r).mpr ⟨h2, h3⟩
    exact ⟨this.2, r, this.1, h1⟩
theorem rb_per_spec (t : rb_S) (g : Int) : ∀ j, g ≤ rb_it (rb_pe1 t) j g ∧ (∀ c, c < j → t.1 c = 0 → t.2 c ≤ rb_it (rb_pe1 t) j g) ∧ (rb_it (rb_pe1 t) j g = g ∨ ∃ c, c < j ∧ t.1 c = 0 ∧ t.2 c = rb_it (rb_pe1 t) j g) := by
  intro j
  induction j with
  | zero => exact ⟨Int.le_refl _, fun c hc => by omega, Or.inl rfl⟩
  | succ j ih =>
    rw [rb_it_s]
    generalize rb_it (rb_pe1 t) j g = b at ih
    obtain ⟨h1, h2, h3⟩ := ih
    unfold rb_pe1
    by_cases h : t.1 j = 0 ∧ b < t.2 j
    · rw [if_pos h]
      refine ⟨by omega, fun c hc h0 => ?_, Or.inr ⟨j, by omega, h.1, rfl⟩⟩
      by_cases e : c = j
      · subst e; exact Int.le_refl _
      · have := h2 c (by omega) h0; omega
    · rw [if_neg h]
      refine ⟨h1, fun c hc h0 => ?_, ?_⟩
      · by_cases e : c = j
        · subst e; omega
        · exact h2 c (by omega) h0
      · rcases h3 with h3 | ⟨c, hc, h3⟩
        · exact Or.inl h3
        · exact Or.inr ⟨c, by omega, h3⟩
/-- the period is the longest way without registers -/
theorem rb_per_ok (ok : rb_ok n m fr to dl hd) {a : Int} (ha : 0 ≤ a) (ha2 : a ≤ 252) (hf : rb_few m fr to hd a) (hs : rb_snd n (rb_ms n m fr to dl hd)) :
    rb_zb n m fr to dl hd (rb_per n dl (rb_ms n m fr to dl hd)) (fun _ => 0) ∧ (∃ (k u v : Nat) (d : Int), rb_wk n m fr to dl hd k u v 0 d ∧ rb_per n dl (rb_ms n m fr to dl hd) ≤ d) := by
  obtain ⟨h1, h2, h3⟩ := rb_per_spec (rb_ms n m fr to dl hd) (rb_mx n dl) 25
  unfold rb_per
  refine ⟨((rb_ret ok ha ha2 hf hs _ (fun _ => 0)).mp ⟨?_, h1⟩).2, ?_⟩
  · intro u v b h
    rcases h with ⟨i, hi, rfl, rfl, rfl⟩ | ⟨c, hc, h4, h5, rfl, rfl, rfl⟩
    · have := ok.2.2.2.1 i hi
      show (0 : Int) ≤ 0 + hd i
      omega
    · have hb := rb_E1 ok c
      have h6 := h2 c hc
      show (0 : Int) ≤ 0 + ((rb_ms n m fr to dl hd).1 c - 1)
      omega
  · rcases h3 with h3 | ⟨c, hc, h4, h5⟩
    · rw [h3]
      rcases (rb_mx_spec dl n).2.2 with h | ⟨v, hv, h⟩
      · rw [h]
        exact ⟨0, 0, 0, dl 0, ⟨rfl, by have := ok.1; omega, rfl, rfl⟩, (ok.2.2.2.2 0).1⟩
      · rw [h]
        exact ⟨0, v, v, dl v, ⟨rfl, hv, rfl, rfl⟩, Int.le_refl _⟩
    · have e : 5 * (c / 5) + c % 5 = c := by omega
      obtain ⟨k, hw⟩ := rb_re_ms ok (c / 5) (c % 5) (by omega) (by omega) (by rw [e, h4]; decide)
      rw [e, h4, h5] at hw
      exact ⟨k + 1, _, _, _, hw, Int.le_refl _⟩
/-- best is the least that can be reached -/
theorem rb_best_ok (ok : rb_ok n m fr to dl hd) {a : Int} (ha : 0 ≤ a) (ha2 : a ≤ 252) (hf : rb_few m fr to hd a) (hs : rb_snd n (rb_ms n m fr to dl hd)) :
    rb_can n m fr to dl hd (rb_ms n m fr to dl hd) (rb_best n m fr to dl hd (rb_ms n m fr to dl hd)) = true ∧ ∀ p, rb_can n m fr to dl hd (rb_ms n m fr to dl hd) p = true → rb_best n m fr to dl hd (rb_ms n m fr to dl hd) ≤ p := by
  have hmx := rb_mx_spec dl n
  have hlow : ∀ p, rb_can n m fr to dl hd (rb_ms n m fr to dl hd) p = true → rb_mx n dl ≤ p := fun p h => ((rb_can_iff ok p).mp h).1
  have hper : rb_can n m fr to dl hd (rb_ms n m fr to dl hd) (rb_per n dl (rb_ms n m fr to dl hd)) = true := by
    refine (rb_F ok ha ha2 hf hs _).mpr ⟨fun _ => 0, fun _ _ => Int.le_refl 0, ?_, (rb_per_ok ok ha ha2 hf hs).1⟩
    intro i hi
    have := ok.2.2.2.1 i hi
    show (0 : Int) ≤ hd i + 0 - 0
    omega
  unfold rb_best
  by_cases hg : rb_can n m fr to dl hd (rb_ms n m fr to dl hd) (rb_mx n dl) = true
  · rw [if_pos hg]
    exact ⟨hg, hlow⟩
  · rw [if_neg hg]
    have inv : ∀ j, rb_can n m fr to dl hd (rb_ms n m fr to dl hd) (rb_it (rb_be1 n m fr to dl hd (rb_ms n m fr to dl hd)) j (rb_per n dl (rb_ms n m fr to dl hd))) = true ∧ ∀ c, c < j → (rb_ms n m fr to dl hd).1 c < 1000 → rb_can n m fr to dl hd (rb_ms n m fr to dl hd) ((rb_ms n m fr to dl hd).2 c) = true → rb_it (rb_be1 n m fr to dl hd (rb_ms n m fr to dl hd)) j (rb_per n dl (rb_ms n m fr to dl hd)) ≤ (rb_ms n m fr to dl hd).2 c := by
      intro j
      induction j with
      | zero => exact ⟨hper, fun c hc => by omega⟩
      | succ j ih =>
        rw [rb_it_s]
        generalize rb_it (rb_be1 n m fr to dl hd (rb_ms n m fr to dl hd)) j (rb_per n dl (rb_ms n m fr to dl hd)) = b at ih
        obtain ⟨i1, i2⟩ := ih
        unfold rb_be1
        by_cases h : (rb_ms n m fr to dl hd).1 j < 1000 ∧ (rb_ms n m fr to dl hd).2 j < b ∧ rb_can n m fr to dl hd (rb_ms n m fr to dl hd) ((rb_ms n m fr to dl hd).2 j) = true
        · rw [if_pos h]
          refine ⟨h.2.2, fun c hc h1 h2 => ?_⟩
          by_cases e : c = j
          · subst e; exact Int.le_refl _
          · have := i2 c (by omega) h1 h2; omega
        · rw [if_neg h]
          refine ⟨i1, fun c hc h1 h2 => ?_⟩
          by_cases e : c = j
          · subst e
            apply Classical.byContradiction
            intro hc
            exact h ⟨h1, by omega, h2⟩
          · exact i2 c (by omega) h1 h2
    obtain ⟨i1, i2⟩ := inv 25
    refine ⟨i1, fun p hp => ?_⟩
    have hp0 := hlow p hp
    obtain ⟨k, hk1, hk2⟩ := pk_least (fun k : Nat => rb_can n m fr to dl hd (rb_ms n m fr to dl hd) (rb_mx n dl + k) = true) ⟨(p - rb_mx n dl).toNat, by
      show rb_can n m fr to dl hd (rb_ms n m fr to dl hd) (rb_mx n dl + ((p - rb_mx n dl).toNat : Int)) = true
      rw [show rb_mx n dl + ((p - rb_mx n dl).toNat : Int) = p by omega]
      exact hp⟩
    have hkp : ¬ (p - rb_mx n dl).toNat < k := fun h => hk2 _ h (by
      show rb_can n m fr to dl hd (rb_ms n m fr to dl hd) (rb_mx n dl + ((p - rb_mx n dl).toNat : Int)) = true
      rw [show rb_mx n dl + ((p - rb_mx n dl).toNat : Int) = p by omega]
      exact hp)
    have hk0 : k ≠ 0 := by
      intro e
      subst e
      apply hg
      have hk1 : rb_can n m fr to dl hd (rb_ms n m fr to dl hd) (rb_mx n dl + ((0 : Nat) : Int)) = true := hk1
      rw [show rb_mx n dl + ((0 : Nat) : Int) = rb_mx n dl by omega] at hk1
      exact hk1
    have hk3 : ¬ rb_can n m fr to dl hd (rb_ms n m fr to dl hd) (rb_mx n dl + ((k - 1 : Nat) : Int)) = true := hk2 (k - 1) (by omega)
    have hk1 : rb_can n m fr to dl hd (rb_ms n m fr to dl hd) (rb_mx n dl + (k : Int)) = true := hk1
    obtain ⟨-, r, hr1, hr2⟩ := (rb_can_iff ok _).mp hk1
    apply Classical.byContradiction
    intro hc
    apply hk3
    refine (rb_can_iff ok _).mpr ⟨by omega, r, ?_, hr2⟩
    intro u v b h
    rcases h with h | ⟨c, hcc, h4, h5, h6, h7, h8⟩
    · exact hr1 u v b (Or.inl h)
    · by_cases h9 : rb_mx n dl + (k : Int) < (rb_ms n m fr to dl hd).2 c
      · exact hr1 u v b (Or.inr ⟨c, hcc, h4, h9, h6, h7, h8⟩)
      · have e : (rb_ms n m fr to dl hd).2 c = rb_mx n dl + (k : Int) := by omega
        have := i2 c hcc h4 (by rw [e]; exact hk1)
        omega
end RBH
end
section
/-! PURE 6: the reference's answers: sound, longest, find, fewest -/
def rb_un (fr to : Nat → Nat) (hd lg : Nat → Int) (i : Nat) : Int := hd i + lg (to i) - lg (fr i)
def rb_l1 (fr to : Nat → Nat) (dl hd lg : Nat → Int) (i : Nat) (len : Nat → Int) : Nat → Int := if rb_un fr to hd lg i = 0 ∧ len (to i) < len (fr i) + dl (to i) then rb_up len (to i) (len (fr i) + dl (to i)) else len
def rb_l2 (m : Nat) (fr to : Nat → Nat) (dl hd lg : Nat → Int) (_ : Nat) (len : Nat → Int) : Nat → Int := rb_it (rb_l1 fr to dl hd lg) m len
def rb_pre (n : Nat) (f g : Nat → Int) : Nat → Int := fun j => if j < n then f j else g j
def rb_ln (n m : Nat) (fr to : Nat → Nat) (dl hd lg len0 : Nat → Int) : Nat → Int := rb_it (rb_l2 m fr to dl hd lg) 5 (rb_pre n dl len0)
def rb_ml (n m : Nat) (fr to : Nat → Nat) (dl hd lg len0 : Nat → Int) : Int := rb_mx n (rb_ln n m fr to dl hd lg len0)
def rb_q1 (fr to : Nat → Nat) (hd : Nat → Int) (i : Nat) (len : Nat → Int) : Nat → Int := if hd i = 0 ∧ len (to i) ≤ len (fr i) then rb_up len (to i) (len (fr i) + 1) else len
def rb_q2 (m : Nat) (fr to : Nat → Nat) (hd : Nat → Int) (_ : Nat) (len : Nat → Int) : Nat → Int := rb_it (rb_q1 fr to hd) m len
def rb_qs (n m : Nat) (fr to : Nat → Nat) (hd len0 : Nat → Int) : Nat → Int := rb_it (rb_q2 m fr to hd) 6 (rb_pre n (fun _ => 0) len0)
section RBM
variable {n m : Nat} {fr to : Nat → Nat} {dl hd : Nat → Int}
/-- zero walks under lags, of one wire or more -/
def rb_Z (n m : Nat) (fr to : Nat → Nat) (dl hd lg : Nat → Int) (u v : Nat) : Prop := ∃ (k : Nat) (w d : Int), rb_wk n m fr to dl hd (k + 1) u v w d ∧ w + lg v - lg u = 0
theorem rb_Z_irr (ok : rb_ok n m fr to dl hd) (hs : rb_snd n (rb_ms n m fr to dl hd)) (lg : Nat → Int) (v : Nat) : ¬ rb_Z n m fr to dl hd lg v v := by
  rintro ⟨k, w, d, hw, hz⟩
  have h1 := rb_E5 ok _ _ _ _ _ hw
  have he := rb_wk_ends ok _ _ _ _ _ hw
  have hb := rb_E1 ok (5 * v + v)
  have h2 := hs v he.1
  rw [show 6 * v = 5 * v + v by omega] at h2
  omega
/-- in a sound circuit a way without registers has fewer wires than there are blocks -/
theorem rb_Z_len (ok : rb_ok n m fr to dl hd) (hs : rb_snd n (rb_ms n m fr to dl hd)) {lg : Nat → Int} (hl : rb_leg m fr to hd lg) : ∀ (k u v : Nat) (w d : Int), rb_wk n m fr to dl hd k u v w d → w + lg v - lg u = 0 → k < n := by
  have key : ∀ (k u v : Nat) (w d : Int), rb_wk n m fr to dl hd k u v w d → w + lg v - lg u = 0 → k ≤ rb_cnt (fun y => rb_Z n m fr to dl hd lg y v) n := by
    intro k
    induction k with
    | zero => intro u v w d _ _; exact Nat.zero_le _
    | succ k ih =>
      intro u v w d hw hz
      obtain ⟨i, w', d', hi, hw', rfl, rfl, rfl⟩ := hw
      have h1 := rb_wk_legal lg hl _ _ _ _ _ hw'
      have h2 := hl i hi
      have h3 := ih u (fr i) w' d' hw' (by omega)
      have h4 := rb_cnt_lt (P := fun y => rb_Z n m fr to dl hd lg y (fr i)) (Q := fun y => rb_Z n m fr to dl hd lg y (to i)) n (fun y _ hy => by
        obtain ⟨k1, w1, d1, a1, a2⟩ := hy
        exact ⟨k1 + 1, w1 + hd i, d1 + dl (to i), ⟨i, w1, d1, hi, a1, rfl, rfl, rfl⟩, by omega⟩) ⟨fr i, (ok.2.2.2.1 i hi).1, ⟨0, hd i, dl (fr i) + dl (to i), rb_wk_one ok hi, by omega⟩, rb_Z_irr ok hs lg (fr i)⟩
      omega
  intro k u v w d hw hz
  have h1 := key k u v w d hw hz
  have he := rb_wk_ends ok _ _ _ _ _ hw
  have h2 := rb_cnt_lt (P := fun y => rb_Z n m fr to dl hd lg y v) (Q := fun _ => True) n (fun _ _ _ => trivial) ⟨v, he.2.1, trivial, rb_Z_irr ok hs lg v⟩
  have h3 := rb_cnt_le (fun _ => True) n
  omega
theorem rb_l1_ge (lg : Nat → Int) (i : Nat) (len : Nat → Int) (v : Nat) : len v ≤ rb_l1 fr to dl hd lg i len v := by
  unfold rb_l1
  split
  · rename_i h
    by_cases e : v = to i
    · subst e; rw [rb_up_s]; omega
    · rw [rb_up_n e]; exact Int.le_refl _
  · exact Int.le_refl _
theorem rb_l1s_ge (lg : Nat → Int) (len : Nat → Int) (v : Nat) : ∀ j, len v ≤ rb_it (rb_l1 fr to dl hd lg) j len v := by
  intro j
  induction j with
  | zero => exact Int.le_refl _
  | succ j ih =>
    rw [rb_it_s]
    have := rb_l1_ge (fr := fr) (to := to) (dl := dl) (hd := hd) lg j (rb_it (rb_l1 fr to dl hd lg) j len) v
    omega
theorem rb_l1s_edge (lg : Nat → Int) (len : Nat → Int) {i : Nat} (hz : rb_un fr to hd lg i = 0) : ∀ j, i < j → len (fr i) + dl (to i) ≤ rb_it (rb_l1 fr to dl hd lg) j len (to i) := by
  intro j
  induction j with
  | zero => intro h; omega
  | succ j ih =>
    intro h
    rw [rb_it_s]
    by_cases e : i = j
    · subst e
      have h1 := rb_l1s_ge (fr := fr) (to := to) (dl := dl) (hd := hd) lg len (fr i) i
      generalize rb_it (rb_l1 fr to dl hd lg) i len = t at h1
      unfold rb_l1
      by_cases hc : rb_un fr to hd lg i = 0 ∧ t (to i) < t (fr i) + dl (to i)
      · rw [if_pos hc, rb_up_s]; omega
      · rw [if_neg hc]; omega
    · have h1 := ih (by omega)
      have h2 := rb_l1_ge (fr := fr) (to := to) (dl := dl) (hd := hd) lg j (rb_it (rb_l1 fr to dl hd lg) j len) (to i)
      omega
/-- lengths are worths of ways -/
def rb_lre (n m : Nat) (fr to : Nat → Nat) (dl hd lg len : Nat → Int) : Prop := ∀ v, v < n → ∃ (k u : Nat) (w : Int), rb_wk n m fr to dl hd k u v w (len v) ∧ w + lg v - lg u = 0
theorem rb_l1_re {lg len : Nat → Int} {i : Nat} (ok : rb_ok n m fr to dl hd) (hi : i < m) (h : rb_lre n m fr to dl hd lg len) : rb_lre n m fr to dl hd lg (rb_l1 fr to dl hd lg i len) := by
  unfold rb_l1
  by_cases hc : rb_un fr to hd lg i = 0 ∧ len (to i) < len (fr i) + dl (to i)
  · rw [if_pos hc]
    intro v hv
    by_cases e : v = to i
    · subst e
      rw [rb_up_s]
      obtain ⟨k, u, w, h1, h2⟩ := h (fr i) (ok.2.2.2.1 i hi).1
      have h3 := hc.1
      unfold rb_un at h3
      exact ⟨k + 1, u, w + hd i, ⟨i, w, len (fr i), hi, h1, rfl, rfl, rfl⟩, by omega⟩
    · rw [rb_up_n e]; exact h v hv
  · rw [if_neg hc]; exact h
theorem rb_ln_re (ok : rb_ok n m fr to dl hd) (lg len0 : Nat → Int) : ∀ t, rb_lre n m fr to dl hd lg (rb_it (rb_l2 m fr to dl hd lg) t (rb_pre n dl len0)) := by
  refine rb_it_inv (f := rb_l2 m fr to dl hd lg) (fun _ s => rb_lre n m fr to dl hd lg s) ?_ ?_
  · intro v hv
    refine ⟨0, v, 0, ⟨rfl, hv, rfl, ?_⟩, by omega⟩
    unfold rb_pre
    rw [if_pos hv]
  · intro _ s h
    exact rb_it_invl (f := rb_l1 fr to dl hd lg) m (fun _ s => rb_lre n m fr to dl hd lg s) h (fun i s hi h => rb_l1_re ok hi h) m (Nat.le_refl m)
theorem rb_ln_up {lg : Nat → Int} (hl : rb_leg m fr to hd lg) (len0 : Nat → Int) : ∀ t k u v w d, k ≤ t → rb_wk n m fr to dl hd k u v w d → w + lg v - lg u = 0 → d ≤ rb_it (rb_l2 m fr to dl hd lg) t (rb_pre n dl len0) v := by
  intro t
  induction t with
  | zero =>
    intro k u v w d hk hw hz
    have e : k = 0 := by omega
    subst e
    obtain ⟨rfl, hu, rfl, rfl⟩ := hw
    show dl u ≤ rb_pre n dl len0 u
    unfold rb_pre
    rw [if_pos hu]
    exact Int.le_refl _
  | succ t ih =>
    intro k u v w d hk hw hz
    rw [rb_it_s]
    generalize rb_it (rb_l2 m fr to dl hd lg) t (rb_pre n dl len0) = s at ih
    unfold rb_l2
    by_cases hkt : k ≤ t
    · have h1 := ih k u v w d hkt hw hz
      have h2 := rb_l1s_ge (fr := fr) (to := to) (dl := dl) (hd := hd) lg s v m
      omega
    · match k, hw with
      | 0, _ => omega
      | k + 1, hw =>
        obtain ⟨i, w', d', hi, hw', rfl, rfl, rfl⟩ := hw
        have h1 := rb_wk_legal lg hl _ _ _ _ _ hw'
        have h2 := hl i hi
        have h3 := ih k u (fr i) w' d' (by omega) hw' (by omega)
        have h4 := rb_l1s_edge (fr := fr) (to := to) (dl := dl) (hd := hd) lg s (i := i) (by unfold rb_un; omega) m hi
        omega
/-- longest under legal lags: the greatest delay of a way without registers -/
theorem rb_ml_ok (ok : rb_ok n m fr to dl hd) (hs : rb_snd n (rb_ms n m fr to dl hd)) {lg : Nat → Int} (hl : rb_leg m fr to hd lg) (len0 : Nat → Int) :
    rb_zb n m fr to dl hd (rb_ml n m fr to dl hd lg len0) lg ∧ ∀ p, rb_zb n m fr to dl hd p lg → rb_ml n m fr to dl hd lg len0 ≤ p := by
  have hm := rb_mx_spec (rb_ln n m fr to dl hd lg len0) n
  unfold rb_ml
  refine ⟨?_, ?_⟩
  · intro k u v w d hw hz
    have h1 := rb_Z_len ok hs hl _ _ _ _ _ hw hz
    have h5 := ok.2.1
    have h2 := rb_ln_up hl len0 5 k u v w d (by omega) hw hz
    have h3 := hm.2.1 v (rb_wk_ends ok _ _ _ _ _ hw).2.1
    unfold rb_ln at h3 ⊢
    omega
  · intro p hp
    rcases hm.2.2 with h | ⟨v, hv, h⟩
    · rw [h]
      have h1 := hp 0 0 0 0 (dl 0) ⟨rfl, by have := ok.1; omega, rfl, rfl⟩ (by omega)
      have h2 := ok.2.2.2.2 0
      omega
    · rw [h]
      obtain ⟨k, u, w, h1, h2⟩ := rb_ln_re ok lg len0 5 v hv
      exact hp _ _ _ _ _ h1 h2
/-- period: both sides -/
theorem rb_period_eq (ok : rb_ok n m fr to dl hd) {a : Int} (ha : 0 ≤ a) (ha2 : a ≤ 252) (hf : rb_few m fr to hd a) (hs : rb_snd n (rb_ms n m fr to dl hd)) (len0 : Nat → Int) : rb_per n dl (rb_ms n m fr to dl hd) = rb_ml n m fr to dl hd (fun _ => 0) len0 := by
  have hl : rb_leg m fr to hd (fun _ => 0) := by
    intro i hi
    have := ok.2.2.2.1 i hi
    show (0 : Int) ≤ hd i + 0 - 0
    omega
  obtain ⟨h1, k, u, v, d, hw, hd'⟩ := rb_per_ok ok ha ha2 hf hs
  obtain ⟨h2, h3⟩ := rb_ml_ok ok hs hl len0
  have h4 := h3 _ h1
  have h5 := h2 k u v 0 d hw (by show (0 : Int) + 0 - 0 = 0; omega)
  omega
/-! sound -/
theorem rb_q1_ge (i : Nat) (len : Nat → Int) (v : Nat) : len v ≤ rb_q1 fr to hd i len v := by
  unfold rb_q1
  split
  · by_cases e : v = to i
    · subst e; rw [rb_up_s]; omega
    · rw [rb_up_n e]; exact Int.le_refl _
  · exact Int.le_refl _
theorem rb_q1s_ge (len : Nat → Int) (v : Nat) : ∀ j, len v ≤ rb_it (rb_q1 fr to hd) j len v := by
  intro j
  induction j with
  | zero => exact Int.le_refl _
  | succ j ih =>
    rw [rb_it_s]
    have := rb_q1_ge (fr := fr) (to := to) (hd := hd) j (rb_it (rb_q1 fr to hd) j len) v
    omega
theorem rb_q1s_edge (len : Nat → Int) {i : Nat} (hz : hd i = 0) : ∀ j, i < j → len (fr i) + 1 ≤ rb_it (rb_q1 fr to hd) j len (to i) := by
  intro j
  induction j with
  | zero => intro h; omega
  | succ j ih =>
    intro h
    rw [rb_it_s]
    by_cases e : i = j
    · subst e
      have h1 := rb_q1s_ge (fr := fr) (to := to) (hd := hd) len (fr i) i
      generalize rb_it (rb_q1 fr to hd) i len = t at h1
      unfold rb_q1
      by_cases hc : hd i = 0 ∧ t (to i) ≤ t (fr i)
      · rw [if_pos hc, rb_up_s]; omega
      · rw [if_neg hc]; omega
    · have h1 := ih (by omega)
      have h2 := rb_q1_ge (fr := fr) (to := to) (hd := hd) j (rb_it (rb_q1 fr to hd) j len) (to i)
      omega
def rb_qre (n m : Nat) (fr to : Nat → Nat) (dl hd len : Nat → Int) : Prop := ∀ v, v < n → ∃ (k u : Nat) (d : Int), rb_wk n m fr to dl hd k u v 0 d ∧ len v = k
theorem rb_q1_re {len : Nat → Int} {i : Nat} (ok : rb_ok n m fr to dl hd) (hi : i < m) (h : rb_qre n m fr to dl hd len) : rb_qre n m fr to dl hd (rb_q1 fr to hd i len) := by
  unfold rb_q1
  by_cases hc : hd i = 0 ∧ len (to i) ≤ len (fr i)
  · rw [if_pos hc]
    intro v hv
    by_cases e : v = to i
    · subst e
      rw [rb_up_s]
      obtain ⟨k, u, d, h1, h2⟩ := h (fr i) (ok.2.2.2.1 i hi).1
      refine ⟨k + 1, u, d + dl (to i), ⟨i, 0, d, hi, h1, rfl, by omega, rfl⟩, ?_⟩
      rw [h2]
      omega
    · rw [rb_up_n e]; exact h v hv
  · rw [if_neg hc]; exact h
theorem rb_qs_re (ok : rb_ok n m fr to dl hd) (len0 : Nat → Int) : ∀ t, rb_qre n m fr to dl hd (rb_it (rb_q2 m fr to hd) t (rb_pre n (fun _ => 0) len0)) := by
  refine rb_it_inv (f := rb_q2 m fr to hd) (fun _ s => rb_qre n m fr to dl hd s) ?_ ?_
  · intro v hv
    refine ⟨0, v, dl v, ⟨rfl, hv, rfl, rfl⟩, ?_⟩
    unfold rb_pre
    rw [if_pos hv]
    rfl
  · intro _ s h
    exact rb_it_invl (f := rb_q1 fr to hd) m (fun _ s => rb_qre n m fr to dl hd s) h (fun i s hi h => rb_q1_re ok hi h) m (Nat.le_refl m)
/-- a block on a circle without registers has one before it -/
theorem rb_circ (ok : rb_ok n m fr to dl hd) {v : Nat} (hv : v < n) (h : (rb_ms n m fr to dl hd).1 (5 * v + v) = 0) : ∃ i, i < m ∧ to i = v ∧ hd i = 0 ∧ (rb_ms n m fr to dl hd).1 (5 * fr i + fr i) = 0 := by
  have h5 := ok.2.1
  obtain ⟨k, hw⟩ := rb_re_ms ok v v (by omega) (by omega) (by rw [h]; decide)
  rw [h] at hw
  obtain ⟨i, w', d', hi, hw', e1, e2, -⟩ := hw
  have he := rb_wk_ends ok _ _ _ _ _ hw'
  have ho := ok.2.2.2.1 i hi
  refine ⟨i, hi, e1, by omega, ?_⟩
  have hb := rb_E1 ok (5 * fr i + fr i)
  have h1 := rb_wk_one ok hi
  have h2 := rb_wk_app k 1 (fr i) (to i) (fr i) (hd i) (dl (fr i) + dl (to i)) w' d' h1 (by rw [e1]; exact hw')
  rw [show 1 + k = k + 1 by omega] at h2
  have h3 := rb_E5 ok _ _ _ _ _ h2
  omega
theorem rb_qs_circ (ok : rb_ok n m fr to dl hd) (len0 : Nat → Int) : ∀ (t v : Nat), v < n → (rb_ms n m fr to dl hd).1 (5 * v + v) = 0 → (t : Int) ≤ rb_it (rb_q2 m fr to hd) t (rb_pre n (fun _ => 0) len0) v := by
  intro t
  induction t with
  | zero =>
    intro v hv _
    show (0 : Int) ≤ rb_pre n (fun _ => 0) len0 v
    unfold rb_pre
    rw [if_pos hv]
    exact Int.le_refl 0
  | succ t ih =>
    intro v hv h
    rw [rb_it_s]
    obtain ⟨i, hi, e1, e2, h2⟩ := rb_circ ok hv h
    have h3 := ih (fr i) (ok.2.2.2.1 i hi).1 h2
    generalize rb_it (rb_q2 m fr to hd) t (rb_pre n (fun _ => 0) len0) = s at h3
    unfold rb_q2
    have h4 := rb_q1s_edge (fr := fr) (to := to) (hd := hd) s e2 m hi
    rw [e1] at h4
    omega
theorem rb_sound_eq (ok : rb_ok n m fr to dl hd) (len0 : Nat → Int) : rb_snd n (rb_ms n m fr to dl hd) ↔ ∀ v, v < n → rb_qs n m fr to hd len0 v < n := by
  constructor
  · intro hs v hv
    obtain ⟨k, u, d, h1, h2⟩ := rb_qs_re ok len0 6 v hv
    have hl : rb_leg m fr to hd (fun _ => 0) := by
      intro i hi
      have := ok.2.2.2.1 i hi
      show (0 : Int) ≤ hd i + 0 - 0
      omega
    have h3 := rb_Z_len ok hs hl _ _ _ _ _ h1 (by show (0 : Int) + 0 - 0 = 0; omega)
    unfold rb_qs
    rw [h2]
    omega
  · intro h v hv hc
    rw [show 6 * v = 5 * v + v by omega] at hc
    have h1 := rb_qs_circ ok len0 6 v hv hc
    have h2 := h v hv
    unfold rb_qs at h2
    have := ok.2.1
    omega
/-! fewest -/
def rb_f1 (fr to : Nat → Nat) (hd : Nat → Int) (u i : Nat) (rc : Nat → Int) : Nat → Int := if 0 ≤ (if fr i = u then 0 else rc (fr i)) ∧ (rc (to i) < 0 ∨ (if fr i = u then 0 else rc (fr i)) + hd i < rc (to i)) then rb_up rc (to i) ((if fr i = u then 0 else rc (fr i)) + hd i) else rc
def rb_f2 (m : Nat) (fr to : Nat → Nat) (hd : Nat → Int) (u : Nat) (_ : Nat) (rc : Nat → Int) : Nat → Int := rb_it (rb_f1 fr to hd u) m rc
def rb_fs (m : Nat) (fr to : Nat → Nat) (hd : Nat → Int) (u : Nat) (rc0 : Nat → Int) : Nat → Int := rb_it (rb_f2 m fr to hd u) 6 (rb_pre 5 (fun _ => -1) rc0)
def rb_fre (n m : Nat) (fr to : Nat → Nat) (dl hd : Nat → Int) (u : Nat) (rc : Nat → Int) : Prop := ∀ v, v < n → 0 ≤ rc v → ∃ (k : Nat) (d : Int), rb_wk n m fr to dl hd (k + 1) u v (rc v) d
theorem rb_f1_re {rc : Nat → Int} {i u : Nat} (ok : rb_ok n m fr to dl hd) (hu : u < n) (hi : i < m) (h : rb_fre n m fr to dl hd u rc) : rb_fre n m fr to dl hd u (rb_f1 fr to hd u i rc) := by
  unfold rb_f1
  generalize hw : (if fr i = u then 0 else rc (fr i)) = way
  have hway : 0 ≤ way → ∃ (k : Nat) (d : Int), rb_wk n m fr to dl hd k u (fr i) way d := by
    intro h0
    by_cases e : fr i = u
    · rw [if_pos e] at hw
      subst hw
      exact ⟨0, dl u, e.symm, hu, rfl, rfl⟩
    · rw [if_neg e] at hw
      subst hw
      obtain ⟨k, d, h1⟩ := h (fr i) (ok.2.2.2.1 i hi).1 h0
      exact ⟨k + 1, d, h1⟩
  by_cases hc : 0 ≤ way ∧ (rc (to i) < 0 ∨ way + hd i < rc (to i))
  · rw [if_pos hc]
    intro v hv h0
    by_cases e : v = to i
    · subst e
      rw [rb_up_s] at h0 ⊢
      obtain ⟨k, d, h1⟩ := hway hc.1
      exact ⟨k, d + dl (to i), i, way, d, hi, h1, rfl, rfl, rfl⟩
    · rw [rb_up_n e] at h0 ⊢
      exact h v hv h0
  · rw [if_neg hc]; exact h
theorem rb_fs_re (ok : rb_ok n m fr to dl hd) {u : Nat} (hu : u < n) (rc0 : Nat → Int) : ∀ t, rb_fre n m fr to dl hd u (rb_it (rb_f2 m fr to hd u) t (rb_pre 5 (fun _ => -1) rc0)) := by
  refine rb_it_inv (f := rb_f2 m fr to hd u) (fun _ s => rb_fre n m fr to dl hd u s) ?_ ?_
  · intro v hv h0
    have h5 := ok.2.1
    unfold rb_pre at h0
    rw [if_pos (by omega)] at h0
    exact absurd (show (0 : Int) ≤ -1 from h0) (by decide)
  · intro _ s h
    exact rb_it_invl (f := rb_f1 fr to hd u) m (fun _ s => rb_fre n m fr to dl hd u s) h (fun i s hi h => rb_f1_re ok hu hi h) m (Nat.le_refl m)
/-- a value of rc at v that is no worse than x -/
def rb_nw (rc : Nat → Int) (v : Nat) (x : Int) : Prop := 0 ≤ rc v ∧ rc v ≤ x
theorem rb_f1_nw {rc : Nat → Int} {u i v : Nat} {x : Int} (hh : 0 ≤ hd i) (h : rb_nw rc v x) : rb_nw (rb_f1 fr to hd u i rc) v x := by
  unfold rb_f1
  generalize (if fr i = u then 0 else rc (fr i)) = way
  by_cases hc : 0 ≤ way ∧ (rc (to i) < 0 ∨ way + hd i < rc (to i))
  · rw [if_pos hc]
    unfold rb_nw at *
    by_cases e : v = to i
    · subst e
      rw [rb_up_s]
      omega
    · rw [rb_up_n e]; exact h
  · rw [if_neg hc]; exact h
theorem rb_f1s_nw (ok : rb_ok n m fr to dl hd) {rc : Nat → Int} {u v : Nat} {x : Int} (h : rb_nw rc v x) : ∀ j, j ≤ m → rb_nw (rb_it (rb_f1 fr to hd u) j rc) v x := by
  intro j
  induction j with
  | zero => intro _; exact h
  | succ j ih =>
    intro hj
    rw [rb_it_s]
    exact rb_f1_nw (ok.2.2.2.1 j (by omega)).2.2 (ih (by omega))
theorem rb_f1s_edge (ok : rb_ok n m fr to dl hd) {rc : Nat → Int} {u i : Nat} {x : Int} (hx : (fr i = u ∧ 0 ≤ x) ∨ rb_nw rc (fr i) x) : ∀ j, i < j → j ≤ m → rb_nw (rb_it (rb_f1 fr to hd u) j rc) (to i) (x + hd i) := by
  intro j
  induction j with
  | zero => intro h; omega
  | succ j ih =>
    intro h hj
    rw [rb_it_s]
    by_cases e : i = j
    · subst e
      have ho := ok.2.2.2.1 i (by omega)
      have h1 : (fr i = u ∧ 0 ≤ x) ∨ rb_nw (rb_it (rb_f1 fr to hd u) i rc) (fr i) x := by
        rcases hx with hx | hx
        · exact Or.inl hx
        · exact Or.inr (rb_f1s_nw ok hx i (by omega))
      generalize rb_it (rb_f1 fr to hd u) i rc = t at h1
      unfold rb_f1
      generalize hw : (if fr i = u then 0 else t (fr i)) = way
      have hway : 0 ≤ way ∧ way ≤ x := by
        by_cases e : fr i = u
        · rw [if_pos e] at hw
          rcases h1 with h1 | h1
          · omega
          · unfold rb_nw at h1; omega
        · rw [if_neg e] at hw
          rcases h1 with h1 | h1
          · exact absurd h1.1 e
          · unfold rb_nw at h1; omega
      unfold rb_nw
      by_cases hc : 0 ≤ way ∧ (t (to i) < 0 ∨ way + hd i < t (to i))
      · rw [if_pos hc, rb_up_s]; omega
      · rw [if_neg hc]; omega
    · exact rb_f1_nw (ok.2.2.2.1 j (by omega)).2.2 (ih (by omega) (by omega))
theorem rb_fewest_eq (ok : rb_ok n m fr to dl hd) {a : Int} (ha : 0 ≤ a) (ha2 : a ≤ 252) (hf : rb_few m fr to hd a) {u v : Nat} (hu : u < n) (hv : v < n) (rc0 : Nat → Int) :
    (if 1000 ≤ (rb_ms n m fr to dl hd).1 (5 * u + v) then (-2 : Int) else (rb_ms n m fr to dl hd).1 (5 * u + v)) = if rb_fs m fr to hd u rc0 v < 0 then (-2 : Int) else rb_fs m fr to hd u rc0 v := by
  have h5 := ok.2.1
  have hre := rb_fs_re ok hu rc0 6
  have g := rb_grow n 0 (fun t y => rb_nw (rb_it (rb_f2 m fr to hd u) t (rb_pre 5 (fun _ => -1) rc0)) y ((rb_ms n m fr to dl hd).1 (5 * u + y))) (fun y => (rb_ms n m fr to dl hd).1 (5 * u + y) < 1000) (Nat.zero_le _)
    (fun t y _ h => by
      show rb_nw (rb_it (rb_f2 m fr to hd u) (t + 1) _) y _
      rw [rb_it_s]
      exact rb_f1s_nw ok h m (Nat.le_refl m)) (fun t hx => by
      obtain ⟨y, hy, hq, hno⟩ := hx
      show ∃ v, v < n ∧ rb_nw (rb_it (rb_f2 m fr to hd u) (t + 1) (rb_pre 5 (fun _ => -1) rc0)) v _ ∧ ¬ rb_nw (rb_it (rb_f2 m fr to hd u) t (rb_pre 5 (fun _ => -1) rc0)) v _
      rw [rb_it_s]
      have hno : ¬ rb_nw (rb_it (rb_f2 m fr to hd u) t (rb_pre 5 (fun _ => -1) rc0)) y ((rb_ms n m fr to dl hd).1 (5 * u + y)) := hno
      generalize rb_it (rb_f2 m fr to hd u) t (rb_pre 5 (fun _ => -1) rc0) = s at hno
      unfold rb_f2
      obtain ⟨k, hw⟩ := rb_re_ms ok u y (by omega) (by omega) hq
      have key : ∀ (k y : Nat) (w d : Int), rb_wk n m fr to dl hd (k + 1) u y w d → w = (rb_ms n m fr to dl hd).1 (5 * u + y) → w < 1000 → ¬ rb_nw s y ((rb_ms n m fr to dl hd).1 (5 * u + y)) → ∃ v, v < n ∧ rb_nw (rb_it (rb_f1 fr to hd u) m s) v ((rb_ms n m fr to dl hd).1 (5 * u + v)) ∧ ¬ rb_nw s v ((rb_ms n m fr to dl hd).1 (5 * u + v)) := by
        intro k
        induction k with
        | zero =>
          intro y w d hw e _ hno
          obtain ⟨i, w', d', hi, ⟨e1, -, e2, -⟩, e3, e4, -⟩ := hw
          have h1 := rb_f1s_edge (n := n) (dl := dl) ok (rc := s) (u := u) (i := i) (x := 0) (Or.inl ⟨e1.symm, Int.le_refl 0⟩) m hi (Nat.le_refl m)
          refine ⟨y, by rw [← e3]; exact (ok.2.2.2.1 i hi).2.1, ?_, hno⟩
          rw [← e, e4, e2, ← e3]
          exact h1
        | succ k ih =>
          intro y w d hw e hlt hno
          obtain ⟨i, w', d', hi, hw', e3, e4, -⟩ := hw
          have he := rb_wk_ends ok _ _ _ _ _ hw'
          have ho := ok.2.2.2.1 i hi
          have a1 := rb_E5 ok _ _ _ _ _ hw'
          have a2 := rb_E2 (n := n) (m := m) (fr := fr) (to := to) (dl := dl) (hd := hd) hi
          have a3 := rb_E3 ok (j := fr i) (u := u) (v := to i) he.2.1 (by omega) (by omega)
          subst e3
          unfold rb_lx at a2
          have e5 : w' = (rb_ms n m fr to dl hd).1 (5 * u + fr i) := by omega
          by_cases hx : rb_nw s (fr i) ((rb_ms n m fr to dl hd).1 (5 * u + fr i))
          · have h1 := rb_f1s_edge (n := n) (dl := dl) ok (rc := s) (u := u) (i := i) (Or.inr hx) m hi (Nat.le_refl m)
            refine ⟨to i, ho.2.1, ?_, hno⟩
            rw [← e, e4, e5]
            exact h1
          · exact ih (fr i) w' d' hw' e5 (by omega) hx
      exact key k y _ _ hw rfl hq hno)
  have h6 := g 6 (by omega) v hv
  have h6 : (rb_ms n m fr to dl hd).1 (5 * u + v) < 1000 → rb_nw (rb_fs m fr to hd u rc0) v ((rb_ms n m fr to dl hd).1 (5 * u + v)) := h6
  have h7 := hre v hv
  have h7 : 0 ≤ rb_fs m fr to hd u rc0 v → ∃ (k : Nat) (d : Int), rb_wk n m fr to dl hd (k + 1) u v (rb_fs m fr to hd u rc0 v) d := h7
  by_cases hc : 1000 ≤ (rb_ms n m fr to dl hd).1 (5 * u + v)
  · rw [if_pos hc]
    by_cases h8 : rb_fs m fr to hd u rc0 v < 0
    · rw [if_pos h8]
    · obtain ⟨k, d, hw⟩ := h7 (by omega)
      have := rb_E7 ok ha ha2 hf hw
      omega
  · rw [if_neg hc]
    have h8 := h6 (by omega)
    unfold rb_nw at h8
    rw [if_neg (by omega)]
    obtain ⟨k, d, hw⟩ := h7 (by omega)
    have := rb_E5 ok _ _ _ _ _ hw
    omega
end RBM
end
section
/-! PURE 7: the reference's search over all plans; what apply, wire, cut, delay keep -/
def rb_cd (n code : Nat) (v : Nat) : Int := if v < n then -((code / 5 ^ v % 5 : Nat) : Int) else 0
def rb_lg1 (fr to : Nat → Nat) (hd lg : Nat → Int) (i : Nat) (b : Bool) : Bool := b && decide (0 ≤ rb_un fr to hd lg i)
def rb_lgb (m : Nat) (fr to : Nat → Nat) (hd lg : Nat → Int) : Bool := rb_it (rb_lg1 fr to hd lg) m true
theorem rb_lgb_iff {fr to : Nat → Nat} {hd lg : Nat → Int} : ∀ m, rb_lgb m fr to hd lg = true ↔ rb_leg m fr to hd lg := by
  intro m
  unfold rb_lgb
  induction m with
  | zero => exact ⟨fun _ i hi => by omega, fun _ => rfl⟩
  | succ m ih =>
    rw [rb_it_s]
    unfold rb_lg1
    constructor
    · intro h
      obtain ⟨h1, h2⟩ := (Bool.and_eq_true _ _).mp h
      have h2 := of_decide_eq_true h2
      have h3 := ih.mp h1
      intro i hi
      by_cases e : i = m
      · subst e; exact h2
      · exact h3 i (by omega)
    · intro h
      exact (Bool.and_eq_true _ _).mpr ⟨ih.mpr (fun i hi => h i (by omega)), decide_eq_true (h m (by omega))⟩
abbrev rb_P : Type := Int × (Nat → Int)
def rb_fd1 (n m : Nat) (fr to : Nat → Nat) (dl hd : Nat → Int) (code : Nat) (s : rb_P) : rb_P :=
  if rb_lgb m fr to hd (rb_cd n code) = true then
    (if rb_ml n m fr to dl hd (rb_cd n code) (fun _ => 0) < s.1 then rb_ml n m fr to dl hd (rb_cd n code) (fun _ => 0) else s.1,
     fun v => if v < n ∧ (rb_ml n m fr to dl hd (rb_cd n code) (fun _ => 0) < s.1 ∨ (rb_ml n m fr to dl hd (rb_cd n code) (fun _ => 0) = s.1 ∧ s.2 v < rb_cd n code v)) then rb_cd n code v else s.2 v)
  else s
def rb_fd (n m : Nat) (fr to : Nat → Nat) (dl hd plan0 : Nat → Int) (j : Nat) : rb_P := rb_it (rb_fd1 n m fr to dl hd) j (100, plan0)
theorem rb_cd_in (n code v : Nat) : -4 ≤ rb_cd n code v ∧ rb_cd n code v ≤ 0 := by
  unfold rb_cd
  split <;> omega
theorem rb_code (g : Nat → Nat) : ∀ n, (∀ v, v < n → g v ≤ 4) → ∃ c, c < 5 ^ n ∧ ∀ v, v < n → c / 5 ^ v % 5 = g v := by
  intro n
  induction n with
  | zero => intro _; exact ⟨0, by decide, fun v hv => by omega⟩
  | succ n ih =>
    intro hg
    obtain ⟨c, h1, h2⟩ := ih (fun v hv => hg v (by omega))
    refine ⟨c + g n * 5 ^ n, ?_, fun v hv => ?_⟩
    · have h3 := hg n (by omega)
      have h4 : g n * 5 ^ n ≤ 4 * 5 ^ n := Nat.mul_le_mul_right _ h3
      rw [Nat.pow_succ]
      omega
    · by_cases e : v = n
      · subst e
        have h3 := hg v (by omega)
        rw [Nat.add_mul_div_right _ _ (Nat.pow_pos (by decide)), Nat.div_eq_of_lt h1]
        omega
      · have hv' : v < n := by omega
        have e1 : g n * 5 ^ n = (g n * 5 ^ (n - v - 1) * 5) * 5 ^ v := by
          have : 5 ^ n = 5 ^ (n - v - 1) * 5 * 5 ^ v := by
            rw [← Nat.pow_succ, ← Nat.pow_add]
            congr 1
            omega
          rw [this]
          simp only [Nat.mul_assoc]
        rw [e1, Nat.add_mul_div_right _ _ (Nat.pow_pos (by decide))]
        rw [Nat.add_mul_mod_self_right]
        exact h2 v hv'
section RBP
variable {n m : Nat} {fr to : Nat → Nat} {dl hd : Nat → Int}
theorem rb_leg_c (ok : rb_ok n m fr to dl hd) {r r' : Nat → Int} (e : ∀ v, v < n → r v = r' v) (h : rb_leg m fr to hd r) : rb_leg m fr to hd r' := by
  intro i hi
  have ho := ok.2.2.2.1 i hi
  have h1 := h i hi
  have h2 := e _ ho.1
  have h3 := e _ ho.2.1
  omega
theorem rb_zb_c (ok : rb_ok n m fr to dl hd) {p : Int} {r r' : Nat → Int} (e : ∀ v, v < n → r v = r' v) (h : rb_zb n m fr to dl hd p r) : rb_zb n m fr to dl hd p r' := by
  intro k u v w d hw hz
  have he := rb_wk_ends ok _ _ _ _ _ hw
  have h2 := e _ he.1
  have h3 := e _ he.2.1
  exact h k u v w d hw (by omega)
theorem rb_wk_d (ok : rb_ok n m fr to dl hd) : ∀ (k u v : Nat) (w d : Int), rb_wk n m fr to dl hd k u v w d → d ≤ 9 * ((k : Int) + 1) := by
  intro k
  induction k with
  | zero =>
    intro u v w d h
    obtain ⟨-, -, -, rfl⟩ := h
    have := ok.2.2.2.2 u
    omega
  | succ k ih =>
    intro u v w d h
    obtain ⟨i, w', d', hi, hw, rfl, rfl, rfl⟩ := h
    have h1 := ih _ _ _ _ hw
    have h2 := ok.2.2.2.2 (to i)
    omega
theorem rb_ml_lt (ok : rb_ok n m fr to dl hd) (hs : rb_snd n (rb_ms n m fr to dl hd)) {lg : Nat → Int} (hl : rb_leg m fr to hd lg) (len0 : Nat → Int) : rb_ml n m fr to dl hd lg len0 ≤ 45 := by
  refine (rb_ml_ok ok hs hl len0).2 45 ?_
  intro k u v w d hw hz
  have h1 := rb_Z_len ok hs hl _ _ _ _ _ hw hz
  have h2 := rb_wk_d ok _ _ _ _ _ hw
  have := ok.2.1
  omega
theorem rb_fd1_b {j : Nat} {s : rb_P} (hl : rb_lgb m fr to hd (rb_cd n j) = true) (hb : rb_ml n m fr to dl hd (rb_cd n j) (fun _ => 0) < s.1) : (rb_fd1 n m fr to dl hd j s).1 = rb_ml n m fr to dl hd (rb_cd n j) (fun _ => 0) ∧ ∀ v, (rb_fd1 n m fr to dl hd j s).2 v = if v < n then rb_cd n j v else s.2 v := by
  unfold rb_fd1
  rw [if_pos hl]
  refine ⟨if_pos hb, fun v => ?_⟩
  by_cases hv : v < n
  · rw [if_pos hv]
    exact if_pos ⟨hv, Or.inl hb⟩
  · rw [if_neg hv]
    exact if_neg (fun h => hv h.1)
theorem rb_fd1_n {j : Nat} {s : rb_P} (hl : rb_lgb m fr to hd (rb_cd n j) = true) (hb : ¬ rb_ml n m fr to dl hd (rb_cd n j) (fun _ => 0) < s.1) : (rb_fd1 n m fr to dl hd j s).1 = s.1 ∧ ∀ v, (rb_fd1 n m fr to dl hd j s).2 v = if v < n ∧ rb_ml n m fr to dl hd (rb_cd n j) (fun _ => 0) = s.1 ∧ s.2 v < rb_cd n j v then rb_cd n j v else s.2 v := by
  unfold rb_fd1
  rw [if_pos hl]
  refine ⟨if_neg hb, fun v => ?_⟩
  by_cases hv : v < n ∧ rb_ml n m fr to dl hd (rb_cd n j) (fun _ => 0) = s.1 ∧ s.2 v < rb_cd n j v
  · rw [if_pos hv]
    exact if_pos ⟨hv.1, Or.inr hv.2⟩
  · rw [if_neg hv]
    exact if_neg (fun h => hv ⟨h.1, h.2.elim (fun q => absurd q hb) (fun q => q)⟩)
theorem rb_find_inv (ok : rb_ok n m fr to dl hd) (hs : rb_snd n (rb_ms n m fr to dl hd)) (plan0 : Nat → Int) : ∀ j,
    (∀ c, c < j → rb_leg m fr to hd (rb_cd n c) → (rb_fd n m fr to dl hd plan0 j).1 ≤ rb_ml n m fr to dl hd (rb_cd n c) (fun _ => 0)) ∧
    (((rb_fd n m fr to dl hd plan0 j).1 = 100 ∧ ∀ c, c < j → ¬ rb_leg m fr to hd (rb_cd n c)) ∨ ((rb_fd n m fr to dl hd plan0 j).1 ≤ 45 ∧ (∃ c, c < j ∧ rb_leg m fr to hd (rb_cd n c) ∧ rb_ml n m fr to dl hd (rb_cd n c) (fun _ => 0) = (rb_fd n m fr to dl hd plan0 j).1) ∧
      (∀ v, v < n → ∃ c, c < j ∧ rb_leg m fr to hd (rb_cd n c) ∧ rb_ml n m fr to dl hd (rb_cd n c) (fun _ => 0) = (rb_fd n m fr to dl hd plan0 j).1 ∧ rb_cd n c v = (rb_fd n m fr to dl hd plan0 j).2 v))) ∧
    (∀ c, c < j → rb_leg m fr to hd (rb_cd n c) → rb_ml n m fr to dl hd (rb_cd n c) (fun _ => 0) = (rb_fd n m fr to dl hd plan0 j).1 → ∀ v, v < n → rb_cd n c v ≤ (rb_fd n m fr to dl hd plan0 j).2 v) := by
  intro j
  unfold rb_fd
  induction j with
  | zero => exact ⟨fun c hc => by omega, Or.inl ⟨rfl, fun c hc => by omega⟩, fun c hc => by omega⟩
  | succ j ih =>
    rw [rb_it_s]
    generalize rb_it (rb_fd1 n m fr to dl hd) j (100, plan0) = s at ih
    obtain ⟨i1, i2, i3⟩ := ih
    by_cases hl : rb_lgb m fr to hd (rb_cd n j) = true
    · have hl' := (rb_lgb_iff m).mp hl
      have h45 := rb_ml_lt ok hs hl' (fun _ => 0)
      by_cases hb : rb_ml n m fr to dl hd (rb_cd n j) (fun _ => 0) < s.1
      · obtain ⟨e1, e2⟩ := rb_fd1_b hl hb
        generalize rb_fd1 n m fr to dl hd j s = t at e1 e2
        refine ⟨fun c hc hc2 => ?_, Or.inr ⟨by omega, ⟨j, by omega, hl', e1.symm⟩, fun v hv => ⟨j, by omega, hl', e1.symm, by rw [e2, if_pos hv]⟩⟩, fun c hc hc2 hc3 v hv => ?_⟩
        · by_cases e : c = j
          · subst e; omega
          · have := i1 c (by omega) hc2; omega
        · rw [e2, if_pos hv]
          by_cases e : c = j
          · subst e; exact Int.le_refl _
          · have := i1 c (by omega) hc2; omega
      · obtain ⟨e1, e2⟩ := rb_fd1_n hl hb
        generalize rb_fd1 n m fr to dl hd j s = t at e1 e2
        rw [e1]
        have hs1 : s.1 ≤ 45 := by
          rcases i2 with ⟨h, -⟩ | ⟨h, -⟩ <;> omega
        obtain ⟨-, ⟨c1, a1, a2, a3⟩, a4⟩ : s.1 ≤ 45 ∧ (∃ c, c < j ∧ rb_leg m fr to hd (rb_cd n c) ∧ rb_ml n m fr to dl hd (rb_cd n c) (fun _ => 0) = s.1) ∧ (∀ v, v < n → ∃ c, c < j ∧ rb_leg m fr to hd (rb_cd n c) ∧ rb_ml n m fr to dl hd (rb_cd n c) (fun _ => 0) = s.1 ∧ rb_cd n c v = s.2 v) := by
          rcases i2 with ⟨h, -⟩ | h
          · omega
          · exact h
        refine ⟨fun c hc hc2 => ?_, Or.inr ⟨hs1, ⟨c1, by omega, a2, a3⟩, fun v hv => ?_⟩, fun c hc hc2 hc3 v hv => ?_⟩
        · by_cases e : c = j
          · subst e; omega
          · exact i1 c (by omega) hc2
        · rw [e2]
          by_cases hq : v < n ∧ rb_ml n m fr to dl hd (rb_cd n j) (fun _ => 0) = s.1 ∧ s.2 v < rb_cd n j v
          · rw [if_pos hq]
            exact ⟨j, by omega, hl', hq.2.1, rfl⟩
          · rw [if_neg hq]
            obtain ⟨c2, b1, b2, b3, b4⟩ := a4 v hv
            exact ⟨c2, by omega, b2, b3, b4⟩
        · rw [e2]
          by_cases hq : v < n ∧ rb_ml n m fr to dl hd (rb_cd n j) (fun _ => 0) = s.1 ∧ s.2 v < rb_cd n j v
          · rw [if_pos hq]
            by_cases e : c = j
            · subst e; exact Int.le_refl _
            · have := i3 c (by omega) hc2 hc3 v hv; omega
          · rw [if_neg hq]
            by_cases e : c = j
            · subst e
              apply Classical.byContradiction
              intro hq2
              exact hq ⟨hv, hc3, by omega⟩
            · exact i3 c (by omega) hc2 hc3 v hv
    · unfold rb_fd1
      rw [if_neg hl]
      have hl' : ¬ rb_leg m fr to hd (rb_cd n j) := fun h => hl ((rb_lgb_iff m).mpr h)
      refine ⟨fun c hc hc2 => ?_, ?_, fun c hc hc2 hc3 v hv => ?_⟩
      · by_cases e : c = j
        · subst e; exact absurd hc2 hl'
        · exact i1 c (by omega) hc2
      · rcases i2 with ⟨h, k⟩ | ⟨h, ⟨c1, a1, a2, a3⟩, a4⟩
        · refine Or.inl ⟨h, fun c hc => ?_⟩
          by_cases e : c = j
          · subst e; exact hl'
          · exact k c (by omega)
        · refine Or.inr ⟨h, ⟨c1, by omega, a2, a3⟩, fun v hv => ?_⟩
          obtain ⟨c2, b1, b2, b3, b4⟩ := a4 v hv
          exact ⟨c2, by omega, b2, b3, b4⟩
      · by_cases e : c = j
        · subst e; exact absurd hc2 hl'
        · exact i3 c (by omega) hc2 hc3 v hv
/-- the lags of the best period -/
def rb_G (n m : Nat) (fr to : Nat → Nat) (dl hd : Nat → Int) : Nat → Int := (rb_rs m fr to hd (rb_ms n m fr to dl hd) (rb_best n m fr to dl hd (rb_ms n m fr to dl hd))).1
theorem rb_G_ok (ok : rb_ok n m fr to dl hd) {a : Int} (ha : 0 ≤ a) (ha2 : a ≤ 252) (hf : rb_few m fr to hd a) (hs : rb_snd n (rb_ms n m fr to dl hd)) :
    (∀ v, v < n → -4 ≤ rb_G n m fr to dl hd v ∧ rb_G n m fr to dl hd v ≤ 0) ∧ (∀ v, n ≤ v → rb_G n m fr to dl hd v = 0) ∧ rb_leg m fr to hd (rb_G n m fr to dl hd) ∧ rb_zb n m fr to dl hd (rb_best n m fr to dl hd (rb_ms n m fr to dl hd)) (rb_G n m fr to dl hd) := by
  obtain ⟨h1, h2⟩ := rb_best_ok ok ha ha2 hf hs
  have h3 := rb_can_gr ok _ h1
  have h4 := rb_gr_low ok.1 (rb_C_ok ok _) h3
  have h5 := (rb_can_iff ok _).mp h1
  have h6 := (rb_ret ok ha ha2 hf hs _ _).mp ⟨h3.1, h5.1⟩
  have hn := ok.2.1
  refine ⟨fun v hv => ⟨?_, h3.2.1 v hv⟩, rb_rs_out ok _, h6.1, h6.2⟩
  have := h4 v hv
  unfold rb_G
  omega
theorem rb_find_ok (ok : rb_ok n m fr to dl hd) {a : Int} (ha : 0 ≤ a) (ha2 : a ≤ 252) (hf : rb_few m fr to hd a) (hs : rb_snd n (rb_ms n m fr to dl hd)) (plan0 : Nat → Int) :
    (rb_fd n m fr to dl hd plan0 (5 ^ n)).1 = rb_best n m fr to dl hd (rb_ms n m fr to dl hd) ∧ ∀ v, v < n → (rb_fd n m fr to dl hd plan0 (5 ^ n)).2 v = rb_G n m fr to dl hd v := by
  obtain ⟨g1, -, g2, g3⟩ := rb_G_ok ok ha ha2 hf hs
  obtain ⟨b1, b2⟩ := rb_best_ok ok ha ha2 hf hs
  have hgr := rb_can_gr ok _ b1
  obtain ⟨c0, hc0, hc1⟩ := rb_code (fun v => (-(rb_G n m fr to dl hd v)).toNat) n (fun v hv => by have := g1 v hv; show (-(rb_G n m fr to dl hd v)).toNat ≤ 4; omega)
  have e0 : ∀ v, v < n → rb_G n m fr to dl hd v = rb_cd n c0 v := by
    intro v hv
    unfold rb_cd
    rw [if_pos hv, hc1 v hv]
    have := g1 v hv
    omega
  have l0 := rb_leg_c ok e0 g2
  have z0 := rb_zb_c ok e0 g3
  obtain ⟨i1, i2, i3⟩ := rb_find_inv ok hs plan0 (5 ^ n)
  generalize rb_fd n m fr to dl hd plan0 (5 ^ n) = s at *
  have all : ∀ c, rb_leg m fr to hd (rb_cd n c) → rb_best n m fr to dl hd (rb_ms n m fr to dl hd) ≤ rb_ml n m fr to dl hd (rb_cd n c) (fun _ => 0) := by
    intro c hc
    refine b2 _ ((rb_F ok ha ha2 hf hs _).mpr ⟨rb_cd n c, fun v _ => (rb_cd_in n c v).2, hc, ?_⟩)
    exact (rb_ml_ok ok hs hc _).1
  have m0 := (rb_ml_ok ok hs l0 (fun _ => 0)).2 _ z0
  have h0 := i1 c0 hc0 l0
  rcases i2 with ⟨-, h⟩ | ⟨-, ⟨c1, a1, a2, a3⟩, a4⟩
  · exact absurd l0 (h c0 hc0)
  · have h1 := all c1 a2
    have eb : s.1 = rb_best n m fr to dl hd (rb_ms n m fr to dl hd) := by omega
    refine ⟨eb, fun v hv => ?_⟩
    have h2 := i3 c0 hc0 l0 (by have := all c0 l0; omega) v hv
    obtain ⟨c2, d1, d2, d3, d4⟩ := a4 v hv
    have z2 := (rb_ml_ok ok hs d2 (fun _ => 0)).1
    rw [d3, eb] at z2
    have s2 := (rb_ret ok ha ha2 hf hs _ _).mpr ⟨d2, z2⟩
    have h3 := hgr.2.2 _ s2.1 (fun w _ => (rb_cd_in n c2 w).2) v hv
    have h4 := e0 v hv
    have h3 : rb_cd n c2 v ≤ rb_G n m fr to dl hd v := h3
    omega
/-- reachable: both sides -/
theorem rb_reach_eq (ok : rb_ok n m fr to dl hd) {a : Int} (ha : 0 ≤ a) (ha2 : a ≤ 252) (hf : rb_few m fr to hd a) (hs : rb_snd n (rb_ms n m fr to dl hd)) (p : Int) : rb_can n m fr to dl hd (rb_ms n m fr to dl hd) p = true ↔ rb_best n m fr to dl hd (rb_ms n m fr to dl hd) ≤ p := by
  obtain ⟨b1, b2⟩ := rb_best_ok ok ha ha2 hf hs
  refine ⟨b2 p, fun h => ?_⟩
  obtain ⟨r, h1, h2, h3⟩ := (rb_F ok ha ha2 hf hs _).mp b1
  refine (rb_F ok ha ha2 hf hs p).mpr ⟨r, h1, h2, ?_⟩
  intro k u v w d hw hz
  have := h3 k u v w d hw hz
  omega
theorem rb_best_in (ok : rb_ok n m fr to dl hd) {a : Int} (ha : 0 ≤ a) (ha2 : a ≤ 252) (hf : rb_few m fr to hd a) (hs : rb_snd n (rb_ms n m fr to dl hd)) : 0 ≤ rb_best n m fr to dl hd (rb_ms n m fr to dl hd) ∧ rb_best n m fr to dl hd (rb_ms n m fr to dl hd) ≤ 45 := by
  obtain ⟨b1, b2⟩ := rb_best_ok ok ha ha2 hf hs
  have h1 := ((rb_can_iff ok _).mp b1).1
  have h2 := (rb_mx_spec dl n).1
  refine ⟨by omega, ?_⟩
  have hl : rb_leg m fr to hd (fun _ => 0) := by
    intro i hi
    have := ok.2.2.2.1 i hi
    show (0 : Int) ≤ hd i + 0 - 0
    omega
  have h3 := rb_ml_lt ok hs hl (fun _ => 0)
  have h4 := b2 _ ((rb_F ok ha ha2 hf hs _).mpr ⟨fun _ => 0, fun _ _ => Int.le_refl 0, hl, (rb_ml_ok ok hs hl (fun _ => 0)).1⟩)
  omega
/-! what the calls keep -/
def rb_ap (m : Nat) (fr to : Nat → Nat) (hd g : Nat → Int) : Nat → Int := fun i => if i < m then hd i + (g (to i) - g (fr i)) else hd i
theorem rb_apply_ok (ok : rb_ok n m fr to dl hd) {a : Int} (hf : rb_few m fr to hd a) {g : Nat → Int} (hg : ∀ v, v < n → -4 ≤ g v ∧ g v ≤ 0) (hl : rb_leg m fr to hd g) : rb_ok n m fr to dl (rb_ap m fr to hd g) ∧ rb_few m fr to (rb_ap m fr to hd g) (a + 4) := by
  have e : ∀ i, i < m → rb_ap m fr to hd g i = hd i + (g (to i) - g (fr i)) := by
    intro i hi
    unfold rb_ap
    rw [if_pos hi]
  refine ⟨⟨ok.1, ok.2.1, ok.2.2.1, fun i hi => ?_, ok.2.2.2.2⟩, fun i hi => ?_, fun i j hi hj hij => ?_⟩
  · have h := ok.2.2.2.1 i hi
    have h1 := hl i hi
    rw [e i hi]
    exact ⟨h.1, h.2.1, by omega⟩
  · have h := ok.2.2.2.1 i hi
    have h1 := hg _ h.1
    have h2 := hg _ h.2.1
    have h3 := hf.1 i hi
    rw [e i hi]
    omega
  · have h := ok.2.2.2.1 i hi
    have h' := ok.2.2.2.1 j hj
    have h1 := hg _ h.1
    have h2 := hg _ h'.2.1
    have h3 := hf.2 i j hi hj hij
    rw [e i hi, e j hj, hij]
    omega
theorem rb_few_up {a b : Int} (h : a ≤ b) (hf : rb_few m fr to hd a) : rb_few m fr to hd b := by
  refine ⟨fun i hi => ?_, fun i j hi hj hij => ?_⟩
  · have := hf.1 i hi; omega
  · have := hf.2 i j hi hj hij; omega
theorem rb_delay_ok (ok : rb_ok n m fr to dl hd) {v : Nat} {x : Int} (h0 : 0 ≤ x) (h9 : x ≤ 9) : rb_ok n m fr to (rb_up dl v x) hd := by
  refine ⟨ok.1, ok.2.1, ok.2.2.1, ok.2.2.2.1, fun w => ?_⟩
  by_cases e : w = v
  · subst e; rw [rb_up_s]; exact ⟨h0, h9⟩
  · rw [rb_up_n e]; exact ok.2.2.2.2 w
theorem rb_wire_ok (ok : rb_ok n m fr to dl hd) {a : Int} (ha : 0 ≤ a) (hf : rb_few m fr to hd a) {u v : Nat} {r : Int} (hm : m < 12) (hu : u < n) (hv : v < n) (h0 : 0 ≤ r) (h3 : r ≤ 3) : rb_ok n (m + 1) (rb_up fr m u) (rb_up to m v) dl (rb_up hd m r) ∧ rb_few (m + 1) (rb_up fr m u) (rb_up to m v) (rb_up hd m r) a := by
  refine ⟨⟨ok.1, ok.2.1, by omega, fun i hi => ?_, ok.2.2.2.2⟩, fun i hi => ?_, fun i j hi hj => ?_⟩
  · by_cases e : i = m
    · subst e; rw [rb_up_s, rb_up_s, rb_up_s]; exact ⟨hu, hv, h0⟩
    · rw [rb_up_n e, rb_up_n e, rb_up_n e]; exact ok.2.2.2.1 i (by omega)
  · by_cases e : i = m
    · subst e; rw [rb_up_s]; omega
    · rw [rb_up_n e]; exact hf.1 i (by omega)
  · by_cases e : i = m
    · subst e
      by_cases e2 : j = i
      · subst e2; rw [rb_up_s, rb_up_s, rb_up_s]; intro _; omega
      · rw [rb_up_s, rb_up_s, rb_up_n e2, rb_up_n e2]
        intro _
        have := hf.1 j (by omega)
        omega
    · by_cases e2 : j = m
      · subst e2; rw [rb_up_n e, rb_up_n e, rb_up_s, rb_up_s]
        intro _
        have := hf.1 i (by omega)
        omega
      · rw [rb_up_n e, rb_up_n e, rb_up_n e2, rb_up_n e2]
        exact hf.2 i j (by omega) (by omega)
def rb_ct {α : Type} (m i : Nat) (f : Nat → α) : Nat → α := fun j => if i ≤ j ∧ j < m then f (j + 1) else f j
theorem rb_cut_ok (ok : rb_ok n (m + 1) fr to dl hd) {a : Int} (hf : rb_few (m + 1) fr to hd a) {i : Nat} : rb_ok n m (rb_ct m i fr) (rb_ct m i to) dl (rb_ct m i hd) ∧ rb_few m (rb_ct m i fr) (rb_ct m i to) (rb_ct m i hd) a := by
  have key : ∀ j, j < m → ∃ j', j' < m + 1 ∧ rb_ct m i fr j = fr j' ∧ rb_ct m i to j = to j' ∧ rb_ct m i hd j = hd j' := by
    intro j hj
    by_cases h : i ≤ j ∧ j < m
    · exact ⟨j + 1, by omega, by unfold rb_ct; rw [if_pos h], by unfold rb_ct; rw [if_pos h], by unfold rb_ct; rw [if_pos h]⟩
    · exact ⟨j, by omega, by unfold rb_ct; rw [if_neg h], by unfold rb_ct; rw [if_neg h], by unfold rb_ct; rw [if_neg h]⟩
  refine ⟨⟨ok.1, ok.2.1, by have := ok.2.2.1; omega, fun j hj => ?_, ok.2.2.2.2⟩, fun j hj => ?_, fun j k hj hk => ?_⟩
  · obtain ⟨j', h1, h2, h3, h4⟩ := key j hj
    rw [h2, h3, h4]
    exact ok.2.2.2.1 j' h1
  · obtain ⟨j', h1, -, -, h4⟩ := key j hj
    rw [h4]
    exact hf.1 j' h1
  · obtain ⟨j', h1, h2, h3, h4⟩ := key j hj
    obtain ⟨k', g1, g2, g3, g4⟩ := key k hk
    rw [h3, g2, h4, g4]
    exact hf.2 j' k' h1 g1
end RBP
end
section
/-! the steps, opened one at a time -/
theorem rb_mx1_d (f : Nat → Int) (v : Nat) (t : Int) : rb_mx1 f v t = if t < f v then f v else t := rfl
theorem rb_offer_d (c : Nat) (r d : Int) (s : rb_S) : rb_offer c r d s = if s.1 c < r ∨ (r = s.1 c ∧ d ≤ s.2 c) then s else (rb_up s.1 c r, rb_up s.2 c d) := rfl
theorem rb_low_d (u v : Nat) (b : Int) (s : rb_L) : rb_low u v b s = if s.1 u ≤ s.1 v + b then s else (rb_up s.1 u (s.1 v + b), true) := rfl
theorem rb_m1_d (fr to : Nat → Nat) (dl hd : Nat → Int) (i : Nat) (s : rb_S) : rb_m1 fr to dl hd i s = rb_offer (5 * fr i + to i) (hd i) (dl (fr i) + dl (to i)) s := rfl
theorem rb_pr_d (dl : Nat → Int) (k q : Nat) (s : rb_S) : rb_pr dl k q s = if 1000 ≤ s.1 (5 * (q / 5) + k) ∨ 1000 ≤ s.1 (5 * k + q % 5) then s else rb_offer q (s.1 (5 * (q / 5) + k) + s.1 (5 * k + q % 5)) (s.2 (5 * (q / 5) + k) + s.2 (5 * k + q % 5) - dl k) s := rfl
theorem rb_st_d (dl : Nat → Int) (k : Nat) (s : rb_S) : rb_st dl k s = rb_it (rb_pr dl k) 25 s := rfl
theorem rb_r1_d (fr to : Nat → Nat) (hd : Nat → Int) (i : Nat) (s : rb_L) : rb_r1 fr to hd i s = rb_low (fr i) (to i) (hd i) s := rfl
theorem rb_r2_d (t : rb_S) (p : Int) (c : Nat) (s : rb_L) : rb_r2 t p c s = if t.1 c < 1000 ∧ p < t.2 c then rb_low (c / 5) (c % 5) (t.1 c - 1) s else s := rfl
theorem rb_rk_d (rd : (Nat → Int) → rb_L) (i : Nat) (s : rb_L) : rb_rk rd i s = if s.2 then rd s.1 else s := rfl
theorem rb_pe1_d (t : rb_S) (c : Nat) (b : Int) : rb_pe1 t c b = if t.1 c = 0 ∧ b < t.2 c then t.2 c else b := rfl
theorem rb_be1_d (n m : Nat) (fr to : Nat → Nat) (dl hd : Nat → Int) (t : rb_S) (c : Nat) (b : Int) : rb_be1 n m fr to dl hd t c b = if t.1 c < 1000 ∧ t.2 c < b ∧ rb_can n m fr to dl hd t (t.2 c) = true then t.2 c else b := rfl
theorem rb_l1_d (fr to : Nat → Nat) (dl hd lg : Nat → Int) (i : Nat) (len : Nat → Int) : rb_l1 fr to dl hd lg i len = if rb_un fr to hd lg i = 0 ∧ len (to i) < len (fr i) + dl (to i) then rb_up len (to i) (len (fr i) + dl (to i)) else len := rfl
theorem rb_l2_d (m : Nat) (fr to : Nat → Nat) (dl hd lg : Nat → Int) (i : Nat) (len : Nat → Int) : rb_l2 m fr to dl hd lg i len = rb_it (rb_l1 fr to dl hd lg) m len := rfl
theorem rb_q1_d (fr to : Nat → Nat) (hd : Nat → Int) (i : Nat) (len : Nat → Int) : rb_q1 fr to hd i len = if hd i = 0 ∧ len (to i) ≤ len (fr i) then rb_up len (to i) (len (fr i) + 1) else len := rfl
theorem rb_q2_d (m : Nat) (fr to : Nat → Nat) (hd : Nat → Int) (i : Nat) (len : Nat → Int) : rb_q2 m fr to hd i len = rb_it (rb_q1 fr to hd) m len := rfl
theorem rb_f1_d (fr to : Nat → Nat) (hd : Nat → Int) (u i : Nat) (rc : Nat → Int) : rb_f1 fr to hd u i rc = if 0 ≤ (if fr i = u then 0 else rc (fr i)) ∧ (rc (to i) < 0 ∨ (if fr i = u then 0 else rc (fr i)) + hd i < rc (to i)) then rb_up rc (to i) ((if fr i = u then 0 else rc (fr i)) + hd i) else rc := rfl
theorem rb_f2_d (m : Nat) (fr to : Nat → Nat) (hd : Nat → Int) (u i : Nat) (rc : Nat → Int) : rb_f2 m fr to hd u i rc = rb_it (rb_f1 fr to hd u) m rc := rfl
theorem rb_lg1_d (fr to : Nat → Nat) (hd lg : Nat → Int) (i : Nat) (b : Bool) : rb_lg1 fr to hd lg i b = (b && decide (0 ≤ rb_un fr to hd lg i)) := rfl
end
section
-- ===== PART A: goes FIRST, ahead of the names: the tables' words, and 'selects' of the private methods out of them =====
/-- a private method of a class that the tables say can be made, by its rows of tables_1 -/
def lw_okq (q : MethodName × Nat) : Prop := (q.1.cls ≠ "java/lang/invoke/MethodHandle" ∧ q.1.cls ≠ "java/lang/invoke/VarHandle") ∧ Cond.instantiable q.1.cls q.2 ∈ tables_1 ∧ Cond.privateMethod q.1 ∈ tables_1 ∧ Cond.instanceMethod q.1 ∈ tables_1
set_option maxRecDepth 100000
theorem lw_p0 : lw_okq (⟨"RetimingBench", "isBlock", "(I)Z"⟩, 11) := ⟨⟨by decide +kernel, by decide +kernel⟩, List.mem_of_getElem? (i := 4) rfl, List.mem_of_getElem? (i := 52) rfl, List.mem_of_getElem? (i := 53) rfl⟩
theorem lw_p1 : lw_okq (⟨"RetimingBench", "measure", "()V"⟩, 11) := ⟨⟨by decide +kernel, by decide +kernel⟩, List.mem_of_getElem? (i := 4) rfl, List.mem_of_getElem? (i := 68) rfl, List.mem_of_getElem? (i := 69) rfl⟩
theorem lw_p2 : lw_okq (⟨"RetimingBench", "offer", "(IIII)V"⟩, 11) := ⟨⟨by decide +kernel, by decide +kernel⟩, List.mem_of_getElem? (i := 4) rfl, List.mem_of_getElem? (i := 72) rfl, List.mem_of_getElem? (i := 73) rfl⟩
theorem lw_p3 : lw_okq (⟨"RetimingBench", "greatestDelay", "()I"⟩, 11) := ⟨⟨by decide +kernel, by decide +kernel⟩, List.mem_of_getElem? (i := 4) rfl, List.mem_of_getElem? (i := 80) rfl, List.mem_of_getElem? (i := 81) rfl⟩
theorem lw_p4 : lw_okq (⟨"RetimingBench", "canReach", "(I)Z"⟩, 11) := ⟨⟨by decide +kernel, by decide +kernel⟩, List.mem_of_getElem? (i := 4) rfl, List.mem_of_getElem? (i := 89) rfl, List.mem_of_getElem? (i := 90) rfl⟩
theorem lw_p5 : lw_okq (⟨"RetimingBench", "lower", "(III)Z"⟩, 11) := ⟨⟨by decide +kernel, by decide +kernel⟩, List.mem_of_getElem? (i := 4) rfl, List.mem_of_getElem? (i := 93) rfl, List.mem_of_getElem? (i := 94) rfl⟩
theorem lw_p6 : lw_okq (⟨"RetimingBenchModel", "isBlock", "(I)Z"⟩, 12) := ⟨⟨by decide +kernel, by decide +kernel⟩, List.mem_of_getElem? (i := 121) rfl, List.mem_of_getElem? (i := 168) rfl, List.mem_of_getElem? (i := 169) rfl⟩
theorem lw_p7 : lw_okq (⟨"RetimingBenchModel", "noLags", "()V"⟩, 12) := ⟨⟨by decide +kernel, by decide +kernel⟩, List.mem_of_getElem? (i := 121) rfl, List.mem_of_getElem? (i := 184) rfl, List.mem_of_getElem? (i := 185) rfl⟩
theorem lw_p8 : lw_okq (⟨"RetimingBenchModel", "longest", "()I"⟩, 12) := ⟨⟨by decide +kernel, by decide +kernel⟩, List.mem_of_getElem? (i := 121) rfl, List.mem_of_getElem? (i := 193) rfl, List.mem_of_getElem? (i := 194) rfl⟩
theorem lw_p9 : lw_okq (⟨"RetimingBenchModel", "under", "(I)I"⟩, 12) := ⟨⟨by decide +kernel, by decide +kernel⟩, List.mem_of_getElem? (i := 121) rfl, List.mem_of_getElem? (i := 197) rfl, List.mem_of_getElem? (i := 198) rfl⟩
theorem lw_p10 : lw_okq (⟨"RetimingBenchModel", "find", "()V"⟩, 12) := ⟨⟨by decide +kernel, by decide +kernel⟩, List.mem_of_getElem? (i := 121) rfl, List.mem_of_getElem? (i := 205) rfl, List.mem_of_getElem? (i := 206) rfl⟩
theorem lw_p11 : lw_okq (⟨"RetimingBenchModel", "writeLags", "(I)V"⟩, 12) := ⟨⟨by decide +kernel, by decide +kernel⟩, List.mem_of_getElem? (i := 121) rfl, List.mem_of_getElem? (i := 209) rfl, List.mem_of_getElem? (i := 210) rfl⟩
theorem lw_p12 : lw_okq (⟨"RetimingBenchModel", "legal", "()Z"⟩, 12) := ⟨⟨by decide +kernel, by decide +kernel⟩, List.mem_of_getElem? (i := 121) rfl, List.mem_of_getElem? (i := 213) rfl, List.mem_of_getElem? (i := 214) rfl⟩
def lw_privs_1 : List (MethodName × Nat) := [(⟨"RetimingBench", "isBlock", "(I)Z"⟩, 11), (⟨"RetimingBench", "measure", "()V"⟩, 11), (⟨"RetimingBench", "offer", "(IIII)V"⟩, 11), (⟨"RetimingBench", "greatestDelay", "()I"⟩, 11), (⟨"RetimingBench", "canReach", "(I)Z"⟩, 11), (⟨"RetimingBench", "lower", "(III)Z"⟩, 11), (⟨"RetimingBenchModel", "isBlock", "(I)Z"⟩, 12), (⟨"RetimingBenchModel", "noLags", "()V"⟩, 12), (⟨"RetimingBenchModel", "longest", "()I"⟩, 12), (⟨"RetimingBenchModel", "under", "(I)I"⟩, 12), (⟨"RetimingBenchModel", "find", "()V"⟩, 12), (⟨"RetimingBenchModel", "writeLags", "(I)V"⟩, 12), (⟨"RetimingBenchModel", "legal", "()Z"⟩, 12)]
theorem lw_r1 : ∀ q ∈ lw_privs_1, lw_okq q := List.forall_mem_cons.mpr ⟨lw_p0, List.forall_mem_cons.mpr ⟨lw_p1, List.forall_mem_cons.mpr ⟨lw_p2, List.forall_mem_cons.mpr ⟨lw_p3, List.forall_mem_cons.mpr ⟨lw_p4, List.forall_mem_cons.mpr ⟨lw_p5, List.forall_mem_cons.mpr ⟨lw_p6, List.forall_mem_cons.mpr ⟨lw_p7, List.forall_mem_cons.mpr ⟨lw_p8, List.forall_mem_cons.mpr ⟨lw_p9, List.forall_mem_cons.mpr ⟨lw_p10, List.forall_mem_cons.mpr ⟨lw_p11, List.forall_mem_cons.mpr ⟨lw_p12, fun _ h => absurd h List.not_mem_nil⟩⟩⟩⟩⟩⟩⟩⟩⟩⟩⟩⟩⟩
def lw_privs : List (MethodName × Nat) := lw_privs_1
def lw_tbl : List Cond := k2_sels lw_privs ++ tables_1
theorem lw_privs_ok : ∀ q ∈ lw_privs, lw_okq q := lw_r1
-- ===== ONE list of words for every method: the tables' words that hold all through a run =====
def lw_all : List Cond := lw_tbl.filter goodWord
/-- a word of the tables by its place: claim/WORDS.tsv -/
theorem lw_w {w : Cond} (i : Nat) (h : lw_tbl[i]? = some w) (g : goodWord w = true) : w ∈ lw_all := List.mem_filter.mpr ⟨List.mem_of_getElem? h, g⟩
theorem lw_all_tbl {w : Cond} (h : w ∈ lw_all) : w ∈ lw_tbl := (List.mem_filter.mp h).1
theorem lw_self : GoodIn lw_all lw_all := fun w h => ⟨h, good_of_word (List.mem_filter.mp h).2⟩
/-- a class's field words, by their places -/
theorem lw_in (ws : List Cond) (ps : List Nat) (hp : ws = ps.filterMap (fun i => lw_tbl[i]?)) (hg : ws.all goodWord = true) : ∀ w ∈ ws, w ∈ lw_all := by
  intro w h
  have h1 := List.all_eq_true.mp hg w h
  rw [hp] at h
  obtain ⟨i, -, hi⟩ := List.mem_filterMap.mp h
  exact lw_w i hi h1
/-- the words of a contract for the method y with code b, L locals, answer r -/
abbrev ws_ (y : MethodName) (b : ByteArray) (L : Nat) (r : Option FieldType) : List Cond := Cond.code y b L r :: lw_all
theorem lw_meth {y : MethodName} {b : ByteArray} {L : Nat} {r : Option FieldType} (h : Cond.code y b L r ∈ lw_all) : GoodIn lw_all (ws_ y b L r) := by
  intro w hw
  rcases List.mem_cons.mp hw with e | e
  · rw [e]
    exact lw_self _ h
  · exact lw_self _ e
theorem lw_app {a c : List Cond} (ha : ∀ w ∈ a, w ∈ lw_all) (hc : GoodIn lw_all c) : GoodIn lw_all (a ++ c) := by
  intro w hw
  rcases List.mem_append.mp hw with e | e
  · exact lw_self w (ha w e)
  · exact hc w e
/-- what a call through an object asks: cwV n hts (lw_V ..) -/
theorem lw_V {own : String} {idx : Nat} {C : String} {y : MethodName} {b : ByteArray} {L : Nat} {r : Option FieldType} (h1 : Cond.methodLink own idx y ∈ lw_all) (h2 : Cond.instanceMethod y ∈ lw_all) (h3 : Cond.selects C y y ∈ lw_all) (h4 : Cond.initialized C ∈ lw_all) (h5 : Cond.code y b L r ∈ lw_all) : GoodIn lw_all (wsV own idx C y (ws_ y b L r)) := by
  refine lw_app ?_ (lw_meth h5)
  intro w hw
  simp only [List.mem_cons, List.not_mem_nil, or_false] at hw
  rcases hw with e | e | e | e
  · rw [e]; exact h1
  · rw [e]; exact h2
  · rw [e]; exact h3
  · rw [e]; exact h4
/-- what a static call asks: va_cwS n hts (lw_S ..) -/
theorem lw_S {own : String} {idx : Nat} {y : MethodName} {b : ByteArray} {L : Nat} {r : Option FieldType} (h1 : Cond.methodLink own idx y ∈ lw_all) (h2 : Cond.static y ∈ lw_all) (h3 : Cond.initialized y.cls ∈ lw_all) (h4 : Cond.code y b L r ∈ lw_all) : GoodIn lw_all (va_wsS own idx y (ws_ y b L r)) := by
  refine lw_app ?_ (lw_meth h4)
  intro w hw
  simp only [List.mem_cons, List.not_mem_nil, or_false] at hw
  rcases hw with e | e | e
  · rw [e]; exact h1
  · rw [e]; exact h2
  · rw [e]; exact h3
/-- the words of a contract for a method WITH HANDLERS (hh: its table) -/
abbrev wsW_ (y : MethodName) (b : ByteArray) (L : Nat) (r : Option FieldType) (hh : List (Nat × Nat × Nat × Nat)) : List Cond := Cond.codeWith y b L r hh :: lw_all
theorem lw_methW {y : MethodName} {b : ByteArray} {L : Nat} {r : Option FieldType} {hh : List (Nat × Nat × Nat × Nat)} (h : Cond.codeWith y b L r hh ∈ lw_all) : GoodIn lw_all (wsW_ y b L r hh) := by
  intro w hw
  rcases List.mem_cons.mp hw with e | e
  · rw [e]
    exact lw_self _ h
  · exact lw_self _ e
/-- any list of words by their places (lw_in), good -/
theorem lw_good {ws : List Cond} (h : ∀ w ∈ ws, w ∈ lw_all) : GoodIn lw_all ws := fun w hw => lw_self w (h w hw)
/-- what a call of a method with handlers asks: vx_cwVW n hts (lw_VW ..), vx_cwSW n hts (lw_SW ..) -/
theorem lw_VW {own : String} {idx : Nat} {C : String} {y : MethodName} {b : ByteArray} {L : Nat} {r : Option FieldType} {hh : List (Nat × Nat × Nat × Nat)} (h1 : Cond.methodLink own idx y ∈ lw_all) (h2 : Cond.instanceMethod y ∈ lw_all) (h3 : Cond.selects C y y ∈ lw_all) (h4 : Cond.initialized C ∈ lw_all) (h5 : Cond.codeWith y b L r hh ∈ lw_all) : GoodIn lw_all (wsV own idx C y (wsW_ y b L r hh)) := by
  refine lw_app ?_ (lw_methW h5)
  intro w hw
  simp only [List.mem_cons, List.not_mem_nil, or_false] at hw
  rcases hw with e | e | e | e
  · rw [e]; exact h1
  · rw [e]; exact h2
  · rw [e]; exact h3
  · rw [e]; exact h4
theorem lw_SW {own : String} {idx : Nat} {y : MethodName} {b : ByteArray} {L : Nat} {r : Option FieldType} {hh : List (Nat × Nat × Nat × Nat)} (h1 : Cond.methodLink own idx y ∈ lw_all) (h2 : Cond.static y ∈ lw_all) (h3 : Cond.initialized y.cls ∈ lw_all) (h4 : Cond.codeWith y b L r hh ∈ lw_all) : GoodIn lw_all (va_wsS own idx y (wsW_ y b L r hh)) := by
  refine lw_app ?_ (lw_methW h4)
  intro w hw
  simp only [List.mem_cons, List.not_mem_nil, or_false] at hw
  rcases hw with e | e | e
  · rw [e]; exact h1
  · rw [e]; exact h2
  · rw [e]; exact h3
/-- a word by its place in its run of the tables -/
theorem lw_at {r : List Cond} (hr : ∀ w ∈ r, w ∈ lw_tbl) {w : Cond} (i : Nat) (h : r[i]? = some w) : w ∈ lw_tbl := hr w (List.mem_of_getElem? h)
theorem lw_g {w : Cond} (h : w ∈ lw_tbl) (g : goodWord w = true) : w ∈ lw_all := List.mem_filter.mpr ⟨h, g⟩
theorem lw_ms : ∀ w ∈ k2_sels lw_privs, w ∈ lw_tbl := fun w h => show w ∈ k2_sels lw_privs ++ tables_1 from List.mem_append_left _ h
theorem lw_m0 : ∀ w ∈ tables_1, w ∈ lw_tbl := fun w h => show w ∈ k2_sels lw_privs ++ tables_1 from List.mem_append_right (k2_sels lw_privs) h
theorem qs0 : (Cond.selects "RetimingBench" ⟨"RetimingBench", "isBlock", "(I)Z"⟩ ⟨"RetimingBench", "isBlock", "(I)Z"⟩) ∈ lw_all := lw_g (lw_at lw_ms 0 rfl) rfl
theorem qs1 : (Cond.selects "RetimingBench" ⟨"RetimingBench", "measure", "()V"⟩ ⟨"RetimingBench", "measure", "()V"⟩) ∈ lw_all := lw_g (lw_at lw_ms 1 rfl) rfl
theorem qs2 : (Cond.selects "RetimingBench" ⟨"RetimingBench", "offer", "(IIII)V"⟩ ⟨"RetimingBench", "offer", "(IIII)V"⟩) ∈ lw_all := lw_g (lw_at lw_ms 2 rfl) rfl
theorem qs3 : (Cond.selects "RetimingBench" ⟨"RetimingBench", "greatestDelay", "()I"⟩ ⟨"RetimingBench", "greatestDelay", "()I"⟩) ∈ lw_all := lw_g (lw_at lw_ms 3 rfl) rfl
theorem qs4 : (Cond.selects "RetimingBench" ⟨"RetimingBench", "canReach", "(I)Z"⟩ ⟨"RetimingBench", "canReach", "(I)Z"⟩) ∈ lw_all := lw_g (lw_at lw_ms 4 rfl) rfl
theorem qs5 : (Cond.selects "RetimingBench" ⟨"RetimingBench", "lower", "(III)Z"⟩ ⟨"RetimingBench", "lower", "(III)Z"⟩) ∈ lw_all := lw_g (lw_at lw_ms 5 rfl) rfl
theorem qs6 : (Cond.selects "RetimingBenchModel" ⟨"RetimingBenchModel", "isBlock", "(I)Z"⟩ ⟨"RetimingBenchModel", "isBlock", "(I)Z"⟩) ∈ lw_all := lw_g (lw_at lw_ms 6 rfl) rfl
theorem qs7 : (Cond.selects "RetimingBenchModel" ⟨"RetimingBenchModel", "noLags", "()V"⟩ ⟨"RetimingBenchModel", "noLags", "()V"⟩) ∈ lw_all := lw_g (lw_at lw_ms 7 rfl) rfl
theorem qs8 : (Cond.selects "RetimingBenchModel" ⟨"RetimingBenchModel", "longest", "()I"⟩ ⟨"RetimingBenchModel", "longest", "()I"⟩) ∈ lw_all := lw_g (lw_at lw_ms 8 rfl) rfl
theorem qs9 : (Cond.selects "RetimingBenchModel" ⟨"RetimingBenchModel", "under", "(I)I"⟩ ⟨"RetimingBenchModel", "under", "(I)I"⟩) ∈ lw_all := lw_g (lw_at lw_ms 9 rfl) rfl
theorem qs10 : (Cond.selects "RetimingBenchModel" ⟨"RetimingBenchModel", "find", "()V"⟩ ⟨"RetimingBenchModel", "find", "()V"⟩) ∈ lw_all := lw_g (lw_at lw_ms 10 rfl) rfl
theorem qs11 : (Cond.selects "RetimingBenchModel" ⟨"RetimingBenchModel", "writeLags", "(I)V"⟩ ⟨"RetimingBenchModel", "writeLags", "(I)V"⟩) ∈ lw_all := lw_g (lw_at lw_ms 11 rfl) rfl
theorem qs12 : (Cond.selects "RetimingBenchModel" ⟨"RetimingBenchModel", "legal", "()Z"⟩ ⟨"RetimingBenchModel", "legal", "()Z"⟩) ∈ lw_all := lw_g (lw_at lw_ms 12 rfl) rfl
end
section
set_option maxRecDepth 100000
/-! java/lang/Object -/
def RJ0 : String := "java/lang/Object"
abbrev cJ0_init : ByteArray := object_method_1_code
def yJ0_init : MethodName := ⟨RJ0, "<init>", "()V"⟩
theorem q22 : (Jvm.Cond.instanceMethod ({ cls := "java/lang/Object", name := "<init>", desc := "()V" } : Jvm.MethodName)) ∈ lw_all := lw_g (lw_at lw_m0 9 rfl) rfl
theorem q23 : (Jvm.Cond.code ({ cls := "java/lang/Object", name := "<init>", desc := "()V" } : Jvm.MethodName) object_method_1_code (1 : Nat) (Option.none : Option Jvm.ClassFile.FieldType)) ∈ lw_all := lw_g (lw_at lw_m0 10 rfl) rfl

/-! RetimingBenchLaw -/
def RX0 : String := "RetimingBenchLaw"
abbrev cX0_cell : ByteArray := method_2_code
def yX0_cell : MethodName := ⟨RX0, "cell", "([II)I"⟩
theorem q13 : (Jvm.Cond.initialized "RetimingBenchLaw") ∈ lw_all := lw_g (lw_at lw_m0 0 rfl) rfl
theorem q16 : (Jvm.Cond.classLink "RetimingBenchLaw" (7 : Nat) "RetimingBench") ∈ lw_all := lw_g (lw_at lw_m0 3 rfl) rfl
theorem q18 : (Jvm.Cond.methodLink "RetimingBenchLaw" (15 : Nat) ({ cls := "RetimingBench", name := "<init>", desc := "(I)V" } : Jvm.MethodName)) ∈ lw_all := lw_g (lw_at lw_m0 5 rfl) rfl
theorem q60 : (Jvm.Cond.methodLink "RetimingBenchLaw" (21 : Nat) ({ cls := "RetimingBench", name := "delay", desc := "(II)Z" } : Jvm.MethodName)) ∈ lw_all := lw_g (lw_at lw_m0 47 rfl) rfl
theorem q68 : (Jvm.Cond.methodLink "RetimingBenchLaw" (26 : Nat) ({ cls := "RetimingBench", name := "wire", desc := "(III)I" } : Jvm.MethodName)) ∈ lw_all := lw_g (lw_at lw_m0 55 rfl) rfl
theorem q72 : (Jvm.Cond.methodLink "RetimingBenchLaw" (31 : Nat) ({ cls := "RetimingBench", name := "cut", desc := "(I)I" } : Jvm.MethodName)) ∈ lw_all := lw_g (lw_at lw_m0 59 rfl) rfl
theorem q76 : (Jvm.Cond.methodLink "RetimingBenchLaw" (36 : Nat) ({ cls := "RetimingBench", name := "sound", desc := "()Z" } : Jvm.MethodName)) ∈ lw_all := lw_g (lw_at lw_m0 63 rfl) rfl
theorem q88 : (Jvm.Cond.methodLink "RetimingBenchLaw" (41 : Nat) ({ cls := "RetimingBench", name := "period", desc := "()I" } : Jvm.MethodName)) ∈ lw_all := lw_g (lw_at lw_m0 75 rfl) rfl
theorem q96 : (Jvm.Cond.methodLink "RetimingBenchLaw" (46 : Nat) ({ cls := "RetimingBench", name := "best", desc := "()I" } : Jvm.MethodName)) ∈ lw_all := lw_g (lw_at lw_m0 83 rfl) rfl
theorem q109 : (Jvm.Cond.methodLink "RetimingBenchLaw" (50 : Nat) ({ cls := "RetimingBench", name := "lag", desc := "(I)I" } : Jvm.MethodName)) ∈ lw_all := lw_g (lw_at lw_m0 96 rfl) rfl
theorem q114 : (Jvm.Cond.methodLink "RetimingBenchLaw" (54 : Nat) ({ cls := "RetimingBench", name := "reachable", desc := "(I)Z" } : Jvm.MethodName)) ∈ lw_all := lw_g (lw_at lw_m0 101 rfl) rfl
theorem q118 : (Jvm.Cond.methodLink "RetimingBenchLaw" (59 : Nat) ({ cls := "RetimingBench", name := "apply", desc := "()I" } : Jvm.MethodName)) ∈ lw_all := lw_g (lw_at lw_m0 105 rfl) rfl
theorem q122 : (Jvm.Cond.methodLink "RetimingBenchLaw" (63 : Nat) ({ cls := "RetimingBench", name := "registers", desc := "(I)I" } : Jvm.MethodName)) ∈ lw_all := lw_g (lw_at lw_m0 109 rfl) rfl
theorem q126 : (Jvm.Cond.methodLink "RetimingBenchLaw" (67 : Nat) ({ cls := "RetimingBench", name := "fewest", desc := "(II)I" } : Jvm.MethodName)) ∈ lw_all := lw_g (lw_at lw_m0 113 rfl) rfl
theorem q130 : (Jvm.Cond.methodLink "RetimingBenchLaw" (9 : Nat) ({ cls := "RetimingBenchLaw", name := "cell", desc := "([II)I" } : Jvm.MethodName)) ∈ lw_all := lw_g (lw_at lw_m0 117 rfl) rfl
theorem q131 : (Jvm.Cond.static ({ cls := "RetimingBenchLaw", name := "cell", desc := "([II)I" } : Jvm.MethodName)) ∈ lw_all := lw_g (lw_at lw_m0 118 rfl) rfl
theorem q132 : (Jvm.Cond.code ({ cls := "RetimingBenchLaw", name := "cell", desc := "([II)I" } : Jvm.MethodName) method_2_code (2 : Nat) (Option.some Jvm.ClassFile.FieldType.int)) ∈ lw_all := lw_g (lw_at lw_m0 119 rfl) rfl
theorem q133 : (Jvm.Cond.classLink "RetimingBenchLaw" (18 : Nat) "RetimingBenchModel") ∈ lw_all := lw_g (lw_at lw_m0 120 rfl) rfl
theorem q135 : (Jvm.Cond.methodLink "RetimingBenchLaw" (20 : Nat) ({ cls := "RetimingBenchModel", name := "<init>", desc := "(I)V" } : Jvm.MethodName)) ∈ lw_all := lw_g (lw_at lw_m0 122 rfl) rfl
theorem q176 : (Jvm.Cond.methodLink "RetimingBenchLaw" (25 : Nat) ({ cls := "RetimingBenchModel", name := "delay", desc := "(II)Z" } : Jvm.MethodName)) ∈ lw_all := lw_g (lw_at lw_m0 163 rfl) rfl
theorem q184 : (Jvm.Cond.methodLink "RetimingBenchLaw" (30 : Nat) ({ cls := "RetimingBenchModel", name := "wire", desc := "(III)I" } : Jvm.MethodName)) ∈ lw_all := lw_g (lw_at lw_m0 171 rfl) rfl
theorem q188 : (Jvm.Cond.methodLink "RetimingBenchLaw" (35 : Nat) ({ cls := "RetimingBenchModel", name := "cut", desc := "(I)I" } : Jvm.MethodName)) ∈ lw_all := lw_g (lw_at lw_m0 175 rfl) rfl
theorem q192 : (Jvm.Cond.methodLink "RetimingBenchLaw" (40 : Nat) ({ cls := "RetimingBenchModel", name := "sound", desc := "()Z" } : Jvm.MethodName)) ∈ lw_all := lw_g (lw_at lw_m0 179 rfl) rfl
theorem q200 : (Jvm.Cond.methodLink "RetimingBenchLaw" (45 : Nat) ({ cls := "RetimingBenchModel", name := "period", desc := "()I" } : Jvm.MethodName)) ∈ lw_all := lw_g (lw_at lw_m0 187 rfl) rfl
theorem q213 : (Jvm.Cond.methodLink "RetimingBenchLaw" (49 : Nat) ({ cls := "RetimingBenchModel", name := "best", desc := "()I" } : Jvm.MethodName)) ∈ lw_all := lw_g (lw_at lw_m0 200 rfl) rfl
theorem q229 : (Jvm.Cond.methodLink "RetimingBenchLaw" (53 : Nat) ({ cls := "RetimingBenchModel", name := "lag", desc := "(I)I" } : Jvm.MethodName)) ∈ lw_all := lw_g (lw_at lw_m0 216 rfl) rfl
theorem q233 : (Jvm.Cond.methodLink "RetimingBenchLaw" (58 : Nat) ({ cls := "RetimingBenchModel", name := "reachable", desc := "(I)Z" } : Jvm.MethodName)) ∈ lw_all := lw_g (lw_at lw_m0 220 rfl) rfl
theorem q237 : (Jvm.Cond.methodLink "RetimingBenchLaw" (62 : Nat) ({ cls := "RetimingBenchModel", name := "apply", desc := "()I" } : Jvm.MethodName)) ∈ lw_all := lw_g (lw_at lw_m0 224 rfl) rfl
theorem q241 : (Jvm.Cond.methodLink "RetimingBenchLaw" (66 : Nat) ({ cls := "RetimingBenchModel", name := "registers", desc := "(I)I" } : Jvm.MethodName)) ∈ lw_all := lw_g (lw_at lw_m0 228 rfl) rfl
theorem q245 : (Jvm.Cond.methodLink "RetimingBenchLaw" (71 : Nat) ({ cls := "RetimingBenchModel", name := "fewest", desc := "(II)I" } : Jvm.MethodName)) ∈ lw_all := lw_g (lw_at lw_m0 232 rfl) rfl

/-! RetimingBench -/
def RX1 : String := "RetimingBench"
def TX1 : u_T := fun k => match k with
  | 0 => ("RetimingBench", "blockCount", "I", false)
  | 1 => ("RetimingBench", "delays", "[B", true)
  | 2 => ("RetimingBench", "wireCount", "I", false)
  | 3 => ("RetimingBench", "fromBlock", "[B", true)
  | 4 => ("RetimingBench", "toBlock", "[B", true)
  | 5 => ("RetimingBench", "held", "[I", true)
  | 6 => ("RetimingBench", "known", "Z", false)
  | 7 => ("RetimingBench", "isSound", "Z", false)
  | 8 => ("RetimingBench", "least", "[I", true)
  | 9 => ("RetimingBench", "longest", "[I", true)
  | _ => ("RetimingBench", "lags", "[I", true)
def tyX1 : Nat → FieldType := fun k => match k with
  | 0 => .int
  | 1 => .array .byte
  | 2 => .int
  | 3 => .array .byte
  | 4 => .array .byte
  | 5 => .array .int
  | 6 => .boolean
  | 7 => .boolean
  | 8 => .array .int
  | 9 => .array .int
  | _ => .array .int
abbrev wsX10 : List Cond := u_ws RX1 TX1 11
theorem nmX1 : ∀ a, a < 11 → ∀ b, b < 11 → a ≠ b → (TX1 a).2.1 ≠ (TX1 b).2.1 := by decide +kernel
theorem tyX1_ok : ∀ k, k < 11 → parseFieldDescriptor (TX1 k).2.2.1 = some (tyX1 k) := by decide +kernel
abbrev cX1_init : ByteArray := prog_1_method_1_code
def yX1_init : MethodName := ⟨RX1, "<init>", "(I)V"⟩
abbrev cX1_delay : ByteArray := prog_1_method_2_code
def yX1_delay : MethodName := ⟨RX1, "delay", "(II)Z"⟩
abbrev cX1_isBlock : ByteArray := prog_1_method_5_code
def yX1_isBlock : MethodName := ⟨RX1, "isBlock", "(I)Z"⟩
abbrev cX1_wire : ByteArray := prog_1_method_3_code
def yX1_wire : MethodName := ⟨RX1, "wire", "(III)I"⟩
abbrev cX1_cut : ByteArray := prog_1_method_4_code
def yX1_cut : MethodName := ⟨RX1, "cut", "(I)I"⟩
abbrev cX1_sound : ByteArray := prog_1_method_6_code
def yX1_sound : MethodName := ⟨RX1, "sound", "()Z"⟩
abbrev cX1_measure : ByteArray := prog_1_method_15_code
def yX1_measure : MethodName := ⟨RX1, "measure", "()V"⟩
abbrev cX1_offer : ByteArray := prog_1_method_16_code
def yX1_offer : MethodName := ⟨RX1, "offer", "(IIII)V"⟩
abbrev cX1_period : ByteArray := prog_1_method_7_code
def yX1_period : MethodName := ⟨RX1, "period", "()I"⟩
abbrev cX1_greatestDelay : ByteArray := prog_1_method_14_code
def yX1_greatestDelay : MethodName := ⟨RX1, "greatestDelay", "()I"⟩
abbrev cX1_best : ByteArray := prog_1_method_8_code
def yX1_best : MethodName := ⟨RX1, "best", "()I"⟩
abbrev cX1_canReach : ByteArray := prog_1_method_17_code
def yX1_canReach : MethodName := ⟨RX1, "canReach", "(I)Z"⟩
abbrev cX1_lower : ByteArray := prog_1_method_18_code
def yX1_lower : MethodName := ⟨RX1, "lower", "(III)Z"⟩
abbrev cX1_lag : ByteArray := prog_1_method_9_code
def yX1_lag : MethodName := ⟨RX1, "lag", "(I)I"⟩
abbrev cX1_reachable : ByteArray := prog_1_method_10_code
def yX1_reachable : MethodName := ⟨RX1, "reachable", "(I)Z"⟩
abbrev cX1_apply : ByteArray := prog_1_method_11_code
def yX1_apply : MethodName := ⟨RX1, "apply", "()I"⟩
abbrev cX1_registers : ByteArray := prog_1_method_12_code
def yX1_registers : MethodName := ⟨RX1, "registers", "(I)I"⟩
abbrev cX1_fewest : ByteArray := prog_1_method_13_code
def yX1_fewest : MethodName := ⟨RX1, "fewest", "(II)I"⟩
theorem q14 : (Jvm.Cond.initialized "RetimingBench") ∈ lw_all := lw_g (lw_at lw_m0 1 rfl) rfl
theorem q17 : (Jvm.Cond.instantiable "RetimingBench" (11 : Nat)) ∈ lw_all := lw_g (lw_at lw_m0 4 rfl) rfl
theorem q19 : (Jvm.Cond.instanceMethod ({ cls := "RetimingBench", name := "<init>", desc := "(I)V" } : Jvm.MethodName)) ∈ lw_all := lw_g (lw_at lw_m0 6 rfl) rfl
theorem q20 : (Jvm.Cond.code ({ cls := "RetimingBench", name := "<init>", desc := "(I)V" } : Jvm.MethodName) prog_1_method_1_code (2 : Nat) (Option.none : Option Jvm.ClassFile.FieldType)) ∈ lw_all := lw_g (lw_at lw_m0 7 rfl) rfl
theorem q21 : (Jvm.Cond.methodLink "RetimingBench" (1 : Nat) ({ cls := "java/lang/Object", name := "<init>", desc := "()V" } : Jvm.MethodName)) ∈ lw_all := lw_g (lw_at lw_m0 8 rfl) rfl
theorem q24 : (Jvm.Cond.fieldLink "RetimingBench" (32 : Nat) "RetimingBench" "blockCount" "I") ∈ lw_all := lw_g (lw_at lw_m0 11 rfl) rfl
theorem q25 : (Jvm.Cond.fieldLink "RetimingBench" (7 : Nat) "RetimingBench" "delays" "[B") ∈ lw_all := lw_g (lw_at lw_m0 12 rfl) rfl
theorem q26 : (Jvm.Cond.fieldLink "RetimingBench" (44 : Nat) "RetimingBench" "wireCount" "I") ∈ lw_all := lw_g (lw_at lw_m0 13 rfl) rfl
theorem q27 : (Jvm.Cond.fieldLink "RetimingBench" (13 : Nat) "RetimingBench" "fromBlock" "[B") ∈ lw_all := lw_g (lw_at lw_m0 14 rfl) rfl
theorem q28 : (Jvm.Cond.fieldLink "RetimingBench" (16 : Nat) "RetimingBench" "toBlock" "[B") ∈ lw_all := lw_g (lw_at lw_m0 15 rfl) rfl
theorem q29 : (Jvm.Cond.fieldLink "RetimingBench" (19 : Nat) "RetimingBench" "held" "[I") ∈ lw_all := lw_g (lw_at lw_m0 16 rfl) rfl
theorem q30 : (Jvm.Cond.fieldLink "RetimingBench" (40 : Nat) "RetimingBench" "known" "Z") ∈ lw_all := lw_g (lw_at lw_m0 17 rfl) rfl
theorem q31 : (Jvm.Cond.fieldLink "RetimingBench" (50 : Nat) "RetimingBench" "isSound" "Z") ∈ lw_all := lw_g (lw_at lw_m0 18 rfl) rfl
theorem q32 : (Jvm.Cond.fieldLink "RetimingBench" (23 : Nat) "RetimingBench" "least" "[I") ∈ lw_all := lw_g (lw_at lw_m0 19 rfl) rfl
theorem q33 : (Jvm.Cond.fieldLink "RetimingBench" (26 : Nat) "RetimingBench" "longest" "[I") ∈ lw_all := lw_g (lw_at lw_m0 20 rfl) rfl
theorem q34 : (Jvm.Cond.fieldLink "RetimingBench" (29 : Nat) "RetimingBench" "lags" "[I") ∈ lw_all := lw_g (lw_at lw_m0 21 rfl) rfl
theorem q35 : (Jvm.Cond.lays "RetimingBench" "RetimingBench" "blockCount" "I") ∈ lw_all := lw_g (lw_at lw_m0 22 rfl) rfl
theorem q36 : (Jvm.Cond.soleField "RetimingBench" "blockCount") ∈ lw_all := lw_g (lw_at lw_m0 23 rfl) rfl
theorem q37 : (Jvm.Cond.laysFinal "RetimingBench" "RetimingBench" "delays" "[B") ∈ lw_all := lw_g (lw_at lw_m0 24 rfl) rfl
theorem q38 : (Jvm.Cond.soleField "RetimingBench" "delays") ∈ lw_all := lw_g (lw_at lw_m0 25 rfl) rfl
theorem q39 : (Jvm.Cond.lays "RetimingBench" "RetimingBench" "wireCount" "I") ∈ lw_all := lw_g (lw_at lw_m0 26 rfl) rfl
theorem q40 : (Jvm.Cond.soleField "RetimingBench" "wireCount") ∈ lw_all := lw_g (lw_at lw_m0 27 rfl) rfl
theorem q41 : (Jvm.Cond.laysFinal "RetimingBench" "RetimingBench" "fromBlock" "[B") ∈ lw_all := lw_g (lw_at lw_m0 28 rfl) rfl
theorem q42 : (Jvm.Cond.soleField "RetimingBench" "fromBlock") ∈ lw_all := lw_g (lw_at lw_m0 29 rfl) rfl
theorem q43 : (Jvm.Cond.laysFinal "RetimingBench" "RetimingBench" "toBlock" "[B") ∈ lw_all := lw_g (lw_at lw_m0 30 rfl) rfl
theorem q44 : (Jvm.Cond.soleField "RetimingBench" "toBlock") ∈ lw_all := lw_g (lw_at lw_m0 31 rfl) rfl
theorem q45 : (Jvm.Cond.laysFinal "RetimingBench" "RetimingBench" "held" "[I") ∈ lw_all := lw_g (lw_at lw_m0 32 rfl) rfl
theorem q46 : (Jvm.Cond.soleField "RetimingBench" "held") ∈ lw_all := lw_g (lw_at lw_m0 33 rfl) rfl
theorem q47 : (Jvm.Cond.lays "RetimingBench" "RetimingBench" "known" "Z") ∈ lw_all := lw_g (lw_at lw_m0 34 rfl) rfl
theorem q48 : (Jvm.Cond.soleField "RetimingBench" "known") ∈ lw_all := lw_g (lw_at lw_m0 35 rfl) rfl
theorem q49 : (Jvm.Cond.lays "RetimingBench" "RetimingBench" "isSound" "Z") ∈ lw_all := lw_g (lw_at lw_m0 36 rfl) rfl
theorem q50 : (Jvm.Cond.soleField "RetimingBench" "isSound") ∈ lw_all := lw_g (lw_at lw_m0 37 rfl) rfl
theorem q51 : (Jvm.Cond.laysFinal "RetimingBench" "RetimingBench" "least" "[I") ∈ lw_all := lw_g (lw_at lw_m0 38 rfl) rfl
theorem q52 : (Jvm.Cond.soleField "RetimingBench" "least") ∈ lw_all := lw_g (lw_at lw_m0 39 rfl) rfl
theorem q53 : (Jvm.Cond.laysFinal "RetimingBench" "RetimingBench" "longest" "[I") ∈ lw_all := lw_g (lw_at lw_m0 40 rfl) rfl
theorem q54 : (Jvm.Cond.soleField "RetimingBench" "longest") ∈ lw_all := lw_g (lw_at lw_m0 41 rfl) rfl
theorem q55 : (Jvm.Cond.laysFinal "RetimingBench" "RetimingBench" "lags" "[I") ∈ lw_all := lw_g (lw_at lw_m0 42 rfl) rfl
theorem q56 : (Jvm.Cond.soleField "RetimingBench" "lags") ∈ lw_all := lw_g (lw_at lw_m0 43 rfl) rfl
theorem q57 : (Jvm.Cond.superclass "RetimingBench" "java/lang/Object") ∈ lw_all := lw_g (lw_at lw_m0 44 rfl) rfl
theorem q61 : (Jvm.Cond.instanceMethod ({ cls := "RetimingBench", name := "delay", desc := "(II)Z" } : Jvm.MethodName)) ∈ lw_all := lw_g (lw_at lw_m0 48 rfl) rfl
theorem q62 : (Jvm.Cond.selects "RetimingBench" ({ cls := "RetimingBench", name := "delay", desc := "(II)Z" } : Jvm.MethodName) ({ cls := "RetimingBench", name := "delay", desc := "(II)Z" } : Jvm.MethodName)) ∈ lw_all := lw_g (lw_at lw_m0 49 rfl) rfl
theorem q63 : (Jvm.Cond.code ({ cls := "RetimingBench", name := "delay", desc := "(II)Z" } : Jvm.MethodName) prog_1_method_2_code (3 : Nat) (Option.some Jvm.ClassFile.FieldType.boolean)) ∈ lw_all := lw_g (lw_at lw_m0 50 rfl) rfl
theorem q64 : (Jvm.Cond.methodLink "RetimingBench" (36 : Nat) ({ cls := "RetimingBench", name := "isBlock", desc := "(I)Z" } : Jvm.MethodName)) ∈ lw_all := lw_g (lw_at lw_m0 51 rfl) rfl
theorem q65 : (Jvm.Cond.privateMethod ({ cls := "RetimingBench", name := "isBlock", desc := "(I)Z" } : Jvm.MethodName)) ∈ lw_tbl := lw_at lw_m0 52 rfl
theorem q66 : (Jvm.Cond.instanceMethod ({ cls := "RetimingBench", name := "isBlock", desc := "(I)Z" } : Jvm.MethodName)) ∈ lw_all := lw_g (lw_at lw_m0 53 rfl) rfl
theorem q67 : (Jvm.Cond.code ({ cls := "RetimingBench", name := "isBlock", desc := "(I)Z" } : Jvm.MethodName) prog_1_method_5_code (2 : Nat) (Option.some Jvm.ClassFile.FieldType.boolean)) ∈ lw_all := lw_g (lw_at lw_m0 54 rfl) rfl
theorem q69 : (Jvm.Cond.instanceMethod ({ cls := "RetimingBench", name := "wire", desc := "(III)I" } : Jvm.MethodName)) ∈ lw_all := lw_g (lw_at lw_m0 56 rfl) rfl
theorem q70 : (Jvm.Cond.selects "RetimingBench" ({ cls := "RetimingBench", name := "wire", desc := "(III)I" } : Jvm.MethodName) ({ cls := "RetimingBench", name := "wire", desc := "(III)I" } : Jvm.MethodName)) ∈ lw_all := lw_g (lw_at lw_m0 57 rfl) rfl
theorem q71 : (Jvm.Cond.code ({ cls := "RetimingBench", name := "wire", desc := "(III)I" } : Jvm.MethodName) prog_1_method_3_code (4 : Nat) (Option.some Jvm.ClassFile.FieldType.int)) ∈ lw_all := lw_g (lw_at lw_m0 58 rfl) rfl
theorem q73 : (Jvm.Cond.instanceMethod ({ cls := "RetimingBench", name := "cut", desc := "(I)I" } : Jvm.MethodName)) ∈ lw_all := lw_g (lw_at lw_m0 60 rfl) rfl
theorem q74 : (Jvm.Cond.selects "RetimingBench" ({ cls := "RetimingBench", name := "cut", desc := "(I)I" } : Jvm.MethodName) ({ cls := "RetimingBench", name := "cut", desc := "(I)I" } : Jvm.MethodName)) ∈ lw_all := lw_g (lw_at lw_m0 61 rfl) rfl
theorem q75 : (Jvm.Cond.code ({ cls := "RetimingBench", name := "cut", desc := "(I)I" } : Jvm.MethodName) prog_1_method_4_code (3 : Nat) (Option.some Jvm.ClassFile.FieldType.int)) ∈ lw_all := lw_g (lw_at lw_m0 62 rfl) rfl
theorem q77 : (Jvm.Cond.instanceMethod ({ cls := "RetimingBench", name := "sound", desc := "()Z" } : Jvm.MethodName)) ∈ lw_all := lw_g (lw_at lw_m0 64 rfl) rfl
theorem q78 : (Jvm.Cond.selects "RetimingBench" ({ cls := "RetimingBench", name := "sound", desc := "()Z" } : Jvm.MethodName) ({ cls := "RetimingBench", name := "sound", desc := "()Z" } : Jvm.MethodName)) ∈ lw_all := lw_g (lw_at lw_m0 65 rfl) rfl
theorem q79 : (Jvm.Cond.code ({ cls := "RetimingBench", name := "sound", desc := "()Z" } : Jvm.MethodName) prog_1_method_6_code (1 : Nat) (Option.some Jvm.ClassFile.FieldType.boolean)) ∈ lw_all := lw_g (lw_at lw_m0 66 rfl) rfl
theorem q80 : (Jvm.Cond.methodLink "RetimingBench" (47 : Nat) ({ cls := "RetimingBench", name := "measure", desc := "()V" } : Jvm.MethodName)) ∈ lw_all := lw_g (lw_at lw_m0 67 rfl) rfl
theorem q81 : (Jvm.Cond.privateMethod ({ cls := "RetimingBench", name := "measure", desc := "()V" } : Jvm.MethodName)) ∈ lw_tbl := lw_at lw_m0 68 rfl
theorem q82 : (Jvm.Cond.instanceMethod ({ cls := "RetimingBench", name := "measure", desc := "()V" } : Jvm.MethodName)) ∈ lw_all := lw_g (lw_at lw_m0 69 rfl) rfl
theorem q83 : (Jvm.Cond.code ({ cls := "RetimingBench", name := "measure", desc := "()V" } : Jvm.MethodName) prog_1_method_15_code (7 : Nat) (Option.none : Option Jvm.ClassFile.FieldType)) ∈ lw_all := lw_g (lw_at lw_m0 70 rfl) rfl
theorem q84 : (Jvm.Cond.methodLink "RetimingBench" (66 : Nat) ({ cls := "RetimingBench", name := "offer", desc := "(IIII)V" } : Jvm.MethodName)) ∈ lw_all := lw_g (lw_at lw_m0 71 rfl) rfl
theorem q85 : (Jvm.Cond.privateMethod ({ cls := "RetimingBench", name := "offer", desc := "(IIII)V" } : Jvm.MethodName)) ∈ lw_tbl := lw_at lw_m0 72 rfl
theorem q86 : (Jvm.Cond.instanceMethod ({ cls := "RetimingBench", name := "offer", desc := "(IIII)V" } : Jvm.MethodName)) ∈ lw_all := lw_g (lw_at lw_m0 73 rfl) rfl
theorem q87 : (Jvm.Cond.code ({ cls := "RetimingBench", name := "offer", desc := "(IIII)V" } : Jvm.MethodName) prog_1_method_16_code (6 : Nat) (Option.none : Option Jvm.ClassFile.FieldType)) ∈ lw_all := lw_g (lw_at lw_m0 74 rfl) rfl
theorem q89 : (Jvm.Cond.instanceMethod ({ cls := "RetimingBench", name := "period", desc := "()I" } : Jvm.MethodName)) ∈ lw_all := lw_g (lw_at lw_m0 76 rfl) rfl
theorem q90 : (Jvm.Cond.selects "RetimingBench" ({ cls := "RetimingBench", name := "period", desc := "()I" } : Jvm.MethodName) ({ cls := "RetimingBench", name := "period", desc := "()I" } : Jvm.MethodName)) ∈ lw_all := lw_g (lw_at lw_m0 77 rfl) rfl
theorem q91 : (Jvm.Cond.code ({ cls := "RetimingBench", name := "period", desc := "()I" } : Jvm.MethodName) prog_1_method_7_code (3 : Nat) (Option.some Jvm.ClassFile.FieldType.int)) ∈ lw_all := lw_g (lw_at lw_m0 78 rfl) rfl
theorem q92 : (Jvm.Cond.methodLink "RetimingBench" (53 : Nat) ({ cls := "RetimingBench", name := "greatestDelay", desc := "()I" } : Jvm.MethodName)) ∈ lw_all := lw_g (lw_at lw_m0 79 rfl) rfl
theorem q93 : (Jvm.Cond.privateMethod ({ cls := "RetimingBench", name := "greatestDelay", desc := "()I" } : Jvm.MethodName)) ∈ lw_tbl := lw_at lw_m0 80 rfl
theorem q94 : (Jvm.Cond.instanceMethod ({ cls := "RetimingBench", name := "greatestDelay", desc := "()I" } : Jvm.MethodName)) ∈ lw_all := lw_g (lw_at lw_m0 81 rfl) rfl
theorem q95 : (Jvm.Cond.code ({ cls := "RetimingBench", name := "greatestDelay", desc := "()I" } : Jvm.MethodName) prog_1_method_14_code (3 : Nat) (Option.some Jvm.ClassFile.FieldType.int)) ∈ lw_all := lw_g (lw_at lw_m0 82 rfl) rfl
theorem q97 : (Jvm.Cond.instanceMethod ({ cls := "RetimingBench", name := "best", desc := "()I" } : Jvm.MethodName)) ∈ lw_all := lw_g (lw_at lw_m0 84 rfl) rfl
theorem q98 : (Jvm.Cond.selects "RetimingBench" ({ cls := "RetimingBench", name := "best", desc := "()I" } : Jvm.MethodName) ({ cls := "RetimingBench", name := "best", desc := "()I" } : Jvm.MethodName)) ∈ lw_all := lw_g (lw_at lw_m0 85 rfl) rfl
theorem q99 : (Jvm.Cond.code ({ cls := "RetimingBench", name := "best", desc := "()I" } : Jvm.MethodName) prog_1_method_8_code (4 : Nat) (Option.some Jvm.ClassFile.FieldType.int)) ∈ lw_all := lw_g (lw_at lw_m0 86 rfl) rfl
theorem q100 : (Jvm.Cond.methodLink "RetimingBench" (57 : Nat) ({ cls := "RetimingBench", name := "period", desc := "()I" } : Jvm.MethodName)) ∈ lw_all := lw_g (lw_at lw_m0 87 rfl) rfl
theorem q101 : (Jvm.Cond.methodLink "RetimingBench" (60 : Nat) ({ cls := "RetimingBench", name := "canReach", desc := "(I)Z" } : Jvm.MethodName)) ∈ lw_all := lw_g (lw_at lw_m0 88 rfl) rfl
theorem q102 : (Jvm.Cond.privateMethod ({ cls := "RetimingBench", name := "canReach", desc := "(I)Z" } : Jvm.MethodName)) ∈ lw_tbl := lw_at lw_m0 89 rfl
theorem q103 : (Jvm.Cond.instanceMethod ({ cls := "RetimingBench", name := "canReach", desc := "(I)Z" } : Jvm.MethodName)) ∈ lw_all := lw_g (lw_at lw_m0 90 rfl) rfl
theorem q104 : (Jvm.Cond.code ({ cls := "RetimingBench", name := "canReach", desc := "(I)Z" } : Jvm.MethodName) prog_1_method_17_code (6 : Nat) (Option.some Jvm.ClassFile.FieldType.boolean)) ∈ lw_all := lw_g (lw_at lw_m0 91 rfl) rfl
theorem q105 : (Jvm.Cond.methodLink "RetimingBench" (70 : Nat) ({ cls := "RetimingBench", name := "lower", desc := "(III)Z" } : Jvm.MethodName)) ∈ lw_all := lw_g (lw_at lw_m0 92 rfl) rfl
theorem q106 : (Jvm.Cond.privateMethod ({ cls := "RetimingBench", name := "lower", desc := "(III)Z" } : Jvm.MethodName)) ∈ lw_tbl := lw_at lw_m0 93 rfl
theorem q107 : (Jvm.Cond.instanceMethod ({ cls := "RetimingBench", name := "lower", desc := "(III)Z" } : Jvm.MethodName)) ∈ lw_all := lw_g (lw_at lw_m0 94 rfl) rfl
theorem q108 : (Jvm.Cond.code ({ cls := "RetimingBench", name := "lower", desc := "(III)Z" } : Jvm.MethodName) prog_1_method_18_code (4 : Nat) (Option.some Jvm.ClassFile.FieldType.boolean)) ∈ lw_all := lw_g (lw_at lw_m0 95 rfl) rfl
theorem q110 : (Jvm.Cond.instanceMethod ({ cls := "RetimingBench", name := "lag", desc := "(I)I" } : Jvm.MethodName)) ∈ lw_all := lw_g (lw_at lw_m0 97 rfl) rfl
theorem q111 : (Jvm.Cond.selects "RetimingBench" ({ cls := "RetimingBench", name := "lag", desc := "(I)I" } : Jvm.MethodName) ({ cls := "RetimingBench", name := "lag", desc := "(I)I" } : Jvm.MethodName)) ∈ lw_all := lw_g (lw_at lw_m0 98 rfl) rfl
theorem q112 : (Jvm.Cond.code ({ cls := "RetimingBench", name := "lag", desc := "(I)I" } : Jvm.MethodName) prog_1_method_9_code (3 : Nat) (Option.some Jvm.ClassFile.FieldType.int)) ∈ lw_all := lw_g (lw_at lw_m0 99 rfl) rfl
theorem q113 : (Jvm.Cond.methodLink "RetimingBench" (63 : Nat) ({ cls := "RetimingBench", name := "best", desc := "()I" } : Jvm.MethodName)) ∈ lw_all := lw_g (lw_at lw_m0 100 rfl) rfl
theorem q115 : (Jvm.Cond.instanceMethod ({ cls := "RetimingBench", name := "reachable", desc := "(I)Z" } : Jvm.MethodName)) ∈ lw_all := lw_g (lw_at lw_m0 102 rfl) rfl
theorem q116 : (Jvm.Cond.selects "RetimingBench" ({ cls := "RetimingBench", name := "reachable", desc := "(I)Z" } : Jvm.MethodName) ({ cls := "RetimingBench", name := "reachable", desc := "(I)Z" } : Jvm.MethodName)) ∈ lw_all := lw_g (lw_at lw_m0 103 rfl) rfl
theorem q117 : (Jvm.Cond.code ({ cls := "RetimingBench", name := "reachable", desc := "(I)Z" } : Jvm.MethodName) prog_1_method_10_code (2 : Nat) (Option.some Jvm.ClassFile.FieldType.boolean)) ∈ lw_all := lw_g (lw_at lw_m0 104 rfl) rfl
theorem q119 : (Jvm.Cond.instanceMethod ({ cls := "RetimingBench", name := "apply", desc := "()I" } : Jvm.MethodName)) ∈ lw_all := lw_g (lw_at lw_m0 106 rfl) rfl
theorem q120 : (Jvm.Cond.selects "RetimingBench" ({ cls := "RetimingBench", name := "apply", desc := "()I" } : Jvm.MethodName) ({ cls := "RetimingBench", name := "apply", desc := "()I" } : Jvm.MethodName)) ∈ lw_all := lw_g (lw_at lw_m0 107 rfl) rfl
theorem q121 : (Jvm.Cond.code ({ cls := "RetimingBench", name := "apply", desc := "()I" } : Jvm.MethodName) prog_1_method_11_code (5 : Nat) (Option.some Jvm.ClassFile.FieldType.int)) ∈ lw_all := lw_g (lw_at lw_m0 108 rfl) rfl
theorem q123 : (Jvm.Cond.instanceMethod ({ cls := "RetimingBench", name := "registers", desc := "(I)I" } : Jvm.MethodName)) ∈ lw_all := lw_g (lw_at lw_m0 110 rfl) rfl
theorem q124 : (Jvm.Cond.selects "RetimingBench" ({ cls := "RetimingBench", name := "registers", desc := "(I)I" } : Jvm.MethodName) ({ cls := "RetimingBench", name := "registers", desc := "(I)I" } : Jvm.MethodName)) ∈ lw_all := lw_g (lw_at lw_m0 111 rfl) rfl
theorem q125 : (Jvm.Cond.code ({ cls := "RetimingBench", name := "registers", desc := "(I)I" } : Jvm.MethodName) prog_1_method_12_code (2 : Nat) (Option.some Jvm.ClassFile.FieldType.int)) ∈ lw_all := lw_g (lw_at lw_m0 112 rfl) rfl
theorem q127 : (Jvm.Cond.instanceMethod ({ cls := "RetimingBench", name := "fewest", desc := "(II)I" } : Jvm.MethodName)) ∈ lw_all := lw_g (lw_at lw_m0 114 rfl) rfl
theorem q128 : (Jvm.Cond.selects "RetimingBench" ({ cls := "RetimingBench", name := "fewest", desc := "(II)I" } : Jvm.MethodName) ({ cls := "RetimingBench", name := "fewest", desc := "(II)I" } : Jvm.MethodName)) ∈ lw_all := lw_g (lw_at lw_m0 115 rfl) rfl
theorem q129 : (Jvm.Cond.code ({ cls := "RetimingBench", name := "fewest", desc := "(II)I" } : Jvm.MethodName) prog_1_method_13_code (3 : Nat) (Option.some Jvm.ClassFile.FieldType.int)) ∈ lw_all := lw_g (lw_at lw_m0 116 rfl) rfl
theorem in_X1 : ∀ w ∈ wsX10, w ∈ lw_all := lw_in wsX10 [35, 37, 39, 41, 43, 45, 47, 49, 51, 53, 55] (by decide +kernel) (by decide +kernel)

/-! RetimingBenchModel -/
def RX2 : String := "RetimingBenchModel"
def TX2 : u_T := fun k => match k with
  | 0 => ("RetimingBenchModel", "n", "I", false)
  | 1 => ("RetimingBenchModel", "m", "I", false)
  | 2 => ("RetimingBenchModel", "delays", "[I", false)
  | 3 => ("RetimingBenchModel", "from", "[I", false)
  | 4 => ("RetimingBenchModel", "to", "[I", false)
  | 5 => ("RetimingBenchModel", "regs", "[I", false)
  | 6 => ("RetimingBenchModel", "lags", "[I", false)
  | 7 => ("RetimingBenchModel", "length", "[I", false)
  | 8 => ("RetimingBenchModel", "known", "Z", false)
  | 9 => ("RetimingBenchModel", "bestPeriod", "I", false)
  | 10 => ("RetimingBenchModel", "plan", "[I", false)
  | _ => ("RetimingBenchModel", "reach", "[I", false)
def tyX2 : Nat → FieldType := fun k => match k with
  | 0 => .int
  | 1 => .int
  | 2 => .array .int
  | 3 => .array .int
  | 4 => .array .int
  | 5 => .array .int
  | 6 => .array .int
  | 7 => .array .int
  | 8 => .boolean
  | 9 => .int
  | 10 => .array .int
  | _ => .array .int
abbrev wsX20 : List Cond := u_ws RX2 TX2 12
theorem nmX2 : ∀ a, a < 12 → ∀ b, b < 12 → a ≠ b → (TX2 a).2.1 ≠ (TX2 b).2.1 := by decide +kernel
theorem tyX2_ok : ∀ k, k < 12 → parseFieldDescriptor (TX2 k).2.2.1 = some (tyX2 k) := by decide +kernel
abbrev cX2_init : ByteArray := prog_3_method_1_code
def yX2_init : MethodName := ⟨RX2, "<init>", "(I)V"⟩
abbrev cX2_delay : ByteArray := prog_3_method_3_code
def yX2_delay : MethodName := ⟨RX2, "delay", "(II)Z"⟩
abbrev cX2_isBlock : ByteArray := prog_3_method_2_code
def yX2_isBlock : MethodName := ⟨RX2, "isBlock", "(I)Z"⟩
abbrev cX2_wire : ByteArray := prog_3_method_4_code
def yX2_wire : MethodName := ⟨RX2, "wire", "(III)I"⟩
abbrev cX2_cut : ByteArray := prog_3_method_5_code
def yX2_cut : MethodName := ⟨RX2, "cut", "(I)I"⟩
abbrev cX2_sound : ByteArray := prog_3_method_10_code
def yX2_sound : MethodName := ⟨RX2, "sound", "()Z"⟩
abbrev cX2_noLags : ByteArray := prog_3_method_9_code
def yX2_noLags : MethodName := ⟨RX2, "noLags", "()V"⟩
abbrev cX2_period : ByteArray := prog_3_method_11_code
def yX2_period : MethodName := ⟨RX2, "period", "()I"⟩
abbrev cX2_longest : ByteArray := prog_3_method_8_code
def yX2_longest : MethodName := ⟨RX2, "longest", "()I"⟩
abbrev cX2_under : ByteArray := prog_3_method_6_code
def yX2_under : MethodName := ⟨RX2, "under", "(I)I"⟩
abbrev cX2_best : ByteArray := prog_3_method_14_code
def yX2_best : MethodName := ⟨RX2, "best", "()I"⟩
abbrev cX2_find : ByteArray := prog_3_method_13_code
def yX2_find : MethodName := ⟨RX2, "find", "()V"⟩
abbrev cX2_writeLags : ByteArray := prog_3_method_12_code
def yX2_writeLags : MethodName := ⟨RX2, "writeLags", "(I)V"⟩
abbrev cX2_legal : ByteArray := prog_3_method_7_code
def yX2_legal : MethodName := ⟨RX2, "legal", "()Z"⟩
abbrev cX2_lag : ByteArray := prog_3_method_15_code
def yX2_lag : MethodName := ⟨RX2, "lag", "(I)I"⟩
abbrev cX2_reachable : ByteArray := prog_3_method_16_code
def yX2_reachable : MethodName := ⟨RX2, "reachable", "(I)Z"⟩
abbrev cX2_apply : ByteArray := prog_3_method_17_code
def yX2_apply : MethodName := ⟨RX2, "apply", "()I"⟩
abbrev cX2_registers : ByteArray := prog_3_method_18_code
def yX2_registers : MethodName := ⟨RX2, "registers", "(I)I"⟩
abbrev cX2_fewest : ByteArray := prog_3_method_19_code
def yX2_fewest : MethodName := ⟨RX2, "fewest", "(II)I"⟩
theorem q15 : (Jvm.Cond.initialized "RetimingBenchModel") ∈ lw_all := lw_g (lw_at lw_m0 2 rfl) rfl
theorem q134 : (Jvm.Cond.instantiable "RetimingBenchModel" (12 : Nat)) ∈ lw_all := lw_g (lw_at lw_m0 121 rfl) rfl
theorem q136 : (Jvm.Cond.instanceMethod ({ cls := "RetimingBenchModel", name := "<init>", desc := "(I)V" } : Jvm.MethodName)) ∈ lw_all := lw_g (lw_at lw_m0 123 rfl) rfl
theorem q137 : (Jvm.Cond.code ({ cls := "RetimingBenchModel", name := "<init>", desc := "(I)V" } : Jvm.MethodName) prog_3_method_1_code (2 : Nat) (Option.none : Option Jvm.ClassFile.FieldType)) ∈ lw_all := lw_g (lw_at lw_m0 124 rfl) rfl
theorem q138 : (Jvm.Cond.methodLink "RetimingBenchModel" (1 : Nat) ({ cls := "java/lang/Object", name := "<init>", desc := "()V" } : Jvm.MethodName)) ∈ lw_all := lw_g (lw_at lw_m0 125 rfl) rfl
theorem q139 : (Jvm.Cond.fieldLink "RetimingBenchModel" (42 : Nat) "RetimingBenchModel" "n" "I") ∈ lw_all := lw_g (lw_at lw_m0 126 rfl) rfl
theorem q140 : (Jvm.Cond.fieldLink "RetimingBenchModel" (7 : Nat) "RetimingBenchModel" "m" "I") ∈ lw_all := lw_g (lw_at lw_m0 127 rfl) rfl
theorem q141 : (Jvm.Cond.fieldLink "RetimingBenchModel" (13 : Nat) "RetimingBenchModel" "delays" "[I") ∈ lw_all := lw_g (lw_at lw_m0 128 rfl) rfl
theorem q142 : (Jvm.Cond.fieldLink "RetimingBenchModel" (17 : Nat) "RetimingBenchModel" "from" "[I") ∈ lw_all := lw_g (lw_at lw_m0 129 rfl) rfl
theorem q143 : (Jvm.Cond.fieldLink "RetimingBenchModel" (20 : Nat) "RetimingBenchModel" "to" "[I") ∈ lw_all := lw_g (lw_at lw_m0 130 rfl) rfl
theorem q144 : (Jvm.Cond.fieldLink "RetimingBenchModel" (23 : Nat) "RetimingBenchModel" "regs" "[I") ∈ lw_all := lw_g (lw_at lw_m0 131 rfl) rfl
theorem q145 : (Jvm.Cond.fieldLink "RetimingBenchModel" (26 : Nat) "RetimingBenchModel" "lags" "[I") ∈ lw_all := lw_g (lw_at lw_m0 132 rfl) rfl
theorem q146 : (Jvm.Cond.fieldLink "RetimingBenchModel" (29 : Nat) "RetimingBenchModel" "length" "[I") ∈ lw_all := lw_g (lw_at lw_m0 133 rfl) rfl
theorem q147 : (Jvm.Cond.fieldLink "RetimingBenchModel" (32 : Nat) "RetimingBenchModel" "known" "Z") ∈ lw_all := lw_g (lw_at lw_m0 134 rfl) rfl
theorem q148 : (Jvm.Cond.fieldLink "RetimingBenchModel" (64 : Nat) "RetimingBenchModel" "bestPeriod" "I") ∈ lw_all := lw_g (lw_at lw_m0 135 rfl) rfl
theorem q149 : (Jvm.Cond.fieldLink "RetimingBenchModel" (36 : Nat) "RetimingBenchModel" "plan" "[I") ∈ lw_all := lw_g (lw_at lw_m0 136 rfl) rfl
theorem q150 : (Jvm.Cond.fieldLink "RetimingBenchModel" (39 : Nat) "RetimingBenchModel" "reach" "[I") ∈ lw_all := lw_g (lw_at lw_m0 137 rfl) rfl
theorem q151 : (Jvm.Cond.lays "RetimingBenchModel" "RetimingBenchModel" "n" "I") ∈ lw_all := lw_g (lw_at lw_m0 138 rfl) rfl
theorem q152 : (Jvm.Cond.soleField "RetimingBenchModel" "n") ∈ lw_all := lw_g (lw_at lw_m0 139 rfl) rfl
theorem q153 : (Jvm.Cond.lays "RetimingBenchModel" "RetimingBenchModel" "m" "I") ∈ lw_all := lw_g (lw_at lw_m0 140 rfl) rfl
theorem q154 : (Jvm.Cond.soleField "RetimingBenchModel" "m") ∈ lw_all := lw_g (lw_at lw_m0 141 rfl) rfl
theorem q155 : (Jvm.Cond.lays "RetimingBenchModel" "RetimingBenchModel" "delays" "[I") ∈ lw_all := lw_g (lw_at lw_m0 142 rfl) rfl
theorem q156 : (Jvm.Cond.soleField "RetimingBenchModel" "delays") ∈ lw_all := lw_g (lw_at lw_m0 143 rfl) rfl
theorem q157 : (Jvm.Cond.lays "RetimingBenchModel" "RetimingBenchModel" "from" "[I") ∈ lw_all := lw_g (lw_at lw_m0 144 rfl) rfl
theorem q158 : (Jvm.Cond.soleField "RetimingBenchModel" "from") ∈ lw_all := lw_g (lw_at lw_m0 145 rfl) rfl
theorem q159 : (Jvm.Cond.lays "RetimingBenchModel" "RetimingBenchModel" "to" "[I") ∈ lw_all := lw_g (lw_at lw_m0 146 rfl) rfl
theorem q160 : (Jvm.Cond.soleField "RetimingBenchModel" "to") ∈ lw_all := lw_g (lw_at lw_m0 147 rfl) rfl
theorem q161 : (Jvm.Cond.lays "RetimingBenchModel" "RetimingBenchModel" "regs" "[I") ∈ lw_all := lw_g (lw_at lw_m0 148 rfl) rfl
theorem q162 : (Jvm.Cond.soleField "RetimingBenchModel" "regs") ∈ lw_all := lw_g (lw_at lw_m0 149 rfl) rfl
theorem q163 : (Jvm.Cond.lays "RetimingBenchModel" "RetimingBenchModel" "lags" "[I") ∈ lw_all := lw_g (lw_at lw_m0 150 rfl) rfl
theorem q164 : (Jvm.Cond.soleField "RetimingBenchModel" "lags") ∈ lw_all := lw_g (lw_at lw_m0 151 rfl) rfl
theorem q165 : (Jvm.Cond.lays "RetimingBenchModel" "RetimingBenchModel" "length" "[I") ∈ lw_all := lw_g (lw_at lw_m0 152 rfl) rfl
theorem q166 : (Jvm.Cond.soleField "RetimingBenchModel" "length") ∈ lw_all := lw_g (lw_at lw_m0 153 rfl) rfl
theorem q167 : (Jvm.Cond.lays "RetimingBenchModel" "RetimingBenchModel" "known" "Z") ∈ lw_all := lw_g (lw_at lw_m0 154 rfl) rfl
theorem q168 : (Jvm.Cond.soleField "RetimingBenchModel" "known") ∈ lw_all := lw_g (lw_at lw_m0 155 rfl) rfl
theorem q169 : (Jvm.Cond.lays "RetimingBenchModel" "RetimingBenchModel" "bestPeriod" "I") ∈ lw_all := lw_g (lw_at lw_m0 156 rfl) rfl
theorem q170 : (Jvm.Cond.soleField "RetimingBenchModel" "bestPeriod") ∈ lw_all := lw_g (lw_at lw_m0 157 rfl) rfl
theorem q171 : (Jvm.Cond.lays "RetimingBenchModel" "RetimingBenchModel" "plan" "[I") ∈ lw_all := lw_g (lw_at lw_m0 158 rfl) rfl
theorem q172 : (Jvm.Cond.soleField "RetimingBenchModel" "plan") ∈ lw_all := lw_g (lw_at lw_m0 159 rfl) rfl
theorem q173 : (Jvm.Cond.lays "RetimingBenchModel" "RetimingBenchModel" "reach" "[I") ∈ lw_all := lw_g (lw_at lw_m0 160 rfl) rfl
theorem q174 : (Jvm.Cond.soleField "RetimingBenchModel" "reach") ∈ lw_all := lw_g (lw_at lw_m0 161 rfl) rfl
theorem q175 : (Jvm.Cond.superclass "RetimingBenchModel" "java/lang/Object") ∈ lw_all := lw_g (lw_at lw_m0 162 rfl) rfl
theorem q177 : (Jvm.Cond.instanceMethod ({ cls := "RetimingBenchModel", name := "delay", desc := "(II)Z" } : Jvm.MethodName)) ∈ lw_all := lw_g (lw_at lw_m0 164 rfl) rfl
theorem q178 : (Jvm.Cond.selects "RetimingBenchModel" ({ cls := "RetimingBenchModel", name := "delay", desc := "(II)Z" } : Jvm.MethodName) ({ cls := "RetimingBenchModel", name := "delay", desc := "(II)Z" } : Jvm.MethodName)) ∈ lw_all := lw_g (lw_at lw_m0 165 rfl) rfl
theorem q179 : (Jvm.Cond.code ({ cls := "RetimingBenchModel", name := "delay", desc := "(II)Z" } : Jvm.MethodName) prog_3_method_3_code (3 : Nat) (Option.some Jvm.ClassFile.FieldType.boolean)) ∈ lw_all := lw_g (lw_at lw_m0 166 rfl) rfl
theorem q180 : (Jvm.Cond.methodLink "RetimingBenchModel" (45 : Nat) ({ cls := "RetimingBenchModel", name := "isBlock", desc := "(I)Z" } : Jvm.MethodName)) ∈ lw_all := lw_g (lw_at lw_m0 167 rfl) rfl
theorem q181 : (Jvm.Cond.privateMethod ({ cls := "RetimingBenchModel", name := "isBlock", desc := "(I)Z" } : Jvm.MethodName)) ∈ lw_tbl := lw_at lw_m0 168 rfl
theorem q182 : (Jvm.Cond.instanceMethod ({ cls := "RetimingBenchModel", name := "isBlock", desc := "(I)Z" } : Jvm.MethodName)) ∈ lw_all := lw_g (lw_at lw_m0 169 rfl) rfl
theorem q183 : (Jvm.Cond.code ({ cls := "RetimingBenchModel", name := "isBlock", desc := "(I)Z" } : Jvm.MethodName) prog_3_method_2_code (2 : Nat) (Option.some Jvm.ClassFile.FieldType.boolean)) ∈ lw_all := lw_g (lw_at lw_m0 170 rfl) rfl
theorem q185 : (Jvm.Cond.instanceMethod ({ cls := "RetimingBenchModel", name := "wire", desc := "(III)I" } : Jvm.MethodName)) ∈ lw_all := lw_g (lw_at lw_m0 172 rfl) rfl
theorem q186 : (Jvm.Cond.selects "RetimingBenchModel" ({ cls := "RetimingBenchModel", name := "wire", desc := "(III)I" } : Jvm.MethodName) ({ cls := "RetimingBenchModel", name := "wire", desc := "(III)I" } : Jvm.MethodName)) ∈ lw_all := lw_g (lw_at lw_m0 173 rfl) rfl
theorem q187 : (Jvm.Cond.code ({ cls := "RetimingBenchModel", name := "wire", desc := "(III)I" } : Jvm.MethodName) prog_3_method_4_code (4 : Nat) (Option.some Jvm.ClassFile.FieldType.int)) ∈ lw_all := lw_g (lw_at lw_m0 174 rfl) rfl
theorem q189 : (Jvm.Cond.instanceMethod ({ cls := "RetimingBenchModel", name := "cut", desc := "(I)I" } : Jvm.MethodName)) ∈ lw_all := lw_g (lw_at lw_m0 176 rfl) rfl
theorem q190 : (Jvm.Cond.selects "RetimingBenchModel" ({ cls := "RetimingBenchModel", name := "cut", desc := "(I)I" } : Jvm.MethodName) ({ cls := "RetimingBenchModel", name := "cut", desc := "(I)I" } : Jvm.MethodName)) ∈ lw_all := lw_g (lw_at lw_m0 177 rfl) rfl
theorem q191 : (Jvm.Cond.code ({ cls := "RetimingBenchModel", name := "cut", desc := "(I)I" } : Jvm.MethodName) prog_3_method_5_code (3 : Nat) (Option.some Jvm.ClassFile.FieldType.int)) ∈ lw_all := lw_g (lw_at lw_m0 178 rfl) rfl
theorem q193 : (Jvm.Cond.instanceMethod ({ cls := "RetimingBenchModel", name := "sound", desc := "()Z" } : Jvm.MethodName)) ∈ lw_all := lw_g (lw_at lw_m0 180 rfl) rfl
theorem q194 : (Jvm.Cond.selects "RetimingBenchModel" ({ cls := "RetimingBenchModel", name := "sound", desc := "()Z" } : Jvm.MethodName) ({ cls := "RetimingBenchModel", name := "sound", desc := "()Z" } : Jvm.MethodName)) ∈ lw_all := lw_g (lw_at lw_m0 181 rfl) rfl
theorem q195 : (Jvm.Cond.code ({ cls := "RetimingBenchModel", name := "sound", desc := "()Z" } : Jvm.MethodName) prog_3_method_10_code (3 : Nat) (Option.some Jvm.ClassFile.FieldType.boolean)) ∈ lw_all := lw_g (lw_at lw_m0 182 rfl) rfl
theorem q196 : (Jvm.Cond.methodLink "RetimingBenchModel" (53 : Nat) ({ cls := "RetimingBenchModel", name := "noLags", desc := "()V" } : Jvm.MethodName)) ∈ lw_all := lw_g (lw_at lw_m0 183 rfl) rfl
theorem q197 : (Jvm.Cond.privateMethod ({ cls := "RetimingBenchModel", name := "noLags", desc := "()V" } : Jvm.MethodName)) ∈ lw_tbl := lw_at lw_m0 184 rfl
theorem q198 : (Jvm.Cond.instanceMethod ({ cls := "RetimingBenchModel", name := "noLags", desc := "()V" } : Jvm.MethodName)) ∈ lw_all := lw_g (lw_at lw_m0 185 rfl) rfl
theorem q199 : (Jvm.Cond.code ({ cls := "RetimingBenchModel", name := "noLags", desc := "()V" } : Jvm.MethodName) prog_3_method_9_code (2 : Nat) (Option.none : Option Jvm.ClassFile.FieldType)) ∈ lw_all := lw_g (lw_at lw_m0 186 rfl) rfl
theorem q201 : (Jvm.Cond.instanceMethod ({ cls := "RetimingBenchModel", name := "period", desc := "()I" } : Jvm.MethodName)) ∈ lw_all := lw_g (lw_at lw_m0 188 rfl) rfl
theorem q202 : (Jvm.Cond.selects "RetimingBenchModel" ({ cls := "RetimingBenchModel", name := "period", desc := "()I" } : Jvm.MethodName) ({ cls := "RetimingBenchModel", name := "period", desc := "()I" } : Jvm.MethodName)) ∈ lw_all := lw_g (lw_at lw_m0 189 rfl) rfl
theorem q203 : (Jvm.Cond.code ({ cls := "RetimingBenchModel", name := "period", desc := "()I" } : Jvm.MethodName) prog_3_method_11_code (1 : Nat) (Option.some Jvm.ClassFile.FieldType.int)) ∈ lw_all := lw_g (lw_at lw_m0 190 rfl) rfl
theorem q204 : (Jvm.Cond.methodLink "RetimingBenchModel" (56 : Nat) ({ cls := "RetimingBenchModel", name := "sound", desc := "()Z" } : Jvm.MethodName)) ∈ lw_all := lw_g (lw_at lw_m0 191 rfl) rfl
theorem q205 : (Jvm.Cond.methodLink "RetimingBenchModel" (60 : Nat) ({ cls := "RetimingBenchModel", name := "longest", desc := "()I" } : Jvm.MethodName)) ∈ lw_all := lw_g (lw_at lw_m0 192 rfl) rfl
theorem q206 : (Jvm.Cond.privateMethod ({ cls := "RetimingBenchModel", name := "longest", desc := "()I" } : Jvm.MethodName)) ∈ lw_tbl := lw_at lw_m0 193 rfl
theorem q207 : (Jvm.Cond.instanceMethod ({ cls := "RetimingBenchModel", name := "longest", desc := "()I" } : Jvm.MethodName)) ∈ lw_all := lw_g (lw_at lw_m0 194 rfl) rfl
theorem q208 : (Jvm.Cond.code ({ cls := "RetimingBenchModel", name := "longest", desc := "()I" } : Jvm.MethodName) prog_3_method_8_code (4 : Nat) (Option.some Jvm.ClassFile.FieldType.int)) ∈ lw_all := lw_g (lw_at lw_m0 195 rfl) rfl
theorem q209 : (Jvm.Cond.methodLink "RetimingBenchModel" (49 : Nat) ({ cls := "RetimingBenchModel", name := "under", desc := "(I)I" } : Jvm.MethodName)) ∈ lw_all := lw_g (lw_at lw_m0 196 rfl) rfl
theorem q210 : (Jvm.Cond.privateMethod ({ cls := "RetimingBenchModel", name := "under", desc := "(I)I" } : Jvm.MethodName)) ∈ lw_tbl := lw_at lw_m0 197 rfl
theorem q211 : (Jvm.Cond.instanceMethod ({ cls := "RetimingBenchModel", name := "under", desc := "(I)I" } : Jvm.MethodName)) ∈ lw_all := lw_g (lw_at lw_m0 198 rfl) rfl
theorem q212 : (Jvm.Cond.code ({ cls := "RetimingBenchModel", name := "under", desc := "(I)I" } : Jvm.MethodName) prog_3_method_6_code (2 : Nat) (Option.some Jvm.ClassFile.FieldType.int)) ∈ lw_all := lw_g (lw_at lw_m0 199 rfl) rfl
theorem q214 : (Jvm.Cond.instanceMethod ({ cls := "RetimingBenchModel", name := "best", desc := "()I" } : Jvm.MethodName)) ∈ lw_all := lw_g (lw_at lw_m0 201 rfl) rfl
theorem q215 : (Jvm.Cond.selects "RetimingBenchModel" ({ cls := "RetimingBenchModel", name := "best", desc := "()I" } : Jvm.MethodName) ({ cls := "RetimingBenchModel", name := "best", desc := "()I" } : Jvm.MethodName)) ∈ lw_all := lw_g (lw_at lw_m0 202 rfl) rfl
theorem q216 : (Jvm.Cond.code ({ cls := "RetimingBenchModel", name := "best", desc := "()I" } : Jvm.MethodName) prog_3_method_14_code (1 : Nat) (Option.some Jvm.ClassFile.FieldType.int)) ∈ lw_all := lw_g (lw_at lw_m0 203 rfl) rfl
theorem q217 : (Jvm.Cond.methodLink "RetimingBenchModel" (74 : Nat) ({ cls := "RetimingBenchModel", name := "find", desc := "()V" } : Jvm.MethodName)) ∈ lw_all := lw_g (lw_at lw_m0 204 rfl) rfl
theorem q218 : (Jvm.Cond.privateMethod ({ cls := "RetimingBenchModel", name := "find", desc := "()V" } : Jvm.MethodName)) ∈ lw_tbl := lw_at lw_m0 205 rfl
theorem q219 : (Jvm.Cond.instanceMethod ({ cls := "RetimingBenchModel", name := "find", desc := "()V" } : Jvm.MethodName)) ∈ lw_all := lw_g (lw_at lw_m0 206 rfl) rfl
theorem q220 : (Jvm.Cond.code ({ cls := "RetimingBenchModel", name := "find", desc := "()V" } : Jvm.MethodName) prog_3_method_13_code (6 : Nat) (Option.none : Option Jvm.ClassFile.FieldType)) ∈ lw_all := lw_g (lw_at lw_m0 207 rfl) rfl
theorem q221 : (Jvm.Cond.methodLink "RetimingBenchModel" (67 : Nat) ({ cls := "RetimingBenchModel", name := "writeLags", desc := "(I)V" } : Jvm.MethodName)) ∈ lw_all := lw_g (lw_at lw_m0 208 rfl) rfl
theorem q222 : (Jvm.Cond.privateMethod ({ cls := "RetimingBenchModel", name := "writeLags", desc := "(I)V" } : Jvm.MethodName)) ∈ lw_tbl := lw_at lw_m0 209 rfl
theorem q223 : (Jvm.Cond.instanceMethod ({ cls := "RetimingBenchModel", name := "writeLags", desc := "(I)V" } : Jvm.MethodName)) ∈ lw_all := lw_g (lw_at lw_m0 210 rfl) rfl
theorem q224 : (Jvm.Cond.code ({ cls := "RetimingBenchModel", name := "writeLags", desc := "(I)V" } : Jvm.MethodName) prog_3_method_12_code (4 : Nat) (Option.none : Option Jvm.ClassFile.FieldType)) ∈ lw_all := lw_g (lw_at lw_m0 211 rfl) rfl
theorem q225 : (Jvm.Cond.methodLink "RetimingBenchModel" (71 : Nat) ({ cls := "RetimingBenchModel", name := "legal", desc := "()Z" } : Jvm.MethodName)) ∈ lw_all := lw_g (lw_at lw_m0 212 rfl) rfl
theorem q226 : (Jvm.Cond.privateMethod ({ cls := "RetimingBenchModel", name := "legal", desc := "()Z" } : Jvm.MethodName)) ∈ lw_tbl := lw_at lw_m0 213 rfl
theorem q227 : (Jvm.Cond.instanceMethod ({ cls := "RetimingBenchModel", name := "legal", desc := "()Z" } : Jvm.MethodName)) ∈ lw_all := lw_g (lw_at lw_m0 214 rfl) rfl
theorem q228 : (Jvm.Cond.code ({ cls := "RetimingBenchModel", name := "legal", desc := "()Z" } : Jvm.MethodName) prog_3_method_7_code (2 : Nat) (Option.some Jvm.ClassFile.FieldType.boolean)) ∈ lw_all := lw_g (lw_at lw_m0 215 rfl) rfl
theorem q230 : (Jvm.Cond.instanceMethod ({ cls := "RetimingBenchModel", name := "lag", desc := "(I)I" } : Jvm.MethodName)) ∈ lw_all := lw_g (lw_at lw_m0 217 rfl) rfl
theorem q231 : (Jvm.Cond.selects "RetimingBenchModel" ({ cls := "RetimingBenchModel", name := "lag", desc := "(I)I" } : Jvm.MethodName) ({ cls := "RetimingBenchModel", name := "lag", desc := "(I)I" } : Jvm.MethodName)) ∈ lw_all := lw_g (lw_at lw_m0 218 rfl) rfl
theorem q232 : (Jvm.Cond.code ({ cls := "RetimingBenchModel", name := "lag", desc := "(I)I" } : Jvm.MethodName) prog_3_method_15_code (2 : Nat) (Option.some Jvm.ClassFile.FieldType.int)) ∈ lw_all := lw_g (lw_at lw_m0 219 rfl) rfl
theorem q234 : (Jvm.Cond.instanceMethod ({ cls := "RetimingBenchModel", name := "reachable", desc := "(I)Z" } : Jvm.MethodName)) ∈ lw_all := lw_g (lw_at lw_m0 221 rfl) rfl
theorem q235 : (Jvm.Cond.selects "RetimingBenchModel" ({ cls := "RetimingBenchModel", name := "reachable", desc := "(I)Z" } : Jvm.MethodName) ({ cls := "RetimingBenchModel", name := "reachable", desc := "(I)Z" } : Jvm.MethodName)) ∈ lw_all := lw_g (lw_at lw_m0 222 rfl) rfl
theorem q236 : (Jvm.Cond.code ({ cls := "RetimingBenchModel", name := "reachable", desc := "(I)Z" } : Jvm.MethodName) prog_3_method_16_code (2 : Nat) (Option.some Jvm.ClassFile.FieldType.boolean)) ∈ lw_all := lw_g (lw_at lw_m0 223 rfl) rfl
theorem q238 : (Jvm.Cond.instanceMethod ({ cls := "RetimingBenchModel", name := "apply", desc := "()I" } : Jvm.MethodName)) ∈ lw_all := lw_g (lw_at lw_m0 225 rfl) rfl
theorem q239 : (Jvm.Cond.selects "RetimingBenchModel" ({ cls := "RetimingBenchModel", name := "apply", desc := "()I" } : Jvm.MethodName) ({ cls := "RetimingBenchModel", name := "apply", desc := "()I" } : Jvm.MethodName)) ∈ lw_all := lw_g (lw_at lw_m0 226 rfl) rfl
theorem q240 : (Jvm.Cond.code ({ cls := "RetimingBenchModel", name := "apply", desc := "()I" } : Jvm.MethodName) prog_3_method_17_code (4 : Nat) (Option.some Jvm.ClassFile.FieldType.int)) ∈ lw_all := lw_g (lw_at lw_m0 227 rfl) rfl
theorem q242 : (Jvm.Cond.instanceMethod ({ cls := "RetimingBenchModel", name := "registers", desc := "(I)I" } : Jvm.MethodName)) ∈ lw_all := lw_g (lw_at lw_m0 229 rfl) rfl
theorem q243 : (Jvm.Cond.selects "RetimingBenchModel" ({ cls := "RetimingBenchModel", name := "registers", desc := "(I)I" } : Jvm.MethodName) ({ cls := "RetimingBenchModel", name := "registers", desc := "(I)I" } : Jvm.MethodName)) ∈ lw_all := lw_g (lw_at lw_m0 230 rfl) rfl
theorem q244 : (Jvm.Cond.code ({ cls := "RetimingBenchModel", name := "registers", desc := "(I)I" } : Jvm.MethodName) prog_3_method_18_code (2 : Nat) (Option.some Jvm.ClassFile.FieldType.int)) ∈ lw_all := lw_g (lw_at lw_m0 231 rfl) rfl
theorem q246 : (Jvm.Cond.instanceMethod ({ cls := "RetimingBenchModel", name := "fewest", desc := "(II)I" } : Jvm.MethodName)) ∈ lw_all := lw_g (lw_at lw_m0 233 rfl) rfl
theorem q247 : (Jvm.Cond.selects "RetimingBenchModel" ({ cls := "RetimingBenchModel", name := "fewest", desc := "(II)I" } : Jvm.MethodName) ({ cls := "RetimingBenchModel", name := "fewest", desc := "(II)I" } : Jvm.MethodName)) ∈ lw_all := lw_g (lw_at lw_m0 234 rfl) rfl
theorem q248 : (Jvm.Cond.code ({ cls := "RetimingBenchModel", name := "fewest", desc := "(II)I" } : Jvm.MethodName) prog_3_method_19_code (6 : Nat) (Option.some Jvm.ClassFile.FieldType.int)) ∈ lw_all := lw_g (lw_at lw_m0 235 rfl) rfl
theorem in_X2 : ∀ w ∈ wsX20, w ∈ lw_all := lw_in wsX20 [151, 153, 155, 157, 159, 161, 163, 165, 167, 169, 171, 173] (by decide +kernel) (by decide +kernel)

theorem q58 : (Jvm.Cond.arrayClass Jvm.ClassFile.FieldType.byte) ∈ lw_all := lw_g (lw_at lw_m0 45 rfl) rfl
theorem q59 : (Jvm.Cond.arrayClass Jvm.ClassFile.FieldType.int) ∈ lw_all := lw_g (lw_at lw_m0 46 rfl) rfl

/-! the law's own entry -/
abbrev cL_law : ByteArray := code
end
section
set_option maxRecDepth 100000
theorem dJ0_init_0 : decode cJ0_init 0 = .ok (.return_, 1) := by decide +kernel
theorem dX0_cell_0 : decode cX0_cell 0 = .ok (.iload_n 1, 1) := by decide +kernel
theorem dX0_cell_1 : decode cX0_cell 1 = .ok (.aload_n 0, 1) := by decide +kernel
theorem dX0_cell_2 : decode cX0_cell 2 = .ok (.arraylength, 1) := by decide +kernel
theorem dX0_cell_3 : decode cX0_cell 3 = .ok (.if_icmp .ge 9, 3) := by decide +kernel
theorem dX0_cell_6 : decode cX0_cell 6 = .ok (.aload_n 0, 1) := by decide +kernel
theorem dX0_cell_7 : decode cX0_cell 7 = .ok (.iload_n 1, 1) := by decide +kernel
theorem dX0_cell_8 : decode cX0_cell 8 = .ok (.iaload, 1) := by decide +kernel
theorem dX0_cell_9 : decode cX0_cell 9 = .ok (.goto 4, 3) := by decide +kernel
theorem dX0_cell_12 : decode cX0_cell 12 = .ok (.iconst 0, 1) := by decide +kernel
theorem dX0_cell_13 : decode cX0_cell 13 = .ok (.ireturn, 1) := by decide +kernel
end
section
set_option maxRecDepth 100000
theorem dX1_init_0 : decode cX1_init 0 = .ok (.aload_n 0, 1) := by decide +kernel
theorem dX1_init_1 : decode cX1_init 1 = .ok (.invokespecial 1, 3) := by decide +kernel
theorem dX1_init_4 : decode cX1_init 4 = .ok (.aload_n 0, 1) := by decide +kernel
theorem dX1_init_5 : decode cX1_init 5 = .ok (.iconst 5, 1) := by decide +kernel
theorem dX1_init_6 : decode cX1_init 6 = .ok (.newarray .byte, 2) := by decide +kernel
theorem dX1_init_8 : decode cX1_init 8 = .ok (.putfield 7, 3) := by decide +kernel
theorem dX1_init_11 : decode cX1_init 11 = .ok (.aload_n 0, 1) := by decide +kernel
theorem dX1_init_12 : decode cX1_init 12 = .ok (.bipush 12, 2) := by decide +kernel
theorem dX1_init_14 : decode cX1_init 14 = .ok (.newarray .byte, 2) := by decide +kernel
theorem dX1_init_16 : decode cX1_init 16 = .ok (.putfield 13, 3) := by decide +kernel
theorem dX1_init_19 : decode cX1_init 19 = .ok (.aload_n 0, 1) := by decide +kernel
theorem dX1_init_20 : decode cX1_init 20 = .ok (.bipush 12, 2) := by decide +kernel
theorem dX1_init_22 : decode cX1_init 22 = .ok (.newarray .byte, 2) := by decide +kernel
theorem dX1_init_24 : decode cX1_init 24 = .ok (.putfield 16, 3) := by decide +kernel
theorem dX1_init_27 : decode cX1_init 27 = .ok (.aload_n 0, 1) := by decide +kernel
theorem dX1_init_28 : decode cX1_init 28 = .ok (.bipush 12, 2) := by decide +kernel
theorem dX1_init_30 : decode cX1_init 30 = .ok (.newarray .int, 2) := by decide +kernel
theorem dX1_init_32 : decode cX1_init 32 = .ok (.putfield 19, 3) := by decide +kernel
theorem dX1_init_35 : decode cX1_init 35 = .ok (.aload_n 0, 1) := by decide +kernel
theorem dX1_init_36 : decode cX1_init 36 = .ok (.bipush 25, 2) := by decide +kernel
theorem dX1_init_38 : decode cX1_init 38 = .ok (.newarray .int, 2) := by decide +kernel
theorem dX1_init_40 : decode cX1_init 40 = .ok (.putfield 23, 3) := by decide +kernel
theorem dX1_init_43 : decode cX1_init 43 = .ok (.aload_n 0, 1) := by decide +kernel
theorem dX1_init_44 : decode cX1_init 44 = .ok (.bipush 25, 2) := by decide +kernel
theorem dX1_init_46 : decode cX1_init 46 = .ok (.newarray .int, 2) := by decide +kernel
theorem dX1_init_48 : decode cX1_init 48 = .ok (.putfield 26, 3) := by decide +kernel
theorem dX1_init_51 : decode cX1_init 51 = .ok (.aload_n 0, 1) := by decide +kernel
theorem dX1_init_52 : decode cX1_init 52 = .ok (.iconst 5, 1) := by decide +kernel
theorem dX1_init_53 : decode cX1_init 53 = .ok (.newarray .int, 2) := by decide +kernel
theorem dX1_init_55 : decode cX1_init 55 = .ok (.putfield 29, 3) := by decide +kernel
theorem dX1_init_58 : decode cX1_init 58 = .ok (.aload_n 0, 1) := by decide +kernel
theorem dX1_init_59 : decode cX1_init 59 = .ok (.iload_n 1, 1) := by decide +kernel
theorem dX1_init_60 : decode cX1_init 60 = .ok (.iconst 1, 1) := by decide +kernel
theorem dX1_init_61 : decode cX1_init 61 = .ok (.if_icmp .ge 7, 3) := by decide +kernel
theorem dX1_init_64 : decode cX1_init 64 = .ok (.iconst 1, 1) := by decide +kernel
theorem dX1_init_65 : decode cX1_init 65 = .ok (.goto 13, 3) := by decide +kernel
theorem dX1_init_68 : decode cX1_init 68 = .ok (.iload_n 1, 1) := by decide +kernel
theorem dX1_init_69 : decode cX1_init 69 = .ok (.iconst 5, 1) := by decide +kernel
theorem dX1_init_70 : decode cX1_init 70 = .ok (.if_icmp .le 7, 3) := by decide +kernel
theorem dX1_init_73 : decode cX1_init 73 = .ok (.iconst 5, 1) := by decide +kernel
theorem dX1_init_74 : decode cX1_init 74 = .ok (.goto 4, 3) := by decide +kernel
theorem dX1_init_77 : decode cX1_init 77 = .ok (.iload_n 1, 1) := by decide +kernel
theorem dX1_init_78 : decode cX1_init 78 = .ok (.putfield 32, 3) := by decide +kernel
theorem dX1_init_81 : decode cX1_init 81 = .ok (.return_, 1) := by decide +kernel
theorem dX1_delay_0 : decode cX1_delay 0 = .ok (.aload_n 0, 1) := by decide +kernel
theorem dX1_delay_1 : decode cX1_delay 1 = .ok (.iload_n 1, 1) := by decide +kernel
theorem dX1_delay_2 : decode cX1_delay 2 = .ok (.invokevirtual 36, 3) := by decide +kernel
theorem dX1_delay_5 : decode cX1_delay 5 = .ok (.ifCond .eq 13, 3) := by decide +kernel
theorem dX1_delay_8 : decode cX1_delay 8 = .ok (.iload_n 2, 1) := by decide +kernel
theorem dX1_delay_9 : decode cX1_delay 9 = .ok (.ifCond .lt 9, 3) := by decide +kernel
theorem dX1_delay_12 : decode cX1_delay 12 = .ok (.iload_n 2, 1) := by decide +kernel
theorem dX1_delay_13 : decode cX1_delay 13 = .ok (.bipush 9, 2) := by decide +kernel
theorem dX1_delay_15 : decode cX1_delay 15 = .ok (.if_icmp .le 5, 3) := by decide +kernel
theorem dX1_delay_18 : decode cX1_delay 18 = .ok (.iconst 0, 1) := by decide +kernel
theorem dX1_delay_19 : decode cX1_delay 19 = .ok (.ireturn, 1) := by decide +kernel
theorem dX1_delay_20 : decode cX1_delay 20 = .ok (.aload_n 0, 1) := by decide +kernel
theorem dX1_delay_21 : decode cX1_delay 21 = .ok (.getfield 7, 3) := by decide +kernel
theorem dX1_delay_24 : decode cX1_delay 24 = .ok (.iload_n 1, 1) := by decide +kernel
theorem dX1_delay_25 : decode cX1_delay 25 = .ok (.iload_n 2, 1) := by decide +kernel
theorem dX1_delay_26 : decode cX1_delay 26 = .ok (.i2b, 1) := by decide +kernel
theorem dX1_delay_27 : decode cX1_delay 27 = .ok (.bastore, 1) := by decide +kernel
theorem dX1_delay_28 : decode cX1_delay 28 = .ok (.aload_n 0, 1) := by decide +kernel
theorem dX1_delay_29 : decode cX1_delay 29 = .ok (.iconst 0, 1) := by decide +kernel
theorem dX1_delay_30 : decode cX1_delay 30 = .ok (.putfield 40, 3) := by decide +kernel
theorem dX1_delay_33 : decode cX1_delay 33 = .ok (.iconst 1, 1) := by decide +kernel
theorem dX1_delay_34 : decode cX1_delay 34 = .ok (.ireturn, 1) := by decide +kernel
theorem dX1_isBlock_0 : decode cX1_isBlock 0 = .ok (.iload_n 1, 1) := by decide +kernel
theorem dX1_isBlock_1 : decode cX1_isBlock 1 = .ok (.ifCond .lt 15, 3) := by decide +kernel
theorem dX1_isBlock_4 : decode cX1_isBlock 4 = .ok (.iload_n 1, 1) := by decide +kernel
theorem dX1_isBlock_5 : decode cX1_isBlock 5 = .ok (.aload_n 0, 1) := by decide +kernel
theorem dX1_isBlock_6 : decode cX1_isBlock 6 = .ok (.getfield 32, 3) := by decide +kernel
theorem dX1_isBlock_9 : decode cX1_isBlock 9 = .ok (.if_icmp .ge 7, 3) := by decide +kernel
theorem dX1_isBlock_12 : decode cX1_isBlock 12 = .ok (.iconst 1, 1) := by decide +kernel
theorem dX1_isBlock_13 : decode cX1_isBlock 13 = .ok (.goto 4, 3) := by decide +kernel
theorem dX1_isBlock_16 : decode cX1_isBlock 16 = .ok (.iconst 0, 1) := by decide +kernel
theorem dX1_isBlock_17 : decode cX1_isBlock 17 = .ok (.ireturn, 1) := by decide +kernel
theorem dX1_wire_0 : decode cX1_wire 0 = .ok (.aload_n 0, 1) := by decide +kernel
theorem dX1_wire_1 : decode cX1_wire 1 = .ok (.getfield 44, 3) := by decide +kernel
theorem dX1_wire_4 : decode cX1_wire 4 = .ok (.bipush 12, 2) := by decide +kernel
theorem dX1_wire_6 : decode cX1_wire 6 = .ok (.if_icmp .lt 6, 3) := by decide +kernel
theorem dX1_wire_9 : decode cX1_wire 9 = .ok (.bipush (-2), 2) := by decide +kernel
theorem dX1_wire_11 : decode cX1_wire 11 = .ok (.ireturn, 1) := by decide +kernel
theorem dX1_wire_12 : decode cX1_wire 12 = .ok (.aload_n 0, 1) := by decide +kernel
theorem dX1_wire_13 : decode cX1_wire 13 = .ok (.iload_n 1, 1) := by decide +kernel
theorem dX1_wire_14 : decode cX1_wire 14 = .ok (.invokevirtual 36, 3) := by decide +kernel
theorem dX1_wire_17 : decode cX1_wire 17 = .ok (.ifCond .eq 20, 3) := by decide +kernel
theorem dX1_wire_20 : decode cX1_wire 20 = .ok (.aload_n 0, 1) := by decide +kernel
theorem dX1_wire_21 : decode cX1_wire 21 = .ok (.iload_n 2, 1) := by decide +kernel
theorem dX1_wire_22 : decode cX1_wire 22 = .ok (.invokevirtual 36, 3) := by decide +kernel
theorem dX1_wire_25 : decode cX1_wire 25 = .ok (.ifCond .eq 12, 3) := by decide +kernel
theorem dX1_wire_28 : decode cX1_wire 28 = .ok (.iload_n 3, 1) := by decide +kernel
theorem dX1_wire_29 : decode cX1_wire 29 = .ok (.ifCond .lt 8, 3) := by decide +kernel
theorem dX1_wire_32 : decode cX1_wire 32 = .ok (.iload_n 3, 1) := by decide +kernel
theorem dX1_wire_33 : decode cX1_wire 33 = .ok (.iconst 3, 1) := by decide +kernel
theorem dX1_wire_34 : decode cX1_wire 34 = .ok (.if_icmp .le 5, 3) := by decide +kernel
theorem dX1_wire_37 : decode cX1_wire 37 = .ok (.iconst (-1), 1) := by decide +kernel
theorem dX1_wire_38 : decode cX1_wire 38 = .ok (.ireturn, 1) := by decide +kernel
theorem dX1_wire_39 : decode cX1_wire 39 = .ok (.aload_n 0, 1) := by decide +kernel
theorem dX1_wire_40 : decode cX1_wire 40 = .ok (.getfield 13, 3) := by decide +kernel
theorem dX1_wire_43 : decode cX1_wire 43 = .ok (.aload_n 0, 1) := by decide +kernel
theorem dX1_wire_44 : decode cX1_wire 44 = .ok (.getfield 44, 3) := by decide +kernel
theorem dX1_wire_47 : decode cX1_wire 47 = .ok (.iload_n 1, 1) := by decide +kernel
theorem dX1_wire_48 : decode cX1_wire 48 = .ok (.i2b, 1) := by decide +kernel
theorem dX1_wire_49 : decode cX1_wire 49 = .ok (.bastore, 1) := by decide +kernel
theorem dX1_wire_50 : decode cX1_wire 50 = .ok (.aload_n 0, 1) := by decide +kernel
theorem dX1_wire_51 : decode cX1_wire 51 = .ok (.getfield 16, 3) := by decide +kernel
theorem dX1_wire_54 : decode cX1_wire 54 = .ok (.aload_n 0, 1) := by decide +kernel
theorem dX1_wire_55 : decode cX1_wire 55 = .ok (.getfield 44, 3) := by decide +kernel
theorem dX1_wire_58 : decode cX1_wire 58 = .ok (.iload_n 2, 1) := by decide +kernel
theorem dX1_wire_59 : decode cX1_wire 59 = .ok (.i2b, 1) := by decide +kernel
theorem dX1_wire_60 : decode cX1_wire 60 = .ok (.bastore, 1) := by decide +kernel
theorem dX1_wire_61 : decode cX1_wire 61 = .ok (.aload_n 0, 1) := by decide +kernel
theorem dX1_wire_62 : decode cX1_wire 62 = .ok (.getfield 19, 3) := by decide +kernel
theorem dX1_wire_65 : decode cX1_wire 65 = .ok (.aload_n 0, 1) := by decide +kernel
theorem dX1_wire_66 : decode cX1_wire 66 = .ok (.getfield 44, 3) := by decide +kernel
theorem dX1_wire_69 : decode cX1_wire 69 = .ok (.iload_n 3, 1) := by decide +kernel
theorem dX1_wire_70 : decode cX1_wire 70 = .ok (.iastore, 1) := by decide +kernel
theorem dX1_wire_71 : decode cX1_wire 71 = .ok (.aload_n 0, 1) := by decide +kernel
theorem dX1_wire_72 : decode cX1_wire 72 = .ok (.dup, 1) := by decide +kernel
theorem dX1_wire_73 : decode cX1_wire 73 = .ok (.getfield 44, 3) := by decide +kernel
theorem dX1_wire_76 : decode cX1_wire 76 = .ok (.iconst 1, 1) := by decide +kernel
theorem dX1_wire_77 : decode cX1_wire 77 = .ok (.iadd, 1) := by decide +kernel
theorem dX1_wire_78 : decode cX1_wire 78 = .ok (.putfield 44, 3) := by decide +kernel
theorem dX1_wire_81 : decode cX1_wire 81 = .ok (.aload_n 0, 1) := by decide +kernel
theorem dX1_wire_82 : decode cX1_wire 82 = .ok (.iconst 0, 1) := by decide +kernel
theorem dX1_wire_83 : decode cX1_wire 83 = .ok (.putfield 40, 3) := by decide +kernel
theorem dX1_wire_86 : decode cX1_wire 86 = .ok (.aload_n 0, 1) := by decide +kernel
theorem dX1_wire_87 : decode cX1_wire 87 = .ok (.getfield 44, 3) := by decide +kernel
theorem dX1_wire_90 : decode cX1_wire 90 = .ok (.iconst 1, 1) := by decide +kernel
theorem dX1_wire_91 : decode cX1_wire 91 = .ok (.isub, 1) := by decide +kernel
theorem dX1_wire_92 : decode cX1_wire 92 = .ok (.ireturn, 1) := by decide +kernel
theorem dX1_cut_0 : decode cX1_cut 0 = .ok (.iload_n 1, 1) := by decide +kernel
theorem dX1_cut_1 : decode cX1_cut 1 = .ok (.ifCond .lt 11, 3) := by decide +kernel
theorem dX1_cut_4 : decode cX1_cut 4 = .ok (.iload_n 1, 1) := by decide +kernel
theorem dX1_cut_5 : decode cX1_cut 5 = .ok (.aload_n 0, 1) := by decide +kernel
theorem dX1_cut_6 : decode cX1_cut 6 = .ok (.getfield 44, 3) := by decide +kernel
theorem dX1_cut_9 : decode cX1_cut 9 = .ok (.if_icmp .lt 5, 3) := by decide +kernel
theorem dX1_cut_12 : decode cX1_cut 12 = .ok (.iconst (-1), 1) := by decide +kernel
theorem dX1_cut_13 : decode cX1_cut 13 = .ok (.ireturn, 1) := by decide +kernel
theorem dX1_cut_14 : decode cX1_cut 14 = .ok (.aload_n 0, 1) := by decide +kernel
theorem dX1_cut_15 : decode cX1_cut 15 = .ok (.dup, 1) := by decide +kernel
theorem dX1_cut_16 : decode cX1_cut 16 = .ok (.getfield 44, 3) := by decide +kernel
theorem dX1_cut_19 : decode cX1_cut 19 = .ok (.iconst 1, 1) := by decide +kernel
theorem dX1_cut_20 : decode cX1_cut 20 = .ok (.isub, 1) := by decide +kernel
theorem dX1_cut_21 : decode cX1_cut 21 = .ok (.putfield 44, 3) := by decide +kernel
theorem dX1_cut_24 : decode cX1_cut 24 = .ok (.iload_n 1, 1) := by decide +kernel
theorem dX1_cut_25 : decode cX1_cut 25 = .ok (.istore_n 2, 1) := by decide +kernel
theorem dX1_cut_26 : decode cX1_cut 26 = .ok (.iload_n 2, 1) := by decide +kernel
theorem dX1_cut_27 : decode cX1_cut 27 = .ok (.aload_n 0, 1) := by decide +kernel
theorem dX1_cut_28 : decode cX1_cut 28 = .ok (.getfield 44, 3) := by decide +kernel
theorem dX1_cut_31 : decode cX1_cut 31 = .ok (.if_icmp .ge 51, 3) := by decide +kernel
theorem dX1_cut_34 : decode cX1_cut 34 = .ok (.aload_n 0, 1) := by decide +kernel
theorem dX1_cut_35 : decode cX1_cut 35 = .ok (.getfield 13, 3) := by decide +kernel
theorem dX1_cut_38 : decode cX1_cut 38 = .ok (.iload_n 2, 1) := by decide +kernel
theorem dX1_cut_39 : decode cX1_cut 39 = .ok (.aload_n 0, 1) := by decide +kernel
theorem dX1_cut_40 : decode cX1_cut 40 = .ok (.getfield 13, 3) := by decide +kernel
theorem dX1_cut_43 : decode cX1_cut 43 = .ok (.iload_n 2, 1) := by decide +kernel
theorem dX1_cut_44 : decode cX1_cut 44 = .ok (.iconst 1, 1) := by decide +kernel
theorem dX1_cut_45 : decode cX1_cut 45 = .ok (.iadd, 1) := by decide +kernel
theorem dX1_cut_46 : decode cX1_cut 46 = .ok (.baload, 1) := by decide +kernel
theorem dX1_cut_47 : decode cX1_cut 47 = .ok (.bastore, 1) := by decide +kernel
theorem dX1_cut_48 : decode cX1_cut 48 = .ok (.aload_n 0, 1) := by decide +kernel
theorem dX1_cut_49 : decode cX1_cut 49 = .ok (.getfield 16, 3) := by decide +kernel
theorem dX1_cut_52 : decode cX1_cut 52 = .ok (.iload_n 2, 1) := by decide +kernel
theorem dX1_cut_53 : decode cX1_cut 53 = .ok (.aload_n 0, 1) := by decide +kernel
theorem dX1_cut_54 : decode cX1_cut 54 = .ok (.getfield 16, 3) := by decide +kernel
theorem dX1_cut_57 : decode cX1_cut 57 = .ok (.iload_n 2, 1) := by decide +kernel
theorem dX1_cut_58 : decode cX1_cut 58 = .ok (.iconst 1, 1) := by decide +kernel
theorem dX1_cut_59 : decode cX1_cut 59 = .ok (.iadd, 1) := by decide +kernel
theorem dX1_cut_60 : decode cX1_cut 60 = .ok (.baload, 1) := by decide +kernel
theorem dX1_cut_61 : decode cX1_cut 61 = .ok (.bastore, 1) := by decide +kernel
theorem dX1_cut_62 : decode cX1_cut 62 = .ok (.aload_n 0, 1) := by decide +kernel
theorem dX1_cut_63 : decode cX1_cut 63 = .ok (.getfield 19, 3) := by decide +kernel
theorem dX1_cut_66 : decode cX1_cut 66 = .ok (.iload_n 2, 1) := by decide +kernel
theorem dX1_cut_67 : decode cX1_cut 67 = .ok (.aload_n 0, 1) := by decide +kernel
theorem dX1_cut_68 : decode cX1_cut 68 = .ok (.getfield 19, 3) := by decide +kernel
theorem dX1_cut_71 : decode cX1_cut 71 = .ok (.iload_n 2, 1) := by decide +kernel
theorem dX1_cut_72 : decode cX1_cut 72 = .ok (.iconst 1, 1) := by decide +kernel
theorem dX1_cut_73 : decode cX1_cut 73 = .ok (.iadd, 1) := by decide +kernel
theorem dX1_cut_74 : decode cX1_cut 74 = .ok (.iaload, 1) := by decide +kernel
theorem dX1_cut_75 : decode cX1_cut 75 = .ok (.iastore, 1) := by decide +kernel
theorem dX1_cut_76 : decode cX1_cut 76 = .ok (.iinc 2 1, 3) := by decide +kernel
theorem dX1_cut_79 : decode cX1_cut 79 = .ok (.goto (-53), 3) := by decide +kernel
theorem dX1_cut_82 : decode cX1_cut 82 = .ok (.aload_n 0, 1) := by decide +kernel
theorem dX1_cut_83 : decode cX1_cut 83 = .ok (.iconst 0, 1) := by decide +kernel
theorem dX1_cut_84 : decode cX1_cut 84 = .ok (.putfield 40, 3) := by decide +kernel
theorem dX1_cut_87 : decode cX1_cut 87 = .ok (.aload_n 0, 1) := by decide +kernel
theorem dX1_cut_88 : decode cX1_cut 88 = .ok (.getfield 44, 3) := by decide +kernel
theorem dX1_cut_91 : decode cX1_cut 91 = .ok (.ireturn, 1) := by decide +kernel
theorem dX1_sound_0 : decode cX1_sound 0 = .ok (.aload_n 0, 1) := by decide +kernel
theorem dX1_sound_1 : decode cX1_sound 1 = .ok (.invokevirtual 47, 3) := by decide +kernel
theorem dX1_sound_4 : decode cX1_sound 4 = .ok (.aload_n 0, 1) := by decide +kernel
theorem dX1_sound_5 : decode cX1_sound 5 = .ok (.getfield 50, 3) := by decide +kernel
theorem dX1_sound_8 : decode cX1_sound 8 = .ok (.ireturn, 1) := by decide +kernel
theorem dX1_measure_0 : decode cX1_measure 0 = .ok (.aload_n 0, 1) := by decide +kernel
theorem dX1_measure_1 : decode cX1_measure 1 = .ok (.getfield 40, 3) := by decide +kernel
theorem dX1_measure_4 : decode cX1_measure 4 = .ok (.ifCond .eq 4, 3) := by decide +kernel
theorem dX1_measure_7 : decode cX1_measure 7 = .ok (.return_, 1) := by decide +kernel
theorem dX1_measure_8 : decode cX1_measure 8 = .ok (.aload_n 0, 1) := by decide +kernel
theorem dX1_measure_9 : decode cX1_measure 9 = .ok (.iconst 1, 1) := by decide +kernel
theorem dX1_measure_10 : decode cX1_measure 10 = .ok (.putfield 40, 3) := by decide +kernel
theorem dX1_measure_13 : decode cX1_measure 13 = .ok (.iconst 0, 1) := by decide +kernel
theorem dX1_measure_14 : decode cX1_measure 14 = .ok (.istore_n 1, 1) := by decide +kernel
theorem dX1_measure_15 : decode cX1_measure 15 = .ok (.iload_n 1, 1) := by decide +kernel
theorem dX1_measure_16 : decode cX1_measure 16 = .ok (.bipush 25, 2) := by decide +kernel
theorem dX1_measure_18 : decode cX1_measure 18 = .ok (.if_icmp .ge 25, 3) := by decide +kernel
theorem dX1_measure_21 : decode cX1_measure 21 = .ok (.aload_n 0, 1) := by decide +kernel
theorem dX1_measure_22 : decode cX1_measure 22 = .ok (.getfield 23, 3) := by decide +kernel
theorem dX1_measure_25 : decode cX1_measure 25 = .ok (.iload_n 1, 1) := by decide +kernel
theorem dX1_measure_26 : decode cX1_measure 26 = .ok (.sipush 1000, 3) := by decide +kernel
theorem dX1_measure_29 : decode cX1_measure 29 = .ok (.iastore, 1) := by decide +kernel
theorem dX1_measure_30 : decode cX1_measure 30 = .ok (.aload_n 0, 1) := by decide +kernel
theorem dX1_measure_31 : decode cX1_measure 31 = .ok (.getfield 26, 3) := by decide +kernel
theorem dX1_measure_34 : decode cX1_measure 34 = .ok (.iload_n 1, 1) := by decide +kernel
theorem dX1_measure_35 : decode cX1_measure 35 = .ok (.iconst 0, 1) := by decide +kernel
theorem dX1_measure_36 : decode cX1_measure 36 = .ok (.iastore, 1) := by decide +kernel
theorem dX1_measure_37 : decode cX1_measure 37 = .ok (.iinc 1 1, 3) := by decide +kernel
theorem dX1_measure_40 : decode cX1_measure 40 = .ok (.goto (-25), 3) := by decide +kernel
theorem dX1_measure_43 : decode cX1_measure 43 = .ok (.iconst 0, 1) := by decide +kernel
theorem dX1_measure_44 : decode cX1_measure 44 = .ok (.istore_n 1, 1) := by decide +kernel
theorem dX1_measure_45 : decode cX1_measure 45 = .ok (.iload_n 1, 1) := by decide +kernel
theorem dX1_measure_46 : decode cX1_measure 46 = .ok (.aload_n 0, 1) := by decide +kernel
theorem dX1_measure_47 : decode cX1_measure 47 = .ok (.getfield 44, 3) := by decide +kernel
theorem dX1_measure_50 : decode cX1_measure 50 = .ok (.if_icmp .ge 48, 3) := by decide +kernel
theorem dX1_measure_53 : decode cX1_measure 53 = .ok (.aload_n 0, 1) := by decide +kernel
theorem dX1_measure_54 : decode cX1_measure 54 = .ok (.getfield 13, 3) := by decide +kernel
theorem dX1_measure_57 : decode cX1_measure 57 = .ok (.iload_n 1, 1) := by decide +kernel
theorem dX1_measure_58 : decode cX1_measure 58 = .ok (.baload, 1) := by decide +kernel
theorem dX1_measure_59 : decode cX1_measure 59 = .ok (.istore_n 2, 1) := by decide +kernel
theorem dX1_measure_60 : decode cX1_measure 60 = .ok (.aload_n 0, 1) := by decide +kernel
theorem dX1_measure_61 : decode cX1_measure 61 = .ok (.getfield 16, 3) := by decide +kernel
theorem dX1_measure_64 : decode cX1_measure 64 = .ok (.iload_n 1, 1) := by decide +kernel
theorem dX1_measure_65 : decode cX1_measure 65 = .ok (.baload, 1) := by decide +kernel
theorem dX1_measure_66 : decode cX1_measure 66 = .ok (.istore_n 3, 1) := by decide +kernel
theorem dX1_measure_67 : decode cX1_measure 67 = .ok (.aload_n 0, 1) := by decide +kernel
theorem dX1_measure_68 : decode cX1_measure 68 = .ok (.iload_n 2, 1) := by decide +kernel
theorem dX1_measure_69 : decode cX1_measure 69 = .ok (.iload_n 3, 1) := by decide +kernel
theorem dX1_measure_70 : decode cX1_measure 70 = .ok (.aload_n 0, 1) := by decide +kernel
theorem dX1_measure_71 : decode cX1_measure 71 = .ok (.getfield 19, 3) := by decide +kernel
theorem dX1_measure_74 : decode cX1_measure 74 = .ok (.iload_n 1, 1) := by decide +kernel
theorem dX1_measure_75 : decode cX1_measure 75 = .ok (.iaload, 1) := by decide +kernel
theorem dX1_measure_76 : decode cX1_measure 76 = .ok (.aload_n 0, 1) := by decide +kernel
theorem dX1_measure_77 : decode cX1_measure 77 = .ok (.getfield 7, 3) := by decide +kernel
theorem dX1_measure_80 : decode cX1_measure 80 = .ok (.iload_n 2, 1) := by decide +kernel
theorem dX1_measure_81 : decode cX1_measure 81 = .ok (.baload, 1) := by decide +kernel
theorem dX1_measure_82 : decode cX1_measure 82 = .ok (.aload_n 0, 1) := by decide +kernel
theorem dX1_measure_83 : decode cX1_measure 83 = .ok (.getfield 7, 3) := by decide +kernel
theorem dX1_measure_86 : decode cX1_measure 86 = .ok (.iload_n 3, 1) := by decide +kernel
theorem dX1_measure_87 : decode cX1_measure 87 = .ok (.baload, 1) := by decide +kernel
theorem dX1_measure_88 : decode cX1_measure 88 = .ok (.iadd, 1) := by decide +kernel
theorem dX1_measure_89 : decode cX1_measure 89 = .ok (.invokevirtual 66, 3) := by decide +kernel
theorem dX1_measure_92 : decode cX1_measure 92 = .ok (.iinc 1 1, 3) := by decide +kernel
theorem dX1_measure_95 : decode cX1_measure 95 = .ok (.goto (-50), 3) := by decide +kernel
theorem dX1_measure_98 : decode cX1_measure 98 = .ok (.iconst 0, 1) := by decide +kernel
theorem dX1_measure_99 : decode cX1_measure 99 = .ok (.istore_n 1, 1) := by decide +kernel
theorem dX1_measure_100 : decode cX1_measure 100 = .ok (.iload_n 1, 1) := by decide +kernel
theorem dX1_measure_101 : decode cX1_measure 101 = .ok (.aload_n 0, 1) := by decide +kernel
theorem dX1_measure_102 : decode cX1_measure 102 = .ok (.getfield 32, 3) := by decide +kernel
theorem dX1_measure_105 : decode cX1_measure 105 = .ok (.if_icmp .ge 120, 3) := by decide +kernel
theorem dX1_measure_108 : decode cX1_measure 108 = .ok (.iconst 0, 1) := by decide +kernel
theorem dX1_measure_109 : decode cX1_measure 109 = .ok (.istore_n 2, 1) := by decide +kernel
theorem dX1_measure_110 : decode cX1_measure 110 = .ok (.iload_n 2, 1) := by decide +kernel
theorem dX1_measure_111 : decode cX1_measure 111 = .ok (.bipush 25, 2) := by decide +kernel
theorem dX1_measure_113 : decode cX1_measure 113 = .ok (.if_icmp .ge 106, 3) := by decide +kernel
theorem dX1_measure_116 : decode cX1_measure 116 = .ok (.iload_n 2, 1) := by decide +kernel
theorem dX1_measure_117 : decode cX1_measure 117 = .ok (.iconst 5, 1) := by decide +kernel
theorem dX1_measure_118 : decode cX1_measure 118 = .ok (.idiv, 1) := by decide +kernel
theorem dX1_measure_119 : decode cX1_measure 119 = .ok (.istore_n 3, 1) := by decide +kernel
theorem dX1_measure_120 : decode cX1_measure 120 = .ok (.iload_n 2, 1) := by decide +kernel
theorem dX1_measure_121 : decode cX1_measure 121 = .ok (.iconst 5, 1) := by decide +kernel
theorem dX1_measure_122 : decode cX1_measure 122 = .ok (.irem, 1) := by decide +kernel
theorem dX1_measure_123 : decode cX1_measure 123 = .ok (.istore 4, 2) := by decide +kernel
theorem dX1_measure_125 : decode cX1_measure 125 = .ok (.iconst 5, 1) := by decide +kernel
theorem dX1_measure_126 : decode cX1_measure 126 = .ok (.iload_n 3, 1) := by decide +kernel
theorem dX1_measure_127 : decode cX1_measure 127 = .ok (.imul, 1) := by decide +kernel
theorem dX1_measure_128 : decode cX1_measure 128 = .ok (.iload_n 1, 1) := by decide +kernel
theorem dX1_measure_129 : decode cX1_measure 129 = .ok (.iadd, 1) := by decide +kernel
theorem dX1_measure_130 : decode cX1_measure 130 = .ok (.istore 5, 2) := by decide +kernel
theorem dX1_measure_132 : decode cX1_measure 132 = .ok (.iconst 5, 1) := by decide +kernel
theorem dX1_measure_133 : decode cX1_measure 133 = .ok (.iload_n 1, 1) := by decide +kernel
theorem dX1_measure_134 : decode cX1_measure 134 = .ok (.imul, 1) := by decide +kernel
theorem dX1_measure_135 : decode cX1_measure 135 = .ok (.iload 4, 2) := by decide +kernel
theorem dX1_measure_137 : decode cX1_measure 137 = .ok (.iadd, 1) := by decide +kernel
theorem dX1_measure_138 : decode cX1_measure 138 = .ok (.istore 6, 2) := by decide +kernel
theorem dX1_measure_140 : decode cX1_measure 140 = .ok (.aload_n 0, 1) := by decide +kernel
theorem dX1_measure_141 : decode cX1_measure 141 = .ok (.getfield 23, 3) := by decide +kernel
theorem dX1_measure_144 : decode cX1_measure 144 = .ok (.iload 5, 2) := by decide +kernel
theorem dX1_measure_146 : decode cX1_measure 146 = .ok (.iaload, 1) := by decide +kernel
theorem dX1_measure_147 : decode cX1_measure 147 = .ok (.sipush 1000, 3) := by decide +kernel
theorem dX1_measure_150 : decode cX1_measure 150 = .ok (.if_icmp .ge 63, 3) := by decide +kernel
theorem dX1_measure_153 : decode cX1_measure 153 = .ok (.aload_n 0, 1) := by decide +kernel
theorem dX1_measure_154 : decode cX1_measure 154 = .ok (.getfield 23, 3) := by decide +kernel
theorem dX1_measure_157 : decode cX1_measure 157 = .ok (.iload 6, 2) := by decide +kernel
theorem dX1_measure_159 : decode cX1_measure 159 = .ok (.iaload, 1) := by decide +kernel
theorem dX1_measure_160 : decode cX1_measure 160 = .ok (.sipush 1000, 3) := by decide +kernel
theorem dX1_measure_163 : decode cX1_measure 163 = .ok (.if_icmp .lt 6, 3) := by decide +kernel
theorem dX1_measure_166 : decode cX1_measure 166 = .ok (.goto 47, 3) := by decide +kernel
theorem dX1_measure_169 : decode cX1_measure 169 = .ok (.aload_n 0, 1) := by decide +kernel
theorem dX1_measure_170 : decode cX1_measure 170 = .ok (.iload_n 3, 1) := by decide +kernel
theorem dX1_measure_171 : decode cX1_measure 171 = .ok (.iload 4, 2) := by decide +kernel
theorem dX1_measure_173 : decode cX1_measure 173 = .ok (.aload_n 0, 1) := by decide +kernel
theorem dX1_measure_174 : decode cX1_measure 174 = .ok (.getfield 23, 3) := by decide +kernel
theorem dX1_measure_177 : decode cX1_measure 177 = .ok (.iload 5, 2) := by decide +kernel
theorem dX1_measure_179 : decode cX1_measure 179 = .ok (.iaload, 1) := by decide +kernel
theorem dX1_measure_180 : decode cX1_measure 180 = .ok (.aload_n 0, 1) := by decide +kernel
theorem dX1_measure_181 : decode cX1_measure 181 = .ok (.getfield 23, 3) := by decide +kernel
theorem dX1_measure_184 : decode cX1_measure 184 = .ok (.iload 6, 2) := by decide +kernel
theorem dX1_measure_186 : decode cX1_measure 186 = .ok (.iaload, 1) := by decide +kernel
theorem dX1_measure_187 : decode cX1_measure 187 = .ok (.iadd, 1) := by decide +kernel
theorem dX1_measure_188 : decode cX1_measure 188 = .ok (.aload_n 0, 1) := by decide +kernel
theorem dX1_measure_189 : decode cX1_measure 189 = .ok (.getfield 26, 3) := by decide +kernel
theorem dX1_measure_192 : decode cX1_measure 192 = .ok (.iload 5, 2) := by decide +kernel
theorem dX1_measure_194 : decode cX1_measure 194 = .ok (.iaload, 1) := by decide +kernel
theorem dX1_measure_195 : decode cX1_measure 195 = .ok (.aload_n 0, 1) := by decide +kernel
theorem dX1_measure_196 : decode cX1_measure 196 = .ok (.getfield 26, 3) := by decide +kernel
theorem dX1_measure_199 : decode cX1_measure 199 = .ok (.iload 6, 2) := by decide +kernel
theorem dX1_measure_201 : decode cX1_measure 201 = .ok (.iaload, 1) := by decide +kernel
theorem dX1_measure_202 : decode cX1_measure 202 = .ok (.iadd, 1) := by decide +kernel
theorem dX1_measure_203 : decode cX1_measure 203 = .ok (.aload_n 0, 1) := by decide +kernel
theorem dX1_measure_204 : decode cX1_measure 204 = .ok (.getfield 7, 3) := by decide +kernel
theorem dX1_measure_207 : decode cX1_measure 207 = .ok (.iload_n 1, 1) := by decide +kernel
theorem dX1_measure_208 : decode cX1_measure 208 = .ok (.baload, 1) := by decide +kernel
theorem dX1_measure_209 : decode cX1_measure 209 = .ok (.isub, 1) := by decide +kernel
theorem dX1_measure_210 : decode cX1_measure 210 = .ok (.invokevirtual 66, 3) := by decide +kernel
theorem dX1_measure_213 : decode cX1_measure 213 = .ok (.iinc 2 1, 3) := by decide +kernel
theorem dX1_measure_216 : decode cX1_measure 216 = .ok (.goto (-106), 3) := by decide +kernel
theorem dX1_measure_219 : decode cX1_measure 219 = .ok (.iinc 1 1, 3) := by decide +kernel
theorem dX1_measure_222 : decode cX1_measure 222 = .ok (.goto (-122), 3) := by decide +kernel
theorem dX1_measure_225 : decode cX1_measure 225 = .ok (.aload_n 0, 1) := by decide +kernel
theorem dX1_measure_226 : decode cX1_measure 226 = .ok (.iconst 1, 1) := by decide +kernel
theorem dX1_measure_227 : decode cX1_measure 227 = .ok (.putfield 50, 3) := by decide +kernel
theorem dX1_measure_230 : decode cX1_measure 230 = .ok (.iconst 0, 1) := by decide +kernel
theorem dX1_measure_231 : decode cX1_measure 231 = .ok (.istore_n 1, 1) := by decide +kernel
theorem dX1_measure_232 : decode cX1_measure 232 = .ok (.iload_n 1, 1) := by decide +kernel
theorem dX1_measure_233 : decode cX1_measure 233 = .ok (.aload_n 0, 1) := by decide +kernel
theorem dX1_measure_234 : decode cX1_measure 234 = .ok (.getfield 32, 3) := by decide +kernel
theorem dX1_measure_237 : decode cX1_measure 237 = .ok (.if_icmp .ge 26, 3) := by decide +kernel
theorem dX1_measure_240 : decode cX1_measure 240 = .ok (.aload_n 0, 1) := by decide +kernel
theorem dX1_measure_241 : decode cX1_measure 241 = .ok (.getfield 23, 3) := by decide +kernel
theorem dX1_measure_244 : decode cX1_measure 244 = .ok (.bipush 6, 2) := by decide +kernel
theorem dX1_measure_246 : decode cX1_measure 246 = .ok (.iload_n 1, 1) := by decide +kernel
theorem dX1_measure_247 : decode cX1_measure 247 = .ok (.imul, 1) := by decide +kernel
theorem dX1_measure_248 : decode cX1_measure 248 = .ok (.iaload, 1) := by decide +kernel
theorem dX1_measure_249 : decode cX1_measure 249 = .ok (.ifCond .ne 8, 3) := by decide +kernel
theorem dX1_measure_252 : decode cX1_measure 252 = .ok (.aload_n 0, 1) := by decide +kernel
theorem dX1_measure_253 : decode cX1_measure 253 = .ok (.iconst 0, 1) := by decide +kernel
theorem dX1_measure_254 : decode cX1_measure 254 = .ok (.putfield 50, 3) := by decide +kernel
theorem dX1_measure_257 : decode cX1_measure 257 = .ok (.iinc 1 1, 3) := by decide +kernel
theorem dX1_measure_260 : decode cX1_measure 260 = .ok (.goto (-28), 3) := by decide +kernel
theorem dX1_measure_263 : decode cX1_measure 263 = .ok (.return_, 1) := by decide +kernel
theorem dX1_offer_0 : decode cX1_offer 0 = .ok (.iconst 5, 1) := by decide +kernel
theorem dX1_offer_1 : decode cX1_offer 1 = .ok (.iload_n 1, 1) := by decide +kernel
theorem dX1_offer_2 : decode cX1_offer 2 = .ok (.imul, 1) := by decide +kernel
theorem dX1_offer_3 : decode cX1_offer 3 = .ok (.iload_n 2, 1) := by decide +kernel
theorem dX1_offer_4 : decode cX1_offer 4 = .ok (.iadd, 1) := by decide +kernel
theorem dX1_offer_5 : decode cX1_offer 5 = .ok (.istore 5, 2) := by decide +kernel
theorem dX1_offer_7 : decode cX1_offer 7 = .ok (.iload_n 3, 1) := by decide +kernel
theorem dX1_offer_8 : decode cX1_offer 8 = .ok (.aload_n 0, 1) := by decide +kernel
theorem dX1_offer_9 : decode cX1_offer 9 = .ok (.getfield 23, 3) := by decide +kernel
theorem dX1_offer_12 : decode cX1_offer 12 = .ok (.iload 5, 2) := by decide +kernel
theorem dX1_offer_14 : decode cX1_offer 14 = .ok (.iaload, 1) := by decide +kernel
theorem dX1_offer_15 : decode cX1_offer 15 = .ok (.if_icmp .gt 26, 3) := by decide +kernel
theorem dX1_offer_18 : decode cX1_offer 18 = .ok (.iload_n 3, 1) := by decide +kernel
theorem dX1_offer_19 : decode cX1_offer 19 = .ok (.aload_n 0, 1) := by decide +kernel
theorem dX1_offer_20 : decode cX1_offer 20 = .ok (.getfield 23, 3) := by decide +kernel
theorem dX1_offer_23 : decode cX1_offer 23 = .ok (.iload 5, 2) := by decide +kernel
theorem dX1_offer_25 : decode cX1_offer 25 = .ok (.iaload, 1) := by decide +kernel
theorem dX1_offer_26 : decode cX1_offer 26 = .ok (.if_icmp .ne 16, 3) := by decide +kernel
theorem dX1_offer_29 : decode cX1_offer 29 = .ok (.iload 4, 2) := by decide +kernel
theorem dX1_offer_31 : decode cX1_offer 31 = .ok (.aload_n 0, 1) := by decide +kernel
theorem dX1_offer_32 : decode cX1_offer 32 = .ok (.getfield 26, 3) := by decide +kernel
theorem dX1_offer_35 : decode cX1_offer 35 = .ok (.iload 5, 2) := by decide +kernel
theorem dX1_offer_37 : decode cX1_offer 37 = .ok (.iaload, 1) := by decide +kernel
theorem dX1_offer_38 : decode cX1_offer 38 = .ok (.if_icmp .gt 4, 3) := by decide +kernel
theorem dX1_offer_41 : decode cX1_offer 41 = .ok (.return_, 1) := by decide +kernel
theorem dX1_offer_42 : decode cX1_offer 42 = .ok (.aload_n 0, 1) := by decide +kernel
theorem dX1_offer_43 : decode cX1_offer 43 = .ok (.getfield 23, 3) := by decide +kernel
theorem dX1_offer_46 : decode cX1_offer 46 = .ok (.iload 5, 2) := by decide +kernel
theorem dX1_offer_48 : decode cX1_offer 48 = .ok (.iload_n 3, 1) := by decide +kernel
theorem dX1_offer_49 : decode cX1_offer 49 = .ok (.iastore, 1) := by decide +kernel
end
section
set_option maxRecDepth 100000
theorem dX1_offer_50 : decode cX1_offer 50 = .ok (.aload_n 0, 1) := by decide +kernel
theorem dX1_offer_51 : decode cX1_offer 51 = .ok (.getfield 26, 3) := by decide +kernel
theorem dX1_offer_54 : decode cX1_offer 54 = .ok (.iload 5, 2) := by decide +kernel
theorem dX1_offer_56 : decode cX1_offer 56 = .ok (.iload 4, 2) := by decide +kernel
theorem dX1_offer_58 : decode cX1_offer 58 = .ok (.iastore, 1) := by decide +kernel
theorem dX1_offer_59 : decode cX1_offer 59 = .ok (.return_, 1) := by decide +kernel
theorem dX1_period_0 : decode cX1_period 0 = .ok (.aload_n 0, 1) := by decide +kernel
theorem dX1_period_1 : decode cX1_period 1 = .ok (.invokevirtual 47, 3) := by decide +kernel
theorem dX1_period_4 : decode cX1_period 4 = .ok (.aload_n 0, 1) := by decide +kernel
theorem dX1_period_5 : decode cX1_period 5 = .ok (.getfield 50, 3) := by decide +kernel
theorem dX1_period_8 : decode cX1_period 8 = .ok (.ifCond .ne 6, 3) := by decide +kernel
theorem dX1_period_11 : decode cX1_period 11 = .ok (.bipush (-3), 2) := by decide +kernel
theorem dX1_period_13 : decode cX1_period 13 = .ok (.ireturn, 1) := by decide +kernel
theorem dX1_period_14 : decode cX1_period 14 = .ok (.aload_n 0, 1) := by decide +kernel
theorem dX1_period_15 : decode cX1_period 15 = .ok (.invokevirtual 53, 3) := by decide +kernel
theorem dX1_period_18 : decode cX1_period 18 = .ok (.istore_n 1, 1) := by decide +kernel
theorem dX1_period_19 : decode cX1_period 19 = .ok (.iconst 0, 1) := by decide +kernel
theorem dX1_period_20 : decode cX1_period 20 = .ok (.istore_n 2, 1) := by decide +kernel
theorem dX1_period_21 : decode cX1_period 21 = .ok (.iload_n 2, 1) := by decide +kernel
theorem dX1_period_22 : decode cX1_period 22 = .ok (.bipush 25, 2) := by decide +kernel
theorem dX1_period_24 : decode cX1_period 24 = .ok (.if_icmp .ge 35, 3) := by decide +kernel
theorem dX1_period_27 : decode cX1_period 27 = .ok (.aload_n 0, 1) := by decide +kernel
theorem dX1_period_28 : decode cX1_period 28 = .ok (.getfield 23, 3) := by decide +kernel
theorem dX1_period_31 : decode cX1_period 31 = .ok (.iload_n 2, 1) := by decide +kernel
theorem dX1_period_32 : decode cX1_period 32 = .ok (.iaload, 1) := by decide +kernel
theorem dX1_period_33 : decode cX1_period 33 = .ok (.ifCond .ne 20, 3) := by decide +kernel
theorem dX1_period_36 : decode cX1_period 36 = .ok (.aload_n 0, 1) := by decide +kernel
theorem dX1_period_37 : decode cX1_period 37 = .ok (.getfield 26, 3) := by decide +kernel
theorem dX1_period_40 : decode cX1_period 40 = .ok (.iload_n 2, 1) := by decide +kernel
theorem dX1_period_41 : decode cX1_period 41 = .ok (.iaload, 1) := by decide +kernel
theorem dX1_period_42 : decode cX1_period 42 = .ok (.iload_n 1, 1) := by decide +kernel
theorem dX1_period_43 : decode cX1_period 43 = .ok (.if_icmp .le 10, 3) := by decide +kernel
theorem dX1_period_46 : decode cX1_period 46 = .ok (.aload_n 0, 1) := by decide +kernel
theorem dX1_period_47 : decode cX1_period 47 = .ok (.getfield 26, 3) := by decide +kernel
theorem dX1_period_50 : decode cX1_period 50 = .ok (.iload_n 2, 1) := by decide +kernel
theorem dX1_period_51 : decode cX1_period 51 = .ok (.iaload, 1) := by decide +kernel
theorem dX1_period_52 : decode cX1_period 52 = .ok (.istore_n 1, 1) := by decide +kernel
theorem dX1_period_53 : decode cX1_period 53 = .ok (.iinc 2 1, 3) := by decide +kernel
theorem dX1_period_56 : decode cX1_period 56 = .ok (.goto (-35), 3) := by decide +kernel
theorem dX1_period_59 : decode cX1_period 59 = .ok (.iload_n 1, 1) := by decide +kernel
theorem dX1_period_60 : decode cX1_period 60 = .ok (.ireturn, 1) := by decide +kernel
theorem dX1_greatestDelay_0 : decode cX1_greatestDelay 0 = .ok (.iconst 0, 1) := by decide +kernel
theorem dX1_greatestDelay_1 : decode cX1_greatestDelay 1 = .ok (.istore_n 1, 1) := by decide +kernel
theorem dX1_greatestDelay_2 : decode cX1_greatestDelay 2 = .ok (.iconst 0, 1) := by decide +kernel
theorem dX1_greatestDelay_3 : decode cX1_greatestDelay 3 = .ok (.istore_n 2, 1) := by decide +kernel
theorem dX1_greatestDelay_4 : decode cX1_greatestDelay 4 = .ok (.iload_n 2, 1) := by decide +kernel
theorem dX1_greatestDelay_5 : decode cX1_greatestDelay 5 = .ok (.aload_n 0, 1) := by decide +kernel
theorem dX1_greatestDelay_6 : decode cX1_greatestDelay 6 = .ok (.getfield 32, 3) := by decide +kernel
theorem dX1_greatestDelay_9 : decode cX1_greatestDelay 9 = .ok (.if_icmp .ge 26, 3) := by decide +kernel
theorem dX1_greatestDelay_12 : decode cX1_greatestDelay 12 = .ok (.aload_n 0, 1) := by decide +kernel
theorem dX1_greatestDelay_13 : decode cX1_greatestDelay 13 = .ok (.getfield 7, 3) := by decide +kernel
theorem dX1_greatestDelay_16 : decode cX1_greatestDelay 16 = .ok (.iload_n 2, 1) := by decide +kernel
theorem dX1_greatestDelay_17 : decode cX1_greatestDelay 17 = .ok (.baload, 1) := by decide +kernel
theorem dX1_greatestDelay_18 : decode cX1_greatestDelay 18 = .ok (.iload_n 1, 1) := by decide +kernel
theorem dX1_greatestDelay_19 : decode cX1_greatestDelay 19 = .ok (.if_icmp .le 10, 3) := by decide +kernel
theorem dX1_greatestDelay_22 : decode cX1_greatestDelay 22 = .ok (.aload_n 0, 1) := by decide +kernel
theorem dX1_greatestDelay_23 : decode cX1_greatestDelay 23 = .ok (.getfield 7, 3) := by decide +kernel
theorem dX1_greatestDelay_26 : decode cX1_greatestDelay 26 = .ok (.iload_n 2, 1) := by decide +kernel
theorem dX1_greatestDelay_27 : decode cX1_greatestDelay 27 = .ok (.baload, 1) := by decide +kernel
theorem dX1_greatestDelay_28 : decode cX1_greatestDelay 28 = .ok (.istore_n 1, 1) := by decide +kernel
theorem dX1_greatestDelay_29 : decode cX1_greatestDelay 29 = .ok (.iinc 2 1, 3) := by decide +kernel
theorem dX1_greatestDelay_32 : decode cX1_greatestDelay 32 = .ok (.goto (-28), 3) := by decide +kernel
theorem dX1_greatestDelay_35 : decode cX1_greatestDelay 35 = .ok (.iload_n 1, 1) := by decide +kernel
theorem dX1_greatestDelay_36 : decode cX1_greatestDelay 36 = .ok (.ireturn, 1) := by decide +kernel
theorem dX1_best_0 : decode cX1_best 0 = .ok (.aload_n 0, 1) := by decide +kernel
theorem dX1_best_1 : decode cX1_best 1 = .ok (.invokevirtual 47, 3) := by decide +kernel
theorem dX1_best_4 : decode cX1_best 4 = .ok (.aload_n 0, 1) := by decide +kernel
theorem dX1_best_5 : decode cX1_best 5 = .ok (.getfield 50, 3) := by decide +kernel
theorem dX1_best_8 : decode cX1_best 8 = .ok (.ifCond .ne 6, 3) := by decide +kernel
theorem dX1_best_11 : decode cX1_best 11 = .ok (.bipush (-3), 2) := by decide +kernel
theorem dX1_best_13 : decode cX1_best 13 = .ok (.ireturn, 1) := by decide +kernel
theorem dX1_best_14 : decode cX1_best 14 = .ok (.aload_n 0, 1) := by decide +kernel
theorem dX1_best_15 : decode cX1_best 15 = .ok (.invokevirtual 57, 3) := by decide +kernel
theorem dX1_best_18 : decode cX1_best 18 = .ok (.istore_n 1, 1) := by decide +kernel
theorem dX1_best_19 : decode cX1_best 19 = .ok (.aload_n 0, 1) := by decide +kernel
theorem dX1_best_20 : decode cX1_best 20 = .ok (.invokevirtual 53, 3) := by decide +kernel
theorem dX1_best_23 : decode cX1_best 23 = .ok (.istore_n 2, 1) := by decide +kernel
theorem dX1_best_24 : decode cX1_best 24 = .ok (.aload_n 0, 1) := by decide +kernel
theorem dX1_best_25 : decode cX1_best 25 = .ok (.iload_n 2, 1) := by decide +kernel
theorem dX1_best_26 : decode cX1_best 26 = .ok (.invokevirtual 60, 3) := by decide +kernel
theorem dX1_best_29 : decode cX1_best 29 = .ok (.ifCond .eq 5, 3) := by decide +kernel
theorem dX1_best_32 : decode cX1_best 32 = .ok (.iload_n 2, 1) := by decide +kernel
theorem dX1_best_33 : decode cX1_best 33 = .ok (.ireturn, 1) := by decide +kernel
theorem dX1_best_34 : decode cX1_best 34 = .ok (.iconst 0, 1) := by decide +kernel
theorem dX1_best_35 : decode cX1_best 35 = .ok (.istore_n 3, 1) := by decide +kernel
theorem dX1_best_36 : decode cX1_best 36 = .ok (.iload_n 3, 1) := by decide +kernel
theorem dX1_best_37 : decode cX1_best 37 = .ok (.bipush 25, 2) := by decide +kernel
theorem dX1_best_39 : decode cX1_best 39 = .ok (.if_icmp .ge 51, 3) := by decide +kernel
theorem dX1_best_42 : decode cX1_best 42 = .ok (.aload_n 0, 1) := by decide +kernel
theorem dX1_best_43 : decode cX1_best 43 = .ok (.getfield 23, 3) := by decide +kernel
theorem dX1_best_46 : decode cX1_best 46 = .ok (.iload_n 3, 1) := by decide +kernel
theorem dX1_best_47 : decode cX1_best 47 = .ok (.iaload, 1) := by decide +kernel
theorem dX1_best_48 : decode cX1_best 48 = .ok (.sipush 1000, 3) := by decide +kernel
theorem dX1_best_51 : decode cX1_best 51 = .ok (.if_icmp .ge 33, 3) := by decide +kernel
theorem dX1_best_54 : decode cX1_best 54 = .ok (.aload_n 0, 1) := by decide +kernel
theorem dX1_best_55 : decode cX1_best 55 = .ok (.getfield 26, 3) := by decide +kernel
theorem dX1_best_58 : decode cX1_best 58 = .ok (.iload_n 3, 1) := by decide +kernel
theorem dX1_best_59 : decode cX1_best 59 = .ok (.iaload, 1) := by decide +kernel
theorem dX1_best_60 : decode cX1_best 60 = .ok (.iload_n 1, 1) := by decide +kernel
theorem dX1_best_61 : decode cX1_best 61 = .ok (.if_icmp .ge 23, 3) := by decide +kernel
theorem dX1_best_64 : decode cX1_best 64 = .ok (.aload_n 0, 1) := by decide +kernel
theorem dX1_best_65 : decode cX1_best 65 = .ok (.aload_n 0, 1) := by decide +kernel
theorem dX1_best_66 : decode cX1_best 66 = .ok (.getfield 26, 3) := by decide +kernel
theorem dX1_best_69 : decode cX1_best 69 = .ok (.iload_n 3, 1) := by decide +kernel
theorem dX1_best_70 : decode cX1_best 70 = .ok (.iaload, 1) := by decide +kernel
theorem dX1_best_71 : decode cX1_best 71 = .ok (.invokevirtual 60, 3) := by decide +kernel
theorem dX1_best_74 : decode cX1_best 74 = .ok (.ifCond .eq 10, 3) := by decide +kernel
theorem dX1_best_77 : decode cX1_best 77 = .ok (.aload_n 0, 1) := by decide +kernel
theorem dX1_best_78 : decode cX1_best 78 = .ok (.getfield 26, 3) := by decide +kernel
theorem dX1_best_81 : decode cX1_best 81 = .ok (.iload_n 3, 1) := by decide +kernel
theorem dX1_best_82 : decode cX1_best 82 = .ok (.iaload, 1) := by decide +kernel
theorem dX1_best_83 : decode cX1_best 83 = .ok (.istore_n 1, 1) := by decide +kernel
theorem dX1_best_84 : decode cX1_best 84 = .ok (.iinc 3 1, 3) := by decide +kernel
theorem dX1_best_87 : decode cX1_best 87 = .ok (.goto (-51), 3) := by decide +kernel
theorem dX1_best_90 : decode cX1_best 90 = .ok (.iload_n 1, 1) := by decide +kernel
theorem dX1_best_91 : decode cX1_best 91 = .ok (.ireturn, 1) := by decide +kernel
theorem dX1_canReach_0 : decode cX1_canReach 0 = .ok (.aload_n 0, 1) := by decide +kernel
theorem dX1_canReach_1 : decode cX1_canReach 1 = .ok (.invokevirtual 53, 3) := by decide +kernel
theorem dX1_canReach_4 : decode cX1_canReach 4 = .ok (.istore_n 2, 1) := by decide +kernel
theorem dX1_canReach_5 : decode cX1_canReach 5 = .ok (.iload_n 1, 1) := by decide +kernel
theorem dX1_canReach_6 : decode cX1_canReach 6 = .ok (.iload_n 2, 1) := by decide +kernel
theorem dX1_canReach_7 : decode cX1_canReach 7 = .ok (.if_icmp .ge 5, 3) := by decide +kernel
theorem dX1_canReach_10 : decode cX1_canReach 10 = .ok (.iconst 0, 1) := by decide +kernel
theorem dX1_canReach_11 : decode cX1_canReach 11 = .ok (.ireturn, 1) := by decide +kernel
theorem dX1_canReach_12 : decode cX1_canReach 12 = .ok (.iconst 0, 1) := by decide +kernel
theorem dX1_canReach_13 : decode cX1_canReach 13 = .ok (.istore_n 3, 1) := by decide +kernel
theorem dX1_canReach_14 : decode cX1_canReach 14 = .ok (.iload_n 3, 1) := by decide +kernel
theorem dX1_canReach_15 : decode cX1_canReach 15 = .ok (.iconst 5, 1) := by decide +kernel
theorem dX1_canReach_16 : decode cX1_canReach 16 = .ok (.if_icmp .ge 16, 3) := by decide +kernel
theorem dX1_canReach_19 : decode cX1_canReach 19 = .ok (.aload_n 0, 1) := by decide +kernel
theorem dX1_canReach_20 : decode cX1_canReach 20 = .ok (.getfield 29, 3) := by decide +kernel
theorem dX1_canReach_23 : decode cX1_canReach 23 = .ok (.iload_n 3, 1) := by decide +kernel
theorem dX1_canReach_24 : decode cX1_canReach 24 = .ok (.iconst 0, 1) := by decide +kernel
theorem dX1_canReach_25 : decode cX1_canReach 25 = .ok (.iastore, 1) := by decide +kernel
theorem dX1_canReach_26 : decode cX1_canReach 26 = .ok (.iinc 3 1, 3) := by decide +kernel
theorem dX1_canReach_29 : decode cX1_canReach 29 = .ok (.goto (-15), 3) := by decide +kernel
theorem dX1_canReach_32 : decode cX1_canReach 32 = .ok (.iconst 1, 1) := by decide +kernel
theorem dX1_canReach_33 : decode cX1_canReach 33 = .ok (.istore_n 3, 1) := by decide +kernel
theorem dX1_canReach_34 : decode cX1_canReach 34 = .ok (.iconst 0, 1) := by decide +kernel
theorem dX1_canReach_35 : decode cX1_canReach 35 = .ok (.istore 4, 2) := by decide +kernel
theorem dX1_canReach_37 : decode cX1_canReach 37 = .ok (.iload 4, 2) := by decide +kernel
theorem dX1_canReach_39 : decode cX1_canReach 39 = .ok (.bipush 6, 2) := by decide +kernel
theorem dX1_canReach_41 : decode cX1_canReach 41 = .ok (.if_icmp .ge 129, 3) := by decide +kernel
theorem dX1_canReach_44 : decode cX1_canReach 44 = .ok (.iload_n 3, 1) := by decide +kernel
theorem dX1_canReach_45 : decode cX1_canReach 45 = .ok (.ifCond .eq 125, 3) := by decide +kernel
theorem dX1_canReach_48 : decode cX1_canReach 48 = .ok (.iconst 0, 1) := by decide +kernel
theorem dX1_canReach_49 : decode cX1_canReach 49 = .ok (.istore_n 3, 1) := by decide +kernel
theorem dX1_canReach_50 : decode cX1_canReach 50 = .ok (.iconst 0, 1) := by decide +kernel
theorem dX1_canReach_51 : decode cX1_canReach 51 = .ok (.istore 5, 2) := by decide +kernel
theorem dX1_canReach_53 : decode cX1_canReach 53 = .ok (.iload 5, 2) := by decide +kernel
theorem dX1_canReach_55 : decode cX1_canReach 55 = .ok (.aload_n 0, 1) := by decide +kernel
theorem dX1_canReach_56 : decode cX1_canReach 56 = .ok (.getfield 44, 3) := by decide +kernel
theorem dX1_canReach_59 : decode cX1_canReach 59 = .ok (.if_icmp .ge 39, 3) := by decide +kernel
theorem dX1_canReach_62 : decode cX1_canReach 62 = .ok (.aload_n 0, 1) := by decide +kernel
theorem dX1_canReach_63 : decode cX1_canReach 63 = .ok (.aload_n 0, 1) := by decide +kernel
theorem dX1_canReach_64 : decode cX1_canReach 64 = .ok (.getfield 13, 3) := by decide +kernel
theorem dX1_canReach_67 : decode cX1_canReach 67 = .ok (.iload 5, 2) := by decide +kernel
theorem dX1_canReach_69 : decode cX1_canReach 69 = .ok (.baload, 1) := by decide +kernel
theorem dX1_canReach_70 : decode cX1_canReach 70 = .ok (.aload_n 0, 1) := by decide +kernel
theorem dX1_canReach_71 : decode cX1_canReach 71 = .ok (.getfield 16, 3) := by decide +kernel
theorem dX1_canReach_74 : decode cX1_canReach 74 = .ok (.iload 5, 2) := by decide +kernel
theorem dX1_canReach_76 : decode cX1_canReach 76 = .ok (.baload, 1) := by decide +kernel
theorem dX1_canReach_77 : decode cX1_canReach 77 = .ok (.aload_n 0, 1) := by decide +kernel
theorem dX1_canReach_78 : decode cX1_canReach 78 = .ok (.getfield 19, 3) := by decide +kernel
theorem dX1_canReach_81 : decode cX1_canReach 81 = .ok (.iload 5, 2) := by decide +kernel
theorem dX1_canReach_83 : decode cX1_canReach 83 = .ok (.iaload, 1) := by decide +kernel
theorem dX1_canReach_84 : decode cX1_canReach 84 = .ok (.invokevirtual 70, 3) := by decide +kernel
theorem dX1_canReach_87 : decode cX1_canReach 87 = .ok (.ifCond .eq 5, 3) := by decide +kernel
theorem dX1_canReach_90 : decode cX1_canReach 90 = .ok (.iconst 1, 1) := by decide +kernel
theorem dX1_canReach_91 : decode cX1_canReach 91 = .ok (.istore_n 3, 1) := by decide +kernel
theorem dX1_canReach_92 : decode cX1_canReach 92 = .ok (.iinc 5 1, 3) := by decide +kernel
theorem dX1_canReach_95 : decode cX1_canReach 95 = .ok (.goto (-42), 3) := by decide +kernel
theorem dX1_canReach_98 : decode cX1_canReach 98 = .ok (.iconst 0, 1) := by decide +kernel
theorem dX1_canReach_99 : decode cX1_canReach 99 = .ok (.istore 5, 2) := by decide +kernel
theorem dX1_canReach_101 : decode cX1_canReach 101 = .ok (.iload 5, 2) := by decide +kernel
theorem dX1_canReach_103 : decode cX1_canReach 103 = .ok (.bipush 25, 2) := by decide +kernel
theorem dX1_canReach_105 : decode cX1_canReach 105 = .ok (.if_icmp .ge 59, 3) := by decide +kernel
theorem dX1_canReach_108 : decode cX1_canReach 108 = .ok (.aload_n 0, 1) := by decide +kernel
theorem dX1_canReach_109 : decode cX1_canReach 109 = .ok (.getfield 23, 3) := by decide +kernel
theorem dX1_canReach_112 : decode cX1_canReach 112 = .ok (.iload 5, 2) := by decide +kernel
theorem dX1_canReach_114 : decode cX1_canReach 114 = .ok (.iaload, 1) := by decide +kernel
theorem dX1_canReach_115 : decode cX1_canReach 115 = .ok (.sipush 1000, 3) := by decide +kernel
theorem dX1_canReach_118 : decode cX1_canReach 118 = .ok (.if_icmp .ge 40, 3) := by decide +kernel
theorem dX1_canReach_121 : decode cX1_canReach 121 = .ok (.aload_n 0, 1) := by decide +kernel
theorem dX1_canReach_122 : decode cX1_canReach 122 = .ok (.getfield 26, 3) := by decide +kernel
theorem dX1_canReach_125 : decode cX1_canReach 125 = .ok (.iload 5, 2) := by decide +kernel
theorem dX1_canReach_127 : decode cX1_canReach 127 = .ok (.iaload, 1) := by decide +kernel
theorem dX1_canReach_128 : decode cX1_canReach 128 = .ok (.iload_n 1, 1) := by decide +kernel
theorem dX1_canReach_129 : decode cX1_canReach 129 = .ok (.if_icmp .le 29, 3) := by decide +kernel
theorem dX1_canReach_132 : decode cX1_canReach 132 = .ok (.aload_n 0, 1) := by decide +kernel
theorem dX1_canReach_133 : decode cX1_canReach 133 = .ok (.iload 5, 2) := by decide +kernel
theorem dX1_canReach_135 : decode cX1_canReach 135 = .ok (.iconst 5, 1) := by decide +kernel
theorem dX1_canReach_136 : decode cX1_canReach 136 = .ok (.idiv, 1) := by decide +kernel
theorem dX1_canReach_137 : decode cX1_canReach 137 = .ok (.iload 5, 2) := by decide +kernel
theorem dX1_canReach_139 : decode cX1_canReach 139 = .ok (.iconst 5, 1) := by decide +kernel
theorem dX1_canReach_140 : decode cX1_canReach 140 = .ok (.irem, 1) := by decide +kernel
theorem dX1_canReach_141 : decode cX1_canReach 141 = .ok (.aload_n 0, 1) := by decide +kernel
theorem dX1_canReach_142 : decode cX1_canReach 142 = .ok (.getfield 23, 3) := by decide +kernel
theorem dX1_canReach_145 : decode cX1_canReach 145 = .ok (.iload 5, 2) := by decide +kernel
theorem dX1_canReach_147 : decode cX1_canReach 147 = .ok (.iaload, 1) := by decide +kernel
theorem dX1_canReach_148 : decode cX1_canReach 148 = .ok (.iconst 1, 1) := by decide +kernel
theorem dX1_canReach_149 : decode cX1_canReach 149 = .ok (.isub, 1) := by decide +kernel
theorem dX1_canReach_150 : decode cX1_canReach 150 = .ok (.invokevirtual 70, 3) := by decide +kernel
theorem dX1_canReach_153 : decode cX1_canReach 153 = .ok (.ifCond .eq 5, 3) := by decide +kernel
theorem dX1_canReach_156 : decode cX1_canReach 156 = .ok (.iconst 1, 1) := by decide +kernel
theorem dX1_canReach_157 : decode cX1_canReach 157 = .ok (.istore_n 3, 1) := by decide +kernel
theorem dX1_canReach_158 : decode cX1_canReach 158 = .ok (.iinc 5 1, 3) := by decide +kernel
theorem dX1_canReach_161 : decode cX1_canReach 161 = .ok (.goto (-60), 3) := by decide +kernel
theorem dX1_canReach_164 : decode cX1_canReach 164 = .ok (.iinc 4 1, 3) := by decide +kernel
theorem dX1_canReach_167 : decode cX1_canReach 167 = .ok (.goto (-130), 3) := by decide +kernel
theorem dX1_canReach_170 : decode cX1_canReach 170 = .ok (.iload_n 3, 1) := by decide +kernel
theorem dX1_canReach_171 : decode cX1_canReach 171 = .ok (.ifCond .ne 7, 3) := by decide +kernel
theorem dX1_canReach_174 : decode cX1_canReach 174 = .ok (.iconst 1, 1) := by decide +kernel
theorem dX1_canReach_175 : decode cX1_canReach 175 = .ok (.goto 4, 3) := by decide +kernel
theorem dX1_canReach_178 : decode cX1_canReach 178 = .ok (.iconst 0, 1) := by decide +kernel
theorem dX1_canReach_179 : decode cX1_canReach 179 = .ok (.ireturn, 1) := by decide +kernel
theorem dX1_lower_0 : decode cX1_lower 0 = .ok (.aload_n 0, 1) := by decide +kernel
theorem dX1_lower_1 : decode cX1_lower 1 = .ok (.getfield 29, 3) := by decide +kernel
theorem dX1_lower_4 : decode cX1_lower 4 = .ok (.iload_n 1, 1) := by decide +kernel
theorem dX1_lower_5 : decode cX1_lower 5 = .ok (.iaload, 1) := by decide +kernel
theorem dX1_lower_6 : decode cX1_lower 6 = .ok (.aload_n 0, 1) := by decide +kernel
theorem dX1_lower_7 : decode cX1_lower 7 = .ok (.getfield 29, 3) := by decide +kernel
theorem dX1_lower_10 : decode cX1_lower 10 = .ok (.iload_n 2, 1) := by decide +kernel
theorem dX1_lower_11 : decode cX1_lower 11 = .ok (.iaload, 1) := by decide +kernel
theorem dX1_lower_12 : decode cX1_lower 12 = .ok (.iload_n 3, 1) := by decide +kernel
theorem dX1_lower_13 : decode cX1_lower 13 = .ok (.iadd, 1) := by decide +kernel
theorem dX1_lower_14 : decode cX1_lower 14 = .ok (.if_icmp .gt 5, 3) := by decide +kernel
theorem dX1_lower_17 : decode cX1_lower 17 = .ok (.iconst 0, 1) := by decide +kernel
theorem dX1_lower_18 : decode cX1_lower 18 = .ok (.ireturn, 1) := by decide +kernel
theorem dX1_lower_19 : decode cX1_lower 19 = .ok (.aload_n 0, 1) := by decide +kernel
theorem dX1_lower_20 : decode cX1_lower 20 = .ok (.getfield 29, 3) := by decide +kernel
theorem dX1_lower_23 : decode cX1_lower 23 = .ok (.iload_n 1, 1) := by decide +kernel
theorem dX1_lower_24 : decode cX1_lower 24 = .ok (.aload_n 0, 1) := by decide +kernel
theorem dX1_lower_25 : decode cX1_lower 25 = .ok (.getfield 29, 3) := by decide +kernel
theorem dX1_lower_28 : decode cX1_lower 28 = .ok (.iload_n 2, 1) := by decide +kernel
theorem dX1_lower_29 : decode cX1_lower 29 = .ok (.iaload, 1) := by decide +kernel
theorem dX1_lower_30 : decode cX1_lower 30 = .ok (.iload_n 3, 1) := by decide +kernel
theorem dX1_lower_31 : decode cX1_lower 31 = .ok (.iadd, 1) := by decide +kernel
theorem dX1_lower_32 : decode cX1_lower 32 = .ok (.iastore, 1) := by decide +kernel
theorem dX1_lower_33 : decode cX1_lower 33 = .ok (.iconst 1, 1) := by decide +kernel
theorem dX1_lower_34 : decode cX1_lower 34 = .ok (.ireturn, 1) := by decide +kernel
theorem dX1_lag_0 : decode cX1_lag 0 = .ok (.aload_n 0, 1) := by decide +kernel
theorem dX1_lag_1 : decode cX1_lag 1 = .ok (.iload_n 1, 1) := by decide +kernel
theorem dX1_lag_2 : decode cX1_lag 2 = .ok (.invokevirtual 36, 3) := by decide +kernel
theorem dX1_lag_5 : decode cX1_lag 5 = .ok (.ifCond .ne 6, 3) := by decide +kernel
theorem dX1_lag_8 : decode cX1_lag 8 = .ok (.bipush (-101), 2) := by decide +kernel
theorem dX1_lag_10 : decode cX1_lag 10 = .ok (.ireturn, 1) := by decide +kernel
theorem dX1_lag_11 : decode cX1_lag 11 = .ok (.aload_n 0, 1) := by decide +kernel
theorem dX1_lag_12 : decode cX1_lag 12 = .ok (.invokevirtual 63, 3) := by decide +kernel
theorem dX1_lag_15 : decode cX1_lag 15 = .ok (.istore_n 2, 1) := by decide +kernel
theorem dX1_lag_16 : decode cX1_lag 16 = .ok (.iload_n 2, 1) := by decide +kernel
theorem dX1_lag_17 : decode cX1_lag 17 = .ok (.bipush (-3), 2) := by decide +kernel
theorem dX1_lag_19 : decode cX1_lag 19 = .ok (.if_icmp .ne 6, 3) := by decide +kernel
theorem dX1_lag_22 : decode cX1_lag 22 = .ok (.bipush (-100), 2) := by decide +kernel
theorem dX1_lag_24 : decode cX1_lag 24 = .ok (.ireturn, 1) := by decide +kernel
theorem dX1_lag_25 : decode cX1_lag 25 = .ok (.aload_n 0, 1) := by decide +kernel
theorem dX1_lag_26 : decode cX1_lag 26 = .ok (.iload_n 2, 1) := by decide +kernel
theorem dX1_lag_27 : decode cX1_lag 27 = .ok (.invokevirtual 60, 3) := by decide +kernel
theorem dX1_lag_30 : decode cX1_lag 30 = .ok (.pop, 1) := by decide +kernel
theorem dX1_lag_31 : decode cX1_lag 31 = .ok (.aload_n 0, 1) := by decide +kernel
theorem dX1_lag_32 : decode cX1_lag 32 = .ok (.getfield 29, 3) := by decide +kernel
theorem dX1_lag_35 : decode cX1_lag 35 = .ok (.iload_n 1, 1) := by decide +kernel
theorem dX1_lag_36 : decode cX1_lag 36 = .ok (.iaload, 1) := by decide +kernel
theorem dX1_lag_37 : decode cX1_lag 37 = .ok (.ireturn, 1) := by decide +kernel
theorem dX1_reachable_0 : decode cX1_reachable 0 = .ok (.aload_n 0, 1) := by decide +kernel
theorem dX1_reachable_1 : decode cX1_reachable 1 = .ok (.invokevirtual 47, 3) := by decide +kernel
theorem dX1_reachable_4 : decode cX1_reachable 4 = .ok (.aload_n 0, 1) := by decide +kernel
theorem dX1_reachable_5 : decode cX1_reachable 5 = .ok (.getfield 50, 3) := by decide +kernel
theorem dX1_reachable_8 : decode cX1_reachable 8 = .ok (.ifCond .eq 15, 3) := by decide +kernel
theorem dX1_reachable_11 : decode cX1_reachable 11 = .ok (.aload_n 0, 1) := by decide +kernel
theorem dX1_reachable_12 : decode cX1_reachable 12 = .ok (.iload_n 1, 1) := by decide +kernel
theorem dX1_reachable_13 : decode cX1_reachable 13 = .ok (.invokevirtual 60, 3) := by decide +kernel
theorem dX1_reachable_16 : decode cX1_reachable 16 = .ok (.ifCond .eq 7, 3) := by decide +kernel
theorem dX1_reachable_19 : decode cX1_reachable 19 = .ok (.iconst 1, 1) := by decide +kernel
theorem dX1_reachable_20 : decode cX1_reachable 20 = .ok (.goto 4, 3) := by decide +kernel
theorem dX1_reachable_23 : decode cX1_reachable 23 = .ok (.iconst 0, 1) := by decide +kernel
theorem dX1_reachable_24 : decode cX1_reachable 24 = .ok (.ireturn, 1) := by decide +kernel
theorem dX1_apply_0 : decode cX1_apply 0 = .ok (.aload_n 0, 1) := by decide +kernel
theorem dX1_apply_1 : decode cX1_apply 1 = .ok (.invokevirtual 63, 3) := by decide +kernel
theorem dX1_apply_4 : decode cX1_apply 4 = .ok (.istore_n 1, 1) := by decide +kernel
theorem dX1_apply_5 : decode cX1_apply 5 = .ok (.iload_n 1, 1) := by decide +kernel
theorem dX1_apply_6 : decode cX1_apply 6 = .ok (.bipush (-3), 2) := by decide +kernel
theorem dX1_apply_8 : decode cX1_apply 8 = .ok (.if_icmp .ne 6, 3) := by decide +kernel
theorem dX1_apply_11 : decode cX1_apply 11 = .ok (.bipush (-100), 2) := by decide +kernel
theorem dX1_apply_13 : decode cX1_apply 13 = .ok (.ireturn, 1) := by decide +kernel
theorem dX1_apply_14 : decode cX1_apply 14 = .ok (.aload_n 0, 1) := by decide +kernel
theorem dX1_apply_15 : decode cX1_apply 15 = .ok (.iload_n 1, 1) := by decide +kernel
theorem dX1_apply_16 : decode cX1_apply 16 = .ok (.invokevirtual 60, 3) := by decide +kernel
theorem dX1_apply_19 : decode cX1_apply 19 = .ok (.pop, 1) := by decide +kernel
theorem dX1_apply_20 : decode cX1_apply 20 = .ok (.iconst 0, 1) := by decide +kernel
theorem dX1_apply_21 : decode cX1_apply 21 = .ok (.istore_n 2, 1) := by decide +kernel
theorem dX1_apply_22 : decode cX1_apply 22 = .ok (.iconst 0, 1) := by decide +kernel
theorem dX1_apply_23 : decode cX1_apply 23 = .ok (.istore_n 3, 1) := by decide +kernel
theorem dX1_apply_24 : decode cX1_apply 24 = .ok (.iload_n 3, 1) := by decide +kernel
theorem dX1_apply_25 : decode cX1_apply 25 = .ok (.aload_n 0, 1) := by decide +kernel
theorem dX1_apply_26 : decode cX1_apply 26 = .ok (.getfield 44, 3) := by decide +kernel
theorem dX1_apply_29 : decode cX1_apply 29 = .ok (.if_icmp .ge 50, 3) := by decide +kernel
theorem dX1_apply_32 : decode cX1_apply 32 = .ok (.aload_n 0, 1) := by decide +kernel
theorem dX1_apply_33 : decode cX1_apply 33 = .ok (.getfield 29, 3) := by decide +kernel
theorem dX1_apply_36 : decode cX1_apply 36 = .ok (.aload_n 0, 1) := by decide +kernel
theorem dX1_apply_37 : decode cX1_apply 37 = .ok (.getfield 16, 3) := by decide +kernel
theorem dX1_apply_40 : decode cX1_apply 40 = .ok (.iload_n 3, 1) := by decide +kernel
theorem dX1_apply_41 : decode cX1_apply 41 = .ok (.baload, 1) := by decide +kernel
theorem dX1_apply_42 : decode cX1_apply 42 = .ok (.iaload, 1) := by decide +kernel
theorem dX1_apply_43 : decode cX1_apply 43 = .ok (.aload_n 0, 1) := by decide +kernel
theorem dX1_apply_44 : decode cX1_apply 44 = .ok (.getfield 29, 3) := by decide +kernel
theorem dX1_apply_47 : decode cX1_apply 47 = .ok (.aload_n 0, 1) := by decide +kernel
theorem dX1_apply_48 : decode cX1_apply 48 = .ok (.getfield 13, 3) := by decide +kernel
theorem dX1_apply_51 : decode cX1_apply 51 = .ok (.iload_n 3, 1) := by decide +kernel
theorem dX1_apply_52 : decode cX1_apply 52 = .ok (.baload, 1) := by decide +kernel
theorem dX1_apply_53 : decode cX1_apply 53 = .ok (.iaload, 1) := by decide +kernel
theorem dX1_apply_54 : decode cX1_apply 54 = .ok (.isub, 1) := by decide +kernel
theorem dX1_apply_55 : decode cX1_apply 55 = .ok (.istore 4, 2) := by decide +kernel
theorem dX1_apply_57 : decode cX1_apply 57 = .ok (.aload_n 0, 1) := by decide +kernel
theorem dX1_apply_58 : decode cX1_apply 58 = .ok (.getfield 19, 3) := by decide +kernel
theorem dX1_apply_61 : decode cX1_apply 61 = .ok (.iload_n 3, 1) := by decide +kernel
theorem dX1_apply_62 : decode cX1_apply 62 = .ok (.dup2, 1) := by decide +kernel
theorem dX1_apply_63 : decode cX1_apply 63 = .ok (.iaload, 1) := by decide +kernel
theorem dX1_apply_64 : decode cX1_apply 64 = .ok (.iload 4, 2) := by decide +kernel
theorem dX1_apply_66 : decode cX1_apply 66 = .ok (.iadd, 1) := by decide +kernel
theorem dX1_apply_67 : decode cX1_apply 67 = .ok (.iastore, 1) := by decide +kernel
theorem dX1_apply_68 : decode cX1_apply 68 = .ok (.iload_n 2, 1) := by decide +kernel
theorem dX1_apply_69 : decode cX1_apply 69 = .ok (.iload 4, 2) := by decide +kernel
theorem dX1_apply_71 : decode cX1_apply 71 = .ok (.iadd, 1) := by decide +kernel
theorem dX1_apply_72 : decode cX1_apply 72 = .ok (.istore_n 2, 1) := by decide +kernel
theorem dX1_apply_73 : decode cX1_apply 73 = .ok (.iinc 3 1, 3) := by decide +kernel
theorem dX1_apply_76 : decode cX1_apply 76 = .ok (.goto (-52), 3) := by decide +kernel
theorem dX1_apply_79 : decode cX1_apply 79 = .ok (.aload_n 0, 1) := by decide +kernel
theorem dX1_apply_80 : decode cX1_apply 80 = .ok (.iconst 0, 1) := by decide +kernel
theorem dX1_apply_81 : decode cX1_apply 81 = .ok (.putfield 40, 3) := by decide +kernel
theorem dX1_apply_84 : decode cX1_apply 84 = .ok (.iload_n 2, 1) := by decide +kernel
theorem dX1_apply_85 : decode cX1_apply 85 = .ok (.ireturn, 1) := by decide +kernel
theorem dX1_registers_0 : decode cX1_registers 0 = .ok (.iload_n 1, 1) := by decide +kernel
theorem dX1_registers_1 : decode cX1_registers 1 = .ok (.ifCond .lt 11, 3) := by decide +kernel
theorem dX1_registers_4 : decode cX1_registers 4 = .ok (.iload_n 1, 1) := by decide +kernel
theorem dX1_registers_5 : decode cX1_registers 5 = .ok (.aload_n 0, 1) := by decide +kernel
theorem dX1_registers_6 : decode cX1_registers 6 = .ok (.getfield 44, 3) := by decide +kernel
theorem dX1_registers_9 : decode cX1_registers 9 = .ok (.if_icmp .lt 7, 3) := by decide +kernel
theorem dX1_registers_12 : decode cX1_registers 12 = .ok (.iconst (-1), 1) := by decide +kernel
theorem dX1_registers_13 : decode cX1_registers 13 = .ok (.goto 9, 3) := by decide +kernel
theorem dX1_registers_16 : decode cX1_registers 16 = .ok (.aload_n 0, 1) := by decide +kernel
theorem dX1_registers_17 : decode cX1_registers 17 = .ok (.getfield 19, 3) := by decide +kernel
theorem dX1_registers_20 : decode cX1_registers 20 = .ok (.iload_n 1, 1) := by decide +kernel
theorem dX1_registers_21 : decode cX1_registers 21 = .ok (.iaload, 1) := by decide +kernel
theorem dX1_registers_22 : decode cX1_registers 22 = .ok (.ireturn, 1) := by decide +kernel
theorem dX1_fewest_0 : decode cX1_fewest 0 = .ok (.aload_n 0, 1) := by decide +kernel
theorem dX1_fewest_1 : decode cX1_fewest 1 = .ok (.iload_n 1, 1) := by decide +kernel
theorem dX1_fewest_2 : decode cX1_fewest 2 = .ok (.invokevirtual 36, 3) := by decide +kernel
theorem dX1_fewest_5 : decode cX1_fewest 5 = .ok (.ifCond .eq 11, 3) := by decide +kernel
theorem dX1_fewest_8 : decode cX1_fewest 8 = .ok (.aload_n 0, 1) := by decide +kernel
theorem dX1_fewest_9 : decode cX1_fewest 9 = .ok (.iload_n 2, 1) := by decide +kernel
theorem dX1_fewest_10 : decode cX1_fewest 10 = .ok (.invokevirtual 36, 3) := by decide +kernel
theorem dX1_fewest_13 : decode cX1_fewest 13 = .ok (.ifCond .ne 5, 3) := by decide +kernel
theorem dX1_fewest_16 : decode cX1_fewest 16 = .ok (.iconst (-1), 1) := by decide +kernel
theorem dX1_fewest_17 : decode cX1_fewest 17 = .ok (.ireturn, 1) := by decide +kernel
theorem dX1_fewest_18 : decode cX1_fewest 18 = .ok (.aload_n 0, 1) := by decide +kernel
theorem dX1_fewest_19 : decode cX1_fewest 19 = .ok (.invokevirtual 47, 3) := by decide +kernel
theorem dX1_fewest_22 : decode cX1_fewest 22 = .ok (.aload_n 0, 1) := by decide +kernel
theorem dX1_fewest_23 : decode cX1_fewest 23 = .ok (.getfield 23, 3) := by decide +kernel
theorem dX1_fewest_26 : decode cX1_fewest 26 = .ok (.iconst 5, 1) := by decide +kernel
theorem dX1_fewest_27 : decode cX1_fewest 27 = .ok (.iload_n 1, 1) := by decide +kernel
theorem dX1_fewest_28 : decode cX1_fewest 28 = .ok (.imul, 1) := by decide +kernel
theorem dX1_fewest_29 : decode cX1_fewest 29 = .ok (.iload_n 2, 1) := by decide +kernel
theorem dX1_fewest_30 : decode cX1_fewest 30 = .ok (.iadd, 1) := by decide +kernel
theorem dX1_fewest_31 : decode cX1_fewest 31 = .ok (.iaload, 1) := by decide +kernel
theorem dX1_fewest_32 : decode cX1_fewest 32 = .ok (.sipush 1000, 3) := by decide +kernel
theorem dX1_fewest_35 : decode cX1_fewest 35 = .ok (.if_icmp .lt 8, 3) := by decide +kernel
theorem dX1_fewest_38 : decode cX1_fewest 38 = .ok (.bipush (-2), 2) := by decide +kernel
theorem dX1_fewest_40 : decode cX1_fewest 40 = .ok (.goto 13, 3) := by decide +kernel
theorem dX1_fewest_43 : decode cX1_fewest 43 = .ok (.aload_n 0, 1) := by decide +kernel
theorem dX1_fewest_44 : decode cX1_fewest 44 = .ok (.getfield 23, 3) := by decide +kernel
theorem dX1_fewest_47 : decode cX1_fewest 47 = .ok (.iconst 5, 1) := by decide +kernel
theorem dX1_fewest_48 : decode cX1_fewest 48 = .ok (.iload_n 1, 1) := by decide +kernel
theorem dX1_fewest_49 : decode cX1_fewest 49 = .ok (.imul, 1) := by decide +kernel
theorem dX1_fewest_50 : decode cX1_fewest 50 = .ok (.iload_n 2, 1) := by decide +kernel
theorem dX1_fewest_51 : decode cX1_fewest 51 = .ok (.iadd, 1) := by decide +kernel
theorem dX1_fewest_52 : decode cX1_fewest 52 = .ok (.iaload, 1) := by decide +kernel
theorem dX1_fewest_53 : decode cX1_fewest 53 = .ok (.ireturn, 1) := by decide +kernel
end
section
set_option maxRecDepth 100000
theorem dX2_init_0 : decode cX2_init 0 = .ok (.aload_n 0, 1) := by decide +kernel
theorem dX2_init_1 : decode cX2_init 1 = .ok (.invokespecial 1, 3) := by decide +kernel
theorem dX2_init_4 : decode cX2_init 4 = .ok (.aload_n 0, 1) := by decide +kernel
theorem dX2_init_5 : decode cX2_init 5 = .ok (.iconst 0, 1) := by decide +kernel
theorem dX2_init_6 : decode cX2_init 6 = .ok (.putfield 7, 3) := by decide +kernel
theorem dX2_init_9 : decode cX2_init 9 = .ok (.aload_n 0, 1) := by decide +kernel
theorem dX2_init_10 : decode cX2_init 10 = .ok (.iconst 5, 1) := by decide +kernel
theorem dX2_init_11 : decode cX2_init 11 = .ok (.newarray .int, 2) := by decide +kernel
theorem dX2_init_13 : decode cX2_init 13 = .ok (.putfield 13, 3) := by decide +kernel
theorem dX2_init_16 : decode cX2_init 16 = .ok (.aload_n 0, 1) := by decide +kernel
theorem dX2_init_17 : decode cX2_init 17 = .ok (.bipush 12, 2) := by decide +kernel
theorem dX2_init_19 : decode cX2_init 19 = .ok (.newarray .int, 2) := by decide +kernel
theorem dX2_init_21 : decode cX2_init 21 = .ok (.putfield 17, 3) := by decide +kernel
theorem dX2_init_24 : decode cX2_init 24 = .ok (.aload_n 0, 1) := by decide +kernel
theorem dX2_init_25 : decode cX2_init 25 = .ok (.bipush 12, 2) := by decide +kernel
theorem dX2_init_27 : decode cX2_init 27 = .ok (.newarray .int, 2) := by decide +kernel
theorem dX2_init_29 : decode cX2_init 29 = .ok (.putfield 20, 3) := by decide +kernel
theorem dX2_init_32 : decode cX2_init 32 = .ok (.aload_n 0, 1) := by decide +kernel
theorem dX2_init_33 : decode cX2_init 33 = .ok (.bipush 12, 2) := by decide +kernel
theorem dX2_init_35 : decode cX2_init 35 = .ok (.newarray .int, 2) := by decide +kernel
theorem dX2_init_37 : decode cX2_init 37 = .ok (.putfield 23, 3) := by decide +kernel
theorem dX2_init_40 : decode cX2_init 40 = .ok (.aload_n 0, 1) := by decide +kernel
theorem dX2_init_41 : decode cX2_init 41 = .ok (.iconst 5, 1) := by decide +kernel
theorem dX2_init_42 : decode cX2_init 42 = .ok (.newarray .int, 2) := by decide +kernel
theorem dX2_init_44 : decode cX2_init 44 = .ok (.putfield 26, 3) := by decide +kernel
theorem dX2_init_47 : decode cX2_init 47 = .ok (.aload_n 0, 1) := by decide +kernel
theorem dX2_init_48 : decode cX2_init 48 = .ok (.iconst 5, 1) := by decide +kernel
theorem dX2_init_49 : decode cX2_init 49 = .ok (.newarray .int, 2) := by decide +kernel
theorem dX2_init_51 : decode cX2_init 51 = .ok (.putfield 29, 3) := by decide +kernel
theorem dX2_init_54 : decode cX2_init 54 = .ok (.aload_n 0, 1) := by decide +kernel
theorem dX2_init_55 : decode cX2_init 55 = .ok (.iconst 0, 1) := by decide +kernel
theorem dX2_init_56 : decode cX2_init 56 = .ok (.putfield 32, 3) := by decide +kernel
theorem dX2_init_59 : decode cX2_init 59 = .ok (.aload_n 0, 1) := by decide +kernel
theorem dX2_init_60 : decode cX2_init 60 = .ok (.iconst 5, 1) := by decide +kernel
theorem dX2_init_61 : decode cX2_init 61 = .ok (.newarray .int, 2) := by decide +kernel
theorem dX2_init_63 : decode cX2_init 63 = .ok (.putfield 36, 3) := by decide +kernel
theorem dX2_init_66 : decode cX2_init 66 = .ok (.aload_n 0, 1) := by decide +kernel
theorem dX2_init_67 : decode cX2_init 67 = .ok (.bipush 25, 2) := by decide +kernel
theorem dX2_init_69 : decode cX2_init 69 = .ok (.newarray .int, 2) := by decide +kernel
theorem dX2_init_71 : decode cX2_init 71 = .ok (.putfield 39, 3) := by decide +kernel
theorem dX2_init_74 : decode cX2_init 74 = .ok (.aload_n 0, 1) := by decide +kernel
theorem dX2_init_75 : decode cX2_init 75 = .ok (.iload_n 1, 1) := by decide +kernel
theorem dX2_init_76 : decode cX2_init 76 = .ok (.iconst 1, 1) := by decide +kernel
theorem dX2_init_77 : decode cX2_init 77 = .ok (.if_icmp .ge 7, 3) := by decide +kernel
theorem dX2_init_80 : decode cX2_init 80 = .ok (.iconst 1, 1) := by decide +kernel
theorem dX2_init_81 : decode cX2_init 81 = .ok (.goto 13, 3) := by decide +kernel
theorem dX2_init_84 : decode cX2_init 84 = .ok (.iload_n 1, 1) := by decide +kernel
theorem dX2_init_85 : decode cX2_init 85 = .ok (.iconst 5, 1) := by decide +kernel
theorem dX2_init_86 : decode cX2_init 86 = .ok (.if_icmp .le 7, 3) := by decide +kernel
theorem dX2_init_89 : decode cX2_init 89 = .ok (.iconst 5, 1) := by decide +kernel
theorem dX2_init_90 : decode cX2_init 90 = .ok (.goto 4, 3) := by decide +kernel
theorem dX2_init_93 : decode cX2_init 93 = .ok (.iload_n 1, 1) := by decide +kernel
theorem dX2_init_94 : decode cX2_init 94 = .ok (.putfield 42, 3) := by decide +kernel
theorem dX2_init_97 : decode cX2_init 97 = .ok (.return_, 1) := by decide +kernel
theorem dX2_delay_0 : decode cX2_delay 0 = .ok (.aload_n 0, 1) := by decide +kernel
theorem dX2_delay_1 : decode cX2_delay 1 = .ok (.iload_n 1, 1) := by decide +kernel
theorem dX2_delay_2 : decode cX2_delay 2 = .ok (.invokevirtual 45, 3) := by decide +kernel
theorem dX2_delay_5 : decode cX2_delay 5 = .ok (.ifCond .eq 13, 3) := by decide +kernel
theorem dX2_delay_8 : decode cX2_delay 8 = .ok (.iload_n 2, 1) := by decide +kernel
theorem dX2_delay_9 : decode cX2_delay 9 = .ok (.ifCond .lt 9, 3) := by decide +kernel
theorem dX2_delay_12 : decode cX2_delay 12 = .ok (.iload_n 2, 1) := by decide +kernel
theorem dX2_delay_13 : decode cX2_delay 13 = .ok (.bipush 9, 2) := by decide +kernel
theorem dX2_delay_15 : decode cX2_delay 15 = .ok (.if_icmp .le 5, 3) := by decide +kernel
theorem dX2_delay_18 : decode cX2_delay 18 = .ok (.iconst 0, 1) := by decide +kernel
theorem dX2_delay_19 : decode cX2_delay 19 = .ok (.ireturn, 1) := by decide +kernel
theorem dX2_delay_20 : decode cX2_delay 20 = .ok (.aload_n 0, 1) := by decide +kernel
theorem dX2_delay_21 : decode cX2_delay 21 = .ok (.getfield 13, 3) := by decide +kernel
theorem dX2_delay_24 : decode cX2_delay 24 = .ok (.iload_n 1, 1) := by decide +kernel
theorem dX2_delay_25 : decode cX2_delay 25 = .ok (.iload_n 2, 1) := by decide +kernel
theorem dX2_delay_26 : decode cX2_delay 26 = .ok (.iastore, 1) := by decide +kernel
theorem dX2_delay_27 : decode cX2_delay 27 = .ok (.aload_n 0, 1) := by decide +kernel
theorem dX2_delay_28 : decode cX2_delay 28 = .ok (.iconst 0, 1) := by decide +kernel
theorem dX2_delay_29 : decode cX2_delay 29 = .ok (.putfield 32, 3) := by decide +kernel
theorem dX2_delay_32 : decode cX2_delay 32 = .ok (.iconst 1, 1) := by decide +kernel
theorem dX2_delay_33 : decode cX2_delay 33 = .ok (.ireturn, 1) := by decide +kernel
theorem dX2_isBlock_0 : decode cX2_isBlock 0 = .ok (.iload_n 1, 1) := by decide +kernel
theorem dX2_isBlock_1 : decode cX2_isBlock 1 = .ok (.ifCond .lt 15, 3) := by decide +kernel
theorem dX2_isBlock_4 : decode cX2_isBlock 4 = .ok (.iload_n 1, 1) := by decide +kernel
theorem dX2_isBlock_5 : decode cX2_isBlock 5 = .ok (.aload_n 0, 1) := by decide +kernel
theorem dX2_isBlock_6 : decode cX2_isBlock 6 = .ok (.getfield 42, 3) := by decide +kernel
theorem dX2_isBlock_9 : decode cX2_isBlock 9 = .ok (.if_icmp .ge 7, 3) := by decide +kernel
theorem dX2_isBlock_12 : decode cX2_isBlock 12 = .ok (.iconst 1, 1) := by decide +kernel
theorem dX2_isBlock_13 : decode cX2_isBlock 13 = .ok (.goto 4, 3) := by decide +kernel
theorem dX2_isBlock_16 : decode cX2_isBlock 16 = .ok (.iconst 0, 1) := by decide +kernel
theorem dX2_isBlock_17 : decode cX2_isBlock 17 = .ok (.ireturn, 1) := by decide +kernel
theorem dX2_wire_0 : decode cX2_wire 0 = .ok (.aload_n 0, 1) := by decide +kernel
theorem dX2_wire_1 : decode cX2_wire 1 = .ok (.getfield 7, 3) := by decide +kernel
theorem dX2_wire_4 : decode cX2_wire 4 = .ok (.bipush 12, 2) := by decide +kernel
theorem dX2_wire_6 : decode cX2_wire 6 = .ok (.if_icmp .ne 6, 3) := by decide +kernel
theorem dX2_wire_9 : decode cX2_wire 9 = .ok (.bipush (-2), 2) := by decide +kernel
theorem dX2_wire_11 : decode cX2_wire 11 = .ok (.ireturn, 1) := by decide +kernel
theorem dX2_wire_12 : decode cX2_wire 12 = .ok (.aload_n 0, 1) := by decide +kernel
theorem dX2_wire_13 : decode cX2_wire 13 = .ok (.iload_n 1, 1) := by decide +kernel
theorem dX2_wire_14 : decode cX2_wire 14 = .ok (.invokevirtual 45, 3) := by decide +kernel
theorem dX2_wire_17 : decode cX2_wire 17 = .ok (.ifCond .eq 20, 3) := by decide +kernel
theorem dX2_wire_20 : decode cX2_wire 20 = .ok (.aload_n 0, 1) := by decide +kernel
theorem dX2_wire_21 : decode cX2_wire 21 = .ok (.iload_n 2, 1) := by decide +kernel
theorem dX2_wire_22 : decode cX2_wire 22 = .ok (.invokevirtual 45, 3) := by decide +kernel
theorem dX2_wire_25 : decode cX2_wire 25 = .ok (.ifCond .eq 12, 3) := by decide +kernel
theorem dX2_wire_28 : decode cX2_wire 28 = .ok (.iload_n 3, 1) := by decide +kernel
theorem dX2_wire_29 : decode cX2_wire 29 = .ok (.ifCond .lt 8, 3) := by decide +kernel
theorem dX2_wire_32 : decode cX2_wire 32 = .ok (.iload_n 3, 1) := by decide +kernel
theorem dX2_wire_33 : decode cX2_wire 33 = .ok (.iconst 3, 1) := by decide +kernel
theorem dX2_wire_34 : decode cX2_wire 34 = .ok (.if_icmp .le 5, 3) := by decide +kernel
theorem dX2_wire_37 : decode cX2_wire 37 = .ok (.iconst (-1), 1) := by decide +kernel
theorem dX2_wire_38 : decode cX2_wire 38 = .ok (.ireturn, 1) := by decide +kernel
theorem dX2_wire_39 : decode cX2_wire 39 = .ok (.aload_n 0, 1) := by decide +kernel
theorem dX2_wire_40 : decode cX2_wire 40 = .ok (.getfield 17, 3) := by decide +kernel
theorem dX2_wire_43 : decode cX2_wire 43 = .ok (.aload_n 0, 1) := by decide +kernel
theorem dX2_wire_44 : decode cX2_wire 44 = .ok (.getfield 7, 3) := by decide +kernel
theorem dX2_wire_47 : decode cX2_wire 47 = .ok (.iload_n 1, 1) := by decide +kernel
theorem dX2_wire_48 : decode cX2_wire 48 = .ok (.iastore, 1) := by decide +kernel
theorem dX2_wire_49 : decode cX2_wire 49 = .ok (.aload_n 0, 1) := by decide +kernel
theorem dX2_wire_50 : decode cX2_wire 50 = .ok (.getfield 20, 3) := by decide +kernel
theorem dX2_wire_53 : decode cX2_wire 53 = .ok (.aload_n 0, 1) := by decide +kernel
theorem dX2_wire_54 : decode cX2_wire 54 = .ok (.getfield 7, 3) := by decide +kernel
theorem dX2_wire_57 : decode cX2_wire 57 = .ok (.iload_n 2, 1) := by decide +kernel
theorem dX2_wire_58 : decode cX2_wire 58 = .ok (.iastore, 1) := by decide +kernel
theorem dX2_wire_59 : decode cX2_wire 59 = .ok (.aload_n 0, 1) := by decide +kernel
theorem dX2_wire_60 : decode cX2_wire 60 = .ok (.getfield 23, 3) := by decide +kernel
theorem dX2_wire_63 : decode cX2_wire 63 = .ok (.aload_n 0, 1) := by decide +kernel
theorem dX2_wire_64 : decode cX2_wire 64 = .ok (.getfield 7, 3) := by decide +kernel
theorem dX2_wire_67 : decode cX2_wire 67 = .ok (.iload_n 3, 1) := by decide +kernel
theorem dX2_wire_68 : decode cX2_wire 68 = .ok (.iastore, 1) := by decide +kernel
theorem dX2_wire_69 : decode cX2_wire 69 = .ok (.aload_n 0, 1) := by decide +kernel
theorem dX2_wire_70 : decode cX2_wire 70 = .ok (.dup, 1) := by decide +kernel
theorem dX2_wire_71 : decode cX2_wire 71 = .ok (.getfield 7, 3) := by decide +kernel
theorem dX2_wire_74 : decode cX2_wire 74 = .ok (.iconst 1, 1) := by decide +kernel
theorem dX2_wire_75 : decode cX2_wire 75 = .ok (.iadd, 1) := by decide +kernel
theorem dX2_wire_76 : decode cX2_wire 76 = .ok (.putfield 7, 3) := by decide +kernel
theorem dX2_wire_79 : decode cX2_wire 79 = .ok (.aload_n 0, 1) := by decide +kernel
theorem dX2_wire_80 : decode cX2_wire 80 = .ok (.iconst 0, 1) := by decide +kernel
theorem dX2_wire_81 : decode cX2_wire 81 = .ok (.putfield 32, 3) := by decide +kernel
theorem dX2_wire_84 : decode cX2_wire 84 = .ok (.aload_n 0, 1) := by decide +kernel
theorem dX2_wire_85 : decode cX2_wire 85 = .ok (.getfield 7, 3) := by decide +kernel
theorem dX2_wire_88 : decode cX2_wire 88 = .ok (.iconst 1, 1) := by decide +kernel
theorem dX2_wire_89 : decode cX2_wire 89 = .ok (.isub, 1) := by decide +kernel
theorem dX2_wire_90 : decode cX2_wire 90 = .ok (.ireturn, 1) := by decide +kernel
theorem dX2_cut_0 : decode cX2_cut 0 = .ok (.iload_n 1, 1) := by decide +kernel
theorem dX2_cut_1 : decode cX2_cut 1 = .ok (.ifCond .lt 11, 3) := by decide +kernel
theorem dX2_cut_4 : decode cX2_cut 4 = .ok (.iload_n 1, 1) := by decide +kernel
theorem dX2_cut_5 : decode cX2_cut 5 = .ok (.aload_n 0, 1) := by decide +kernel
theorem dX2_cut_6 : decode cX2_cut 6 = .ok (.getfield 7, 3) := by decide +kernel
theorem dX2_cut_9 : decode cX2_cut 9 = .ok (.if_icmp .lt 5, 3) := by decide +kernel
theorem dX2_cut_12 : decode cX2_cut 12 = .ok (.iconst (-1), 1) := by decide +kernel
theorem dX2_cut_13 : decode cX2_cut 13 = .ok (.ireturn, 1) := by decide +kernel
theorem dX2_cut_14 : decode cX2_cut 14 = .ok (.iload_n 1, 1) := by decide +kernel
theorem dX2_cut_15 : decode cX2_cut 15 = .ok (.istore_n 2, 1) := by decide +kernel
theorem dX2_cut_16 : decode cX2_cut 16 = .ok (.iload_n 2, 1) := by decide +kernel
theorem dX2_cut_17 : decode cX2_cut 17 = .ok (.aload_n 0, 1) := by decide +kernel
theorem dX2_cut_18 : decode cX2_cut 18 = .ok (.getfield 7, 3) := by decide +kernel
theorem dX2_cut_21 : decode cX2_cut 21 = .ok (.iconst 1, 1) := by decide +kernel
theorem dX2_cut_22 : decode cX2_cut 22 = .ok (.isub, 1) := by decide +kernel
theorem dX2_cut_23 : decode cX2_cut 23 = .ok (.if_icmp .ge 51, 3) := by decide +kernel
theorem dX2_cut_26 : decode cX2_cut 26 = .ok (.aload_n 0, 1) := by decide +kernel
theorem dX2_cut_27 : decode cX2_cut 27 = .ok (.getfield 17, 3) := by decide +kernel
theorem dX2_cut_30 : decode cX2_cut 30 = .ok (.iload_n 2, 1) := by decide +kernel
theorem dX2_cut_31 : decode cX2_cut 31 = .ok (.aload_n 0, 1) := by decide +kernel
theorem dX2_cut_32 : decode cX2_cut 32 = .ok (.getfield 17, 3) := by decide +kernel
theorem dX2_cut_35 : decode cX2_cut 35 = .ok (.iload_n 2, 1) := by decide +kernel
theorem dX2_cut_36 : decode cX2_cut 36 = .ok (.iconst 1, 1) := by decide +kernel
theorem dX2_cut_37 : decode cX2_cut 37 = .ok (.iadd, 1) := by decide +kernel
theorem dX2_cut_38 : decode cX2_cut 38 = .ok (.iaload, 1) := by decide +kernel
theorem dX2_cut_39 : decode cX2_cut 39 = .ok (.iastore, 1) := by decide +kernel
theorem dX2_cut_40 : decode cX2_cut 40 = .ok (.aload_n 0, 1) := by decide +kernel
theorem dX2_cut_41 : decode cX2_cut 41 = .ok (.getfield 20, 3) := by decide +kernel
theorem dX2_cut_44 : decode cX2_cut 44 = .ok (.iload_n 2, 1) := by decide +kernel
theorem dX2_cut_45 : decode cX2_cut 45 = .ok (.aload_n 0, 1) := by decide +kernel
theorem dX2_cut_46 : decode cX2_cut 46 = .ok (.getfield 20, 3) := by decide +kernel
theorem dX2_cut_49 : decode cX2_cut 49 = .ok (.iload_n 2, 1) := by decide +kernel
theorem dX2_cut_50 : decode cX2_cut 50 = .ok (.iconst 1, 1) := by decide +kernel
theorem dX2_cut_51 : decode cX2_cut 51 = .ok (.iadd, 1) := by decide +kernel
theorem dX2_cut_52 : decode cX2_cut 52 = .ok (.iaload, 1) := by decide +kernel
theorem dX2_cut_53 : decode cX2_cut 53 = .ok (.iastore, 1) := by decide +kernel
theorem dX2_cut_54 : decode cX2_cut 54 = .ok (.aload_n 0, 1) := by decide +kernel
theorem dX2_cut_55 : decode cX2_cut 55 = .ok (.getfield 23, 3) := by decide +kernel
theorem dX2_cut_58 : decode cX2_cut 58 = .ok (.iload_n 2, 1) := by decide +kernel
theorem dX2_cut_59 : decode cX2_cut 59 = .ok (.aload_n 0, 1) := by decide +kernel
theorem dX2_cut_60 : decode cX2_cut 60 = .ok (.getfield 23, 3) := by decide +kernel
theorem dX2_cut_63 : decode cX2_cut 63 = .ok (.iload_n 2, 1) := by decide +kernel
theorem dX2_cut_64 : decode cX2_cut 64 = .ok (.iconst 1, 1) := by decide +kernel
theorem dX2_cut_65 : decode cX2_cut 65 = .ok (.iadd, 1) := by decide +kernel
theorem dX2_cut_66 : decode cX2_cut 66 = .ok (.iaload, 1) := by decide +kernel
theorem dX2_cut_67 : decode cX2_cut 67 = .ok (.iastore, 1) := by decide +kernel
theorem dX2_cut_68 : decode cX2_cut 68 = .ok (.iinc 2 1, 3) := by decide +kernel
theorem dX2_cut_71 : decode cX2_cut 71 = .ok (.goto (-55), 3) := by decide +kernel
theorem dX2_cut_74 : decode cX2_cut 74 = .ok (.aload_n 0, 1) := by decide +kernel
theorem dX2_cut_75 : decode cX2_cut 75 = .ok (.dup, 1) := by decide +kernel
theorem dX2_cut_76 : decode cX2_cut 76 = .ok (.getfield 7, 3) := by decide +kernel
theorem dX2_cut_79 : decode cX2_cut 79 = .ok (.iconst 1, 1) := by decide +kernel
theorem dX2_cut_80 : decode cX2_cut 80 = .ok (.isub, 1) := by decide +kernel
theorem dX2_cut_81 : decode cX2_cut 81 = .ok (.putfield 7, 3) := by decide +kernel
theorem dX2_cut_84 : decode cX2_cut 84 = .ok (.aload_n 0, 1) := by decide +kernel
theorem dX2_cut_85 : decode cX2_cut 85 = .ok (.iconst 0, 1) := by decide +kernel
theorem dX2_cut_86 : decode cX2_cut 86 = .ok (.putfield 32, 3) := by decide +kernel
theorem dX2_cut_89 : decode cX2_cut 89 = .ok (.aload_n 0, 1) := by decide +kernel
theorem dX2_cut_90 : decode cX2_cut 90 = .ok (.getfield 7, 3) := by decide +kernel
theorem dX2_cut_93 : decode cX2_cut 93 = .ok (.ireturn, 1) := by decide +kernel
theorem dX2_sound_0 : decode cX2_sound 0 = .ok (.aload_n 0, 1) := by decide +kernel
theorem dX2_sound_1 : decode cX2_sound 1 = .ok (.invokevirtual 53, 3) := by decide +kernel
theorem dX2_sound_4 : decode cX2_sound 4 = .ok (.iconst 0, 1) := by decide +kernel
theorem dX2_sound_5 : decode cX2_sound 5 = .ok (.istore_n 1, 1) := by decide +kernel
theorem dX2_sound_6 : decode cX2_sound 6 = .ok (.iload_n 1, 1) := by decide +kernel
theorem dX2_sound_7 : decode cX2_sound 7 = .ok (.aload_n 0, 1) := by decide +kernel
theorem dX2_sound_8 : decode cX2_sound 8 = .ok (.getfield 42, 3) := by decide +kernel
theorem dX2_sound_11 : decode cX2_sound 11 = .ok (.if_icmp .ge 16, 3) := by decide +kernel
theorem dX2_sound_14 : decode cX2_sound 14 = .ok (.aload_n 0, 1) := by decide +kernel
theorem dX2_sound_15 : decode cX2_sound 15 = .ok (.getfield 29, 3) := by decide +kernel
theorem dX2_sound_18 : decode cX2_sound 18 = .ok (.iload_n 1, 1) := by decide +kernel
theorem dX2_sound_19 : decode cX2_sound 19 = .ok (.iconst 0, 1) := by decide +kernel
theorem dX2_sound_20 : decode cX2_sound 20 = .ok (.iastore, 1) := by decide +kernel
theorem dX2_sound_21 : decode cX2_sound 21 = .ok (.iinc 1 1, 3) := by decide +kernel
theorem dX2_sound_24 : decode cX2_sound 24 = .ok (.goto (-18), 3) := by decide +kernel
theorem dX2_sound_27 : decode cX2_sound 27 = .ok (.iconst 0, 1) := by decide +kernel
theorem dX2_sound_28 : decode cX2_sound 28 = .ok (.istore_n 1, 1) := by decide +kernel
theorem dX2_sound_29 : decode cX2_sound 29 = .ok (.iload_n 1, 1) := by decide +kernel
theorem dX2_sound_30 : decode cX2_sound 30 = .ok (.bipush 6, 2) := by decide +kernel
theorem dX2_sound_32 : decode cX2_sound 32 = .ok (.if_icmp .ge 83, 3) := by decide +kernel
theorem dX2_sound_35 : decode cX2_sound 35 = .ok (.iconst 0, 1) := by decide +kernel
theorem dX2_sound_36 : decode cX2_sound 36 = .ok (.istore_n 2, 1) := by decide +kernel
theorem dX2_sound_37 : decode cX2_sound 37 = .ok (.iload_n 2, 1) := by decide +kernel
theorem dX2_sound_38 : decode cX2_sound 38 = .ok (.aload_n 0, 1) := by decide +kernel
theorem dX2_sound_39 : decode cX2_sound 39 = .ok (.getfield 7, 3) := by decide +kernel
theorem dX2_sound_42 : decode cX2_sound 42 = .ok (.if_icmp .ge 67, 3) := by decide +kernel
theorem dX2_sound_45 : decode cX2_sound 45 = .ok (.aload_n 0, 1) := by decide +kernel
theorem dX2_sound_46 : decode cX2_sound 46 = .ok (.getfield 23, 3) := by decide +kernel
theorem dX2_sound_49 : decode cX2_sound 49 = .ok (.iload_n 2, 1) := by decide +kernel
theorem dX2_sound_50 : decode cX2_sound 50 = .ok (.iaload, 1) := by decide +kernel
theorem dX2_sound_51 : decode cX2_sound 51 = .ok (.ifCond .ne 52, 3) := by decide +kernel
theorem dX2_sound_54 : decode cX2_sound 54 = .ok (.aload_n 0, 1) := by decide +kernel
theorem dX2_sound_55 : decode cX2_sound 55 = .ok (.getfield 29, 3) := by decide +kernel
theorem dX2_sound_58 : decode cX2_sound 58 = .ok (.aload_n 0, 1) := by decide +kernel
theorem dX2_sound_59 : decode cX2_sound 59 = .ok (.getfield 20, 3) := by decide +kernel
theorem dX2_sound_62 : decode cX2_sound 62 = .ok (.iload_n 2, 1) := by decide +kernel
theorem dX2_sound_63 : decode cX2_sound 63 = .ok (.iaload, 1) := by decide +kernel
theorem dX2_sound_64 : decode cX2_sound 64 = .ok (.iaload, 1) := by decide +kernel
theorem dX2_sound_65 : decode cX2_sound 65 = .ok (.aload_n 0, 1) := by decide +kernel
theorem dX2_sound_66 : decode cX2_sound 66 = .ok (.getfield 29, 3) := by decide +kernel
theorem dX2_sound_69 : decode cX2_sound 69 = .ok (.aload_n 0, 1) := by decide +kernel
theorem dX2_sound_70 : decode cX2_sound 70 = .ok (.getfield 17, 3) := by decide +kernel
theorem dX2_sound_73 : decode cX2_sound 73 = .ok (.iload_n 2, 1) := by decide +kernel
theorem dX2_sound_74 : decode cX2_sound 74 = .ok (.iaload, 1) := by decide +kernel
theorem dX2_sound_75 : decode cX2_sound 75 = .ok (.iaload, 1) := by decide +kernel
theorem dX2_sound_76 : decode cX2_sound 76 = .ok (.if_icmp .gt 27, 3) := by decide +kernel
theorem dX2_sound_79 : decode cX2_sound 79 = .ok (.aload_n 0, 1) := by decide +kernel
theorem dX2_sound_80 : decode cX2_sound 80 = .ok (.getfield 29, 3) := by decide +kernel
theorem dX2_sound_83 : decode cX2_sound 83 = .ok (.aload_n 0, 1) := by decide +kernel
theorem dX2_sound_84 : decode cX2_sound 84 = .ok (.getfield 20, 3) := by decide +kernel
theorem dX2_sound_87 : decode cX2_sound 87 = .ok (.iload_n 2, 1) := by decide +kernel
theorem dX2_sound_88 : decode cX2_sound 88 = .ok (.iaload, 1) := by decide +kernel
theorem dX2_sound_89 : decode cX2_sound 89 = .ok (.aload_n 0, 1) := by decide +kernel
theorem dX2_sound_90 : decode cX2_sound 90 = .ok (.getfield 29, 3) := by decide +kernel
theorem dX2_sound_93 : decode cX2_sound 93 = .ok (.aload_n 0, 1) := by decide +kernel
theorem dX2_sound_94 : decode cX2_sound 94 = .ok (.getfield 17, 3) := by decide +kernel
theorem dX2_sound_97 : decode cX2_sound 97 = .ok (.iload_n 2, 1) := by decide +kernel
theorem dX2_sound_98 : decode cX2_sound 98 = .ok (.iaload, 1) := by decide +kernel
theorem dX2_sound_99 : decode cX2_sound 99 = .ok (.iaload, 1) := by decide +kernel
theorem dX2_sound_100 : decode cX2_sound 100 = .ok (.iconst 1, 1) := by decide +kernel
theorem dX2_sound_101 : decode cX2_sound 101 = .ok (.iadd, 1) := by decide +kernel
theorem dX2_sound_102 : decode cX2_sound 102 = .ok (.iastore, 1) := by decide +kernel
theorem dX2_sound_103 : decode cX2_sound 103 = .ok (.iinc 2 1, 3) := by decide +kernel
theorem dX2_sound_106 : decode cX2_sound 106 = .ok (.goto (-69), 3) := by decide +kernel
theorem dX2_sound_109 : decode cX2_sound 109 = .ok (.iinc 1 1, 3) := by decide +kernel
theorem dX2_sound_112 : decode cX2_sound 112 = .ok (.goto (-83), 3) := by decide +kernel
theorem dX2_sound_115 : decode cX2_sound 115 = .ok (.iconst 0, 1) := by decide +kernel
theorem dX2_sound_116 : decode cX2_sound 116 = .ok (.istore_n 1, 1) := by decide +kernel
theorem dX2_sound_117 : decode cX2_sound 117 = .ok (.iload_n 1, 1) := by decide +kernel
theorem dX2_sound_118 : decode cX2_sound 118 = .ok (.aload_n 0, 1) := by decide +kernel
theorem dX2_sound_119 : decode cX2_sound 119 = .ok (.getfield 42, 3) := by decide +kernel
theorem dX2_sound_122 : decode cX2_sound 122 = .ok (.if_icmp .ge 24, 3) := by decide +kernel
theorem dX2_sound_125 : decode cX2_sound 125 = .ok (.aload_n 0, 1) := by decide +kernel
theorem dX2_sound_126 : decode cX2_sound 126 = .ok (.getfield 29, 3) := by decide +kernel
theorem dX2_sound_129 : decode cX2_sound 129 = .ok (.iload_n 1, 1) := by decide +kernel
theorem dX2_sound_130 : decode cX2_sound 130 = .ok (.iaload, 1) := by decide +kernel
theorem dX2_sound_131 : decode cX2_sound 131 = .ok (.aload_n 0, 1) := by decide +kernel
theorem dX2_sound_132 : decode cX2_sound 132 = .ok (.getfield 42, 3) := by decide +kernel
theorem dX2_sound_135 : decode cX2_sound 135 = .ok (.if_icmp .lt 5, 3) := by decide +kernel
theorem dX2_sound_138 : decode cX2_sound 138 = .ok (.iconst 0, 1) := by decide +kernel
theorem dX2_sound_139 : decode cX2_sound 139 = .ok (.ireturn, 1) := by decide +kernel
theorem dX2_sound_140 : decode cX2_sound 140 = .ok (.iinc 1 1, 3) := by decide +kernel
theorem dX2_sound_143 : decode cX2_sound 143 = .ok (.goto (-26), 3) := by decide +kernel
theorem dX2_sound_146 : decode cX2_sound 146 = .ok (.iconst 1, 1) := by decide +kernel
theorem dX2_sound_147 : decode cX2_sound 147 = .ok (.ireturn, 1) := by decide +kernel
theorem dX2_noLags_0 : decode cX2_noLags 0 = .ok (.iconst 0, 1) := by decide +kernel
theorem dX2_noLags_1 : decode cX2_noLags 1 = .ok (.istore_n 1, 1) := by decide +kernel
theorem dX2_noLags_2 : decode cX2_noLags 2 = .ok (.iload_n 1, 1) := by decide +kernel
theorem dX2_noLags_3 : decode cX2_noLags 3 = .ok (.iconst 5, 1) := by decide +kernel
theorem dX2_noLags_4 : decode cX2_noLags 4 = .ok (.if_icmp .ge 16, 3) := by decide +kernel
theorem dX2_noLags_7 : decode cX2_noLags 7 = .ok (.aload_n 0, 1) := by decide +kernel
theorem dX2_noLags_8 : decode cX2_noLags 8 = .ok (.getfield 26, 3) := by decide +kernel
theorem dX2_noLags_11 : decode cX2_noLags 11 = .ok (.iload_n 1, 1) := by decide +kernel
theorem dX2_noLags_12 : decode cX2_noLags 12 = .ok (.iconst 0, 1) := by decide +kernel
theorem dX2_noLags_13 : decode cX2_noLags 13 = .ok (.iastore, 1) := by decide +kernel
theorem dX2_noLags_14 : decode cX2_noLags 14 = .ok (.iinc 1 1, 3) := by decide +kernel
theorem dX2_noLags_17 : decode cX2_noLags 17 = .ok (.goto (-15), 3) := by decide +kernel
theorem dX2_noLags_20 : decode cX2_noLags 20 = .ok (.return_, 1) := by decide +kernel
theorem dX2_period_0 : decode cX2_period 0 = .ok (.aload_n 0, 1) := by decide +kernel
theorem dX2_period_1 : decode cX2_period 1 = .ok (.invokevirtual 56, 3) := by decide +kernel
theorem dX2_period_4 : decode cX2_period 4 = .ok (.ifCond .ne 6, 3) := by decide +kernel
theorem dX2_period_7 : decode cX2_period 7 = .ok (.bipush (-3), 2) := by decide +kernel
theorem dX2_period_9 : decode cX2_period 9 = .ok (.ireturn, 1) := by decide +kernel
theorem dX2_period_10 : decode cX2_period 10 = .ok (.aload_n 0, 1) := by decide +kernel
theorem dX2_period_11 : decode cX2_period 11 = .ok (.invokevirtual 60, 3) := by decide +kernel
theorem dX2_period_14 : decode cX2_period 14 = .ok (.ireturn, 1) := by decide +kernel
theorem dX2_longest_0 : decode cX2_longest 0 = .ok (.iconst 0, 1) := by decide +kernel
theorem dX2_longest_1 : decode cX2_longest 1 = .ok (.istore_n 1, 1) := by decide +kernel
theorem dX2_longest_2 : decode cX2_longest 2 = .ok (.iload_n 1, 1) := by decide +kernel
theorem dX2_longest_3 : decode cX2_longest 3 = .ok (.aload_n 0, 1) := by decide +kernel
theorem dX2_longest_4 : decode cX2_longest 4 = .ok (.getfield 42, 3) := by decide +kernel
theorem dX2_longest_7 : decode cX2_longest 7 = .ok (.if_icmp .ge 21, 3) := by decide +kernel
theorem dX2_longest_10 : decode cX2_longest 10 = .ok (.aload_n 0, 1) := by decide +kernel
theorem dX2_longest_11 : decode cX2_longest 11 = .ok (.getfield 29, 3) := by decide +kernel
theorem dX2_longest_14 : decode cX2_longest 14 = .ok (.iload_n 1, 1) := by decide +kernel
theorem dX2_longest_15 : decode cX2_longest 15 = .ok (.aload_n 0, 1) := by decide +kernel
theorem dX2_longest_16 : decode cX2_longest 16 = .ok (.getfield 13, 3) := by decide +kernel
theorem dX2_longest_19 : decode cX2_longest 19 = .ok (.iload_n 1, 1) := by decide +kernel
theorem dX2_longest_20 : decode cX2_longest 20 = .ok (.iaload, 1) := by decide +kernel
theorem dX2_longest_21 : decode cX2_longest 21 = .ok (.iastore, 1) := by decide +kernel
theorem dX2_longest_22 : decode cX2_longest 22 = .ok (.iinc 1 1, 3) := by decide +kernel
theorem dX2_longest_25 : decode cX2_longest 25 = .ok (.goto (-23), 3) := by decide +kernel
theorem dX2_longest_28 : decode cX2_longest 28 = .ok (.iconst 0, 1) := by decide +kernel
theorem dX2_longest_29 : decode cX2_longest 29 = .ok (.istore_n 1, 1) := by decide +kernel
theorem dX2_longest_30 : decode cX2_longest 30 = .ok (.iload_n 1, 1) := by decide +kernel
theorem dX2_longest_31 : decode cX2_longest 31 = .ok (.iconst 5, 1) := by decide +kernel
theorem dX2_longest_32 : decode cX2_longest 32 = .ok (.if_icmp .ge 84, 3) := by decide +kernel
theorem dX2_longest_35 : decode cX2_longest 35 = .ok (.iconst 0, 1) := by decide +kernel
theorem dX2_longest_36 : decode cX2_longest 36 = .ok (.istore_n 2, 1) := by decide +kernel
theorem dX2_longest_37 : decode cX2_longest 37 = .ok (.iload_n 2, 1) := by decide +kernel
theorem dX2_longest_38 : decode cX2_longest 38 = .ok (.aload_n 0, 1) := by decide +kernel
theorem dX2_longest_39 : decode cX2_longest 39 = .ok (.getfield 7, 3) := by decide +kernel
theorem dX2_longest_42 : decode cX2_longest 42 = .ok (.if_icmp .ge 68, 3) := by decide +kernel
theorem dX2_longest_45 : decode cX2_longest 45 = .ok (.aload_n 0, 1) := by decide +kernel
theorem dX2_longest_46 : decode cX2_longest 46 = .ok (.getfield 29, 3) := by decide +kernel
theorem dX2_longest_49 : decode cX2_longest 49 = .ok (.aload_n 0, 1) := by decide +kernel
theorem dX2_longest_50 : decode cX2_longest 50 = .ok (.getfield 17, 3) := by decide +kernel
theorem dX2_longest_53 : decode cX2_longest 53 = .ok (.iload_n 2, 1) := by decide +kernel
theorem dX2_longest_54 : decode cX2_longest 54 = .ok (.iaload, 1) := by decide +kernel
theorem dX2_longest_55 : decode cX2_longest 55 = .ok (.iaload, 1) := by decide +kernel
theorem dX2_longest_56 : decode cX2_longest 56 = .ok (.aload_n 0, 1) := by decide +kernel
theorem dX2_longest_57 : decode cX2_longest 57 = .ok (.getfield 13, 3) := by decide +kernel
theorem dX2_longest_60 : decode cX2_longest 60 = .ok (.aload_n 0, 1) := by decide +kernel
theorem dX2_longest_61 : decode cX2_longest 61 = .ok (.getfield 20, 3) := by decide +kernel
theorem dX2_longest_64 : decode cX2_longest 64 = .ok (.iload_n 2, 1) := by decide +kernel
theorem dX2_longest_65 : decode cX2_longest 65 = .ok (.iaload, 1) := by decide +kernel
theorem dX2_longest_66 : decode cX2_longest 66 = .ok (.iaload, 1) := by decide +kernel
theorem dX2_longest_67 : decode cX2_longest 67 = .ok (.iadd, 1) := by decide +kernel
theorem dX2_longest_68 : decode cX2_longest 68 = .ok (.istore_n 3, 1) := by decide +kernel
theorem dX2_longest_69 : decode cX2_longest 69 = .ok (.aload_n 0, 1) := by decide +kernel
theorem dX2_longest_70 : decode cX2_longest 70 = .ok (.iload_n 2, 1) := by decide +kernel
theorem dX2_longest_71 : decode cX2_longest 71 = .ok (.invokevirtual 49, 3) := by decide +kernel
theorem dX2_longest_74 : decode cX2_longest 74 = .ok (.ifCond .ne 30, 3) := by decide +kernel
theorem dX2_longest_77 : decode cX2_longest 77 = .ok (.iload_n 3, 1) := by decide +kernel
theorem dX2_longest_78 : decode cX2_longest 78 = .ok (.aload_n 0, 1) := by decide +kernel
theorem dX2_longest_79 : decode cX2_longest 79 = .ok (.getfield 29, 3) := by decide +kernel
theorem dX2_longest_82 : decode cX2_longest 82 = .ok (.aload_n 0, 1) := by decide +kernel
theorem dX2_longest_83 : decode cX2_longest 83 = .ok (.getfield 20, 3) := by decide +kernel
theorem dX2_longest_86 : decode cX2_longest 86 = .ok (.iload_n 2, 1) := by decide +kernel
theorem dX2_longest_87 : decode cX2_longest 87 = .ok (.iaload, 1) := by decide +kernel
theorem dX2_longest_88 : decode cX2_longest 88 = .ok (.iaload, 1) := by decide +kernel
theorem dX2_longest_89 : decode cX2_longest 89 = .ok (.if_icmp .le 15, 3) := by decide +kernel
theorem dX2_longest_92 : decode cX2_longest 92 = .ok (.aload_n 0, 1) := by decide +kernel
theorem dX2_longest_93 : decode cX2_longest 93 = .ok (.getfield 29, 3) := by decide +kernel
theorem dX2_longest_96 : decode cX2_longest 96 = .ok (.aload_n 0, 1) := by decide +kernel
theorem dX2_longest_97 : decode cX2_longest 97 = .ok (.getfield 20, 3) := by decide +kernel
theorem dX2_longest_100 : decode cX2_longest 100 = .ok (.iload_n 2, 1) := by decide +kernel
theorem dX2_longest_101 : decode cX2_longest 101 = .ok (.iaload, 1) := by decide +kernel
theorem dX2_longest_102 : decode cX2_longest 102 = .ok (.iload_n 3, 1) := by decide +kernel
theorem dX2_longest_103 : decode cX2_longest 103 = .ok (.iastore, 1) := by decide +kernel
theorem dX2_longest_104 : decode cX2_longest 104 = .ok (.iinc 2 1, 3) := by decide +kernel
theorem dX2_longest_107 : decode cX2_longest 107 = .ok (.goto (-70), 3) := by decide +kernel
theorem dX2_longest_110 : decode cX2_longest 110 = .ok (.iinc 1 1, 3) := by decide +kernel
theorem dX2_longest_113 : decode cX2_longest 113 = .ok (.goto (-83), 3) := by decide +kernel
theorem dX2_longest_116 : decode cX2_longest 116 = .ok (.iconst 0, 1) := by decide +kernel
theorem dX2_longest_117 : decode cX2_longest 117 = .ok (.istore_n 1, 1) := by decide +kernel
theorem dX2_longest_118 : decode cX2_longest 118 = .ok (.iconst 0, 1) := by decide +kernel
theorem dX2_longest_119 : decode cX2_longest 119 = .ok (.istore_n 2, 1) := by decide +kernel
theorem dX2_longest_120 : decode cX2_longest 120 = .ok (.iload_n 2, 1) := by decide +kernel
theorem dX2_longest_121 : decode cX2_longest 121 = .ok (.aload_n 0, 1) := by decide +kernel
theorem dX2_longest_122 : decode cX2_longest 122 = .ok (.getfield 42, 3) := by decide +kernel
theorem dX2_longest_125 : decode cX2_longest 125 = .ok (.if_icmp .ge 26, 3) := by decide +kernel
theorem dX2_longest_128 : decode cX2_longest 128 = .ok (.aload_n 0, 1) := by decide +kernel
theorem dX2_longest_129 : decode cX2_longest 129 = .ok (.getfield 29, 3) := by decide +kernel
theorem dX2_longest_132 : decode cX2_longest 132 = .ok (.iload_n 2, 1) := by decide +kernel
theorem dX2_longest_133 : decode cX2_longest 133 = .ok (.iaload, 1) := by decide +kernel
theorem dX2_longest_134 : decode cX2_longest 134 = .ok (.iload_n 1, 1) := by decide +kernel
end
section
set_option maxRecDepth 100000
theorem dX2_longest_135 : decode cX2_longest 135 = .ok (.if_icmp .le 10, 3) := by decide +kernel
theorem dX2_longest_138 : decode cX2_longest 138 = .ok (.aload_n 0, 1) := by decide +kernel
theorem dX2_longest_139 : decode cX2_longest 139 = .ok (.getfield 29, 3) := by decide +kernel
theorem dX2_longest_142 : decode cX2_longest 142 = .ok (.iload_n 2, 1) := by decide +kernel
theorem dX2_longest_143 : decode cX2_longest 143 = .ok (.iaload, 1) := by decide +kernel
theorem dX2_longest_144 : decode cX2_longest 144 = .ok (.istore_n 1, 1) := by decide +kernel
theorem dX2_longest_145 : decode cX2_longest 145 = .ok (.iinc 2 1, 3) := by decide +kernel
theorem dX2_longest_148 : decode cX2_longest 148 = .ok (.goto (-28), 3) := by decide +kernel
theorem dX2_longest_151 : decode cX2_longest 151 = .ok (.iload_n 1, 1) := by decide +kernel
theorem dX2_longest_152 : decode cX2_longest 152 = .ok (.ireturn, 1) := by decide +kernel
theorem dX2_under_0 : decode cX2_under 0 = .ok (.aload_n 0, 1) := by decide +kernel
theorem dX2_under_1 : decode cX2_under 1 = .ok (.getfield 23, 3) := by decide +kernel
theorem dX2_under_4 : decode cX2_under 4 = .ok (.iload_n 1, 1) := by decide +kernel
theorem dX2_under_5 : decode cX2_under 5 = .ok (.iaload, 1) := by decide +kernel
theorem dX2_under_6 : decode cX2_under 6 = .ok (.aload_n 0, 1) := by decide +kernel
theorem dX2_under_7 : decode cX2_under 7 = .ok (.getfield 26, 3) := by decide +kernel
theorem dX2_under_10 : decode cX2_under 10 = .ok (.aload_n 0, 1) := by decide +kernel
theorem dX2_under_11 : decode cX2_under 11 = .ok (.getfield 20, 3) := by decide +kernel
theorem dX2_under_14 : decode cX2_under 14 = .ok (.iload_n 1, 1) := by decide +kernel
theorem dX2_under_15 : decode cX2_under 15 = .ok (.iaload, 1) := by decide +kernel
theorem dX2_under_16 : decode cX2_under 16 = .ok (.iaload, 1) := by decide +kernel
theorem dX2_under_17 : decode cX2_under 17 = .ok (.iadd, 1) := by decide +kernel
theorem dX2_under_18 : decode cX2_under 18 = .ok (.aload_n 0, 1) := by decide +kernel
theorem dX2_under_19 : decode cX2_under 19 = .ok (.getfield 26, 3) := by decide +kernel
theorem dX2_under_22 : decode cX2_under 22 = .ok (.aload_n 0, 1) := by decide +kernel
theorem dX2_under_23 : decode cX2_under 23 = .ok (.getfield 17, 3) := by decide +kernel
theorem dX2_under_26 : decode cX2_under 26 = .ok (.iload_n 1, 1) := by decide +kernel
theorem dX2_under_27 : decode cX2_under 27 = .ok (.iaload, 1) := by decide +kernel
theorem dX2_under_28 : decode cX2_under 28 = .ok (.iaload, 1) := by decide +kernel
theorem dX2_under_29 : decode cX2_under 29 = .ok (.isub, 1) := by decide +kernel
theorem dX2_under_30 : decode cX2_under 30 = .ok (.ireturn, 1) := by decide +kernel
theorem dX2_best_0 : decode cX2_best 0 = .ok (.aload_n 0, 1) := by decide +kernel
theorem dX2_best_1 : decode cX2_best 1 = .ok (.invokevirtual 56, 3) := by decide +kernel
theorem dX2_best_4 : decode cX2_best 4 = .ok (.ifCond .ne 6, 3) := by decide +kernel
theorem dX2_best_7 : decode cX2_best 7 = .ok (.bipush (-3), 2) := by decide +kernel
theorem dX2_best_9 : decode cX2_best 9 = .ok (.ireturn, 1) := by decide +kernel
theorem dX2_best_10 : decode cX2_best 10 = .ok (.aload_n 0, 1) := by decide +kernel
theorem dX2_best_11 : decode cX2_best 11 = .ok (.invokevirtual 74, 3) := by decide +kernel
theorem dX2_best_14 : decode cX2_best 14 = .ok (.aload_n 0, 1) := by decide +kernel
theorem dX2_best_15 : decode cX2_best 15 = .ok (.getfield 64, 3) := by decide +kernel
theorem dX2_best_18 : decode cX2_best 18 = .ok (.ireturn, 1) := by decide +kernel
theorem dX2_find_0 : decode cX2_find 0 = .ok (.aload_n 0, 1) := by decide +kernel
theorem dX2_find_1 : decode cX2_find 1 = .ok (.getfield 32, 3) := by decide +kernel
theorem dX2_find_4 : decode cX2_find 4 = .ok (.ifCond .eq 4, 3) := by decide +kernel
theorem dX2_find_7 : decode cX2_find 7 = .ok (.return_, 1) := by decide +kernel
theorem dX2_find_8 : decode cX2_find 8 = .ok (.aload_n 0, 1) := by decide +kernel
theorem dX2_find_9 : decode cX2_find 9 = .ok (.bipush 100, 2) := by decide +kernel
theorem dX2_find_11 : decode cX2_find 11 = .ok (.putfield 64, 3) := by decide +kernel
theorem dX2_find_14 : decode cX2_find 14 = .ok (.aload_n 0, 1) := by decide +kernel
theorem dX2_find_15 : decode cX2_find 15 = .ok (.getfield 42, 3) := by decide +kernel
theorem dX2_find_18 : decode cX2_find 18 = .ok (.iconst 1, 1) := by decide +kernel
theorem dX2_find_19 : decode cX2_find 19 = .ok (.if_icmp .ne 7, 3) := by decide +kernel
theorem dX2_find_22 : decode cX2_find 22 = .ok (.iconst 5, 1) := by decide +kernel
theorem dX2_find_23 : decode cX2_find 23 = .ok (.goto 46, 3) := by decide +kernel
theorem dX2_find_26 : decode cX2_find 26 = .ok (.aload_n 0, 1) := by decide +kernel
theorem dX2_find_27 : decode cX2_find 27 = .ok (.getfield 42, 3) := by decide +kernel
theorem dX2_find_30 : decode cX2_find 30 = .ok (.iconst 2, 1) := by decide +kernel
theorem dX2_find_31 : decode cX2_find 31 = .ok (.if_icmp .ne 8, 3) := by decide +kernel
theorem dX2_find_34 : decode cX2_find 34 = .ok (.bipush 25, 2) := by decide +kernel
theorem dX2_find_36 : decode cX2_find 36 = .ok (.goto 33, 3) := by decide +kernel
theorem dX2_find_39 : decode cX2_find 39 = .ok (.aload_n 0, 1) := by decide +kernel
theorem dX2_find_40 : decode cX2_find 40 = .ok (.getfield 42, 3) := by decide +kernel
theorem dX2_find_43 : decode cX2_find 43 = .ok (.iconst 3, 1) := by decide +kernel
theorem dX2_find_44 : decode cX2_find 44 = .ok (.if_icmp .ne 8, 3) := by decide +kernel
theorem dX2_find_47 : decode cX2_find 47 = .ok (.bipush 125, 2) := by decide +kernel
theorem dX2_find_49 : decode cX2_find 49 = .ok (.goto 20, 3) := by decide +kernel
theorem dX2_find_52 : decode cX2_find 52 = .ok (.aload_n 0, 1) := by decide +kernel
theorem dX2_find_53 : decode cX2_find 53 = .ok (.getfield 42, 3) := by decide +kernel
theorem dX2_find_56 : decode cX2_find 56 = .ok (.iconst 4, 1) := by decide +kernel
theorem dX2_find_57 : decode cX2_find 57 = .ok (.if_icmp .ne 9, 3) := by decide +kernel
theorem dX2_find_60 : decode cX2_find 60 = .ok (.sipush 625, 3) := by decide +kernel
theorem dX2_find_63 : decode cX2_find 63 = .ok (.goto 6, 3) := by decide +kernel
theorem dX2_find_66 : decode cX2_find 66 = .ok (.sipush 3125, 3) := by decide +kernel
theorem dX2_find_69 : decode cX2_find 69 = .ok (.istore_n 1, 1) := by decide +kernel
theorem dX2_find_70 : decode cX2_find 70 = .ok (.iconst 0, 1) := by decide +kernel
theorem dX2_find_71 : decode cX2_find 71 = .ok (.istore_n 2, 1) := by decide +kernel
theorem dX2_find_72 : decode cX2_find 72 = .ok (.iload_n 2, 1) := by decide +kernel
theorem dX2_find_73 : decode cX2_find 73 = .ok (.iload_n 1, 1) := by decide +kernel
theorem dX2_find_74 : decode cX2_find 74 = .ok (.if_icmp .ge 113, 3) := by decide +kernel
theorem dX2_find_77 : decode cX2_find 77 = .ok (.aload_n 0, 1) := by decide +kernel
theorem dX2_find_78 : decode cX2_find 78 = .ok (.iload_n 2, 1) := by decide +kernel
theorem dX2_find_79 : decode cX2_find 79 = .ok (.invokevirtual 67, 3) := by decide +kernel
theorem dX2_find_82 : decode cX2_find 82 = .ok (.aload_n 0, 1) := by decide +kernel
theorem dX2_find_83 : decode cX2_find 83 = .ok (.invokevirtual 71, 3) := by decide +kernel
theorem dX2_find_86 : decode cX2_find 86 = .ok (.ifCond .eq 95, 3) := by decide +kernel
theorem dX2_find_89 : decode cX2_find 89 = .ok (.aload_n 0, 1) := by decide +kernel
theorem dX2_find_90 : decode cX2_find 90 = .ok (.invokevirtual 60, 3) := by decide +kernel
theorem dX2_find_93 : decode cX2_find 93 = .ok (.istore_n 3, 1) := by decide +kernel
theorem dX2_find_94 : decode cX2_find 94 = .ok (.iload_n 3, 1) := by decide +kernel
theorem dX2_find_95 : decode cX2_find 95 = .ok (.aload_n 0, 1) := by decide +kernel
theorem dX2_find_96 : decode cX2_find 96 = .ok (.getfield 64, 3) := by decide +kernel
theorem dX2_find_99 : decode cX2_find 99 = .ok (.if_icmp .ge 7, 3) := by decide +kernel
theorem dX2_find_102 : decode cX2_find 102 = .ok (.iconst 1, 1) := by decide +kernel
theorem dX2_find_103 : decode cX2_find 103 = .ok (.goto 4, 3) := by decide +kernel
theorem dX2_find_106 : decode cX2_find 106 = .ok (.iconst 0, 1) := by decide +kernel
theorem dX2_find_107 : decode cX2_find 107 = .ok (.istore 4, 2) := by decide +kernel
theorem dX2_find_109 : decode cX2_find 109 = .ok (.iload 4, 2) := by decide +kernel
theorem dX2_find_111 : decode cX2_find 111 = .ok (.ifCond .eq 8, 3) := by decide +kernel
theorem dX2_find_114 : decode cX2_find 114 = .ok (.aload_n 0, 1) := by decide +kernel
theorem dX2_find_115 : decode cX2_find 115 = .ok (.iload_n 3, 1) := by decide +kernel
theorem dX2_find_116 : decode cX2_find 116 = .ok (.putfield 64, 3) := by decide +kernel
theorem dX2_find_119 : decode cX2_find 119 = .ok (.iconst 0, 1) := by decide +kernel
theorem dX2_find_120 : decode cX2_find 120 = .ok (.istore 5, 2) := by decide +kernel
theorem dX2_find_122 : decode cX2_find 122 = .ok (.iload 5, 2) := by decide +kernel
theorem dX2_find_124 : decode cX2_find 124 = .ok (.aload_n 0, 1) := by decide +kernel
theorem dX2_find_125 : decode cX2_find 125 = .ok (.getfield 42, 3) := by decide +kernel
theorem dX2_find_128 : decode cX2_find 128 = .ok (.if_icmp .ge 53, 3) := by decide +kernel
theorem dX2_find_131 : decode cX2_find 131 = .ok (.iload 4, 2) := by decide +kernel
theorem dX2_find_133 : decode cX2_find 133 = .ok (.ifCond .ne 28, 3) := by decide +kernel
theorem dX2_find_136 : decode cX2_find 136 = .ok (.iload_n 3, 1) := by decide +kernel
theorem dX2_find_137 : decode cX2_find 137 = .ok (.aload_n 0, 1) := by decide +kernel
theorem dX2_find_138 : decode cX2_find 138 = .ok (.getfield 64, 3) := by decide +kernel
theorem dX2_find_141 : decode cX2_find 141 = .ok (.if_icmp .ne 34, 3) := by decide +kernel
theorem dX2_find_144 : decode cX2_find 144 = .ok (.aload_n 0, 1) := by decide +kernel
theorem dX2_find_145 : decode cX2_find 145 = .ok (.getfield 26, 3) := by decide +kernel
theorem dX2_find_148 : decode cX2_find 148 = .ok (.iload 5, 2) := by decide +kernel
theorem dX2_find_150 : decode cX2_find 150 = .ok (.iaload, 1) := by decide +kernel
theorem dX2_find_151 : decode cX2_find 151 = .ok (.aload_n 0, 1) := by decide +kernel
theorem dX2_find_152 : decode cX2_find 152 = .ok (.getfield 36, 3) := by decide +kernel
theorem dX2_find_155 : decode cX2_find 155 = .ok (.iload 5, 2) := by decide +kernel
theorem dX2_find_157 : decode cX2_find 157 = .ok (.iaload, 1) := by decide +kernel
theorem dX2_find_158 : decode cX2_find 158 = .ok (.if_icmp .le 17, 3) := by decide +kernel
theorem dX2_find_161 : decode cX2_find 161 = .ok (.aload_n 0, 1) := by decide +kernel
theorem dX2_find_162 : decode cX2_find 162 = .ok (.getfield 36, 3) := by decide +kernel
theorem dX2_find_165 : decode cX2_find 165 = .ok (.iload 5, 2) := by decide +kernel
theorem dX2_find_167 : decode cX2_find 167 = .ok (.aload_n 0, 1) := by decide +kernel
theorem dX2_find_168 : decode cX2_find 168 = .ok (.getfield 26, 3) := by decide +kernel
theorem dX2_find_171 : decode cX2_find 171 = .ok (.iload 5, 2) := by decide +kernel
theorem dX2_find_173 : decode cX2_find 173 = .ok (.iaload, 1) := by decide +kernel
theorem dX2_find_174 : decode cX2_find 174 = .ok (.iastore, 1) := by decide +kernel
theorem dX2_find_175 : decode cX2_find 175 = .ok (.iinc 5 1, 3) := by decide +kernel
theorem dX2_find_178 : decode cX2_find 178 = .ok (.goto (-56), 3) := by decide +kernel
theorem dX2_find_181 : decode cX2_find 181 = .ok (.iinc 2 1, 3) := by decide +kernel
theorem dX2_find_184 : decode cX2_find 184 = .ok (.goto (-112), 3) := by decide +kernel
theorem dX2_find_187 : decode cX2_find 187 = .ok (.aload_n 0, 1) := by decide +kernel
theorem dX2_find_188 : decode cX2_find 188 = .ok (.iconst 1, 1) := by decide +kernel
theorem dX2_find_189 : decode cX2_find 189 = .ok (.putfield 32, 3) := by decide +kernel
theorem dX2_find_192 : decode cX2_find 192 = .ok (.return_, 1) := by decide +kernel
theorem dX2_writeLags_0 : decode cX2_writeLags 0 = .ok (.iload_n 1, 1) := by decide +kernel
theorem dX2_writeLags_1 : decode cX2_writeLags 1 = .ok (.istore_n 2, 1) := by decide +kernel
theorem dX2_writeLags_2 : decode cX2_writeLags 2 = .ok (.iconst 0, 1) := by decide +kernel
theorem dX2_writeLags_3 : decode cX2_writeLags 3 = .ok (.istore_n 3, 1) := by decide +kernel
theorem dX2_writeLags_4 : decode cX2_writeLags 4 = .ok (.iload_n 3, 1) := by decide +kernel
theorem dX2_writeLags_5 : decode cX2_writeLags 5 = .ok (.iconst 5, 1) := by decide +kernel
theorem dX2_writeLags_6 : decode cX2_writeLags 6 = .ok (.if_icmp .ge 35, 3) := by decide +kernel
theorem dX2_writeLags_9 : decode cX2_writeLags 9 = .ok (.aload_n 0, 1) := by decide +kernel
theorem dX2_writeLags_10 : decode cX2_writeLags 10 = .ok (.getfield 26, 3) := by decide +kernel
theorem dX2_writeLags_13 : decode cX2_writeLags 13 = .ok (.iload_n 3, 1) := by decide +kernel
theorem dX2_writeLags_14 : decode cX2_writeLags 14 = .ok (.iload_n 3, 1) := by decide +kernel
theorem dX2_writeLags_15 : decode cX2_writeLags 15 = .ok (.aload_n 0, 1) := by decide +kernel
theorem dX2_writeLags_16 : decode cX2_writeLags 16 = .ok (.getfield 42, 3) := by decide +kernel
theorem dX2_writeLags_19 : decode cX2_writeLags 19 = .ok (.if_icmp .ge 10, 3) := by decide +kernel
theorem dX2_writeLags_22 : decode cX2_writeLags 22 = .ok (.iload_n 2, 1) := by decide +kernel
theorem dX2_writeLags_23 : decode cX2_writeLags 23 = .ok (.iconst 5, 1) := by decide +kernel
theorem dX2_writeLags_24 : decode cX2_writeLags 24 = .ok (.irem, 1) := by decide +kernel
theorem dX2_writeLags_25 : decode cX2_writeLags 25 = .ok (.ineg, 1) := by decide +kernel
theorem dX2_writeLags_26 : decode cX2_writeLags 26 = .ok (.goto 4, 3) := by decide +kernel
theorem dX2_writeLags_29 : decode cX2_writeLags 29 = .ok (.iconst 0, 1) := by decide +kernel
theorem dX2_writeLags_30 : decode cX2_writeLags 30 = .ok (.iastore, 1) := by decide +kernel
theorem dX2_writeLags_31 : decode cX2_writeLags 31 = .ok (.iload_n 2, 1) := by decide +kernel
theorem dX2_writeLags_32 : decode cX2_writeLags 32 = .ok (.iconst 5, 1) := by decide +kernel
theorem dX2_writeLags_33 : decode cX2_writeLags 33 = .ok (.idiv, 1) := by decide +kernel
theorem dX2_writeLags_34 : decode cX2_writeLags 34 = .ok (.istore_n 2, 1) := by decide +kernel
theorem dX2_writeLags_35 : decode cX2_writeLags 35 = .ok (.iinc 3 1, 3) := by decide +kernel
theorem dX2_writeLags_38 : decode cX2_writeLags 38 = .ok (.goto (-34), 3) := by decide +kernel
theorem dX2_writeLags_41 : decode cX2_writeLags 41 = .ok (.return_, 1) := by decide +kernel
theorem dX2_legal_0 : decode cX2_legal 0 = .ok (.iconst 0, 1) := by decide +kernel
theorem dX2_legal_1 : decode cX2_legal 1 = .ok (.istore_n 1, 1) := by decide +kernel
theorem dX2_legal_2 : decode cX2_legal 2 = .ok (.iload_n 1, 1) := by decide +kernel
theorem dX2_legal_3 : decode cX2_legal 3 = .ok (.aload_n 0, 1) := by decide +kernel
theorem dX2_legal_4 : decode cX2_legal 4 = .ok (.getfield 7, 3) := by decide +kernel
theorem dX2_legal_7 : decode cX2_legal 7 = .ok (.if_icmp .ge 19, 3) := by decide +kernel
theorem dX2_legal_10 : decode cX2_legal 10 = .ok (.aload_n 0, 1) := by decide +kernel
theorem dX2_legal_11 : decode cX2_legal 11 = .ok (.iload_n 1, 1) := by decide +kernel
theorem dX2_legal_12 : decode cX2_legal 12 = .ok (.invokevirtual 49, 3) := by decide +kernel
theorem dX2_legal_15 : decode cX2_legal 15 = .ok (.ifCond .ge 5, 3) := by decide +kernel
theorem dX2_legal_18 : decode cX2_legal 18 = .ok (.iconst 0, 1) := by decide +kernel
theorem dX2_legal_19 : decode cX2_legal 19 = .ok (.ireturn, 1) := by decide +kernel
theorem dX2_legal_20 : decode cX2_legal 20 = .ok (.iinc 1 1, 3) := by decide +kernel
theorem dX2_legal_23 : decode cX2_legal 23 = .ok (.goto (-21), 3) := by decide +kernel
theorem dX2_legal_26 : decode cX2_legal 26 = .ok (.iconst 1, 1) := by decide +kernel
theorem dX2_legal_27 : decode cX2_legal 27 = .ok (.ireturn, 1) := by decide +kernel
theorem dX2_lag_0 : decode cX2_lag 0 = .ok (.aload_n 0, 1) := by decide +kernel
theorem dX2_lag_1 : decode cX2_lag 1 = .ok (.iload_n 1, 1) := by decide +kernel
theorem dX2_lag_2 : decode cX2_lag 2 = .ok (.invokevirtual 45, 3) := by decide +kernel
theorem dX2_lag_5 : decode cX2_lag 5 = .ok (.ifCond .ne 6, 3) := by decide +kernel
theorem dX2_lag_8 : decode cX2_lag 8 = .ok (.bipush (-101), 2) := by decide +kernel
theorem dX2_lag_10 : decode cX2_lag 10 = .ok (.ireturn, 1) := by decide +kernel
theorem dX2_lag_11 : decode cX2_lag 11 = .ok (.aload_n 0, 1) := by decide +kernel
theorem dX2_lag_12 : decode cX2_lag 12 = .ok (.invokevirtual 56, 3) := by decide +kernel
theorem dX2_lag_15 : decode cX2_lag 15 = .ok (.ifCond .ne 6, 3) := by decide +kernel
theorem dX2_lag_18 : decode cX2_lag 18 = .ok (.bipush (-100), 2) := by decide +kernel
theorem dX2_lag_20 : decode cX2_lag 20 = .ok (.ireturn, 1) := by decide +kernel
theorem dX2_lag_21 : decode cX2_lag 21 = .ok (.aload_n 0, 1) := by decide +kernel
theorem dX2_lag_22 : decode cX2_lag 22 = .ok (.invokevirtual 74, 3) := by decide +kernel
theorem dX2_lag_25 : decode cX2_lag 25 = .ok (.aload_n 0, 1) := by decide +kernel
theorem dX2_lag_26 : decode cX2_lag 26 = .ok (.getfield 36, 3) := by decide +kernel
theorem dX2_lag_29 : decode cX2_lag 29 = .ok (.iload_n 1, 1) := by decide +kernel
theorem dX2_lag_30 : decode cX2_lag 30 = .ok (.iaload, 1) := by decide +kernel
theorem dX2_lag_31 : decode cX2_lag 31 = .ok (.ireturn, 1) := by decide +kernel
theorem dX2_reachable_0 : decode cX2_reachable 0 = .ok (.aload_n 0, 1) := by decide +kernel
theorem dX2_reachable_1 : decode cX2_reachable 1 = .ok (.invokevirtual 56, 3) := by decide +kernel
theorem dX2_reachable_4 : decode cX2_reachable 4 = .ok (.ifCond .ne 5, 3) := by decide +kernel
theorem dX2_reachable_7 : decode cX2_reachable 7 = .ok (.iconst 0, 1) := by decide +kernel
theorem dX2_reachable_8 : decode cX2_reachable 8 = .ok (.ireturn, 1) := by decide +kernel
theorem dX2_reachable_9 : decode cX2_reachable 9 = .ok (.aload_n 0, 1) := by decide +kernel
theorem dX2_reachable_10 : decode cX2_reachable 10 = .ok (.invokevirtual 74, 3) := by decide +kernel
theorem dX2_reachable_13 : decode cX2_reachable 13 = .ok (.iload_n 1, 1) := by decide +kernel
theorem dX2_reachable_14 : decode cX2_reachable 14 = .ok (.aload_n 0, 1) := by decide +kernel
theorem dX2_reachable_15 : decode cX2_reachable 15 = .ok (.getfield 64, 3) := by decide +kernel
theorem dX2_reachable_18 : decode cX2_reachable 18 = .ok (.if_icmp .lt 7, 3) := by decide +kernel
theorem dX2_reachable_21 : decode cX2_reachable 21 = .ok (.iconst 1, 1) := by decide +kernel
theorem dX2_reachable_22 : decode cX2_reachable 22 = .ok (.goto 4, 3) := by decide +kernel
theorem dX2_reachable_25 : decode cX2_reachable 25 = .ok (.iconst 0, 1) := by decide +kernel
theorem dX2_reachable_26 : decode cX2_reachable 26 = .ok (.ireturn, 1) := by decide +kernel
theorem dX2_apply_0 : decode cX2_apply 0 = .ok (.aload_n 0, 1) := by decide +kernel
theorem dX2_apply_1 : decode cX2_apply 1 = .ok (.invokevirtual 56, 3) := by decide +kernel
theorem dX2_apply_4 : decode cX2_apply 4 = .ok (.ifCond .ne 6, 3) := by decide +kernel
theorem dX2_apply_7 : decode cX2_apply 7 = .ok (.bipush (-100), 2) := by decide +kernel
theorem dX2_apply_9 : decode cX2_apply 9 = .ok (.ireturn, 1) := by decide +kernel
theorem dX2_apply_10 : decode cX2_apply 10 = .ok (.aload_n 0, 1) := by decide +kernel
theorem dX2_apply_11 : decode cX2_apply 11 = .ok (.invokevirtual 74, 3) := by decide +kernel
theorem dX2_apply_14 : decode cX2_apply 14 = .ok (.iconst 0, 1) := by decide +kernel
theorem dX2_apply_15 : decode cX2_apply 15 = .ok (.istore_n 1, 1) := by decide +kernel
theorem dX2_apply_16 : decode cX2_apply 16 = .ok (.iconst 0, 1) := by decide +kernel
theorem dX2_apply_17 : decode cX2_apply 17 = .ok (.istore_n 2, 1) := by decide +kernel
theorem dX2_apply_18 : decode cX2_apply 18 = .ok (.iload_n 2, 1) := by decide +kernel
theorem dX2_apply_19 : decode cX2_apply 19 = .ok (.aload_n 0, 1) := by decide +kernel
theorem dX2_apply_20 : decode cX2_apply 20 = .ok (.getfield 7, 3) := by decide +kernel
theorem dX2_apply_23 : decode cX2_apply 23 = .ok (.if_icmp .ge 47, 3) := by decide +kernel
theorem dX2_apply_26 : decode cX2_apply 26 = .ok (.aload_n 0, 1) := by decide +kernel
theorem dX2_apply_27 : decode cX2_apply 27 = .ok (.getfield 36, 3) := by decide +kernel
theorem dX2_apply_30 : decode cX2_apply 30 = .ok (.aload_n 0, 1) := by decide +kernel
theorem dX2_apply_31 : decode cX2_apply 31 = .ok (.getfield 20, 3) := by decide +kernel
theorem dX2_apply_34 : decode cX2_apply 34 = .ok (.iload_n 2, 1) := by decide +kernel
theorem dX2_apply_35 : decode cX2_apply 35 = .ok (.iaload, 1) := by decide +kernel
theorem dX2_apply_36 : decode cX2_apply 36 = .ok (.iaload, 1) := by decide +kernel
theorem dX2_apply_37 : decode cX2_apply 37 = .ok (.aload_n 0, 1) := by decide +kernel
theorem dX2_apply_38 : decode cX2_apply 38 = .ok (.getfield 36, 3) := by decide +kernel
theorem dX2_apply_41 : decode cX2_apply 41 = .ok (.aload_n 0, 1) := by decide +kernel
theorem dX2_apply_42 : decode cX2_apply 42 = .ok (.getfield 17, 3) := by decide +kernel
theorem dX2_apply_45 : decode cX2_apply 45 = .ok (.iload_n 2, 1) := by decide +kernel
theorem dX2_apply_46 : decode cX2_apply 46 = .ok (.iaload, 1) := by decide +kernel
theorem dX2_apply_47 : decode cX2_apply 47 = .ok (.iaload, 1) := by decide +kernel
theorem dX2_apply_48 : decode cX2_apply 48 = .ok (.isub, 1) := by decide +kernel
theorem dX2_apply_49 : decode cX2_apply 49 = .ok (.istore_n 3, 1) := by decide +kernel
theorem dX2_apply_50 : decode cX2_apply 50 = .ok (.aload_n 0, 1) := by decide +kernel
theorem dX2_apply_51 : decode cX2_apply 51 = .ok (.getfield 23, 3) := by decide +kernel
theorem dX2_apply_54 : decode cX2_apply 54 = .ok (.iload_n 2, 1) := by decide +kernel
theorem dX2_apply_55 : decode cX2_apply 55 = .ok (.dup2, 1) := by decide +kernel
theorem dX2_apply_56 : decode cX2_apply 56 = .ok (.iaload, 1) := by decide +kernel
theorem dX2_apply_57 : decode cX2_apply 57 = .ok (.iload_n 3, 1) := by decide +kernel
theorem dX2_apply_58 : decode cX2_apply 58 = .ok (.iadd, 1) := by decide +kernel
theorem dX2_apply_59 : decode cX2_apply 59 = .ok (.iastore, 1) := by decide +kernel
theorem dX2_apply_60 : decode cX2_apply 60 = .ok (.iload_n 1, 1) := by decide +kernel
theorem dX2_apply_61 : decode cX2_apply 61 = .ok (.iload_n 3, 1) := by decide +kernel
theorem dX2_apply_62 : decode cX2_apply 62 = .ok (.iadd, 1) := by decide +kernel
theorem dX2_apply_63 : decode cX2_apply 63 = .ok (.istore_n 1, 1) := by decide +kernel
theorem dX2_apply_64 : decode cX2_apply 64 = .ok (.iinc 2 1, 3) := by decide +kernel
theorem dX2_apply_67 : decode cX2_apply 67 = .ok (.goto (-49), 3) := by decide +kernel
theorem dX2_apply_70 : decode cX2_apply 70 = .ok (.aload_n 0, 1) := by decide +kernel
theorem dX2_apply_71 : decode cX2_apply 71 = .ok (.iconst 0, 1) := by decide +kernel
theorem dX2_apply_72 : decode cX2_apply 72 = .ok (.putfield 32, 3) := by decide +kernel
theorem dX2_apply_75 : decode cX2_apply 75 = .ok (.iload_n 1, 1) := by decide +kernel
theorem dX2_apply_76 : decode cX2_apply 76 = .ok (.ireturn, 1) := by decide +kernel
theorem dX2_registers_0 : decode cX2_registers 0 = .ok (.iload_n 1, 1) := by decide +kernel
theorem dX2_registers_1 : decode cX2_registers 1 = .ok (.ifCond .lt 20, 3) := by decide +kernel
theorem dX2_registers_4 : decode cX2_registers 4 = .ok (.iload_n 1, 1) := by decide +kernel
theorem dX2_registers_5 : decode cX2_registers 5 = .ok (.aload_n 0, 1) := by decide +kernel
theorem dX2_registers_6 : decode cX2_registers 6 = .ok (.getfield 7, 3) := by decide +kernel
theorem dX2_registers_9 : decode cX2_registers 9 = .ok (.if_icmp .ge 12, 3) := by decide +kernel
theorem dX2_registers_12 : decode cX2_registers 12 = .ok (.aload_n 0, 1) := by decide +kernel
theorem dX2_registers_13 : decode cX2_registers 13 = .ok (.getfield 23, 3) := by decide +kernel
theorem dX2_registers_16 : decode cX2_registers 16 = .ok (.iload_n 1, 1) := by decide +kernel
theorem dX2_registers_17 : decode cX2_registers 17 = .ok (.iaload, 1) := by decide +kernel
theorem dX2_registers_18 : decode cX2_registers 18 = .ok (.goto 4, 3) := by decide +kernel
theorem dX2_registers_21 : decode cX2_registers 21 = .ok (.iconst (-1), 1) := by decide +kernel
theorem dX2_registers_22 : decode cX2_registers 22 = .ok (.ireturn, 1) := by decide +kernel
theorem dX2_fewest_0 : decode cX2_fewest 0 = .ok (.aload_n 0, 1) := by decide +kernel
theorem dX2_fewest_1 : decode cX2_fewest 1 = .ok (.iload_n 1, 1) := by decide +kernel
theorem dX2_fewest_2 : decode cX2_fewest 2 = .ok (.invokevirtual 45, 3) := by decide +kernel
theorem dX2_fewest_5 : decode cX2_fewest 5 = .ok (.ifCond .eq 11, 3) := by decide +kernel
theorem dX2_fewest_8 : decode cX2_fewest 8 = .ok (.aload_n 0, 1) := by decide +kernel
theorem dX2_fewest_9 : decode cX2_fewest 9 = .ok (.iload_n 2, 1) := by decide +kernel
theorem dX2_fewest_10 : decode cX2_fewest 10 = .ok (.invokevirtual 45, 3) := by decide +kernel
theorem dX2_fewest_13 : decode cX2_fewest 13 = .ok (.ifCond .ne 5, 3) := by decide +kernel
theorem dX2_fewest_16 : decode cX2_fewest 16 = .ok (.iconst (-1), 1) := by decide +kernel
theorem dX2_fewest_17 : decode cX2_fewest 17 = .ok (.ireturn, 1) := by decide +kernel
theorem dX2_fewest_18 : decode cX2_fewest 18 = .ok (.iconst 0, 1) := by decide +kernel
theorem dX2_fewest_19 : decode cX2_fewest 19 = .ok (.istore_n 3, 1) := by decide +kernel
theorem dX2_fewest_20 : decode cX2_fewest 20 = .ok (.iload_n 3, 1) := by decide +kernel
theorem dX2_fewest_21 : decode cX2_fewest 21 = .ok (.iconst 5, 1) := by decide +kernel
theorem dX2_fewest_22 : decode cX2_fewest 22 = .ok (.if_icmp .ge 16, 3) := by decide +kernel
theorem dX2_fewest_25 : decode cX2_fewest 25 = .ok (.aload_n 0, 1) := by decide +kernel
theorem dX2_fewest_26 : decode cX2_fewest 26 = .ok (.getfield 39, 3) := by decide +kernel
theorem dX2_fewest_29 : decode cX2_fewest 29 = .ok (.iload_n 3, 1) := by decide +kernel
theorem dX2_fewest_30 : decode cX2_fewest 30 = .ok (.iconst (-1), 1) := by decide +kernel
theorem dX2_fewest_31 : decode cX2_fewest 31 = .ok (.iastore, 1) := by decide +kernel
theorem dX2_fewest_32 : decode cX2_fewest 32 = .ok (.iinc 3 1, 3) := by decide +kernel
theorem dX2_fewest_35 : decode cX2_fewest 35 = .ok (.goto (-15), 3) := by decide +kernel
theorem dX2_fewest_38 : decode cX2_fewest 38 = .ok (.iconst 0, 1) := by decide +kernel
theorem dX2_fewest_39 : decode cX2_fewest 39 = .ok (.istore_n 3, 1) := by decide +kernel
theorem dX2_fewest_40 : decode cX2_fewest 40 = .ok (.iload_n 3, 1) := by decide +kernel
theorem dX2_fewest_41 : decode cX2_fewest 41 = .ok (.bipush 6, 2) := by decide +kernel
theorem dX2_fewest_43 : decode cX2_fewest 43 = .ok (.if_icmp .ge 123, 3) := by decide +kernel
theorem dX2_fewest_46 : decode cX2_fewest 46 = .ok (.iconst 0, 1) := by decide +kernel
theorem dX2_fewest_47 : decode cX2_fewest 47 = .ok (.istore 4, 2) := by decide +kernel
theorem dX2_fewest_49 : decode cX2_fewest 49 = .ok (.iload 4, 2) := by decide +kernel
theorem dX2_fewest_51 : decode cX2_fewest 51 = .ok (.aload_n 0, 1) := by decide +kernel
theorem dX2_fewest_52 : decode cX2_fewest 52 = .ok (.getfield 7, 3) := by decide +kernel
theorem dX2_fewest_55 : decode cX2_fewest 55 = .ok (.if_icmp .ge 105, 3) := by decide +kernel
theorem dX2_fewest_58 : decode cX2_fewest 58 = .ok (.aload_n 0, 1) := by decide +kernel
theorem dX2_fewest_59 : decode cX2_fewest 59 = .ok (.getfield 17, 3) := by decide +kernel
theorem dX2_fewest_62 : decode cX2_fewest 62 = .ok (.iload 4, 2) := by decide +kernel
theorem dX2_fewest_64 : decode cX2_fewest 64 = .ok (.iaload, 1) := by decide +kernel
theorem dX2_fewest_65 : decode cX2_fewest 65 = .ok (.iload_n 1, 1) := by decide +kernel
theorem dX2_fewest_66 : decode cX2_fewest 66 = .ok (.if_icmp .ne 7, 3) := by decide +kernel
theorem dX2_fewest_69 : decode cX2_fewest 69 = .ok (.iconst 0, 1) := by decide +kernel
theorem dX2_fewest_70 : decode cX2_fewest 70 = .ok (.goto 15, 3) := by decide +kernel
theorem dX2_fewest_73 : decode cX2_fewest 73 = .ok (.aload_n 0, 1) := by decide +kernel
theorem dX2_fewest_74 : decode cX2_fewest 74 = .ok (.getfield 39, 3) := by decide +kernel
theorem dX2_fewest_77 : decode cX2_fewest 77 = .ok (.aload_n 0, 1) := by decide +kernel
theorem dX2_fewest_78 : decode cX2_fewest 78 = .ok (.getfield 17, 3) := by decide +kernel
theorem dX2_fewest_81 : decode cX2_fewest 81 = .ok (.iload 4, 2) := by decide +kernel
theorem dX2_fewest_83 : decode cX2_fewest 83 = .ok (.iaload, 1) := by decide +kernel
theorem dX2_fewest_84 : decode cX2_fewest 84 = .ok (.iaload, 1) := by decide +kernel
theorem dX2_fewest_85 : decode cX2_fewest 85 = .ok (.istore 5, 2) := by decide +kernel
theorem dX2_fewest_87 : decode cX2_fewest 87 = .ok (.iload 5, 2) := by decide +kernel
theorem dX2_fewest_89 : decode cX2_fewest 89 = .ok (.ifCond .lt 65, 3) := by decide +kernel
theorem dX2_fewest_92 : decode cX2_fewest 92 = .ok (.aload_n 0, 1) := by decide +kernel
theorem dX2_fewest_93 : decode cX2_fewest 93 = .ok (.getfield 39, 3) := by decide +kernel
theorem dX2_fewest_96 : decode cX2_fewest 96 = .ok (.aload_n 0, 1) := by decide +kernel
theorem dX2_fewest_97 : decode cX2_fewest 97 = .ok (.getfield 20, 3) := by decide +kernel
theorem dX2_fewest_100 : decode cX2_fewest 100 = .ok (.iload 4, 2) := by decide +kernel
theorem dX2_fewest_102 : decode cX2_fewest 102 = .ok (.iaload, 1) := by decide +kernel
theorem dX2_fewest_103 : decode cX2_fewest 103 = .ok (.iaload, 1) := by decide +kernel
theorem dX2_fewest_104 : decode cX2_fewest 104 = .ok (.ifCond .lt 28, 3) := by decide +kernel
theorem dX2_fewest_107 : decode cX2_fewest 107 = .ok (.iload 5, 2) := by decide +kernel
theorem dX2_fewest_109 : decode cX2_fewest 109 = .ok (.aload_n 0, 1) := by decide +kernel
theorem dX2_fewest_110 : decode cX2_fewest 110 = .ok (.getfield 23, 3) := by decide +kernel
theorem dX2_fewest_113 : decode cX2_fewest 113 = .ok (.iload 4, 2) := by decide +kernel
theorem dX2_fewest_115 : decode cX2_fewest 115 = .ok (.iaload, 1) := by decide +kernel
theorem dX2_fewest_116 : decode cX2_fewest 116 = .ok (.iadd, 1) := by decide +kernel
theorem dX2_fewest_117 : decode cX2_fewest 117 = .ok (.aload_n 0, 1) := by decide +kernel
theorem dX2_fewest_118 : decode cX2_fewest 118 = .ok (.getfield 39, 3) := by decide +kernel
theorem dX2_fewest_121 : decode cX2_fewest 121 = .ok (.aload_n 0, 1) := by decide +kernel
theorem dX2_fewest_122 : decode cX2_fewest 122 = .ok (.getfield 20, 3) := by decide +kernel
theorem dX2_fewest_125 : decode cX2_fewest 125 = .ok (.iload 4, 2) := by decide +kernel
theorem dX2_fewest_127 : decode cX2_fewest 127 = .ok (.iaload, 1) := by decide +kernel
theorem dX2_fewest_128 : decode cX2_fewest 128 = .ok (.iaload, 1) := by decide +kernel
theorem dX2_fewest_129 : decode cX2_fewest 129 = .ok (.if_icmp .ge 25, 3) := by decide +kernel
theorem dX2_fewest_132 : decode cX2_fewest 132 = .ok (.aload_n 0, 1) := by decide +kernel
theorem dX2_fewest_133 : decode cX2_fewest 133 = .ok (.getfield 39, 3) := by decide +kernel
theorem dX2_fewest_136 : decode cX2_fewest 136 = .ok (.aload_n 0, 1) := by decide +kernel
theorem dX2_fewest_137 : decode cX2_fewest 137 = .ok (.getfield 20, 3) := by decide +kernel
theorem dX2_fewest_140 : decode cX2_fewest 140 = .ok (.iload 4, 2) := by decide +kernel
theorem dX2_fewest_142 : decode cX2_fewest 142 = .ok (.iaload, 1) := by decide +kernel
theorem dX2_fewest_143 : decode cX2_fewest 143 = .ok (.iload 5, 2) := by decide +kernel
theorem dX2_fewest_145 : decode cX2_fewest 145 = .ok (.aload_n 0, 1) := by decide +kernel
theorem dX2_fewest_146 : decode cX2_fewest 146 = .ok (.getfield 23, 3) := by decide +kernel
theorem dX2_fewest_149 : decode cX2_fewest 149 = .ok (.iload 4, 2) := by decide +kernel
theorem dX2_fewest_151 : decode cX2_fewest 151 = .ok (.iaload, 1) := by decide +kernel
theorem dX2_fewest_152 : decode cX2_fewest 152 = .ok (.iadd, 1) := by decide +kernel
theorem dX2_fewest_153 : decode cX2_fewest 153 = .ok (.iastore, 1) := by decide +kernel
theorem dX2_fewest_154 : decode cX2_fewest 154 = .ok (.iinc 4 1, 3) := by decide +kernel
theorem dX2_fewest_157 : decode cX2_fewest 157 = .ok (.goto (-108), 3) := by decide +kernel
theorem dX2_fewest_160 : decode cX2_fewest 160 = .ok (.iinc 3 1, 3) := by decide +kernel
theorem dX2_fewest_163 : decode cX2_fewest 163 = .ok (.goto (-123), 3) := by decide +kernel
theorem dX2_fewest_166 : decode cX2_fewest 166 = .ok (.aload_n 0, 1) := by decide +kernel
theorem dX2_fewest_167 : decode cX2_fewest 167 = .ok (.getfield 39, 3) := by decide +kernel
theorem dX2_fewest_170 : decode cX2_fewest 170 = .ok (.iload_n 2, 1) := by decide +kernel
theorem dX2_fewest_171 : decode cX2_fewest 171 = .ok (.iaload, 1) := by decide +kernel
theorem dX2_fewest_172 : decode cX2_fewest 172 = .ok (.ifCond .ge 8, 3) := by decide +kernel
theorem dX2_fewest_175 : decode cX2_fewest 175 = .ok (.bipush (-2), 2) := by decide +kernel
theorem dX2_fewest_177 : decode cX2_fewest 177 = .ok (.goto 9, 3) := by decide +kernel
theorem dX2_fewest_180 : decode cX2_fewest 180 = .ok (.aload_n 0, 1) := by decide +kernel
theorem dX2_fewest_181 : decode cX2_fewest 181 = .ok (.getfield 39, 3) := by decide +kernel
theorem dX2_fewest_184 : decode cX2_fewest 184 = .ok (.iload_n 2, 1) := by decide +kernel
theorem dX2_fewest_185 : decode cX2_fewest 185 = .ok (.iaload, 1) := by decide +kernel
theorem dX2_fewest_186 : decode cX2_fewest 186 = .ok (.ireturn, 1) := by decide +kernel
end
section
set_option maxRecDepth 100000
theorem dL_law_0 : decode cL_law 0 = .ok (.new 7, 3) := by decide +kernel
theorem dL_law_3 : decode cL_law 3 = .ok (.dup, 1) := by decide +kernel
theorem dL_law_4 : decode cL_law 4 = .ok (.aload_n 0, 1) := by decide +kernel
theorem dL_law_5 : decode cL_law 5 = .ok (.iconst 0, 1) := by decide +kernel
theorem dL_law_6 : decode cL_law 6 = .ok (.invokestatic 9, 3) := by decide +kernel
theorem dL_law_9 : decode cL_law 9 = .ok (.invokespecial 15, 3) := by decide +kernel
theorem dL_law_12 : decode cL_law 12 = .ok (.astore_n 1, 1) := by decide +kernel
theorem dL_law_13 : decode cL_law 13 = .ok (.new 18, 3) := by decide +kernel
theorem dL_law_16 : decode cL_law 16 = .ok (.dup, 1) := by decide +kernel
theorem dL_law_17 : decode cL_law 17 = .ok (.aload_n 0, 1) := by decide +kernel
theorem dL_law_18 : decode cL_law 18 = .ok (.iconst 0, 1) := by decide +kernel
theorem dL_law_19 : decode cL_law 19 = .ok (.invokestatic 9, 3) := by decide +kernel
theorem dL_law_22 : decode cL_law 22 = .ok (.invokespecial 20, 3) := by decide +kernel
theorem dL_law_25 : decode cL_law 25 = .ok (.astore_n 2, 1) := by decide +kernel
theorem dL_law_26 : decode cL_law 26 = .ok (.iconst 1, 1) := by decide +kernel
theorem dL_law_27 : decode cL_law 27 = .ok (.istore_n 3, 1) := by decide +kernel
theorem dL_law_28 : decode cL_law 28 = .ok (.iload_n 3, 1) := by decide +kernel
theorem dL_law_29 : decode cL_law 29 = .ok (.aload_n 0, 1) := by decide +kernel
theorem dL_law_30 : decode cL_law 30 = .ok (.arraylength, 1) := by decide +kernel
theorem dL_law_31 : decode cL_law 31 = .ok (.iconst 4, 1) := by decide +kernel
theorem dL_law_32 : decode cL_law 32 = .ok (.isub, 1) := by decide +kernel
theorem dL_law_33 : decode cL_law 33 = .ok (.if_icmp .gt 326, 3) := by decide +kernel
theorem dL_law_36 : decode cL_law 36 = .ok (.aload_n 0, 1) := by decide +kernel
theorem dL_law_37 : decode cL_law 37 = .ok (.iload_n 3, 1) := by decide +kernel
theorem dL_law_38 : decode cL_law 38 = .ok (.iaload, 1) := by decide +kernel
theorem dL_law_39 : decode cL_law 39 = .ok (.bipush 15, 2) := by decide +kernel
theorem dL_law_41 : decode cL_law 41 = .ok (.iand, 1) := by decide +kernel
theorem dL_law_42 : decode cL_law 42 = .ok (.tableswitch 311 0 10 #[58, 91, 134, 157, 170, 183, 196, 219, 242, 255, 278], 58) := by decide +kernel
theorem dL_law_100 : decode cL_law 100 = .ok (.aload_n 1, 1) := by decide +kernel
theorem dL_law_101 : decode cL_law 101 = .ok (.aload_n 0, 1) := by decide +kernel
theorem dL_law_102 : decode cL_law 102 = .ok (.iload_n 3, 1) := by decide +kernel
theorem dL_law_103 : decode cL_law 103 = .ok (.iconst 1, 1) := by decide +kernel
theorem dL_law_104 : decode cL_law 104 = .ok (.iadd, 1) := by decide +kernel
theorem dL_law_105 : decode cL_law 105 = .ok (.iaload, 1) := by decide +kernel
theorem dL_law_106 : decode cL_law 106 = .ok (.aload_n 0, 1) := by decide +kernel
theorem dL_law_107 : decode cL_law 107 = .ok (.iload_n 3, 1) := by decide +kernel
theorem dL_law_108 : decode cL_law 108 = .ok (.iconst 2, 1) := by decide +kernel
theorem dL_law_109 : decode cL_law 109 = .ok (.iadd, 1) := by decide +kernel
theorem dL_law_110 : decode cL_law 110 = .ok (.iaload, 1) := by decide +kernel
theorem dL_law_111 : decode cL_law 111 = .ok (.invokevirtual 21, 3) := by decide +kernel
theorem dL_law_114 : decode cL_law 114 = .ok (.aload_n 2, 1) := by decide +kernel
theorem dL_law_115 : decode cL_law 115 = .ok (.aload_n 0, 1) := by decide +kernel
theorem dL_law_116 : decode cL_law 116 = .ok (.iload_n 3, 1) := by decide +kernel
theorem dL_law_117 : decode cL_law 117 = .ok (.iconst 1, 1) := by decide +kernel
theorem dL_law_118 : decode cL_law 118 = .ok (.iadd, 1) := by decide +kernel
theorem dL_law_119 : decode cL_law 119 = .ok (.iaload, 1) := by decide +kernel
theorem dL_law_120 : decode cL_law 120 = .ok (.aload_n 0, 1) := by decide +kernel
theorem dL_law_121 : decode cL_law 121 = .ok (.iload_n 3, 1) := by decide +kernel
theorem dL_law_122 : decode cL_law 122 = .ok (.iconst 2, 1) := by decide +kernel
theorem dL_law_123 : decode cL_law 123 = .ok (.iadd, 1) := by decide +kernel
theorem dL_law_124 : decode cL_law 124 = .ok (.iaload, 1) := by decide +kernel
theorem dL_law_125 : decode cL_law 125 = .ok (.invokevirtual 25, 3) := by decide +kernel
theorem dL_law_128 : decode cL_law 128 = .ok (.if_icmp .eq 225, 3) := by decide +kernel
theorem dL_law_131 : decode cL_law 131 = .ok (.iconst 0, 1) := by decide +kernel
theorem dL_law_132 : decode cL_law 132 = .ok (.ireturn, 1) := by decide +kernel
theorem dL_law_133 : decode cL_law 133 = .ok (.aload_n 1, 1) := by decide +kernel
theorem dL_law_134 : decode cL_law 134 = .ok (.aload_n 0, 1) := by decide +kernel
theorem dL_law_135 : decode cL_law 135 = .ok (.iload_n 3, 1) := by decide +kernel
theorem dL_law_136 : decode cL_law 136 = .ok (.iconst 1, 1) := by decide +kernel
theorem dL_law_137 : decode cL_law 137 = .ok (.iadd, 1) := by decide +kernel
theorem dL_law_138 : decode cL_law 138 = .ok (.iaload, 1) := by decide +kernel
theorem dL_law_139 : decode cL_law 139 = .ok (.aload_n 0, 1) := by decide +kernel
theorem dL_law_140 : decode cL_law 140 = .ok (.iload_n 3, 1) := by decide +kernel
theorem dL_law_141 : decode cL_law 141 = .ok (.iconst 2, 1) := by decide +kernel
theorem dL_law_142 : decode cL_law 142 = .ok (.iadd, 1) := by decide +kernel
theorem dL_law_143 : decode cL_law 143 = .ok (.iaload, 1) := by decide +kernel
theorem dL_law_144 : decode cL_law 144 = .ok (.aload_n 0, 1) := by decide +kernel
theorem dL_law_145 : decode cL_law 145 = .ok (.iload_n 3, 1) := by decide +kernel
theorem dL_law_146 : decode cL_law 146 = .ok (.iconst 3, 1) := by decide +kernel
theorem dL_law_147 : decode cL_law 147 = .ok (.iadd, 1) := by decide +kernel
theorem dL_law_148 : decode cL_law 148 = .ok (.iaload, 1) := by decide +kernel
theorem dL_law_149 : decode cL_law 149 = .ok (.invokevirtual 26, 3) := by decide +kernel
theorem dL_law_152 : decode cL_law 152 = .ok (.aload_n 2, 1) := by decide +kernel
theorem dL_law_153 : decode cL_law 153 = .ok (.aload_n 0, 1) := by decide +kernel
theorem dL_law_154 : decode cL_law 154 = .ok (.iload_n 3, 1) := by decide +kernel
theorem dL_law_155 : decode cL_law 155 = .ok (.iconst 1, 1) := by decide +kernel
theorem dL_law_156 : decode cL_law 156 = .ok (.iadd, 1) := by decide +kernel
theorem dL_law_157 : decode cL_law 157 = .ok (.iaload, 1) := by decide +kernel
theorem dL_law_158 : decode cL_law 158 = .ok (.aload_n 0, 1) := by decide +kernel
theorem dL_law_159 : decode cL_law 159 = .ok (.iload_n 3, 1) := by decide +kernel
theorem dL_law_160 : decode cL_law 160 = .ok (.iconst 2, 1) := by decide +kernel
theorem dL_law_161 : decode cL_law 161 = .ok (.iadd, 1) := by decide +kernel
theorem dL_law_162 : decode cL_law 162 = .ok (.iaload, 1) := by decide +kernel
theorem dL_law_163 : decode cL_law 163 = .ok (.aload_n 0, 1) := by decide +kernel
theorem dL_law_164 : decode cL_law 164 = .ok (.iload_n 3, 1) := by decide +kernel
theorem dL_law_165 : decode cL_law 165 = .ok (.iconst 3, 1) := by decide +kernel
theorem dL_law_166 : decode cL_law 166 = .ok (.iadd, 1) := by decide +kernel
theorem dL_law_167 : decode cL_law 167 = .ok (.iaload, 1) := by decide +kernel
theorem dL_law_168 : decode cL_law 168 = .ok (.invokevirtual 30, 3) := by decide +kernel
theorem dL_law_171 : decode cL_law 171 = .ok (.if_icmp .eq 182, 3) := by decide +kernel
theorem dL_law_174 : decode cL_law 174 = .ok (.iconst 0, 1) := by decide +kernel
theorem dL_law_175 : decode cL_law 175 = .ok (.ireturn, 1) := by decide +kernel
theorem dL_law_176 : decode cL_law 176 = .ok (.aload_n 1, 1) := by decide +kernel
theorem dL_law_177 : decode cL_law 177 = .ok (.aload_n 0, 1) := by decide +kernel
theorem dL_law_178 : decode cL_law 178 = .ok (.iload_n 3, 1) := by decide +kernel
theorem dL_law_179 : decode cL_law 179 = .ok (.iconst 1, 1) := by decide +kernel
theorem dL_law_180 : decode cL_law 180 = .ok (.iadd, 1) := by decide +kernel
theorem dL_law_181 : decode cL_law 181 = .ok (.iaload, 1) := by decide +kernel
theorem dL_law_182 : decode cL_law 182 = .ok (.invokevirtual 31, 3) := by decide +kernel
theorem dL_law_185 : decode cL_law 185 = .ok (.aload_n 2, 1) := by decide +kernel
theorem dL_law_186 : decode cL_law 186 = .ok (.aload_n 0, 1) := by decide +kernel
theorem dL_law_187 : decode cL_law 187 = .ok (.iload_n 3, 1) := by decide +kernel
theorem dL_law_188 : decode cL_law 188 = .ok (.iconst 1, 1) := by decide +kernel
theorem dL_law_189 : decode cL_law 189 = .ok (.iadd, 1) := by decide +kernel
theorem dL_law_190 : decode cL_law 190 = .ok (.iaload, 1) := by decide +kernel
theorem dL_law_191 : decode cL_law 191 = .ok (.invokevirtual 35, 3) := by decide +kernel
theorem dL_law_194 : decode cL_law 194 = .ok (.if_icmp .eq 159, 3) := by decide +kernel
theorem dL_law_197 : decode cL_law 197 = .ok (.iconst 0, 1) := by decide +kernel
theorem dL_law_198 : decode cL_law 198 = .ok (.ireturn, 1) := by decide +kernel
theorem dL_law_199 : decode cL_law 199 = .ok (.aload_n 1, 1) := by decide +kernel
theorem dL_law_200 : decode cL_law 200 = .ok (.invokevirtual 36, 3) := by decide +kernel
theorem dL_law_203 : decode cL_law 203 = .ok (.aload_n 2, 1) := by decide +kernel
theorem dL_law_204 : decode cL_law 204 = .ok (.invokevirtual 40, 3) := by decide +kernel
theorem dL_law_207 : decode cL_law 207 = .ok (.if_icmp .eq 146, 3) := by decide +kernel
theorem dL_law_210 : decode cL_law 210 = .ok (.iconst 0, 1) := by decide +kernel
theorem dL_law_211 : decode cL_law 211 = .ok (.ireturn, 1) := by decide +kernel
theorem dL_law_212 : decode cL_law 212 = .ok (.aload_n 1, 1) := by decide +kernel
theorem dL_law_213 : decode cL_law 213 = .ok (.invokevirtual 41, 3) := by decide +kernel
theorem dL_law_216 : decode cL_law 216 = .ok (.aload_n 2, 1) := by decide +kernel
theorem dL_law_217 : decode cL_law 217 = .ok (.invokevirtual 45, 3) := by decide +kernel
theorem dL_law_220 : decode cL_law 220 = .ok (.if_icmp .eq 133, 3) := by decide +kernel
theorem dL_law_223 : decode cL_law 223 = .ok (.iconst 0, 1) := by decide +kernel
theorem dL_law_224 : decode cL_law 224 = .ok (.ireturn, 1) := by decide +kernel
theorem dL_law_225 : decode cL_law 225 = .ok (.aload_n 1, 1) := by decide +kernel
theorem dL_law_226 : decode cL_law 226 = .ok (.invokevirtual 46, 3) := by decide +kernel
theorem dL_law_229 : decode cL_law 229 = .ok (.aload_n 2, 1) := by decide +kernel
theorem dL_law_230 : decode cL_law 230 = .ok (.invokevirtual 49, 3) := by decide +kernel
theorem dL_law_233 : decode cL_law 233 = .ok (.if_icmp .eq 120, 3) := by decide +kernel
theorem dL_law_236 : decode cL_law 236 = .ok (.iconst 0, 1) := by decide +kernel
theorem dL_law_237 : decode cL_law 237 = .ok (.ireturn, 1) := by decide +kernel
theorem dL_law_238 : decode cL_law 238 = .ok (.aload_n 1, 1) := by decide +kernel
theorem dL_law_239 : decode cL_law 239 = .ok (.aload_n 0, 1) := by decide +kernel
theorem dL_law_240 : decode cL_law 240 = .ok (.iload_n 3, 1) := by decide +kernel
theorem dL_law_241 : decode cL_law 241 = .ok (.iconst 1, 1) := by decide +kernel
theorem dL_law_242 : decode cL_law 242 = .ok (.iadd, 1) := by decide +kernel
theorem dL_law_243 : decode cL_law 243 = .ok (.iaload, 1) := by decide +kernel
theorem dL_law_244 : decode cL_law 244 = .ok (.invokevirtual 50, 3) := by decide +kernel
theorem dL_law_247 : decode cL_law 247 = .ok (.aload_n 2, 1) := by decide +kernel
theorem dL_law_248 : decode cL_law 248 = .ok (.aload_n 0, 1) := by decide +kernel
theorem dL_law_249 : decode cL_law 249 = .ok (.iload_n 3, 1) := by decide +kernel
theorem dL_law_250 : decode cL_law 250 = .ok (.iconst 1, 1) := by decide +kernel
theorem dL_law_251 : decode cL_law 251 = .ok (.iadd, 1) := by decide +kernel
theorem dL_law_252 : decode cL_law 252 = .ok (.iaload, 1) := by decide +kernel
theorem dL_law_253 : decode cL_law 253 = .ok (.invokevirtual 53, 3) := by decide +kernel
theorem dL_law_256 : decode cL_law 256 = .ok (.if_icmp .eq 97, 3) := by decide +kernel
theorem dL_law_259 : decode cL_law 259 = .ok (.iconst 0, 1) := by decide +kernel
theorem dL_law_260 : decode cL_law 260 = .ok (.ireturn, 1) := by decide +kernel
theorem dL_law_261 : decode cL_law 261 = .ok (.aload_n 1, 1) := by decide +kernel
theorem dL_law_262 : decode cL_law 262 = .ok (.aload_n 0, 1) := by decide +kernel
theorem dL_law_263 : decode cL_law 263 = .ok (.iload_n 3, 1) := by decide +kernel
theorem dL_law_264 : decode cL_law 264 = .ok (.iconst 1, 1) := by decide +kernel
theorem dL_law_265 : decode cL_law 265 = .ok (.iadd, 1) := by decide +kernel
theorem dL_law_266 : decode cL_law 266 = .ok (.iaload, 1) := by decide +kernel
theorem dL_law_267 : decode cL_law 267 = .ok (.invokevirtual 54, 3) := by decide +kernel
theorem dL_law_270 : decode cL_law 270 = .ok (.aload_n 2, 1) := by decide +kernel
theorem dL_law_271 : decode cL_law 271 = .ok (.aload_n 0, 1) := by decide +kernel
theorem dL_law_272 : decode cL_law 272 = .ok (.iload_n 3, 1) := by decide +kernel
theorem dL_law_273 : decode cL_law 273 = .ok (.iconst 1, 1) := by decide +kernel
theorem dL_law_274 : decode cL_law 274 = .ok (.iadd, 1) := by decide +kernel
theorem dL_law_275 : decode cL_law 275 = .ok (.iaload, 1) := by decide +kernel
theorem dL_law_276 : decode cL_law 276 = .ok (.invokevirtual 58, 3) := by decide +kernel
theorem dL_law_279 : decode cL_law 279 = .ok (.if_icmp .eq 74, 3) := by decide +kernel
theorem dL_law_282 : decode cL_law 282 = .ok (.iconst 0, 1) := by decide +kernel
theorem dL_law_283 : decode cL_law 283 = .ok (.ireturn, 1) := by decide +kernel
theorem dL_law_284 : decode cL_law 284 = .ok (.aload_n 1, 1) := by decide +kernel
theorem dL_law_285 : decode cL_law 285 = .ok (.invokevirtual 59, 3) := by decide +kernel
theorem dL_law_288 : decode cL_law 288 = .ok (.aload_n 2, 1) := by decide +kernel
theorem dL_law_289 : decode cL_law 289 = .ok (.invokevirtual 62, 3) := by decide +kernel
theorem dL_law_292 : decode cL_law 292 = .ok (.if_icmp .eq 61, 3) := by decide +kernel
theorem dL_law_295 : decode cL_law 295 = .ok (.iconst 0, 1) := by decide +kernel
theorem dL_law_296 : decode cL_law 296 = .ok (.ireturn, 1) := by decide +kernel
theorem dL_law_297 : decode cL_law 297 = .ok (.aload_n 1, 1) := by decide +kernel
theorem dL_law_298 : decode cL_law 298 = .ok (.aload_n 0, 1) := by decide +kernel
theorem dL_law_299 : decode cL_law 299 = .ok (.iload_n 3, 1) := by decide +kernel
theorem dL_law_300 : decode cL_law 300 = .ok (.iconst 1, 1) := by decide +kernel
theorem dL_law_301 : decode cL_law 301 = .ok (.iadd, 1) := by decide +kernel
theorem dL_law_302 : decode cL_law 302 = .ok (.iaload, 1) := by decide +kernel
theorem dL_law_303 : decode cL_law 303 = .ok (.invokevirtual 63, 3) := by decide +kernel
theorem dL_law_306 : decode cL_law 306 = .ok (.aload_n 2, 1) := by decide +kernel
theorem dL_law_307 : decode cL_law 307 = .ok (.aload_n 0, 1) := by decide +kernel
theorem dL_law_308 : decode cL_law 308 = .ok (.iload_n 3, 1) := by decide +kernel
theorem dL_law_309 : decode cL_law 309 = .ok (.iconst 1, 1) := by decide +kernel
theorem dL_law_310 : decode cL_law 310 = .ok (.iadd, 1) := by decide +kernel
theorem dL_law_311 : decode cL_law 311 = .ok (.iaload, 1) := by decide +kernel
theorem dL_law_312 : decode cL_law 312 = .ok (.invokevirtual 66, 3) := by decide +kernel
theorem dL_law_315 : decode cL_law 315 = .ok (.if_icmp .eq 38, 3) := by decide +kernel
theorem dL_law_318 : decode cL_law 318 = .ok (.iconst 0, 1) := by decide +kernel
theorem dL_law_319 : decode cL_law 319 = .ok (.ireturn, 1) := by decide +kernel
theorem dL_law_320 : decode cL_law 320 = .ok (.aload_n 1, 1) := by decide +kernel
theorem dL_law_321 : decode cL_law 321 = .ok (.aload_n 0, 1) := by decide +kernel
theorem dL_law_322 : decode cL_law 322 = .ok (.iload_n 3, 1) := by decide +kernel
theorem dL_law_323 : decode cL_law 323 = .ok (.iconst 1, 1) := by decide +kernel
theorem dL_law_324 : decode cL_law 324 = .ok (.iadd, 1) := by decide +kernel
theorem dL_law_325 : decode cL_law 325 = .ok (.iaload, 1) := by decide +kernel
theorem dL_law_326 : decode cL_law 326 = .ok (.aload_n 0, 1) := by decide +kernel
theorem dL_law_327 : decode cL_law 327 = .ok (.iload_n 3, 1) := by decide +kernel
theorem dL_law_328 : decode cL_law 328 = .ok (.iconst 2, 1) := by decide +kernel
theorem dL_law_329 : decode cL_law 329 = .ok (.iadd, 1) := by decide +kernel
theorem dL_law_330 : decode cL_law 330 = .ok (.iaload, 1) := by decide +kernel
theorem dL_law_331 : decode cL_law 331 = .ok (.invokevirtual 67, 3) := by decide +kernel
theorem dL_law_334 : decode cL_law 334 = .ok (.aload_n 2, 1) := by decide +kernel
theorem dL_law_335 : decode cL_law 335 = .ok (.aload_n 0, 1) := by decide +kernel
theorem dL_law_336 : decode cL_law 336 = .ok (.iload_n 3, 1) := by decide +kernel
theorem dL_law_337 : decode cL_law 337 = .ok (.iconst 1, 1) := by decide +kernel
theorem dL_law_338 : decode cL_law 338 = .ok (.iadd, 1) := by decide +kernel
theorem dL_law_339 : decode cL_law 339 = .ok (.iaload, 1) := by decide +kernel
theorem dL_law_340 : decode cL_law 340 = .ok (.aload_n 0, 1) := by decide +kernel
theorem dL_law_341 : decode cL_law 341 = .ok (.iload_n 3, 1) := by decide +kernel
theorem dL_law_342 : decode cL_law 342 = .ok (.iconst 2, 1) := by decide +kernel
theorem dL_law_343 : decode cL_law 343 = .ok (.iadd, 1) := by decide +kernel
theorem dL_law_344 : decode cL_law 344 = .ok (.iaload, 1) := by decide +kernel
theorem dL_law_345 : decode cL_law 345 = .ok (.invokevirtual 71, 3) := by decide +kernel
theorem dL_law_348 : decode cL_law 348 = .ok (.if_icmp .eq 5, 3) := by decide +kernel
theorem dL_law_351 : decode cL_law 351 = .ok (.iconst 0, 1) := by decide +kernel
theorem dL_law_352 : decode cL_law 352 = .ok (.ireturn, 1) := by decide +kernel
theorem dL_law_353 : decode cL_law 353 = .ok (.iinc 3 4, 3) := by decide +kernel
theorem dL_law_356 : decode cL_law 356 = .ok (.goto (-328), 3) := by decide +kernel
theorem dL_law_359 : decode cL_law 359 = .ok (.iconst 1, 1) := by decide +kernel
theorem dL_law_360 : decode cL_law 360 = .ok (.ireturn, 1) := by decide +kernel
end
section
/-! ROWS: every int on the machine is zI z, z an Int; the worlds of the two classes; calls inside a class -/
def zI (z : Int) : Int32 := Int32.ofInt z
def zC (f : Nat → Int) : Nat → Int32 := fun j => zI (f j)
abbrev zin (z : Int) : Prop := -2147483648 ≤ z ∧ z ≤ 2147483647
theorem zI_toInt {z : Int} (h : zin z) : (zI z).toInt = z := Int32.toInt_ofInt_of_le (by have := h.1; omega) (by have := h.2; omega)
theorem zI_of (x : Int32) : x = zI x.toInt := (Int32.ofInt_toInt x).symm
theorem zI_inx (x : Int32) : zin x.toInt := by
  have h1 := Int32.toInt_lt x
  have h2 := Int32.le_toInt x
  exact ⟨by omega, by omega⟩
theorem zI_lt {a b : Int} (ha : zin a) (hb : zin b) : zI a < zI b ↔ a < b := by rw [Int32.lt_iff_toInt_lt, zI_toInt ha, zI_toInt hb]
theorem zI_le {a b : Int} (ha : zin a) (hb : zin b) : zI a ≤ zI b ↔ a ≤ b := by rw [Int32.le_iff_toInt_le, zI_toInt ha, zI_toInt hb]
theorem zI_eq {a b : Int} (ha : zin a) (hb : zin b) : zI a = zI b ↔ a = b := by rw [← Int32.toInt_inj, zI_toInt ha, zI_toInt hb]
theorem zI_0 : zI 0 = 0 := rfl
theorem zI_n (n : Nat) : zI (n : Int) = nI n := Int32.ofInt_eq_ofNat
theorem zI_clamp {k : Nat} (h : k < 2147483648) : (zI (k : Int)).toNatClampNeg = k := by rw [zI_n]; exact nI_clamp h
theorem zI_vin {k n : Nat} (h : k < n) (hn : n < 2147483648) : vp_in (zI (k : Int)) n := by rw [zI_n]; exact vp_in_nI h hn
theorem zC_up {f : Nat → Int} {k : Nat} {z : Int} (h : k < 2147483648) : upd (zC f) (zI (k : Int)).toNatClampNeg (zI z) = zC (rb_up f k z) := by
  rw [zI_clamp h]
  funext j
  unfold upd zC rb_up
  split <;> rfl
theorem zC_upN {f : Nat → Nat} {k u : Nat} : rb_up (fun j => ((f j : Nat) : Int)) k (u : Int) = fun j => ((rb_up f k u j : Nat) : Int) := by
  funext j
  unfold rb_up
  split <;> rfl
theorem zI_byte {z : Int} (h1 : -128 ≤ z) (h2 : z ≤ 127) : (zI z).toInt8.toInt32 = zI z := by
  unfold zI
  rw [Int32.toInt8_ofInt, Int8.toInt32_ofInt (by show (-128 : Int) ≤ z; omega) (by show z ≤ (127 : Int); omega)]
theorem zI_div5 {k : Nat} (h : k < 2147483648) : zI (k : Int) / zI 5 = zI ((k / 5 : Nat) : Int) := by
  rw [zI_n, zI_n]
  exact pk_div (d := 5) h (by decide) (by decide)
theorem zI_rem5 {k : Nat} (h : k < 2147483648) : zI (k : Int) - zI (k : Int) / zI 5 * zI 5 = zI ((k % 5 : Nat) : Int) := by
  rw [zI_n, zI_n]
  exact pk_rem (d := 5) h (by decide) (by decide)
section ZW
variable {p : Program} {l : Launch} {e : Env} {R : Room} {s : State} {m : MethodId} {args : Array Value} {below : List Frame} {meth : Method} {c : Code} {H : Heap} {locs : List Loc} {cells slots : Nat} {Q : State → Prop}
variable {cc : ByteArray} {pc : Nat} {ls : Array Slot} {rest : List Value}
theorem zi_top {z z' : Int} (h : z = z') (k : W p l e R s m args below meth c H locs cells slots Q (F0 m pc ls (.int (zI z') :: rest))) : W p l e R s m args below meth c H locs cells slots Q (F0 m pc ls (.int (zI z) :: rest)) := by rw [h]; exact k

theorem zi_iadd (hx : p.tables.exec = Jvm.exec) (hb : c.code = cc) {x y : Int} (hdg : decode cc pc = .ok (.iadd, 1)) (k : W p l e R s m args below meth c H locs cells slots Q (F0 m (pc + 1) ls (.int (zI (x + y)) :: rest))) : W p l e R s m args below meth c H locs cells slots Q (F0 m pc ls (.int (zI y) :: .int (zI x) :: rest)) := by
  refine lv_iadd hx hb hdg ?_
  have e : zI x + zI y = zI (x + y) := (Int32.ofInt_add x y).symm
  rw [e]
  exact k
theorem zi_isub (hx : p.tables.exec = Jvm.exec) (hb : c.code = cc) {x y : Int} (hdg : decode cc pc = .ok (.isub, 1)) (k : W p l e R s m args below meth c H locs cells slots Q (F0 m (pc + 1) ls (.int (zI (x - y)) :: rest))) : W p l e R s m args below meth c H locs cells slots Q (F0 m pc ls (.int (zI y) :: .int (zI x) :: rest)) := by
  refine lv_isub hx hb hdg ?_
  have e : zI x - zI y = zI (x - y) := (Int32.ofInt_sub x y).symm
  rw [e]
  exact k
theorem zi_imul (hx : p.tables.exec = Jvm.exec) (hb : c.code = cc) {x y : Int} (hdg : decode cc pc = .ok (.imul, 1)) (k : W p l e R s m args below meth c H locs cells slots Q (F0 m (pc + 1) ls (.int (zI (x * y)) :: rest))) : W p l e R s m args below meth c H locs cells slots Q (F0 m pc ls (.int (zI y) :: .int (zI x) :: rest)) := by
  refine lv_imul hx hb hdg ?_
  have e : zI x * zI y = zI (x * y) := (Int32.ofInt_mul x y).symm
  rw [e]
  exact k
theorem zi_ineg (hx : p.tables.exec = Jvm.exec) (hb : c.code = cc) {x : Int} (hdg : decode cc pc = .ok (.ineg, 1)) (k : W p l e R s m args below meth c H locs cells slots Q (F0 m (pc + 1) ls (.int (zI (-x)) :: rest))) : W p l e R s m args below meth c H locs cells slots Q (F0 m pc ls (.int (zI x) :: rest)) := by
  refine lv_ineg hx hb hdg ?_
  have e : -zI x = zI (-x) := (Int32.ofInt_neg x).symm
  rw [e]
  exact k
theorem zi_div5 (hx : p.tables.exec = Jvm.exec) (hb : c.code = cc) {x : Int} (j : Nat) (hj : x = (j : Int)) (hlt : j < 2147483648) (hdg : decode cc pc = .ok (.idiv, 1)) (k : W p l e R s m args below meth c H locs cells slots Q (F0 m (pc + 1) ls (.int (zI ((j / 5 : Nat) : Int)) :: rest))) : W p l e R s m args below meth c H locs cells slots Q (F0 m pc ls (.int (zI 5) :: .int (zI x) :: rest)) := by
  subst hj
  refine lv_idiv hx hb hdg (by decide) ?_
  rw [zI_div5 hlt]
  exact k
theorem zi_rem5 (hx : p.tables.exec = Jvm.exec) (hb : c.code = cc) {x : Int} (j : Nat) (hj : x = (j : Int)) (hlt : j < 2147483648) (hdg : decode cc pc = .ok (.irem, 1)) (k : W p l e R s m args below meth c H locs cells slots Q (F0 m (pc + 1) ls (.int (zI ((j % 5 : Nat) : Int)) :: rest))) : W p l e R s m args below meth c H locs cells slots Q (F0 m pc ls (.int (zI 5) :: .int (zI x) :: rest)) := by
  subst hj
  refine lv_irem hx hb hdg (by decide) ?_
  rw [zI_rem5 hlt]
  exact k
theorem zi_i2b (hx : p.tables.exec = Jvm.exec) (hb : c.code = cc) {x : Int} (h1 : -128 ≤ x) (h2 : x ≤ 127) (hdg : decode cc pc = .ok (.i2b, 1)) (k : W p l e R s m args below meth c H locs cells slots Q (F0 m (pc + 1) ls (.int (zI x) :: rest))) : W p l e R s m args below meth c H locs cells slots Q (F0 m pc ls (.int (zI x) :: rest)) := lv_i2b hx hb hdg (zI_byte h1 h2) k
theorem zi_iinc (hx : p.tables.exec = Jvm.exec) (hb : c.code = cc) {i nL k : Nat} {n : Int} {x x' : Int} {lv lv' : List (Nat × Value)} (hdg : decode cc pc = .ok (.iinc i n, 3)) (h : lv_has ls nL lv) (hk : lv[k]? = some (i, .int (zI x))) (hv : x' = x + n) (hn : i < nL) (hl : (i, Value.int (zI x')) :: lv.filter (fun q => !(q.1 == i) && !(q.1 + 1 == i && q.2.category == 2)) = lv')
    (kk : ∀ ls' : Array Slot, lv_has ls' nL lv' → W p l e R s m args below meth c H locs cells slots Q (F0 m (pc + 3) ls' rest)) : W p l e R s m args below meth c H locs cells slots Q (F0 m pc ls rest) := by
  subst hv
  exact lv_iinc (v := zI (x + n)) hx hb hdg h hk (Int32.ofInt_add x n).symm hn hl kk
theorem zi_icmp_eq (hx : p.tables.exec = Jvm.exec) (hb : c.code = cc) {x y : Int} {off : Int} {tgt : Nat} (hdg : decode cc pc = .ok (.if_icmp .eq off, 3)) (ht : (pc : Int) + off = (tgt : Int)) (hx1 : zin x) (hy1 : zin y) (kt : x = y → W p l e R s m args below meth c H locs cells slots Q (F0 m tgt ls rest)) (kf : x ≠ y → W p l e R s m args below meth c H locs cells slots Q (F0 m (pc + 3) ls rest)) : W p l e R s m args below meth c H locs cells slots Q (F0 m pc ls (.int (zI y) :: .int (zI x) :: rest)) :=
  lv_icmp_eq hx hb hdg ht (fun h => kt ((zI_eq hx1 hy1).mp h)) (fun h => kf (fun q => h ((zI_eq hx1 hy1).mpr q)))
theorem zi_icmp_ne (hx : p.tables.exec = Jvm.exec) (hb : c.code = cc) {x y : Int} {off : Int} {tgt : Nat} (hdg : decode cc pc = .ok (.if_icmp .ne off, 3)) (ht : (pc : Int) + off = (tgt : Int)) (hx1 : zin x) (hy1 : zin y) (kt : x ≠ y → W p l e R s m args below meth c H locs cells slots Q (F0 m tgt ls rest)) (kf : x = y → W p l e R s m args below meth c H locs cells slots Q (F0 m (pc + 3) ls rest)) : W p l e R s m args below meth c H locs cells slots Q (F0 m pc ls (.int (zI y) :: .int (zI x) :: rest)) :=
  lv_icmp_ne hx hb hdg ht (fun h => kt (fun q => h ((zI_eq hx1 hy1).mpr q))) (fun h => kf ((zI_eq hx1 hy1).mp h))
theorem zi_icmp_lt (hx : p.tables.exec = Jvm.exec) (hb : c.code = cc) {x y : Int} {off : Int} {tgt : Nat} (hdg : decode cc pc = .ok (.if_icmp .lt off, 3)) (ht : (pc : Int) + off = (tgt : Int)) (hx1 : zin x) (hy1 : zin y) (kt : x < y → W p l e R s m args below meth c H locs cells slots Q (F0 m tgt ls rest)) (kf : y ≤ x → W p l e R s m args below meth c H locs cells slots Q (F0 m (pc + 3) ls rest)) : W p l e R s m args below meth c H locs cells slots Q (F0 m pc ls (.int (zI y) :: .int (zI x) :: rest)) :=
  lv_icmp_lt hx hb hdg ht (fun h => kt ((zI_lt hx1 hy1).mp h)) (fun h => kf (Int.not_lt.mp (fun q => h ((zI_lt hx1 hy1).mpr q))))
theorem zi_icmp_ge (hx : p.tables.exec = Jvm.exec) (hb : c.code = cc) {x y : Int} {off : Int} {tgt : Nat} (hdg : decode cc pc = .ok (.if_icmp .ge off, 3)) (ht : (pc : Int) + off = (tgt : Int)) (hx1 : zin x) (hy1 : zin y) (kt : y ≤ x → W p l e R s m args below meth c H locs cells slots Q (F0 m tgt ls rest)) (kf : x < y → W p l e R s m args below meth c H locs cells slots Q (F0 m (pc + 3) ls rest)) : W p l e R s m args below meth c H locs cells slots Q (F0 m pc ls (.int (zI y) :: .int (zI x) :: rest)) :=
  lv_icmp_ge hx hb hdg ht (fun h => kt ((zI_le hy1 hx1).mp h)) (fun h => kf (Int.not_le.mp (fun q => h ((zI_le hy1 hx1).mpr q))))
theorem zi_icmp_gt (hx : p.tables.exec = Jvm.exec) (hb : c.code = cc) {x y : Int} {off : Int} {tgt : Nat} (hdg : decode cc pc = .ok (.if_icmp .gt off, 3)) (ht : (pc : Int) + off = (tgt : Int)) (hx1 : zin x) (hy1 : zin y) (kt : y < x → W p l e R s m args below meth c H locs cells slots Q (F0 m tgt ls rest)) (kf : x ≤ y → W p l e R s m args below meth c H locs cells slots Q (F0 m (pc + 3) ls rest)) : W p l e R s m args below meth c H locs cells slots Q (F0 m pc ls (.int (zI y) :: .int (zI x) :: rest)) :=
  lv_icmp_gt hx hb hdg ht (fun h => kt ((zI_lt hy1 hx1).mp h)) (fun h => kf (Int.not_lt.mp (fun q => h ((zI_lt hy1 hx1).mpr q))))
theorem zi_icmp_le (hx : p.tables.exec = Jvm.exec) (hb : c.code = cc) {x y : Int} {off : Int} {tgt : Nat} (hdg : decode cc pc = .ok (.if_icmp .le off, 3)) (ht : (pc : Int) + off = (tgt : Int)) (hx1 : zin x) (hy1 : zin y) (kt : x ≤ y → W p l e R s m args below meth c H locs cells slots Q (F0 m tgt ls rest)) (kf : y < x → W p l e R s m args below meth c H locs cells slots Q (F0 m (pc + 3) ls rest)) : W p l e R s m args below meth c H locs cells slots Q (F0 m pc ls (.int (zI y) :: .int (zI x) :: rest)) :=
  lv_icmp_le hx hb hdg ht (fun h => kt ((zI_le hx1 hy1).mp h)) (fun h => kf (Int.not_le.mp (fun q => h ((zI_le hx1 hy1).mpr q))))
theorem zi_if_eq (hx : p.tables.exec = Jvm.exec) (hb : c.code = cc) {x : Int} {off : Int} {tgt : Nat} (hdg : decode cc pc = .ok (.ifCond .eq off, 3)) (ht : (pc : Int) + off = (tgt : Int)) (hx1 : zin x) (kt : x = 0 → W p l e R s m args below meth c H locs cells slots Q (F0 m tgt ls rest)) (kf : x ≠ 0 → W p l e R s m args below meth c H locs cells slots Q (F0 m (pc + 3) ls rest)) : W p l e R s m args below meth c H locs cells slots Q (F0 m pc ls (.int (zI x) :: rest)) :=
  lv_if_eq hx hb hdg ht (fun h => kt ((zI_eq hx1 (by decide)).mp (h.trans zI_0.symm))) (fun h => kf (fun q => h (((zI_eq hx1 (by decide)).mpr q).trans zI_0)))
theorem zi_if_ne (hx : p.tables.exec = Jvm.exec) (hb : c.code = cc) {x : Int} {off : Int} {tgt : Nat} (hdg : decode cc pc = .ok (.ifCond .ne off, 3)) (ht : (pc : Int) + off = (tgt : Int)) (hx1 : zin x) (kt : x ≠ 0 → W p l e R s m args below meth c H locs cells slots Q (F0 m tgt ls rest)) (kf : x = 0 → W p l e R s m args below meth c H locs cells slots Q (F0 m (pc + 3) ls rest)) : W p l e R s m args below meth c H locs cells slots Q (F0 m pc ls (.int (zI x) :: rest)) :=
  lv_if_ne hx hb hdg ht (fun h => kt (fun q => h (((zI_eq hx1 (by decide)).mpr q).trans zI_0))) (fun h => kf ((zI_eq hx1 (by decide)).mp (h.trans zI_0.symm)))
theorem zi_if_lt (hx : p.tables.exec = Jvm.exec) (hb : c.code = cc) {x : Int} {off : Int} {tgt : Nat} (hdg : decode cc pc = .ok (.ifCond .lt off, 3)) (ht : (pc : Int) + off = (tgt : Int)) (hx1 : zin x) (kt : x < 0 → W p l e R s m args below meth c H locs cells slots Q (F0 m tgt ls rest)) (kf : 0 ≤ x → W p l e R s m args below meth c H locs cells slots Q (F0 m (pc + 3) ls rest)) : W p l e R s m args below meth c H locs cells slots Q (F0 m pc ls (.int (zI x) :: rest)) :=
  lv_if_lt hx hb hdg ht (fun h => kt ((zI_lt hx1 (by decide)).mp (show zI x < zI 0 from h))) (fun h => kf (Int.not_lt.mp (fun q => h (show zI x < zI 0 from (zI_lt hx1 (by decide)).mpr q))))
theorem zi_if_ge (hx : p.tables.exec = Jvm.exec) (hb : c.code = cc) {x : Int} {off : Int} {tgt : Nat} (hdg : decode cc pc = .ok (.ifCond .ge off, 3)) (ht : (pc : Int) + off = (tgt : Int)) (hx1 : zin x) (kt : 0 ≤ x → W p l e R s m args below meth c H locs cells slots Q (F0 m tgt ls rest)) (kf : x < 0 → W p l e R s m args below meth c H locs cells slots Q (F0 m (pc + 3) ls rest)) : W p l e R s m args below meth c H locs cells slots Q (F0 m pc ls (.int (zI x) :: rest)) :=
  lv_if_ge hx hb hdg ht (fun h => kt ((zI_le (by decide) hx1).mp (show zI 0 ≤ zI x from h))) (fun h => kf (Int.not_le.mp (fun q => h (show zI 0 ≤ zI x from (zI_le (by decide) hx1).mpr q))))
end ZW
abbrev vwCl : List vw_C := [(RX1, TX1, 11), (RX2, TX2, 12)]
def rb_WC (h : Nat → Nat) (d : Nat → ClassId) (nb mw : Nat) (fr to : Nat → Nat) (dl hd : Nat → Int) (kn sd : Int) (le lo lg : Nat → Int) : va_W :=
  [(h 0, .inr (0, [.int (zI nb), .ref (h 1), .int (zI mw), .ref (h 2), .ref (h 3), .ref (h 4), .int (zI kn), .int (zI sd), .ref (h 5), .ref (h 6), .ref (h 7)])), (h 1, .inl (d 1, 5, .inl (zC dl))), (h 2, .inl (d 2, 12, .inl (zC (fun j => ((fr j : Nat) : Int))))), (h 3, .inl (d 3, 12, .inl (zC (fun j => ((to j : Nat) : Int))))), (h 4, .inl (d 4, 12, .inl (zC hd))), (h 5, .inl (d 5, 25, .inl (zC le))), (h 6, .inl (d 6, 25, .inl (zC lo))), (h 7, .inl (d 7, 5, .inl (zC lg)))]
def rb_TC (d : Nat → ClassId) : List (ClassId × FieldType) := [(d 1, .byte), (d 2, .byte), (d 3, .byte), (d 4, .int), (d 5, .int), (d 6, .int), (d 7, .int)]
def rb_WM (h : Nat → Nat) (d : Nat → ClassId) (nb mw : Nat) (fr to : Nat → Nat) (dl hd lg ln : Nat → Int) (kn bp : Int) (pl rc : Nat → Int) : va_W :=
  [(h 0, .inr (1, [.int (zI nb), .int (zI mw), .ref (h 1), .ref (h 2), .ref (h 3), .ref (h 4), .ref (h 5), .ref (h 6), .int (zI kn), .int (zI bp), .ref (h 7), .ref (h 8)])), (h 1, .inl (d 1, 5, .inl (zC dl))), (h 2, .inl (d 2, 12, .inl (zC (fun j => ((fr j : Nat) : Int))))), (h 3, .inl (d 3, 12, .inl (zC (fun j => ((to j : Nat) : Int))))), (h 4, .inl (d 4, 12, .inl (zC hd))), (h 5, .inl (d 5, 5, .inl (zC lg))), (h 6, .inl (d 6, 5, .inl (zC ln))), (h 7, .inl (d 7, 5, .inl (zC pl))), (h 8, .inl (d 8, 25, .inl (zC rc)))]
def rb_TM (d : Nat → ClassId) : List (ClassId × FieldType) := [(d 1, .int), (d 2, .int), (d 3, .int), (d 4, .int), (d 5, .int), (d 6, .int), (d 7, .int), (d 8, .int)]
theorem zP_c {D : va_G} {cl : List vw_C} {ws : va_W} {H : Heap} {q0 a n : Nat} {cA : ClassId} {f g : Nat → Int} (hP : va_P D cl ws H) (ha : ws[q0]? = some (a, .inl (cA, n, .inl (zC f)))) (he : ∀ j, j < n → f j = g j) : va_P D cl (ws.set q0 (a, .inl (cA, n, .inl (zC g)))) H := by
  intro k q hk
  rw [List.getElem?_set] at hk
  by_cases e : q0 = k
  · subst e
    rw [if_pos rfl] at hk
    split at hk
    · cases hk
      have h1 : H[a]? = some (vp_cell cA (n, .inl (zC f))) := hP q0 _ ha
      show H[a]? = some (vp_cell cA (n, .inl (zC g)))
      rw [h1, vp_cell_i, vp_cell_i]
      unfold arrV
      congr 2
      apply congrArg
      funext j
      unfold zC
      show Value.int (zI (f j.val)) = Value.int (zI (g j.val))
      rw [he j.val j.isLt]
    · cases hk
  · rw [if_neg e] at hk
    exact hP k q hk
theorem zD_c {A : Nat → Prop} {ws ws' : va_W} (hD : va_D A ws) (e : ws.map (fun q => q.1) = ws'.map (fun q => q.1)) : va_D A ws' := by
  have key : ∀ (i : Nat) (q : Nat × va_E), ws'[i]? = some q → ∃ q', ws[i]? = some q' ∧ q'.1 = q.1 := by
    intro i q hq
    have h1 : (ws'.map (fun q => q.1))[i]? = some q.1 := by rw [List.getElem?_map, hq]; rfl
    rw [← e, List.getElem?_map] at h1
    cases h2 : ws[i]? with
    | none => rw [h2] at h1; cases h1
    | some q' => rw [h2] at h1; exact ⟨q', rfl, Option.some.inj h1⟩
  refine ⟨fun i j x y hx hy hxy => ?_, fun k q hk => ?_⟩
  · obtain ⟨x', a1, a2⟩ := key i x hx
    obtain ⟨y', b1, b2⟩ := key j y hy
    exact hD.1 i j x' y' a1 b1 (by rw [a2, b2, hxy])
  · obtain ⟨q', a1, a2⟩ := key k q hk
    rw [← a2]
    exact hD.2 k q' a1
section ZX
variable {p : Program} {l : Launch} {e : Env} {R : Room} {s : State} {m : MethodId} {args : Array Value} {below : List Frame} {meth : Method} {c : Code} {H : Heap} {locs : List Loc} {cells slots : Nat} {Q : State → Prop}
variable {cc : ByteArray} {pc : Nat} {ls : Array Slot} {rest : List Value} {D : va_G} {A : Nat → Prop} {H0 : Heap}
variable {h : Nat → Nat} {d : Nat → ClassId} {nb mw : Nat} {fr to : Nat → Nat} {dl hd le lo lg ln pl rc : Nat → Int} {kn sd bp : Int}
theorem gC0 (hx : p.tables.exec = Jvm.exec) (hb : c.code = cc) (hts : ∀ w ∈ lw_all, w.before args s = true) (hown : s.vm.findClass RX1 = some m.cls) (hK : va_K D vwCl (rb_TC d) s) (hP : va_P D vwCl (rb_WC h d nb mw fr to dl hd kn sd le lo lg) H) (hdg : decode cc pc = .ok (.getfield 32, 3)) (kk : W p l e R s m args below meth c H locs cells slots Q (F0 m (pc + 3) ls ((.int (zI nb)) :: rest))) : W p l e R s m args below meth c H locs cells slots Q (F0 m pc ls (.ref (h 0) :: rest)) :=
  va_get (D := D) (ci := 0) (v := (.int (zI nb))) (C := RX1) (T := TX1) (N := 11) hx hb hts in_X1 hown hK hP 0 rfl rfl 0 (by decide) (hts _ q24) (fun _ h9 => h9) rfl hdg kk
theorem gC1 (hx : p.tables.exec = Jvm.exec) (hb : c.code = cc) (hts : ∀ w ∈ lw_all, w.before args s = true) (hown : s.vm.findClass RX1 = some m.cls) (hK : va_K D vwCl (rb_TC d) s) (hP : va_P D vwCl (rb_WC h d nb mw fr to dl hd kn sd le lo lg) H) (hdg : decode cc pc = .ok (.getfield 7, 3)) (kk : W p l e R s m args below meth c H locs cells slots Q (F0 m (pc + 3) ls ((.ref (h 1)) :: rest))) : W p l e R s m args below meth c H locs cells slots Q (F0 m pc ls (.ref (h 0) :: rest)) :=
  va_get (D := D) (ci := 0) (v := (.ref (h 1))) (C := RX1) (T := TX1) (N := 11) hx hb hts in_X1 hown hK hP 0 rfl rfl 1 (by decide) (hts _ q25) (fun _ h9 => h9) rfl hdg kk
theorem gC2 (hx : p.tables.exec = Jvm.exec) (hb : c.code = cc) (hts : ∀ w ∈ lw_all, w.before args s = true) (hown : s.vm.findClass RX1 = some m.cls) (hK : va_K D vwCl (rb_TC d) s) (hP : va_P D vwCl (rb_WC h d nb mw fr to dl hd kn sd le lo lg) H) (hdg : decode cc pc = .ok (.getfield 44, 3)) (kk : W p l e R s m args below meth c H locs cells slots Q (F0 m (pc + 3) ls ((.int (zI mw)) :: rest))) : W p l e R s m args below meth c H locs cells slots Q (F0 m pc ls (.ref (h 0) :: rest)) :=
  va_get (D := D) (ci := 0) (v := (.int (zI mw))) (C := RX1) (T := TX1) (N := 11) hx hb hts in_X1 hown hK hP 0 rfl rfl 2 (by decide) (hts _ q26) (fun _ h9 => h9) rfl hdg kk
theorem gC3 (hx : p.tables.exec = Jvm.exec) (hb : c.code = cc) (hts : ∀ w ∈ lw_all, w.before args s = true) (hown : s.vm.findClass RX1 = some m.cls) (hK : va_K D vwCl (rb_TC d) s) (hP : va_P D vwCl (rb_WC h d nb mw fr to dl hd kn sd le lo lg) H) (hdg : decode cc pc = .ok (.getfield 13, 3)) (kk : W p l e R s m args below meth c H locs cells slots Q (F0 m (pc + 3) ls ((.ref (h 2)) :: rest))) : W p l e R s m args below meth c H locs cells slots Q (F0 m pc ls (.ref (h 0) :: rest)) :=
  va_get (D := D) (ci := 0) (v := (.ref (h 2))) (C := RX1) (T := TX1) (N := 11) hx hb hts in_X1 hown hK hP 0 rfl rfl 3 (by decide) (hts _ q27) (fun _ h9 => h9) rfl hdg kk
theorem gC4 (hx : p.tables.exec = Jvm.exec) (hb : c.code = cc) (hts : ∀ w ∈ lw_all, w.before args s = true) (hown : s.vm.findClass RX1 = some m.cls) (hK : va_K D vwCl (rb_TC d) s) (hP : va_P D vwCl (rb_WC h d nb mw fr to dl hd kn sd le lo lg) H) (hdg : decode cc pc = .ok (.getfield 16, 3)) (kk : W p l e R s m args below meth c H locs cells slots Q (F0 m (pc + 3) ls ((.ref (h 3)) :: rest))) : W p l e R s m args below meth c H locs cells slots Q (F0 m pc ls (.ref (h 0) :: rest)) :=
  va_get (D := D) (ci := 0) (v := (.ref (h 3))) (C := RX1) (T := TX1) (N := 11) hx hb hts in_X1 hown hK hP 0 rfl rfl 4 (by decide) (hts _ q28) (fun _ h9 => h9) rfl hdg kk
theorem gC5 (hx : p.tables.exec = Jvm.exec) (hb : c.code = cc) (hts : ∀ w ∈ lw_all, w.before args s = true) (hown : s.vm.findClass RX1 = some m.cls) (hK : va_K D vwCl (rb_TC d) s) (hP : va_P D vwCl (rb_WC h d nb mw fr to dl hd kn sd le lo lg) H) (hdg : decode cc pc = .ok (.getfield 19, 3)) (kk : W p l e R s m args below meth c H locs cells slots Q (F0 m (pc + 3) ls ((.ref (h 4)) :: rest))) : W p l e R s m args below meth c H locs cells slots Q (F0 m pc ls (.ref (h 0) :: rest)) :=
  va_get (D := D) (ci := 0) (v := (.ref (h 4))) (C := RX1) (T := TX1) (N := 11) hx hb hts in_X1 hown hK hP 0 rfl rfl 5 (by decide) (hts _ q29) (fun _ h9 => h9) rfl hdg kk
theorem gC6 (hx : p.tables.exec = Jvm.exec) (hb : c.code = cc) (hts : ∀ w ∈ lw_all, w.before args s = true) (hown : s.vm.findClass RX1 = some m.cls) (hK : va_K D vwCl (rb_TC d) s) (hP : va_P D vwCl (rb_WC h d nb mw fr to dl hd kn sd le lo lg) H) (hdg : decode cc pc = .ok (.getfield 40, 3)) (kk : W p l e R s m args below meth c H locs cells slots Q (F0 m (pc + 3) ls ((.int (zI kn)) :: rest))) : W p l e R s m args below meth c H locs cells slots Q (F0 m pc ls (.ref (h 0) :: rest)) :=
  va_get (D := D) (ci := 0) (v := (.int (zI kn))) (C := RX1) (T := TX1) (N := 11) hx hb hts in_X1 hown hK hP 0 rfl rfl 6 (by decide) (hts _ q30) (fun _ h9 => h9) rfl hdg kk
theorem gC7 (hx : p.tables.exec = Jvm.exec) (hb : c.code = cc) (hts : ∀ w ∈ lw_all, w.before args s = true) (hown : s.vm.findClass RX1 = some m.cls) (hK : va_K D vwCl (rb_TC d) s) (hP : va_P D vwCl (rb_WC h d nb mw fr to dl hd kn sd le lo lg) H) (hdg : decode cc pc = .ok (.getfield 50, 3)) (kk : W p l e R s m args below meth c H locs cells slots Q (F0 m (pc + 3) ls ((.int (zI sd)) :: rest))) : W p l e R s m args below meth c H locs cells slots Q (F0 m pc ls (.ref (h 0) :: rest)) :=
  va_get (D := D) (ci := 0) (v := (.int (zI sd))) (C := RX1) (T := TX1) (N := 11) hx hb hts in_X1 hown hK hP 0 rfl rfl 7 (by decide) (hts _ q31) (fun _ h9 => h9) rfl hdg kk
theorem gC8 (hx : p.tables.exec = Jvm.exec) (hb : c.code = cc) (hts : ∀ w ∈ lw_all, w.before args s = true) (hown : s.vm.findClass RX1 = some m.cls) (hK : va_K D vwCl (rb_TC d) s) (hP : va_P D vwCl (rb_WC h d nb mw fr to dl hd kn sd le lo lg) H) (hdg : decode cc pc = .ok (.getfield 23, 3)) (kk : W p l e R s m args below meth c H locs cells slots Q (F0 m (pc + 3) ls ((.ref (h 5)) :: rest))) : W p l e R s m args below meth c H locs cells slots Q (F0 m pc ls (.ref (h 0) :: rest)) :=
  va_get (D := D) (ci := 0) (v := (.ref (h 5))) (C := RX1) (T := TX1) (N := 11) hx hb hts in_X1 hown hK hP 0 rfl rfl 8 (by decide) (hts _ q32) (fun _ h9 => h9) rfl hdg kk
theorem gC9 (hx : p.tables.exec = Jvm.exec) (hb : c.code = cc) (hts : ∀ w ∈ lw_all, w.before args s = true) (hown : s.vm.findClass RX1 = some m.cls) (hK : va_K D vwCl (rb_TC d) s) (hP : va_P D vwCl (rb_WC h d nb mw fr to dl hd kn sd le lo lg) H) (hdg : decode cc pc = .ok (.getfield 26, 3)) (kk : W p l e R s m args below meth c H locs cells slots Q (F0 m (pc + 3) ls ((.ref (h 6)) :: rest))) : W p l e R s m args below meth c H locs cells slots Q (F0 m pc ls (.ref (h 0) :: rest)) :=
  va_get (D := D) (ci := 0) (v := (.ref (h 6))) (C := RX1) (T := TX1) (N := 11) hx hb hts in_X1 hown hK hP 0 rfl rfl 9 (by decide) (hts _ q33) (fun _ h9 => h9) rfl hdg kk
theorem gC10 (hx : p.tables.exec = Jvm.exec) (hb : c.code = cc) (hts : ∀ w ∈ lw_all, w.before args s = true) (hown : s.vm.findClass RX1 = some m.cls) (hK : va_K D vwCl (rb_TC d) s) (hP : va_P D vwCl (rb_WC h d nb mw fr to dl hd kn sd le lo lg) H) (hdg : decode cc pc = .ok (.getfield 29, 3)) (kk : W p l e R s m args below meth c H locs cells slots Q (F0 m (pc + 3) ls ((.ref (h 7)) :: rest))) : W p l e R s m args below meth c H locs cells slots Q (F0 m pc ls (.ref (h 0) :: rest)) :=
  va_get (D := D) (ci := 0) (v := (.ref (h 7))) (C := RX1) (T := TX1) (N := 11) hx hb hts in_X1 hown hK hP 0 rfl rfl 10 (by decide) (hts _ q34) (fun _ h9 => h9) rfl hdg kk
theorem pC2 (hx : p.tables.exec = Jvm.exec) (hb : c.code = cc) (hts : ∀ w ∈ lw_all, w.before args s = true) (hown : s.vm.findClass RX1 = some m.cls) (hK : va_K D vwCl (rb_TC d) s) (hP : va_P D vwCl (rb_WC h d nb mw fr to dl hd kn sd le lo lg) H) (hD : va_D A (rb_WC h d nb mw fr to dl hd kn sd le lo lg)) (hS : va_S A H0 H locs) {z : Int} (mw' : Nat) (hz : z = (mw' : Int)) (hdg : decode cc pc = .ok (.putfield 44, 3)) (kk : ∀ (H1 : Heap) (locs1 : List Loc), va_P D vwCl (rb_WC h d nb mw' fr to dl hd kn sd le lo lg) H1 → va_D A (rb_WC h d nb mw' fr to dl hd kn sd le lo lg) → va_S A H0 H1 locs1 → W p l e R s m args below meth c H1 locs1 cells slots Q (F0 m (pc + 3) ls rest)) : W p l e R s m args below meth c H locs cells slots Q (F0 m pc ls ((.int (zI z)) :: .ref (h 0) :: rest)) := by
  subst hz
  exact va_put (D := D) (ci := 0) (v := (.int (zI (mw' : Int)))) (ty := .int) (C := RX1) (T := TX1) (N := 11) hx hb hts in_X1 tyX1 tyX1_ok nmX1 hown hK hP hD hS 0 rfl rfl 2 (by decide) (hts _ q26) (fun _ h9 => h9) rfl (by decide +kernel) rfl rfl (Nat.le_of_ble_eq_true rfl) hdg (fun H1 locs1 hP hD hS => kk H1 locs1 hP hD hS)
theorem pC6 (hx : p.tables.exec = Jvm.exec) (hb : c.code = cc) (hts : ∀ w ∈ lw_all, w.before args s = true) (hown : s.vm.findClass RX1 = some m.cls) (hK : va_K D vwCl (rb_TC d) s) (hP : va_P D vwCl (rb_WC h d nb mw fr to dl hd kn sd le lo lg) H) (hD : va_D A (rb_WC h d nb mw fr to dl hd kn sd le lo lg)) (hS : va_S A H0 H locs) {z : Int} (hz : z = 0 ∨ z = 1) (hdg : decode cc pc = .ok (.putfield 40, 3)) (kk : ∀ (H1 : Heap) (locs1 : List Loc), va_P D vwCl (rb_WC h d nb mw fr to dl hd z sd le lo lg) H1 → va_D A (rb_WC h d nb mw fr to dl hd z sd le lo lg) → va_S A H0 H1 locs1 → W p l e R s m args below meth c H1 locs1 cells slots Q (F0 m (pc + 3) ls rest)) : W p l e R s m args below meth c H locs cells slots Q (F0 m pc ls ((.int (zI z)) :: .ref (h 0) :: rest)) := by
  exact va_put (D := D) (ci := 0) (v := (.int (zI z))) (ty := .boolean) (C := RX1) (T := TX1) (N := 11) hx hb hts in_X1 tyX1 tyX1_ok nmX1 hown hK hP hD hS 0 rfl rfl 6 (by decide) (hts _ q30) (fun _ h9 => h9) rfl (by decide +kernel) (by rcases hz with rfl | rfl <;> rfl) (by rcases hz with rfl | rfl <;> rfl) (Nat.le_of_ble_eq_true rfl) hdg (fun H1 locs1 hP hD hS => kk H1 locs1 hP hD hS)
theorem pC7 (hx : p.tables.exec = Jvm.exec) (hb : c.code = cc) (hts : ∀ w ∈ lw_all, w.before args s = true) (hown : s.vm.findClass RX1 = some m.cls) (hK : va_K D vwCl (rb_TC d) s) (hP : va_P D vwCl (rb_WC h d nb mw fr to dl hd kn sd le lo lg) H) (hD : va_D A (rb_WC h d nb mw fr to dl hd kn sd le lo lg)) (hS : va_S A H0 H locs) {z : Int} (hz : z = 0 ∨ z = 1) (hdg : decode cc pc = .ok (.putfield 50, 3)) (kk : ∀ (H1 : Heap) (locs1 : List Loc), va_P D vwCl (rb_WC h d nb mw fr to dl hd kn z le lo lg) H1 → va_D A (rb_WC h d nb mw fr to dl hd kn z le lo lg) → va_S A H0 H1 locs1 → W p l e R s m args below meth c H1 locs1 cells slots Q (F0 m (pc + 3) ls rest)) : W p l e R s m args below meth c H locs cells slots Q (F0 m pc ls ((.int (zI z)) :: .ref (h 0) :: rest)) := by
  exact va_put (D := D) (ci := 0) (v := (.int (zI z))) (ty := .boolean) (C := RX1) (T := TX1) (N := 11) hx hb hts in_X1 tyX1 tyX1_ok nmX1 hown hK hP hD hS 0 rfl rfl 7 (by decide) (hts _ q31) (fun _ h9 => h9) rfl (by decide +kernel) (by rcases hz with rfl | rfl <;> rfl) (by rcases hz with rfl | rfl <;> rfl) (Nat.le_of_ble_eq_true rfl) hdg (fun H1 locs1 hP hD hS => kk H1 locs1 hP hD hS)
theorem lC1 (hx : p.tables.exec = Jvm.exec) (hb : c.code = cc) (hK : va_K D vwCl (rb_TC d) s) (hP : va_P D vwCl (rb_WC h d nb mw fr to dl hd kn sd le lo lg) H) {i : Int} (k : Nat) (hi : i = (k : Int)) (hk : k < 5) (hdg : decode cc pc = .ok (.baload, 1)) (kk : W p l e R s m args below meth c H locs cells slots Q (F0 m (pc + 1) ls (.int (zI (dl k)) :: rest))) : W p l e R s m args below meth c H locs cells slots Q (F0 m pc ls (.int (zI i) :: .ref (h 1) :: rest)) := by
  subst hi
  refine va_bald hx hb hK hP 1 0 rfl rfl (zI_vin hk (by decide)) hdg ?_
  rw [zI_clamp (by omega)]
  exact kk
theorem sC1 (hx : p.tables.exec = Jvm.exec) (hb : c.code = cc) (hK : va_K D vwCl (rb_TC d) s) (hP : va_P D vwCl (rb_WC h d nb mw fr to dl hd kn sd le lo lg) H) (hD : va_D A (rb_WC h d nb mw fr to dl hd kn sd le lo lg)) (hS : va_S A H0 H locs) {i z : Int} (k : Nat) (hi : i = (k : Int)) (hk : k < 5) (h1 : -128 ≤ z) (h2 : z ≤ 127) (hdg : decode cc pc = .ok (.bastore, 1)) (kk : ∀ (H1 : Heap) (locs1 : List Loc), va_P D vwCl (rb_WC h d nb mw fr to (rb_up dl k z) hd kn sd le lo lg) H1 → va_D A (rb_WC h d nb mw fr to (rb_up dl k z) hd kn sd le lo lg) → va_S A H0 H1 locs1 → W p l e R s m args below meth c H1 locs1 cells slots Q (F0 m (pc + 1) ls rest)) : W p l e R s m args below meth c H locs cells slots Q (F0 m pc ls (.int (zI z) :: .int (zI i) :: .ref (h 1) :: rest)) := by
  subst hi
  refine va_bast hx hb hK hP hD hS 1 0 rfl rfl (zI_vin hk (by decide)) hdg (fun H1 locs1 hP hD hS => ?_)
  rw [vp_nar_byte, zI_byte (by omega) (by omega)] at hP hD
  rw [zC_up (by omega)] at hP hD
  exact kk H1 locs1 hP hD hS
theorem cC1 {dl' : Nat → Int} (hP : va_P D vwCl (rb_WC h d nb mw fr to dl hd kn sd le lo lg) H) (he : ∀ j, j < 5 → dl j = dl' j) : va_P D vwCl (rb_WC h d nb mw fr to dl' hd kn sd le lo lg) H := zP_c (g := dl') hP (q0 := 1) rfl he
theorem lC2 (hx : p.tables.exec = Jvm.exec) (hb : c.code = cc) (hK : va_K D vwCl (rb_TC d) s) (hP : va_P D vwCl (rb_WC h d nb mw fr to dl hd kn sd le lo lg) H) {i : Int} (k : Nat) (hi : i = (k : Int)) (hk : k < 12) (hdg : decode cc pc = .ok (.baload, 1)) (kk : W p l e R s m args below meth c H locs cells slots Q (F0 m (pc + 1) ls (.int (zI ((fr k : Nat) : Int)) :: rest))) : W p l e R s m args below meth c H locs cells slots Q (F0 m pc ls (.int (zI i) :: .ref (h 2) :: rest)) := by
  subst hi
  refine va_bald hx hb hK hP 2 1 rfl rfl (zI_vin hk (by decide)) hdg ?_
  rw [zI_clamp (by omega)]
  exact kk
theorem sC2 (hx : p.tables.exec = Jvm.exec) (hb : c.code = cc) (hK : va_K D vwCl (rb_TC d) s) (hP : va_P D vwCl (rb_WC h d nb mw fr to dl hd kn sd le lo lg) H) (hD : va_D A (rb_WC h d nb mw fr to dl hd kn sd le lo lg)) (hS : va_S A H0 H locs) {i z : Int} (k u : Nat) (hi : i = (k : Int)) (hk : k < 12) (hz : z = (u : Int)) (hu : u ≤ 127) (hdg : decode cc pc = .ok (.bastore, 1)) (kk : ∀ (H1 : Heap) (locs1 : List Loc), va_P D vwCl (rb_WC h d nb mw (rb_up fr k u) to dl hd kn sd le lo lg) H1 → va_D A (rb_WC h d nb mw (rb_up fr k u) to dl hd kn sd le lo lg) → va_S A H0 H1 locs1 → W p l e R s m args below meth c H1 locs1 cells slots Q (F0 m (pc + 1) ls rest)) : W p l e R s m args below meth c H locs cells slots Q (F0 m pc ls (.int (zI z) :: .int (zI i) :: .ref (h 2) :: rest)) := by
  subst hi
  subst hz
  refine va_bast hx hb hK hP hD hS 2 1 rfl rfl (zI_vin hk (by decide)) hdg (fun H1 locs1 hP hD hS => ?_)
  rw [vp_nar_byte, zI_byte (by omega) (by omega)] at hP hD
  rw [zC_up (by omega)] at hP hD
  rw [zC_upN] at hP hD
  exact kk H1 locs1 hP hD hS
theorem cC2 {fr' : Nat → Nat} (hP : va_P D vwCl (rb_WC h d nb mw fr to dl hd kn sd le lo lg) H) (he : ∀ j, j < 12 → fr j = fr' j) : va_P D vwCl (rb_WC h d nb mw fr' to dl hd kn sd le lo lg) H := zP_c (g := fun j => ((fr' j : Nat) : Int)) hP (q0 := 2) rfl (fun j hj => by rw [he j hj])
theorem lC3 (hx : p.tables.exec = Jvm.exec) (hb : c.code = cc) (hK : va_K D vwCl (rb_TC d) s) (hP : va_P D vwCl (rb_WC h d nb mw fr to dl hd kn sd le lo lg) H) {i : Int} (k : Nat) (hi : i = (k : Int)) (hk : k < 12) (hdg : decode cc pc = .ok (.baload, 1)) (kk : W p l e R s m args below meth c H locs cells slots Q (F0 m (pc + 1) ls (.int (zI ((to k : Nat) : Int)) :: rest))) : W p l e R s m args below meth c H locs cells slots Q (F0 m pc ls (.int (zI i) :: .ref (h 3) :: rest)) := by
  subst hi
  refine va_bald hx hb hK hP 3 2 rfl rfl (zI_vin hk (by decide)) hdg ?_
  rw [zI_clamp (by omega)]
  exact kk
theorem sC3 (hx : p.tables.exec = Jvm.exec) (hb : c.code = cc) (hK : va_K D vwCl (rb_TC d) s) (hP : va_P D vwCl (rb_WC h d nb mw fr to dl hd kn sd le lo lg) H) (hD : va_D A (rb_WC h d nb mw fr to dl hd kn sd le lo lg)) (hS : va_S A H0 H locs) {i z : Int} (k u : Nat) (hi : i = (k : Int)) (hk : k < 12) (hz : z = (u : Int)) (hu : u ≤ 127) (hdg : decode cc pc = .ok (.bastore, 1)) (kk : ∀ (H1 : Heap) (locs1 : List Loc), va_P D vwCl (rb_WC h d nb mw fr (rb_up to k u) dl hd kn sd le lo lg) H1 → va_D A (rb_WC h d nb mw fr (rb_up to k u) dl hd kn sd le lo lg) → va_S A H0 H1 locs1 → W p l e R s m args below meth c H1 locs1 cells slots Q (F0 m (pc + 1) ls rest)) : W p l e R s m args below meth c H locs cells slots Q (F0 m pc ls (.int (zI z) :: .int (zI i) :: .ref (h 3) :: rest)) := by
  subst hi
  subst hz
  refine va_bast hx hb hK hP hD hS 3 2 rfl rfl (zI_vin hk (by decide)) hdg (fun H1 locs1 hP hD hS => ?_)
  rw [vp_nar_byte, zI_byte (by omega) (by omega)] at hP hD
  rw [zC_up (by omega)] at hP hD
  rw [zC_upN] at hP hD
  exact kk H1 locs1 hP hD hS
theorem cC3 {to' : Nat → Nat} (hP : va_P D vwCl (rb_WC h d nb mw fr to dl hd kn sd le lo lg) H) (he : ∀ j, j < 12 → to j = to' j) : va_P D vwCl (rb_WC h d nb mw fr to' dl hd kn sd le lo lg) H := zP_c (g := fun j => ((to' j : Nat) : Int)) hP (q0 := 3) rfl (fun j hj => by rw [he j hj])
theorem lC4 (hx : p.tables.exec = Jvm.exec) (hb : c.code = cc) (hK : va_K D vwCl (rb_TC d) s) (hP : va_P D vwCl (rb_WC h d nb mw fr to dl hd kn sd le lo lg) H) {i : Int} (k : Nat) (hi : i = (k : Int)) (hk : k < 12) (hdg : decode cc pc = .ok (.iaload, 1)) (kk : W p l e R s m args below meth c H locs cells slots Q (F0 m (pc + 1) ls (.int (zI (hd k)) :: rest))) : W p l e R s m args below meth c H locs cells slots Q (F0 m pc ls (.int (zI i) :: .ref (h 4) :: rest)) := by
  subst hi
  refine va_iald hx hb hK hP 4 3 rfl rfl (zI_vin hk (by decide)) hdg ?_
  rw [zI_clamp (by omega)]
  exact kk
theorem sC4 (hx : p.tables.exec = Jvm.exec) (hb : c.code = cc) (hK : va_K D vwCl (rb_TC d) s) (hP : va_P D vwCl (rb_WC h d nb mw fr to dl hd kn sd le lo lg) H) (hD : va_D A (rb_WC h d nb mw fr to dl hd kn sd le lo lg)) (hS : va_S A H0 H locs) {i z : Int} (k : Nat) (hi : i = (k : Int)) (hk : k < 12) (hdg : decode cc pc = .ok (.iastore, 1)) (kk : ∀ (H1 : Heap) (locs1 : List Loc), va_P D vwCl (rb_WC h d nb mw fr to dl (rb_up hd k z) kn sd le lo lg) H1 → va_D A (rb_WC h d nb mw fr to dl (rb_up hd k z) kn sd le lo lg) → va_S A H0 H1 locs1 → W p l e R s m args below meth c H1 locs1 cells slots Q (F0 m (pc + 1) ls rest)) : W p l e R s m args below meth c H locs cells slots Q (F0 m pc ls (.int (zI z) :: .int (zI i) :: .ref (h 4) :: rest)) := by
  subst hi
  refine va_iast hx hb hK hP hD hS 4 3 rfl rfl (zI_vin hk (by decide)) hdg (fun H1 locs1 hP hD hS => ?_)
  rw [zC_up (by omega)] at hP hD
  exact kk H1 locs1 hP hD hS
theorem cC4 {hd' : Nat → Int} (hP : va_P D vwCl (rb_WC h d nb mw fr to dl hd kn sd le lo lg) H) (he : ∀ j, j < 12 → hd j = hd' j) : va_P D vwCl (rb_WC h d nb mw fr to dl hd' kn sd le lo lg) H := zP_c (g := hd') hP (q0 := 4) rfl he
theorem lC5 (hx : p.tables.exec = Jvm.exec) (hb : c.code = cc) (hK : va_K D vwCl (rb_TC d) s) (hP : va_P D vwCl (rb_WC h d nb mw fr to dl hd kn sd le lo lg) H) {i : Int} (k : Nat) (hi : i = (k : Int)) (hk : k < 25) (hdg : decode cc pc = .ok (.iaload, 1)) (kk : W p l e R s m args below meth c H locs cells slots Q (F0 m (pc + 1) ls (.int (zI (le k)) :: rest))) : W p l e R s m args below meth c H locs cells slots Q (F0 m pc ls (.int (zI i) :: .ref (h 5) :: rest)) := by
  subst hi
  refine va_iald hx hb hK hP 5 4 rfl rfl (zI_vin hk (by decide)) hdg ?_
  rw [zI_clamp (by omega)]
  exact kk
theorem sC5 (hx : p.tables.exec = Jvm.exec) (hb : c.code = cc) (hK : va_K D vwCl (rb_TC d) s) (hP : va_P D vwCl (rb_WC h d nb mw fr to dl hd kn sd le lo lg) H) (hD : va_D A (rb_WC h d nb mw fr to dl hd kn sd le lo lg)) (hS : va_S A H0 H locs) {i z : Int} (k : Nat) (hi : i = (k : Int)) (hk : k < 25) (hdg : decode cc pc = .ok (.iastore, 1)) (kk : ∀ (H1 : Heap) (locs1 : List Loc), va_P D vwCl (rb_WC h d nb mw fr to dl hd kn sd (rb_up le k z) lo lg) H1 → va_D A (rb_WC h d nb mw fr to dl hd kn sd (rb_up le k z) lo lg) → va_S A H0 H1 locs1 → W p l e R s m args below meth c H1 locs1 cells slots Q (F0 m (pc + 1) ls rest)) : W p l e R s m args below meth c H locs cells slots Q (F0 m pc ls (.int (zI z) :: .int (zI i) :: .ref (h 5) :: rest)) := by
  subst hi
  refine va_iast hx hb hK hP hD hS 5 4 rfl rfl (zI_vin hk (by decide)) hdg (fun H1 locs1 hP hD hS => ?_)
  rw [zC_up (by omega)] at hP hD
  exact kk H1 locs1 hP hD hS
theorem cC5 {le' : Nat → Int} (hP : va_P D vwCl (rb_WC h d nb mw fr to dl hd kn sd le lo lg) H) (he : ∀ j, j < 25 → le j = le' j) : va_P D vwCl (rb_WC h d nb mw fr to dl hd kn sd le' lo lg) H := zP_c (g := le') hP (q0 := 5) rfl he
theorem lC6 (hx : p.tables.exec = Jvm.exec) (hb : c.code = cc) (hK : va_K D vwCl (rb_TC d) s) (hP : va_P D vwCl (rb_WC h d nb mw fr to dl hd kn sd le lo lg) H) {i : Int} (k : Nat) (hi : i = (k : Int)) (hk : k < 25) (hdg : decode cc pc = .ok (.iaload, 1)) (kk : W p l e R s m args below meth c H locs cells slots Q (F0 m (pc + 1) ls (.int (zI (lo k)) :: rest))) : W p l e R s m args below meth c H locs cells slots Q (F0 m pc ls (.int (zI i) :: .ref (h 6) :: rest)) := by
  subst hi
  refine va_iald hx hb hK hP 6 5 rfl rfl (zI_vin hk (by decide)) hdg ?_
  rw [zI_clamp (by omega)]
  exact kk
theorem sC6 (hx : p.tables.exec = Jvm.exec) (hb : c.code = cc) (hK : va_K D vwCl (rb_TC d) s) (hP : va_P D vwCl (rb_WC h d nb mw fr to dl hd kn sd le lo lg) H) (hD : va_D A (rb_WC h d nb mw fr to dl hd kn sd le lo lg)) (hS : va_S A H0 H locs) {i z : Int} (k : Nat) (hi : i = (k : Int)) (hk : k < 25) (hdg : decode cc pc = .ok (.iastore, 1)) (kk : ∀ (H1 : Heap) (locs1 : List Loc), va_P D vwCl (rb_WC h d nb mw fr to dl hd kn sd le (rb_up lo k z) lg) H1 → va_D A (rb_WC h d nb mw fr to dl hd kn sd le (rb_up lo k z) lg) → va_S A H0 H1 locs1 → W p l e R s m args below meth c H1 locs1 cells slots Q (F0 m (pc + 1) ls rest)) : W p l e R s m args below meth c H locs cells slots Q (F0 m pc ls (.int (zI z) :: .int (zI i) :: .ref (h 6) :: rest)) := by
  subst hi
  refine va_iast hx hb hK hP hD hS 6 5 rfl rfl (zI_vin hk (by decide)) hdg (fun H1 locs1 hP hD hS => ?_)
  rw [zC_up (by omega)] at hP hD
  exact kk H1 locs1 hP hD hS
theorem cC6 {lo' : Nat → Int} (hP : va_P D vwCl (rb_WC h d nb mw fr to dl hd kn sd le lo lg) H) (he : ∀ j, j < 25 → lo j = lo' j) : va_P D vwCl (rb_WC h d nb mw fr to dl hd kn sd le lo' lg) H := zP_c (g := lo') hP (q0 := 6) rfl he
theorem lC7 (hx : p.tables.exec = Jvm.exec) (hb : c.code = cc) (hK : va_K D vwCl (rb_TC d) s) (hP : va_P D vwCl (rb_WC h d nb mw fr to dl hd kn sd le lo lg) H) {i : Int} (k : Nat) (hi : i = (k : Int)) (hk : k < 5) (hdg : decode cc pc = .ok (.iaload, 1)) (kk : W p l e R s m args below meth c H locs cells slots Q (F0 m (pc + 1) ls (.int (zI (lg k)) :: rest))) : W p l e R s m args below meth c H locs cells slots Q (F0 m pc ls (.int (zI i) :: .ref (h 7) :: rest)) := by
  subst hi
  refine va_iald hx hb hK hP 7 6 rfl rfl (zI_vin hk (by decide)) hdg ?_
  rw [zI_clamp (by omega)]
  exact kk
theorem sC7 (hx : p.tables.exec = Jvm.exec) (hb : c.code = cc) (hK : va_K D vwCl (rb_TC d) s) (hP : va_P D vwCl (rb_WC h d nb mw fr to dl hd kn sd le lo lg) H) (hD : va_D A (rb_WC h d nb mw fr to dl hd kn sd le lo lg)) (hS : va_S A H0 H locs) {i z : Int} (k : Nat) (hi : i = (k : Int)) (hk : k < 5) (hdg : decode cc pc = .ok (.iastore, 1)) (kk : ∀ (H1 : Heap) (locs1 : List Loc), va_P D vwCl (rb_WC h d nb mw fr to dl hd kn sd le lo (rb_up lg k z)) H1 → va_D A (rb_WC h d nb mw fr to dl hd kn sd le lo (rb_up lg k z)) → va_S A H0 H1 locs1 → W p l e R s m args below meth c H1 locs1 cells slots Q (F0 m (pc + 1) ls rest)) : W p l e R s m args below meth c H locs cells slots Q (F0 m pc ls (.int (zI z) :: .int (zI i) :: .ref (h 7) :: rest)) := by
  subst hi
  refine va_iast hx hb hK hP hD hS 7 6 rfl rfl (zI_vin hk (by decide)) hdg (fun H1 locs1 hP hD hS => ?_)
  rw [zC_up (by omega)] at hP hD
  exact kk H1 locs1 hP hD hS
theorem cC7 {lg' : Nat → Int} (hP : va_P D vwCl (rb_WC h d nb mw fr to dl hd kn sd le lo lg) H) (he : ∀ j, j < 5 → lg j = lg' j) : va_P D vwCl (rb_WC h d nb mw fr to dl hd kn sd le lo lg') H := zP_c (g := lg') hP (q0 := 7) rfl he
theorem gM0 (hx : p.tables.exec = Jvm.exec) (hb : c.code = cc) (hts : ∀ w ∈ lw_all, w.before args s = true) (hown : s.vm.findClass RX2 = some m.cls) (hK : va_K D vwCl (rb_TM d) s) (hP : va_P D vwCl (rb_WM h d nb mw fr to dl hd lg ln kn bp pl rc) H) (hdg : decode cc pc = .ok (.getfield 42, 3)) (kk : W p l e R s m args below meth c H locs cells slots Q (F0 m (pc + 3) ls ((.int (zI nb)) :: rest))) : W p l e R s m args below meth c H locs cells slots Q (F0 m pc ls (.ref (h 0) :: rest)) :=
  va_get (D := D) (ci := 1) (v := (.int (zI nb))) (C := RX2) (T := TX2) (N := 12) hx hb hts in_X2 hown hK hP 0 rfl rfl 0 (by decide) (hts _ q139) (fun _ h9 => h9) rfl hdg kk
theorem gM1 (hx : p.tables.exec = Jvm.exec) (hb : c.code = cc) (hts : ∀ w ∈ lw_all, w.before args s = true) (hown : s.vm.findClass RX2 = some m.cls) (hK : va_K D vwCl (rb_TM d) s) (hP : va_P D vwCl (rb_WM h d nb mw fr to dl hd lg ln kn bp pl rc) H) (hdg : decode cc pc = .ok (.getfield 7, 3)) (kk : W p l e R s m args below meth c H locs cells slots Q (F0 m (pc + 3) ls ((.int (zI mw)) :: rest))) : W p l e R s m args below meth c H locs cells slots Q (F0 m pc ls (.ref (h 0) :: rest)) :=
  va_get (D := D) (ci := 1) (v := (.int (zI mw))) (C := RX2) (T := TX2) (N := 12) hx hb hts in_X2 hown hK hP 0 rfl rfl 1 (by decide) (hts _ q140) (fun _ h9 => h9) rfl hdg kk
theorem gM2 (hx : p.tables.exec = Jvm.exec) (hb : c.code = cc) (hts : ∀ w ∈ lw_all, w.before args s = true) (hown : s.vm.findClass RX2 = some m.cls) (hK : va_K D vwCl (rb_TM d) s) (hP : va_P D vwCl (rb_WM h d nb mw fr to dl hd lg ln kn bp pl rc) H) (hdg : decode cc pc = .ok (.getfield 13, 3)) (kk : W p l e R s m args below meth c H locs cells slots Q (F0 m (pc + 3) ls ((.ref (h 1)) :: rest))) : W p l e R s m args below meth c H locs cells slots Q (F0 m pc ls (.ref (h 0) :: rest)) :=
  va_get (D := D) (ci := 1) (v := (.ref (h 1))) (C := RX2) (T := TX2) (N := 12) hx hb hts in_X2 hown hK hP 0 rfl rfl 2 (by decide) (hts _ q141) (fun _ h9 => h9) rfl hdg kk
theorem gM3 (hx : p.tables.exec = Jvm.exec) (hb : c.code = cc) (hts : ∀ w ∈ lw_all, w.before args s = true) (hown : s.vm.findClass RX2 = some m.cls) (hK : va_K D vwCl (rb_TM d) s) (hP : va_P D vwCl (rb_WM h d nb mw fr to dl hd lg ln kn bp pl rc) H) (hdg : decode cc pc = .ok (.getfield 17, 3)) (kk : W p l e R s m args below meth c H locs cells slots Q (F0 m (pc + 3) ls ((.ref (h 2)) :: rest))) : W p l e R s m args below meth c H locs cells slots Q (F0 m pc ls (.ref (h 0) :: rest)) :=
  va_get (D := D) (ci := 1) (v := (.ref (h 2))) (C := RX2) (T := TX2) (N := 12) hx hb hts in_X2 hown hK hP 0 rfl rfl 3 (by decide) (hts _ q142) (fun _ h9 => h9) rfl hdg kk
theorem gM4 (hx : p.tables.exec = Jvm.exec) (hb : c.code = cc) (hts : ∀ w ∈ lw_all, w.before args s = true) (hown : s.vm.findClass RX2 = some m.cls) (hK : va_K D vwCl (rb_TM d) s) (hP : va_P D vwCl (rb_WM h d nb mw fr to dl hd lg ln kn bp pl rc) H) (hdg : decode cc pc = .ok (.getfield 20, 3)) (kk : W p l e R s m args below meth c H locs cells slots Q (F0 m (pc + 3) ls ((.ref (h 3)) :: rest))) : W p l e R s m args below meth c H locs cells slots Q (F0 m pc ls (.ref (h 0) :: rest)) :=
  va_get (D := D) (ci := 1) (v := (.ref (h 3))) (C := RX2) (T := TX2) (N := 12) hx hb hts in_X2 hown hK hP 0 rfl rfl 4 (by decide) (hts _ q143) (fun _ h9 => h9) rfl hdg kk
theorem gM5 (hx : p.tables.exec = Jvm.exec) (hb : c.code = cc) (hts : ∀ w ∈ lw_all, w.before args s = true) (hown : s.vm.findClass RX2 = some m.cls) (hK : va_K D vwCl (rb_TM d) s) (hP : va_P D vwCl (rb_WM h d nb mw fr to dl hd lg ln kn bp pl rc) H) (hdg : decode cc pc = .ok (.getfield 23, 3)) (kk : W p l e R s m args below meth c H locs cells slots Q (F0 m (pc + 3) ls ((.ref (h 4)) :: rest))) : W p l e R s m args below meth c H locs cells slots Q (F0 m pc ls (.ref (h 0) :: rest)) :=
  va_get (D := D) (ci := 1) (v := (.ref (h 4))) (C := RX2) (T := TX2) (N := 12) hx hb hts in_X2 hown hK hP 0 rfl rfl 5 (by decide) (hts _ q144) (fun _ h9 => h9) rfl hdg kk
theorem gM6 (hx : p.tables.exec = Jvm.exec) (hb : c.code = cc) (hts : ∀ w ∈ lw_all, w.before args s = true) (hown : s.vm.findClass RX2 = some m.cls) (hK : va_K D vwCl (rb_TM d) s) (hP : va_P D vwCl (rb_WM h d nb mw fr to dl hd lg ln kn bp pl rc) H) (hdg : decode cc pc = .ok (.getfield 26, 3)) (kk : W p l e R s m args below meth c H locs cells slots Q (F0 m (pc + 3) ls ((.ref (h 5)) :: rest))) : W p l e R s m args below meth c H locs cells slots Q (F0 m pc ls (.ref (h 0) :: rest)) :=
  va_get (D := D) (ci := 1) (v := (.ref (h 5))) (C := RX2) (T := TX2) (N := 12) hx hb hts in_X2 hown hK hP 0 rfl rfl 6 (by decide) (hts _ q145) (fun _ h9 => h9) rfl hdg kk
theorem gM7 (hx : p.tables.exec = Jvm.exec) (hb : c.code = cc) (hts : ∀ w ∈ lw_all, w.before args s = true) (hown : s.vm.findClass RX2 = some m.cls) (hK : va_K D vwCl (rb_TM d) s) (hP : va_P D vwCl (rb_WM h d nb mw fr to dl hd lg ln kn bp pl rc) H) (hdg : decode cc pc = .ok (.getfield 29, 3)) (kk : W p l e R s m args below meth c H locs cells slots Q (F0 m (pc + 3) ls ((.ref (h 6)) :: rest))) : W p l e R s m args below meth c H locs cells slots Q (F0 m pc ls (.ref (h 0) :: rest)) :=
  va_get (D := D) (ci := 1) (v := (.ref (h 6))) (C := RX2) (T := TX2) (N := 12) hx hb hts in_X2 hown hK hP 0 rfl rfl 7 (by decide) (hts _ q146) (fun _ h9 => h9) rfl hdg kk
theorem gM8 (hx : p.tables.exec = Jvm.exec) (hb : c.code = cc) (hts : ∀ w ∈ lw_all, w.before args s = true) (hown : s.vm.findClass RX2 = some m.cls) (hK : va_K D vwCl (rb_TM d) s) (hP : va_P D vwCl (rb_WM h d nb mw fr to dl hd lg ln kn bp pl rc) H) (hdg : decode cc pc = .ok (.getfield 32, 3)) (kk : W p l e R s m args below meth c H locs cells slots Q (F0 m (pc + 3) ls ((.int (zI kn)) :: rest))) : W p l e R s m args below meth c H locs cells slots Q (F0 m pc ls (.ref (h 0) :: rest)) :=
  va_get (D := D) (ci := 1) (v := (.int (zI kn))) (C := RX2) (T := TX2) (N := 12) hx hb hts in_X2 hown hK hP 0 rfl rfl 8 (by decide) (hts _ q147) (fun _ h9 => h9) rfl hdg kk
theorem gM9 (hx : p.tables.exec = Jvm.exec) (hb : c.code = cc) (hts : ∀ w ∈ lw_all, w.before args s = true) (hown : s.vm.findClass RX2 = some m.cls) (hK : va_K D vwCl (rb_TM d) s) (hP : va_P D vwCl (rb_WM h d nb mw fr to dl hd lg ln kn bp pl rc) H) (hdg : decode cc pc = .ok (.getfield 64, 3)) (kk : W p l e R s m args below meth c H locs cells slots Q (F0 m (pc + 3) ls ((.int (zI bp)) :: rest))) : W p l e R s m args below meth c H locs cells slots Q (F0 m pc ls (.ref (h 0) :: rest)) :=
  va_get (D := D) (ci := 1) (v := (.int (zI bp))) (C := RX2) (T := TX2) (N := 12) hx hb hts in_X2 hown hK hP 0 rfl rfl 9 (by decide) (hts _ q148) (fun _ h9 => h9) rfl hdg kk
theorem gM10 (hx : p.tables.exec = Jvm.exec) (hb : c.code = cc) (hts : ∀ w ∈ lw_all, w.before args s = true) (hown : s.vm.findClass RX2 = some m.cls) (hK : va_K D vwCl (rb_TM d) s) (hP : va_P D vwCl (rb_WM h d nb mw fr to dl hd lg ln kn bp pl rc) H) (hdg : decode cc pc = .ok (.getfield 36, 3)) (kk : W p l e R s m args below meth c H locs cells slots Q (F0 m (pc + 3) ls ((.ref (h 7)) :: rest))) : W p l e R s m args below meth c H locs cells slots Q (F0 m pc ls (.ref (h 0) :: rest)) :=
  va_get (D := D) (ci := 1) (v := (.ref (h 7))) (C := RX2) (T := TX2) (N := 12) hx hb hts in_X2 hown hK hP 0 rfl rfl 10 (by decide) (hts _ q149) (fun _ h9 => h9) rfl hdg kk
theorem gM11 (hx : p.tables.exec = Jvm.exec) (hb : c.code = cc) (hts : ∀ w ∈ lw_all, w.before args s = true) (hown : s.vm.findClass RX2 = some m.cls) (hK : va_K D vwCl (rb_TM d) s) (hP : va_P D vwCl (rb_WM h d nb mw fr to dl hd lg ln kn bp pl rc) H) (hdg : decode cc pc = .ok (.getfield 39, 3)) (kk : W p l e R s m args below meth c H locs cells slots Q (F0 m (pc + 3) ls ((.ref (h 8)) :: rest))) : W p l e R s m args below meth c H locs cells slots Q (F0 m pc ls (.ref (h 0) :: rest)) :=
  va_get (D := D) (ci := 1) (v := (.ref (h 8))) (C := RX2) (T := TX2) (N := 12) hx hb hts in_X2 hown hK hP 0 rfl rfl 11 (by decide) (hts _ q150) (fun _ h9 => h9) rfl hdg kk
theorem pM1 (hx : p.tables.exec = Jvm.exec) (hb : c.code = cc) (hts : ∀ w ∈ lw_all, w.before args s = true) (hown : s.vm.findClass RX2 = some m.cls) (hK : va_K D vwCl (rb_TM d) s) (hP : va_P D vwCl (rb_WM h d nb mw fr to dl hd lg ln kn bp pl rc) H) (hD : va_D A (rb_WM h d nb mw fr to dl hd lg ln kn bp pl rc)) (hS : va_S A H0 H locs) {z : Int} (mw' : Nat) (hz : z = (mw' : Int)) (hdg : decode cc pc = .ok (.putfield 7, 3)) (kk : ∀ (H1 : Heap) (locs1 : List Loc), va_P D vwCl (rb_WM h d nb mw' fr to dl hd lg ln kn bp pl rc) H1 → va_D A (rb_WM h d nb mw' fr to dl hd lg ln kn bp pl rc) → va_S A H0 H1 locs1 → W p l e R s m args below meth c H1 locs1 cells slots Q (F0 m (pc + 3) ls rest)) : W p l e R s m args below meth c H locs cells slots Q (F0 m pc ls ((.int (zI z)) :: .ref (h 0) :: rest)) := by
  subst hz
  exact va_put (D := D) (ci := 1) (v := (.int (zI (mw' : Int)))) (ty := .int) (C := RX2) (T := TX2) (N := 12) hx hb hts in_X2 tyX2 tyX2_ok nmX2 hown hK hP hD hS 0 rfl rfl 1 (by decide) (hts _ q140) (fun _ h9 => h9) rfl (by decide +kernel) rfl rfl (Nat.le_of_ble_eq_true rfl) hdg (fun H1 locs1 hP hD hS => kk H1 locs1 hP hD hS)
theorem pM8 (hx : p.tables.exec = Jvm.exec) (hb : c.code = cc) (hts : ∀ w ∈ lw_all, w.before args s = true) (hown : s.vm.findClass RX2 = some m.cls) (hK : va_K D vwCl (rb_TM d) s) (hP : va_P D vwCl (rb_WM h d nb mw fr to dl hd lg ln kn bp pl rc) H) (hD : va_D A (rb_WM h d nb mw fr to dl hd lg ln kn bp pl rc)) (hS : va_S A H0 H locs) {z : Int} (hz : z = 0 ∨ z = 1) (hdg : decode cc pc = .ok (.putfield 32, 3)) (kk : ∀ (H1 : Heap) (locs1 : List Loc), va_P D vwCl (rb_WM h d nb mw fr to dl hd lg ln z bp pl rc) H1 → va_D A (rb_WM h d nb mw fr to dl hd lg ln z bp pl rc) → va_S A H0 H1 locs1 → W p l e R s m args below meth c H1 locs1 cells slots Q (F0 m (pc + 3) ls rest)) : W p l e R s m args below meth c H locs cells slots Q (F0 m pc ls ((.int (zI z)) :: .ref (h 0) :: rest)) := by
  exact va_put (D := D) (ci := 1) (v := (.int (zI z))) (ty := .boolean) (C := RX2) (T := TX2) (N := 12) hx hb hts in_X2 tyX2 tyX2_ok nmX2 hown hK hP hD hS 0 rfl rfl 8 (by decide) (hts _ q147) (fun _ h9 => h9) rfl (by decide +kernel) (by rcases hz with rfl | rfl <;> rfl) (by rcases hz with rfl | rfl <;> rfl) (Nat.le_of_ble_eq_true rfl) hdg (fun H1 locs1 hP hD hS => kk H1 locs1 hP hD hS)
theorem pM9 (hx : p.tables.exec = Jvm.exec) (hb : c.code = cc) (hts : ∀ w ∈ lw_all, w.before args s = true) (hown : s.vm.findClass RX2 = some m.cls) (hK : va_K D vwCl (rb_TM d) s) (hP : va_P D vwCl (rb_WM h d nb mw fr to dl hd lg ln kn bp pl rc) H) (hD : va_D A (rb_WM h d nb mw fr to dl hd lg ln kn bp pl rc)) (hS : va_S A H0 H locs) {z : Int} (hdg : decode cc pc = .ok (.putfield 64, 3)) (kk : ∀ (H1 : Heap) (locs1 : List Loc), va_P D vwCl (rb_WM h d nb mw fr to dl hd lg ln kn z pl rc) H1 → va_D A (rb_WM h d nb mw fr to dl hd lg ln kn z pl rc) → va_S A H0 H1 locs1 → W p l e R s m args below meth c H1 locs1 cells slots Q (F0 m (pc + 3) ls rest)) : W p l e R s m args below meth c H locs cells slots Q (F0 m pc ls ((.int (zI z)) :: .ref (h 0) :: rest)) := by
  exact va_put (D := D) (ci := 1) (v := (.int (zI z))) (ty := .int) (C := RX2) (T := TX2) (N := 12) hx hb hts in_X2 tyX2 tyX2_ok nmX2 hown hK hP hD hS 0 rfl rfl 9 (by decide) (hts _ q148) (fun _ h9 => h9) rfl (by decide +kernel) rfl rfl (Nat.le_of_ble_eq_true rfl) hdg (fun H1 locs1 hP hD hS => kk H1 locs1 hP hD hS)
theorem lM1 (hx : p.tables.exec = Jvm.exec) (hb : c.code = cc) (hK : va_K D vwCl (rb_TM d) s) (hP : va_P D vwCl (rb_WM h d nb mw fr to dl hd lg ln kn bp pl rc) H) {i : Int} (k : Nat) (hi : i = (k : Int)) (hk : k < 5) (hdg : decode cc pc = .ok (.iaload, 1)) (kk : W p l e R s m args below meth c H locs cells slots Q (F0 m (pc + 1) ls (.int (zI (dl k)) :: rest))) : W p l e R s m args below meth c H locs cells slots Q (F0 m pc ls (.int (zI i) :: .ref (h 1) :: rest)) := by
  subst hi
  refine va_iald hx hb hK hP 1 0 rfl rfl (zI_vin hk (by decide)) hdg ?_
  rw [zI_clamp (by omega)]
  exact kk
theorem sM1 (hx : p.tables.exec = Jvm.exec) (hb : c.code = cc) (hK : va_K D vwCl (rb_TM d) s) (hP : va_P D vwCl (rb_WM h d nb mw fr to dl hd lg ln kn bp pl rc) H) (hD : va_D A (rb_WM h d nb mw fr to dl hd lg ln kn bp pl rc)) (hS : va_S A H0 H locs) {i z : Int} (k : Nat) (hi : i = (k : Int)) (hk : k < 5) (hdg : decode cc pc = .ok (.iastore, 1)) (kk : ∀ (H1 : Heap) (locs1 : List Loc), va_P D vwCl (rb_WM h d nb mw fr to (rb_up dl k z) hd lg ln kn bp pl rc) H1 → va_D A (rb_WM h d nb mw fr to (rb_up dl k z) hd lg ln kn bp pl rc) → va_S A H0 H1 locs1 → W p l e R s m args below meth c H1 locs1 cells slots Q (F0 m (pc + 1) ls rest)) : W p l e R s m args below meth c H locs cells slots Q (F0 m pc ls (.int (zI z) :: .int (zI i) :: .ref (h 1) :: rest)) := by
  subst hi
  refine va_iast hx hb hK hP hD hS 1 0 rfl rfl (zI_vin hk (by decide)) hdg (fun H1 locs1 hP hD hS => ?_)
  rw [zC_up (by omega)] at hP hD
  exact kk H1 locs1 hP hD hS
theorem cM1 {dl' : Nat → Int} (hP : va_P D vwCl (rb_WM h d nb mw fr to dl hd lg ln kn bp pl rc) H) (he : ∀ j, j < 5 → dl j = dl' j) : va_P D vwCl (rb_WM h d nb mw fr to dl' hd lg ln kn bp pl rc) H := zP_c (g := dl') hP (q0 := 1) rfl he
theorem lM2 (hx : p.tables.exec = Jvm.exec) (hb : c.code = cc) (hK : va_K D vwCl (rb_TM d) s) (hP : va_P D vwCl (rb_WM h d nb mw fr to dl hd lg ln kn bp pl rc) H) {i : Int} (k : Nat) (hi : i = (k : Int)) (hk : k < 12) (hdg : decode cc pc = .ok (.iaload, 1)) (kk : W p l e R s m args below meth c H locs cells slots Q (F0 m (pc + 1) ls (.int (zI ((fr k : Nat) : Int)) :: rest))) : W p l e R s m args below meth c H locs cells slots Q (F0 m pc ls (.int (zI i) :: .ref (h 2) :: rest)) := by
  subst hi
  refine va_iald hx hb hK hP 2 1 rfl rfl (zI_vin hk (by decide)) hdg ?_
  rw [zI_clamp (by omega)]
  exact kk
theorem sM2 (hx : p.tables.exec = Jvm.exec) (hb : c.code = cc) (hK : va_K D vwCl (rb_TM d) s) (hP : va_P D vwCl (rb_WM h d nb mw fr to dl hd lg ln kn bp pl rc) H) (hD : va_D A (rb_WM h d nb mw fr to dl hd lg ln kn bp pl rc)) (hS : va_S A H0 H locs) {i z : Int} (k u : Nat) (hi : i = (k : Int)) (hk : k < 12) (hz : z = (u : Int)) (hdg : decode cc pc = .ok (.iastore, 1)) (kk : ∀ (H1 : Heap) (locs1 : List Loc), va_P D vwCl (rb_WM h d nb mw (rb_up fr k u) to dl hd lg ln kn bp pl rc) H1 → va_D A (rb_WM h d nb mw (rb_up fr k u) to dl hd lg ln kn bp pl rc) → va_S A H0 H1 locs1 → W p l e R s m args below meth c H1 locs1 cells slots Q (F0 m (pc + 1) ls rest)) : W p l e R s m args below meth c H locs cells slots Q (F0 m pc ls (.int (zI z) :: .int (zI i) :: .ref (h 2) :: rest)) := by
  subst hi
  subst hz
  refine va_iast hx hb hK hP hD hS 2 1 rfl rfl (zI_vin hk (by decide)) hdg (fun H1 locs1 hP hD hS => ?_)
  rw [zC_up (by omega)] at hP hD
  rw [zC_upN] at hP hD
  exact kk H1 locs1 hP hD hS
theorem cM2 {fr' : Nat → Nat} (hP : va_P D vwCl (rb_WM h d nb mw fr to dl hd lg ln kn bp pl rc) H) (he : ∀ j, j < 12 → fr j = fr' j) : va_P D vwCl (rb_WM h d nb mw fr' to dl hd lg ln kn bp pl rc) H := zP_c (g := fun j => ((fr' j : Nat) : Int)) hP (q0 := 2) rfl (fun j hj => by rw [he j hj])
theorem lM3 (hx : p.tables.exec = Jvm.exec) (hb : c.code = cc) (hK : va_K D vwCl (rb_TM d) s) (hP : va_P D vwCl (rb_WM h d nb mw fr to dl hd lg ln kn bp pl rc) H) {i : Int} (k : Nat) (hi : i = (k : Int)) (hk : k < 12) (hdg : decode cc pc = .ok (.iaload, 1)) (kk : W p l e R s m args below meth c H locs cells slots Q (F0 m (pc + 1) ls (.int (zI ((to k : Nat) : Int)) :: rest))) : W p l e R s m args below meth c H locs cells slots Q (F0 m pc ls (.int (zI i) :: .ref (h 3) :: rest)) := by
  subst hi
  refine va_iald hx hb hK hP 3 2 rfl rfl (zI_vin hk (by decide)) hdg ?_
  rw [zI_clamp (by omega)]
  exact kk
theorem sM3 (hx : p.tables.exec = Jvm.exec) (hb : c.code = cc) (hK : va_K D vwCl (rb_TM d) s) (hP : va_P D vwCl (rb_WM h d nb mw fr to dl hd lg ln kn bp pl rc) H) (hD : va_D A (rb_WM h d nb mw fr to dl hd lg ln kn bp pl rc)) (hS : va_S A H0 H locs) {i z : Int} (k u : Nat) (hi : i = (k : Int)) (hk : k < 12) (hz : z = (u : Int)) (hdg : decode cc pc = .ok (.iastore, 1)) (kk : ∀ (H1 : Heap) (locs1 : List Loc), va_P D vwCl (rb_WM h d nb mw fr (rb_up to k u) dl hd lg ln kn bp pl rc) H1 → va_D A (rb_WM h d nb mw fr (rb_up to k u) dl hd lg ln kn bp pl rc) → va_S A H0 H1 locs1 → W p l e R s m args below meth c H1 locs1 cells slots Q (F0 m (pc + 1) ls rest)) : W p l e R s m args below meth c H locs cells slots Q (F0 m pc ls (.int (zI z) :: .int (zI i) :: .ref (h 3) :: rest)) := by
  subst hi
  subst hz
  refine va_iast hx hb hK hP hD hS 3 2 rfl rfl (zI_vin hk (by decide)) hdg (fun H1 locs1 hP hD hS => ?_)
  rw [zC_up (by omega)] at hP hD
  rw [zC_upN] at hP hD
  exact kk H1 locs1 hP hD hS
theorem cM3 {to' : Nat → Nat} (hP : va_P D vwCl (rb_WM h d nb mw fr to dl hd lg ln kn bp pl rc) H) (he : ∀ j, j < 12 → to j = to' j) : va_P D vwCl (rb_WM h d nb mw fr to' dl hd lg ln kn bp pl rc) H := zP_c (g := fun j => ((to' j : Nat) : Int)) hP (q0 := 3) rfl (fun j hj => by rw [he j hj])
theorem lM4 (hx : p.tables.exec = Jvm.exec) (hb : c.code = cc) (hK : va_K D vwCl (rb_TM d) s) (hP : va_P D vwCl (rb_WM h d nb mw fr to dl hd lg ln kn bp pl rc) H) {i : Int} (k : Nat) (hi : i = (k : Int)) (hk : k < 12) (hdg : decode cc pc = .ok (.iaload, 1)) (kk : W p l e R s m args below meth c H locs cells slots Q (F0 m (pc + 1) ls (.int (zI (hd k)) :: rest))) : W p l e R s m args below meth c H locs cells slots Q (F0 m pc ls (.int (zI i) :: .ref (h 4) :: rest)) := by
  subst hi
  refine va_iald hx hb hK hP 4 3 rfl rfl (zI_vin hk (by decide)) hdg ?_
  rw [zI_clamp (by omega)]
  exact kk
theorem sM4 (hx : p.tables.exec = Jvm.exec) (hb : c.code = cc) (hK : va_K D vwCl (rb_TM d) s) (hP : va_P D vwCl (rb_WM h d nb mw fr to dl hd lg ln kn bp pl rc) H) (hD : va_D A (rb_WM h d nb mw fr to dl hd lg ln kn bp pl rc)) (hS : va_S A H0 H locs) {i z : Int} (k : Nat) (hi : i = (k : Int)) (hk : k < 12) (hdg : decode cc pc = .ok (.iastore, 1)) (kk : ∀ (H1 : Heap) (locs1 : List Loc), va_P D vwCl (rb_WM h d nb mw fr to dl (rb_up hd k z) lg ln kn bp pl rc) H1 → va_D A (rb_WM h d nb mw fr to dl (rb_up hd k z) lg ln kn bp pl rc) → va_S A H0 H1 locs1 → W p l e R s m args below meth c H1 locs1 cells slots Q (F0 m (pc + 1) ls rest)) : W p l e R s m args below meth c H locs cells slots Q (F0 m pc ls (.int (zI z) :: .int (zI i) :: .ref (h 4) :: rest)) := by
  subst hi
  refine va_iast hx hb hK hP hD hS 4 3 rfl rfl (zI_vin hk (by decide)) hdg (fun H1 locs1 hP hD hS => ?_)
  rw [zC_up (by omega)] at hP hD
  exact kk H1 locs1 hP hD hS
theorem cM4 {hd' : Nat → Int} (hP : va_P D vwCl (rb_WM h d nb mw fr to dl hd lg ln kn bp pl rc) H) (he : ∀ j, j < 12 → hd j = hd' j) : va_P D vwCl (rb_WM h d nb mw fr to dl hd' lg ln kn bp pl rc) H := zP_c (g := hd') hP (q0 := 4) rfl he
theorem lM5 (hx : p.tables.exec = Jvm.exec) (hb : c.code = cc) (hK : va_K D vwCl (rb_TM d) s) (hP : va_P D vwCl (rb_WM h d nb mw fr to dl hd lg ln kn bp pl rc) H) {i : Int} (k : Nat) (hi : i = (k : Int)) (hk : k < 5) (hdg : decode cc pc = .ok (.iaload, 1)) (kk : W p l e R s m args below meth c H locs cells slots Q (F0 m (pc + 1) ls (.int (zI (lg k)) :: rest))) : W p l e R s m args below meth c H locs cells slots Q (F0 m pc ls (.int (zI i) :: .ref (h 5) :: rest)) := by
  subst hi
  refine va_iald hx hb hK hP 5 4 rfl rfl (zI_vin hk (by decide)) hdg ?_
  rw [zI_clamp (by omega)]
  exact kk
theorem sM5 (hx : p.tables.exec = Jvm.exec) (hb : c.code = cc) (hK : va_K D vwCl (rb_TM d) s) (hP : va_P D vwCl (rb_WM h d nb mw fr to dl hd lg ln kn bp pl rc) H) (hD : va_D A (rb_WM h d nb mw fr to dl hd lg ln kn bp pl rc)) (hS : va_S A H0 H locs) {i z : Int} (k : Nat) (hi : i = (k : Int)) (hk : k < 5) (hdg : decode cc pc = .ok (.iastore, 1)) (kk : ∀ (H1 : Heap) (locs1 : List Loc), va_P D vwCl (rb_WM h d nb mw fr to dl hd (rb_up lg k z) ln kn bp pl rc) H1 → va_D A (rb_WM h d nb mw fr to dl hd (rb_up lg k z) ln kn bp pl rc) → va_S A H0 H1 locs1 → W p l e R s m args below meth c H1 locs1 cells slots Q (F0 m (pc + 1) ls rest)) : W p l e R s m args below meth c H locs cells slots Q (F0 m pc ls (.int (zI z) :: .int (zI i) :: .ref (h 5) :: rest)) := by
  subst hi
  refine va_iast hx hb hK hP hD hS 5 4 rfl rfl (zI_vin hk (by decide)) hdg (fun H1 locs1 hP hD hS => ?_)
  rw [zC_up (by omega)] at hP hD
  exact kk H1 locs1 hP hD hS
theorem cM5 {lg' : Nat → Int} (hP : va_P D vwCl (rb_WM h d nb mw fr to dl hd lg ln kn bp pl rc) H) (he : ∀ j, j < 5 → lg j = lg' j) : va_P D vwCl (rb_WM h d nb mw fr to dl hd lg' ln kn bp pl rc) H := zP_c (g := lg') hP (q0 := 5) rfl he
theorem lM6 (hx : p.tables.exec = Jvm.exec) (hb : c.code = cc) (hK : va_K D vwCl (rb_TM d) s) (hP : va_P D vwCl (rb_WM h d nb mw fr to dl hd lg ln kn bp pl rc) H) {i : Int} (k : Nat) (hi : i = (k : Int)) (hk : k < 5) (hdg : decode cc pc = .ok (.iaload, 1)) (kk : W p l e R s m args below meth c H locs cells slots Q (F0 m (pc + 1) ls (.int (zI (ln k)) :: rest))) : W p l e R s m args below meth c H locs cells slots Q (F0 m pc ls (.int (zI i) :: .ref (h 6) :: rest)) := by
  subst hi
  refine va_iald hx hb hK hP 6 5 rfl rfl (zI_vin hk (by decide)) hdg ?_
  rw [zI_clamp (by omega)]
  exact kk
theorem sM6 (hx : p.tables.exec = Jvm.exec) (hb : c.code = cc) (hK : va_K D vwCl (rb_TM d) s) (hP : va_P D vwCl (rb_WM h d nb mw fr to dl hd lg ln kn bp pl rc) H) (hD : va_D A (rb_WM h d nb mw fr to dl hd lg ln kn bp pl rc)) (hS : va_S A H0 H locs) {i z : Int} (k : Nat) (hi : i = (k : Int)) (hk : k < 5) (hdg : decode cc pc = .ok (.iastore, 1)) (kk : ∀ (H1 : Heap) (locs1 : List Loc), va_P D vwCl (rb_WM h d nb mw fr to dl hd lg (rb_up ln k z) kn bp pl rc) H1 → va_D A (rb_WM h d nb mw fr to dl hd lg (rb_up ln k z) kn bp pl rc) → va_S A H0 H1 locs1 → W p l e R s m args below meth c H1 locs1 cells slots Q (F0 m (pc + 1) ls rest)) : W p l e R s m args below meth c H locs cells slots Q (F0 m pc ls (.int (zI z) :: .int (zI i) :: .ref (h 6) :: rest)) := by
  subst hi
  refine va_iast hx hb hK hP hD hS 6 5 rfl rfl (zI_vin hk (by decide)) hdg (fun H1 locs1 hP hD hS => ?_)
  rw [zC_up (by omega)] at hP hD
  exact kk H1 locs1 hP hD hS
theorem cM6 {ln' : Nat → Int} (hP : va_P D vwCl (rb_WM h d nb mw fr to dl hd lg ln kn bp pl rc) H) (he : ∀ j, j < 5 → ln j = ln' j) : va_P D vwCl (rb_WM h d nb mw fr to dl hd lg ln' kn bp pl rc) H := zP_c (g := ln') hP (q0 := 6) rfl he
theorem lM7 (hx : p.tables.exec = Jvm.exec) (hb : c.code = cc) (hK : va_K D vwCl (rb_TM d) s) (hP : va_P D vwCl (rb_WM h d nb mw fr to dl hd lg ln kn bp pl rc) H) {i : Int} (k : Nat) (hi : i = (k : Int)) (hk : k < 5) (hdg : decode cc pc = .ok (.iaload, 1)) (kk : W p l e R s m args below meth c H locs cells slots Q (F0 m (pc + 1) ls (.int (zI (pl k)) :: rest))) : W p l e R s m args below meth c H locs cells slots Q (F0 m pc ls (.int (zI i) :: .ref (h 7) :: rest)) := by
  subst hi
  refine va_iald hx hb hK hP 7 6 rfl rfl (zI_vin hk (by decide)) hdg ?_
  rw [zI_clamp (by omega)]
  exact kk
theorem sM7 (hx : p.tables.exec = Jvm.exec) (hb : c.code = cc) (hK : va_K D vwCl (rb_TM d) s) (hP : va_P D vwCl (rb_WM h d nb mw fr to dl hd lg ln kn bp pl rc) H) (hD : va_D A (rb_WM h d nb mw fr to dl hd lg ln kn bp pl rc)) (hS : va_S A H0 H locs) {i z : Int} (k : Nat) (hi : i = (k : Int)) (hk : k < 5) (hdg : decode cc pc = .ok (.iastore, 1)) (kk : ∀ (H1 : Heap) (locs1 : List Loc), va_P D vwCl (rb_WM h d nb mw fr to dl hd lg ln kn bp (rb_up pl k z) rc) H1 → va_D A (rb_WM h d nb mw fr to dl hd lg ln kn bp (rb_up pl k z) rc) → va_S A H0 H1 locs1 → W p l e R s m args below meth c H1 locs1 cells slots Q (F0 m (pc + 1) ls rest)) : W p l e R s m args below meth c H locs cells slots Q (F0 m pc ls (.int (zI z) :: .int (zI i) :: .ref (h 7) :: rest)) := by
  subst hi
  refine va_iast hx hb hK hP hD hS 7 6 rfl rfl (zI_vin hk (by decide)) hdg (fun H1 locs1 hP hD hS => ?_)
  rw [zC_up (by omega)] at hP hD
  exact kk H1 locs1 hP hD hS
theorem cM7 {pl' : Nat → Int} (hP : va_P D vwCl (rb_WM h d nb mw fr to dl hd lg ln kn bp pl rc) H) (he : ∀ j, j < 5 → pl j = pl' j) : va_P D vwCl (rb_WM h d nb mw fr to dl hd lg ln kn bp pl' rc) H := zP_c (g := pl') hP (q0 := 7) rfl he
theorem lM8 (hx : p.tables.exec = Jvm.exec) (hb : c.code = cc) (hK : va_K D vwCl (rb_TM d) s) (hP : va_P D vwCl (rb_WM h d nb mw fr to dl hd lg ln kn bp pl rc) H) {i : Int} (k : Nat) (hi : i = (k : Int)) (hk : k < 25) (hdg : decode cc pc = .ok (.iaload, 1)) (kk : W p l e R s m args below meth c H locs cells slots Q (F0 m (pc + 1) ls (.int (zI (rc k)) :: rest))) : W p l e R s m args below meth c H locs cells slots Q (F0 m pc ls (.int (zI i) :: .ref (h 8) :: rest)) := by
  subst hi
  refine va_iald hx hb hK hP 8 7 rfl rfl (zI_vin hk (by decide)) hdg ?_
  rw [zI_clamp (by omega)]
  exact kk
theorem sM8 (hx : p.tables.exec = Jvm.exec) (hb : c.code = cc) (hK : va_K D vwCl (rb_TM d) s) (hP : va_P D vwCl (rb_WM h d nb mw fr to dl hd lg ln kn bp pl rc) H) (hD : va_D A (rb_WM h d nb mw fr to dl hd lg ln kn bp pl rc)) (hS : va_S A H0 H locs) {i z : Int} (k : Nat) (hi : i = (k : Int)) (hk : k < 25) (hdg : decode cc pc = .ok (.iastore, 1)) (kk : ∀ (H1 : Heap) (locs1 : List Loc), va_P D vwCl (rb_WM h d nb mw fr to dl hd lg ln kn bp pl (rb_up rc k z)) H1 → va_D A (rb_WM h d nb mw fr to dl hd lg ln kn bp pl (rb_up rc k z)) → va_S A H0 H1 locs1 → W p l e R s m args below meth c H1 locs1 cells slots Q (F0 m (pc + 1) ls rest)) : W p l e R s m args below meth c H locs cells slots Q (F0 m pc ls (.int (zI z) :: .int (zI i) :: .ref (h 8) :: rest)) := by
  subst hi
  refine va_iast hx hb hK hP hD hS 8 7 rfl rfl (zI_vin hk (by decide)) hdg (fun H1 locs1 hP hD hS => ?_)
  rw [zC_up (by omega)] at hP hD
  exact kk H1 locs1 hP hD hS
theorem cM8 {rc' : Nat → Int} (hP : va_P D vwCl (rb_WM h d nb mw fr to dl hd lg ln kn bp pl rc) H) (he : ∀ j, j < 25 → rc j = rc' j) : va_P D vwCl (rb_WM h d nb mw fr to dl hd lg ln kn bp pl rc') H := zP_c (g := rc') hP (q0 := 8) rfl he
end ZX
theorem zDC {A : Nat → Prop} {h : Nat → Nat} {d : Nat → ClassId} {nb nb' : Nat} {mw mw' : Nat} {fr fr' : Nat → Nat} {to to' : Nat → Nat} {dl dl' : Nat → Int} {hd hd' : Nat → Int} {kn kn' : Int} {sd sd' : Int} {le le' : Nat → Int} {lo lo' : Nat → Int} {lg lg' : Nat → Int} (hD : va_D A (rb_WC h d nb mw fr to dl hd kn sd le lo lg)) : va_D A (rb_WC h d nb' mw' fr' to' dl' hd' kn' sd' le' lo' lg') := zD_c hD rfl
theorem zDM {A : Nat → Prop} {h : Nat → Nat} {d : Nat → ClassId} {nb nb' : Nat} {mw mw' : Nat} {fr fr' : Nat → Nat} {to to' : Nat → Nat} {dl dl' : Nat → Int} {hd hd' : Nat → Int} {lg lg' : Nat → Int} {ln ln' : Nat → Int} {kn kn' : Int} {bp bp' : Int} {pl pl' : Nat → Int} {rc rc' : Nat → Int} (hD : va_D A (rb_WM h d nb mw fr to dl hd lg ln kn bp pl rc)) : va_D A (rb_WM h d nb' mw' fr' to' dl' hd' lg' ln' kn' bp' pl' rc') := zD_c hD rfl
/-! contracts: a world before, a world behind it -/
def rb_Pre (D : va_G) (tys : List (ClassId × FieldType)) (w : va_W) (sz : Nat) : State → Prop := fun U => U.heap.size = sz ∧ va_P D vwCl w U.heap ∧ va_K D vwCl tys U ∧ va_D (fun _ => True) w
def rb_B {S : Type} (D : va_G) (tys : List (ClassId × FieldType)) (w1 : S → va_W) (A : Nat → Prop) : S → State → Prop := fun u t => va_P D vwCl (w1 u) t.heap ∧ va_K D vwCl tys t ∧ va_D A (w1 u)
abbrev rb_R (k : Nat) : Room := { frames := k, cells := 0, slots := 0, locals := 30 * k }
def rb_MI {S : Type} (l : Launch) (y : MethodName) (cc : ByteArray) (L : Nat) (ret : Option FieldType) (k : Nat) (D : va_G) (tys : List (ClassId × FieldType)) (av : List Value) (w : va_W) (post : Int32 → S → Prop) (w1 : S → va_W) : Prop :=
  ∀ sz, Met l y (ws_ y cc L ret) (rb_R k) (va_Pc av (rb_Pre D tys w sz)) (va_Qi post (rb_B D tys w1 (va_A w sz)) (va_A w sz)) 0 0 (va_A w sz)
def rb_MV {S : Type} (l : Launch) (y : MethodName) (cc : ByteArray) (L : Nat) (k : Nat) (D : va_G) (tys : List (ClassId × FieldType)) (av : List Value) (w : va_W) (post : S → Prop) (w1 : S → va_W) : Prop :=
  ∀ sz, Met l y (ws_ y cc L none) (rb_R k) (va_Pc av (rb_Pre D tys w sz)) (va_Qv post (rb_B D tys w1 (va_A w sz)) (va_A w sz)) 0 0 (va_A w sz)
theorem rb_blind (D : va_G) (tys : List (ClassId × FieldType)) (av : List Value) (w : va_W) (sz : Nat) : FrameBlind (va_Pc av (rb_Pre D tys w sz)) := by
  intro a U g mk q
  obtain ⟨q0, q1, qP, qK, qD⟩ := q
  exact ⟨q0, q1, qP, va_K.moved (u := U) (U := U.calling g mk a) (Vm.Alike.refl U.vm) qK, qD⟩
theorem rb_mk {l : Launch} {y : MethodName} {cc : ByteArray} {L : Nat} {ret : Option FieldType} {k : Nat} {D : va_G} {tys : List (ClassId × FieldType)} {av : List Value} {w : va_W} {Qf : (Nat → Prop) → Array Value → State → Outcome → State → Prop} (hy : plainName y.cls = true) (hlen : (lg_sl av).length ≤ L)
    (body : ∀ (p : Program) (e : Env) (s : State) (m : MethodId) (below : List Frame) (meth : Method) (c : Code) (A : Nat → Prop) (ls : Array Slot), p.tables.exec = Jvm.exec → c.code = cc → meth.sig.returnType = ret → c.maxLocals = L → (∀ w ∈ lw_all, w.before av.toArray s = true) → s.vm.findClass y.cls = some m.cls → meth.locks = false →
      va_K D vwCl tys s → va_P D vwCl w s.heap → va_D A w → va_S A s.heap s.heap [] → (∀ q : Nat, s.heap.size ≤ q → A q) → lv_has ls L (lv_args 0 av) → W p l e (rb_R k) s m av.toArray below meth c s.heap [] 0 0 (MQ below (Qf A) av.toArray s 0 0 A) (F0 m 0 ls [])) :
    ∀ sz, Met l y (ws_ y cc L ret) (rb_R k) (va_Pc av (rb_Pre D tys w sz)) (Qf (va_A w sz)) 0 0 (va_A w sz) := by
  intro sz
  refine Met.ofW (cc := cc) (maxL := L) (ret := ret) hy rfl ?_
  intro p e s m args below meth c s₁ B hml hv
  obtain ⟨rfl, hsz, hP, hK, hD0⟩ := hv
  have hts := atoms_spec (ws := ws_ y cc L ret) B.pre
  have hts : ∀ w ∈ lw_all, w.before _ s = true := fun w h => hts w (List.mem_cons_of_mem _ h)
  subst hsz
  have hl := lv_entry av (n := L) hlen
  rw [lg_entry_eq]
  exact body p e s m below meth c (va_A w s.heap.size) _ B.exec B.bytes B.returns hml hts (findClass_of_methodNamed B.named) B.notSynchronized hK hP (hD0.self (sz := s.heap.size)) va_S.rf (fun q h => Or.inr h) hl
section ZY
variable {p : Program} {l : Launch} {e : Env} {R : Room} {s : State} {m : MethodId} {args : Array Value} {below : List Frame} {meth : Method} {c : Code} {H : Heap} {locs : List Loc} {cells slots : Nat} {Q : State → Prop}
variable {cc : ByteArray} {pc : Nat} {ls : Array Slot} {rest : List Value} {D : va_G} {A : Nat → Prop} {H0 : Heap} {tys : List (ClassId × FieldType)}
theorem zr_I {S : Type} {post : Int32 → S → Prop} {w1 : S → va_W} {v : Int32} (hx : p.tables.exec = Jvm.exec) (hb : c.code = cc) {ty : FieldType} (hr : meth.sig.returnType = some ty) (hlocks : meth.locks = false) (hn : narrow ty (.int v) = .int v) (hK : va_K D vwCl tys s) (u : S) (hP : va_P D vwCl (w1 u) H) (hD : va_D A (w1 u)) (hS : va_S A s.heap H locs) (hp : post v u) (hdg : decode cc pc = .ok (.ireturn, 1)) :
    W p l e R s m args below meth c H locs 0 0 (MQ below (va_Qi post (rb_B D tys w1 A) A) args s 0 0 A) (F0 m pc ls [.int v]) :=
  W.zret (v := v) hx hb hr hn (fun t ht hW => ⟨⟨v, u, rfl, hp, by rw [ht]; exact hP, va_K.moved hW.alike hK, hD⟩, hS.F ht⟩) hS.2.2 hdg
theorem zr_V {S : Type} {post : S → Prop} {w1 : S → va_W} (hx : p.tables.exec = Jvm.exec) (hb : c.code = cc) (hr : meth.sig.returnType = none) (hlocks : meth.locks = false) (hK : va_K D vwCl tys s) (u : S) (hP : va_P D vwCl (w1 u) H) (hD : va_D A (w1 u)) (hS : va_S A s.heap H locs) (hp : post u) (hdg : decode cc pc = .ok (.return_, 1)) :
    W p l e R s m args below meth c H locs 0 0 (MQ below (va_Qv post (rb_B D tys w1 A) A) args s 0 0 A) (F0 m pc ls []) :=
  W.vret hx hb hr (fun t ht hW => ⟨⟨u, rfl, hp, by rw [ht]; exact hP, va_K.moved hW.alike hK, hD⟩, hS.F ht⟩) hS.2.2 hdg
variable {y : MethodName} {bytes : ByteArray} {maxL nL n index k ci : Nat} {ret : Option FieldType} {own C : String} {b : Addr} {As st0 : List Value} {w : va_W} {qc : vw_C} {fs : List Value}
theorem zc_I {S : Type} {post : Int32 → S → Prop} {w1 : S → va_W} (hF : CallFix p m c cc nL s args lw_all own) (hM : rb_MI l y bytes maxL ret k D tys (.ref b :: As) w post w1) (cw : CallW R s args own C index y bytes maxL ret (ws_ y bytes maxL ret) (rb_R k) 0 0 n) (hK : va_K D vwCl tys s) (hP : va_P D vwCl w H) (hD : va_D A w) (hS : va_S A H0 H locs) (hA : ∀ q : Nat, H0.size ≤ q → A q)
    (hc : vwCl[ci]? = some qc) (hq : qc.1 = C) (he : w[0]? = some (b, .inr (ci, fs))) (hn : As.length = n) (hsize : ls.size = nL) (hst : st0 = As.reverse ++ .ref b :: rest) (hroom : (rest.map fun v => v.category).sum ≤ 8) (hdg : decode cc pc = .ok (.invokevirtual index, 3)) (hf : cells ≤ R.cells ∧ slots ≤ R.slots)
    (kk : ∀ (r : Int32) (u : S) (H1 : Heap) (locs1 : List Loc), post r u → va_P D vwCl (w1 u) H1 → va_D A (w1 u) → va_S A H0 H1 locs1 → W p l e R s m args below meth c H1 locs1 cells slots Q (F0 m (pc + 3) ls (.int r :: rest))) : W p l e R s m args below meth c H locs cells slots Q (F0 m pc ls st0) := by
  subst hst
  have hFr : ∀ q, va_A w H.size q → A q := by
    intro q h
    rcases h with ⟨i, x, h⟩ | h
    · exact hD.2 i (q, x) h
    · exact hA q (Nat.le_trans hS.1 h)
  refine va_calli (va_runV (As := As) (rest := rest) hF (hM H.size) cw ⟨rb_blind D tys _ w H.size, by rw [← hq]; exact va_recv hK hP hc he, fun U hU hW => ⟨rfl, by rw [hU], by rw [hU]; exact hP, va_K.moved hW.alike hK, hD.weaken (fun _ _ _ _ => trivial)⟩⟩ rfl hn hsize rfl (lv_room hroom) hdg hf) hS (fun q _ h => hFr q h) hFr (fun r u t H1 locs1 ht hvm hp hB hz hk hS => ?_)
  obtain ⟨hP1, -, hD1⟩ := hB
  rw [ht] at hP1
  exact kk r u H1 locs1 hp hP1 (hD1.weaken (fun _ q _ h => hFr q.1 h)) hS
theorem zc_V {S : Type} {post : S → Prop} {w1 : S → va_W} (hF : CallFix p m c cc nL s args lw_all own) (hM : rb_MV l y bytes maxL k D tys (.ref b :: As) w post w1) (cw : CallW R s args own C index y bytes maxL none (ws_ y bytes maxL none) (rb_R k) 0 0 n) (hK : va_K D vwCl tys s) (hP : va_P D vwCl w H) (hD : va_D A w) (hS : va_S A H0 H locs) (hA : ∀ q : Nat, H0.size ≤ q → A q)
    (hc : vwCl[ci]? = some qc) (hq : qc.1 = C) (he : w[0]? = some (b, .inr (ci, fs))) (hn : As.length = n) (hsize : ls.size = nL) (hst : st0 = As.reverse ++ .ref b :: rest) (hroom : (rest.map fun v => v.category).sum ≤ 8) (hdg : decode cc pc = .ok (.invokevirtual index, 3)) (hf : cells ≤ R.cells ∧ slots ≤ R.slots)
    (kk : ∀ (u : S) (H1 : Heap) (locs1 : List Loc), post u → va_P D vwCl (w1 u) H1 → va_D A (w1 u) → va_S A H0 H1 locs1 → W p l e R s m args below meth c H1 locs1 cells slots Q (F0 m (pc + 3) ls rest)) : W p l e R s m args below meth c H locs cells slots Q (F0 m pc ls st0) := by
  subst hst
  have hFr : ∀ q, va_A w H.size q → A q := by
    intro q h
    rcases h with ⟨i, x, h⟩ | h
    · exact hD.2 i (q, x) h
    · exact hA q (Nat.le_trans hS.1 h)
  refine va_callv (va_runV (As := As) (rest := rest) hF (hM H.size) cw ⟨rb_blind D tys _ w H.size, by rw [← hq]; exact va_recv hK hP hc he, fun U hU hW => ⟨rfl, by rw [hU], by rw [hU]; exact hP, va_K.moved hW.alike hK, hD.weaken (fun _ _ _ _ => trivial)⟩⟩ rfl hn hsize rfl (lv_room hroom) hdg hf) hS (fun q _ h => hFr q h) hFr (fun u t H1 locs1 ht hvm hp hB hz hk hS => ?_)
  obtain ⟨hP1, -, hD1⟩ := hB
  rw [ht] at hP1
  exact kk u H1 locs1 hp hP1 (hD1.weaken (fun _ q _ h => hFr q.1 h)) hS
end ZY
end
section
/-! a method's contract out of a walk of its body: Q is anything that its ends give -/
theorem rb_mkI {S : Type} {l : Launch} {y : MethodName} {cc : ByteArray} {L : Nat} {ty : FieldType} {k : Nat} {D : va_G} {tys : List (ClassId × FieldType)} {av : List Value} {w : va_W} {post : Int32 → S → Prop} {w1 : S → va_W} (hy : plainName y.cls = true) (hlen : (lg_sl av).length ≤ L)
    (body : ∀ (p : Program) (e : Env) (s : State) (m : MethodId) (args : Array Value) (below : List Frame) (meth : Method) (c : Code) (A : Nat → Prop) (ls : Array Slot) (Q : State → Prop), p.tables.exec = Jvm.exec → c.code = cc → c.maxLocals = L → (∀ w ∈ lw_all, w.before args s = true) → s.vm.findClass y.cls = some m.cls →
      va_K D vwCl tys s → va_P D vwCl w s.heap → va_D A w → va_S A s.heap s.heap [] → (∀ q : Nat, s.heap.size ≤ q → A q) → lv_has ls L (lv_args 0 av) →
      (∀ (v : Int32) (u : S) (H : Heap) (locs : List Loc) (pc : Nat) (ls : Array Slot), decode cc pc = .ok (.ireturn, 1) → narrow ty (.int v) = .int v → va_P D vwCl (w1 u) H → va_D A (w1 u) → va_S A s.heap H locs → post v u → W p l e (rb_R k) s m args below meth c H locs 0 0 Q (F0 m pc ls [.int v])) →
      W p l e (rb_R k) s m args below meth c s.heap [] 0 0 Q (F0 m 0 ls [])) : rb_MI l y cc L (some ty) k D tys av w post w1 := by
  intro sz
  exact rb_mk (Qf := fun A => va_Qi post (rb_B D tys w1 A) A) hy hlen (fun p e s m below meth c A ls hx hb hr hml hts hown hlocks hK hP hD hS hA hl => body p e s m _ below meth c A ls _ hx hb hml hts hown hK hP hD hS hA hl (fun v u H locs pc ls hdg hn hP hD hS hp => zr_I hx hb hr hlocks hn hK u hP hD hS hp hdg)) sz
theorem rb_mkV {S : Type} {l : Launch} {y : MethodName} {cc : ByteArray} {L : Nat} {k : Nat} {D : va_G} {tys : List (ClassId × FieldType)} {av : List Value} {w : va_W} {post : S → Prop} {w1 : S → va_W} (hy : plainName y.cls = true) (hlen : (lg_sl av).length ≤ L)
    (body : ∀ (p : Program) (e : Env) (s : State) (m : MethodId) (args : Array Value) (below : List Frame) (meth : Method) (c : Code) (A : Nat → Prop) (ls : Array Slot) (Q : State → Prop), p.tables.exec = Jvm.exec → c.code = cc → c.maxLocals = L → (∀ w ∈ lw_all, w.before args s = true) → s.vm.findClass y.cls = some m.cls →
      va_K D vwCl tys s → va_P D vwCl w s.heap → va_D A w → va_S A s.heap s.heap [] → (∀ q : Nat, s.heap.size ≤ q → A q) → lv_has ls L (lv_args 0 av) →
      (∀ (u : S) (H : Heap) (locs : List Loc) (pc : Nat) (ls : Array Slot), decode cc pc = .ok (.return_, 1) → va_P D vwCl (w1 u) H → va_D A (w1 u) → va_S A s.heap H locs → post u → W p l e (rb_R k) s m args below meth c H locs 0 0 Q (F0 m pc ls [])) →
      W p l e (rb_R k) s m args below meth c s.heap [] 0 0 Q (F0 m 0 ls [])) : rb_MV l y cc L k D tys av w post w1 := by
  intro sz
  exact rb_mk (Qf := fun A => va_Qv post (rb_B D tys w1 A) A) hy hlen (fun p e s m below meth c A ls hx hb hr hml hts hown hlocks hK hP hD hS hA hl => body p e s m _ below meth c A ls _ hx hb hml hts hown hK hP hD hS hA hl (fun u H locs pc ls hdg hP hD hS hp => zr_V hx hb hr hlocks hK u hP hD hS hp hdg)) sz
/-- a number that both classes say: is v a block -/
def rb_isb (nb : Nat) (v : Int) : Int := if 0 ≤ v ∧ v < (nb : Int) then 1 else 0
theorem rb_mx_in {f : Nat → Int} {b : Int} (hb : 0 ≤ b) {n : Nat} (h : ∀ v, v < n → f v ≤ b) : ∀ i, i ≤ n → 0 ≤ rb_it (rb_mx1 f) i 0 ∧ rb_it (rb_mx1 f) i 0 ≤ b := by
  intro i
  induction i with
  | zero => intro _; exact ⟨Int.le_refl 0, hb⟩
  | succ i ih =>
    intro hi
    have h1 := ih (by omega)
    have h2 := h i (by omega)
    rw [rb_it_s, rb_mx1_d]
    split <;> omega
end
section
set_option maxHeartbeats 4000000 in
set_option maxRecDepth 100000 in
theorem mC_isBlock (l : Launch) (D : va_G) (h : Nat → Nat) (d : Nat → ClassId) (nb : Nat) (mw : Nat) (fr : Nat → Nat) (to : Nat → Nat) (dl : Nat → Int) (hd : Nat → Int) (kn : Int) (sd : Int) (le : Nat → Int) (lo : Nat → Int) (lg : Nat → Int) (v : Int) (hv : zin v) (hn : nb ≤ 5) : rb_MI l yX1_isBlock cX1_isBlock 2 (some .boolean) 0 D (rb_TC d) [.ref (h 0), .int (zI v)] (rb_WC h d nb mw fr to dl hd kn sd le lo lg) (fun r _ => r = zI (rb_isb nb v)) (fun _ : Unit => (rb_WC h d nb mw fr to dl hd kn sd le lo lg)) := by
  refine rb_mkI (by decide) (Nat.le_of_ble_eq_true rfl) (fun p e s m args below meth c A ls Q hx hb hml hts hown hK hP hD hS hA hl hret => ?_)
  have hown : s.vm.findClass RX1 = some m.cls := hown
  have hl : lv_has ls 2 [(0, .ref (h 0)), (1, .int (zI v))] := hl
  refine lv_iload_n hx hb dX1_isBlock_0 rfl (lv_at hl 1 rfl) ?_
  refine zi_if_lt (tgt := 16) hx hb dX1_isBlock_1 (by decide) ⟨by omega, by omega⟩ (fun c1 => ?_) (fun c1 => ?_)
  · refine lv_iconst (v := zI 0) hx hb dX1_isBlock_16 rfl ?_
    exact hret _ () _ _ _ _ dX1_isBlock_17 rfl hP (zDC hD) hS (by unfold rb_isb; first | rw [if_pos (by omega)] | rw [if_neg (by omega)])
  · refine lv_iload_n hx hb dX1_isBlock_4 rfl (lv_at hl 1 rfl) ?_
    refine lv_aload_n hx hb dX1_isBlock_5 rfl (lv_at hl 0 rfl) ?_
    refine gC0 hx hb hts hown hK hP dX1_isBlock_6 ?_
    refine zi_icmp_ge (tgt := 16) hx hb dX1_isBlock_9 (by decide) ⟨by omega, by omega⟩ ⟨by omega, by omega⟩ (fun c2 => ?_) (fun c2 => ?_)
    · refine lv_iconst (v := zI 0) hx hb dX1_isBlock_16 rfl ?_
      exact hret _ () _ _ _ _ dX1_isBlock_17 rfl hP (zDC hD) hS (by unfold rb_isb; first | rw [if_pos (by omega)] | rw [if_neg (by omega)])
    · refine lv_iconst (v := zI 1) hx hb dX1_isBlock_12 rfl ?_
      refine lv_goto (tgt := 17) hx hb dX1_isBlock_13 (by decide) ?_
      exact hret _ () _ _ _ _ dX1_isBlock_17 rfl hP (zDC hD) hS (by unfold rb_isb; first | rw [if_pos (by omega)] | rw [if_neg (by omega)])
set_option maxHeartbeats 4000000 in
set_option maxRecDepth 100000 in
theorem mM_isBlock (l : Launch) (D : va_G) (h : Nat → Nat) (d : Nat → ClassId) (nb : Nat) (mw : Nat) (fr : Nat → Nat) (to : Nat → Nat) (dl : Nat → Int) (hd : Nat → Int) (lg : Nat → Int) (ln : Nat → Int) (kn : Int) (bp : Int) (pl : Nat → Int) (rc : Nat → Int) (v : Int) (hv : zin v) (hn : nb ≤ 5) : rb_MI l yX2_isBlock cX2_isBlock 2 (some .boolean) 0 D (rb_TM d) [.ref (h 0), .int (zI v)] (rb_WM h d nb mw fr to dl hd lg ln kn bp pl rc) (fun r _ => r = zI (rb_isb nb v)) (fun _ : Unit => (rb_WM h d nb mw fr to dl hd lg ln kn bp pl rc)) := by
  refine rb_mkI (by decide) (Nat.le_of_ble_eq_true rfl) (fun p e s m args below meth c A ls Q hx hb hml hts hown hK hP hD hS hA hl hret => ?_)
  have hown : s.vm.findClass RX2 = some m.cls := hown
  have hl : lv_has ls 2 [(0, .ref (h 0)), (1, .int (zI v))] := hl
  refine lv_iload_n hx hb dX2_isBlock_0 rfl (lv_at hl 1 rfl) ?_
  refine zi_if_lt (tgt := 16) hx hb dX2_isBlock_1 (by decide) ⟨by omega, by omega⟩ (fun c1 => ?_) (fun c1 => ?_)
  · refine lv_iconst (v := zI 0) hx hb dX2_isBlock_16 rfl ?_
    exact hret _ () _ _ _ _ dX2_isBlock_17 rfl hP (zDM hD) hS (by unfold rb_isb; first | rw [if_pos (by omega)] | rw [if_neg (by omega)])
  · refine lv_iload_n hx hb dX2_isBlock_4 rfl (lv_at hl 1 rfl) ?_
    refine lv_aload_n hx hb dX2_isBlock_5 rfl (lv_at hl 0 rfl) ?_
    refine gM0 hx hb hts hown hK hP dX2_isBlock_6 ?_
    refine zi_icmp_ge (tgt := 16) hx hb dX2_isBlock_9 (by decide) ⟨by omega, by omega⟩ ⟨by omega, by omega⟩ (fun c2 => ?_) (fun c2 => ?_)
    · refine lv_iconst (v := zI 0) hx hb dX2_isBlock_16 rfl ?_
      exact hret _ () _ _ _ _ dX2_isBlock_17 rfl hP (zDM hD) hS (by unfold rb_isb; first | rw [if_pos (by omega)] | rw [if_neg (by omega)])
    · refine lv_iconst (v := zI 1) hx hb dX2_isBlock_12 rfl ?_
      refine lv_goto (tgt := 17) hx hb dX2_isBlock_13 (by decide) ?_
      exact hret _ () _ _ _ _ dX2_isBlock_17 rfl hP (zDM hD) hS (by unfold rb_isb; first | rw [if_pos (by omega)] | rw [if_neg (by omega)])
set_option maxHeartbeats 4000000 in
set_option maxRecDepth 100000 in
theorem mC_gd (l : Launch) (D : va_G) (h : Nat → Nat) (d : Nat → ClassId) (nb : Nat) (mw : Nat) (fr : Nat → Nat) (to : Nat → Nat) (dl : Nat → Int) (hd : Nat → Int) (kn : Int) (sd : Int) (le : Nat → Int) (lo : Nat → Int) (lg : Nat → Int)  (hn : nb ≤ 5) (hdl : ∀ v, 0 ≤ dl v ∧ dl v ≤ 9) : rb_MI l yX1_greatestDelay cX1_greatestDelay 3 (some .int) 0 D (rb_TC d) [.ref (h 0)] (rb_WC h d nb mw fr to dl hd kn sd le lo lg) (fun r _ => r = zI (rb_mx nb dl)) (fun _ : Unit => (rb_WC h d nb mw fr to dl hd kn sd le lo lg)) := by
  refine rb_mkI (by decide) (Nat.le_of_ble_eq_true rfl) (fun p e s m args below meth c A ls Q hx hb hml hts hown hK hP hD hS hA hl hret => ?_)
  have hown : s.vm.findClass RX1 = some m.cls := hown
  have hl : lv_has ls 3 [(0, .ref (h 0))] := hl
  refine lv_iconst (v := zI 0) hx hb dX1_greatestDelay_0 rfl ?_
  refine lv_istore_n (lv' := [(1, .int (zI 0)), (0, .ref (h 0))]) hx hb dX1_greatestDelay_1 rfl hl (by decide) rfl (fun ls hl => ?_)
  refine lv_iconst (v := zI 0) hx hb dX1_greatestDelay_2 rfl ?_
  refine lv_istore_n (lv' := [(2, .int (zI 0)), (1, .int (zI 0)), (0, .ref (h 0))]) hx hb dX1_greatestDelay_3 rfl hl (by decide) rfl (fun ls hl => ?_)
  have lp : ∀ (f_lp i : Nat), i ≤ nb → nb + 1 ≤ i + f_lp → ∀  (H : Heap) (locs : List Loc) (ls : Array Slot), va_P D vwCl (rb_WC h d nb mw fr to dl hd kn sd le lo lg) H → va_D A (rb_WC h d nb mw fr to dl hd kn sd le lo lg) → va_S A s.heap H locs → lv_has ls 3 [(0, .ref (h 0)), (2, .int (zI ((i : Nat) : Int))), (1, .int (zI (rb_it (rb_mx1 dl) i 0)))] → W p l e (rb_R 0) s m args below meth c H locs 0 0 Q (F0 m 4 ls []) := by
    intro f_lp
    induction f_lp with
    | zero => intro i h1 h2; omega
    | succ f_lp ih_lp =>
      intro i hi_lp hf_lp  H locs ls  hP hD hS hl
      have hm := rb_mx_in (f := dl) (b := 9) (by omega) (n := nb) (fun v _ => (hdl v).2) i hi_lp
      refine lv_iload_n hx hb dX1_greatestDelay_4 rfl (lv_at hl 1 rfl) ?_
      refine lv_aload_n hx hb dX1_greatestDelay_5 rfl (lv_at hl 0 rfl) ?_
      refine gC0 hx hb hts hown hK hP dX1_greatestDelay_6 ?_
      refine zi_icmp_ge (tgt := 35) hx hb dX1_greatestDelay_9 (by decide) ⟨by omega, by omega⟩ ⟨by omega, by omega⟩ (fun c1 => ?_) (fun c1 => ?_)
      · refine lv_iload_n hx hb dX1_greatestDelay_35 rfl (lv_at hl 2 rfl) ?_
        have e_i : i = nb := by omega
        subst e_i
        exact hret _ () _ _ _ _ dX1_greatestDelay_36 rfl hP (zDC hD) hS rfl
      · refine lv_aload_n hx hb dX1_greatestDelay_12 rfl (lv_at hl 0 rfl) ?_
        refine gC1 hx hb hts hown hK hP dX1_greatestDelay_13 ?_
        refine lv_iload_n hx hb dX1_greatestDelay_16 rfl (lv_at hl 1 rfl) ?_
        refine lC1 hx hb hK hP i (by omega) (by omega) dX1_greatestDelay_17 ?_
        have b2 := hdl i
        refine lv_iload_n hx hb dX1_greatestDelay_18 rfl (lv_at hl 2 rfl) ?_
        refine zi_icmp_le (tgt := 29) hx hb dX1_greatestDelay_19 (by decide) ⟨by omega, by omega⟩ ⟨by omega, by omega⟩ (fun c3 => ?_) (fun c3 => ?_)
        · refine zi_iinc (k := 1) (x' := (((i + 1) : Nat) : Int)) (lv' := [(2, .int (zI (((i + 1) : Nat) : Int))), (0, .ref (h 0)), (1, .int (zI (rb_it (rb_mx1 dl) i 0)))]) hx hb dX1_greatestDelay_29 hl rfl (by omega) (by decide) rfl (fun ls hl => ?_)
          refine lv_goto (tgt := 4) hx hb dX1_greatestDelay_32 (by decide) ?_
          exact ih_lp (i + 1) (by omega) (by omega)  _ _ _  hP (zDC hD) hS (by rw [rb_it_s _ i, rb_mx1_d]; first | (rw [if_pos (by omega)]; exact lv_sub hl [1, 0, 2] rfl) | (rw [if_neg (by omega)]; exact lv_sub hl [1, 0, 2] rfl))
        · refine lv_aload_n hx hb dX1_greatestDelay_22 rfl (lv_at hl 0 rfl) ?_
          refine gC1 hx hb hts hown hK hP dX1_greatestDelay_23 ?_
          refine lv_iload_n hx hb dX1_greatestDelay_26 rfl (lv_at hl 1 rfl) ?_
          refine lC1 hx hb hK hP i (by omega) (by omega) dX1_greatestDelay_27 ?_
          have b4 := hdl i
          refine lv_istore_n (lv' := [(1, .int (zI (dl i))), (0, .ref (h 0)), (2, .int (zI ((i : Nat) : Int)))]) hx hb dX1_greatestDelay_28 rfl hl (by decide) rfl (fun ls hl => ?_)
          refine zi_iinc (k := 2) (x' := (((i + 1) : Nat) : Int)) (lv' := [(2, .int (zI (((i + 1) : Nat) : Int))), (1, .int (zI (dl i))), (0, .ref (h 0))]) hx hb dX1_greatestDelay_29 hl rfl (by omega) (by decide) rfl (fun ls hl => ?_)
          refine lv_goto (tgt := 4) hx hb dX1_greatestDelay_32 (by decide) ?_
          exact ih_lp (i + 1) (by omega) (by omega)  _ _ _  hP (zDC hD) hS (by rw [rb_it_s _ i, rb_mx1_d]; first | (rw [if_pos (by omega)]; exact lv_sub hl [2, 0, 1] rfl) | (rw [if_neg (by omega)]; exact lv_sub hl [2, 0, 1] rfl))
  exact lp (nb + 1) 0 (by omega) (by omega)  _ _ _  hP (zDC hD) hS (lv_sub hl [2, 0, 1] rfl)
set_option maxHeartbeats 4000000 in
set_option maxRecDepth 100000 in
theorem mC_offer (l : Launch) (D : va_G) (h : Nat → Nat) (d : Nat → ClassId) (nb : Nat) (mw : Nat) (fr : Nat → Nat) (to : Nat → Nat) (dl : Nat → Int) (hd : Nat → Int) (kn : Int) (sd : Int) (le : Nat → Int) (lo : Nat → Int) (lg : Nat → Int) (u v : Nat) (r x : Int) (hu : u < 5) (hv : v < 5) (hr : 0 ≤ r ∧ r ≤ 100000) (hxx : -100000000 ≤ x ∧ x ≤ 100000000) (hle : ∀ j, 0 ≤ le j ∧ le j ≤ 1000) (hlo : ∀ j, -10000000 ≤ lo j ∧ lo j ≤ 10000000) : rb_MV l yX1_offer cX1_offer 6 0 D (rb_TC d) [.ref (h 0), .int (zI ((u : Nat) : Int)), .int (zI ((v : Nat) : Int)), .int (zI r), .int (zI x)] (rb_WC h d nb mw fr to dl hd kn sd le lo lg) (fun _ => True) (fun _ : Unit => (rb_WC h d nb mw fr to dl hd kn sd (rb_offer (5 * u + v) r x (le, lo)).1 (rb_offer (5 * u + v) r x (le, lo)).2 lg)) := by
  refine rb_mkV (by decide) (Nat.le_of_ble_eq_true rfl) (fun p e s m args below meth c A ls Q hx hb hml hts hown hK hP hD hS hA hl hret => ?_)
  have hown : s.vm.findClass RX1 = some m.cls := hown
  have hl : lv_has ls 6 [(0, .ref (h 0)), (1, .int (zI ((u : Nat) : Int))), (2, .int (zI ((v : Nat) : Int))), (3, .int (zI r)), (4, .int (zI x))] := hl
  refine lv_iconst (v := zI 5) hx hb dX1_offer_0 rfl ?_
  refine lv_iload_n hx hb dX1_offer_1 rfl (lv_at hl 1 rfl) ?_
  refine zi_imul hx hb dX1_offer_2 ?_
  refine lv_iload_n hx hb dX1_offer_3 rfl (lv_at hl 2 rfl) ?_
  refine zi_iadd hx hb dX1_offer_4 ?_
  refine lv_istore (lv' := [(5, .int (zI ((5 * ((u : Nat) : Int)) + ((v : Nat) : Int)))), (0, .ref (h 0)), (1, .int (zI ((u : Nat) : Int))), (2, .int (zI ((v : Nat) : Int))), (3, .int (zI r)), (4, .int (zI x))]) hx hb dX1_offer_5 hl (by decide) rfl (fun ls hl => ?_)
  refine lv_iload_n hx hb dX1_offer_7 rfl (lv_at hl 4 rfl) ?_
  refine lv_aload_n hx hb dX1_offer_8 rfl (lv_at hl 1 rfl) ?_
  refine gC8 hx hb hts hown hK hP dX1_offer_9 ?_
  refine lv_iload hx hb dX1_offer_12 (lv_at hl 0 rfl) ?_
  refine lC5 hx hb hK hP ((5 * u) + v) (by omega) (by omega) dX1_offer_14 ?_
  have b1 := hle ((5 * u) + v)
  refine zi_icmp_gt (tgt := 41) hx hb dX1_offer_15 (by decide) ⟨by omega, by omega⟩ ⟨by omega, by omega⟩ (fun c2 => ?_) (fun c2 => ?_)
  · exact hret () _ _ _ _ dX1_offer_41 (by rw [rb_offer_d]; first | (rw [if_pos (by dsimp only; omega)]; exact hP) | (rw [if_neg (by dsimp only; omega)]; exact hP)) (zDC hD) hS trivial
  · refine lv_iload_n hx hb dX1_offer_18 rfl (lv_at hl 4 rfl) ?_
    refine lv_aload_n hx hb dX1_offer_19 rfl (lv_at hl 1 rfl) ?_
    refine gC8 hx hb hts hown hK hP dX1_offer_20 ?_
    refine lv_iload hx hb dX1_offer_23 (lv_at hl 0 rfl) ?_
    refine lC5 hx hb hK hP ((5 * u) + v) (by omega) (by omega) dX1_offer_25 ?_
    have b3 := hle ((5 * u) + v)
    refine zi_icmp_ne (tgt := 42) hx hb dX1_offer_26 (by decide) ⟨by omega, by omega⟩ ⟨by omega, by omega⟩ (fun c4 => ?_) (fun c4 => ?_)
    · refine lv_aload_n hx hb dX1_offer_42 rfl (lv_at hl 1 rfl) ?_
      refine gC8 hx hb hts hown hK hP dX1_offer_43 ?_
      refine lv_iload hx hb dX1_offer_46 (lv_at hl 0 rfl) ?_
      refine lv_iload_n hx hb dX1_offer_48 rfl (lv_at hl 4 rfl) ?_
      refine sC5 hx hb hK hP hD hS ((5 * u) + v) (by omega) (by omega) dX1_offer_49 (fun H locs hP hD hS => ?_)
      refine lv_aload_n hx hb dX1_offer_50 rfl (lv_at hl 1 rfl) ?_
      refine gC9 hx hb hts hown hK hP dX1_offer_51 ?_
      refine lv_iload hx hb dX1_offer_54 (lv_at hl 0 rfl) ?_
      refine lv_iload hx hb dX1_offer_56 (lv_at hl 5 rfl) ?_
      refine sC6 hx hb hK hP hD hS ((5 * u) + v) (by omega) (by omega) dX1_offer_58 (fun H locs hP hD hS => ?_)
      exact hret () _ _ _ _ dX1_offer_59 (by rw [rb_offer_d]; first | (rw [if_pos (by dsimp only; omega)]; exact hP) | (rw [if_neg (by dsimp only; omega)]; exact hP)) (zDC hD) hS trivial
    · refine lv_iload hx hb dX1_offer_29 (lv_at hl 5 rfl) ?_
      refine lv_aload_n hx hb dX1_offer_31 rfl (lv_at hl 1 rfl) ?_
      refine gC9 hx hb hts hown hK hP dX1_offer_32 ?_
      refine lv_iload hx hb dX1_offer_35 (lv_at hl 0 rfl) ?_
      refine lC6 hx hb hK hP ((5 * u) + v) (by omega) (by omega) dX1_offer_37 ?_
      have b5 := hlo ((5 * u) + v)
      refine zi_icmp_gt (tgt := 42) hx hb dX1_offer_38 (by decide) ⟨by omega, by omega⟩ ⟨by omega, by omega⟩ (fun c6 => ?_) (fun c6 => ?_)
      · refine lv_aload_n hx hb dX1_offer_42 rfl (lv_at hl 1 rfl) ?_
        refine gC8 hx hb hts hown hK hP dX1_offer_43 ?_
        refine lv_iload hx hb dX1_offer_46 (lv_at hl 0 rfl) ?_
        refine lv_iload_n hx hb dX1_offer_48 rfl (lv_at hl 4 rfl) ?_
        refine sC5 hx hb hK hP hD hS ((5 * u) + v) (by omega) (by omega) dX1_offer_49 (fun H locs hP hD hS => ?_)
        refine lv_aload_n hx hb dX1_offer_50 rfl (lv_at hl 1 rfl) ?_
        refine gC9 hx hb hts hown hK hP dX1_offer_51 ?_
        refine lv_iload hx hb dX1_offer_54 (lv_at hl 0 rfl) ?_
        refine lv_iload hx hb dX1_offer_56 (lv_at hl 5 rfl) ?_
        refine sC6 hx hb hK hP hD hS ((5 * u) + v) (by omega) (by omega) dX1_offer_58 (fun H locs hP hD hS => ?_)
        exact hret () _ _ _ _ dX1_offer_59 (by rw [rb_offer_d]; first | (rw [if_pos (by dsimp only; omega)]; exact hP) | (rw [if_neg (by dsimp only; omega)]; exact hP)) (zDC hD) hS trivial
      · exact hret () _ _ _ _ dX1_offer_41 (by rw [rb_offer_d]; first | (rw [if_pos (by dsimp only; omega)]; exact hP) | (rw [if_neg (by dsimp only; omega)]; exact hP)) (zDC hD) hS trivial
set_option maxHeartbeats 4000000 in
set_option maxRecDepth 100000 in
theorem mC_lower (l : Launch) (D : va_G) (h : Nat → Nat) (d : Nat → ClassId) (nb : Nat) (mw : Nat) (fr : Nat → Nat) (to : Nat → Nat) (dl : Nat → Int) (hd : Nat → Int) (kn : Int) (sd : Int) (le : Nat → Int) (lo : Nat → Int) (lg : Nat → Int) (u v : Nat) (b : Int) (fl : Bool) (hu : u < 5) (hv : v < 5) (hb0 : -1 ≤ b ∧ b ≤ 100000) (hlg : ∀ j, -100000 ≤ lg j ∧ lg j ≤ 0) : rb_MI l yX1_lower cX1_lower 4 (some .boolean) 0 D (rb_TC d) [.ref (h 0), .int (zI ((u : Nat) : Int)), .int (zI ((v : Nat) : Int)), .int (zI b)] (rb_WC h d nb mw fr to dl hd kn sd le lo lg) (fun r _ => r = zI (if lg u ≤ lg v + b then 0 else 1)) (fun _ : Unit => (rb_WC h d nb mw fr to dl hd kn sd le lo (rb_low u v b (lg, fl)).1)) := by
  refine rb_mkI (by decide) (Nat.le_of_ble_eq_true rfl) (fun p e s m args below meth c A ls Q hx hb hml hts hown hK hP hD hS hA hl hret => ?_)
  have hown : s.vm.findClass RX1 = some m.cls := hown
  have hl : lv_has ls 4 [(0, .ref (h 0)), (1, .int (zI ((u : Nat) : Int))), (2, .int (zI ((v : Nat) : Int))), (3, .int (zI b))] := hl
  refine lv_aload_n hx hb dX1_lower_0 rfl (lv_at hl 0 rfl) ?_
  refine gC10 hx hb hts hown hK hP dX1_lower_1 ?_
  refine lv_iload_n hx hb dX1_lower_4 rfl (lv_at hl 1 rfl) ?_
  refine lC7 hx hb hK hP u (by omega) (by omega) dX1_lower_5 ?_
  have b1 := hlg u
  refine lv_aload_n hx hb dX1_lower_6 rfl (lv_at hl 0 rfl) ?_
  refine gC10 hx hb hts hown hK hP dX1_lower_7 ?_
  refine lv_iload_n hx hb dX1_lower_10 rfl (lv_at hl 2 rfl) ?_
  refine lC7 hx hb hK hP v (by omega) (by omega) dX1_lower_11 ?_
  have b2 := hlg v
  refine lv_iload_n hx hb dX1_lower_12 rfl (lv_at hl 3 rfl) ?_
  refine zi_iadd hx hb dX1_lower_13 ?_
  refine zi_icmp_gt (tgt := 19) hx hb dX1_lower_14 (by decide) ⟨by omega, by omega⟩ ⟨by omega, by omega⟩ (fun c3 => ?_) (fun c3 => ?_)
  · refine lv_aload_n hx hb dX1_lower_19 rfl (lv_at hl 0 rfl) ?_
    refine gC10 hx hb hts hown hK hP dX1_lower_20 ?_
    refine lv_iload_n hx hb dX1_lower_23 rfl (lv_at hl 1 rfl) ?_
    refine lv_aload_n hx hb dX1_lower_24 rfl (lv_at hl 0 rfl) ?_
    refine gC10 hx hb hts hown hK hP dX1_lower_25 ?_
    refine lv_iload_n hx hb dX1_lower_28 rfl (lv_at hl 2 rfl) ?_
    refine lC7 hx hb hK hP v (by omega) (by omega) dX1_lower_29 ?_
    have b4 := hlg v
    refine lv_iload_n hx hb dX1_lower_30 rfl (lv_at hl 3 rfl) ?_
    refine zi_iadd hx hb dX1_lower_31 ?_
    refine sC7 hx hb hK hP hD hS u (by omega) (by omega) dX1_lower_32 (fun H locs hP hD hS => ?_)
    refine lv_iconst (v := zI 1) hx hb dX1_lower_33 rfl ?_
    exact hret _ () _ _ _ _ dX1_lower_34 rfl (by rw [rb_low_d]; first | (rw [if_pos (by dsimp only; omega)]; exact hP) | (rw [if_neg (by dsimp only; omega)]; exact hP)) (zDC hD) hS (by first | rw [if_pos (by omega)] | rw [if_neg (by omega)])
  · refine lv_iconst (v := zI 0) hx hb dX1_lower_17 rfl ?_
    exact hret _ () _ _ _ _ dX1_lower_18 rfl (by rw [rb_low_d]; first | (rw [if_pos (by dsimp only; omega)]; exact hP) | (rw [if_neg (by dsimp only; omega)]; exact hP)) (zDC hD) hS (by first | rw [if_pos (by omega)] | rw [if_neg (by omega)])
end
section
/-! bounds: no number of either class leaves the ints; small words for the contracts -/
theorem rb_pre_0 (f g : Nat → Int) : rb_pre 0 f g = g := by
  funext j
  unfold rb_pre
  rw [if_neg (by omega)]
theorem rb_pre_up (i : Nat) (f g : Nat → Int) : rb_up (rb_pre i f g) i (f i) = rb_pre (i + 1) f g := by
  funext j
  unfold rb_up rb_pre
  by_cases e : j = i
  · subst e
    rw [if_pos rfl, if_pos (by omega)]
  · rw [if_neg e]
    by_cases h : j < i
    · rw [if_pos h, if_pos (by omega)]
    · rw [if_neg h, if_neg (by omega)]
theorem rb_pre_in {n j : Nat} (f g : Nat → Int) (h : j < n) : rb_pre n f g j = f j := by
  unfold rb_pre
  rw [if_pos h]
def rb_b (b : Bool) : Int := if b = true then 1 else 0
theorem rb_b_in (b : Bool) : 0 ≤ rb_b b ∧ rb_b b ≤ 1 := by cases b <;> decide
theorem rb_b_f {b : Bool} (h : rb_b b = 0) : b = false := by cases b with
  | false => rfl
  | true => exact absurd h (by decide)
theorem rb_b_t {b : Bool} (h : rb_b b ≠ 0) : b = true := by cases b with
  | true => rfl
  | false => exact absurd rfl h
def rb_sd1 (s : rb_S) (v : Nat) (b : Int) : Int := if s.1 (6 * v) = 0 then 0 else b
theorem rb_sd1_d (s : rb_S) (v : Nat) (b : Int) : rb_sd1 s v b = if s.1 (6 * v) = 0 then 0 else b := rfl
def rb_sdv (n : Nat) (s : rb_S) : Int := rb_it (rb_sd1 s) n 1
theorem rb_sdv_spec (s : rb_S) : ∀ n, (rb_sdv n s = 0 ∨ rb_sdv n s = 1) ∧ (rb_sdv n s = 1 ↔ rb_snd n s) := by
  intro n
  unfold rb_sdv rb_snd
  induction n with
  | zero => exact ⟨Or.inr rfl, fun _ v hv => by omega, fun _ => rfl⟩
  | succ n ih =>
    rw [rb_it_s, rb_sd1_d]
    by_cases h : s.1 (6 * n) = 0
    · rw [if_pos h]
      refine ⟨Or.inl rfl, fun q => by omega, fun q => absurd h (q n (by omega))⟩
    · rw [if_neg h]
      refine ⟨ih.1, fun q v hv => ?_, fun q => ih.2.mpr (fun v hv => q v (by omega))⟩
      by_cases e : v = n
      · subst e; exact h
      · exact ih.2.mp q v (by omega)
/-- the component's cache -/
def rb_ch (nb mw : Nat) (fr to : Nat → Nat) (dl hd : Nat → Int) (kn sd : Int) (le lo : Nat → Int) : Prop := kn = 0 ∨ (kn = 1 ∧ sd = rb_sdv nb (rb_ms nb mw fr to dl hd) ∧ le = (rb_ms nb mw fr to dl hd).1 ∧ lo = (rb_ms nb mw fr to dl hd).2)
def rb_lob (s : rb_S) (B : Int) : Prop := ∀ j, -B ≤ s.2 j ∧ s.2 j ≤ B
theorem rb_lob_offer {s : rb_S} {B : Int} {c : Nat} {r x : Int} (h : rb_lob s B) (hx : -B ≤ x ∧ x ≤ B) : rb_lob (rb_offer c r x s) B := by
  intro q
  rcases rb_offer_at c r x s q with ⟨-, h2, -⟩ | ⟨-, -, h2, -⟩
  · rw [h2]; exact h q
  · rw [h2]; exact hx
theorem rb_lob_m1 {n m : Nat} {fr to : Nat → Nat} {dl hd : Nat → Int} (ok : rb_ok n m fr to dl hd) : ∀ i, rb_lob (rb_it (rb_m1 fr to dl hd) i rb_s0) 18 := by
  refine rb_it_inv (f := rb_m1 fr to dl hd) (fun _ s => rb_lob s 18) (fun j => ⟨by show (-18 : Int) ≤ 0; decide, by show (0 : Int) ≤ 18; decide⟩) (fun i s h => ?_)
  have h1 := ok.2.2.2.2 (fr i)
  have h2 := ok.2.2.2.2 (to i)
  exact rb_lob_offer h ⟨by omega, by omega⟩
def rb_sti (k q : Nat) (B : Int) (s : rb_S) : Prop := (∀ c, q ≤ c → -B ≤ s.2 c ∧ s.2 c ≤ B) ∧ (∀ c, -(6 * B + 54) ≤ s.2 c ∧ s.2 c ≤ 6 * B + 54) ∧ (∀ u, u < 5 → (-(3 * B + 18) ≤ s.2 (5 * u + k) ∧ s.2 (5 * u + k) ≤ 3 * B + 18) ∧ (-(3 * B + 18) ≤ s.2 (5 * k + u) ∧ s.2 (5 * k + u) ≤ 3 * B + 18)) ∧ -(2 * B + 9) ≤ s.2 (5 * k + k) ∧ s.2 (5 * k + k) ≤ 2 * B + 9
theorem rb_sti_s {dl : Nat → Int} (hdl : ∀ v, 0 ≤ dl v ∧ dl v ≤ 9) {k : Nat} (hk : k < 5) {B : Int} (hB : 0 ≤ B) {s : rb_S} (h : rb_lob s B) : ∀ q, q ≤ 25 → rb_sti k q B (rb_it (rb_pr dl k) q s) := by
  intro q
  induction q with
  | zero =>
    intro _
    refine ⟨fun c _ => h c, fun c => ?_, fun u _ => ⟨?_, ?_⟩, ?_⟩
    · have := h c; show -(6 * B + 54) ≤ s.2 c ∧ s.2 c ≤ 6 * B + 54; omega
    · have := h (5 * u + k); show -(3 * B + 18) ≤ s.2 (5 * u + k) ∧ s.2 (5 * u + k) ≤ 3 * B + 18; omega
    · have := h (5 * k + u); show -(3 * B + 18) ≤ s.2 (5 * k + u) ∧ s.2 (5 * k + u) ≤ 3 * B + 18; omega
    · have := h (5 * k + k); show -(2 * B + 9) ≤ s.2 (5 * k + k) ∧ s.2 (5 * k + k) ≤ 2 * B + 9; omega
  | succ q ih =>
    intro hq
    have ih := ih (by omega)
    rw [rb_it_s]
    generalize rb_it (rb_pr dl k) q s = t at ih
    obtain ⟨i1, i2, i3, i4⟩ := ih
    have same : rb_sti k (q + 1) B t := ⟨fun c hc => i1 c (by omega), i2, i3, i4⟩
    rw [rb_pr_d]
    split
    · exact same
    · have hd := hdl k
      have hu : q / 5 < 5 := by omega
      have hv : q % 5 < 5 := by omega
      have a := (i3 (q / 5) hu).1
      have b := (i3 (q % 5) hv).2
      have off := rb_offer_at q (t.1 (5 * (q / 5) + k) + t.1 (5 * k + q % 5)) (t.2 (5 * (q / 5) + k) + t.2 (5 * k + q % 5) - dl k) t
      generalize rb_offer q (t.1 (5 * (q / 5) + k) + t.1 (5 * k + q % 5)) (t.2 (5 * (q / 5) + k) + t.2 (5 * k + q % 5) - dl k) t = z at off
      have key : ∀ c, z.2 c = t.2 c ∨ (c = q ∧ z.2 c = t.2 (5 * (q / 5) + k) + t.2 (5 * k + q % 5) - dl k) := by
        intro c
        rcases off c with ⟨-, h2, -⟩ | ⟨h0, -, h2, -⟩
        · exact Or.inl h2
        · exact Or.inr ⟨h0, h2⟩
      refine ⟨fun c hc => ?_, fun c => ?_, fun u hu5 => ⟨?_, ?_⟩, ?_⟩
      · rcases key c with h2 | ⟨h2, -⟩
        · rw [h2]; exact i1 c (by omega)
        · omega
      · rcases key c with h2 | ⟨-, h2⟩
        · rw [h2]; exact i2 c
        · rw [h2]; omega
      · rcases key (5 * u + k) with h2 | ⟨h2, h3⟩
        · rw [h2]; exact (i3 u hu5).1
        · rw [h3]
          have e1 : q / 5 = u := by omega
          have e2 : q % 5 = k := by omega
          have e3 := i1 (5 * u + k) (by omega)
          rw [e1, e2]
          omega
      · rcases key (5 * k + u) with h2 | ⟨h2, h3⟩
        · rw [h2]; exact (i3 u hu5).2
        · rw [h3]
          have e1 : q / 5 = k := by omega
          have e2 : q % 5 = u := by omega
          have e3 := i1 (5 * k + u) (by omega)
          rw [e1, e2]
          omega
      · rcases key (5 * k + k) with h2 | ⟨h2, h3⟩
        · rw [h2]; exact i4
        · rw [h3]
          have e1 : q / 5 = k := by omega
          have e2 : q % 5 = k := by omega
          have e3 := i1 (5 * k + k) (by omega)
          rw [e1, e2]
          omega
def rb_Bn : Nat → Int
  | 0 => 18
  | k + 1 => 6 * rb_Bn k + 54
theorem rb_Bn_in : ∀ k, k ≤ 5 → 0 ≤ rb_Bn k ∧ rb_Bn k ≤ 1000000 := by decide
theorem rb_lob_st {dl : Nat → Int} (hdl : ∀ v, 0 ≤ dl v ∧ dl v ≤ 9) {s : rb_S} (h : rb_lob s 18) : ∀ k, k ≤ 5 → rb_lob (rb_it (rb_st dl) k s) (rb_Bn k) := by
  intro k
  induction k with
  | zero => intro _; exact h
  | succ k ih =>
    intro hk
    have h1 := ih (by omega)
    have h2 := rb_Bn_in k (by omega)
    rw [rb_it_s, rb_st_d]
    exact (rb_sti_s hdl (by omega) h2.1 h1 25 (Nat.le_refl 25)).2.1
theorem rb_lob_pr {n m : Nat} {fr to : Nat → Nat} {dl hd : Nat → Int} (ok : rb_ok n m fr to dl hd) {k q : Nat} (hk : k < 5) (hq : q ≤ 25) : ∀ j, -10000000 ≤ (rb_it (rb_pr dl k) q (rb_it (rb_st dl) k (rb_s1 m fr to dl hd))).2 j ∧ (rb_it (rb_pr dl k) q (rb_it (rb_st dl) k (rb_s1 m fr to dl hd))).2 j ≤ 10000000 := by
  intro j
  have h0 := rb_Bn_in k (by omega)
  have h1 := rb_lob_st (s := rb_s1 m fr to dl hd) ok.2.2.2.2 (rb_lob_m1 ok m) k (by omega)
  have h2 := (rb_sti_s ok.2.2.2.2 hk h0.1 h1 q hq).2.1 j
  omega
theorem rb_lob_ms {n m : Nat} {fr to : Nat → Nat} {dl hd : Nat → Int} (ok : rb_ok n m fr to dl hd) : ∀ j, -10000000 ≤ (rb_ms n m fr to dl hd).2 j ∧ (rb_ms n m fr to dl hd).2 j ≤ 10000000 := by
  intro j
  have h0 := rb_Bn_in n ok.2.1
  have h1 := rb_lob_st (s := rb_s1 m fr to dl hd) ok.2.2.2.2 (rb_lob_m1 ok m) n ok.2.1 j
  unfold rb_ms
  omega
theorem rb_lob_m1' {n m : Nat} {fr to : Nat → Nat} {dl hd : Nat → Int} (ok : rb_ok n m fr to dl hd) (i : Nat) : ∀ j, -10000000 ≤ (rb_it (rb_m1 fr to dl hd) i rb_s0).2 j ∧ (rb_it (rb_m1 fr to dl hd) i rb_s0).2 j ≤ 10000000 := by
  intro j
  have := rb_lob_m1 ok i j
  omega
/-! lags -/
def rb_lbd (s : rb_L) (K : Int) : Prop := ∀ v, -K ≤ s.1 v ∧ s.1 v ≤ 0
theorem rb_lbd_low {s : rb_L} {K b : Int} {u v : Nat} (h : rb_lbd s K) (hK : 0 ≤ K) (hb : -1 ≤ b) : rb_lbd (rb_low u v b s) (K + 1) := by
  intro w
  rw [rb_low_d]
  have h1 := h w
  split
  · omega
  · show -(K + 1) ≤ rb_up s.1 u (s.1 v + b) w ∧ rb_up s.1 u (s.1 v + b) w ≤ 0
    by_cases e : w = u
    · subst e
      rw [rb_up_s]
      have h2 := h v
      omega
    · rw [rb_up_n e]; omega
theorem rb_lbd_r1 {n m : Nat} {fr to : Nat → Nat} {dl hd : Nat → Int} (ok : rb_ok n m fr to dl hd) {s : rb_L} {K : Int} (h : rb_lbd s K) (hK : 0 ≤ K) : ∀ i : Nat, i ≤ m → rb_lbd (rb_it (rb_r1 fr to hd) i s) (K + (i : Int)) := by
  intro i
  induction i with
  | zero => intro _; have e : K + ((0 : Nat) : Int) = K := by omega
            rw [e]; exact h
  | succ i ih =>
    intro hi
    rw [rb_it_s, rb_r1_d]
    have h1 := ok.2.2.2.1 i (by omega)
    have h2 := rb_lbd_low (u := fr i) (v := to i) (b := hd i) (ih (by omega)) (by omega) (by omega)
    have e : K + ((i + 1 : Nat) : Int) = K + (i : Int) + 1 := by omega
    rw [e]
    exact h2
theorem rb_lbd_r2 {t : rb_S} (hb : rb_bd t) (p : Int) {s : rb_L} {K : Int} (h : rb_lbd s K) (hK : 0 ≤ K) : ∀ i : Nat, rb_lbd (rb_it (rb_r2 t p) i s) (K + (i : Int)) := by
  intro i
  induction i with
  | zero => have e : K + ((0 : Nat) : Int) = K := by omega
            rw [e]; exact h
  | succ i ih =>
    rw [rb_it_s, rb_r2_d]
    have e : K + ((i + 1 : Nat) : Int) = K + (i : Int) + 1 := by omega
    rw [e]
    split
    · have h1 := hb i
      exact rb_lbd_low ih (by omega) (by omega)
    · intro v
      have := ih v
      omega
theorem rb_rd_d (m : Nat) (fr to : Nat → Nat) (hd : Nat → Int) (t : rb_S) (p : Int) (g : Nat → Int) : rb_rd m fr to hd t p g = rb_it (rb_r2 t p) 25 (rb_it (rb_r1 fr to hd) m (g, false)) := rfl
theorem rb_lbd_rk {n m : Nat} {fr to : Nat → Nat} {dl hd : Nat → Int} (ok : rb_ok n m fr to dl hd) {t : rb_S} (hb : rb_bd t) (p : Int) : ∀ r : Nat, rb_lbd (rb_it (rb_rk (rb_rd m fr to hd t p)) r rb_rz) (37 * (r : Int)) := by
  intro r
  induction r with
  | zero => intro v; exact ⟨by show -(37 * ((0 : Nat) : Int)) ≤ 0; omega, Int.le_refl 0⟩
  | succ r ih =>
    rw [rb_it_s, rb_rk_d]
    split
    · have h1 := rb_lbd_r1 ok (s := ((rb_it (rb_rk (rb_rd m fr to hd t p)) r rb_rz).1, false)) ih (by omega) m (Nat.le_refl m)
      have h2 := rb_lbd_r2 hb p h1 (by omega) 25
      intro v
      have h3 := h2 v
      have h4 := ok.2.2.1
      rw [rb_rd_d]
      omega
    · intro v
      have := ih v
      omega
theorem rb_stop {rd : (Nat → Int) → rb_L} {s : rb_L} {r : Nat} (h : (rb_it (rb_rk rd) r s).2 = false) : ∀ k, rb_it (rb_rk rd) (r + k) s = rb_it (rb_rk rd) r s := by
  intro k
  induction k with
  | zero => rfl
  | succ k ih =>
    rw [show r + (k + 1) = r + k + 1 from rfl, rb_it_s, ih, rb_rk_d, h]
    rfl
theorem rb_stop6 {rd : (Nat → Int) → rb_L} {s : rb_L} {r : Nat} (hr : r ≤ 6) (h : (rb_it (rb_rk rd) r s).2 = false) : rb_it (rb_rk rd) 6 s = rb_it (rb_rk rd) r s := by
  have h1 := rb_stop h (6 - r)
  rw [show r + (6 - r) = 6 by omega] at h1
  exact h1
theorem rb_per_in {n : Nat} {dl : Nat → Int} {t : rb_S} (hm : 0 ≤ rb_mx n dl ∧ rb_mx n dl ≤ 9) (h : ∀ j, -10000000 ≤ t.2 j ∧ t.2 j ≤ 10000000) : ∀ j, 0 ≤ rb_it (rb_pe1 t) j (rb_mx n dl) ∧ rb_it (rb_pe1 t) j (rb_mx n dl) ≤ 10000000 := by
  intro j
  induction j with
  | zero => exact ⟨hm.1, by have := hm.2; show rb_mx n dl ≤ 10000000; omega⟩
  | succ j ih =>
    rw [rb_it_s, rb_pe1_d]
    have := h j
    split <;> omega
theorem rb_be_in {n m : Nat} {fr to : Nat → Nat} {dl hd : Nat → Int} {t : rb_S} {b : Int} (hb : -10000000 ≤ b ∧ b ≤ 10000000) (h : ∀ j, -10000000 ≤ t.2 j ∧ t.2 j ≤ 10000000) : ∀ j, -10000000 ≤ rb_it (rb_be1 n m fr to dl hd t) j b ∧ rb_it (rb_be1 n m fr to dl hd t) j b ≤ 10000000 := by
  intro j
  induction j with
  | zero => exact hb
  | succ j ih =>
    rw [rb_it_s, rb_be1_d]
    have := h j
    split <;> omega
theorem rb_mx_in' {n : Nat} {dl : Nat → Int} (hdl : ∀ v, 0 ≤ dl v ∧ dl v ≤ 9) : 0 ≤ rb_mx n dl ∧ rb_mx n dl ≤ 9 := rb_mx_in (f := dl) (b := 9) (by omega) (n := n) (fun v _ => (hdl v).2) n (Nat.le_refl n)
theorem rb_can_no {n m : Nat} {fr to : Nat → Nat} {dl hd : Nat → Int} {t : rb_S} {p : Int} (h : p < rb_mx n dl) : rb_can n m fr to dl hd t p = false := by
  unfold rb_can
  rw [if_pos h]
theorem rb_can_yes {n m : Nat} {fr to : Nat → Nat} {dl hd : Nat → Int} {t : rb_S} {p : Int} (h : ¬ p < rb_mx n dl) : rb_can n m fr to dl hd t p = !(rb_rs m fr to hd t p).2 := by
  unfold rb_can
  rw [if_neg h]
end
section
set_option maxHeartbeats 4000000 in
set_option maxRecDepth 100000 in
theorem mC_measure (l : Launch) (D : va_G) (h : Nat → Nat) (d : Nat → ClassId) (nb : Nat) (mw : Nat) (fr : Nat → Nat) (to : Nat → Nat) (dl : Nat → Int) (hd : Nat → Int) (kn : Int) (sd : Int) (le : Nat → Int) (lo : Nat → Int) (lg : Nat → Int)  (ok : rb_ok nb mw fr to dl hd) (hh : ∀ i, i < mw → hd i ≤ 1000) (hk : rb_ch nb mw fr to dl hd kn sd le lo) : rb_MV l yX1_measure cX1_measure 7 1 D (rb_TC d) [.ref (h 0)] (rb_WC h d nb mw fr to dl hd kn sd le lo lg) (fun _ => True) (fun _ : Unit => (rb_WC h d nb mw fr to dl hd 1 (rb_sdv nb (rb_ms nb mw fr to dl hd)) (rb_ms nb mw fr to dl hd).1 (rb_ms nb mw fr to dl hd).2 lg)) := by
  refine rb_mkV (by decide) (Nat.le_of_ble_eq_true rfl) (fun p e s m args below meth c A ls Q hx hb hml hts hown hK hP hD hS hA hl hret => ?_)
  have hown : s.vm.findClass RX1 = some m.cls := hown
  have hl : lv_has ls 7 [(0, .ref (h 0))] := hl
  have hkn : kn = 0 ∨ kn = 1 := by
    rcases hk with h | h
    · exact Or.inl h
    · exact Or.inr h.1
  refine lv_aload_n hx hb dX1_measure_0 rfl (lv_at hl 0 rfl) ?_
  refine gC6 hx hb hts hown hK hP dX1_measure_1 ?_
  refine zi_if_eq (tgt := 8) hx hb dX1_measure_4 (by decide) ⟨by omega, by omega⟩ (fun c1 => ?_) (fun c1 => ?_)
  · refine lv_aload_n hx hb dX1_measure_8 rfl (lv_at hl 0 rfl) ?_
    refine lv_iconst (v := zI 1) hx hb dX1_measure_9 rfl ?_
    refine pC6 hx hb hts hown hK hP hD hS (Or.inr rfl) dX1_measure_10 (fun H locs hP hD hS => ?_)
    refine lv_iconst (v := zI 0) hx hb dX1_measure_13 rfl ?_
    refine lv_istore_n (lv' := [(1, .int (zI 0)), (0, .ref (h 0))]) hx hb dX1_measure_14 rfl hl (by decide) rfl (fun ls hl => ?_)
    have lp1 : ∀ (f_lp1 i : Nat), i ≤ 25 → 25 + 1 ≤ i + f_lp1 → ∀  (H : Heap) (locs : List Loc) (ls : Array Slot), va_P D vwCl (rb_WC h d nb mw fr to dl hd 1 sd (rb_pre i (fun _ => 1000) le) (rb_pre i (fun _ => 0) lo) lg) H → va_D A (rb_WC h d nb mw fr to dl hd 1 sd (rb_pre i (fun _ => 1000) le) (rb_pre i (fun _ => 0) lo) lg) → va_S A s.heap H locs → lv_has ls 7 [(0, .ref (h 0)), (1, .int (zI ((i : Nat) : Int)))] → W p l e (rb_R 1) s m args below meth c H locs 0 0 Q (F0 m 15 ls []) := by
      intro f_lp1
      induction f_lp1 with
      | zero => intro i h1 h2; omega
      | succ f_lp1 ih_lp1 =>
        intro i hi_lp1 hf_lp1  H locs ls  hP hD hS hl
        refine lv_iload_n hx hb dX1_measure_15 rfl (lv_at hl 1 rfl) ?_
        refine lv_bipush (v := zI 25) hx hb dX1_measure_16 (by decide) ?_
        refine zi_icmp_ge (tgt := 43) hx hb dX1_measure_18 (by decide) ⟨by omega, by omega⟩ ⟨by omega, by omega⟩ (fun c2 => ?_) (fun c2 => ?_)
        · have e_i : i = 25 := by omega
          subst e_i
          have hP := cC6 (lo' := rb_s0.2) (cC5 (le' := rb_s0.1) hP (fun j hj => by rw [rb_pre_in _ _ hj]; rfl)) (fun j hj => by rw [rb_pre_in _ _ hj]; rfl)
          have hD : va_D A (rb_WC h d nb mw fr to dl hd 1 sd rb_s0.1 rb_s0.2 lg) := zDC hD
          refine lv_iconst (v := zI 0) hx hb dX1_measure_43 rfl ?_
          refine lv_istore_n (lv' := [(1, .int (zI 0)), (0, .ref (h 0))]) hx hb dX1_measure_44 rfl hl (by decide) rfl (fun ls hl => ?_)
          have lp2 : ∀ (f_lp2 i : Nat), i ≤ mw → mw + 1 ≤ i + f_lp2 → ∀  (H : Heap) (locs : List Loc) (ls : Array Slot), va_P D vwCl (rb_WC h d nb mw fr to dl hd 1 sd (rb_it (rb_m1 fr to dl hd) i rb_s0).1 (rb_it (rb_m1 fr to dl hd) i rb_s0).2 lg) H → va_D A (rb_WC h d nb mw fr to dl hd 1 sd (rb_it (rb_m1 fr to dl hd) i rb_s0).1 (rb_it (rb_m1 fr to dl hd) i rb_s0).2 lg) → va_S A s.heap H locs → lv_has ls 7 [(0, .ref (h 0)), (1, .int (zI ((i : Nat) : Int)))] → W p l e (rb_R 1) s m args below meth c H locs 0 0 Q (F0 m 45 ls []) := by
            intro f_lp2
            induction f_lp2 with
            | zero => intro i h1 h2; omega
            | succ f_lp2 ih_lp2 =>
              intro i hi_lp2 hf_lp2  H locs ls  hP hD hS hl
              have hmw := ok.2.2.1
              refine lv_iload_n hx hb dX1_measure_45 rfl (lv_at hl 1 rfl) ?_
              refine lv_aload_n hx hb dX1_measure_46 rfl (lv_at hl 0 rfl) ?_
              refine gC2 hx hb hts hown hK hP dX1_measure_47 ?_
              refine zi_icmp_ge (tgt := 98) hx hb dX1_measure_50 (by decide) ⟨by omega, by omega⟩ ⟨by omega, by omega⟩ (fun c3 => ?_) (fun c3 => ?_)
              · have e_i : mw = i := by omega
                subst e_i
                have hP : va_P D vwCl (rb_WC h d nb mw fr to dl hd 1 sd (rb_s1 mw fr to dl hd).1 (rb_s1 mw fr to dl hd).2 lg) H := hP
                have hD : va_D A (rb_WC h d nb mw fr to dl hd 1 sd (rb_s1 mw fr to dl hd).1 (rb_s1 mw fr to dl hd).2 lg) := zDC hD
                refine lv_iconst (v := zI 0) hx hb dX1_measure_98 rfl ?_
                refine lv_istore_n (lv' := [(1, .int (zI 0)), (0, .ref (h 0))]) hx hb dX1_measure_99 rfl hl (by decide) rfl (fun ls hl => ?_)
                have lp3 : ∀ (f_lp3 k : Nat), k ≤ nb → nb + 1 ≤ k + f_lp3 → ∀  (H : Heap) (locs : List Loc) (ls : Array Slot), va_P D vwCl (rb_WC h d nb mw fr to dl hd 1 sd (rb_it (rb_st dl) k (rb_s1 mw fr to dl hd)).1 (rb_it (rb_st dl) k (rb_s1 mw fr to dl hd)).2 lg) H → va_D A (rb_WC h d nb mw fr to dl hd 1 sd (rb_it (rb_st dl) k (rb_s1 mw fr to dl hd)).1 (rb_it (rb_st dl) k (rb_s1 mw fr to dl hd)).2 lg) → va_S A s.heap H locs → lv_has ls 7 [(0, .ref (h 0)), (1, .int (zI ((k : Nat) : Int)))] → W p l e (rb_R 1) s m args below meth c H locs 0 0 Q (F0 m 100 ls []) := by
                  intro f_lp3
                  induction f_lp3 with
                  | zero => intro k h1 h2; omega
                  | succ f_lp3 ih_lp3 =>
                    intro k hi_lp3 hf_lp3  H locs ls  hP hD hS hl
                    have hn5 := ok.2.1
                    refine lv_iload_n hx hb dX1_measure_100 rfl (lv_at hl 1 rfl) ?_
                    refine lv_aload_n hx hb dX1_measure_101 rfl (lv_at hl 0 rfl) ?_
                    refine gC0 hx hb hts hown hK hP dX1_measure_102 ?_
                    refine zi_icmp_ge (tgt := 225) hx hb dX1_measure_105 (by decide) ⟨by omega, by omega⟩ ⟨by omega, by omega⟩ (fun c4 => ?_) (fun c4 => ?_)
                    · have e_k : nb = k := by omega
                      subst e_k
                      have hP : va_P D vwCl (rb_WC h d nb mw fr to dl hd 1 sd (rb_ms nb mw fr to dl hd).1 (rb_ms nb mw fr to dl hd).2 lg) H := hP
                      have hD : va_D A (rb_WC h d nb mw fr to dl hd 1 sd (rb_ms nb mw fr to dl hd).1 (rb_ms nb mw fr to dl hd).2 lg) := zDC hD
                      refine lv_aload_n hx hb dX1_measure_225 rfl (lv_at hl 0 rfl) ?_
                      refine lv_iconst (v := zI 1) hx hb dX1_measure_226 rfl ?_
                      refine pC7 hx hb hts hown hK hP hD hS (Or.inr rfl) dX1_measure_227 (fun H locs hP hD hS => ?_)
                      refine lv_iconst (v := zI 0) hx hb dX1_measure_230 rfl ?_
                      refine lv_istore_n (lv' := [(1, .int (zI 0)), (0, .ref (h 0))]) hx hb dX1_measure_231 rfl hl (by decide) rfl (fun ls hl => ?_)
                      have lp5 : ∀ (f_lp5 v : Nat), v ≤ nb → nb + 1 ≤ v + f_lp5 → ∀  (H : Heap) (locs : List Loc) (ls : Array Slot), va_P D vwCl (rb_WC h d nb mw fr to dl hd 1 (rb_it (rb_sd1 (rb_ms nb mw fr to dl hd)) v 1) (rb_ms nb mw fr to dl hd).1 (rb_ms nb mw fr to dl hd).2 lg) H → va_D A (rb_WC h d nb mw fr to dl hd 1 (rb_it (rb_sd1 (rb_ms nb mw fr to dl hd)) v 1) (rb_ms nb mw fr to dl hd).1 (rb_ms nb mw fr to dl hd).2 lg) → va_S A s.heap H locs → lv_has ls 7 [(0, .ref (h 0)), (1, .int (zI ((v : Nat) : Int)))] → W p l e (rb_R 1) s m args below meth c H locs 0 0 Q (F0 m 232 ls []) := by
                        intro f_lp5
                        induction f_lp5 with
                        | zero => intro v h1 h2; omega
                        | succ f_lp5 ih_lp5 =>
                          intro v hi_lp5 hf_lp5  H locs ls  hP hD hS hl
                          have hbd := rb_E1 ok (6 * v)
                          refine lv_iload_n hx hb dX1_measure_232 rfl (lv_at hl 1 rfl) ?_
                          refine lv_aload_n hx hb dX1_measure_233 rfl (lv_at hl 0 rfl) ?_
                          refine gC0 hx hb hts hown hK hP dX1_measure_234 ?_
                          refine zi_icmp_ge (tgt := 263) hx hb dX1_measure_237 (by decide) ⟨by omega, by omega⟩ ⟨by omega, by omega⟩ (fun c5 => ?_) (fun c5 => ?_)
                          · have e_v : nb = v := by omega
                            subst e_v
                            exact hret () _ _ _ _ dX1_measure_263 hP (zDC hD) hS trivial
                          · have hv5 : v < 5 := by omega
                            refine lv_aload_n hx hb dX1_measure_240 rfl (lv_at hl 0 rfl) ?_
                            refine gC8 hx hb hts hown hK hP dX1_measure_241 ?_
                            refine lv_bipush (v := zI 6) hx hb dX1_measure_244 (by decide) ?_
                            refine lv_iload_n hx hb dX1_measure_246 rfl (lv_at hl 1 rfl) ?_
                            refine zi_imul hx hb dX1_measure_247 ?_
                            refine lC5 hx hb hK hP (6 * v) (by omega) (by omega) dX1_measure_248 ?_
                            refine zi_if_ne (tgt := 257) hx hb dX1_measure_249 (by decide) ⟨by omega, by omega⟩ (fun c6 => ?_) (fun c6 => ?_)
                            · refine zi_iinc (k := 1) (x' := (((v + 1) : Nat) : Int)) (lv' := [(1, .int (zI (((v + 1) : Nat) : Int))), (0, .ref (h 0))]) hx hb dX1_measure_257 hl rfl (by omega) (by decide) rfl (fun ls hl => ?_)
                              refine lv_goto (tgt := 232) hx hb dX1_measure_260 (by decide) ?_
                              exact ih_lp5 (v + 1) (by omega) (by omega)  _ _ _  (by rw [rb_it_s _ v, rb_sd1_d]; first | (rw [if_pos (by omega)]; exact hP) | (rw [if_neg (by omega)]; exact hP)) (zDC hD) hS (lv_sub hl [1, 0] rfl)
                            · refine lv_aload_n hx hb dX1_measure_252 rfl (lv_at hl 0 rfl) ?_
                              refine lv_iconst (v := zI 0) hx hb dX1_measure_253 rfl ?_
                              refine pC7 hx hb hts hown hK hP hD hS (Or.inl rfl) dX1_measure_254 (fun H locs hP hD hS => ?_)
                              refine zi_iinc (k := 1) (x' := (((v + 1) : Nat) : Int)) (lv' := [(1, .int (zI (((v + 1) : Nat) : Int))), (0, .ref (h 0))]) hx hb dX1_measure_257 hl rfl (by omega) (by decide) rfl (fun ls hl => ?_)
                              refine lv_goto (tgt := 232) hx hb dX1_measure_260 (by decide) ?_
                              exact ih_lp5 (v + 1) (by omega) (by omega)  _ _ _  (by rw [rb_it_s _ v, rb_sd1_d]; first | (rw [if_pos (by omega)]; exact hP) | (rw [if_neg (by omega)]; exact hP)) (zDC hD) hS (lv_sub hl [1, 0] rfl)
                      exact lp5 (nb + 1) 0 (by omega) (by omega)  _ _ _  hP (zDC hD) hS (lv_sub hl [1, 0] rfl)
                    · refine lv_iconst (v := zI 0) hx hb dX1_measure_108 rfl ?_
                      refine lv_istore_n (lv' := [(2, .int (zI 0)), (0, .ref (h 0)), (1, .int (zI ((k : Nat) : Int)))]) hx hb dX1_measure_109 rfl hl (by decide) rfl (fun ls hl => ?_)
                      have lp4 : ∀ (f_lp4 q : Nat), q ≤ 25 → 25 + 1 ≤ q + f_lp4 → ∀  (H : Heap) (locs : List Loc) (ls : Array Slot), va_P D vwCl (rb_WC h d nb mw fr to dl hd 1 sd (rb_it (rb_pr dl k) q (rb_it (rb_st dl) k (rb_s1 mw fr to dl hd))).1 (rb_it (rb_pr dl k) q (rb_it (rb_st dl) k (rb_s1 mw fr to dl hd))).2 lg) H → va_D A (rb_WC h d nb mw fr to dl hd 1 sd (rb_it (rb_pr dl k) q (rb_it (rb_st dl) k (rb_s1 mw fr to dl hd))).1 (rb_it (rb_pr dl k) q (rb_it (rb_st dl) k (rb_s1 mw fr to dl hd))).2 lg) → va_S A s.heap H locs → lv_has ls 7 [(0, .ref (h 0)), (1, .int (zI ((k : Nat) : Int))), (2, .int (zI ((q : Nat) : Int)))] → W p l e (rb_R 1) s m args below meth c H locs 0 0 Q (F0 m 110 ls []) := by
                        intro f_lp4
                        induction f_lp4 with
                        | zero => intro q h1 h2; omega
                        | succ f_lp4 ih_lp4 =>
                          intro q hi_lp4 hf_lp4  H locs ls  hP hD hS hl
                          have hbd := rb_bd_prs (dl := dl) (k := k) (rb_bd_sts (dl := dl) (s := rb_s1 mw fr to dl hd) (rb_bd_m1s ok mw (Nat.le_refl mw)) k) q
                          have hlb := rb_lob_pr ok (k := k) (q := q) (by omega) hi_lp4
                          have hdk := ok.2.2.2.2 k
                          refine lv_iload_n hx hb dX1_measure_110 rfl (lv_at hl 2 rfl) ?_
                          refine lv_bipush (v := zI 25) hx hb dX1_measure_111 (by decide) ?_
                          refine zi_icmp_ge (tgt := 219) hx hb dX1_measure_113 (by decide) ⟨by omega, by omega⟩ ⟨by omega, by omega⟩ (fun c7 => ?_) (fun c7 => ?_)
                          · have e_q : q = 25 := by omega
                            subst e_q
                            refine zi_iinc (k := 1) (x' := (((k + 1) : Nat) : Int)) (lv' := [(1, .int (zI (((k + 1) : Nat) : Int))), (0, .ref (h 0)), (2, .int (zI ((25 : Nat) : Int)))]) hx hb dX1_measure_219 hl rfl (by omega) (by decide) rfl (fun ls hl => ?_)
                            refine lv_goto (tgt := 100) hx hb dX1_measure_222 (by decide) ?_
                            exact ih_lp3 (k + 1) (by omega) (by omega)  _ _ _  (by rw [rb_it_s _ k, rb_st_d]; exact hP) (zDC hD) hS (lv_sub hl [1, 0] rfl)
                          · have hq25 : q < 25 := by omega
                            have hk5 : k < 5 := by omega
                            refine lv_iload_n hx hb dX1_measure_116 rfl (lv_at hl 2 rfl) ?_
                            refine lv_iconst (v := zI 5) hx hb dX1_measure_117 rfl ?_
                            refine zi_div5 hx hb q (by omega) (by omega) dX1_measure_118 ?_
                            refine lv_istore_n (lv' := [(3, .int (zI (((q / 5) : Nat) : Int))), (0, .ref (h 0)), (1, .int (zI ((k : Nat) : Int))), (2, .int (zI ((q : Nat) : Int)))]) hx hb dX1_measure_119 rfl hl (by decide) rfl (fun ls hl => ?_)
                            refine lv_iload_n hx hb dX1_measure_120 rfl (lv_at hl 3 rfl) ?_
                            refine lv_iconst (v := zI 5) hx hb dX1_measure_121 rfl ?_
                            refine zi_rem5 hx hb q (by omega) (by omega) dX1_measure_122 ?_
                            refine lv_istore (lv' := [(4, .int (zI (((q % 5) : Nat) : Int))), (3, .int (zI (((q / 5) : Nat) : Int))), (0, .ref (h 0)), (1, .int (zI ((k : Nat) : Int))), (2, .int (zI ((q : Nat) : Int)))]) hx hb dX1_measure_123 hl (by decide) rfl (fun ls hl => ?_)
                            refine lv_iconst (v := zI 5) hx hb dX1_measure_125 rfl ?_
                            refine lv_iload_n hx hb dX1_measure_126 rfl (lv_at hl 1 rfl) ?_
                            refine zi_imul hx hb dX1_measure_127 ?_
                            refine lv_iload_n hx hb dX1_measure_128 rfl (lv_at hl 3 rfl) ?_
                            refine zi_iadd hx hb dX1_measure_129 ?_
                            refine lv_istore (lv' := [(5, .int (zI ((5 * (((q / 5) : Nat) : Int)) + ((k : Nat) : Int)))), (4, .int (zI (((q % 5) : Nat) : Int))), (3, .int (zI (((q / 5) : Nat) : Int))), (0, .ref (h 0)), (1, .int (zI ((k : Nat) : Int))), (2, .int (zI ((q : Nat) : Int)))]) hx hb dX1_measure_130 hl (by decide) rfl (fun ls hl => ?_)
                            refine lv_iconst (v := zI 5) hx hb dX1_measure_132 rfl ?_
                            refine lv_iload_n hx hb dX1_measure_133 rfl (lv_at hl 4 rfl) ?_
                            refine zi_imul hx hb dX1_measure_134 ?_
                            refine lv_iload hx hb dX1_measure_135 (lv_at hl 1 rfl) ?_
                            refine zi_iadd hx hb dX1_measure_137 ?_
                            refine lv_istore (lv' := [(6, .int (zI ((5 * ((k : Nat) : Int)) + (((q % 5) : Nat) : Int)))), (5, .int (zI ((5 * (((q / 5) : Nat) : Int)) + ((k : Nat) : Int)))), (4, .int (zI (((q % 5) : Nat) : Int))), (3, .int (zI (((q / 5) : Nat) : Int))), (0, .ref (h 0)), (1, .int (zI ((k : Nat) : Int))), (2, .int (zI ((q : Nat) : Int)))]) hx hb dX1_measure_138 hl (by decide) rfl (fun ls hl => ?_)
                            refine lv_aload_n hx hb dX1_measure_140 rfl (lv_at hl 4 rfl) ?_
                            refine gC8 hx hb hts hown hK hP dX1_measure_141 ?_
                            refine lv_iload hx hb dX1_measure_144 (lv_at hl 1 rfl) ?_
                            refine lC5 hx hb hK hP ((5 * (q / 5)) + k) (by omega) (by omega) dX1_measure_146 ?_
                            have b8 := hbd ((5 * (q / 5)) + k)
                            refine lv_sipush (v := zI 1000) hx hb dX1_measure_147 (by decide) ?_
                            refine zi_icmp_ge (tgt := 213) hx hb dX1_measure_150 (by decide) ⟨by omega, by omega⟩ ⟨by omega, by omega⟩ (fun c9 => ?_) (fun c9 => ?_)
                            · refine zi_iinc (k := 6) (x' := (((q + 1) : Nat) : Int)) (lv' := [(2, .int (zI (((q + 1) : Nat) : Int))), (6, .int (zI ((5 * ((k : Nat) : Int)) + (((q % 5) : Nat) : Int)))), (5, .int (zI ((5 * (((q / 5) : Nat) : Int)) + ((k : Nat) : Int)))), (4, .int (zI (((q % 5) : Nat) : Int))), (3, .int (zI (((q / 5) : Nat) : Int))), (0, .ref (h 0)), (1, .int (zI ((k : Nat) : Int)))]) hx hb dX1_measure_213 hl rfl (by omega) (by decide) rfl (fun ls hl => ?_)
                              refine lv_goto (tgt := 110) hx hb dX1_measure_216 (by decide) ?_
                              exact ih_lp4 (q + 1) (by omega) (by omega)  _ _ _  (by rw [rb_it_s _ q, rb_pr_d]; first | (rw [if_pos (by omega)]; exact hP) | (rw [if_neg (by omega)]; rw [show 5 * (q / 5) + q % 5 = q by omega] at hP; exact hP)) (zDC hD) hS (lv_sub hl [5, 6, 0] rfl)
                            · refine lv_aload_n hx hb dX1_measure_153 rfl (lv_at hl 4 rfl) ?_
                              refine gC8 hx hb hts hown hK hP dX1_measure_154 ?_
                              refine lv_iload hx hb dX1_measure_157 (lv_at hl 0 rfl) ?_
                              refine lC5 hx hb hK hP ((5 * k) + (q % 5)) (by omega) (by omega) dX1_measure_159 ?_
                              have b10 := hbd ((5 * k) + (q % 5))
                              refine lv_sipush (v := zI 1000) hx hb dX1_measure_160 (by decide) ?_
                              refine zi_icmp_lt (tgt := 169) hx hb dX1_measure_163 (by decide) ⟨by omega, by omega⟩ ⟨by omega, by omega⟩ (fun c11 => ?_) (fun c11 => ?_)
                              · refine lv_aload_n hx hb dX1_measure_169 rfl (lv_at hl 4 rfl) ?_
                                refine lv_iload_n hx hb dX1_measure_170 rfl (lv_at hl 3 rfl) ?_
                                refine lv_iload hx hb dX1_measure_171 (lv_at hl 2 rfl) ?_
                                refine lv_aload_n hx hb dX1_measure_173 rfl (lv_at hl 4 rfl) ?_
                                refine gC8 hx hb hts hown hK hP dX1_measure_174 ?_
                                refine lv_iload hx hb dX1_measure_177 (lv_at hl 1 rfl) ?_
                                refine lC5 hx hb hK hP ((5 * (q / 5)) + k) (by omega) (by omega) dX1_measure_179 ?_
                                have b12 := hbd ((5 * (q / 5)) + k)
                                refine lv_aload_n hx hb dX1_measure_180 rfl (lv_at hl 4 rfl) ?_
                                refine gC8 hx hb hts hown hK hP dX1_measure_181 ?_
                                refine lv_iload hx hb dX1_measure_184 (lv_at hl 0 rfl) ?_
                                refine lC5 hx hb hK hP ((5 * k) + (q % 5)) (by omega) (by omega) dX1_measure_186 ?_
                                have b13 := hbd ((5 * k) + (q % 5))
                                refine zi_iadd hx hb dX1_measure_187 ?_
                                refine lv_aload_n hx hb dX1_measure_188 rfl (lv_at hl 4 rfl) ?_
                                refine gC9 hx hb hts hown hK hP dX1_measure_189 ?_
                                refine lv_iload hx hb dX1_measure_192 (lv_at hl 1 rfl) ?_
                                refine lC6 hx hb hK hP ((5 * (q / 5)) + k) (by omega) (by omega) dX1_measure_194 ?_
                                have b14 := hlb ((5 * (q / 5)) + k)
                                refine lv_aload_n hx hb dX1_measure_195 rfl (lv_at hl 4 rfl) ?_
                                refine gC9 hx hb hts hown hK hP dX1_measure_196 ?_
                                refine lv_iload hx hb dX1_measure_199 (lv_at hl 0 rfl) ?_
                                refine lC6 hx hb hK hP ((5 * k) + (q % 5)) (by omega) (by omega) dX1_measure_201 ?_
                                have b15 := hlb ((5 * k) + (q % 5))
                                refine zi_iadd hx hb dX1_measure_202 ?_
                                refine lv_aload_n hx hb dX1_measure_203 rfl (lv_at hl 4 rfl) ?_
                                refine gC1 hx hb hts hown hK hP dX1_measure_204 ?_
                                refine lv_iload_n hx hb dX1_measure_207 rfl (lv_at hl 5 rfl) ?_
                                refine lC1 hx hb hK hP k (by omega) (by omega) dX1_measure_208 ?_
                                refine zi_isub hx hb dX1_measure_209 ?_
                                refine zc_V ⟨hx, hb, hml, hown, hts⟩ (mC_offer l D h d nb mw fr to dl hd 1 sd (rb_it (rb_pr dl k) q (rb_it (rb_st dl) k (rb_s1 mw fr to dl hd))).1 (rb_it (rb_pr dl k) q (rb_it (rb_st dl) k (rb_s1 mw fr to dl hd))).2 lg (q / 5) (q % 5) (((rb_it (rb_pr dl k) q (rb_it (rb_st dl) k (rb_s1 mw fr to dl hd))).1 ((5 * (q / 5)) + k)) + ((rb_it (rb_pr dl k) q (rb_it (rb_st dl) k (rb_s1 mw fr to dl hd))).1 ((5 * k) + (q % 5)))) ((((rb_it (rb_pr dl k) q (rb_it (rb_st dl) k (rb_s1 mw fr to dl hd))).2 ((5 * (q / 5)) + k)) + ((rb_it (rb_pr dl k) q (rb_it (rb_st dl) k (rb_s1 mw fr to dl hd))).2 ((5 * k) + (q % 5)))) - (dl k)) (by omega) (by omega) ⟨by omega, by omega⟩ ⟨by omega, by omega⟩ hbd hlb) (cwV 4 hts (lw_V q84 q86 qs2 q14 q87) rfl rfl rfl (by decide +kernel) ⟨Nat.le_of_ble_eq_true rfl, Nat.le_of_ble_eq_true rfl⟩) hK hP hD hS hA (ci := 0) rfl rfl rfl rfl hl.1 rfl (Nat.le_of_ble_eq_true rfl) dX1_measure_210 ⟨Nat.le_refl 0, Nat.le_refl 0⟩ (fun u15 H locs hp hP hD hS => ?_)
                                have hP : va_P D vwCl (rb_WC h d nb mw fr to dl hd 1 sd (rb_offer (5 * (q / 5) + q % 5) (((rb_it (rb_pr dl k) q (rb_it (rb_st dl) k (rb_s1 mw fr to dl hd))).1 ((5 * (q / 5)) + k)) + ((rb_it (rb_pr dl k) q (rb_it (rb_st dl) k (rb_s1 mw fr to dl hd))).1 ((5 * k) + (q % 5)))) ((((rb_it (rb_pr dl k) q (rb_it (rb_st dl) k (rb_s1 mw fr to dl hd))).2 ((5 * (q / 5)) + k)) + ((rb_it (rb_pr dl k) q (rb_it (rb_st dl) k (rb_s1 mw fr to dl hd))).2 ((5 * k) + (q % 5)))) - (dl k)) ((rb_it (rb_pr dl k) q (rb_it (rb_st dl) k (rb_s1 mw fr to dl hd))).1, (rb_it (rb_pr dl k) q (rb_it (rb_st dl) k (rb_s1 mw fr to dl hd))).2)).1 (rb_offer (5 * (q / 5) + q % 5) (((rb_it (rb_pr dl k) q (rb_it (rb_st dl) k (rb_s1 mw fr to dl hd))).1 ((5 * (q / 5)) + k)) + ((rb_it (rb_pr dl k) q (rb_it (rb_st dl) k (rb_s1 mw fr to dl hd))).1 ((5 * k) + (q % 5)))) ((((rb_it (rb_pr dl k) q (rb_it (rb_st dl) k (rb_s1 mw fr to dl hd))).2 ((5 * (q / 5)) + k)) + ((rb_it (rb_pr dl k) q (rb_it (rb_st dl) k (rb_s1 mw fr to dl hd))).2 ((5 * k) + (q % 5)))) - (dl k)) ((rb_it (rb_pr dl k) q (rb_it (rb_st dl) k (rb_s1 mw fr to dl hd))).1, (rb_it (rb_pr dl k) q (rb_it (rb_st dl) k (rb_s1 mw fr to dl hd))).2)).2 lg) H := hP
                                have hD : va_D A (rb_WC h d nb mw fr to dl hd 1 sd (rb_offer (5 * (q / 5) + q % 5) (((rb_it (rb_pr dl k) q (rb_it (rb_st dl) k (rb_s1 mw fr to dl hd))).1 ((5 * (q / 5)) + k)) + ((rb_it (rb_pr dl k) q (rb_it (rb_st dl) k (rb_s1 mw fr to dl hd))).1 ((5 * k) + (q % 5)))) ((((rb_it (rb_pr dl k) q (rb_it (rb_st dl) k (rb_s1 mw fr to dl hd))).2 ((5 * (q / 5)) + k)) + ((rb_it (rb_pr dl k) q (rb_it (rb_st dl) k (rb_s1 mw fr to dl hd))).2 ((5 * k) + (q % 5)))) - (dl k)) ((rb_it (rb_pr dl k) q (rb_it (rb_st dl) k (rb_s1 mw fr to dl hd))).1, (rb_it (rb_pr dl k) q (rb_it (rb_st dl) k (rb_s1 mw fr to dl hd))).2)).1 (rb_offer (5 * (q / 5) + q % 5) (((rb_it (rb_pr dl k) q (rb_it (rb_st dl) k (rb_s1 mw fr to dl hd))).1 ((5 * (q / 5)) + k)) + ((rb_it (rb_pr dl k) q (rb_it (rb_st dl) k (rb_s1 mw fr to dl hd))).1 ((5 * k) + (q % 5)))) ((((rb_it (rb_pr dl k) q (rb_it (rb_st dl) k (rb_s1 mw fr to dl hd))).2 ((5 * (q / 5)) + k)) + ((rb_it (rb_pr dl k) q (rb_it (rb_st dl) k (rb_s1 mw fr to dl hd))).2 ((5 * k) + (q % 5)))) - (dl k)) ((rb_it (rb_pr dl k) q (rb_it (rb_st dl) k (rb_s1 mw fr to dl hd))).1, (rb_it (rb_pr dl k) q (rb_it (rb_st dl) k (rb_s1 mw fr to dl hd))).2)).2 lg) := zDC hD
                                refine zi_iinc (k := 6) (x' := (((q + 1) : Nat) : Int)) (lv' := [(2, .int (zI (((q + 1) : Nat) : Int))), (6, .int (zI ((5 * ((k : Nat) : Int)) + (((q % 5) : Nat) : Int)))), (5, .int (zI ((5 * (((q / 5) : Nat) : Int)) + ((k : Nat) : Int)))), (4, .int (zI (((q % 5) : Nat) : Int))), (3, .int (zI (((q / 5) : Nat) : Int))), (0, .ref (h 0)), (1, .int (zI ((k : Nat) : Int)))]) hx hb dX1_measure_213 hl rfl (by omega) (by decide) rfl (fun ls hl => ?_)
                                refine lv_goto (tgt := 110) hx hb dX1_measure_216 (by decide) ?_
                                exact ih_lp4 (q + 1) (by omega) (by omega)  _ _ _  (by rw [rb_it_s _ q, rb_pr_d]; first | (rw [if_pos (by omega)]; exact hP) | (rw [if_neg (by omega)]; rw [show 5 * (q / 5) + q % 5 = q by omega] at hP; exact hP)) (zDC hD) hS (lv_sub hl [5, 6, 0] rfl)
                              · refine lv_goto (tgt := 213) hx hb dX1_measure_166 (by decide) ?_
                                refine zi_iinc (k := 6) (x' := (((q + 1) : Nat) : Int)) (lv' := [(2, .int (zI (((q + 1) : Nat) : Int))), (6, .int (zI ((5 * ((k : Nat) : Int)) + (((q % 5) : Nat) : Int)))), (5, .int (zI ((5 * (((q / 5) : Nat) : Int)) + ((k : Nat) : Int)))), (4, .int (zI (((q % 5) : Nat) : Int))), (3, .int (zI (((q / 5) : Nat) : Int))), (0, .ref (h 0)), (1, .int (zI ((k : Nat) : Int)))]) hx hb dX1_measure_213 hl rfl (by omega) (by decide) rfl (fun ls hl => ?_)
                                refine lv_goto (tgt := 110) hx hb dX1_measure_216 (by decide) ?_
                                exact ih_lp4 (q + 1) (by omega) (by omega)  _ _ _  (by rw [rb_it_s _ q, rb_pr_d]; first | (rw [if_pos (by omega)]; exact hP) | (rw [if_neg (by omega)]; rw [show 5 * (q / 5) + q % 5 = q by omega] at hP; exact hP)) (zDC hD) hS (lv_sub hl [5, 6, 0] rfl)
                      exact lp4 (25 + 1) 0 (by omega) (by omega)  _ _ _  hP (zDC hD) hS (lv_sub hl [1, 2, 0] rfl)
                exact lp3 (nb + 1) 0 (by omega) (by omega)  _ _ _  hP (zDC hD) hS (lv_sub hl [1, 0] rfl)
              · have ho := ok.2.2.2.1 i (by omega)
                have hn5 := ok.2.1
                have hho := hh i (by omega)
                have hd1 := ok.2.2.2.2 (fr i)
                have hd2 := ok.2.2.2.2 (to i)
                refine lv_aload_n hx hb dX1_measure_53 rfl (lv_at hl 0 rfl) ?_
                refine gC3 hx hb hts hown hK hP dX1_measure_54 ?_
                refine lv_iload_n hx hb dX1_measure_57 rfl (lv_at hl 1 rfl) ?_
                refine lC2 hx hb hK hP i (by omega) (by omega) dX1_measure_58 ?_
                refine lv_istore_n (lv' := [(2, .int (zI (((fr i) : Nat) : Int))), (0, .ref (h 0)), (1, .int (zI ((i : Nat) : Int)))]) hx hb dX1_measure_59 rfl hl (by decide) rfl (fun ls hl => ?_)
                refine lv_aload_n hx hb dX1_measure_60 rfl (lv_at hl 1 rfl) ?_
                refine gC4 hx hb hts hown hK hP dX1_measure_61 ?_
                refine lv_iload_n hx hb dX1_measure_64 rfl (lv_at hl 2 rfl) ?_
                refine lC3 hx hb hK hP i (by omega) (by omega) dX1_measure_65 ?_
                refine lv_istore_n (lv' := [(3, .int (zI (((to i) : Nat) : Int))), (2, .int (zI (((fr i) : Nat) : Int))), (0, .ref (h 0)), (1, .int (zI ((i : Nat) : Int)))]) hx hb dX1_measure_66 rfl hl (by decide) rfl (fun ls hl => ?_)
                refine lv_aload_n hx hb dX1_measure_67 rfl (lv_at hl 2 rfl) ?_
                refine lv_iload_n hx hb dX1_measure_68 rfl (lv_at hl 1 rfl) ?_
                refine lv_iload_n hx hb dX1_measure_69 rfl (lv_at hl 0 rfl) ?_
                refine lv_aload_n hx hb dX1_measure_70 rfl (lv_at hl 2 rfl) ?_
                refine gC5 hx hb hts hown hK hP dX1_measure_71 ?_
                refine lv_iload_n hx hb dX1_measure_74 rfl (lv_at hl 3 rfl) ?_
                refine lC4 hx hb hK hP i (by omega) (by omega) dX1_measure_75 ?_
                refine lv_aload_n hx hb dX1_measure_76 rfl (lv_at hl 2 rfl) ?_
                refine gC1 hx hb hts hown hK hP dX1_measure_77 ?_
                refine lv_iload_n hx hb dX1_measure_80 rfl (lv_at hl 1 rfl) ?_
                refine lC1 hx hb hK hP (fr i) (by omega) (by omega) dX1_measure_81 ?_
                refine lv_aload_n hx hb dX1_measure_82 rfl (lv_at hl 2 rfl) ?_
                refine gC1 hx hb hts hown hK hP dX1_measure_83 ?_
                refine lv_iload_n hx hb dX1_measure_86 rfl (lv_at hl 0 rfl) ?_
                refine lC1 hx hb hK hP (to i) (by omega) (by omega) dX1_measure_87 ?_
                refine zi_iadd hx hb dX1_measure_88 ?_
                refine zc_V ⟨hx, hb, hml, hown, hts⟩ (mC_offer l D h d nb mw fr to dl hd 1 sd (rb_it (rb_m1 fr to dl hd) i rb_s0).1 (rb_it (rb_m1 fr to dl hd) i rb_s0).2 lg (fr i) (to i) (hd i) (dl (fr i) + dl (to i)) (by omega) (by omega) ⟨by omega, by omega⟩ ⟨by omega, by omega⟩ (rb_bd_m1s ok i hi_lp2) (rb_lob_m1' ok i)) (cwV 4 hts (lw_V q84 q86 qs2 q14 q87) rfl rfl rfl (by decide +kernel) ⟨Nat.le_of_ble_eq_true rfl, Nat.le_of_ble_eq_true rfl⟩) hK hP hD hS hA (ci := 0) rfl rfl rfl rfl hl.1 rfl (Nat.le_of_ble_eq_true rfl) dX1_measure_89 ⟨Nat.le_refl 0, Nat.le_refl 0⟩ (fun u16 H locs hp hP hD hS => ?_)
                have hP : va_P D vwCl (rb_WC h d nb mw fr to dl hd 1 sd (rb_offer (5 * fr i + to i) (hd i) (dl (fr i) + dl (to i)) ((rb_it (rb_m1 fr to dl hd) i rb_s0).1, (rb_it (rb_m1 fr to dl hd) i rb_s0).2)).1 (rb_offer (5 * fr i + to i) (hd i) (dl (fr i) + dl (to i)) ((rb_it (rb_m1 fr to dl hd) i rb_s0).1, (rb_it (rb_m1 fr to dl hd) i rb_s0).2)).2 lg) H := hP
                have hD : va_D A (rb_WC h d nb mw fr to dl hd 1 sd (rb_offer (5 * fr i + to i) (hd i) (dl (fr i) + dl (to i)) ((rb_it (rb_m1 fr to dl hd) i rb_s0).1, (rb_it (rb_m1 fr to dl hd) i rb_s0).2)).1 (rb_offer (5 * fr i + to i) (hd i) (dl (fr i) + dl (to i)) ((rb_it (rb_m1 fr to dl hd) i rb_s0).1, (rb_it (rb_m1 fr to dl hd) i rb_s0).2)).2 lg) := zDC hD
                refine zi_iinc (k := 3) (x' := (((i + 1) : Nat) : Int)) (lv' := [(1, .int (zI (((i + 1) : Nat) : Int))), (3, .int (zI (((to i) : Nat) : Int))), (2, .int (zI (((fr i) : Nat) : Int))), (0, .ref (h 0))]) hx hb dX1_measure_92 hl rfl (by omega) (by decide) rfl (fun ls hl => ?_)
                refine lv_goto (tgt := 45) hx hb dX1_measure_95 (by decide) ?_
                exact ih_lp2 (i + 1) (by omega) (by omega)  _ _ _  (by rw [rb_it_s _ i, rb_m1_d]; exact hP) (zDC hD) hS (lv_sub hl [3, 0] rfl)
          exact lp2 (mw + 1) 0 (by omega) (by omega)  _ _ _  hP (zDC hD) hS (lv_sub hl [1, 0] rfl)
        · refine lv_aload_n hx hb dX1_measure_21 rfl (lv_at hl 0 rfl) ?_
          refine gC8 hx hb hts hown hK hP dX1_measure_22 ?_
          refine lv_iload_n hx hb dX1_measure_25 rfl (lv_at hl 1 rfl) ?_
          refine lv_sipush (v := zI 1000) hx hb dX1_measure_26 (by decide) ?_
          refine sC5 hx hb hK hP hD hS i (by omega) (by omega) dX1_measure_29 (fun H locs hP hD hS => ?_)
          refine lv_aload_n hx hb dX1_measure_30 rfl (lv_at hl 0 rfl) ?_
          refine gC9 hx hb hts hown hK hP dX1_measure_31 ?_
          refine lv_iload_n hx hb dX1_measure_34 rfl (lv_at hl 1 rfl) ?_
          refine lv_iconst (v := zI 0) hx hb dX1_measure_35 rfl ?_
          refine sC6 hx hb hK hP hD hS i (by omega) (by omega) dX1_measure_36 (fun H locs hP hD hS => ?_)
          refine zi_iinc (k := 1) (x' := (((i + 1) : Nat) : Int)) (lv' := [(1, .int (zI (((i + 1) : Nat) : Int))), (0, .ref (h 0))]) hx hb dX1_measure_37 hl rfl (by omega) (by decide) rfl (fun ls hl => ?_)
          refine lv_goto (tgt := 15) hx hb dX1_measure_40 (by decide) ?_
          exact ih_lp1 (i + 1) (by omega) (by omega)  _ _ _  (by rw [← rb_pre_up i, ← rb_pre_up i]; exact hP) (zDC hD) hS (lv_sub hl [1, 0] rfl)
    exact lp1 (25 + 1) 0 (by omega) (by omega)  _ _ _  (by rw [rb_pre_0, rb_pre_0]; exact hP) (zDC hD) hS (lv_sub hl [1, 0] rfl)
  · rcases hk with hk | ⟨rfl, rfl, rfl, rfl⟩
    · exact absurd hk c1
    · exact hret () _ _ _ _ dX1_measure_7 hP (zDC hD) hS trivial
end
section
set_option maxHeartbeats 4000000 in
set_option maxRecDepth 100000 in
theorem mC_can (l : Launch) (D : va_G) (h : Nat → Nat) (d : Nat → ClassId) (nb : Nat) (mw : Nat) (fr : Nat → Nat) (to : Nat → Nat) (dl : Nat → Int) (hd : Nat → Int) (kn : Int) (sd : Int) (lg : Nat → Int) (t : rb_S) (p0 : Int) (ok : rb_ok nb mw fr to dl hd) (hh : ∀ i, i < mw → hd i ≤ 1000) (hbd : rb_bd t) (hlob : ∀ j, -10000000 ≤ t.2 j ∧ t.2 j ≤ 10000000) (hp0 : zin p0) : rb_MI l yX1_canReach cX1_canReach 6 (some .boolean) 1 D (rb_TC d) [.ref (h 0), .int (zI p0)] (rb_WC h d nb mw fr to dl hd kn sd t.1 t.2 lg) (fun r _ => r = zI (rb_b (rb_can nb mw fr to dl hd t p0))) (fun _ : Unit => (rb_WC h d nb mw fr to dl hd kn sd t.1 t.2 (if p0 < rb_mx nb dl then lg else (rb_rs mw fr to hd t p0).1))) := by
  refine rb_mkI (by decide) (Nat.le_of_ble_eq_true rfl) (fun p e s m args below meth c A ls Q hx hb hml hts hown hK hP hD hS hA hl hret => ?_)
  have hown : s.vm.findClass RX1 = some m.cls := hown
  have hl : lv_has ls 6 [(0, .ref (h 0)), (1, .int (zI p0))] := hl
  have hmx := rb_mx_in' (n := nb) ok.2.2.2.2
  refine lv_aload_n hx hb dX1_canReach_0 rfl (lv_at hl 0 rfl) ?_
  refine zc_I ⟨hx, hb, hml, hown, hts⟩ (mC_gd l D h d nb mw fr to dl hd kn sd t.1 t.2 lg ok.2.1 ok.2.2.2.2) (cwV 0 hts (lw_V q92 q94 qs3 q14 q95) rfl rfl rfl (by decide +kernel) ⟨Nat.le_of_ble_eq_true rfl, Nat.le_of_ble_eq_true rfl⟩) hK hP hD hS hA (ci := 0) rfl rfl rfl rfl hl.1 rfl (Nat.le_of_ble_eq_true rfl) dX1_canReach_1 ⟨Nat.le_refl 0, Nat.le_refl 0⟩ (fun r u0 H locs hp hP hD hS => ?_)
  subst hp
  refine lv_istore_n (lv' := [(2, .int (zI (rb_mx nb dl))), (0, .ref (h 0)), (1, .int (zI p0))]) hx hb dX1_canReach_4 rfl hl (by decide) rfl (fun ls hl => ?_)
  refine lv_iload_n hx hb dX1_canReach_5 rfl (lv_at hl 2 rfl) ?_
  refine lv_iload_n hx hb dX1_canReach_6 rfl (lv_at hl 0 rfl) ?_
  refine zi_icmp_ge (tgt := 12) hx hb dX1_canReach_7 (by decide) ⟨by omega, by omega⟩ ⟨by omega, by omega⟩ (fun c2 => ?_) (fun c2 => ?_)
  · refine lv_iconst (v := zI 0) hx hb dX1_canReach_12 rfl ?_
    refine lv_istore_n (lv' := [(3, .int (zI 0)), (2, .int (zI (rb_mx nb dl))), (0, .ref (h 0)), (1, .int (zI p0))]) hx hb dX1_canReach_13 rfl hl (by decide) rfl (fun ls hl => ?_)
    have lpA : ∀ (f_lpA v : Nat), v ≤ 5 → 5 + 1 ≤ v + f_lpA → ∀  (H : Heap) (locs : List Loc) (ls : Array Slot), va_P D vwCl (rb_WC h d nb mw fr to dl hd kn sd t.1 t.2 (rb_pre v (fun _ => 0) lg)) H → va_D A (rb_WC h d nb mw fr to dl hd kn sd t.1 t.2 (rb_pre v (fun _ => 0) lg)) → va_S A s.heap H locs → lv_has ls 6 [(0, .ref (h 0)), (1, .int (zI p0)), (3, .int (zI ((v : Nat) : Int)))] → W p l e (rb_R 1) s m args below meth c H locs 0 0 Q (F0 m 14 ls []) := by
      intro f_lpA
      induction f_lpA with
      | zero => intro v h1 h2; omega
      | succ f_lpA ih_lpA =>
        intro v hi_lpA hf_lpA  H locs ls  hP hD hS hl
        refine lv_iload_n hx hb dX1_canReach_14 rfl (lv_at hl 2 rfl) ?_
        refine lv_iconst (v := zI 5) hx hb dX1_canReach_15 rfl ?_
        refine zi_icmp_ge (tgt := 32) hx hb dX1_canReach_16 (by decide) ⟨by omega, by omega⟩ ⟨by omega, by omega⟩ (fun c3 => ?_) (fun c3 => ?_)
        · have e_v : v = 5 := by omega
          subst e_v
          have hP := cC7 (lg' := rb_rz.1) hP (fun j hj => by rw [rb_pre_in _ _ hj]; rfl)
          have hD : va_D A (rb_WC h d nb mw fr to dl hd kn sd t.1 t.2 rb_rz.1) := zDC hD
          refine lv_iconst (v := zI 1) hx hb dX1_canReach_32 rfl ?_
          refine lv_istore_n (lv' := [(3, .int (zI 1)), (0, .ref (h 0)), (1, .int (zI p0))]) hx hb dX1_canReach_33 rfl hl (by decide) rfl (fun ls hl => ?_)
          refine lv_iconst (v := zI 0) hx hb dX1_canReach_34 rfl ?_
          refine lv_istore (lv' := [(4, .int (zI 0)), (3, .int (zI 1)), (0, .ref (h 0)), (1, .int (zI p0))]) hx hb dX1_canReach_35 hl (by decide) rfl (fun ls hl => ?_)
          have lpB : ∀ (f_lpB rd : Nat), rd ≤ 6 → 6 + 1 ≤ rd + f_lpB → ∀  (H : Heap) (locs : List Loc) (ls : Array Slot), va_P D vwCl (rb_WC h d nb mw fr to dl hd kn sd t.1 t.2 (rb_it (rb_rk (rb_rd mw fr to hd t p0)) rd rb_rz).1) H → va_D A (rb_WC h d nb mw fr to dl hd kn sd t.1 t.2 (rb_it (rb_rk (rb_rd mw fr to hd t p0)) rd rb_rz).1) → va_S A s.heap H locs → lv_has ls 6 [(0, .ref (h 0)), (1, .int (zI p0)), (3, .int (zI (rb_b (rb_it (rb_rk (rb_rd mw fr to hd t p0)) rd rb_rz).2))), (4, .int (zI ((rd : Nat) : Int)))] → W p l e (rb_R 1) s m args below meth c H locs 0 0 Q (F0 m 37 ls []) := by
            intro f_lpB
            induction f_lpB with
            | zero => intro rd h1 h2; omega
            | succ f_lpB ih_lpB =>
              intro rd hi_lpB hf_lpB  H locs ls  hP hD hS hl
              have hbb := rb_b_in (rb_it (rb_rk (rb_rd mw fr to hd t p0)) rd rb_rz).2
              have hlb := rb_lbd_rk ok hbd p0 rd
              refine lv_iload hx hb dX1_canReach_37 (lv_at hl 3 rfl) ?_
              refine lv_bipush (v := zI 6) hx hb dX1_canReach_39 (by decide) ?_
              refine zi_icmp_ge (tgt := 170) hx hb dX1_canReach_41 (by decide) ⟨by omega, by omega⟩ ⟨by omega, by omega⟩ (fun c4 => ?_) (fun c4 => ?_)
              · have e6 : (rb_rs mw fr to hd t p0) = (rb_it (rb_rk (rb_rd mw fr to hd t p0)) rd rb_rz) := by
                  first
                    | exact rb_stop6 hi_lpB (rb_b_f (by omega))
                    | (have e : rd = 6 := by omega
                       subst e
                       rfl)
                refine lv_iload_n hx hb dX1_canReach_170 rfl (lv_at hl 2 rfl) ?_
                refine zi_if_ne (tgt := 178) hx hb dX1_canReach_171 (by decide) ⟨by omega, by omega⟩ (fun c5 => ?_) (fun c5 => ?_)
                · refine lv_iconst (v := zI 0) hx hb dX1_canReach_178 rfl ?_
                  have hfl : (rb_it (rb_rk (rb_rd mw fr to hd t p0)) rd rb_rz).2 = true := rb_b_t (by omega)
                  exact hret _ () _ _ _ _ dX1_canReach_179 rfl (by rw [if_neg (by omega), e6]; exact hP) (zDC hD) hS (by rw [rb_can_yes (by omega), e6, hfl]; rfl)
                · refine lv_iconst (v := zI 1) hx hb dX1_canReach_174 rfl ?_
                  refine lv_goto (tgt := 179) hx hb dX1_canReach_175 (by decide) ?_
                  have hfl : (rb_it (rb_rk (rb_rd mw fr to hd t p0)) rd rb_rz).2 = false := rb_b_f (by omega)
                  exact hret _ () _ _ _ _ dX1_canReach_179 rfl (by rw [if_neg (by omega), e6]; exact hP) (zDC hD) hS (by rw [rb_can_yes (by omega), e6, hfl]; rfl)
              · refine lv_iload_n hx hb dX1_canReach_44 rfl (lv_at hl 2 rfl) ?_
                refine zi_if_eq (tgt := 170) hx hb dX1_canReach_45 (by decide) ⟨by omega, by omega⟩ (fun c6 => ?_) (fun c6 => ?_)
                · have e6 : (rb_rs mw fr to hd t p0) = (rb_it (rb_rk (rb_rd mw fr to hd t p0)) rd rb_rz) := by
                    first
                      | exact rb_stop6 hi_lpB (rb_b_f (by omega))
                      | (have e : rd = 6 := by omega
                         subst e
                         rfl)
                  refine lv_iload_n hx hb dX1_canReach_170 rfl (lv_at hl 2 rfl) ?_
                  refine zi_if_ne (tgt := 178) hx hb dX1_canReach_171 (by decide) ⟨by omega, by omega⟩ (fun c7 => ?_) (fun c7 => ?_)
                  · refine lv_iconst (v := zI 0) hx hb dX1_canReach_178 rfl ?_
                    have hfl : (rb_it (rb_rk (rb_rd mw fr to hd t p0)) rd rb_rz).2 = true := rb_b_t (by omega)
                    exact hret _ () _ _ _ _ dX1_canReach_179 rfl (by rw [if_neg (by omega), e6]; exact hP) (zDC hD) hS (by rw [rb_can_yes (by omega), e6, hfl]; rfl)
                  · refine lv_iconst (v := zI 1) hx hb dX1_canReach_174 rfl ?_
                    refine lv_goto (tgt := 179) hx hb dX1_canReach_175 (by decide) ?_
                    have hfl : (rb_it (rb_rk (rb_rd mw fr to hd t p0)) rd rb_rz).2 = false := rb_b_f (by omega)
                    exact hret _ () _ _ _ _ dX1_canReach_179 rfl (by rw [if_neg (by omega), e6]; exact hP) (zDC hD) hS (by rw [rb_can_yes (by omega), e6, hfl]; rfl)
                · have hlw : rb_b (rb_it (rb_rk (rb_rd mw fr to hd t p0)) rd rb_rz).2 ≠ 0 := by omega
                  have hrd6 : rd < 6 := by omega
                  have hmw := ok.2.2.1
                  have hn5 := ok.2.1
                  refine lv_iconst (v := zI 0) hx hb dX1_canReach_48 rfl ?_
                  refine lv_istore_n (lv' := [(3, .int (zI 0)), (0, .ref (h 0)), (1, .int (zI p0)), (4, .int (zI ((rd : Nat) : Int)))]) hx hb dX1_canReach_49 rfl hl (by decide) rfl (fun ls hl => ?_)
                  refine lv_iconst (v := zI 0) hx hb dX1_canReach_50 rfl ?_
                  refine lv_istore (lv' := [(5, .int (zI 0)), (3, .int (zI 0)), (0, .ref (h 0)), (1, .int (zI p0)), (4, .int (zI ((rd : Nat) : Int)))]) hx hb dX1_canReach_51 hl (by decide) rfl (fun ls hl => ?_)
                  have lpC : ∀ (f_lpC i : Nat), i ≤ mw → mw + 1 ≤ i + f_lpC → ∀  (H : Heap) (locs : List Loc) (ls : Array Slot), va_P D vwCl (rb_WC h d nb mw fr to dl hd kn sd t.1 t.2 (rb_it (rb_r1 fr to hd) i ((rb_it (rb_rk (rb_rd mw fr to hd t p0)) rd rb_rz).1, false)).1) H → va_D A (rb_WC h d nb mw fr to dl hd kn sd t.1 t.2 (rb_it (rb_r1 fr to hd) i ((rb_it (rb_rk (rb_rd mw fr to hd t p0)) rd rb_rz).1, false)).1) → va_S A s.heap H locs → lv_has ls 6 [(0, .ref (h 0)), (1, .int (zI p0)), (3, .int (zI (rb_b (rb_it (rb_r1 fr to hd) i ((rb_it (rb_rk (rb_rd mw fr to hd t p0)) rd rb_rz).1, false)).2))), (4, .int (zI ((rd : Nat) : Int))), (5, .int (zI ((i : Nat) : Int)))] → W p l e (rb_R 1) s m args below meth c H locs 0 0 Q (F0 m 53 ls []) := by
                    intro f_lpC
                    induction f_lpC with
                    | zero => intro i h1 h2; omega
                    | succ f_lpC ih_lpC =>
                      intro i hi_lpC hf_lpC  H locs ls  hP hD hS hl
                      have hlc := rb_lbd_r1 ok (s := ((rb_it (rb_rk (rb_rd mw fr to hd t p0)) rd rb_rz).1, false)) hlb (by omega) i hi_lpC
                      have hbc := rb_b_in (rb_it (rb_r1 fr to hd) i ((rb_it (rb_rk (rb_rd mw fr to hd t p0)) rd rb_rz).1, false)).2
                      refine lv_iload hx hb dX1_canReach_53 (lv_at hl 4 rfl) ?_
                      refine lv_aload_n hx hb dX1_canReach_55 rfl (lv_at hl 0 rfl) ?_
                      refine gC2 hx hb hts hown hK hP dX1_canReach_56 ?_
                      refine zi_icmp_ge (tgt := 98) hx hb dX1_canReach_59 (by decide) ⟨by omega, by omega⟩ ⟨by omega, by omega⟩ (fun c8 => ?_) (fun c8 => ?_)
                      · have e_i : mw = i := by omega
                        subst e_i
                        refine lv_iconst (v := zI 0) hx hb dX1_canReach_98 rfl ?_
                        refine lv_istore (lv' := [(5, .int (zI 0)), (0, .ref (h 0)), (1, .int (zI p0)), (3, .int (zI (rb_b (rb_it (rb_r1 fr to hd) mw ((rb_it (rb_rk (rb_rd mw fr to hd t p0)) rd rb_rz).1, false)).2))), (4, .int (zI ((rd : Nat) : Int)))]) hx hb dX1_canReach_99 hl (by decide) rfl (fun ls hl => ?_)
                        have lpD : ∀ (f_lpD q : Nat), q ≤ 25 → 25 + 1 ≤ q + f_lpD → ∀  (H : Heap) (locs : List Loc) (ls : Array Slot), va_P D vwCl (rb_WC h d nb mw fr to dl hd kn sd t.1 t.2 (rb_it (rb_r2 t p0) q (rb_it (rb_r1 fr to hd) mw ((rb_it (rb_rk (rb_rd mw fr to hd t p0)) rd rb_rz).1, false))).1) H → va_D A (rb_WC h d nb mw fr to dl hd kn sd t.1 t.2 (rb_it (rb_r2 t p0) q (rb_it (rb_r1 fr to hd) mw ((rb_it (rb_rk (rb_rd mw fr to hd t p0)) rd rb_rz).1, false))).1) → va_S A s.heap H locs → lv_has ls 6 [(0, .ref (h 0)), (1, .int (zI p0)), (3, .int (zI (rb_b (rb_it (rb_r2 t p0) q (rb_it (rb_r1 fr to hd) mw ((rb_it (rb_rk (rb_rd mw fr to hd t p0)) rd rb_rz).1, false))).2))), (4, .int (zI ((rd : Nat) : Int))), (5, .int (zI ((q : Nat) : Int)))] → W p l e (rb_R 1) s m args below meth c H locs 0 0 Q (F0 m 101 ls []) := by
                          intro f_lpD
                          induction f_lpD with
                          | zero => intro q h1 h2; omega
                          | succ f_lpD ih_lpD =>
                            intro q hi_lpD hf_lpD  H locs ls  hP hD hS hl
                            have hld := rb_lbd_r2 hbd p0 hlc (by omega) q
                            have hbc := rb_b_in (rb_it (rb_r2 t p0) q (rb_it (rb_r1 fr to hd) mw ((rb_it (rb_rk (rb_rd mw fr to hd t p0)) rd rb_rz).1, false))).2
                            refine lv_iload hx hb dX1_canReach_101 (lv_at hl 4 rfl) ?_
                            refine lv_bipush (v := zI 25) hx hb dX1_canReach_103 (by decide) ?_
                            refine zi_icmp_ge (tgt := 164) hx hb dX1_canReach_105 (by decide) ⟨by omega, by omega⟩ ⟨by omega, by omega⟩ (fun c9 => ?_) (fun c9 => ?_)
                            · have e_q : q = 25 := by omega
                              subst e_q
                              refine zi_iinc (k := 3) (x' := (((rd + 1) : Nat) : Int)) (lv' := [(4, .int (zI (((rd + 1) : Nat) : Int))), (0, .ref (h 0)), (1, .int (zI p0)), (3, .int (zI (rb_b (rb_it (rb_r2 t p0) 25 (rb_it (rb_r1 fr to hd) mw ((rb_it (rb_rk (rb_rd mw fr to hd t p0)) rd rb_rz).1, false))).2))), (5, .int (zI ((25 : Nat) : Int)))]) hx hb dX1_canReach_164 hl rfl (by omega) (by decide) rfl (fun ls hl => ?_)
                              refine lv_goto (tgt := 37) hx hb dX1_canReach_167 (by decide) ?_
                              exact ih_lpB (rd + 1) (by omega) (by omega)  _ _ _  (by rw [rb_it_s _ rd, rb_rk_d, if_pos (rb_b_t hlw), rb_rd_d]; exact hP) (zDC hD) hS (by rw [rb_it_s _ rd, rb_rk_d, if_pos (rb_b_t hlw), rb_rd_d]; exact lv_sub hl [1, 2, 3, 0] rfl)
                            · have hq25 : q < 25 := by omega
                              refine lv_aload_n hx hb dX1_canReach_108 rfl (lv_at hl 0 rfl) ?_
                              refine gC8 hx hb hts hown hK hP dX1_canReach_109 ?_
                              refine lv_iload hx hb dX1_canReach_112 (lv_at hl 4 rfl) ?_
                              refine lC5 hx hb hK hP q (by omega) (by omega) dX1_canReach_114 ?_
                              have b10 := hbd q
                              refine lv_sipush (v := zI 1000) hx hb dX1_canReach_115 (by decide) ?_
                              refine zi_icmp_ge (tgt := 158) hx hb dX1_canReach_118 (by decide) ⟨by omega, by omega⟩ ⟨by omega, by omega⟩ (fun c11 => ?_) (fun c11 => ?_)
                              · refine zi_iinc (k := 4) (x' := (((q + 1) : Nat) : Int)) (lv' := [(5, .int (zI (((q + 1) : Nat) : Int))), (0, .ref (h 0)), (1, .int (zI p0)), (3, .int (zI (rb_b (rb_it (rb_r2 t p0) q (rb_it (rb_r1 fr to hd) mw ((rb_it (rb_rk (rb_rd mw fr to hd t p0)) rd rb_rz).1, false))).2))), (4, .int (zI ((rd : Nat) : Int)))]) hx hb dX1_canReach_158 hl rfl (by omega) (by decide) rfl (fun ls hl => ?_)
                                refine lv_goto (tgt := 101) hx hb dX1_canReach_161 (by decide) ?_
                                exact ih_lpD (q + 1) (by omega) (by omega)  _ _ _  (by rw [rb_it_s _ q, rb_r2_d]; first | (rw [if_neg (by omega)]; exact hP) | (rw [if_pos (by omega)]; exact hP) | (rw [if_pos (by omega), rb_low_d, if_pos (by omega)]; exact hP) | (rw [if_pos (by omega), rb_low_d, if_neg (by omega)]; exact hP)) (zDC hD) hS (by rw [rb_it_s _ q, rb_r2_d]; first | (rw [if_neg (by omega)]; exact lv_sub hl [1, 2, 3, 4, 0] rfl) | (rw [if_pos (by omega)]; exact lv_sub hl [1, 2, 3, 4, 0] rfl) | (rw [if_pos (by omega), rb_low_d, if_pos (by omega)]; exact lv_sub hl [1, 2, 3, 4, 0] rfl) | (rw [if_pos (by omega), rb_low_d, if_neg (by omega)]; exact lv_sub hl [1, 2, 3, 4, 0] rfl))
                              · refine lv_aload_n hx hb dX1_canReach_121 rfl (lv_at hl 0 rfl) ?_
                                refine gC9 hx hb hts hown hK hP dX1_canReach_122 ?_
                                refine lv_iload hx hb dX1_canReach_125 (lv_at hl 4 rfl) ?_
                                refine lC6 hx hb hK hP q (by omega) (by omega) dX1_canReach_127 ?_
                                have b12 := hlob q
                                refine lv_iload_n hx hb dX1_canReach_128 rfl (lv_at hl 1 rfl) ?_
                                refine zi_icmp_le (tgt := 158) hx hb dX1_canReach_129 (by decide) ⟨by omega, by omega⟩ ⟨by omega, by omega⟩ (fun c13 => ?_) (fun c13 => ?_)
                                · refine zi_iinc (k := 4) (x' := (((q + 1) : Nat) : Int)) (lv' := [(5, .int (zI (((q + 1) : Nat) : Int))), (0, .ref (h 0)), (1, .int (zI p0)), (3, .int (zI (rb_b (rb_it (rb_r2 t p0) q (rb_it (rb_r1 fr to hd) mw ((rb_it (rb_rk (rb_rd mw fr to hd t p0)) rd rb_rz).1, false))).2))), (4, .int (zI ((rd : Nat) : Int)))]) hx hb dX1_canReach_158 hl rfl (by omega) (by decide) rfl (fun ls hl => ?_)
                                  refine lv_goto (tgt := 101) hx hb dX1_canReach_161 (by decide) ?_
                                  exact ih_lpD (q + 1) (by omega) (by omega)  _ _ _  (by rw [rb_it_s _ q, rb_r2_d]; first | (rw [if_neg (by omega)]; exact hP) | (rw [if_pos (by omega)]; exact hP) | (rw [if_pos (by omega), rb_low_d, if_pos (by omega)]; exact hP) | (rw [if_pos (by omega), rb_low_d, if_neg (by omega)]; exact hP)) (zDC hD) hS (by rw [rb_it_s _ q, rb_r2_d]; first | (rw [if_neg (by omega)]; exact lv_sub hl [1, 2, 3, 4, 0] rfl) | (rw [if_pos (by omega)]; exact lv_sub hl [1, 2, 3, 4, 0] rfl) | (rw [if_pos (by omega), rb_low_d, if_pos (by omega)]; exact lv_sub hl [1, 2, 3, 4, 0] rfl) | (rw [if_pos (by omega), rb_low_d, if_neg (by omega)]; exact lv_sub hl [1, 2, 3, 4, 0] rfl))
                                · refine lv_aload_n hx hb dX1_canReach_132 rfl (lv_at hl 0 rfl) ?_
                                  refine lv_iload hx hb dX1_canReach_133 (lv_at hl 4 rfl) ?_
                                  refine lv_iconst (v := zI 5) hx hb dX1_canReach_135 rfl ?_
                                  refine zi_div5 hx hb q (by omega) (by omega) dX1_canReach_136 ?_
                                  refine lv_iload hx hb dX1_canReach_137 (lv_at hl 4 rfl) ?_
                                  refine lv_iconst (v := zI 5) hx hb dX1_canReach_139 rfl ?_
                                  refine zi_rem5 hx hb q (by omega) (by omega) dX1_canReach_140 ?_
                                  refine lv_aload_n hx hb dX1_canReach_141 rfl (lv_at hl 0 rfl) ?_
                                  refine gC8 hx hb hts hown hK hP dX1_canReach_142 ?_
                                  refine lv_iload hx hb dX1_canReach_145 (lv_at hl 4 rfl) ?_
                                  refine lC5 hx hb hK hP q (by omega) (by omega) dX1_canReach_147 ?_
                                  have b14 := hbd q
                                  refine lv_iconst (v := zI 1) hx hb dX1_canReach_148 rfl ?_
                                  refine zi_isub hx hb dX1_canReach_149 ?_
                                  refine zc_I ⟨hx, hb, hml, hown, hts⟩ (mC_lower l D h d nb mw fr to dl hd kn sd t.1 t.2 (rb_it (rb_r2 t p0) q (rb_it (rb_r1 fr to hd) mw ((rb_it (rb_rk (rb_rd mw fr to hd t p0)) rd rb_rz).1, false))).1 (q / 5) (q % 5) ((t.1 q) - 1) (rb_it (rb_r2 t p0) q (rb_it (rb_r1 fr to hd) mw ((rb_it (rb_rk (rb_rd mw fr to hd t p0)) rd rb_rz).1, false))).2 (by omega) (by omega) ⟨by omega, by omega⟩ (fun j => ⟨by have := hld j; omega, by have := hld j; omega⟩)) (cwV 3 hts (lw_V q105 q107 qs5 q14 q108) rfl rfl rfl (by decide +kernel) ⟨Nat.le_of_ble_eq_true rfl, Nat.le_of_ble_eq_true rfl⟩) hK hP hD hS hA (ci := 0) rfl rfl rfl rfl hl.1 rfl (Nat.le_of_ble_eq_true rfl) dX1_canReach_150 ⟨Nat.le_refl 0, Nat.le_refl 0⟩ (fun r u14 H locs hp hP hD hS => ?_)
                                  subst hp
                                  have hP : va_P D vwCl (rb_WC h d nb mw fr to dl hd kn sd t.1 t.2 (rb_low (q / 5) (q % 5) ((t.1 q) - 1) (rb_it (rb_r2 t p0) q (rb_it (rb_r1 fr to hd) mw ((rb_it (rb_rk (rb_rd mw fr to hd t p0)) rd rb_rz).1, false)))).1) H := hP
                                  have hD : va_D A (rb_WC h d nb mw fr to dl hd kn sd t.1 t.2 (rb_low (q / 5) (q % 5) ((t.1 q) - 1) (rb_it (rb_r2 t p0) q (rb_it (rb_r1 fr to hd) mw ((rb_it (rb_rk (rb_rd mw fr to hd t p0)) rd rb_rz).1, false)))).1) := zDC hD
                                  refine zi_if_eq (tgt := 158) hx hb dX1_canReach_153 (by decide) ⟨by omega, by omega⟩ (fun c16 => ?_) (fun c16 => ?_)
                                  · refine zi_iinc (k := 4) (x' := (((q + 1) : Nat) : Int)) (lv' := [(5, .int (zI (((q + 1) : Nat) : Int))), (0, .ref (h 0)), (1, .int (zI p0)), (3, .int (zI (rb_b (rb_it (rb_r2 t p0) q (rb_it (rb_r1 fr to hd) mw ((rb_it (rb_rk (rb_rd mw fr to hd t p0)) rd rb_rz).1, false))).2))), (4, .int (zI ((rd : Nat) : Int)))]) hx hb dX1_canReach_158 hl rfl (by omega) (by decide) rfl (fun ls hl => ?_)
                                    refine lv_goto (tgt := 101) hx hb dX1_canReach_161 (by decide) ?_
                                    exact ih_lpD (q + 1) (by omega) (by omega)  _ _ _  (by rw [rb_it_s _ q, rb_r2_d]; first | (rw [if_neg (by omega)]; exact hP) | (rw [if_pos (by omega)]; exact hP) | (rw [if_pos (by omega), rb_low_d, if_pos (by omega)]; exact hP) | (rw [if_pos (by omega), rb_low_d, if_neg (by omega)]; exact hP)) (zDC hD) hS (by rw [rb_it_s _ q, rb_r2_d]; first | (rw [if_neg (by omega)]; exact lv_sub hl [1, 2, 3, 4, 0] rfl) | (rw [if_pos (by omega)]; exact lv_sub hl [1, 2, 3, 4, 0] rfl) | (rw [if_pos (by omega), rb_low_d, if_pos (by omega)]; exact lv_sub hl [1, 2, 3, 4, 0] rfl) | (rw [if_pos (by omega), rb_low_d, if_neg (by omega)]; exact lv_sub hl [1, 2, 3, 4, 0] rfl))
                                  · refine lv_iconst (v := zI 1) hx hb dX1_canReach_156 rfl ?_
                                    refine lv_istore_n (lv' := [(3, .int (zI 1)), (0, .ref (h 0)), (1, .int (zI p0)), (4, .int (zI ((rd : Nat) : Int))), (5, .int (zI ((q : Nat) : Int)))]) hx hb dX1_canReach_157 rfl hl (by decide) rfl (fun ls hl => ?_)
                                    refine zi_iinc (k := 4) (x' := (((q + 1) : Nat) : Int)) (lv' := [(5, .int (zI (((q + 1) : Nat) : Int))), (3, .int (zI 1)), (0, .ref (h 0)), (1, .int (zI p0)), (4, .int (zI ((rd : Nat) : Int)))]) hx hb dX1_canReach_158 hl rfl (by omega) (by decide) rfl (fun ls hl => ?_)
                                    refine lv_goto (tgt := 101) hx hb dX1_canReach_161 (by decide) ?_
                                    exact ih_lpD (q + 1) (by omega) (by omega)  _ _ _  (by rw [rb_it_s _ q, rb_r2_d]; first | (rw [if_neg (by omega)]; exact hP) | (rw [if_pos (by omega)]; exact hP) | (rw [if_pos (by omega), rb_low_d, if_pos (by omega)]; exact hP) | (rw [if_pos (by omega), rb_low_d, if_neg (by omega)]; exact hP)) (zDC hD) hS (by rw [rb_it_s _ q, rb_r2_d]; first | (rw [if_neg (by omega)]; exact lv_sub hl [2, 3, 1, 4, 0] rfl) | (rw [if_pos (by omega)]; exact lv_sub hl [2, 3, 1, 4, 0] rfl) | (rw [if_pos (by omega), rb_low_d, if_pos (by omega)]; exact lv_sub hl [2, 3, 1, 4, 0] rfl) | (rw [if_pos (by omega), rb_low_d, if_neg (by omega)]; exact lv_sub hl [2, 3, 1, 4, 0] rfl))
                        exact lpD (25 + 1) 0 (by omega) (by omega)  _ _ _  hP (zDC hD) hS (lv_sub hl [1, 2, 3, 4, 0] rfl)
                      · have ho := ok.2.2.2.1 i (by omega)
                        have hho := hh i (by omega)
                        refine lv_aload_n hx hb dX1_canReach_62 rfl (lv_at hl 0 rfl) ?_
                        refine lv_aload_n hx hb dX1_canReach_63 rfl (lv_at hl 0 rfl) ?_
                        refine gC3 hx hb hts hown hK hP dX1_canReach_64 ?_
                        refine lv_iload hx hb dX1_canReach_67 (lv_at hl 4 rfl) ?_
                        refine lC2 hx hb hK hP i (by omega) (by omega) dX1_canReach_69 ?_
                        refine lv_aload_n hx hb dX1_canReach_70 rfl (lv_at hl 0 rfl) ?_
                        refine gC4 hx hb hts hown hK hP dX1_canReach_71 ?_
                        refine lv_iload hx hb dX1_canReach_74 (lv_at hl 4 rfl) ?_
                        refine lC3 hx hb hK hP i (by omega) (by omega) dX1_canReach_76 ?_
                        refine lv_aload_n hx hb dX1_canReach_77 rfl (lv_at hl 0 rfl) ?_
                        refine gC5 hx hb hts hown hK hP dX1_canReach_78 ?_
                        refine lv_iload hx hb dX1_canReach_81 (lv_at hl 4 rfl) ?_
                        refine lC4 hx hb hK hP i (by omega) (by omega) dX1_canReach_83 ?_
                        refine zc_I ⟨hx, hb, hml, hown, hts⟩ (mC_lower l D h d nb mw fr to dl hd kn sd t.1 t.2 (rb_it (rb_r1 fr to hd) i ((rb_it (rb_rk (rb_rd mw fr to hd t p0)) rd rb_rz).1, false)).1 (fr i) (to i) (hd i) (rb_it (rb_r1 fr to hd) i ((rb_it (rb_rk (rb_rd mw fr to hd t p0)) rd rb_rz).1, false)).2 (by omega) (by omega) ⟨by omega, by omega⟩ (fun j => ⟨by have := hlc j; omega, by have := hlc j; omega⟩)) (cwV 3 hts (lw_V q105 q107 qs5 q14 q108) rfl rfl rfl (by decide +kernel) ⟨Nat.le_of_ble_eq_true rfl, Nat.le_of_ble_eq_true rfl⟩) hK hP hD hS hA (ci := 0) rfl rfl rfl rfl hl.1 rfl (Nat.le_of_ble_eq_true rfl) dX1_canReach_84 ⟨Nat.le_refl 0, Nat.le_refl 0⟩ (fun r u16 H locs hp hP hD hS => ?_)
                        subst hp
                        have hP : va_P D vwCl (rb_WC h d nb mw fr to dl hd kn sd t.1 t.2 (rb_low (fr i) (to i) (hd i) (rb_it (rb_r1 fr to hd) i ((rb_it (rb_rk (rb_rd mw fr to hd t p0)) rd rb_rz).1, false))).1) H := hP
                        have hD : va_D A (rb_WC h d nb mw fr to dl hd kn sd t.1 t.2 (rb_low (fr i) (to i) (hd i) (rb_it (rb_r1 fr to hd) i ((rb_it (rb_rk (rb_rd mw fr to hd t p0)) rd rb_rz).1, false))).1) := zDC hD
                        refine zi_if_eq (tgt := 92) hx hb dX1_canReach_87 (by decide) ⟨by omega, by omega⟩ (fun c18 => ?_) (fun c18 => ?_)
                        · refine zi_iinc (k := 4) (x' := (((i + 1) : Nat) : Int)) (lv' := [(5, .int (zI (((i + 1) : Nat) : Int))), (0, .ref (h 0)), (1, .int (zI p0)), (3, .int (zI (rb_b (rb_it (rb_r1 fr to hd) i ((rb_it (rb_rk (rb_rd mw fr to hd t p0)) rd rb_rz).1, false)).2))), (4, .int (zI ((rd : Nat) : Int)))]) hx hb dX1_canReach_92 hl rfl (by omega) (by decide) rfl (fun ls hl => ?_)
                          refine lv_goto (tgt := 53) hx hb dX1_canReach_95 (by decide) ?_
                          exact ih_lpC (i + 1) (by omega) (by omega)  _ _ _  (by rw [rb_it_s _ i, rb_r1_d]; exact hP) (zDC hD) hS (by rw [rb_it_s _ i, rb_r1_d, rb_low_d]; first | (rw [if_pos (by omega)]; exact lv_sub hl [1, 2, 3, 4, 0] rfl) | (rw [if_neg (by omega)]; exact lv_sub hl [1, 2, 3, 4, 0] rfl))
                        · refine lv_iconst (v := zI 1) hx hb dX1_canReach_90 rfl ?_
                          refine lv_istore_n (lv' := [(3, .int (zI 1)), (0, .ref (h 0)), (1, .int (zI p0)), (4, .int (zI ((rd : Nat) : Int))), (5, .int (zI ((i : Nat) : Int)))]) hx hb dX1_canReach_91 rfl hl (by decide) rfl (fun ls hl => ?_)
                          refine zi_iinc (k := 4) (x' := (((i + 1) : Nat) : Int)) (lv' := [(5, .int (zI (((i + 1) : Nat) : Int))), (3, .int (zI 1)), (0, .ref (h 0)), (1, .int (zI p0)), (4, .int (zI ((rd : Nat) : Int)))]) hx hb dX1_canReach_92 hl rfl (by omega) (by decide) rfl (fun ls hl => ?_)
                          refine lv_goto (tgt := 53) hx hb dX1_canReach_95 (by decide) ?_
                          exact ih_lpC (i + 1) (by omega) (by omega)  _ _ _  (by rw [rb_it_s _ i, rb_r1_d]; exact hP) (zDC hD) hS (by rw [rb_it_s _ i, rb_r1_d, rb_low_d]; first | (rw [if_pos (by omega)]; exact lv_sub hl [2, 3, 1, 4, 0] rfl) | (rw [if_neg (by omega)]; exact lv_sub hl [2, 3, 1, 4, 0] rfl))
                  exact lpC (mw + 1) 0 (by omega) (by omega)  _ _ _  hP (zDC hD) hS (lv_sub hl [2, 3, 1, 4, 0] rfl)
          exact lpB (6 + 1) 0 (by omega) (by omega)  _ _ _  hP (zDC hD) hS (lv_sub hl [2, 3, 1, 0] rfl)
        · refine lv_aload_n hx hb dX1_canReach_19 rfl (lv_at hl 0 rfl) ?_
          refine gC10 hx hb hts hown hK hP dX1_canReach_20 ?_
          refine lv_iload_n hx hb dX1_canReach_23 rfl (lv_at hl 2 rfl) ?_
          refine lv_iconst (v := zI 0) hx hb dX1_canReach_24 rfl ?_
          refine sC7 hx hb hK hP hD hS v (by omega) (by omega) dX1_canReach_25 (fun H locs hP hD hS => ?_)
          refine zi_iinc (k := 2) (x' := (((v + 1) : Nat) : Int)) (lv' := [(3, .int (zI (((v + 1) : Nat) : Int))), (0, .ref (h 0)), (1, .int (zI p0))]) hx hb dX1_canReach_26 hl rfl (by omega) (by decide) rfl (fun ls hl => ?_)
          refine lv_goto (tgt := 14) hx hb dX1_canReach_29 (by decide) ?_
          exact ih_lpA (v + 1) (by omega) (by omega)  _ _ _  (by rw [← rb_pre_up v]; exact hP) (zDC hD) hS (lv_sub hl [1, 2, 0] rfl)
    exact lpA (5 + 1) 0 (by omega) (by omega)  _ _ _  (by rw [rb_pre_0]; exact hP) (zDC hD) hS (lv_sub hl [2, 3, 0] rfl)
  · refine lv_iconst (v := zI 0) hx hb dX1_canReach_10 rfl ?_
    exact hret _ () _ _ _ _ dX1_canReach_11 rfl (by rw [if_pos (by omega)]; exact hP) (zDC hD) hS (by rw [rb_can_no (by omega)]; rfl)
end
section
/-! small words for the calls' answers -/
theorem rb_isb_spec (nb : Nat) (v : Int) : (rb_isb nb v = 1 ∧ 0 ≤ v ∧ v < (nb : Int)) ∨ (rb_isb nb v = 0 ∧ ¬ (0 ≤ v ∧ v < (nb : Int))) := by
  unfold rb_isb
  by_cases h : 0 ≤ v ∧ v < (nb : Int)
  · rw [if_pos h]; exact Or.inl ⟨rfl, h⟩
  · rw [if_neg h]; exact Or.inr ⟨rfl, h⟩
abbrev rb_T5 : Type := Int × Int × (Nat → Int) × (Nat → Int) × (Nat → Int)
theorem rb_per_ge (n : Nat) (dl : Nat → Int) (t : rb_S) : rb_mx n dl ≤ rb_per n dl t := (rb_per_spec t (rb_mx n dl) 25).1
theorem rb_best_ge (n m : Nat) (fr to : Nat → Nat) (dl hd : Nat → Int) (t : rb_S) : rb_mx n dl ≤ rb_best n m fr to dl hd t := by
  unfold rb_best
  by_cases h : rb_can n m fr to dl hd t (rb_mx n dl) = true
  · rw [if_pos h]; exact Int.le_refl _
  · rw [if_neg h]
    refine rb_it_inv (f := rb_be1 n m fr to dl hd t) (fun _ b => rb_mx n dl ≤ b) (rb_per_ge n dl t) (fun i b hb => ?_) 25
    rw [rb_be1_d]
    split
    · rename_i hc
      apply Classical.byContradiction
      intro hlt
      have := rb_can_no (n := n) (m := m) (fr := fr) (to := to) (dl := dl) (hd := hd) (t := t) (p := t.2 i) (by omega)
      rw [this] at hc
      exact Bool.noConfusion hc.2.2
    · exact hb
theorem rb_best_b {n m : Nat} {fr to : Nat → Nat} {dl hd : Nat → Int} {t : rb_S} (hdl : ∀ v, 0 ≤ dl v ∧ dl v ≤ 9) (h : ∀ j, -10000000 ≤ t.2 j ∧ t.2 j ≤ 10000000) : 0 ≤ rb_best n m fr to dl hd t ∧ rb_best n m fr to dl hd t ≤ 10000000 := by
  have h0 := rb_mx_in' (n := n) hdl
  have h1 := rb_best_ge n m fr to dl hd t
  refine ⟨by omega, ?_⟩
  unfold rb_best
  split
  · omega
  · have h2 := rb_per_in h0 h 25
    have h3 : -10000000 ≤ rb_per n dl t ∧ rb_per n dl t ≤ 10000000 := by
      unfold rb_per
      omega
    exact (rb_be_in h3 h 25).2
def rb_gw (fr to : Nat → Nat) (g : Nat → Int) (i : Nat) (a : Int) : Int := a + (g (to i) - g (fr i))
theorem rb_gw_d (fr to : Nat → Nat) (g : Nat → Int) (i : Nat) (a : Int) : rb_gw fr to g i a = a + (g (to i) - g (fr i)) := rfl
theorem rb_ap_0 (fr to : Nat → Nat) (hd g : Nat → Int) : rb_ap 0 fr to hd g = hd := by
  funext j
  unfold rb_ap
  rw [if_neg (by omega)]
theorem rb_ap_up (i : Nat) (fr to : Nat → Nat) (hd g : Nat → Int) : rb_up (rb_ap i fr to hd g) i (rb_ap i fr to hd g i + (g (to i) - g (fr i))) = rb_ap (i + 1) fr to hd g := by
  funext j
  unfold rb_up rb_ap
  by_cases e : j = i
  · subst e
    rw [if_pos rfl, if_neg (by omega), if_pos (by omega)]
  · rw [if_neg e]
    by_cases h : j < i
    · rw [if_pos h, if_pos (by omega)]
    · rw [if_neg h, if_neg (by omega)]
theorem rb_ct_0 {α : Type} (i : Nat) (f : Nat → α) : rb_ct i i f = f := by
  funext j
  unfold rb_ct
  rw [if_neg (by omega)]
theorem rb_ct_hi {α : Type} (k i : Nat) (f : Nat → α) : rb_ct k i f (k + 1) = f (k + 1) := by
  unfold rb_ct
  rw [if_neg (by omega)]
theorem rb_ct_up {α : Type} {k i : Nat} (h : i ≤ k) (f : Nat → α) : rb_up (rb_ct k i f) k (rb_ct k i f (k + 1)) = rb_ct (k + 1) i f := by
  funext j
  rw [rb_ct_hi]
  unfold rb_up rb_ct
  by_cases e : j = k
  · subst e
    rw [if_pos rfl, if_pos (by omega)]
  · rw [if_neg e]
    by_cases h2 : i ≤ j ∧ j < k
    · rw [if_pos h2, if_pos (by omega)]
    · rw [if_neg h2, if_neg (by omega)]
/-- answers of the calls, as numbers -/
def rb_dv (nb : Nat) (v x : Int) : Bool := decide (0 ≤ v ∧ v < (nb : Int) ∧ 0 ≤ x ∧ x ≤ 9)
theorem rb_dv_t {nb : Nat} {v x : Int} (h : 0 ≤ v ∧ v < (nb : Int) ∧ 0 ≤ x ∧ x ≤ 9) : rb_dv nb v x = true := decide_eq_true h
theorem rb_dv_f {nb : Nat} {v x : Int} (h : ¬ (0 ≤ v ∧ v < (nb : Int) ∧ 0 ≤ x ∧ x ≤ 9)) : rb_dv nb v x = false := decide_eq_false h
def rb_sel {α : Type} (b : Bool) (x y : α) : α := match b with
  | true => x
  | false => y
theorem rb_sel_t {α : Type} (x y : α) : rb_sel true x y = x := rfl
theorem rb_sel_f {α : Type} (x y : α) : rb_sel false x y = y := rfl
def rb_wv (nb mw : Nat) (u v r : Int) : Bool := decide (mw < 12 ∧ 0 ≤ u ∧ u < (nb : Int) ∧ 0 ≤ v ∧ v < (nb : Int) ∧ 0 ≤ r ∧ r ≤ 3)
theorem rb_wv_t {nb mw : Nat} {u v r : Int} (h : mw < 12 ∧ 0 ≤ u ∧ u < (nb : Int) ∧ 0 ≤ v ∧ v < (nb : Int) ∧ 0 ≤ r ∧ r ≤ 3) : rb_wv nb mw u v r = true := decide_eq_true h
theorem rb_wv_f {nb mw : Nat} {u v r : Int} (h : ¬ (mw < 12 ∧ 0 ≤ u ∧ u < (nb : Int) ∧ 0 ≤ v ∧ v < (nb : Int) ∧ 0 ≤ r ∧ r ≤ 3)) : rb_wv nb mw u v r = false := decide_eq_false h
def rb_cv (mw : Nat) (i : Int) : Bool := decide (0 ≤ i ∧ i < (mw : Int))
theorem rb_cv_t {mw : Nat} {i : Int} (h : 0 ≤ i ∧ i < (mw : Int)) : rb_cv mw i = true := decide_eq_true h
theorem rb_cv_f {mw : Nat} {i : Int} (h : ¬ (0 ≤ i ∧ i < (mw : Int))) : rb_cv mw i = false := decide_eq_false h
def rb_lagA (nb mw : Nat) (fr to : Nat → Nat) (dl hd : Nat → Int) (v : Int) : Int := if 0 ≤ v ∧ v < (nb : Int) then (if rb_sdv nb (rb_ms nb mw fr to dl hd) = 0 then -100 else rb_G nb mw fr to dl hd v.toNat) else -101
def rb_fewA (nb mw : Nat) (fr to : Nat → Nat) (dl hd : Nat → Int) (u v : Int) : Int := if (0 ≤ u ∧ u < (nb : Int)) ∧ 0 ≤ v ∧ v < (nb : Int) then (if 1000 ≤ (rb_ms nb mw fr to dl hd).1 (5 * u.toNat + v.toNat) then -2 else (rb_ms nb mw fr to dl hd).1 (5 * u.toNat + v.toNat)) else -1
end
section
set_option maxHeartbeats 4000000 in
set_option maxRecDepth 100000 in
theorem mC_period (l : Launch) (D : va_G) (h : Nat → Nat) (d : Nat → ClassId) (nb : Nat) (mw : Nat) (fr : Nat → Nat) (to : Nat → Nat) (dl : Nat → Int) (hd : Nat → Int) (kn : Int) (sd : Int) (le : Nat → Int) (lo : Nat → Int) (lg : Nat → Int)  (ok : rb_ok nb mw fr to dl hd) (hh : ∀ i, i < mw → hd i ≤ 1000) (hk : rb_ch nb mw fr to dl hd kn sd le lo) : rb_MI l yX1_period cX1_period 3 (some .int) 2 D (rb_TC d) [.ref (h 0)] (rb_WC h d nb mw fr to dl hd kn sd le lo lg) (fun r _ => r = zI (if (rb_sdv nb (rb_ms nb mw fr to dl hd)) = 0 then -3 else (rb_per nb dl (rb_ms nb mw fr to dl hd)))) (fun _ : Unit => (rb_WC h d nb mw fr to dl hd 1 (rb_sdv nb (rb_ms nb mw fr to dl hd)) (rb_ms nb mw fr to dl hd).1 (rb_ms nb mw fr to dl hd).2 lg)) := by
  refine rb_mkI (by decide) (Nat.le_of_ble_eq_true rfl) (fun p e s m args below meth c A ls Q hx hb hml hts hown hK hP hD hS hA hl hret => ?_)
  have hown : s.vm.findClass RX1 = some m.cls := hown
  have hl : lv_has ls 3 [(0, .ref (h 0))] := hl
  refine lv_aload_n hx hb dX1_period_0 rfl (lv_at hl 0 rfl) ?_
  refine zc_V ⟨hx, hb, hml, hown, hts⟩ (mC_measure l D h d nb mw fr to dl hd kn sd le lo lg ok hh hk) (cwV 0 hts (lw_V q80 q82 qs1 q14 q83) rfl rfl rfl (by decide +kernel) ⟨Nat.le_of_ble_eq_true rfl, Nat.le_of_ble_eq_true rfl⟩) hK hP hD hS hA (ci := 0) rfl rfl rfl rfl hl.1 rfl (Nat.le_of_ble_eq_true rfl) dX1_period_1 ⟨Nat.le_refl 0, Nat.le_refl 0⟩ (fun ux0 H locs hp hP hD hS => ?_)
  have hP : va_P D vwCl (rb_WC h d nb mw fr to dl hd 1 (rb_sdv nb (rb_ms nb mw fr to dl hd)) (rb_ms nb mw fr to dl hd).1 (rb_ms nb mw fr to dl hd).2 lg) H := hP
  have hD : va_D A (rb_WC h d nb mw fr to dl hd 1 (rb_sdv nb (rb_ms nb mw fr to dl hd)) (rb_ms nb mw fr to dl hd).1 (rb_ms nb mw fr to dl hd).2 lg) := zDC hD
  have hsd := (rb_sdv_spec (rb_ms nb mw fr to dl hd) nb).1
  have hbd := rb_E1 ok
  have hlob := rb_lob_ms ok
  have hmx := rb_mx_in' (n := nb) ok.2.2.2.2
  refine lv_aload_n hx hb dX1_period_4 rfl (lv_at hl 0 rfl) ?_
  refine gC7 hx hb hts hown hK hP dX1_period_5 ?_
  refine zi_if_ne (tgt := 14) hx hb dX1_period_8 (by decide) ⟨by omega, by omega⟩ (fun c2 => ?_) (fun c2 => ?_)
  · refine lv_aload_n hx hb dX1_period_14 rfl (lv_at hl 0 rfl) ?_
    refine zc_I ⟨hx, hb, hml, hown, hts⟩ (mC_gd l D h d nb mw fr to dl hd 1 (rb_sdv nb (rb_ms nb mw fr to dl hd)) (rb_ms nb mw fr to dl hd).1 (rb_ms nb mw fr to dl hd).2 lg ok.2.1 ok.2.2.2.2) (cwV 0 hts (lw_V q92 q94 qs3 q14 q95) rfl rfl rfl (by decide +kernel) ⟨Nat.le_of_ble_eq_true rfl, Nat.le_of_ble_eq_true rfl⟩) hK hP hD hS hA (ci := 0) rfl rfl rfl rfl hl.1 rfl (Nat.le_of_ble_eq_true rfl) dX1_period_15 ⟨Nat.le_refl 0, Nat.le_refl 0⟩ (fun r ux2 H locs hp hP hD hS => ?_)
    subst hp
    refine lv_istore_n (lv' := [(1, .int (zI (rb_mx nb dl))), (0, .ref (h 0))]) hx hb dX1_period_18 rfl hl (by decide) rfl (fun ls hl => ?_)
    refine lv_iconst (v := zI 0) hx hb dX1_period_19 rfl ?_
    refine lv_istore_n (lv' := [(2, .int (zI 0)), (1, .int (zI (rb_mx nb dl))), (0, .ref (h 0))]) hx hb dX1_period_20 rfl hl (by decide) rfl (fun ls hl => ?_)
    have lp : ∀ (f_lp q : Nat), q ≤ 25 → 25 + 1 ≤ q + f_lp → ∀  (H : Heap) (locs : List Loc) (ls : Array Slot), va_P D vwCl (rb_WC h d nb mw fr to dl hd 1 (rb_sdv nb (rb_ms nb mw fr to dl hd)) (rb_ms nb mw fr to dl hd).1 (rb_ms nb mw fr to dl hd).2 lg) H → va_D A (rb_WC h d nb mw fr to dl hd 1 (rb_sdv nb (rb_ms nb mw fr to dl hd)) (rb_ms nb mw fr to dl hd).1 (rb_ms nb mw fr to dl hd).2 lg) → va_S A s.heap H locs → lv_has ls 3 [(0, .ref (h 0)), (1, .int (zI (rb_it (rb_pe1 (rb_ms nb mw fr to dl hd)) q (rb_mx nb dl)))), (2, .int (zI ((q : Nat) : Int)))] → W p l e (rb_R 2) s m args below meth c H locs 0 0 Q (F0 m 21 ls []) := by
      intro f_lp
      induction f_lp with
      | zero => intro q h1 h2; omega
      | succ f_lp ih_lp =>
        intro q hi_lp hf_lp  H locs ls  hP hD hS hl
        have hpq := rb_per_in hmx hlob q
        refine lv_iload_n hx hb dX1_period_21 rfl (lv_at hl 2 rfl) ?_
        refine lv_bipush (v := zI 25) hx hb dX1_period_22 (by decide) ?_
        refine zi_icmp_ge (tgt := 59) hx hb dX1_period_24 (by decide) ⟨by omega, by omega⟩ ⟨by omega, by omega⟩ (fun c4 => ?_) (fun c4 => ?_)
        · refine lv_iload_n hx hb dX1_period_59 rfl (lv_at hl 1 rfl) ?_
          have e_q : q = 25 := by omega
          subst e_q
          exact hret _ () _ _ _ _ dX1_period_60 rfl hP (zDC hD) hS (by rw [if_neg (by omega)]; rfl)
        · have hq25 : q < 25 := by omega
          refine lv_aload_n hx hb dX1_period_27 rfl (lv_at hl 0 rfl) ?_
          refine gC8 hx hb hts hown hK hP dX1_period_28 ?_
          refine lv_iload_n hx hb dX1_period_31 rfl (lv_at hl 2 rfl) ?_
          refine lC5 hx hb hK hP q (by omega) (by omega) dX1_period_32 ?_
          have b5 := hbd q
          refine zi_if_ne (tgt := 53) hx hb dX1_period_33 (by decide) ⟨by omega, by omega⟩ (fun c6 => ?_) (fun c6 => ?_)
          · refine zi_iinc (k := 2) (x' := (((q + 1) : Nat) : Int)) (lv' := [(2, .int (zI (((q + 1) : Nat) : Int))), (0, .ref (h 0)), (1, .int (zI (rb_it (rb_pe1 (rb_ms nb mw fr to dl hd)) q (rb_mx nb dl))))]) hx hb dX1_period_53 hl rfl (by omega) (by decide) rfl (fun ls hl => ?_)
            refine lv_goto (tgt := 21) hx hb dX1_period_56 (by decide) ?_
            exact ih_lp (q + 1) (by omega) (by omega)  _ _ _  hP (zDC hD) hS (by rw [rb_it_s _ q, rb_pe1_d]; first | (rw [if_pos (by omega)]; exact lv_sub hl [1, 2, 0] rfl) | (rw [if_neg (by omega)]; exact lv_sub hl [1, 2, 0] rfl))
          · refine lv_aload_n hx hb dX1_period_36 rfl (lv_at hl 0 rfl) ?_
            refine gC9 hx hb hts hown hK hP dX1_period_37 ?_
            refine lv_iload_n hx hb dX1_period_40 rfl (lv_at hl 2 rfl) ?_
            refine lC6 hx hb hK hP q (by omega) (by omega) dX1_period_41 ?_
            have b7 := hlob q
            refine lv_iload_n hx hb dX1_period_42 rfl (lv_at hl 1 rfl) ?_
            refine zi_icmp_le (tgt := 53) hx hb dX1_period_43 (by decide) ⟨by omega, by omega⟩ ⟨by omega, by omega⟩ (fun c8 => ?_) (fun c8 => ?_)
            · refine zi_iinc (k := 2) (x' := (((q + 1) : Nat) : Int)) (lv' := [(2, .int (zI (((q + 1) : Nat) : Int))), (0, .ref (h 0)), (1, .int (zI (rb_it (rb_pe1 (rb_ms nb mw fr to dl hd)) q (rb_mx nb dl))))]) hx hb dX1_period_53 hl rfl (by omega) (by decide) rfl (fun ls hl => ?_)
              refine lv_goto (tgt := 21) hx hb dX1_period_56 (by decide) ?_
              exact ih_lp (q + 1) (by omega) (by omega)  _ _ _  hP (zDC hD) hS (by rw [rb_it_s _ q, rb_pe1_d]; first | (rw [if_pos (by omega)]; exact lv_sub hl [1, 2, 0] rfl) | (rw [if_neg (by omega)]; exact lv_sub hl [1, 2, 0] rfl))
            · refine lv_aload_n hx hb dX1_period_46 rfl (lv_at hl 0 rfl) ?_
              refine gC9 hx hb hts hown hK hP dX1_period_47 ?_
              refine lv_iload_n hx hb dX1_period_50 rfl (lv_at hl 2 rfl) ?_
              refine lC6 hx hb hK hP q (by omega) (by omega) dX1_period_51 ?_
              have b9 := hlob q
              refine lv_istore_n (lv' := [(1, .int (zI ((rb_ms nb mw fr to dl hd).2 q))), (0, .ref (h 0)), (2, .int (zI ((q : Nat) : Int)))]) hx hb dX1_period_52 rfl hl (by decide) rfl (fun ls hl => ?_)
              refine zi_iinc (k := 2) (x' := (((q + 1) : Nat) : Int)) (lv' := [(2, .int (zI (((q + 1) : Nat) : Int))), (1, .int (zI ((rb_ms nb mw fr to dl hd).2 q))), (0, .ref (h 0))]) hx hb dX1_period_53 hl rfl (by omega) (by decide) rfl (fun ls hl => ?_)
              refine lv_goto (tgt := 21) hx hb dX1_period_56 (by decide) ?_
              exact ih_lp (q + 1) (by omega) (by omega)  _ _ _  hP (zDC hD) hS (by rw [rb_it_s _ q, rb_pe1_d]; first | (rw [if_pos (by omega)]; exact lv_sub hl [2, 1, 0] rfl) | (rw [if_neg (by omega)]; exact lv_sub hl [2, 1, 0] rfl))
    exact lp (25 + 1) 0 (by omega) (by omega)  _ _ _  hP (zDC hD) hS (lv_sub hl [2, 1, 0] rfl)
  · refine lv_bipush (v := zI (-3)) hx hb dX1_period_11 (by decide) ?_
    exact hret _ () _ _ _ _ dX1_period_13 rfl hP (zDC hD) hS (by rw [if_pos (by omega)])
set_option maxHeartbeats 4000000 in
set_option maxRecDepth 100000 in
theorem mC_best (l : Launch) (D : va_G) (h : Nat → Nat) (d : Nat → ClassId) (nb : Nat) (mw : Nat) (fr : Nat → Nat) (to : Nat → Nat) (dl : Nat → Int) (hd : Nat → Int) (kn : Int) (sd : Int) (le : Nat → Int) (lo : Nat → Int) (lg : Nat → Int)  (ok : rb_ok nb mw fr to dl hd) (hh : ∀ i, i < mw → hd i ≤ 1000) (hk : rb_ch nb mw fr to dl hd kn sd le lo) : rb_MI l yX1_best cX1_best 4 (some .int) 3 D (rb_TC d) [.ref (h 0)] (rb_WC h d nb mw fr to dl hd kn sd le lo lg) (fun r _ => r = zI (if (rb_sdv nb (rb_ms nb mw fr to dl hd)) = 0 then -3 else (rb_best nb mw fr to dl hd (rb_ms nb mw fr to dl hd)))) (fun g : Nat → Int => (rb_WC h d nb mw fr to dl hd 1 (rb_sdv nb (rb_ms nb mw fr to dl hd)) (rb_ms nb mw fr to dl hd).1 (rb_ms nb mw fr to dl hd).2 g)) := by
  refine rb_mkI (by decide) (Nat.le_of_ble_eq_true rfl) (fun p e s m args below meth c A ls Q hx hb hml hts hown hK hP hD hS hA hl hret => ?_)
  have hown : s.vm.findClass RX1 = some m.cls := hown
  have hl : lv_has ls 4 [(0, .ref (h 0))] := hl
  refine lv_aload_n hx hb dX1_best_0 rfl (lv_at hl 0 rfl) ?_
  refine zc_V ⟨hx, hb, hml, hown, hts⟩ (mC_measure l D h d nb mw fr to dl hd kn sd le lo lg ok hh hk) (cwV 0 hts (lw_V q80 q82 qs1 q14 q83) rfl rfl rfl (by decide +kernel) ⟨Nat.le_of_ble_eq_true rfl, Nat.le_of_ble_eq_true rfl⟩) hK hP hD hS hA (ci := 0) rfl rfl rfl rfl hl.1 rfl (Nat.le_of_ble_eq_true rfl) dX1_best_1 ⟨Nat.le_refl 0, Nat.le_refl 0⟩ (fun ux0 H locs hp hP hD hS => ?_)
  have hP : va_P D vwCl (rb_WC h d nb mw fr to dl hd 1 (rb_sdv nb (rb_ms nb mw fr to dl hd)) (rb_ms nb mw fr to dl hd).1 (rb_ms nb mw fr to dl hd).2 lg) H := hP
  have hD : va_D A (rb_WC h d nb mw fr to dl hd 1 (rb_sdv nb (rb_ms nb mw fr to dl hd)) (rb_ms nb mw fr to dl hd).1 (rb_ms nb mw fr to dl hd).2 lg) := zDC hD
  have hsd := (rb_sdv_spec (rb_ms nb mw fr to dl hd) nb).1
  have hbd := rb_E1 ok
  have hlob := rb_lob_ms ok
  have hmx := rb_mx_in' (n := nb) ok.2.2.2.2
  refine lv_aload_n hx hb dX1_best_4 rfl (lv_at hl 0 rfl) ?_
  refine gC7 hx hb hts hown hK hP dX1_best_5 ?_
  refine zi_if_ne (tgt := 14) hx hb dX1_best_8 (by decide) ⟨by omega, by omega⟩ (fun c2 => ?_) (fun c2 => ?_)
  · refine lv_aload_n hx hb dX1_best_14 rfl (lv_at hl 0 rfl) ?_
    refine zc_I ⟨hx, hb, hml, hown, hts⟩ (mC_period l D h d nb mw fr to dl hd 1 (rb_sdv nb (rb_ms nb mw fr to dl hd)) (rb_ms nb mw fr to dl hd).1 (rb_ms nb mw fr to dl hd).2 lg ok hh (Or.inr ⟨rfl, rfl, rfl, rfl⟩)) (cwV 0 hts (lw_V q100 q89 q90 q14 q91) rfl rfl rfl (by decide +kernel) ⟨Nat.le_of_ble_eq_true rfl, Nat.le_of_ble_eq_true rfl⟩) hK hP hD hS hA (ci := 0) rfl rfl rfl rfl hl.1 rfl (Nat.le_of_ble_eq_true rfl) dX1_best_15 ⟨Nat.le_refl 0, Nat.le_refl 0⟩ (fun r ux2 H locs hp hP hD hS => ?_)
    have hper : (rb_sdv nb (rb_ms nb mw fr to dl hd)) ≠ 0 := by omega
    rw [if_neg hper] at hp
    subst hp
    have hpin : 0 ≤ (rb_per nb dl (rb_ms nb mw fr to dl hd)) ∧ (rb_per nb dl (rb_ms nb mw fr to dl hd)) ≤ 10000000 := rb_per_in hmx hlob 25
    have hP : va_P D vwCl (rb_WC h d nb mw fr to dl hd 1 (rb_sdv nb (rb_ms nb mw fr to dl hd)) (rb_ms nb mw fr to dl hd).1 (rb_ms nb mw fr to dl hd).2 lg) H := hP
    have hD : va_D A (rb_WC h d nb mw fr to dl hd 1 (rb_sdv nb (rb_ms nb mw fr to dl hd)) (rb_ms nb mw fr to dl hd).1 (rb_ms nb mw fr to dl hd).2 lg) := zDC hD
    refine lv_istore_n (lv' := [(1, .int (zI (rb_per nb dl (rb_ms nb mw fr to dl hd)))), (0, .ref (h 0))]) hx hb dX1_best_18 rfl hl (by decide) rfl (fun ls hl => ?_)
    refine lv_aload_n hx hb dX1_best_19 rfl (lv_at hl 1 rfl) ?_
    refine zc_I ⟨hx, hb, hml, hown, hts⟩ (mC_gd l D h d nb mw fr to dl hd 1 (rb_sdv nb (rb_ms nb mw fr to dl hd)) (rb_ms nb mw fr to dl hd).1 (rb_ms nb mw fr to dl hd).2 lg ok.2.1 ok.2.2.2.2) (cwV 0 hts (lw_V q92 q94 qs3 q14 q95) rfl rfl rfl (by decide +kernel) ⟨Nat.le_of_ble_eq_true rfl, Nat.le_of_ble_eq_true rfl⟩) hK hP hD hS hA (ci := 0) rfl rfl rfl rfl hl.1 rfl (Nat.le_of_ble_eq_true rfl) dX1_best_20 ⟨Nat.le_refl 0, Nat.le_refl 0⟩ (fun r ux3 H locs hp hP hD hS => ?_)
    subst hp
    refine lv_istore_n (lv' := [(2, .int (zI (rb_mx nb dl))), (1, .int (zI (rb_per nb dl (rb_ms nb mw fr to dl hd)))), (0, .ref (h 0))]) hx hb dX1_best_23 rfl hl (by decide) rfl (fun ls hl => ?_)
    refine lv_aload_n hx hb dX1_best_24 rfl (lv_at hl 2 rfl) ?_
    refine lv_iload_n hx hb dX1_best_25 rfl (lv_at hl 0 rfl) ?_
    refine zc_I ⟨hx, hb, hml, hown, hts⟩ (mC_can l D h d nb mw fr to dl hd 1 (rb_sdv nb (rb_ms nb mw fr to dl hd)) lg (rb_ms nb mw fr to dl hd) (rb_mx nb dl) ok hh hbd hlob ⟨by omega, by omega⟩) (cwV 1 hts (lw_V q101 q103 qs4 q14 q104) rfl rfl rfl (by decide +kernel) ⟨Nat.le_of_ble_eq_true rfl, Nat.le_of_ble_eq_true rfl⟩) hK hP hD hS hA (ci := 0) rfl rfl rfl rfl hl.1 rfl (Nat.le_of_ble_eq_true rfl) dX1_best_26 ⟨Nat.le_refl 0, Nat.le_refl 0⟩ (fun r ux4 H locs hp hP hD hS => ?_)
    subst hp
    have hcb5 := rb_b_in (rb_can nb mw fr to dl hd (rb_ms nb mw fr to dl hd) (rb_mx nb dl))
    have hP : va_P D vwCl (rb_WC h d nb mw fr to dl hd 1 (rb_sdv nb (rb_ms nb mw fr to dl hd)) (rb_ms nb mw fr to dl hd).1 (rb_ms nb mw fr to dl hd).2 (if (rb_mx nb dl) < rb_mx nb dl then lg else (rb_rs mw fr to hd (rb_ms nb mw fr to dl hd) (rb_mx nb dl)).1)) H := hP
    have hD : va_D A (rb_WC h d nb mw fr to dl hd 1 (rb_sdv nb (rb_ms nb mw fr to dl hd)) (rb_ms nb mw fr to dl hd).1 (rb_ms nb mw fr to dl hd).2 (if (rb_mx nb dl) < rb_mx nb dl then lg else (rb_rs mw fr to hd (rb_ms nb mw fr to dl hd) (rb_mx nb dl)).1)) := zDC hD
    refine zi_if_eq (tgt := 34) hx hb dX1_best_29 (by decide) ⟨by omega, by omega⟩ (fun cc0 => ?_) (fun cc0 => ?_)
    · refine lv_iconst (v := zI 0) hx hb dX1_best_34 rfl ?_
      refine lv_istore_n (lv' := [(3, .int (zI 0)), (2, .int (zI (rb_mx nb dl))), (1, .int (zI (rb_per nb dl (rb_ms nb mw fr to dl hd)))), (0, .ref (h 0))]) hx hb dX1_best_35 rfl hl (by decide) rfl (fun ls hl => ?_)
      have lp : ∀ (f_lp q : Nat), q ≤ 25 → 25 + 1 ≤ q + f_lp → ∀ (g : Nat → Int) (H : Heap) (locs : List Loc) (ls : Array Slot), va_P D vwCl (rb_WC h d nb mw fr to dl hd 1 (rb_sdv nb (rb_ms nb mw fr to dl hd)) (rb_ms nb mw fr to dl hd).1 (rb_ms nb mw fr to dl hd).2 g) H → va_D A (rb_WC h d nb mw fr to dl hd 1 (rb_sdv nb (rb_ms nb mw fr to dl hd)) (rb_ms nb mw fr to dl hd).1 (rb_ms nb mw fr to dl hd).2 g) → va_S A s.heap H locs → lv_has ls 4 [(0, .ref (h 0)), (1, .int (zI (rb_it (rb_be1 nb mw fr to dl hd (rb_ms nb mw fr to dl hd)) q (rb_per nb dl (rb_ms nb mw fr to dl hd))))), (3, .int (zI ((q : Nat) : Int)))] → W p l e (rb_R 3) s m args below meth c H locs 0 0 Q (F0 m 36 ls []) := by
        intro f_lp
        induction f_lp with
        | zero => intro q h1 h2; omega
        | succ f_lp ih_lp =>
          intro q hi_lp hf_lp g H locs ls  hP hD hS hl
          have hbq := rb_be_in (n := nb) (m := mw) (fr := fr) (to := to) (dl := dl) (hd := hd) (b := (rb_per nb dl (rb_ms nb mw fr to dl hd))) ⟨by omega, by omega⟩ hlob q
          refine lv_iload_n hx hb dX1_best_36 rfl (lv_at hl 2 rfl) ?_
          refine lv_bipush (v := zI 25) hx hb dX1_best_37 (by decide) ?_
          refine zi_icmp_ge (tgt := 90) hx hb dX1_best_39 (by decide) ⟨by omega, by omega⟩ ⟨by omega, by omega⟩ (fun c7 => ?_) (fun c7 => ?_)
          · refine lv_iload_n hx hb dX1_best_90 rfl (lv_at hl 1 rfl) ?_
            have e_q : q = 25 := by omega
            subst e_q
            exact hret _ _ _ _ _ _ dX1_best_91 rfl hP (zDC hD) hS (by rw [if_neg (by omega)]; unfold rb_best; rw [if_neg (by rw [rb_b_f cc0]; decide)])
          · have hq25 : q < 25 := by omega
            refine lv_aload_n hx hb dX1_best_42 rfl (lv_at hl 0 rfl) ?_
            refine gC8 hx hb hts hown hK hP dX1_best_43 ?_
            refine lv_iload_n hx hb dX1_best_46 rfl (lv_at hl 2 rfl) ?_
            refine lC5 hx hb hK hP q (by omega) (by omega) dX1_best_47 ?_
            have b8 := hbd q
            refine lv_sipush (v := zI 1000) hx hb dX1_best_48 (by decide) ?_
            refine zi_icmp_ge (tgt := 84) hx hb dX1_best_51 (by decide) ⟨by omega, by omega⟩ ⟨by omega, by omega⟩ (fun c9 => ?_) (fun c9 => ?_)
            · refine zi_iinc (k := 2) (x' := (((q + 1) : Nat) : Int)) (lv' := [(3, .int (zI (((q + 1) : Nat) : Int))), (0, .ref (h 0)), (1, .int (zI (rb_it (rb_be1 nb mw fr to dl hd (rb_ms nb mw fr to dl hd)) q (rb_per nb dl (rb_ms nb mw fr to dl hd)))))]) hx hb dX1_best_84 hl rfl (by omega) (by decide) rfl (fun ls hl => ?_)
              refine lv_goto (tgt := 36) hx hb dX1_best_87 (by decide) ?_
              exact ih_lp (q + 1) (by omega) (by omega) _ _ _ _  hP (zDC hD) hS (by rw [rb_it_s _ q, rb_be1_d]; first | (rw [if_neg (fun z => absurd z.1 (by omega))]; exact lv_sub hl [1, 2, 0] rfl) | (rw [if_neg (fun z => absurd z.2.1 (by omega))]; exact lv_sub hl [1, 2, 0] rfl) | (rw [if_neg (fun z => absurd z.2.2 (by rw [rb_b_f ccan]; decide))]; exact lv_sub hl [1, 2, 0] rfl) | (rw [if_pos ⟨by omega, by omega, rb_b_t ccan⟩]; exact lv_sub hl [1, 2, 0] rfl))
            · refine lv_aload_n hx hb dX1_best_54 rfl (lv_at hl 0 rfl) ?_
              refine gC9 hx hb hts hown hK hP dX1_best_55 ?_
              refine lv_iload_n hx hb dX1_best_58 rfl (lv_at hl 2 rfl) ?_
              refine lC6 hx hb hK hP q (by omega) (by omega) dX1_best_59 ?_
              have b10 := hlob q
              refine lv_iload_n hx hb dX1_best_60 rfl (lv_at hl 1 rfl) ?_
              refine zi_icmp_ge (tgt := 84) hx hb dX1_best_61 (by decide) ⟨by omega, by omega⟩ ⟨by omega, by omega⟩ (fun c11 => ?_) (fun c11 => ?_)
              · refine zi_iinc (k := 2) (x' := (((q + 1) : Nat) : Int)) (lv' := [(3, .int (zI (((q + 1) : Nat) : Int))), (0, .ref (h 0)), (1, .int (zI (rb_it (rb_be1 nb mw fr to dl hd (rb_ms nb mw fr to dl hd)) q (rb_per nb dl (rb_ms nb mw fr to dl hd)))))]) hx hb dX1_best_84 hl rfl (by omega) (by decide) rfl (fun ls hl => ?_)
                refine lv_goto (tgt := 36) hx hb dX1_best_87 (by decide) ?_
                exact ih_lp (q + 1) (by omega) (by omega) _ _ _ _  hP (zDC hD) hS (by rw [rb_it_s _ q, rb_be1_d]; first | (rw [if_neg (fun z => absurd z.1 (by omega))]; exact lv_sub hl [1, 2, 0] rfl) | (rw [if_neg (fun z => absurd z.2.1 (by omega))]; exact lv_sub hl [1, 2, 0] rfl) | (rw [if_neg (fun z => absurd z.2.2 (by rw [rb_b_f ccan]; decide))]; exact lv_sub hl [1, 2, 0] rfl) | (rw [if_pos ⟨by omega, by omega, rb_b_t ccan⟩]; exact lv_sub hl [1, 2, 0] rfl))
              · refine lv_aload_n hx hb dX1_best_64 rfl (lv_at hl 0 rfl) ?_
                refine lv_aload_n hx hb dX1_best_65 rfl (lv_at hl 0 rfl) ?_
                refine gC9 hx hb hts hown hK hP dX1_best_66 ?_
                refine lv_iload_n hx hb dX1_best_69 rfl (lv_at hl 2 rfl) ?_
                refine lC6 hx hb hK hP q (by omega) (by omega) dX1_best_70 ?_
                have b12 := hlob q
                refine zc_I ⟨hx, hb, hml, hown, hts⟩ (mC_can l D h d nb mw fr to dl hd 1 (rb_sdv nb (rb_ms nb mw fr to dl hd)) g (rb_ms nb mw fr to dl hd) ((rb_ms nb mw fr to dl hd).2 q) ok hh hbd hlob ⟨by omega, by omega⟩) (cwV 1 hts (lw_V q101 q103 qs4 q14 q104) rfl rfl rfl (by decide +kernel) ⟨Nat.le_of_ble_eq_true rfl, Nat.le_of_ble_eq_true rfl⟩) hK hP hD hS hA (ci := 0) rfl rfl rfl rfl hl.1 rfl (Nat.le_of_ble_eq_true rfl) dX1_best_71 ⟨Nat.le_refl 0, Nat.le_refl 0⟩ (fun r ux12 H locs hp hP hD hS => ?_)
                subst hp
                have hcb13 := rb_b_in (rb_can nb mw fr to dl hd (rb_ms nb mw fr to dl hd) ((rb_ms nb mw fr to dl hd).2 q))
                have hP : va_P D vwCl (rb_WC h d nb mw fr to dl hd 1 (rb_sdv nb (rb_ms nb mw fr to dl hd)) (rb_ms nb mw fr to dl hd).1 (rb_ms nb mw fr to dl hd).2 (if ((rb_ms nb mw fr to dl hd).2 q) < rb_mx nb dl then g else (rb_rs mw fr to hd (rb_ms nb mw fr to dl hd) ((rb_ms nb mw fr to dl hd).2 q)).1)) H := hP
                have hD : va_D A (rb_WC h d nb mw fr to dl hd 1 (rb_sdv nb (rb_ms nb mw fr to dl hd)) (rb_ms nb mw fr to dl hd).1 (rb_ms nb mw fr to dl hd).2 (if ((rb_ms nb mw fr to dl hd).2 q) < rb_mx nb dl then g else (rb_rs mw fr to hd (rb_ms nb mw fr to dl hd) ((rb_ms nb mw fr to dl hd).2 q)).1)) := zDC hD
                refine zi_if_eq (tgt := 84) hx hb dX1_best_74 (by decide) ⟨by omega, by omega⟩ (fun ccan => ?_) (fun ccan => ?_)
                · refine zi_iinc (k := 2) (x' := (((q + 1) : Nat) : Int)) (lv' := [(3, .int (zI (((q + 1) : Nat) : Int))), (0, .ref (h 0)), (1, .int (zI (rb_it (rb_be1 nb mw fr to dl hd (rb_ms nb mw fr to dl hd)) q (rb_per nb dl (rb_ms nb mw fr to dl hd)))))]) hx hb dX1_best_84 hl rfl (by omega) (by decide) rfl (fun ls hl => ?_)
                  refine lv_goto (tgt := 36) hx hb dX1_best_87 (by decide) ?_
                  exact ih_lp (q + 1) (by omega) (by omega) _ _ _ _  hP (zDC hD) hS (by rw [rb_it_s _ q, rb_be1_d]; first | (rw [if_neg (fun z => absurd z.1 (by omega))]; exact lv_sub hl [1, 2, 0] rfl) | (rw [if_neg (fun z => absurd z.2.1 (by omega))]; exact lv_sub hl [1, 2, 0] rfl) | (rw [if_neg (fun z => absurd z.2.2 (by rw [rb_b_f ccan]; decide))]; exact lv_sub hl [1, 2, 0] rfl) | (rw [if_pos ⟨by omega, by omega, rb_b_t ccan⟩]; exact lv_sub hl [1, 2, 0] rfl))
                · refine lv_aload_n hx hb dX1_best_77 rfl (lv_at hl 0 rfl) ?_
                  refine gC9 hx hb hts hown hK hP dX1_best_78 ?_
                  refine lv_iload_n hx hb dX1_best_81 rfl (lv_at hl 2 rfl) ?_
                  refine lC6 hx hb hK hP q (by omega) (by omega) dX1_best_82 ?_
                  have b15 := hlob q
                  refine lv_istore_n (lv' := [(1, .int (zI ((rb_ms nb mw fr to dl hd).2 q))), (0, .ref (h 0)), (3, .int (zI ((q : Nat) : Int)))]) hx hb dX1_best_83 rfl hl (by decide) rfl (fun ls hl => ?_)
                  refine zi_iinc (k := 2) (x' := (((q + 1) : Nat) : Int)) (lv' := [(3, .int (zI (((q + 1) : Nat) : Int))), (1, .int (zI ((rb_ms nb mw fr to dl hd).2 q))), (0, .ref (h 0))]) hx hb dX1_best_84 hl rfl (by omega) (by decide) rfl (fun ls hl => ?_)
                  refine lv_goto (tgt := 36) hx hb dX1_best_87 (by decide) ?_
                  exact ih_lp (q + 1) (by omega) (by omega) _ _ _ _  hP (zDC hD) hS (by rw [rb_it_s _ q, rb_be1_d]; first | (rw [if_neg (fun z => absurd z.1 (by omega))]; exact lv_sub hl [2, 1, 0] rfl) | (rw [if_neg (fun z => absurd z.2.1 (by omega))]; exact lv_sub hl [2, 1, 0] rfl) | (rw [if_neg (fun z => absurd z.2.2 (by rw [rb_b_f ccan]; decide))]; exact lv_sub hl [2, 1, 0] rfl) | (rw [if_pos ⟨by omega, by omega, rb_b_t ccan⟩]; exact lv_sub hl [2, 1, 0] rfl))
      exact lp (25 + 1) 0 (by omega) (by omega) _ _ _ _  hP (zDC hD) hS (lv_sub hl [3, 2, 0] rfl)
    · refine lv_iload_n hx hb dX1_best_32 rfl (lv_at hl 0 rfl) ?_
      exact hret _ _ _ _ _ _ dX1_best_33 rfl hP (zDC hD) hS (by rw [if_neg (by omega)]; unfold rb_best; rw [if_pos (rb_b_t cc0)])
  · refine lv_bipush (v := zI (-3)) hx hb dX1_best_11 (by decide) ?_
    exact hret _ _ _ _ _ _ dX1_best_13 rfl hP (zDC hD) hS (by rw [if_pos (by omega)])
set_option maxHeartbeats 4000000 in
set_option maxRecDepth 100000 in
theorem mC_lag (l : Launch) (D : va_G) (h : Nat → Nat) (d : Nat → ClassId) (nb : Nat) (mw : Nat) (fr : Nat → Nat) (to : Nat → Nat) (dl : Nat → Int) (hd : Nat → Int) (kn : Int) (sd : Int) (le : Nat → Int) (lo : Nat → Int) (lg : Nat → Int) (v0 : Int) (ok : rb_ok nb mw fr to dl hd) (hh : ∀ i, i < mw → hd i ≤ 1000) (hk : rb_ch nb mw fr to dl hd kn sd le lo) (hv0 : zin v0) : rb_MI l yX1_lag cX1_lag 3 (some .int) 4 D (rb_TC d) [.ref (h 0), .int (zI v0)] (rb_WC h d nb mw fr to dl hd kn sd le lo lg) (fun r (u : rb_T5) => r = zI (rb_lagA nb mw fr to dl hd v0) ∧ rb_ch nb mw fr to dl hd u.1 u.2.1 u.2.2.1 u.2.2.2.1) (fun u : rb_T5 => (rb_WC h d nb mw fr to dl hd u.1 u.2.1 u.2.2.1 u.2.2.2.1 u.2.2.2.2)) := by
  refine rb_mkI (by decide) (Nat.le_of_ble_eq_true rfl) (fun p e s m args below meth c A ls Q hx hb hml hts hown hK hP hD hS hA hl hret => ?_)
  have hown : s.vm.findClass RX1 = some m.cls := hown
  have hl : lv_has ls 3 [(0, .ref (h 0)), (1, .int (zI v0))] := hl
  have hn5 := ok.2.1
  refine lv_aload_n hx hb dX1_lag_0 rfl (lv_at hl 0 rfl) ?_
  refine lv_iload_n hx hb dX1_lag_1 rfl (lv_at hl 1 rfl) ?_
  refine zc_I ⟨hx, hb, hml, hown, hts⟩ (mC_isBlock l D h d nb mw fr to dl hd kn sd le lo lg v0 ⟨by omega, by omega⟩ ok.2.1) (cwV 1 hts (lw_V q64 q66 qs0 q14 q67) rfl rfl rfl (by decide +kernel) ⟨Nat.le_of_ble_eq_true rfl, Nat.le_of_ble_eq_true rfl⟩) hK hP hD hS hA (ci := 0) rfl rfl rfl rfl hl.1 rfl (Nat.le_of_ble_eq_true rfl) dX1_lag_2 ⟨Nat.le_refl 0, Nat.le_refl 0⟩ (fun r ux0 H locs hp hP hD hS => ?_)
  subst hp
  have his1 := rb_isb_spec nb v0
  refine zi_if_ne (tgt := 11) hx hb dX1_lag_5 (by decide) ⟨by omega, by omega⟩ (fun c3 => ?_) (fun c3 => ?_)
  · refine lv_aload_n hx hb dX1_lag_11 rfl (lv_at hl 0 rfl) ?_
    refine zc_I ⟨hx, hb, hml, hown, hts⟩ (mC_best l D h d nb mw fr to dl hd kn sd le lo lg ok hh hk) (cwV 0 hts (lw_V q113 q97 q98 q14 q99) rfl rfl rfl (by decide +kernel) ⟨Nat.le_of_ble_eq_true rfl, Nat.le_of_ble_eq_true rfl⟩) hK hP hD hS hA (ci := 0) rfl rfl rfl rfl hl.1 rfl (Nat.le_of_ble_eq_true rfl) dX1_lag_12 ⟨Nat.le_refl 0, Nat.le_refl 0⟩ (fun r ux3 H locs hp hP hD hS => ?_)
    subst hp
    have hsd := (rb_sdv_spec (rb_ms nb mw fr to dl hd) nb).1
    have hbd := rb_E1 ok
    have hlob := rb_lob_ms ok
    have hmx := rb_mx_in' (n := nb) ok.2.2.2.2
    have hbin := rb_best_b (n := nb) (m := mw) (fr := fr) (to := to) (hd := hd) ok.2.2.2.2 hlob
    have hbge := rb_best_ge nb mw fr to dl hd (rb_ms nb mw fr to dl hd)
    have hP : va_P D vwCl (rb_WC h d nb mw fr to dl hd 1 (rb_sdv nb (rb_ms nb mw fr to dl hd)) (rb_ms nb mw fr to dl hd).1 (rb_ms nb mw fr to dl hd).2 ux3) H := hP
    have hD : va_D A (rb_WC h d nb mw fr to dl hd 1 (rb_sdv nb (rb_ms nb mw fr to dl hd)) (rb_ms nb mw fr to dl hd).1 (rb_ms nb mw fr to dl hd).2 ux3) := zDC hD
    refine lv_istore_n (lv' := [(2, .int (zI (if (rb_sdv nb (rb_ms nb mw fr to dl hd)) = 0 then -3 else (rb_best nb mw fr to dl hd (rb_ms nb mw fr to dl hd))))), (0, .ref (h 0)), (1, .int (zI v0))]) hx hb dX1_lag_15 rfl hl (by decide) rfl (fun ls hl => ?_)
    refine lv_iload_n hx hb dX1_lag_16 rfl (lv_at hl 0 rfl) ?_
    refine lv_bipush (v := zI (-3)) hx hb dX1_lag_17 (by decide) ?_
    refine zi_icmp_ne (tgt := 25) hx hb dX1_lag_19 (by decide) ⟨by omega, by omega⟩ ⟨by omega, by omega⟩ (fun c5 => ?_) (fun c5 => ?_)
    · have hnz : (rb_sdv nb (rb_ms nb mw fr to dl hd)) ≠ 0 := by omega
      rw [if_neg hnz] at hl
      refine lv_aload_n hx hb dX1_lag_25 rfl (lv_at hl 1 rfl) ?_
      refine lv_iload_n hx hb dX1_lag_26 rfl (lv_at hl 0 rfl) ?_
      refine zc_I ⟨hx, hb, hml, hown, hts⟩ (mC_can l D h d nb mw fr to dl hd 1 (rb_sdv nb (rb_ms nb mw fr to dl hd)) ux3 (rb_ms nb mw fr to dl hd) (rb_best nb mw fr to dl hd (rb_ms nb mw fr to dl hd)) ok hh hbd hlob ⟨by omega, by omega⟩) (cwV 1 hts (lw_V q101 q103 qs4 q14 q104) rfl rfl rfl (by decide +kernel) ⟨Nat.le_of_ble_eq_true rfl, Nat.le_of_ble_eq_true rfl⟩) hK hP hD hS hA (ci := 0) rfl rfl rfl rfl hl.1 rfl (Nat.le_of_ble_eq_true rfl) dX1_lag_27 ⟨Nat.le_refl 0, Nat.le_refl 0⟩ (fun r ux5 H locs hp hP hD hS => ?_)
      subst hp
      have hcb6 := rb_b_in (rb_can nb mw fr to dl hd (rb_ms nb mw fr to dl hd) (rb_best nb mw fr to dl hd (rb_ms nb mw fr to dl hd)))
      have hP : va_P D vwCl (rb_WC h d nb mw fr to dl hd 1 (rb_sdv nb (rb_ms nb mw fr to dl hd)) (rb_ms nb mw fr to dl hd).1 (rb_ms nb mw fr to dl hd).2 (if (rb_best nb mw fr to dl hd (rb_ms nb mw fr to dl hd)) < rb_mx nb dl then ux3 else (rb_rs mw fr to hd (rb_ms nb mw fr to dl hd) (rb_best nb mw fr to dl hd (rb_ms nb mw fr to dl hd))).1)) H := hP
      have hD : va_D A (rb_WC h d nb mw fr to dl hd 1 (rb_sdv nb (rb_ms nb mw fr to dl hd)) (rb_ms nb mw fr to dl hd).1 (rb_ms nb mw fr to dl hd).2 (if (rb_best nb mw fr to dl hd (rb_ms nb mw fr to dl hd)) < rb_mx nb dl then ux3 else (rb_rs mw fr to hd (rb_ms nb mw fr to dl hd) (rb_best nb mw fr to dl hd (rb_ms nb mw fr to dl hd))).1)) := zDC hD
      refine lv_pop hx hb dX1_lag_30 rfl ?_
      rw [if_neg (by omega)] at hP
      have hP : va_P D vwCl (rb_WC h d nb mw fr to dl hd 1 (rb_sdv nb (rb_ms nb mw fr to dl hd)) (rb_ms nb mw fr to dl hd).1 (rb_ms nb mw fr to dl hd).2 (rb_G nb mw fr to dl hd)) H := hP
      have hD : va_D A (rb_WC h d nb mw fr to dl hd 1 (rb_sdv nb (rb_ms nb mw fr to dl hd)) (rb_ms nb mw fr to dl hd).1 (rb_ms nb mw fr to dl hd).2 (rb_G nb mw fr to dl hd)) := zDC hD
      refine lv_aload_n hx hb dX1_lag_31 rfl (lv_at hl 1 rfl) ?_
      refine gC10 hx hb hts hown hK hP dX1_lag_32 ?_
      refine lv_iload_n hx hb dX1_lag_35 rfl (lv_at hl 2 rfl) ?_
      refine lC7 hx hb hK hP v0.toNat (by omega) (by omega) dX1_lag_36 ?_
      exact hret _ (1, (rb_sdv nb (rb_ms nb mw fr to dl hd)), (rb_ms nb mw fr to dl hd).1, (rb_ms nb mw fr to dl hd).2, (rb_G nb mw fr to dl hd)) _ _ _ _ dX1_lag_37 rfl hP (zDC hD) hS ⟨by unfold rb_lagA; rw [if_pos (by omega), if_neg (by omega)], (Or.inr ⟨rfl, rfl, rfl, rfl⟩)⟩
    · refine lv_bipush (v := zI (-100)) hx hb dX1_lag_22 (by decide) ?_
      exact hret _ (1, (rb_sdv nb (rb_ms nb mw fr to dl hd)), (rb_ms nb mw fr to dl hd).1, (rb_ms nb mw fr to dl hd).2, ux3) _ _ _ _ dX1_lag_24 rfl hP (zDC hD) hS ⟨by unfold rb_lagA; rw [if_pos (by omega), if_pos (by omega)], (Or.inr ⟨rfl, rfl, rfl, rfl⟩)⟩
  · refine lv_bipush (v := zI (-101)) hx hb dX1_lag_8 (by decide) ?_
    exact hret _ (kn, sd, le, lo, lg) _ _ _ _ dX1_lag_10 rfl hP (zDC hD) hS ⟨by unfold rb_lagA; rw [if_neg (by omega)], hk⟩
set_option maxHeartbeats 4000000 in
set_option maxRecDepth 100000 in
theorem mC_reachable (l : Launch) (D : va_G) (h : Nat → Nat) (d : Nat → ClassId) (nb : Nat) (mw : Nat) (fr : Nat → Nat) (to : Nat → Nat) (dl : Nat → Int) (hd : Nat → Int) (kn : Int) (sd : Int) (le : Nat → Int) (lo : Nat → Int) (lg : Nat → Int) (p0 : Int) (ok : rb_ok nb mw fr to dl hd) (hh : ∀ i, i < mw → hd i ≤ 1000) (hk : rb_ch nb mw fr to dl hd kn sd le lo) (hp0 : zin p0) : rb_MI l yX1_reachable cX1_reachable 2 (some .boolean) 2 D (rb_TC d) [.ref (h 0), .int (zI p0)] (rb_WC h d nb mw fr to dl hd kn sd le lo lg) (fun r (u : rb_T5) => r = zI (if (rb_sdv nb (rb_ms nb mw fr to dl hd)) = 0 then 0 else rb_b (rb_can nb mw fr to dl hd (rb_ms nb mw fr to dl hd) p0)) ∧ rb_ch nb mw fr to dl hd u.1 u.2.1 u.2.2.1 u.2.2.2.1) (fun u : rb_T5 => (rb_WC h d nb mw fr to dl hd u.1 u.2.1 u.2.2.1 u.2.2.2.1 u.2.2.2.2)) := by
  refine rb_mkI (by decide) (Nat.le_of_ble_eq_true rfl) (fun p e s m args below meth c A ls Q hx hb hml hts hown hK hP hD hS hA hl hret => ?_)
  have hown : s.vm.findClass RX1 = some m.cls := hown
  have hl : lv_has ls 2 [(0, .ref (h 0)), (1, .int (zI p0))] := hl
  refine lv_aload_n hx hb dX1_reachable_0 rfl (lv_at hl 0 rfl) ?_
  refine zc_V ⟨hx, hb, hml, hown, hts⟩ (mC_measure l D h d nb mw fr to dl hd kn sd le lo lg ok hh hk) (cwV 0 hts (lw_V q80 q82 qs1 q14 q83) rfl rfl rfl (by decide +kernel) ⟨Nat.le_of_ble_eq_true rfl, Nat.le_of_ble_eq_true rfl⟩) hK hP hD hS hA (ci := 0) rfl rfl rfl rfl hl.1 rfl (Nat.le_of_ble_eq_true rfl) dX1_reachable_1 ⟨Nat.le_refl 0, Nat.le_refl 0⟩ (fun ux0 H locs hp hP hD hS => ?_)
  have hP : va_P D vwCl (rb_WC h d nb mw fr to dl hd 1 (rb_sdv nb (rb_ms nb mw fr to dl hd)) (rb_ms nb mw fr to dl hd).1 (rb_ms nb mw fr to dl hd).2 lg) H := hP
  have hD : va_D A (rb_WC h d nb mw fr to dl hd 1 (rb_sdv nb (rb_ms nb mw fr to dl hd)) (rb_ms nb mw fr to dl hd).1 (rb_ms nb mw fr to dl hd).2 lg) := zDC hD
  have hsd := (rb_sdv_spec (rb_ms nb mw fr to dl hd) nb).1
  have hbd := rb_E1 ok
  have hlob := rb_lob_ms ok
  have hmx := rb_mx_in' (n := nb) ok.2.2.2.2
  refine lv_aload_n hx hb dX1_reachable_4 rfl (lv_at hl 0 rfl) ?_
  refine gC7 hx hb hts hown hK hP dX1_reachable_5 ?_
  refine zi_if_eq (tgt := 23) hx hb dX1_reachable_8 (by decide) ⟨by omega, by omega⟩ (fun c2 => ?_) (fun c2 => ?_)
  · refine lv_iconst (v := zI 0) hx hb dX1_reachable_23 rfl ?_
    exact hret _ (1, (rb_sdv nb (rb_ms nb mw fr to dl hd)), (rb_ms nb mw fr to dl hd).1, (rb_ms nb mw fr to dl hd).2, lg) _ _ _ _ dX1_reachable_24 rfl hP (zDC hD) hS ⟨by first | (rw [if_pos (by omega)]; done) | (rw [if_neg (by omega), rb_b_t ccan]; rfl) | (rw [if_neg (by omega), rb_b_f ccan]; rfl), (Or.inr ⟨rfl, rfl, rfl, rfl⟩)⟩
  · refine lv_aload_n hx hb dX1_reachable_11 rfl (lv_at hl 0 rfl) ?_
    refine lv_iload_n hx hb dX1_reachable_12 rfl (lv_at hl 1 rfl) ?_
    refine zc_I ⟨hx, hb, hml, hown, hts⟩ (mC_can l D h d nb mw fr to dl hd 1 (rb_sdv nb (rb_ms nb mw fr to dl hd)) lg (rb_ms nb mw fr to dl hd) p0 ok hh hbd hlob ⟨by omega, by omega⟩) (cwV 1 hts (lw_V q101 q103 qs4 q14 q104) rfl rfl rfl (by decide +kernel) ⟨Nat.le_of_ble_eq_true rfl, Nat.le_of_ble_eq_true rfl⟩) hK hP hD hS hA (ci := 0) rfl rfl rfl rfl hl.1 rfl (Nat.le_of_ble_eq_true rfl) dX1_reachable_13 ⟨Nat.le_refl 0, Nat.le_refl 0⟩ (fun r ux2 H locs hp hP hD hS => ?_)
    subst hp
    have hcb3 := rb_b_in (rb_can nb mw fr to dl hd (rb_ms nb mw fr to dl hd) p0)
    have hP : va_P D vwCl (rb_WC h d nb mw fr to dl hd 1 (rb_sdv nb (rb_ms nb mw fr to dl hd)) (rb_ms nb mw fr to dl hd).1 (rb_ms nb mw fr to dl hd).2 (if p0 < rb_mx nb dl then lg else (rb_rs mw fr to hd (rb_ms nb mw fr to dl hd) p0).1)) H := hP
    have hD : va_D A (rb_WC h d nb mw fr to dl hd 1 (rb_sdv nb (rb_ms nb mw fr to dl hd)) (rb_ms nb mw fr to dl hd).1 (rb_ms nb mw fr to dl hd).2 (if p0 < rb_mx nb dl then lg else (rb_rs mw fr to hd (rb_ms nb mw fr to dl hd) p0).1)) := zDC hD
    refine zi_if_eq (tgt := 23) hx hb dX1_reachable_16 (by decide) ⟨by omega, by omega⟩ (fun ccan => ?_) (fun ccan => ?_)
    · refine lv_iconst (v := zI 0) hx hb dX1_reachable_23 rfl ?_
      exact hret _ (1, (rb_sdv nb (rb_ms nb mw fr to dl hd)), (rb_ms nb mw fr to dl hd).1, (rb_ms nb mw fr to dl hd).2, (if p0 < rb_mx nb dl then lg else (rb_rs mw fr to hd (rb_ms nb mw fr to dl hd) p0).1)) _ _ _ _ dX1_reachable_24 rfl hP (zDC hD) hS ⟨by first | (rw [if_pos (by omega)]; done) | (rw [if_neg (by omega), rb_b_t ccan]; rfl) | (rw [if_neg (by omega), rb_b_f ccan]; rfl), (Or.inr ⟨rfl, rfl, rfl, rfl⟩)⟩
    · refine lv_iconst (v := zI 1) hx hb dX1_reachable_19 rfl ?_
      refine lv_goto (tgt := 24) hx hb dX1_reachable_20 (by decide) ?_
      exact hret _ (1, (rb_sdv nb (rb_ms nb mw fr to dl hd)), (rb_ms nb mw fr to dl hd).1, (rb_ms nb mw fr to dl hd).2, (if p0 < rb_mx nb dl then lg else (rb_rs mw fr to hd (rb_ms nb mw fr to dl hd) p0).1)) _ _ _ _ dX1_reachable_24 rfl hP (zDC hD) hS ⟨by first | (rw [if_pos (by omega)]; done) | (rw [if_neg (by omega), rb_b_t ccan]; rfl) | (rw [if_neg (by omega), rb_b_f ccan]; rfl), (Or.inr ⟨rfl, rfl, rfl, rfl⟩)⟩
set_option maxHeartbeats 4000000 in
set_option maxRecDepth 100000 in
theorem mC_sound (l : Launch) (D : va_G) (h : Nat → Nat) (d : Nat → ClassId) (nb : Nat) (mw : Nat) (fr : Nat → Nat) (to : Nat → Nat) (dl : Nat → Int) (hd : Nat → Int) (kn : Int) (sd : Int) (le : Nat → Int) (lo : Nat → Int) (lg : Nat → Int)  (ok : rb_ok nb mw fr to dl hd) (hh : ∀ i, i < mw → hd i ≤ 1000) (hk : rb_ch nb mw fr to dl hd kn sd le lo) : rb_MI l yX1_sound cX1_sound 1 (some .boolean) 2 D (rb_TC d) [.ref (h 0)] (rb_WC h d nb mw fr to dl hd kn sd le lo lg) (fun r (u : rb_T5) => r = zI (rb_sdv nb (rb_ms nb mw fr to dl hd)) ∧ rb_ch nb mw fr to dl hd u.1 u.2.1 u.2.2.1 u.2.2.2.1) (fun u : rb_T5 => (rb_WC h d nb mw fr to dl hd u.1 u.2.1 u.2.2.1 u.2.2.2.1 u.2.2.2.2)) := by
  refine rb_mkI (by decide) (Nat.le_of_ble_eq_true rfl) (fun p e s m args below meth c A ls Q hx hb hml hts hown hK hP hD hS hA hl hret => ?_)
  have hown : s.vm.findClass RX1 = some m.cls := hown
  have hl : lv_has ls 1 [(0, .ref (h 0))] := hl
  refine lv_aload_n hx hb dX1_sound_0 rfl (lv_at hl 0 rfl) ?_
  refine zc_V ⟨hx, hb, hml, hown, hts⟩ (mC_measure l D h d nb mw fr to dl hd kn sd le lo lg ok hh hk) (cwV 0 hts (lw_V q80 q82 qs1 q14 q83) rfl rfl rfl (by decide +kernel) ⟨Nat.le_of_ble_eq_true rfl, Nat.le_of_ble_eq_true rfl⟩) hK hP hD hS hA (ci := 0) rfl rfl rfl rfl hl.1 rfl (Nat.le_of_ble_eq_true rfl) dX1_sound_1 ⟨Nat.le_refl 0, Nat.le_refl 0⟩ (fun ux0 H locs hp hP hD hS => ?_)
  have hP : va_P D vwCl (rb_WC h d nb mw fr to dl hd 1 (rb_sdv nb (rb_ms nb mw fr to dl hd)) (rb_ms nb mw fr to dl hd).1 (rb_ms nb mw fr to dl hd).2 lg) H := hP
  have hD : va_D A (rb_WC h d nb mw fr to dl hd 1 (rb_sdv nb (rb_ms nb mw fr to dl hd)) (rb_ms nb mw fr to dl hd).1 (rb_ms nb mw fr to dl hd).2 lg) := zDC hD
  have hsd := (rb_sdv_spec (rb_ms nb mw fr to dl hd) nb).1
  have hbd := rb_E1 ok
  have hlob := rb_lob_ms ok
  have hmx := rb_mx_in' (n := nb) ok.2.2.2.2
  refine lv_aload_n hx hb dX1_sound_4 rfl (lv_at hl 0 rfl) ?_
  refine gC7 hx hb hts hown hK hP dX1_sound_5 ?_
  exact hret _ (1, (rb_sdv nb (rb_ms nb mw fr to dl hd)), (rb_ms nb mw fr to dl hd).1, (rb_ms nb mw fr to dl hd).2, lg) _ _ _ _ dX1_sound_8 (by rcases hsd with h | h <;> rw [h] <;> rfl) hP (zDC hD) hS ⟨rfl, (Or.inr ⟨rfl, rfl, rfl, rfl⟩)⟩
set_option maxHeartbeats 4000000 in
set_option maxRecDepth 100000 in
theorem mC_apply (l : Launch) (D : va_G) (h : Nat → Nat) (d : Nat → ClassId) (nb : Nat) (mw : Nat) (fr : Nat → Nat) (to : Nat → Nat) (dl : Nat → Int) (hd : Nat → Int) (kn : Int) (sd : Int) (le : Nat → Int) (lo : Nat → Int) (lg : Nat → Int)  (ok : rb_ok nb mw fr to dl hd) (hh : ∀ i, i < mw → hd i ≤ 1000) (hk : rb_ch nb mw fr to dl hd kn sd le lo) : rb_MI l yX1_apply cX1_apply 5 (some .int) 4 D (rb_TC d) [.ref (h 0)] (rb_WC h d nb mw fr to dl hd kn sd le lo lg) (fun r (u : rb_T5) => r = zI (if (rb_sdv nb (rb_ms nb mw fr to dl hd)) = 0 then -100 else rb_it (rb_gw fr to (rb_G nb mw fr to dl hd)) mw 0) ∧ rb_ch nb mw fr to dl (if (rb_sdv nb (rb_ms nb mw fr to dl hd)) = 0 then hd else rb_ap mw fr to hd (rb_G nb mw fr to dl hd)) u.1 u.2.1 u.2.2.1 u.2.2.2.1) (fun u : rb_T5 => (rb_WC h d nb mw fr to dl (if (rb_sdv nb (rb_ms nb mw fr to dl hd)) = 0 then hd else rb_ap mw fr to hd (rb_G nb mw fr to dl hd)) u.1 u.2.1 u.2.2.1 u.2.2.2.1 u.2.2.2.2)) := by
  refine rb_mkI (by decide) (Nat.le_of_ble_eq_true rfl) (fun p e s m args below meth c A ls Q hx hb hml hts hown hK hP hD hS hA hl hret => ?_)
  have hown : s.vm.findClass RX1 = some m.cls := hown
  have hl : lv_has ls 5 [(0, .ref (h 0))] := hl
  refine lv_aload_n hx hb dX1_apply_0 rfl (lv_at hl 0 rfl) ?_
  refine zc_I ⟨hx, hb, hml, hown, hts⟩ (mC_best l D h d nb mw fr to dl hd kn sd le lo lg ok hh hk) (cwV 0 hts (lw_V q113 q97 q98 q14 q99) rfl rfl rfl (by decide +kernel) ⟨Nat.le_of_ble_eq_true rfl, Nat.le_of_ble_eq_true rfl⟩) hK hP hD hS hA (ci := 0) rfl rfl rfl rfl hl.1 rfl (Nat.le_of_ble_eq_true rfl) dX1_apply_1 ⟨Nat.le_refl 0, Nat.le_refl 0⟩ (fun r ux0 H locs hp hP hD hS => ?_)
  subst hp
  have hsd := (rb_sdv_spec (rb_ms nb mw fr to dl hd) nb).1
  have hbd := rb_E1 ok
  have hlob := rb_lob_ms ok
  have hmx := rb_mx_in' (n := nb) ok.2.2.2.2
  have hbin := rb_best_b (n := nb) (m := mw) (fr := fr) (to := to) (hd := hd) ok.2.2.2.2 hlob
  have hbge := rb_best_ge nb mw fr to dl hd (rb_ms nb mw fr to dl hd)
  have hP : va_P D vwCl (rb_WC h d nb mw fr to dl hd 1 (rb_sdv nb (rb_ms nb mw fr to dl hd)) (rb_ms nb mw fr to dl hd).1 (rb_ms nb mw fr to dl hd).2 ux0) H := hP
  have hD : va_D A (rb_WC h d nb mw fr to dl hd 1 (rb_sdv nb (rb_ms nb mw fr to dl hd)) (rb_ms nb mw fr to dl hd).1 (rb_ms nb mw fr to dl hd).2 ux0) := zDC hD
  refine lv_istore_n (lv' := [(1, .int (zI (if (rb_sdv nb (rb_ms nb mw fr to dl hd)) = 0 then -3 else (rb_best nb mw fr to dl hd (rb_ms nb mw fr to dl hd))))), (0, .ref (h 0))]) hx hb dX1_apply_4 rfl hl (by decide) rfl (fun ls hl => ?_)
  refine lv_iload_n hx hb dX1_apply_5 rfl (lv_at hl 0 rfl) ?_
  refine lv_bipush (v := zI (-3)) hx hb dX1_apply_6 (by decide) ?_
  refine zi_icmp_ne (tgt := 14) hx hb dX1_apply_8 (by decide) ⟨by omega, by omega⟩ ⟨by omega, by omega⟩ (fun c2 => ?_) (fun c2 => ?_)
  · have hnz : (rb_sdv nb (rb_ms nb mw fr to dl hd)) ≠ 0 := by omega
    rw [if_neg hnz] at hl
    refine lv_aload_n hx hb dX1_apply_14 rfl (lv_at hl 1 rfl) ?_
    refine lv_iload_n hx hb dX1_apply_15 rfl (lv_at hl 0 rfl) ?_
    refine zc_I ⟨hx, hb, hml, hown, hts⟩ (mC_can l D h d nb mw fr to dl hd 1 (rb_sdv nb (rb_ms nb mw fr to dl hd)) ux0 (rb_ms nb mw fr to dl hd) (rb_best nb mw fr to dl hd (rb_ms nb mw fr to dl hd)) ok hh hbd hlob ⟨by omega, by omega⟩) (cwV 1 hts (lw_V q101 q103 qs4 q14 q104) rfl rfl rfl (by decide +kernel) ⟨Nat.le_of_ble_eq_true rfl, Nat.le_of_ble_eq_true rfl⟩) hK hP hD hS hA (ci := 0) rfl rfl rfl rfl hl.1 rfl (Nat.le_of_ble_eq_true rfl) dX1_apply_16 ⟨Nat.le_refl 0, Nat.le_refl 0⟩ (fun r ux2 H locs hp hP hD hS => ?_)
    subst hp
    have hcb3 := rb_b_in (rb_can nb mw fr to dl hd (rb_ms nb mw fr to dl hd) (rb_best nb mw fr to dl hd (rb_ms nb mw fr to dl hd)))
    have hP : va_P D vwCl (rb_WC h d nb mw fr to dl hd 1 (rb_sdv nb (rb_ms nb mw fr to dl hd)) (rb_ms nb mw fr to dl hd).1 (rb_ms nb mw fr to dl hd).2 (if (rb_best nb mw fr to dl hd (rb_ms nb mw fr to dl hd)) < rb_mx nb dl then ux0 else (rb_rs mw fr to hd (rb_ms nb mw fr to dl hd) (rb_best nb mw fr to dl hd (rb_ms nb mw fr to dl hd))).1)) H := hP
    have hD : va_D A (rb_WC h d nb mw fr to dl hd 1 (rb_sdv nb (rb_ms nb mw fr to dl hd)) (rb_ms nb mw fr to dl hd).1 (rb_ms nb mw fr to dl hd).2 (if (rb_best nb mw fr to dl hd (rb_ms nb mw fr to dl hd)) < rb_mx nb dl then ux0 else (rb_rs mw fr to hd (rb_ms nb mw fr to dl hd) (rb_best nb mw fr to dl hd (rb_ms nb mw fr to dl hd))).1)) := zDC hD
    refine lv_pop hx hb dX1_apply_19 rfl ?_
    rw [if_neg (by omega)] at hP
    have hP : va_P D vwCl (rb_WC h d nb mw fr to dl hd 1 (rb_sdv nb (rb_ms nb mw fr to dl hd)) (rb_ms nb mw fr to dl hd).1 (rb_ms nb mw fr to dl hd).2 (rb_G nb mw fr to dl hd)) H := hP
    have hD : va_D A (rb_WC h d nb mw fr to dl hd 1 (rb_sdv nb (rb_ms nb mw fr to dl hd)) (rb_ms nb mw fr to dl hd).1 (rb_ms nb mw fr to dl hd).2 (rb_G nb mw fr to dl hd)) := zDC hD
    refine lv_iconst (v := zI 0) hx hb dX1_apply_20 rfl ?_
    refine lv_istore_n (lv' := [(2, .int (zI 0)), (1, .int (zI (rb_best nb mw fr to dl hd (rb_ms nb mw fr to dl hd)))), (0, .ref (h 0))]) hx hb dX1_apply_21 rfl hl (by decide) rfl (fun ls hl => ?_)
    refine lv_iconst (v := zI 0) hx hb dX1_apply_22 rfl ?_
    refine lv_istore_n (lv' := [(3, .int (zI 0)), (2, .int (zI 0)), (1, .int (zI (rb_best nb mw fr to dl hd (rb_ms nb mw fr to dl hd)))), (0, .ref (h 0))]) hx hb dX1_apply_23 rfl hl (by decide) rfl (fun ls hl => ?_)
    have lp : ∀ (f_lp i : Nat), i ≤ mw → mw + 1 ≤ i + f_lp → ∀  (H : Heap) (locs : List Loc) (ls : Array Slot), va_P D vwCl (rb_WC h d nb mw fr to dl (rb_ap i fr to hd (rb_G nb mw fr to dl hd)) 1 (rb_sdv nb (rb_ms nb mw fr to dl hd)) (rb_ms nb mw fr to dl hd).1 (rb_ms nb mw fr to dl hd).2 (rb_G nb mw fr to dl hd)) H → va_D A (rb_WC h d nb mw fr to dl (rb_ap i fr to hd (rb_G nb mw fr to dl hd)) 1 (rb_sdv nb (rb_ms nb mw fr to dl hd)) (rb_ms nb mw fr to dl hd).1 (rb_ms nb mw fr to dl hd).2 (rb_G nb mw fr to dl hd)) → va_S A s.heap H locs → lv_has ls 5 [(0, .ref (h 0)), (2, .int (zI (rb_it (rb_gw fr to (rb_G nb mw fr to dl hd)) i 0))), (3, .int (zI ((i : Nat) : Int)))] → W p l e (rb_R 4) s m args below meth c H locs 0 0 Q (F0 m 24 ls []) := by
      intro f_lp
      induction f_lp with
      | zero => intro i h1 h2; omega
      | succ f_lp ih_lp =>
        intro i hi_lp hf_lp  H locs ls  hP hD hS hl
        have hmw := ok.2.2.1
        refine lv_iload_n hx hb dX1_apply_24 rfl (lv_at hl 2 rfl) ?_
        refine lv_aload_n hx hb dX1_apply_25 rfl (lv_at hl 0 rfl) ?_
        refine gC2 hx hb hts hown hK hP dX1_apply_26 ?_
        refine zi_icmp_ge (tgt := 79) hx hb dX1_apply_29 (by decide) ⟨by omega, by omega⟩ ⟨by omega, by omega⟩ (fun c5 => ?_) (fun c5 => ?_)
        · have e_i : mw = i := by omega
          subst e_i
          refine lv_aload_n hx hb dX1_apply_79 rfl (lv_at hl 0 rfl) ?_
          refine lv_iconst (v := zI 0) hx hb dX1_apply_80 rfl ?_
          refine pC6 hx hb hts hown hK hP hD hS (Or.inl rfl) dX1_apply_81 (fun H locs hP hD hS => ?_)
          refine lv_iload_n hx hb dX1_apply_84 rfl (lv_at hl 1 rfl) ?_
          exact hret _ (0, (rb_sdv nb (rb_ms nb mw fr to dl hd)), (rb_ms nb mw fr to dl hd).1, (rb_ms nb mw fr to dl hd).2, (rb_G nb mw fr to dl hd)) _ _ _ _ dX1_apply_85 rfl (by rw [if_neg (by omega)]; exact hP) (zDC hD) hS ⟨by rw [if_neg (by omega)], Or.inl rfl⟩
        · have ho := ok.2.2.2.1 i (by omega)
          have hn5 := ok.2.1
          refine lv_aload_n hx hb dX1_apply_32 rfl (lv_at hl 0 rfl) ?_
          refine gC10 hx hb hts hown hK hP dX1_apply_33 ?_
          refine lv_aload_n hx hb dX1_apply_36 rfl (lv_at hl 0 rfl) ?_
          refine gC4 hx hb hts hown hK hP dX1_apply_37 ?_
          refine lv_iload_n hx hb dX1_apply_40 rfl (lv_at hl 2 rfl) ?_
          refine lC3 hx hb hK hP i (by omega) (by omega) dX1_apply_41 ?_
          refine lC7 hx hb hK hP (to i) (by omega) (by omega) dX1_apply_42 ?_
          refine lv_aload_n hx hb dX1_apply_43 rfl (lv_at hl 0 rfl) ?_
          refine gC10 hx hb hts hown hK hP dX1_apply_44 ?_
          refine lv_aload_n hx hb dX1_apply_47 rfl (lv_at hl 0 rfl) ?_
          refine gC3 hx hb hts hown hK hP dX1_apply_48 ?_
          refine lv_iload_n hx hb dX1_apply_51 rfl (lv_at hl 2 rfl) ?_
          refine lC2 hx hb hK hP i (by omega) (by omega) dX1_apply_52 ?_
          refine lC7 hx hb hK hP (fr i) (by omega) (by omega) dX1_apply_53 ?_
          refine zi_isub hx hb dX1_apply_54 ?_
          refine lv_istore (lv' := [(4, .int (zI (((rb_G nb mw fr to dl hd) (to i)) - ((rb_G nb mw fr to dl hd) (fr i))))), (0, .ref (h 0)), (2, .int (zI (rb_it (rb_gw fr to (rb_G nb mw fr to dl hd)) i 0))), (3, .int (zI ((i : Nat) : Int)))]) hx hb dX1_apply_55 hl (by decide) rfl (fun ls hl => ?_)
          refine lv_aload_n hx hb dX1_apply_57 rfl (lv_at hl 1 rfl) ?_
          refine gC5 hx hb hts hown hK hP dX1_apply_58 ?_
          refine lv_iload_n hx hb dX1_apply_61 rfl (lv_at hl 3 rfl) ?_
          refine lv_dup2_11 hx hb dX1_apply_62 rfl rfl ?_
          refine lC4 hx hb hK hP i (by omega) (by omega) dX1_apply_63 ?_
          refine lv_iload hx hb dX1_apply_64 (lv_at hl 0 rfl) ?_
          refine zi_iadd hx hb dX1_apply_66 ?_
          refine sC4 hx hb hK hP hD hS i (by omega) (by omega) dX1_apply_67 (fun H locs hP hD hS => ?_)
          refine lv_iload_n hx hb dX1_apply_68 rfl (lv_at hl 2 rfl) ?_
          refine lv_iload hx hb dX1_apply_69 (lv_at hl 0 rfl) ?_
          refine zi_iadd hx hb dX1_apply_71 ?_
          refine lv_istore_n (lv' := [(2, .int (zI ((rb_it (rb_gw fr to (rb_G nb mw fr to dl hd)) i 0) + (((rb_G nb mw fr to dl hd) (to i)) - ((rb_G nb mw fr to dl hd) (fr i)))))), (4, .int (zI (((rb_G nb mw fr to dl hd) (to i)) - ((rb_G nb mw fr to dl hd) (fr i))))), (0, .ref (h 0)), (3, .int (zI ((i : Nat) : Int)))]) hx hb dX1_apply_72 rfl hl (by decide) rfl (fun ls hl => ?_)
          refine zi_iinc (k := 3) (x' := (((i + 1) : Nat) : Int)) (lv' := [(3, .int (zI (((i + 1) : Nat) : Int))), (2, .int (zI ((rb_it (rb_gw fr to (rb_G nb mw fr to dl hd)) i 0) + (((rb_G nb mw fr to dl hd) (to i)) - ((rb_G nb mw fr to dl hd) (fr i)))))), (4, .int (zI (((rb_G nb mw fr to dl hd) (to i)) - ((rb_G nb mw fr to dl hd) (fr i))))), (0, .ref (h 0))]) hx hb dX1_apply_73 hl rfl (by omega) (by decide) rfl (fun ls hl => ?_)
          refine lv_goto (tgt := 24) hx hb dX1_apply_76 (by decide) ?_
          exact ih_lp (i + 1) (by omega) (by omega)  _ _ _  (by rw [← rb_ap_up i]; exact hP) (zDC hD) hS (by rw [rb_it_s _ i, rb_gw_d]; exact lv_sub hl [3, 1, 0] rfl)
    exact lp (mw + 1) 0 (by omega) (by omega)  _ _ _  (by rw [rb_ap_0]; exact hP) (zDC hD) hS (lv_sub hl [3, 1, 0] rfl)
  · refine lv_bipush (v := zI (-100)) hx hb dX1_apply_11 (by decide) ?_
    exact hret _ (1, (rb_sdv nb (rb_ms nb mw fr to dl hd)), (rb_ms nb mw fr to dl hd).1, (rb_ms nb mw fr to dl hd).2, ux0) _ _ _ _ dX1_apply_13 rfl (by rw [if_pos (by omega)]; exact hP) (zDC hD) hS ⟨by rw [if_pos (by omega)], by rw [if_pos (by omega)]; exact (Or.inr ⟨rfl, rfl, rfl, rfl⟩)⟩
set_option maxHeartbeats 4000000 in
set_option maxRecDepth 100000 in
theorem mC_registers (l : Launch) (D : va_G) (h : Nat → Nat) (d : Nat → ClassId) (nb : Nat) (mw : Nat) (fr : Nat → Nat) (to : Nat → Nat) (dl : Nat → Int) (hd : Nat → Int) (kn : Int) (sd : Int) (le : Nat → Int) (lo : Nat → Int) (lg : Nat → Int) (i0 : Int) (hm : mw ≤ 12) (hi0 : zin i0) : rb_MI l yX1_registers cX1_registers 2 (some .int) 0 D (rb_TC d) [.ref (h 0), .int (zI i0)] (rb_WC h d nb mw fr to dl hd kn sd le lo lg) (fun r _ => r = zI (if 0 ≤ i0 ∧ i0 < (mw : Int) then hd i0.toNat else -1)) (fun _ : Unit => (rb_WC h d nb mw fr to dl hd kn sd le lo lg)) := by
  refine rb_mkI (by decide) (Nat.le_of_ble_eq_true rfl) (fun p e s m args below meth c A ls Q hx hb hml hts hown hK hP hD hS hA hl hret => ?_)
  have hown : s.vm.findClass RX1 = some m.cls := hown
  have hl : lv_has ls 2 [(0, .ref (h 0)), (1, .int (zI i0))] := hl
  refine lv_iload_n hx hb dX1_registers_0 rfl (lv_at hl 1 rfl) ?_
  refine zi_if_lt (tgt := 12) hx hb dX1_registers_1 (by decide) ⟨by omega, by omega⟩ (fun c1 => ?_) (fun c1 => ?_)
  · refine lv_iconst (v := zI (-1)) hx hb dX1_registers_12 rfl ?_
    refine lv_goto (tgt := 22) hx hb dX1_registers_13 (by decide) ?_
    exact hret _ () _ _ _ _ dX1_registers_22 rfl hP (zDC hD) hS (by first | rw [if_pos (by omega)] | rw [if_neg (by omega)])
  · refine lv_iload_n hx hb dX1_registers_4 rfl (lv_at hl 1 rfl) ?_
    refine lv_aload_n hx hb dX1_registers_5 rfl (lv_at hl 0 rfl) ?_
    refine gC2 hx hb hts hown hK hP dX1_registers_6 ?_
    refine zi_icmp_lt (tgt := 16) hx hb dX1_registers_9 (by decide) ⟨by omega, by omega⟩ ⟨by omega, by omega⟩ (fun c2 => ?_) (fun c2 => ?_)
    · refine lv_aload_n hx hb dX1_registers_16 rfl (lv_at hl 0 rfl) ?_
      refine gC5 hx hb hts hown hK hP dX1_registers_17 ?_
      refine lv_iload_n hx hb dX1_registers_20 rfl (lv_at hl 1 rfl) ?_
      refine lC4 hx hb hK hP i0.toNat (by omega) (by omega) dX1_registers_21 ?_
      exact hret _ () _ _ _ _ dX1_registers_22 rfl hP (zDC hD) hS (by first | rw [if_pos (by omega)] | rw [if_neg (by omega)])
    · refine lv_iconst (v := zI (-1)) hx hb dX1_registers_12 rfl ?_
      refine lv_goto (tgt := 22) hx hb dX1_registers_13 (by decide) ?_
      exact hret _ () _ _ _ _ dX1_registers_22 rfl hP (zDC hD) hS (by first | rw [if_pos (by omega)] | rw [if_neg (by omega)])
set_option maxHeartbeats 4000000 in
set_option maxRecDepth 100000 in
theorem mC_fewest (l : Launch) (D : va_G) (h : Nat → Nat) (d : Nat → ClassId) (nb : Nat) (mw : Nat) (fr : Nat → Nat) (to : Nat → Nat) (dl : Nat → Int) (hd : Nat → Int) (kn : Int) (sd : Int) (le : Nat → Int) (lo : Nat → Int) (lg : Nat → Int) (u0 v0 : Int) (ok : rb_ok nb mw fr to dl hd) (hh : ∀ i, i < mw → hd i ≤ 1000) (hk : rb_ch nb mw fr to dl hd kn sd le lo) (hu0 : zin u0) (hv0 : zin v0) : rb_MI l yX1_fewest cX1_fewest 3 (some .int) 2 D (rb_TC d) [.ref (h 0), .int (zI u0), .int (zI v0)] (rb_WC h d nb mw fr to dl hd kn sd le lo lg) (fun r (u : rb_T5) => r = zI (rb_fewA nb mw fr to dl hd u0 v0) ∧ rb_ch nb mw fr to dl hd u.1 u.2.1 u.2.2.1 u.2.2.2.1) (fun u : rb_T5 => (rb_WC h d nb mw fr to dl hd u.1 u.2.1 u.2.2.1 u.2.2.2.1 u.2.2.2.2)) := by
  refine rb_mkI (by decide) (Nat.le_of_ble_eq_true rfl) (fun p e s m args below meth c A ls Q hx hb hml hts hown hK hP hD hS hA hl hret => ?_)
  have hown : s.vm.findClass RX1 = some m.cls := hown
  have hl : lv_has ls 3 [(0, .ref (h 0)), (1, .int (zI u0)), (2, .int (zI v0))] := hl
  have hn5 := ok.2.1
  refine lv_aload_n hx hb dX1_fewest_0 rfl (lv_at hl 0 rfl) ?_
  refine lv_iload_n hx hb dX1_fewest_1 rfl (lv_at hl 1 rfl) ?_
  refine zc_I ⟨hx, hb, hml, hown, hts⟩ (mC_isBlock l D h d nb mw fr to dl hd kn sd le lo lg u0 ⟨by omega, by omega⟩ ok.2.1) (cwV 1 hts (lw_V q64 q66 qs0 q14 q67) rfl rfl rfl (by decide +kernel) ⟨Nat.le_of_ble_eq_true rfl, Nat.le_of_ble_eq_true rfl⟩) hK hP hD hS hA (ci := 0) rfl rfl rfl rfl hl.1 rfl (Nat.le_of_ble_eq_true rfl) dX1_fewest_2 ⟨Nat.le_refl 0, Nat.le_refl 0⟩ (fun r ux0 H locs hp hP hD hS => ?_)
  subst hp
  have his1 := rb_isb_spec nb u0
  refine zi_if_eq (tgt := 16) hx hb dX1_fewest_5 (by decide) ⟨by omega, by omega⟩ (fun c3 => ?_) (fun c3 => ?_)
  · refine lv_iconst (v := zI (-1)) hx hb dX1_fewest_16 rfl ?_
    exact hret _ (kn, sd, le, lo, lg) _ _ _ _ dX1_fewest_17 rfl hP (zDC hD) hS ⟨by unfold rb_fewA; rw [if_neg (by omega)], hk⟩
  · refine lv_aload_n hx hb dX1_fewest_8 rfl (lv_at hl 0 rfl) ?_
    refine lv_iload_n hx hb dX1_fewest_9 rfl (lv_at hl 2 rfl) ?_
    refine zc_I ⟨hx, hb, hml, hown, hts⟩ (mC_isBlock l D h d nb mw fr to dl hd kn sd le lo lg v0 ⟨by omega, by omega⟩ ok.2.1) (cwV 1 hts (lw_V q64 q66 qs0 q14 q67) rfl rfl rfl (by decide +kernel) ⟨Nat.le_of_ble_eq_true rfl, Nat.le_of_ble_eq_true rfl⟩) hK hP hD hS hA (ci := 0) rfl rfl rfl rfl hl.1 rfl (Nat.le_of_ble_eq_true rfl) dX1_fewest_10 ⟨Nat.le_refl 0, Nat.le_refl 0⟩ (fun r ux3 H locs hp hP hD hS => ?_)
    subst hp
    have his4 := rb_isb_spec nb v0
    refine zi_if_ne (tgt := 18) hx hb dX1_fewest_13 (by decide) ⟨by omega, by omega⟩ (fun c6 => ?_) (fun c6 => ?_)
    · refine lv_aload_n hx hb dX1_fewest_18 rfl (lv_at hl 0 rfl) ?_
      refine zc_V ⟨hx, hb, hml, hown, hts⟩ (mC_measure l D h d nb mw fr to dl hd kn sd le lo lg ok hh hk) (cwV 0 hts (lw_V q80 q82 qs1 q14 q83) rfl rfl rfl (by decide +kernel) ⟨Nat.le_of_ble_eq_true rfl, Nat.le_of_ble_eq_true rfl⟩) hK hP hD hS hA (ci := 0) rfl rfl rfl rfl hl.1 rfl (Nat.le_of_ble_eq_true rfl) dX1_fewest_19 ⟨Nat.le_refl 0, Nat.le_refl 0⟩ (fun ux6 H locs hp hP hD hS => ?_)
      have hP : va_P D vwCl (rb_WC h d nb mw fr to dl hd 1 (rb_sdv nb (rb_ms nb mw fr to dl hd)) (rb_ms nb mw fr to dl hd).1 (rb_ms nb mw fr to dl hd).2 lg) H := hP
      have hD : va_D A (rb_WC h d nb mw fr to dl hd 1 (rb_sdv nb (rb_ms nb mw fr to dl hd)) (rb_ms nb mw fr to dl hd).1 (rb_ms nb mw fr to dl hd).2 lg) := zDC hD
      have hsd := (rb_sdv_spec (rb_ms nb mw fr to dl hd) nb).1
      have hbd := rb_E1 ok
      have hlob := rb_lob_ms ok
      have hmx := rb_mx_in' (n := nb) ok.2.2.2.2
      refine lv_aload_n hx hb dX1_fewest_22 rfl (lv_at hl 0 rfl) ?_
      refine gC8 hx hb hts hown hK hP dX1_fewest_23 ?_
      refine lv_iconst (v := zI 5) hx hb dX1_fewest_26 rfl ?_
      refine lv_iload_n hx hb dX1_fewest_27 rfl (lv_at hl 1 rfl) ?_
      refine zi_imul hx hb dX1_fewest_28 ?_
      refine lv_iload_n hx hb dX1_fewest_29 rfl (lv_at hl 2 rfl) ?_
      refine zi_iadd hx hb dX1_fewest_30 ?_
      refine lC5 hx hb hK hP (5 * u0.toNat + v0.toNat) (by omega) (by omega) dX1_fewest_31 ?_
      have b8 := hbd (5 * u0.toNat + v0.toNat)
      refine lv_sipush (v := zI 1000) hx hb dX1_fewest_32 (by decide) ?_
      refine zi_icmp_lt (tgt := 43) hx hb dX1_fewest_35 (by decide) ⟨by omega, by omega⟩ ⟨by omega, by omega⟩ (fun c9 => ?_) (fun c9 => ?_)
      · refine lv_aload_n hx hb dX1_fewest_43 rfl (lv_at hl 0 rfl) ?_
        refine gC8 hx hb hts hown hK hP dX1_fewest_44 ?_
        refine lv_iconst (v := zI 5) hx hb dX1_fewest_47 rfl ?_
        refine lv_iload_n hx hb dX1_fewest_48 rfl (lv_at hl 1 rfl) ?_
        refine zi_imul hx hb dX1_fewest_49 ?_
        refine lv_iload_n hx hb dX1_fewest_50 rfl (lv_at hl 2 rfl) ?_
        refine zi_iadd hx hb dX1_fewest_51 ?_
        refine lC5 hx hb hK hP (5 * u0.toNat + v0.toNat) (by omega) (by omega) dX1_fewest_52 ?_
        have b10 := hbd (5 * u0.toNat + v0.toNat)
        exact hret _ (1, (rb_sdv nb (rb_ms nb mw fr to dl hd)), (rb_ms nb mw fr to dl hd).1, (rb_ms nb mw fr to dl hd).2, lg) _ _ _ _ dX1_fewest_53 rfl hP (zDC hD) hS ⟨by unfold rb_fewA; rw [if_pos (by omega)]; first | rw [if_pos (by omega)] | rw [if_neg (by omega)], (Or.inr ⟨rfl, rfl, rfl, rfl⟩)⟩
      · refine lv_bipush (v := zI (-2)) hx hb dX1_fewest_38 (by decide) ?_
        refine lv_goto (tgt := 53) hx hb dX1_fewest_40 (by decide) ?_
        exact hret _ (1, (rb_sdv nb (rb_ms nb mw fr to dl hd)), (rb_ms nb mw fr to dl hd).1, (rb_ms nb mw fr to dl hd).2, lg) _ _ _ _ dX1_fewest_53 rfl hP (zDC hD) hS ⟨by unfold rb_fewA; rw [if_pos (by omega)]; first | rw [if_pos (by omega)] | rw [if_neg (by omega)], (Or.inr ⟨rfl, rfl, rfl, rfl⟩)⟩
    · refine lv_iconst (v := zI (-1)) hx hb dX1_fewest_16 rfl ?_
      exact hret _ (kn, sd, le, lo, lg) _ _ _ _ dX1_fewest_17 rfl hP (zDC hD) hS ⟨by unfold rb_fewA; rw [if_neg (by omega)], hk⟩
set_option maxHeartbeats 4000000 in
set_option maxRecDepth 100000 in
theorem mC_delay (l : Launch) (D : va_G) (h : Nat → Nat) (d : Nat → ClassId) (nb : Nat) (mw : Nat) (fr : Nat → Nat) (to : Nat → Nat) (dl : Nat → Int) (hd : Nat → Int) (kn : Int) (sd : Int) (le : Nat → Int) (lo : Nat → Int) (lg : Nat → Int) (v0 x0 : Int) (ok : rb_ok nb mw fr to dl hd) (hh : ∀ i, i < mw → hd i ≤ 1000) (hk : rb_ch nb mw fr to dl hd kn sd le lo) (hv0 : zin v0) (hx0 : zin x0) : rb_MI l yX1_delay cX1_delay 3 (some .boolean) 1 D (rb_TC d) [.ref (h 0), .int (zI v0), .int (zI x0)] (rb_WC h d nb mw fr to dl hd kn sd le lo lg) (fun r (u : rb_T5) => r = zI (rb_b (rb_dv nb v0 x0)) ∧ rb_ch nb mw fr to (rb_sel (rb_dv nb v0 x0) (rb_up dl v0.toNat x0) dl) hd u.1 u.2.1 u.2.2.1 u.2.2.2.1) (fun u : rb_T5 => (rb_WC h d nb mw fr to (rb_sel (rb_dv nb v0 x0) (rb_up dl v0.toNat x0) dl) hd u.1 u.2.1 u.2.2.1 u.2.2.2.1 u.2.2.2.2)) := by
  refine rb_mkI (by decide) (Nat.le_of_ble_eq_true rfl) (fun p e s m args below meth c A ls Q hx hb hml hts hown hK hP hD hS hA hl hret => ?_)
  have hown : s.vm.findClass RX1 = some m.cls := hown
  have hl : lv_has ls 3 [(0, .ref (h 0)), (1, .int (zI v0)), (2, .int (zI x0))] := hl
  have hn5 := ok.2.1
  refine lv_aload_n hx hb dX1_delay_0 rfl (lv_at hl 0 rfl) ?_
  refine lv_iload_n hx hb dX1_delay_1 rfl (lv_at hl 1 rfl) ?_
  refine zc_I ⟨hx, hb, hml, hown, hts⟩ (mC_isBlock l D h d nb mw fr to dl hd kn sd le lo lg v0 ⟨by omega, by omega⟩ ok.2.1) (cwV 1 hts (lw_V q64 q66 qs0 q14 q67) rfl rfl rfl (by decide +kernel) ⟨Nat.le_of_ble_eq_true rfl, Nat.le_of_ble_eq_true rfl⟩) hK hP hD hS hA (ci := 0) rfl rfl rfl rfl hl.1 rfl (Nat.le_of_ble_eq_true rfl) dX1_delay_2 ⟨Nat.le_refl 0, Nat.le_refl 0⟩ (fun r ux0 H locs hp hP hD hS => ?_)
  subst hp
  have his1 := rb_isb_spec nb v0
  refine zi_if_eq (tgt := 18) hx hb dX1_delay_5 (by decide) ⟨by omega, by omega⟩ (fun c3 => ?_) (fun c3 => ?_)
  · refine lv_iconst (v := zI 0) hx hb dX1_delay_18 rfl ?_
    exact hret _ (kn, sd, le, lo, lg) _ _ _ _ dX1_delay_19 rfl (by rw [rb_dv_f (by omega)]; exact hP) (zDC hD) hS ⟨by rw [rb_dv_f (by omega)]; rfl, by rw [rb_dv_f (by omega)]; exact hk⟩
  · refine lv_iload_n hx hb dX1_delay_8 rfl (lv_at hl 2 rfl) ?_
    refine zi_if_lt (tgt := 18) hx hb dX1_delay_9 (by decide) ⟨by omega, by omega⟩ (fun c4 => ?_) (fun c4 => ?_)
    · refine lv_iconst (v := zI 0) hx hb dX1_delay_18 rfl ?_
      exact hret _ (kn, sd, le, lo, lg) _ _ _ _ dX1_delay_19 rfl (by rw [rb_dv_f (by omega)]; exact hP) (zDC hD) hS ⟨by rw [rb_dv_f (by omega)]; rfl, by rw [rb_dv_f (by omega)]; exact hk⟩
    · refine lv_iload_n hx hb dX1_delay_12 rfl (lv_at hl 2 rfl) ?_
      refine lv_bipush (v := zI 9) hx hb dX1_delay_13 (by decide) ?_
      refine zi_icmp_le (tgt := 20) hx hb dX1_delay_15 (by decide) ⟨by omega, by omega⟩ ⟨by omega, by omega⟩ (fun c5 => ?_) (fun c5 => ?_)
      · refine lv_aload_n hx hb dX1_delay_20 rfl (lv_at hl 0 rfl) ?_
        refine gC1 hx hb hts hown hK hP dX1_delay_21 ?_
        refine lv_iload_n hx hb dX1_delay_24 rfl (lv_at hl 1 rfl) ?_
        refine lv_iload_n hx hb dX1_delay_25 rfl (lv_at hl 2 rfl) ?_
        refine zi_i2b hx hb (by omega) (by omega) dX1_delay_26 ?_
        refine sC1 hx hb hK hP hD hS v0.toNat (by omega) (by omega) (by omega) (by omega) dX1_delay_27 (fun H locs hP hD hS => ?_)
        refine lv_aload_n hx hb dX1_delay_28 rfl (lv_at hl 0 rfl) ?_
        refine lv_iconst (v := zI 0) hx hb dX1_delay_29 rfl ?_
        refine pC6 hx hb hts hown hK hP hD hS (Or.inl rfl) dX1_delay_30 (fun H locs hP hD hS => ?_)
        refine lv_iconst (v := zI 1) hx hb dX1_delay_33 rfl ?_
        exact hret _ (0, sd, le, lo, lg) _ _ _ _ dX1_delay_34 rfl (by rw [rb_dv_t (by omega)]; exact hP) (zDC hD) hS ⟨by rw [rb_dv_t (by omega)]; rfl, Or.inl rfl⟩
      · refine lv_iconst (v := zI 0) hx hb dX1_delay_18 rfl ?_
        exact hret _ (kn, sd, le, lo, lg) _ _ _ _ dX1_delay_19 rfl (by rw [rb_dv_f (by omega)]; exact hP) (zDC hD) hS ⟨by rw [rb_dv_f (by omega)]; rfl, by rw [rb_dv_f (by omega)]; exact hk⟩
set_option maxHeartbeats 4000000 in
set_option maxRecDepth 100000 in
theorem mC_wire (l : Launch) (D : va_G) (h : Nat → Nat) (d : Nat → ClassId) (nb : Nat) (mw : Nat) (fr : Nat → Nat) (to : Nat → Nat) (dl : Nat → Int) (hd : Nat → Int) (kn : Int) (sd : Int) (le : Nat → Int) (lo : Nat → Int) (lg : Nat → Int) (u0 v0 r0 : Int) (ok : rb_ok nb mw fr to dl hd) (hh : ∀ i, i < mw → hd i ≤ 1000) (hk : rb_ch nb mw fr to dl hd kn sd le lo) (hu0 : zin u0) (hv0 : zin v0) (hr0 : zin r0) : rb_MI l yX1_wire cX1_wire 4 (some .int) 1 D (rb_TC d) [.ref (h 0), .int (zI u0), .int (zI v0), .int (zI r0)] (rb_WC h d nb mw fr to dl hd kn sd le lo lg) (fun r (u : rb_T5) => r = zI (if mw < 12 then rb_sel (rb_wv nb mw u0 v0 r0) (mw : Int) (-1) else -2) ∧ rb_ch nb (rb_sel (rb_wv nb mw u0 v0 r0) (mw + 1) mw) (rb_sel (rb_wv nb mw u0 v0 r0) (rb_up fr mw u0.toNat) fr) (rb_sel (rb_wv nb mw u0 v0 r0) (rb_up to mw v0.toNat) to) dl (rb_sel (rb_wv nb mw u0 v0 r0) (rb_up hd mw r0) hd) u.1 u.2.1 u.2.2.1 u.2.2.2.1) (fun u : rb_T5 => (rb_WC h d nb (rb_sel (rb_wv nb mw u0 v0 r0) (mw + 1) mw) (rb_sel (rb_wv nb mw u0 v0 r0) (rb_up fr mw u0.toNat) fr) (rb_sel (rb_wv nb mw u0 v0 r0) (rb_up to mw v0.toNat) to) dl (rb_sel (rb_wv nb mw u0 v0 r0) (rb_up hd mw r0) hd) u.1 u.2.1 u.2.2.1 u.2.2.2.1 u.2.2.2.2)) := by
  refine rb_mkI (by decide) (Nat.le_of_ble_eq_true rfl) (fun p e s m args below meth c A ls Q hx hb hml hts hown hK hP hD hS hA hl hret => ?_)
  have hown : s.vm.findClass RX1 = some m.cls := hown
  have hl : lv_has ls 4 [(0, .ref (h 0)), (1, .int (zI u0)), (2, .int (zI v0)), (3, .int (zI r0))] := hl
  have hn5 := ok.2.1
  have hm12 := ok.2.2.1
  refine lv_aload_n hx hb dX1_wire_0 rfl (lv_at hl 0 rfl) ?_
  refine gC2 hx hb hts hown hK hP dX1_wire_1 ?_
  refine lv_bipush (v := zI 12) hx hb dX1_wire_4 (by decide) ?_
  refine zi_icmp_lt (tgt := 12) hx hb dX1_wire_6 (by decide) ⟨by omega, by omega⟩ ⟨by omega, by omega⟩ (fun c1 => ?_) (fun c1 => ?_)
  · refine lv_aload_n hx hb dX1_wire_12 rfl (lv_at hl 0 rfl) ?_
    refine lv_iload_n hx hb dX1_wire_13 rfl (lv_at hl 1 rfl) ?_
    refine zc_I ⟨hx, hb, hml, hown, hts⟩ (mC_isBlock l D h d nb mw fr to dl hd kn sd le lo lg u0 ⟨by omega, by omega⟩ ok.2.1) (cwV 1 hts (lw_V q64 q66 qs0 q14 q67) rfl rfl rfl (by decide +kernel) ⟨Nat.le_of_ble_eq_true rfl, Nat.le_of_ble_eq_true rfl⟩) hK hP hD hS hA (ci := 0) rfl rfl rfl rfl hl.1 rfl (Nat.le_of_ble_eq_true rfl) dX1_wire_14 ⟨Nat.le_refl 0, Nat.le_refl 0⟩ (fun r ux1 H locs hp hP hD hS => ?_)
    subst hp
    have his2 := rb_isb_spec nb u0
    refine zi_if_eq (tgt := 37) hx hb dX1_wire_17 (by decide) ⟨by omega, by omega⟩ (fun c4 => ?_) (fun c4 => ?_)
    · refine lv_iconst (v := zI (-1)) hx hb dX1_wire_37 rfl ?_
      exact hret _ (kn, sd, le, lo, lg) _ _ _ _ dX1_wire_38 rfl (by rw [rb_wv_f (by omega)]; exact hP) (zDC hD) hS ⟨by rw [if_pos (by omega), rb_wv_f (by omega)]; rfl, by rw [rb_wv_f (by omega)]; exact hk⟩
    · refine lv_aload_n hx hb dX1_wire_20 rfl (lv_at hl 0 rfl) ?_
      refine lv_iload_n hx hb dX1_wire_21 rfl (lv_at hl 2 rfl) ?_
      refine zc_I ⟨hx, hb, hml, hown, hts⟩ (mC_isBlock l D h d nb mw fr to dl hd kn sd le lo lg v0 ⟨by omega, by omega⟩ ok.2.1) (cwV 1 hts (lw_V q64 q66 qs0 q14 q67) rfl rfl rfl (by decide +kernel) ⟨Nat.le_of_ble_eq_true rfl, Nat.le_of_ble_eq_true rfl⟩) hK hP hD hS hA (ci := 0) rfl rfl rfl rfl hl.1 rfl (Nat.le_of_ble_eq_true rfl) dX1_wire_22 ⟨Nat.le_refl 0, Nat.le_refl 0⟩ (fun r ux4 H locs hp hP hD hS => ?_)
      subst hp
      have his5 := rb_isb_spec nb v0
      refine zi_if_eq (tgt := 37) hx hb dX1_wire_25 (by decide) ⟨by omega, by omega⟩ (fun c7 => ?_) (fun c7 => ?_)
      · refine lv_iconst (v := zI (-1)) hx hb dX1_wire_37 rfl ?_
        exact hret _ (kn, sd, le, lo, lg) _ _ _ _ dX1_wire_38 rfl (by rw [rb_wv_f (by omega)]; exact hP) (zDC hD) hS ⟨by rw [if_pos (by omega), rb_wv_f (by omega)]; rfl, by rw [rb_wv_f (by omega)]; exact hk⟩
      · refine lv_iload_n hx hb dX1_wire_28 rfl (lv_at hl 3 rfl) ?_
        refine zi_if_lt (tgt := 37) hx hb dX1_wire_29 (by decide) ⟨by omega, by omega⟩ (fun c8 => ?_) (fun c8 => ?_)
        · refine lv_iconst (v := zI (-1)) hx hb dX1_wire_37 rfl ?_
          exact hret _ (kn, sd, le, lo, lg) _ _ _ _ dX1_wire_38 rfl (by rw [rb_wv_f (by omega)]; exact hP) (zDC hD) hS ⟨by rw [if_pos (by omega), rb_wv_f (by omega)]; rfl, by rw [rb_wv_f (by omega)]; exact hk⟩
        · refine lv_iload_n hx hb dX1_wire_32 rfl (lv_at hl 3 rfl) ?_
          refine lv_iconst (v := zI 3) hx hb dX1_wire_33 rfl ?_
          refine zi_icmp_le (tgt := 39) hx hb dX1_wire_34 (by decide) ⟨by omega, by omega⟩ ⟨by omega, by omega⟩ (fun c9 => ?_) (fun c9 => ?_)
          · have e_u : u0 = ((u0.toNat : Nat) : Int) := by omega
            have e_v : v0 = ((v0.toNat : Nat) : Int) := by omega
            refine lv_aload_n hx hb dX1_wire_39 rfl (lv_at hl 0 rfl) ?_
            refine gC3 hx hb hts hown hK hP dX1_wire_40 ?_
            refine lv_aload_n hx hb dX1_wire_43 rfl (lv_at hl 0 rfl) ?_
            refine gC2 hx hb hts hown hK hP dX1_wire_44 ?_
            refine lv_iload_n hx hb dX1_wire_47 rfl (lv_at hl 1 rfl) ?_
            refine zi_i2b hx hb (by omega) (by omega) dX1_wire_48 ?_
            refine sC2 hx hb hK hP hD hS mw u0.toNat (by omega) (by omega) (by omega) (by omega) dX1_wire_49 (fun H locs hP hD hS => ?_)
            refine lv_aload_n hx hb dX1_wire_50 rfl (lv_at hl 0 rfl) ?_
            refine gC4 hx hb hts hown hK hP dX1_wire_51 ?_
            refine lv_aload_n hx hb dX1_wire_54 rfl (lv_at hl 0 rfl) ?_
            refine gC2 hx hb hts hown hK hP dX1_wire_55 ?_
            refine lv_iload_n hx hb dX1_wire_58 rfl (lv_at hl 2 rfl) ?_
            refine zi_i2b hx hb (by omega) (by omega) dX1_wire_59 ?_
            refine sC3 hx hb hK hP hD hS mw v0.toNat (by omega) (by omega) (by omega) (by omega) dX1_wire_60 (fun H locs hP hD hS => ?_)
            refine lv_aload_n hx hb dX1_wire_61 rfl (lv_at hl 0 rfl) ?_
            refine gC5 hx hb hts hown hK hP dX1_wire_62 ?_
            refine lv_aload_n hx hb dX1_wire_65 rfl (lv_at hl 0 rfl) ?_
            refine gC2 hx hb hts hown hK hP dX1_wire_66 ?_
            refine lv_iload_n hx hb dX1_wire_69 rfl (lv_at hl 3 rfl) ?_
            refine sC4 hx hb hK hP hD hS mw (by omega) (by omega) dX1_wire_70 (fun H locs hP hD hS => ?_)
            refine lv_aload_n hx hb dX1_wire_71 rfl (lv_at hl 0 rfl) ?_
            refine lv_dup hx hb dX1_wire_72 rfl ?_
            refine gC2 hx hb hts hown hK hP dX1_wire_73 ?_
            refine lv_iconst (v := zI 1) hx hb dX1_wire_76 rfl ?_
            refine zi_iadd hx hb dX1_wire_77 ?_
            refine pC2 hx hb hts hown hK hP hD hS (mw + 1) (by omega) dX1_wire_78 (fun H locs hP hD hS => ?_)
            refine lv_aload_n hx hb dX1_wire_81 rfl (lv_at hl 0 rfl) ?_
            refine lv_iconst (v := zI 0) hx hb dX1_wire_82 rfl ?_
            refine pC6 hx hb hts hown hK hP hD hS (Or.inl rfl) dX1_wire_83 (fun H locs hP hD hS => ?_)
            refine lv_aload_n hx hb dX1_wire_86 rfl (lv_at hl 0 rfl) ?_
            refine gC2 hx hb hts hown hK hP dX1_wire_87 ?_
            refine lv_iconst (v := zI 1) hx hb dX1_wire_90 rfl ?_
            refine zi_isub hx hb dX1_wire_91 ?_
            have e_r : ((((mw + 1) : Nat) : Int) - 1) = (mw : Int) := by omega
            exact hret _ (0, sd, le, lo, lg) _ _ _ _ dX1_wire_92 rfl (by rw [rb_wv_t (by omega)]; exact hP) (zDC hD) hS ⟨by rw [if_pos (by omega), rb_wv_t (by omega), e_r]; rfl, Or.inl rfl⟩
          · refine lv_iconst (v := zI (-1)) hx hb dX1_wire_37 rfl ?_
            exact hret _ (kn, sd, le, lo, lg) _ _ _ _ dX1_wire_38 rfl (by rw [rb_wv_f (by omega)]; exact hP) (zDC hD) hS ⟨by rw [if_pos (by omega), rb_wv_f (by omega)]; rfl, by rw [rb_wv_f (by omega)]; exact hk⟩
  · refine lv_bipush (v := zI (-2)) hx hb dX1_wire_9 (by decide) ?_
    exact hret _ (kn, sd, le, lo, lg) _ _ _ _ dX1_wire_11 rfl (by rw [rb_wv_f (by omega)]; exact hP) (zDC hD) hS ⟨by rw [if_neg (by omega)], by rw [rb_wv_f (by omega)]; exact hk⟩
set_option maxHeartbeats 4000000 in
set_option maxRecDepth 100000 in
theorem mC_cut (l : Launch) (D : va_G) (h : Nat → Nat) (d : Nat → ClassId) (nb : Nat) (mw : Nat) (fr : Nat → Nat) (to : Nat → Nat) (dl : Nat → Int) (hd : Nat → Int) (kn : Int) (sd : Int) (le : Nat → Int) (lo : Nat → Int) (lg : Nat → Int) (i0 : Int) (ok : rb_ok nb mw fr to dl hd) (hh : ∀ i, i < mw → hd i ≤ 1000) (hk : rb_ch nb mw fr to dl hd kn sd le lo) (hi0 : zin i0) : rb_MI l yX1_cut cX1_cut 3 (some .int) 0 D (rb_TC d) [.ref (h 0), .int (zI i0)] (rb_WC h d nb mw fr to dl hd kn sd le lo lg) (fun r (u : rb_T5) => r = zI (rb_sel (rb_cv mw i0) (((mw - 1 : Nat)) : Int) (-1)) ∧ rb_ch nb (rb_sel (rb_cv mw i0) (mw - 1) mw) (rb_sel (rb_cv mw i0) (rb_ct (mw - 1) i0.toNat fr) fr) (rb_sel (rb_cv mw i0) (rb_ct (mw - 1) i0.toNat to) to) dl (rb_sel (rb_cv mw i0) (rb_ct (mw - 1) i0.toNat hd) hd) u.1 u.2.1 u.2.2.1 u.2.2.2.1) (fun u : rb_T5 => (rb_WC h d nb (rb_sel (rb_cv mw i0) (mw - 1) mw) (rb_sel (rb_cv mw i0) (rb_ct (mw - 1) i0.toNat fr) fr) (rb_sel (rb_cv mw i0) (rb_ct (mw - 1) i0.toNat to) to) dl (rb_sel (rb_cv mw i0) (rb_ct (mw - 1) i0.toNat hd) hd) u.1 u.2.1 u.2.2.1 u.2.2.2.1 u.2.2.2.2)) := by
  refine rb_mkI (by decide) (Nat.le_of_ble_eq_true rfl) (fun p e s m args below meth c A ls Q hx hb hml hts hown hK hP hD hS hA hl hret => ?_)
  have hown : s.vm.findClass RX1 = some m.cls := hown
  have hl : lv_has ls 3 [(0, .ref (h 0)), (1, .int (zI i0))] := hl
  have hn5 := ok.2.1
  have hm12 := ok.2.2.1
  refine lv_iload_n hx hb dX1_cut_0 rfl (lv_at hl 1 rfl) ?_
  refine zi_if_lt (tgt := 12) hx hb dX1_cut_1 (by decide) ⟨by omega, by omega⟩ (fun c1 => ?_) (fun c1 => ?_)
  · refine lv_iconst (v := zI (-1)) hx hb dX1_cut_12 rfl ?_
    exact hret _ (kn, sd, le, lo, lg) _ _ _ _ dX1_cut_13 rfl (by rw [rb_cv_f (by omega)]; exact hP) (zDC hD) hS ⟨by rw [rb_cv_f (by omega)]; rfl, by rw [rb_cv_f (by omega)]; exact hk⟩
  · refine lv_iload_n hx hb dX1_cut_4 rfl (lv_at hl 1 rfl) ?_
    refine lv_aload_n hx hb dX1_cut_5 rfl (lv_at hl 0 rfl) ?_
    refine gC2 hx hb hts hown hK hP dX1_cut_6 ?_
    refine zi_icmp_lt (tgt := 14) hx hb dX1_cut_9 (by decide) ⟨by omega, by omega⟩ ⟨by omega, by omega⟩ (fun c2 => ?_) (fun c2 => ?_)
    · refine lv_aload_n hx hb dX1_cut_14 rfl (lv_at hl 0 rfl) ?_
      refine lv_dup hx hb dX1_cut_15 rfl ?_
      refine gC2 hx hb hts hown hK hP dX1_cut_16 ?_
      refine lv_iconst (v := zI 1) hx hb dX1_cut_19 rfl ?_
      refine zi_isub hx hb dX1_cut_20 ?_
      refine pC2 hx hb hts hown hK hP hD hS (mw - 1) (by omega) dX1_cut_21 (fun H locs hP hD hS => ?_)
      refine lv_iload_n hx hb dX1_cut_24 rfl (lv_at hl 1 rfl) ?_
      refine lv_istore_n (lv' := [(2, .int (zI i0)), (0, .ref (h 0)), (1, .int (zI i0))]) hx hb dX1_cut_25 rfl hl (by decide) rfl (fun ls hl => ?_)
      have lp : ∀ (f_lp k : Nat), k ≤ (mw - 1) → (mw - 1) + 1 ≤ k + f_lp → ∀  (H : Heap) (locs : List Loc) (ls : Array Slot), i0.toNat ≤ k → va_P D vwCl (rb_WC h d nb (mw - 1) (rb_ct k i0.toNat fr) (rb_ct k i0.toNat to) dl (rb_ct k i0.toNat hd) kn sd le lo lg) H → va_D A (rb_WC h d nb (mw - 1) (rb_ct k i0.toNat fr) (rb_ct k i0.toNat to) dl (rb_ct k i0.toNat hd) kn sd le lo lg) → va_S A s.heap H locs → lv_has ls 3 [(0, .ref (h 0)), (2, .int (zI ((k : Nat) : Int)))] → W p l e (rb_R 0) s m args below meth c H locs 0 0 Q (F0 m 26 ls []) := by
        intro f_lp
        induction f_lp with
        | zero => intro k h1 h2; omega
        | succ f_lp ih_lp =>
          intro k hi_lp hf_lp  H locs ls hik hP hD hS hl
          refine lv_iload_n hx hb dX1_cut_26 rfl (lv_at hl 1 rfl) ?_
          refine lv_aload_n hx hb dX1_cut_27 rfl (lv_at hl 0 rfl) ?_
          refine gC2 hx hb hts hown hK hP dX1_cut_28 ?_
          refine zi_icmp_ge (tgt := 82) hx hb dX1_cut_31 (by decide) ⟨by omega, by omega⟩ ⟨by omega, by omega⟩ (fun c3 => ?_) (fun c3 => ?_)
          · have e_k : k = mw - 1 := by omega
            subst e_k
            refine lv_aload_n hx hb dX1_cut_82 rfl (lv_at hl 0 rfl) ?_
            refine lv_iconst (v := zI 0) hx hb dX1_cut_83 rfl ?_
            refine pC6 hx hb hts hown hK hP hD hS (Or.inl rfl) dX1_cut_84 (fun H locs hP hD hS => ?_)
            refine lv_aload_n hx hb dX1_cut_87 rfl (lv_at hl 0 rfl) ?_
            refine gC2 hx hb hts hown hK hP dX1_cut_88 ?_
            exact hret _ (0, sd, le, lo, lg) _ _ _ _ dX1_cut_91 rfl (by rw [rb_cv_t (by omega)]; exact hP) (zDC hD) hS ⟨by rw [rb_cv_t (by omega)]; rfl, Or.inl rfl⟩
          · have ho := ok.2.2.2.1 (k + 1) (by omega)
            have z1 := rb_ct_hi k i0.toNat fr
            have z2 := rb_ct_hi k i0.toNat to
            refine lv_aload_n hx hb dX1_cut_34 rfl (lv_at hl 0 rfl) ?_
            refine gC3 hx hb hts hown hK hP dX1_cut_35 ?_
            refine lv_iload_n hx hb dX1_cut_38 rfl (lv_at hl 1 rfl) ?_
            refine lv_aload_n hx hb dX1_cut_39 rfl (lv_at hl 0 rfl) ?_
            refine gC3 hx hb hts hown hK hP dX1_cut_40 ?_
            refine lv_iload_n hx hb dX1_cut_43 rfl (lv_at hl 1 rfl) ?_
            refine lv_iconst (v := zI 1) hx hb dX1_cut_44 rfl ?_
            refine zi_iadd hx hb dX1_cut_45 ?_
            refine lC2 hx hb hK hP (k + 1) (by omega) (by omega) dX1_cut_46 ?_
            refine sC2 hx hb hK hP hD hS k ((rb_ct k i0.toNat fr) (k + 1)) (by omega) (by omega) (by omega) (by omega) dX1_cut_47 (fun H locs hP hD hS => ?_)
            refine lv_aload_n hx hb dX1_cut_48 rfl (lv_at hl 0 rfl) ?_
            refine gC4 hx hb hts hown hK hP dX1_cut_49 ?_
            refine lv_iload_n hx hb dX1_cut_52 rfl (lv_at hl 1 rfl) ?_
            refine lv_aload_n hx hb dX1_cut_53 rfl (lv_at hl 0 rfl) ?_
            refine gC4 hx hb hts hown hK hP dX1_cut_54 ?_
            refine lv_iload_n hx hb dX1_cut_57 rfl (lv_at hl 1 rfl) ?_
            refine lv_iconst (v := zI 1) hx hb dX1_cut_58 rfl ?_
            refine zi_iadd hx hb dX1_cut_59 ?_
            refine lC3 hx hb hK hP (k + 1) (by omega) (by omega) dX1_cut_60 ?_
            refine sC3 hx hb hK hP hD hS k ((rb_ct k i0.toNat to) (k + 1)) (by omega) (by omega) (by omega) (by omega) dX1_cut_61 (fun H locs hP hD hS => ?_)
            refine lv_aload_n hx hb dX1_cut_62 rfl (lv_at hl 0 rfl) ?_
            refine gC5 hx hb hts hown hK hP dX1_cut_63 ?_
            refine lv_iload_n hx hb dX1_cut_66 rfl (lv_at hl 1 rfl) ?_
            refine lv_aload_n hx hb dX1_cut_67 rfl (lv_at hl 0 rfl) ?_
            refine gC5 hx hb hts hown hK hP dX1_cut_68 ?_
            refine lv_iload_n hx hb dX1_cut_71 rfl (lv_at hl 1 rfl) ?_
            refine lv_iconst (v := zI 1) hx hb dX1_cut_72 rfl ?_
            refine zi_iadd hx hb dX1_cut_73 ?_
            refine lC4 hx hb hK hP (k + 1) (by omega) (by omega) dX1_cut_74 ?_
            refine sC4 hx hb hK hP hD hS k (by omega) (by omega) dX1_cut_75 (fun H locs hP hD hS => ?_)
            refine zi_iinc (k := 1) (x' := (((k + 1) : Nat) : Int)) (lv' := [(2, .int (zI (((k + 1) : Nat) : Int))), (0, .ref (h 0))]) hx hb dX1_cut_76 hl rfl (by omega) (by decide) rfl (fun ls hl => ?_)
            refine lv_goto (tgt := 26) hx hb dX1_cut_79 (by decide) ?_
            exact ih_lp (k + 1) (by omega) (by omega)  _ _ _ (by omega) (by rw [← rb_ct_up hik fr, ← rb_ct_up hik to, ← rb_ct_up hik hd]; exact hP) (zDC hD) hS (lv_sub hl [1, 0] rfl)
      exact lp ((mw - 1) + 1) i0.toNat (by omega) (by omega)  _ _ _ (Nat.le_refl _) (by rw [rb_ct_0, rb_ct_0, rb_ct_0]; exact hP) (zDC hD) hS (by rw [show (((i0.toNat : Nat)) : Int) = i0 by omega]; exact lv_sub hl [1, 0] rfl)
    · refine lv_iconst (v := zI (-1)) hx hb dX1_cut_12 rfl ?_
      exact hret _ (kn, sd, le, lo, lg) _ _ _ _ dX1_cut_13 rfl (by rw [rb_cv_f (by omega)]; exact hP) (zDC hD) hS ⟨by rw [rb_cv_f (by omega)]; rfl, by rw [rb_cv_f (by omega)]; exact hk⟩
end
section
/-! the reference: bounds and small words -/
theorem rb_lgb_no {m : Nat} {fr to : Nat → Nat} {hd lg : Nat → Int} {i : Nat} (hi : i < m) (h : rb_un fr to hd lg i < 0) : rb_lgb m fr to hd lg = false := by
  cases hq : rb_lgb m fr to hd lg with
  | false => rfl
  | true =>
    have := (rb_lgb_iff m).mp hq i hi
    unfold rb_un at h
    omega
theorem rb_un_in {n m : Nat} {fr to : Nat → Nat} {dl hd lg : Nat → Int} (ok : rb_ok n m fr to dl hd) (hh : ∀ i, i < m → hd i ≤ 1000) (hlg : ∀ v, -4 ≤ lg v ∧ lg v ≤ 0) {i : Nat} (hi : i < m) : -10 ≤ rb_un fr to hd lg i ∧ rb_un fr to hd lg i ≤ 1010 := by
  have h1 := ok.2.2.2.1 i hi
  have h2 := hh i hi
  have h3 := hlg (fr i)
  have h4 := hlg (to i)
  unfold rb_un
  omega
/-- lengths stay small -/
def rb_lnb (n : Nat) (len : Nat → Int) (K : Int) : Prop := ∀ v, v < n → 0 ≤ len v ∧ len v ≤ K
theorem rb_lnb_l1 {n m : Nat} {fr to : Nat → Nat} {dl hd lg : Nat → Int} (ok : rb_ok n m fr to dl hd) {len : Nat → Int} {K : Int} (h : rb_lnb n len K) : ∀ i : Nat, i ≤ m → rb_lnb n (rb_it (rb_l1 fr to dl hd lg) i len) (K + 9 * (i : Int)) := by
  intro i
  induction i with
  | zero => intro _ v hv
            have := h v hv
            show 0 ≤ len v ∧ len v ≤ K + 9 * ((0 : Nat) : Int)
            omega
  | succ i ih =>
    intro hi v hv
    have h1 := ih (by omega)
    rw [rb_it_s, rb_l1_d]
    generalize rb_it (rb_l1 fr to dl hd lg) i len = t at h1
    have h2 := ok.2.2.2.1 i (by omega)
    have h3 := ok.2.2.2.2 (to i)
    have h4 := h1 (fr i) h2.1
    have h5 := h1 v hv
    split
    · by_cases e : v = to i
      · subst e; rw [rb_up_s]; omega
      · rw [rb_up_n e]; omega
    · omega
theorem rb_lnb_l2 {n m : Nat} {fr to : Nat → Nat} {dl hd lg : Nat → Int} (ok : rb_ok n m fr to dl hd) (len0 : Nat → Int) : ∀ r : Nat, rb_lnb n (rb_it (rb_l2 m fr to dl hd lg) r (rb_pre n dl len0)) (9 + 108 * (r : Int)) := by
  intro r
  induction r with
  | zero =>
    intro v hv
    have := ok.2.2.2.2 v
    show 0 ≤ rb_pre n dl len0 v ∧ rb_pre n dl len0 v ≤ 9 + 108 * ((0 : Nat) : Int)
    rw [rb_pre_in _ _ hv]
    omega
  | succ r ih =>
    intro v hv
    rw [rb_it_s, rb_l2_d]
    have h1 := rb_lnb_l1 (lg := lg) ok ih m (Nat.le_refl m) v hv
    have h2 := ok.2.2.1
    omega
theorem rb_lnb_q1 {n m : Nat} {fr to : Nat → Nat} {dl hd : Nat → Int} (ok : rb_ok n m fr to dl hd) {len : Nat → Int} {K : Int} (h : rb_lnb n len K) : ∀ i : Nat, i ≤ m → rb_lnb n (rb_it (rb_q1 fr to hd) i len) (K + (i : Int)) := by
  intro i
  induction i with
  | zero => intro _ v hv
            have := h v hv
            show 0 ≤ len v ∧ len v ≤ K + ((0 : Nat) : Int)
            omega
  | succ i ih =>
    intro hi v hv
    have h1 := ih (by omega)
    rw [rb_it_s, rb_q1_d]
    generalize rb_it (rb_q1 fr to hd) i len = t at h1
    have h2 := ok.2.2.2.1 i (by omega)
    have h4 := h1 (fr i) h2.1
    have h5 := h1 v hv
    split
    · by_cases e : v = to i
      · subst e; rw [rb_up_s]; omega
      · rw [rb_up_n e]; omega
    · omega
theorem rb_lnb_q2 {n m : Nat} {fr to : Nat → Nat} {dl hd : Nat → Int} (ok : rb_ok n m fr to dl hd) (len0 : Nat → Int) : ∀ r : Nat, rb_lnb n (rb_it (rb_q2 m fr to hd) r (rb_pre n (fun _ => 0) len0)) (12 * (r : Int)) := by
  intro r
  induction r with
  | zero =>
    intro v hv
    show 0 ≤ rb_pre n (fun _ => 0) len0 v ∧ rb_pre n (fun _ => 0) len0 v ≤ 12 * ((0 : Nat) : Int)
    rw [rb_pre_in _ _ hv]
    omega
  | succ r ih =>
    intro v hv
    rw [rb_it_s, rb_q2_d]
    have h1 := rb_lnb_q1 ok ih m (Nat.le_refl m) v hv
    have h2 := ok.2.2.1
    omega
def rb_rcb (rc : Nat → Int) (K : Int) : Prop := ∀ v, v < 5 → -1 ≤ rc v ∧ rc v ≤ K
theorem rb_f1_y {fr to : Nat → Nat} {hd rc : Nat → Int} {u i : Nat} {w : Int} (hw : (fr i = u ∧ w = 0) ∨ (fr i ≠ u ∧ w = rc (fr i))) (h : 0 ≤ w ∧ (rc (to i) < 0 ∨ w + hd i < rc (to i))) : rb_f1 fr to hd u i rc = rb_up rc (to i) (w + hd i) := by
  have e : (if fr i = u then 0 else rc (fr i)) = w := by
    rcases hw with ⟨a, b⟩ | ⟨a, b⟩
    · rw [if_pos a, b]
    · rw [if_neg a, b]
  rw [rb_f1_d, e, if_pos h]
theorem rb_f1_n {fr to : Nat → Nat} {hd rc : Nat → Int} {u i : Nat} {w : Int} (hw : (fr i = u ∧ w = 0) ∨ (fr i ≠ u ∧ w = rc (fr i))) (h : ¬ (0 ≤ w ∧ (rc (to i) < 0 ∨ w + hd i < rc (to i)))) : rb_f1 fr to hd u i rc = rc := by
  have e : (if fr i = u then 0 else rc (fr i)) = w := by
    rcases hw with ⟨a, b⟩ | ⟨a, b⟩
    · rw [if_pos a, b]
    · rw [if_neg a, b]
  rw [rb_f1_d, e, if_neg h]
theorem rb_rcb_f1 {n m : Nat} {fr to : Nat → Nat} {dl hd : Nat → Int} (ok : rb_ok n m fr to dl hd) (hh : ∀ i, i < m → hd i ≤ 1000) (u : Nat) {rc : Nat → Int} {K : Int} (hK : 0 ≤ K) (h : rb_rcb rc K) : ∀ i : Nat, i ≤ m → rb_rcb (rb_it (rb_f1 fr to hd u) i rc) (K + 1000 * (i : Int)) := by
  intro i
  induction i with
  | zero => intro _ v hv
            have := h v hv
            show -1 ≤ rc v ∧ rc v ≤ K + 1000 * ((0 : Nat) : Int)
            omega
  | succ i ih =>
    intro hi v hv
    have h1 := ih (by omega)
    rw [rb_it_s]
    generalize rb_it (rb_f1 fr to hd u) i rc = t at h1
    have h2 := ok.2.2.2.1 i (by omega)
    have h3 := hh i (by omega)
    have hn := ok.2.1
    have h4 := h1 (fr i) (by omega)
    have h5 := h1 v hv
    obtain ⟨w, hw⟩ : ∃ w, (fr i = u ∧ w = 0) ∨ (fr i ≠ u ∧ w = t (fr i)) := by
      by_cases e : fr i = u
      · exact ⟨0, Or.inl ⟨e, rfl⟩⟩
      · exact ⟨t (fr i), Or.inr ⟨e, rfl⟩⟩
    by_cases hc : 0 ≤ w ∧ (t (to i) < 0 ∨ w + hd i < t (to i))
    · rw [rb_f1_y hw hc]
      by_cases e : v = to i
      · subst e; rw [rb_up_s]; omega
      · rw [rb_up_n e]; omega
    · rw [rb_f1_n hw hc]; omega
theorem rb_rcb_f2 {n m : Nat} {fr to : Nat → Nat} {dl hd : Nat → Int} (ok : rb_ok n m fr to dl hd) (hh : ∀ i, i < m → hd i ≤ 1000) (u : Nat) (rc0 : Nat → Int) : ∀ r : Nat, rb_rcb (rb_it (rb_f2 m fr to hd u) r (rb_pre 5 (fun _ => -1) rc0)) (12000 * (r : Int)) := by
  intro r
  induction r with
  | zero =>
    intro v hv
    show -1 ≤ rb_pre 5 (fun _ => -1) rc0 v ∧ rb_pre 5 (fun _ => -1) rc0 v ≤ 12000 * ((0 : Nat) : Int)
    rw [rb_pre_in _ _ hv]
    omega
  | succ r ih =>
    intro v hv
    rw [rb_it_s, rb_f2_d]
    have h1 := rb_rcb_f1 ok hh u (by omega) ih m (Nat.le_refl m) v hv
    have h2 := ok.2.2.1
    omega
/-! what the reference keeps: its plan in -4 .. 0, and its cache -/
def rb_mc (nb mw : Nat) (fr to : Nat → Nat) (dl hd : Nat → Int) (kn bp : Int) (pl : Nat → Int) : Prop := (∀ v, -4 ≤ pl v ∧ pl v ≤ 0) ∧ (kn = 0 ∨ (kn = 1 ∧ rb_snd nb (rb_ms nb mw fr to dl hd) ∧ bp = rb_best nb mw fr to dl hd (rb_ms nb mw fr to dl hd) ∧ ∀ v, v < nb → pl v = rb_G nb mw fr to dl hd v))
theorem rb_ml_indep {n m : Nat} {fr to : Nat → Nat} {dl hd : Nat → Int} (ok : rb_ok n m fr to dl hd) (hs : rb_snd n (rb_ms n m fr to dl hd)) {lg : Nat → Int} (hl : rb_leg m fr to hd lg) (a b : Nat → Int) : rb_ml n m fr to dl hd lg a = rb_ml n m fr to dl hd lg b := by
  obtain ⟨h1, h2⟩ := rb_ml_ok ok hs hl a
  obtain ⟨h3, h4⟩ := rb_ml_ok ok hs hl b
  have h5 := h2 _ h3
  have h6 := h4 _ h1
  omega
theorem rb_fd_in {n m : Nat} {fr to : Nat → Nat} {dl hd pl : Nat → Int} (ok : rb_ok n m fr to dl hd) (hs : rb_snd n (rb_ms n m fr to dl hd)) (j : Nat) : 0 ≤ (rb_fd n m fr to dl hd pl j).1 ∧ (rb_fd n m fr to dl hd pl j).1 ≤ 100 := by
  obtain ⟨-, h, -⟩ := rb_find_inv ok hs pl j
  rcases h with ⟨h, -⟩ | ⟨h, ⟨c, -, -, h3⟩, -⟩
  · omega
  · have := (rb_mx_spec (rb_ln n m fr to dl hd (rb_cd n c) (fun _ => 0)) n).1
    unfold rb_ml at h3
    omega
theorem rb_fd_pl {n m : Nat} {fr to : Nat → Nat} {dl hd pl : Nat → Int} (h : ∀ v, -4 ≤ pl v ∧ pl v ≤ 0) : ∀ j v, -4 ≤ (rb_fd n m fr to dl hd pl j).2 v ∧ (rb_fd n m fr to dl hd pl j).2 v ≤ 0 := by
  intro j
  unfold rb_fd
  induction j with
  | zero => exact h
  | succ j ih =>
    intro v
    rw [rb_it_s]
    have h1 := rb_cd_in n j v
    have h2 := ih v
    by_cases hl : rb_lgb m fr to hd (rb_cd n j) = true
    · by_cases hb : rb_ml n m fr to dl hd (rb_cd n j) (fun _ => 0) < (rb_it (rb_fd1 n m fr to dl hd) j (100, pl)).1
      · rw [(rb_fd1_b hl hb).2]
        split <;> omega
      · rw [(rb_fd1_n hl hb).2]
        split <;> omega
    · have e : rb_fd1 n m fr to dl hd j (rb_it (rb_fd1 n m fr to dl hd) j (100, pl)) = rb_it (rb_fd1 n m fr to dl hd) j (100, pl) := if_neg hl
      rw [e]
      exact h2
theorem rb_fd_s (n m : Nat) (fr to : Nat → Nat) (dl hd pl : Nat → Int) (j : Nat) : rb_fd n m fr to dl hd pl (j + 1) = rb_fd1 n m fr to dl hd j (rb_fd n m fr to dl hd pl j) := rfl
theorem rb_fd_0 {n m : Nat} {fr to : Nat → Nat} {dl hd pl : Nat → Int} {j : Nat} (hl : rb_lgb m fr to hd (rb_cd n j) = false) : rb_fd n m fr to dl hd pl (j + 1) = rb_fd n m fr to dl hd pl j := by
  rw [rb_fd_s]
  exact if_neg (by rw [hl]; decide)
/-- the plan while it is written, when the period is just as good -/
def rb_pm (b : Bool) (k : Nat) (cd pl : Nat → Int) : Nat → Int := fun v => if v < k ∧ b = true ∧ pl v < cd v then cd v else pl v
theorem rb_pm_0 (b : Bool) (cd pl : Nat → Int) : rb_pm b 0 cd pl = pl := by
  funext v
  unfold rb_pm
  rw [if_neg (fun h => by omega)]
theorem rb_pm_at (b : Bool) (k : Nat) (cd pl : Nat → Int) : rb_pm b k cd pl k = pl k := by
  unfold rb_pm
  rw [if_neg (fun h => by omega)]
theorem rb_pm_y {b : Bool} {k : Nat} {cd pl : Nat → Int} (hb : b = true) (h : pl k < cd k) : rb_up (rb_pm b k cd pl) k (cd k) = rb_pm b (k + 1) cd pl := by
  funext v
  unfold rb_up rb_pm
  by_cases e : v = k
  · subst e
    rw [if_pos rfl, if_pos ⟨by omega, hb, h⟩]
  · rw [if_neg e]
    by_cases h2 : v < k ∧ b = true ∧ pl v < cd v
    · rw [if_pos h2, if_pos ⟨by omega, h2.2⟩]
    · rw [if_neg h2, if_neg (fun q => h2 ⟨by omega, q.2⟩)]
theorem rb_pm_n {b : Bool} {k : Nat} {cd pl : Nat → Int} (h : ¬ (b = true ∧ pl k < cd k)) : rb_pm b k cd pl = rb_pm b (k + 1) cd pl := by
  funext v
  unfold rb_pm
  by_cases e : v = k
  · subst e
    rw [if_neg (fun q => h q.2), if_neg (fun q => h q.2)]
  · by_cases h2 : v < k ∧ b = true ∧ pl v < cd v
    · rw [if_pos h2, if_pos ⟨by omega, h2.2⟩]
    · rw [if_neg h2, if_neg (fun q => h2 ⟨by omega, q.2⟩)]
theorem rb_fd_b {n m : Nat} {fr to : Nat → Nat} {dl hd pl : Nat → Int} {j : Nat} (hl : rb_lgb m fr to hd (rb_cd n j) = true) (hb : rb_ml n m fr to dl hd (rb_cd n j) (fun _ => 0) < (rb_fd n m fr to dl hd pl j).1) : (rb_fd n m fr to dl hd pl (j + 1)).1 = rb_ml n m fr to dl hd (rb_cd n j) (fun _ => 0) ∧ (rb_fd n m fr to dl hd pl (j + 1)).2 = rb_pre n (rb_cd n j) (rb_fd n m fr to dl hd pl j).2 := by
  rw [rb_fd_s]
  obtain ⟨h1, h2⟩ := rb_fd1_b (fr := fr) (to := to) hl hb
  exact ⟨h1, funext h2⟩
theorem rb_fd_n {n m : Nat} {fr to : Nat → Nat} {dl hd pl : Nat → Int} {j : Nat} (hl : rb_lgb m fr to hd (rb_cd n j) = true) (hb : ¬ rb_ml n m fr to dl hd (rb_cd n j) (fun _ => 0) < (rb_fd n m fr to dl hd pl j).1) : (rb_fd n m fr to dl hd pl (j + 1)).1 = (rb_fd n m fr to dl hd pl j).1 ∧ (rb_fd n m fr to dl hd pl (j + 1)).2 = rb_pm (decide (rb_ml n m fr to dl hd (rb_cd n j) (fun _ => 0) = (rb_fd n m fr to dl hd pl j).1)) n (rb_cd n j) (rb_fd n m fr to dl hd pl j).2 := by
  rw [rb_fd_s]
  obtain ⟨h1, h2⟩ := rb_fd1_n (fr := fr) (to := to) hl hb
  refine ⟨h1, funext fun v => ?_⟩
  rw [h2 v]
  unfold rb_pm
  by_cases hq : v < n ∧ rb_ml n m fr to dl hd (rb_cd n j) (fun _ => 0) = (rb_fd n m fr to dl hd pl j).1 ∧ (rb_fd n m fr to dl hd pl j).2 v < rb_cd n j v
  · rw [if_pos hq, if_pos ⟨hq.1, decide_eq_true hq.2.1, hq.2.2⟩]
  · rw [if_neg hq, if_neg (fun z => hq ⟨z.1, of_decide_eq_true z.2.1, z.2.2⟩)]
theorem rb_ap_c {n m : Nat} {fr to : Nat → Nat} {dl hd g g' : Nat → Int} (ok : rb_ok n m fr to dl hd) (e : ∀ v, v < n → g v = g' v) : rb_ap m fr to hd g = rb_ap m fr to hd g' := by
  funext i
  unfold rb_ap
  by_cases h : i < m
  · have h1 := ok.2.2.2.1 i h
    rw [if_pos h, if_pos h, e _ h1.1, e _ h1.2.1]
  · rw [if_neg h, if_neg h]
theorem rb_gw_c {n m : Nat} {fr to : Nat → Nat} {dl hd g g' : Nat → Int} (ok : rb_ok n m fr to dl hd) (e : ∀ v, v < n → g v = g' v) : ∀ j, j ≤ m → rb_it (rb_gw fr to g) j 0 = rb_it (rb_gw fr to g') j 0 := by
  intro j
  induction j with
  | zero => intro _; rfl
  | succ j ih =>
    intro hj
    have h1 := ok.2.2.2.1 j (by omega)
    rw [rb_it_s, rb_it_s, rb_gw_d, rb_gw_d, ih (by omega), e _ h1.1, e _ h1.2.1]
theorem rb_hh {m : Nat} {fr to : Nat → Nat} {hd : Nat → Int} {a : Int} (ha2 : a ≤ 252) (hf : rb_few m fr to hd a) : ∀ i, i < m → hd i ≤ 1000 := by
  intro i hi
  have := hf.1 i hi
  omega
theorem rb_pow5 (c v : Nat) : c / 5 ^ v / 5 = c / 5 ^ (v + 1) := by
  rw [Nat.div_div_eq_div_mul, Nat.pow_succ]
abbrev rb_T6 : Type := (Nat → Int) × (Nat → Int) × Int × Int × (Nat → Int) × (Nat → Int)
end
section
/-! the reference: more small words -/
theorem rb_sdv_1 {n : Nat} {s : rb_S} (h : rb_snd n s) : rb_sdv n s = 1 := (rb_sdv_spec s n).2.mpr h
theorem rb_sdv_0 {n : Nat} {s : rb_S} (h : ¬ rb_snd n s) : rb_sdv n s = 0 := by
  rcases (rb_sdv_spec s n).1 with e | e
  · exact e
  · exact absurd ((rb_sdv_spec s n).2.mp e) h
theorem rb_sdv_s {n : Nat} {s : rb_S} (h : rb_sdv n s ≠ 0) : rb_snd n s := by
  rcases (rb_sdv_spec s n).1 with e | e
  · exact absurd e h
  · exact (rb_sdv_spec s n).2.mp e
def rb_dg (c v : Nat) : Nat := c / 5 ^ v
theorem rb_dg_0 (c : Nat) : rb_dg c 0 = c := by
  unfold rb_dg
  rw [Nat.pow_zero, Nat.div_one]
theorem rb_dg_s (c v : Nat) : rb_dg c v / 5 = rb_dg c (v + 1) := rb_pow5 c v
theorem rb_dg_le (c v : Nat) : rb_dg c v ≤ c := Nat.div_le_self _ _
theorem rb_cd_y {n c v : Nat} (h : v < n) : rb_cd n c v = -((rb_dg c v % 5 : Nat) : Int) := if_pos h
theorem rb_cd_n {n c v : Nat} (h : ¬ v < n) : rb_cd n c v = 0 := if_neg h
def rb_p5 (n : Nat) : Nat := 5 ^ n
theorem rb_p5_1 {n : Nat} (h : n = 1) : ((rb_p5 n : Nat) : Int) = 5 := by subst h; rfl
theorem rb_p5_2 {n : Nat} (h : n = 2) : ((rb_p5 n : Nat) : Int) = 25 := by subst h; rfl
theorem rb_p5_3 {n : Nat} (h : n = 3) : ((rb_p5 n : Nat) : Int) = 125 := by subst h; rfl
theorem rb_p5_4 {n : Nat} (h : n = 4) : ((rb_p5 n : Nat) : Int) = 625 := by subst h; rfl
theorem rb_p5_5 {n : Nat} (h : n = 5) : ((rb_p5 n : Nat) : Int) = 3125 := by subst h; rfl
theorem rb_p5_le {n : Nat} (h : n ≤ 5) : rb_p5 n ≤ 3125 := by
  have : n = 0 ∨ n = 1 ∨ n = 2 ∨ n = 3 ∨ n = 4 ∨ n = 5 := by omega
  rcases this with e | e | e | e | e | e <;> subst e <;> decide
/-- what find leaves -/
def rb_fo (nb mw : Nat) (fr to : Nat → Nat) (dl hd : Nat → Int) (bp : Int) (pl : Nat → Int) : Prop := (∀ v, -4 ≤ pl v ∧ pl v ≤ 0) ∧ bp = rb_best nb mw fr to dl hd (rb_ms nb mw fr to dl hd) ∧ ∀ v, v < nb → pl v = rb_G nb mw fr to dl hd v
theorem rb_mc_fo {nb mw : Nat} {fr to : Nat → Nat} {dl hd : Nat → Int} {kn bp : Int} {pl : Nat → Int} (h : rb_mc nb mw fr to dl hd kn bp pl) (hk : kn ≠ 0) : kn = 1 ∧ rb_fo nb mw fr to dl hd bp pl := by
  obtain ⟨h1, h2 | ⟨h2, -, h3, h4⟩⟩ := h
  · exact absurd h2 hk
  · exact ⟨h2, h1, h3, h4⟩
theorem rb_fo_mc {nb mw : Nat} {fr to : Nat → Nat} {dl hd : Nat → Int} {bp : Int} {pl : Nat → Int} (hs : rb_snd nb (rb_ms nb mw fr to dl hd)) (h : rb_fo nb mw fr to dl hd bp pl) : rb_mc nb mw fr to dl hd 1 bp pl := ⟨h.1, Or.inr ⟨rfl, hs, h.2.1, h.2.2⟩⟩
theorem rb_mc_kn {nb mw : Nat} {fr to : Nat → Nat} {dl hd : Nat → Int} {kn bp : Int} {pl : Nat → Int} (h : rb_mc nb mw fr to dl hd kn bp pl) : kn = 0 ∨ kn = 1 := by
  obtain ⟨-, h | h⟩ := h
  · exact Or.inl h
  · exact Or.inr h.1
theorem rb_find_fo {n m : Nat} {fr to : Nat → Nat} {dl hd : Nat → Int} (ok : rb_ok n m fr to dl hd) {a : Int} (ha : 0 ≤ a) (ha2 : a ≤ 252) (hf : rb_few m fr to hd a) (hs : rb_snd n (rb_ms n m fr to dl hd)) {pl : Nat → Int} (h : ∀ v, -4 ≤ pl v ∧ pl v ≤ 0) : rb_fo n m fr to dl hd (rb_fd n m fr to dl hd pl (rb_p5 n)).1 (rb_fd n m fr to dl hd pl (rb_p5 n)).2 :=
  ⟨rb_fd_pl h _, rb_find_ok ok ha ha2 hf hs pl⟩
theorem rb_ml_in {n m : Nat} {fr to : Nat → Nat} {dl hd : Nat → Int} (ok : rb_ok n m fr to dl hd) (hs : rb_snd n (rb_ms n m fr to dl hd)) {lg : Nat → Int} (hl : rb_leg m fr to hd lg) (len0 : Nat → Int) : 0 ≤ rb_ml n m fr to dl hd lg len0 ∧ rb_ml n m fr to dl hd lg len0 ≤ 45 := ⟨(rb_mx_spec _ n).1, rb_ml_lt ok hs hl len0⟩
theorem rb_lg1_y {fr to : Nat → Nat} {hd lg : Nat → Int} {i : Nat} (h : rb_it (rb_lg1 fr to hd lg) i true = true) (hu : 0 ≤ rb_un fr to hd lg i) : rb_it (rb_lg1 fr to hd lg) (i + 1) true = true := by
  rw [rb_it_s, rb_lg1_d, h, decide_eq_true hu]
  rfl
theorem rb_fewA_in {nb mw : Nat} {fr to : Nat → Nat} {dl hd : Nat → Int} (ok : rb_ok nb mw fr to dl hd) {a : Int} (ha : 0 ≤ a) (ha2 : a ≤ 252) (hf : rb_few mw fr to hd a) {u v : Int} (hu : 0 ≤ u ∧ u < (nb : Int)) (hv : 0 ≤ v ∧ v < (nb : Int)) (rc0 : Nat → Int) : rb_fewA nb mw fr to dl hd u v = if rb_fs mw fr to hd u.toNat rc0 v.toNat < 0 then -2 else rb_fs mw fr to hd u.toNat rc0 v.toNat := by
  unfold rb_fewA
  rw [if_pos ⟨hu, hv⟩]
  exact rb_fewest_eq ok ha ha2 hf (by omega) (by omega) rc0
end
section
set_option maxHeartbeats 4000000 in
set_option maxRecDepth 100000 in
theorem mM_under (l : Launch) (D : va_G) (h : Nat → Nat) (d : Nat → ClassId) (nb : Nat) (mw : Nat) (fr : Nat → Nat) (to : Nat → Nat) (dl : Nat → Int) (hd : Nat → Int) (lg : Nat → Int) (ln : Nat → Int) (kn : Int) (bp : Int) (pl : Nat → Int) (rc : Nat → Int) (i : Nat) (ok : rb_ok nb mw fr to dl hd) (hi : i < mw) : rb_MI l yX2_under cX2_under 2 (some .int) 0 D (rb_TM d) [.ref (h 0), .int (zI ((i : Nat) : Int))] (rb_WM h d nb mw fr to dl hd lg ln kn bp pl rc) (fun r _ => r = zI (rb_un fr to hd lg i)) (fun _ : Unit => (rb_WM h d nb mw fr to dl hd lg ln kn bp pl rc)) := by
  refine rb_mkI (by decide) (Nat.le_of_ble_eq_true rfl) (fun p e s m args below meth c A ls Q hx hb hml hts hown hK hP hD hS hA hl hret => ?_)
  have hown : s.vm.findClass RX2 = some m.cls := hown
  have hl : lv_has ls 2 [(0, .ref (h 0)), (1, .int (zI ((i : Nat) : Int)))] := hl
  have ho := ok.2.2.2.1 i hi
  have hn5 := ok.2.1
  have hm12 := ok.2.2.1
  refine lv_aload_n hx hb dX2_under_0 rfl (lv_at hl 0 rfl) ?_
  refine gM5 hx hb hts hown hK hP dX2_under_1 ?_
  refine lv_iload_n hx hb dX2_under_4 rfl (lv_at hl 1 rfl) ?_
  refine lM4 hx hb hK hP i (by omega) (by omega) dX2_under_5 ?_
  refine lv_aload_n hx hb dX2_under_6 rfl (lv_at hl 0 rfl) ?_
  refine gM6 hx hb hts hown hK hP dX2_under_7 ?_
  refine lv_aload_n hx hb dX2_under_10 rfl (lv_at hl 0 rfl) ?_
  refine gM4 hx hb hts hown hK hP dX2_under_11 ?_
  refine lv_iload_n hx hb dX2_under_14 rfl (lv_at hl 1 rfl) ?_
  refine lM3 hx hb hK hP i (by omega) (by omega) dX2_under_15 ?_
  refine lM5 hx hb hK hP (to i) (by omega) (by omega) dX2_under_16 ?_
  refine zi_iadd hx hb dX2_under_17 ?_
  refine lv_aload_n hx hb dX2_under_18 rfl (lv_at hl 0 rfl) ?_
  refine gM6 hx hb hts hown hK hP dX2_under_19 ?_
  refine lv_aload_n hx hb dX2_under_22 rfl (lv_at hl 0 rfl) ?_
  refine gM3 hx hb hts hown hK hP dX2_under_23 ?_
  refine lv_iload_n hx hb dX2_under_26 rfl (lv_at hl 1 rfl) ?_
  refine lM2 hx hb hK hP i (by omega) (by omega) dX2_under_27 ?_
  refine lM5 hx hb hK hP (fr i) (by omega) (by omega) dX2_under_28 ?_
  refine zi_isub hx hb dX2_under_29 ?_
  exact hret _ () _ _ _ _ dX2_under_30 rfl hP (zDM hD) hS rfl
set_option maxHeartbeats 4000000 in
set_option maxRecDepth 100000 in
theorem mM_legal (l : Launch) (D : va_G) (h : Nat → Nat) (d : Nat → ClassId) (nb : Nat) (mw : Nat) (fr : Nat → Nat) (to : Nat → Nat) (dl : Nat → Int) (hd : Nat → Int) (lg : Nat → Int) (ln : Nat → Int) (kn : Int) (bp : Int) (pl : Nat → Int) (rc : Nat → Int)  (ok : rb_ok nb mw fr to dl hd) (hh : ∀ i, i < mw → hd i ≤ 1000) (hlg : ∀ v, -4 ≤ lg v ∧ lg v ≤ 0) : rb_MI l yX2_legal cX2_legal 2 (some .boolean) 1 D (rb_TM d) [.ref (h 0)] (rb_WM h d nb mw fr to dl hd lg ln kn bp pl rc) (fun r _ => r = zI (rb_b (rb_lgb mw fr to hd lg))) (fun _ : Unit => (rb_WM h d nb mw fr to dl hd lg ln kn bp pl rc)) := by
  refine rb_mkI (by decide) (Nat.le_of_ble_eq_true rfl) (fun p e s m args below meth c A ls Q hx hb hml hts hown hK hP hD hS hA hl hret => ?_)
  have hown : s.vm.findClass RX2 = some m.cls := hown
  have hl : lv_has ls 2 [(0, .ref (h 0))] := hl
  refine lv_iconst (v := zI 0) hx hb dX2_legal_0 rfl ?_
  refine lv_istore_n (lv' := [(1, .int (zI 0)), (0, .ref (h 0))]) hx hb dX2_legal_1 rfl hl (by decide) rfl (fun ls hl => ?_)
  have lp : ∀ (f_lp i : Nat), i ≤ mw → mw + 1 ≤ i + f_lp → ∀  (H : Heap) (locs : List Loc) (ls : Array Slot), rb_it (rb_lg1 fr to hd lg) i true = true → va_P D vwCl (rb_WM h d nb mw fr to dl hd lg ln kn bp pl rc) H → va_D A (rb_WM h d nb mw fr to dl hd lg ln kn bp pl rc) → va_S A s.heap H locs → lv_has ls 2 [(0, .ref (h 0)), (1, .int (zI ((i : Nat) : Int)))] → W p l e (rb_R 1) s m args below meth c H locs 0 0 Q (F0 m 2 ls []) := by
    intro f_lp
    induction f_lp with
    | zero => intro i h1 h2; omega
    | succ f_lp ih_lp =>
      intro i hi_lp hf_lp  H locs ls hil hP hD hS hl
      have hm12 := ok.2.2.1
      refine lv_iload_n hx hb dX2_legal_2 rfl (lv_at hl 1 rfl) ?_
      refine lv_aload_n hx hb dX2_legal_3 rfl (lv_at hl 0 rfl) ?_
      refine gM1 hx hb hts hown hK hP dX2_legal_4 ?_
      refine zi_icmp_ge (tgt := 26) hx hb dX2_legal_7 (by decide) ⟨by omega, by omega⟩ ⟨by omega, by omega⟩ (fun c1 => ?_) (fun c1 => ?_)
      · refine lv_iconst (v := zI 1) hx hb dX2_legal_26 rfl ?_
        have e_i : mw = i := by omega
        subst e_i
        exact hret _ () _ _ _ _ dX2_legal_27 rfl hP (zDM hD) hS (by rw [show rb_lgb mw fr to hd lg = true from hil]; rfl)
      · have hun := rb_un_in ok hh hlg (i := i) (by omega)
        refine lv_aload_n hx hb dX2_legal_10 rfl (lv_at hl 0 rfl) ?_
        refine lv_iload_n hx hb dX2_legal_11 rfl (lv_at hl 1 rfl) ?_
        refine zc_I ⟨hx, hb, hml, hown, hts⟩ (mM_under l D h d nb mw fr to dl hd lg ln kn bp pl rc i ok (by omega)) (cwV 1 hts (lw_V q209 q211 qs9 q15 q212) rfl rfl rfl (by decide +kernel) ⟨Nat.le_of_ble_eq_true rfl, Nat.le_of_ble_eq_true rfl⟩) hK hP hD hS hA (ci := 1) rfl rfl rfl rfl hl.1 rfl (Nat.le_of_ble_eq_true rfl) dX2_legal_12 ⟨Nat.le_refl 0, Nat.le_refl 0⟩ (fun r ux1 H locs hp hP hD hS => ?_)
        subst hp
        refine zi_if_ge (tgt := 20) hx hb dX2_legal_15 (by decide) ⟨by omega, by omega⟩ (fun c3 => ?_) (fun c3 => ?_)
        · refine zi_iinc (k := 1) (x' := (((i + 1) : Nat) : Int)) (lv' := [(1, .int (zI (((i + 1) : Nat) : Int))), (0, .ref (h 0))]) hx hb dX2_legal_20 hl rfl (by omega) (by decide) rfl (fun ls hl => ?_)
          refine lv_goto (tgt := 2) hx hb dX2_legal_23 (by decide) ?_
          exact ih_lp (i + 1) (by omega) (by omega)  _ _ _ (rb_lg1_y hil (by omega)) hP (zDM hD) hS (lv_sub hl [1, 0] rfl)
        · refine lv_iconst (v := zI 0) hx hb dX2_legal_18 rfl ?_
          exact hret _ () _ _ _ _ dX2_legal_19 rfl hP (zDM hD) hS (by rw [rb_lgb_no (i := i) (by omega) (by omega)]; rfl)
  exact lp (mw + 1) 0 (by omega) (by omega)  _ _ _ rfl hP (zDM hD) hS (lv_sub hl [1, 0] rfl)
set_option maxHeartbeats 4000000 in
set_option maxRecDepth 100000 in
theorem mM_longest (l : Launch) (D : va_G) (h : Nat → Nat) (d : Nat → ClassId) (nb : Nat) (mw : Nat) (fr : Nat → Nat) (to : Nat → Nat) (dl : Nat → Int) (hd : Nat → Int) (lg : Nat → Int) (ln : Nat → Int) (kn : Int) (bp : Int) (pl : Nat → Int) (rc : Nat → Int)  (ok : rb_ok nb mw fr to dl hd) (hh : ∀ i, i < mw → hd i ≤ 1000) (hlg : ∀ v, -4 ≤ lg v ∧ lg v ≤ 0) : rb_MI l yX2_longest cX2_longest 4 (some .int) 1 D (rb_TM d) [.ref (h 0)] (rb_WM h d nb mw fr to dl hd lg ln kn bp pl rc) (fun r _ => r = zI (rb_ml nb mw fr to dl hd lg ln)) (fun _ : Unit => (rb_WM h d nb mw fr to dl hd lg (rb_ln nb mw fr to dl hd lg ln) kn bp pl rc)) := by
  refine rb_mkI (by decide) (Nat.le_of_ble_eq_true rfl) (fun p e s m args below meth c A ls Q hx hb hml hts hown hK hP hD hS hA hl hret => ?_)
  have hown : s.vm.findClass RX2 = some m.cls := hown
  have hl : lv_has ls 4 [(0, .ref (h 0))] := hl
  have hn5 := ok.2.1
  refine lv_iconst (v := zI 0) hx hb dX2_longest_0 rfl ?_
  refine lv_istore_n (lv' := [(1, .int (zI 0)), (0, .ref (h 0))]) hx hb dX2_longest_1 rfl hl (by decide) rfl (fun ls hl => ?_)
  have lpA : ∀ (f_lpA v : Nat), v ≤ nb → nb + 1 ≤ v + f_lpA → ∀  (H : Heap) (locs : List Loc) (ls : Array Slot), va_P D vwCl (rb_WM h d nb mw fr to dl hd lg (rb_pre v dl ln) kn bp pl rc) H → va_D A (rb_WM h d nb mw fr to dl hd lg (rb_pre v dl ln) kn bp pl rc) → va_S A s.heap H locs → lv_has ls 4 [(0, .ref (h 0)), (1, .int (zI ((v : Nat) : Int)))] → W p l e (rb_R 1) s m args below meth c H locs 0 0 Q (F0 m 2 ls []) := by
    intro f_lpA
    induction f_lpA with
    | zero => intro v h1 h2; omega
    | succ f_lpA ih_lpA =>
      intro v hi_lpA hf_lpA  H locs ls  hP hD hS hl
      have hn5 := ok.2.1
      refine lv_iload_n hx hb dX2_longest_2 rfl (lv_at hl 1 rfl) ?_
      refine lv_aload_n hx hb dX2_longest_3 rfl (lv_at hl 0 rfl) ?_
      refine gM0 hx hb hts hown hK hP dX2_longest_4 ?_
      refine zi_icmp_ge (tgt := 28) hx hb dX2_longest_7 (by decide) ⟨by omega, by omega⟩ ⟨by omega, by omega⟩ (fun c1 => ?_) (fun c1 => ?_)
      · have e_v : nb = v := by omega
        subst e_v
        refine lv_iconst (v := zI 0) hx hb dX2_longest_28 rfl ?_
        refine lv_istore_n (lv' := [(1, .int (zI 0)), (0, .ref (h 0))]) hx hb dX2_longest_29 rfl hl (by decide) rfl (fun ls hl => ?_)
        have lpB : ∀ (f_lpB r : Nat), r ≤ 5 → 5 + 1 ≤ r + f_lpB → ∀  (H : Heap) (locs : List Loc) (ls : Array Slot), va_P D vwCl (rb_WM h d nb mw fr to dl hd lg (rb_it (rb_l2 mw fr to dl hd lg) r (rb_pre nb dl ln)) kn bp pl rc) H → va_D A (rb_WM h d nb mw fr to dl hd lg (rb_it (rb_l2 mw fr to dl hd lg) r (rb_pre nb dl ln)) kn bp pl rc) → va_S A s.heap H locs → lv_has ls 4 [(0, .ref (h 0)), (1, .int (zI ((r : Nat) : Int)))] → W p l e (rb_R 1) s m args below meth c H locs 0 0 Q (F0 m 30 ls []) := by
          intro f_lpB
          induction f_lpB with
          | zero => intro r h1 h2; omega
          | succ f_lpB ih_lpB =>
            intro r hi_lpB hf_lpB  H locs ls  hP hD hS hl
            have hlb := rb_lnb_l2 (lg := lg) ok ln r
            refine lv_iload_n hx hb dX2_longest_30 rfl (lv_at hl 1 rfl) ?_
            refine lv_iconst (v := zI 5) hx hb dX2_longest_31 rfl ?_
            refine zi_icmp_ge (tgt := 116) hx hb dX2_longest_32 (by decide) ⟨by omega, by omega⟩ ⟨by omega, by omega⟩ (fun c2 => ?_) (fun c2 => ?_)
            · have e_r : r = 5 := by omega
              subst e_r
              have hP : va_P D vwCl (rb_WM h d nb mw fr to dl hd lg (rb_ln nb mw fr to dl hd lg ln) kn bp pl rc) H := hP
              have hD : va_D A (rb_WM h d nb mw fr to dl hd lg (rb_ln nb mw fr to dl hd lg ln) kn bp pl rc) := zDM hD
              have hl5 : ∀ v, v < nb → 0 ≤ (rb_ln nb mw fr to dl hd lg ln) v ∧ (rb_ln nb mw fr to dl hd lg ln) v ≤ 9 + 108 * ((5 : Nat) : Int) := rb_lnb_l2 (lg := lg) ok ln 5
              refine lv_iconst (v := zI 0) hx hb dX2_longest_116 rfl ?_
              refine lv_istore_n (lv' := [(1, .int (zI 0)), (0, .ref (h 0))]) hx hb dX2_longest_117 rfl hl (by decide) rfl (fun ls hl => ?_)
              refine lv_iconst (v := zI 0) hx hb dX2_longest_118 rfl ?_
              refine lv_istore_n (lv' := [(2, .int (zI 0)), (1, .int (zI 0)), (0, .ref (h 0))]) hx hb dX2_longest_119 rfl hl (by decide) rfl (fun ls hl => ?_)
              have lpD : ∀ (f_lpD v : Nat), v ≤ nb → nb + 1 ≤ v + f_lpD → ∀  (H : Heap) (locs : List Loc) (ls : Array Slot), va_P D vwCl (rb_WM h d nb mw fr to dl hd lg (rb_ln nb mw fr to dl hd lg ln) kn bp pl rc) H → va_D A (rb_WM h d nb mw fr to dl hd lg (rb_ln nb mw fr to dl hd lg ln) kn bp pl rc) → va_S A s.heap H locs → lv_has ls 4 [(0, .ref (h 0)), (1, .int (zI (rb_it (rb_mx1 (rb_ln nb mw fr to dl hd lg ln)) v 0))), (2, .int (zI ((v : Nat) : Int)))] → W p l e (rb_R 1) s m args below meth c H locs 0 0 Q (F0 m 120 ls []) := by
                intro f_lpD
                induction f_lpD with
                | zero => intro v h1 h2; omega
                | succ f_lpD ih_lpD =>
                  intro v hi_lpD hf_lpD  H locs ls  hP hD hS hl
                  have hm := rb_mx_in (f := (rb_ln nb mw fr to dl hd lg ln)) (b := 9 + 108 * ((5 : Nat) : Int)) (by omega) (n := nb) (fun v hv => (hl5 v hv).2) v hi_lpD
                  refine lv_iload_n hx hb dX2_longest_120 rfl (lv_at hl 2 rfl) ?_
                  refine lv_aload_n hx hb dX2_longest_121 rfl (lv_at hl 0 rfl) ?_
                  refine gM0 hx hb hts hown hK hP dX2_longest_122 ?_
                  refine zi_icmp_ge (tgt := 151) hx hb dX2_longest_125 (by decide) ⟨by omega, by omega⟩ ⟨by omega, by omega⟩ (fun c3 => ?_) (fun c3 => ?_)
                  · refine lv_iload_n hx hb dX2_longest_151 rfl (lv_at hl 1 rfl) ?_
                    have e_v : nb = v := by omega
                    subst e_v
                    exact hret _ () _ _ _ _ dX2_longest_152 rfl hP (zDM hD) hS rfl
                  · refine lv_aload_n hx hb dX2_longest_128 rfl (lv_at hl 0 rfl) ?_
                    refine gM7 hx hb hts hown hK hP dX2_longest_129 ?_
                    refine lv_iload_n hx hb dX2_longest_132 rfl (lv_at hl 2 rfl) ?_
                    refine lM6 hx hb hK hP v (by omega) (by omega) dX2_longest_133 ?_
                    have b4 := hl5 v (by omega)
                    refine lv_iload_n hx hb dX2_longest_134 rfl (lv_at hl 1 rfl) ?_
                    refine zi_icmp_le (tgt := 145) hx hb dX2_longest_135 (by decide) ⟨by omega, by omega⟩ ⟨by omega, by omega⟩ (fun c5 => ?_) (fun c5 => ?_)
                    · refine zi_iinc (k := 2) (x' := (((v + 1) : Nat) : Int)) (lv' := [(2, .int (zI (((v + 1) : Nat) : Int))), (0, .ref (h 0)), (1, .int (zI (rb_it (rb_mx1 (rb_ln nb mw fr to dl hd lg ln)) v 0)))]) hx hb dX2_longest_145 hl rfl (by omega) (by decide) rfl (fun ls hl => ?_)
                      refine lv_goto (tgt := 120) hx hb dX2_longest_148 (by decide) ?_
                      exact ih_lpD (v + 1) (by omega) (by omega)  _ _ _  hP (zDM hD) hS (by rw [rb_it_s _ v, rb_mx1_d]; first | (rw [if_pos (by omega)]; exact lv_sub hl [1, 2, 0] rfl) | (rw [if_neg (by omega)]; exact lv_sub hl [1, 2, 0] rfl))
                    · refine lv_aload_n hx hb dX2_longest_138 rfl (lv_at hl 0 rfl) ?_
                      refine gM7 hx hb hts hown hK hP dX2_longest_139 ?_
                      refine lv_iload_n hx hb dX2_longest_142 rfl (lv_at hl 2 rfl) ?_
                      refine lM6 hx hb hK hP v (by omega) (by omega) dX2_longest_143 ?_
                      have b6 := hl5 v (by omega)
                      refine lv_istore_n (lv' := [(1, .int (zI ((rb_ln nb mw fr to dl hd lg ln) v))), (0, .ref (h 0)), (2, .int (zI ((v : Nat) : Int)))]) hx hb dX2_longest_144 rfl hl (by decide) rfl (fun ls hl => ?_)
                      refine zi_iinc (k := 2) (x' := (((v + 1) : Nat) : Int)) (lv' := [(2, .int (zI (((v + 1) : Nat) : Int))), (1, .int (zI ((rb_ln nb mw fr to dl hd lg ln) v))), (0, .ref (h 0))]) hx hb dX2_longest_145 hl rfl (by omega) (by decide) rfl (fun ls hl => ?_)
                      refine lv_goto (tgt := 120) hx hb dX2_longest_148 (by decide) ?_
                      exact ih_lpD (v + 1) (by omega) (by omega)  _ _ _  hP (zDM hD) hS (by rw [rb_it_s _ v, rb_mx1_d]; first | (rw [if_pos (by omega)]; exact lv_sub hl [2, 1, 0] rfl) | (rw [if_neg (by omega)]; exact lv_sub hl [2, 1, 0] rfl))
              exact lpD (nb + 1) 0 (by omega) (by omega)  _ _ _  hP (zDM hD) hS (lv_sub hl [2, 1, 0] rfl)
            · refine lv_iconst (v := zI 0) hx hb dX2_longest_35 rfl ?_
              refine lv_istore_n (lv' := [(2, .int (zI 0)), (0, .ref (h 0)), (1, .int (zI ((r : Nat) : Int)))]) hx hb dX2_longest_36 rfl hl (by decide) rfl (fun ls hl => ?_)
              have lpC : ∀ (f_lpC i : Nat), i ≤ mw → mw + 1 ≤ i + f_lpC → ∀  (H : Heap) (locs : List Loc) (ls : Array Slot), va_P D vwCl (rb_WM h d nb mw fr to dl hd lg (rb_it (rb_l1 fr to dl hd lg) i (rb_it (rb_l2 mw fr to dl hd lg) r (rb_pre nb dl ln))) kn bp pl rc) H → va_D A (rb_WM h d nb mw fr to dl hd lg (rb_it (rb_l1 fr to dl hd lg) i (rb_it (rb_l2 mw fr to dl hd lg) r (rb_pre nb dl ln))) kn bp pl rc) → va_S A s.heap H locs → lv_has ls 4 [(0, .ref (h 0)), (1, .int (zI ((r : Nat) : Int))), (2, .int (zI ((i : Nat) : Int)))] → W p l e (rb_R 1) s m args below meth c H locs 0 0 Q (F0 m 37 ls []) := by
                intro f_lpC
                induction f_lpC with
                | zero => intro i h1 h2; omega
                | succ f_lpC ih_lpC =>
                  intro i hi_lpC hf_lpC  H locs ls  hP hD hS hl
                  have hlc := rb_lnb_l1 (lg := lg) ok hlb i hi_lpC
                  have hm12 := ok.2.2.1
                  refine lv_iload_n hx hb dX2_longest_37 rfl (lv_at hl 2 rfl) ?_
                  refine lv_aload_n hx hb dX2_longest_38 rfl (lv_at hl 0 rfl) ?_
                  refine gM1 hx hb hts hown hK hP dX2_longest_39 ?_
                  refine zi_icmp_ge (tgt := 110) hx hb dX2_longest_42 (by decide) ⟨by omega, by omega⟩ ⟨by omega, by omega⟩ (fun c7 => ?_) (fun c7 => ?_)
                  · have e_i : mw = i := by omega
                    subst e_i
                    refine zi_iinc (k := 1) (x' := (((r + 1) : Nat) : Int)) (lv' := [(1, .int (zI (((r + 1) : Nat) : Int))), (0, .ref (h 0)), (2, .int (zI ((mw : Nat) : Int)))]) hx hb dX2_longest_110 hl rfl (by omega) (by decide) rfl (fun ls hl => ?_)
                    refine lv_goto (tgt := 30) hx hb dX2_longest_113 (by decide) ?_
                    exact ih_lpB (r + 1) (by omega) (by omega)  _ _ _  (by rw [rb_it_s _ r, rb_l2_d]; exact hP) (zDM hD) hS (lv_sub hl [1, 0] rfl)
                  · have ho := ok.2.2.2.1 i (by omega)
                    have hun := rb_un_in ok hh hlg (i := i) (by omega)
                    refine lv_aload_n hx hb dX2_longest_45 rfl (lv_at hl 0 rfl) ?_
                    refine gM7 hx hb hts hown hK hP dX2_longest_46 ?_
                    refine lv_aload_n hx hb dX2_longest_49 rfl (lv_at hl 0 rfl) ?_
                    refine gM3 hx hb hts hown hK hP dX2_longest_50 ?_
                    refine lv_iload_n hx hb dX2_longest_53 rfl (lv_at hl 2 rfl) ?_
                    refine lM2 hx hb hK hP i (by omega) (by omega) dX2_longest_54 ?_
                    refine lM6 hx hb hK hP (fr i) (by omega) (by omega) dX2_longest_55 ?_
                    have b8 := hlc (fr i) (by omega)
                    refine lv_aload_n hx hb dX2_longest_56 rfl (lv_at hl 0 rfl) ?_
                    refine gM2 hx hb hts hown hK hP dX2_longest_57 ?_
                    refine lv_aload_n hx hb dX2_longest_60 rfl (lv_at hl 0 rfl) ?_
                    refine gM4 hx hb hts hown hK hP dX2_longest_61 ?_
                    refine lv_iload_n hx hb dX2_longest_64 rfl (lv_at hl 2 rfl) ?_
                    refine lM3 hx hb hK hP i (by omega) (by omega) dX2_longest_65 ?_
                    refine lM1 hx hb hK hP (to i) (by omega) (by omega) dX2_longest_66 ?_
                    have b9 := ok.2.2.2.2 (to i)
                    refine zi_iadd hx hb dX2_longest_67 ?_
                    refine lv_istore_n (lv' := [(3, .int (zI (((rb_it (rb_l1 fr to dl hd lg) i (rb_it (rb_l2 mw fr to dl hd lg) r (rb_pre nb dl ln))) (fr i)) + (dl (to i))))), (0, .ref (h 0)), (1, .int (zI ((r : Nat) : Int))), (2, .int (zI ((i : Nat) : Int)))]) hx hb dX2_longest_68 rfl hl (by decide) rfl (fun ls hl => ?_)
                    refine lv_aload_n hx hb dX2_longest_69 rfl (lv_at hl 1 rfl) ?_
                    refine lv_iload_n hx hb dX2_longest_70 rfl (lv_at hl 3 rfl) ?_
                    refine zc_I ⟨hx, hb, hml, hown, hts⟩ (mM_under l D h d nb mw fr to dl hd lg (rb_it (rb_l1 fr to dl hd lg) i (rb_it (rb_l2 mw fr to dl hd lg) r (rb_pre nb dl ln))) kn bp pl rc i ok (by omega)) (cwV 1 hts (lw_V q209 q211 qs9 q15 q212) rfl rfl rfl (by decide +kernel) ⟨Nat.le_of_ble_eq_true rfl, Nat.le_of_ble_eq_true rfl⟩) hK hP hD hS hA (ci := 1) rfl rfl rfl rfl hl.1 rfl (Nat.le_of_ble_eq_true rfl) dX2_longest_71 ⟨Nat.le_refl 0, Nat.le_refl 0⟩ (fun r ux9 H locs hp hP hD hS => ?_)
                    subst hp
                    refine zi_if_ne (tgt := 104) hx hb dX2_longest_74 (by decide) ⟨by omega, by omega⟩ (fun c11 => ?_) (fun c11 => ?_)
                    · refine zi_iinc (k := 3) (x' := (((i + 1) : Nat) : Int)) (lv' := [(2, .int (zI (((i + 1) : Nat) : Int))), (3, .int (zI (((rb_it (rb_l1 fr to dl hd lg) i (rb_it (rb_l2 mw fr to dl hd lg) r (rb_pre nb dl ln))) (fr i)) + (dl (to i))))), (0, .ref (h 0)), (1, .int (zI ((r : Nat) : Int)))]) hx hb dX2_longest_104 hl rfl (by omega) (by decide) rfl (fun ls hl => ?_)
                      refine lv_goto (tgt := 37) hx hb dX2_longest_107 (by decide) ?_
                      exact ih_lpC (i + 1) (by omega) (by omega)  _ _ _  (by rw [rb_it_s _ i, rb_l1_d]; first | (rw [if_pos (by omega)]; exact hP) | (rw [if_neg (by omega)]; exact hP)) (zDM hD) hS (lv_sub hl [2, 3, 0] rfl)
                    · refine lv_iload_n hx hb dX2_longest_77 rfl (lv_at hl 0 rfl) ?_
                      refine lv_aload_n hx hb dX2_longest_78 rfl (lv_at hl 1 rfl) ?_
                      refine gM7 hx hb hts hown hK hP dX2_longest_79 ?_
                      refine lv_aload_n hx hb dX2_longest_82 rfl (lv_at hl 1 rfl) ?_
                      refine gM4 hx hb hts hown hK hP dX2_longest_83 ?_
                      refine lv_iload_n hx hb dX2_longest_86 rfl (lv_at hl 3 rfl) ?_
                      refine lM3 hx hb hK hP i (by omega) (by omega) dX2_longest_87 ?_
                      refine lM6 hx hb hK hP (to i) (by omega) (by omega) dX2_longest_88 ?_
                      have b12 := hlc (to i) (by omega)
                      refine zi_icmp_le (tgt := 104) hx hb dX2_longest_89 (by decide) ⟨by omega, by omega⟩ ⟨by omega, by omega⟩ (fun c13 => ?_) (fun c13 => ?_)
                      · refine zi_iinc (k := 3) (x' := (((i + 1) : Nat) : Int)) (lv' := [(2, .int (zI (((i + 1) : Nat) : Int))), (3, .int (zI (((rb_it (rb_l1 fr to dl hd lg) i (rb_it (rb_l2 mw fr to dl hd lg) r (rb_pre nb dl ln))) (fr i)) + (dl (to i))))), (0, .ref (h 0)), (1, .int (zI ((r : Nat) : Int)))]) hx hb dX2_longest_104 hl rfl (by omega) (by decide) rfl (fun ls hl => ?_)
                        refine lv_goto (tgt := 37) hx hb dX2_longest_107 (by decide) ?_
                        exact ih_lpC (i + 1) (by omega) (by omega)  _ _ _  (by rw [rb_it_s _ i, rb_l1_d]; first | (rw [if_pos (by omega)]; exact hP) | (rw [if_neg (by omega)]; exact hP)) (zDM hD) hS (lv_sub hl [2, 3, 0] rfl)
                      · refine lv_aload_n hx hb dX2_longest_92 rfl (lv_at hl 1 rfl) ?_
                        refine gM7 hx hb hts hown hK hP dX2_longest_93 ?_
                        refine lv_aload_n hx hb dX2_longest_96 rfl (lv_at hl 1 rfl) ?_
                        refine gM4 hx hb hts hown hK hP dX2_longest_97 ?_
                        refine lv_iload_n hx hb dX2_longest_100 rfl (lv_at hl 3 rfl) ?_
                        refine lM3 hx hb hK hP i (by omega) (by omega) dX2_longest_101 ?_
                        refine lv_iload_n hx hb dX2_longest_102 rfl (lv_at hl 0 rfl) ?_
                        refine sM6 hx hb hK hP hD hS (to i) (by omega) (by omega) dX2_longest_103 (fun H locs hP hD hS => ?_)
                        refine zi_iinc (k := 3) (x' := (((i + 1) : Nat) : Int)) (lv' := [(2, .int (zI (((i + 1) : Nat) : Int))), (3, .int (zI (((rb_it (rb_l1 fr to dl hd lg) i (rb_it (rb_l2 mw fr to dl hd lg) r (rb_pre nb dl ln))) (fr i)) + (dl (to i))))), (0, .ref (h 0)), (1, .int (zI ((r : Nat) : Int)))]) hx hb dX2_longest_104 hl rfl (by omega) (by decide) rfl (fun ls hl => ?_)
                        refine lv_goto (tgt := 37) hx hb dX2_longest_107 (by decide) ?_
                        exact ih_lpC (i + 1) (by omega) (by omega)  _ _ _  (by rw [rb_it_s _ i, rb_l1_d]; first | (rw [if_pos (by omega)]; exact hP) | (rw [if_neg (by omega)]; exact hP)) (zDM hD) hS (lv_sub hl [2, 3, 0] rfl)
              exact lpC (mw + 1) 0 (by omega) (by omega)  _ _ _  hP (zDM hD) hS (lv_sub hl [1, 2, 0] rfl)
        exact lpB (5 + 1) 0 (by omega) (by omega)  _ _ _  hP (zDM hD) hS (lv_sub hl [1, 0] rfl)
      · refine lv_aload_n hx hb dX2_longest_10 rfl (lv_at hl 0 rfl) ?_
        refine gM7 hx hb hts hown hK hP dX2_longest_11 ?_
        refine lv_iload_n hx hb dX2_longest_14 rfl (lv_at hl 1 rfl) ?_
        refine lv_aload_n hx hb dX2_longest_15 rfl (lv_at hl 0 rfl) ?_
        refine gM2 hx hb hts hown hK hP dX2_longest_16 ?_
        refine lv_iload_n hx hb dX2_longest_19 rfl (lv_at hl 1 rfl) ?_
        refine lM1 hx hb hK hP v (by omega) (by omega) dX2_longest_20 ?_
        have b14 := ok.2.2.2.2 v
        refine sM6 hx hb hK hP hD hS v (by omega) (by omega) dX2_longest_21 (fun H locs hP hD hS => ?_)
        refine zi_iinc (k := 1) (x' := (((v + 1) : Nat) : Int)) (lv' := [(1, .int (zI (((v + 1) : Nat) : Int))), (0, .ref (h 0))]) hx hb dX2_longest_22 hl rfl (by omega) (by decide) rfl (fun ls hl => ?_)
        refine lv_goto (tgt := 2) hx hb dX2_longest_25 (by decide) ?_
        exact ih_lpA (v + 1) (by omega) (by omega)  _ _ _  (by rw [← rb_pre_up v]; exact hP) (zDM hD) hS (lv_sub hl [1, 0] rfl)
  exact lpA (nb + 1) 0 (by omega) (by omega)  _ _ _  (by rw [rb_pre_0]; exact hP) (zDM hD) hS (lv_sub hl [1, 0] rfl)
set_option maxHeartbeats 4000000 in
set_option maxRecDepth 100000 in
theorem mM_noLags (l : Launch) (D : va_G) (h : Nat → Nat) (d : Nat → ClassId) (nb : Nat) (mw : Nat) (fr : Nat → Nat) (to : Nat → Nat) (dl : Nat → Int) (hd : Nat → Int) (lg : Nat → Int) (ln : Nat → Int) (kn : Int) (bp : Int) (pl : Nat → Int) (rc : Nat → Int)   : rb_MV l yX2_noLags cX2_noLags 2 0 D (rb_TM d) [.ref (h 0)] (rb_WM h d nb mw fr to dl hd lg ln kn bp pl rc) (fun _ => True) (fun _ : Unit => (rb_WM h d nb mw fr to dl hd (fun _ => 0) ln kn bp pl rc)) := by
  refine rb_mkV (by decide) (Nat.le_of_ble_eq_true rfl) (fun p e s m args below meth c A ls Q hx hb hml hts hown hK hP hD hS hA hl hret => ?_)
  have hown : s.vm.findClass RX2 = some m.cls := hown
  have hl : lv_has ls 2 [(0, .ref (h 0))] := hl
  refine lv_iconst (v := zI 0) hx hb dX2_noLags_0 rfl ?_
  refine lv_istore_n (lv' := [(1, .int (zI 0)), (0, .ref (h 0))]) hx hb dX2_noLags_1 rfl hl (by decide) rfl (fun ls hl => ?_)
  have lpA : ∀ (f_lpA v : Nat), v ≤ 5 → 5 + 1 ≤ v + f_lpA → ∀  (H : Heap) (locs : List Loc) (ls : Array Slot), va_P D vwCl (rb_WM h d nb mw fr to dl hd (rb_pre v (fun _ => 0) lg) ln kn bp pl rc) H → va_D A (rb_WM h d nb mw fr to dl hd (rb_pre v (fun _ => 0) lg) ln kn bp pl rc) → va_S A s.heap H locs → lv_has ls 2 [(0, .ref (h 0)), (1, .int (zI ((v : Nat) : Int)))] → W p l e (rb_R 0) s m args below meth c H locs 0 0 Q (F0 m 2 ls []) := by
    intro f_lpA
    induction f_lpA with
    | zero => intro v h1 h2; omega
    | succ f_lpA ih_lpA =>
      intro v hi_lpA hf_lpA  H locs ls  hP hD hS hl
      refine lv_iload_n hx hb dX2_noLags_2 rfl (lv_at hl 1 rfl) ?_
      refine lv_iconst (v := zI 5) hx hb dX2_noLags_3 rfl ?_
      refine zi_icmp_ge (tgt := 20) hx hb dX2_noLags_4 (by decide) ⟨by omega, by omega⟩ ⟨by omega, by omega⟩ (fun c1 => ?_) (fun c1 => ?_)
      · have e_v : v = 5 := by omega
        subst e_v
        have hP := cM5 (lg' := fun _ => 0) hP (fun j hj => by rw [rb_pre_in _ _ hj])
        exact hret () _ _ _ _ dX2_noLags_20 hP (zDM hD) hS trivial
      · refine lv_aload_n hx hb dX2_noLags_7 rfl (lv_at hl 0 rfl) ?_
        refine gM6 hx hb hts hown hK hP dX2_noLags_8 ?_
        refine lv_iload_n hx hb dX2_noLags_11 rfl (lv_at hl 1 rfl) ?_
        refine lv_iconst (v := zI 0) hx hb dX2_noLags_12 rfl ?_
        refine sM5 hx hb hK hP hD hS v (by omega) (by omega) dX2_noLags_13 (fun H locs hP hD hS => ?_)
        refine zi_iinc (k := 1) (x' := (((v + 1) : Nat) : Int)) (lv' := [(1, .int (zI (((v + 1) : Nat) : Int))), (0, .ref (h 0))]) hx hb dX2_noLags_14 hl rfl (by omega) (by decide) rfl (fun ls hl => ?_)
        refine lv_goto (tgt := 2) hx hb dX2_noLags_17 (by decide) ?_
        exact ih_lpA (v + 1) (by omega) (by omega)  _ _ _  (by rw [← rb_pre_up v]; exact hP) (zDM hD) hS (lv_sub hl [1, 0] rfl)
  exact lpA (5 + 1) 0 (by omega) (by omega)  _ _ _  (by rw [rb_pre_0]; exact hP) (zDM hD) hS (lv_sub hl [1, 0] rfl)
set_option maxHeartbeats 4000000 in
set_option maxRecDepth 100000 in
theorem mM_sound (l : Launch) (D : va_G) (h : Nat → Nat) (d : Nat → ClassId) (nb : Nat) (mw : Nat) (fr : Nat → Nat) (to : Nat → Nat) (dl : Nat → Int) (hd : Nat → Int) (lg : Nat → Int) (ln : Nat → Int) (kn : Int) (bp : Int) (pl : Nat → Int) (rc : Nat → Int)  (ok : rb_ok nb mw fr to dl hd) (hh : ∀ i, i < mw → hd i ≤ 1000) : rb_MI l yX2_sound cX2_sound 3 (some .boolean) 1 D (rb_TM d) [.ref (h 0)] (rb_WM h d nb mw fr to dl hd lg ln kn bp pl rc) (fun r _ => r = zI (rb_sdv nb (rb_ms nb mw fr to dl hd))) (fun _ : Unit => (rb_WM h d nb mw fr to dl hd (fun _ => 0) (rb_qs nb mw fr to hd ln) kn bp pl rc)) := by
  refine rb_mkI (by decide) (Nat.le_of_ble_eq_true rfl) (fun p e s m args below meth c A ls Q hx hb hml hts hown hK hP hD hS hA hl hret => ?_)
  have hown : s.vm.findClass RX2 = some m.cls := hown
  have hl : lv_has ls 3 [(0, .ref (h 0))] := hl
  have hn5 := ok.2.1
  refine lv_aload_n hx hb dX2_sound_0 rfl (lv_at hl 0 rfl) ?_
  refine zc_V ⟨hx, hb, hml, hown, hts⟩ (mM_noLags l D h d nb mw fr to dl hd lg ln kn bp pl rc) (cwV 0 hts (lw_V q196 q198 qs7 q15 q199) rfl rfl rfl (by decide +kernel) ⟨Nat.le_of_ble_eq_true rfl, Nat.le_of_ble_eq_true rfl⟩) hK hP hD hS hA (ci := 1) rfl rfl rfl rfl hl.1 rfl (Nat.le_of_ble_eq_true rfl) dX2_sound_1 ⟨Nat.le_refl 0, Nat.le_refl 0⟩ (fun ux0 H locs hp hP hD hS => ?_)
  have hP : va_P D vwCl (rb_WM h d nb mw fr to dl hd (fun _ => 0) ln kn bp pl rc) H := hP
  have hD : va_D A (rb_WM h d nb mw fr to dl hd (fun _ => 0) ln kn bp pl rc) := zDM hD
  refine lv_iconst (v := zI 0) hx hb dX2_sound_4 rfl ?_
  refine lv_istore_n (lv' := [(1, .int (zI 0)), (0, .ref (h 0))]) hx hb dX2_sound_5 rfl hl (by decide) rfl (fun ls hl => ?_)
  have lpA : ∀ (f_lpA v : Nat), v ≤ nb → nb + 1 ≤ v + f_lpA → ∀  (H : Heap) (locs : List Loc) (ls : Array Slot), va_P D vwCl (rb_WM h d nb mw fr to dl hd (fun _ => 0) (rb_pre v (fun _ => 0) ln) kn bp pl rc) H → va_D A (rb_WM h d nb mw fr to dl hd (fun _ => 0) (rb_pre v (fun _ => 0) ln) kn bp pl rc) → va_S A s.heap H locs → lv_has ls 3 [(0, .ref (h 0)), (1, .int (zI ((v : Nat) : Int)))] → W p l e (rb_R 1) s m args below meth c H locs 0 0 Q (F0 m 6 ls []) := by
    intro f_lpA
    induction f_lpA with
    | zero => intro v h1 h2; omega
    | succ f_lpA ih_lpA =>
      intro v hi_lpA hf_lpA  H locs ls  hP hD hS hl
      refine lv_iload_n hx hb dX2_sound_6 rfl (lv_at hl 1 rfl) ?_
      refine lv_aload_n hx hb dX2_sound_7 rfl (lv_at hl 0 rfl) ?_
      refine gM0 hx hb hts hown hK hP dX2_sound_8 ?_
      refine zi_icmp_ge (tgt := 27) hx hb dX2_sound_11 (by decide) ⟨by omega, by omega⟩ ⟨by omega, by omega⟩ (fun c2 => ?_) (fun c2 => ?_)
      · have e_v : nb = v := by omega
        subst e_v
        refine lv_iconst (v := zI 0) hx hb dX2_sound_27 rfl ?_
        refine lv_istore_n (lv' := [(1, .int (zI 0)), (0, .ref (h 0))]) hx hb dX2_sound_28 rfl hl (by decide) rfl (fun ls hl => ?_)
        have lpB : ∀ (f_lpB r : Nat), r ≤ 6 → 6 + 1 ≤ r + f_lpB → ∀  (H : Heap) (locs : List Loc) (ls : Array Slot), va_P D vwCl (rb_WM h d nb mw fr to dl hd (fun _ => 0) (rb_it (rb_q2 mw fr to hd) r (rb_pre nb (fun _ => 0) ln)) kn bp pl rc) H → va_D A (rb_WM h d nb mw fr to dl hd (fun _ => 0) (rb_it (rb_q2 mw fr to hd) r (rb_pre nb (fun _ => 0) ln)) kn bp pl rc) → va_S A s.heap H locs → lv_has ls 3 [(0, .ref (h 0)), (1, .int (zI ((r : Nat) : Int)))] → W p l e (rb_R 1) s m args below meth c H locs 0 0 Q (F0 m 29 ls []) := by
          intro f_lpB
          induction f_lpB with
          | zero => intro r h1 h2; omega
          | succ f_lpB ih_lpB =>
            intro r hi_lpB hf_lpB  H locs ls  hP hD hS hl
            have hlb := rb_lnb_q2 ok ln r
            refine lv_iload_n hx hb dX2_sound_29 rfl (lv_at hl 1 rfl) ?_
            refine lv_bipush (v := zI 6) hx hb dX2_sound_30 (by decide) ?_
            refine zi_icmp_ge (tgt := 115) hx hb dX2_sound_32 (by decide) ⟨by omega, by omega⟩ ⟨by omega, by omega⟩ (fun c3 => ?_) (fun c3 => ?_)
            · have e_r : r = 6 := by omega
              subst e_r
              have hP : va_P D vwCl (rb_WM h d nb mw fr to dl hd (fun _ => 0) (rb_qs nb mw fr to hd ln) kn bp pl rc) H := hP
              have hD : va_D A (rb_WM h d nb mw fr to dl hd (fun _ => 0) (rb_qs nb mw fr to hd ln) kn bp pl rc) := zDM hD
              have hl6 : ∀ v, v < nb → 0 ≤ (rb_qs nb mw fr to hd ln) v ∧ (rb_qs nb mw fr to hd ln) v ≤ 12 * ((6 : Nat) : Int) := rb_lnb_q2 ok ln 6
              refine lv_iconst (v := zI 0) hx hb dX2_sound_115 rfl ?_
              refine lv_istore_n (lv' := [(1, .int (zI 0)), (0, .ref (h 0))]) hx hb dX2_sound_116 rfl hl (by decide) rfl (fun ls hl => ?_)
              have lpD : ∀ (f_lpD v : Nat), v ≤ nb → nb + 1 ≤ v + f_lpD → ∀  (H : Heap) (locs : List Loc) (ls : Array Slot), (∀ w, w < v → (rb_qs nb mw fr to hd ln) w < (nb : Int)) → va_P D vwCl (rb_WM h d nb mw fr to dl hd (fun _ => 0) (rb_qs nb mw fr to hd ln) kn bp pl rc) H → va_D A (rb_WM h d nb mw fr to dl hd (fun _ => 0) (rb_qs nb mw fr to hd ln) kn bp pl rc) → va_S A s.heap H locs → lv_has ls 3 [(0, .ref (h 0)), (1, .int (zI ((v : Nat) : Int)))] → W p l e (rb_R 1) s m args below meth c H locs 0 0 Q (F0 m 117 ls []) := by
                intro f_lpD
                induction f_lpD with
                | zero => intro v h1 h2; omega
                | succ f_lpD ih_lpD =>
                  intro v hi_lpD hf_lpD  H locs ls hall hP hD hS hl
                  refine lv_iload_n hx hb dX2_sound_117 rfl (lv_at hl 1 rfl) ?_
                  refine lv_aload_n hx hb dX2_sound_118 rfl (lv_at hl 0 rfl) ?_
                  refine gM0 hx hb hts hown hK hP dX2_sound_119 ?_
                  refine zi_icmp_ge (tgt := 146) hx hb dX2_sound_122 (by decide) ⟨by omega, by omega⟩ ⟨by omega, by omega⟩ (fun c4 => ?_) (fun c4 => ?_)
                  · refine lv_iconst (v := zI 1) hx hb dX2_sound_146 rfl ?_
                    have e_v : nb = v := by omega
                    subst e_v
                    exact hret _ () _ _ _ _ dX2_sound_147 rfl hP (zDM hD) hS (by rw [rb_sdv_1 ((rb_sound_eq ok ln).mpr hall)])
                  · refine lv_aload_n hx hb dX2_sound_125 rfl (lv_at hl 0 rfl) ?_
                    refine gM7 hx hb hts hown hK hP dX2_sound_126 ?_
                    refine lv_iload_n hx hb dX2_sound_129 rfl (lv_at hl 1 rfl) ?_
                    refine lM6 hx hb hK hP v (by omega) (by omega) dX2_sound_130 ?_
                    have b5 := hl6 v (by omega)
                    refine lv_aload_n hx hb dX2_sound_131 rfl (lv_at hl 0 rfl) ?_
                    refine gM0 hx hb hts hown hK hP dX2_sound_132 ?_
                    refine zi_icmp_lt (tgt := 140) hx hb dX2_sound_135 (by decide) ⟨by omega, by omega⟩ ⟨by omega, by omega⟩ (fun c6 => ?_) (fun c6 => ?_)
                    · refine zi_iinc (k := 1) (x' := (((v + 1) : Nat) : Int)) (lv' := [(1, .int (zI (((v + 1) : Nat) : Int))), (0, .ref (h 0))]) hx hb dX2_sound_140 hl rfl (by omega) (by decide) rfl (fun ls hl => ?_)
                      refine lv_goto (tgt := 117) hx hb dX2_sound_143 (by decide) ?_
                      exact ih_lpD (v + 1) (by omega) (by omega)  _ _ _ (fun w hw => (Nat.lt_or_ge w v).elim (hall w) (fun hq => by rw [show w = v by omega]; omega)) hP (zDM hD) hS (lv_sub hl [1, 0] rfl)
                    · refine lv_iconst (v := zI 0) hx hb dX2_sound_138 rfl ?_
                      have hns : ¬ rb_snd nb (rb_ms nb mw fr to dl hd) := fun q => absurd ((rb_sound_eq ok ln).mp q v (by omega)) (by omega)
                      exact hret _ () _ _ _ _ dX2_sound_139 rfl hP (zDM hD) hS (by rw [rb_sdv_0 hns])
              exact lpD (nb + 1) 0 (by omega) (by omega)  _ _ _ (fun w hw => absurd hw (by omega)) hP (zDM hD) hS (lv_sub hl [1, 0] rfl)
            · refine lv_iconst (v := zI 0) hx hb dX2_sound_35 rfl ?_
              refine lv_istore_n (lv' := [(2, .int (zI 0)), (0, .ref (h 0)), (1, .int (zI ((r : Nat) : Int)))]) hx hb dX2_sound_36 rfl hl (by decide) rfl (fun ls hl => ?_)
              have lpC : ∀ (f_lpC i : Nat), i ≤ mw → mw + 1 ≤ i + f_lpC → ∀  (H : Heap) (locs : List Loc) (ls : Array Slot), va_P D vwCl (rb_WM h d nb mw fr to dl hd (fun _ => 0) (rb_it (rb_q1 fr to hd) i (rb_it (rb_q2 mw fr to hd) r (rb_pre nb (fun _ => 0) ln))) kn bp pl rc) H → va_D A (rb_WM h d nb mw fr to dl hd (fun _ => 0) (rb_it (rb_q1 fr to hd) i (rb_it (rb_q2 mw fr to hd) r (rb_pre nb (fun _ => 0) ln))) kn bp pl rc) → va_S A s.heap H locs → lv_has ls 3 [(0, .ref (h 0)), (1, .int (zI ((r : Nat) : Int))), (2, .int (zI ((i : Nat) : Int)))] → W p l e (rb_R 1) s m args below meth c H locs 0 0 Q (F0 m 37 ls []) := by
                intro f_lpC
                induction f_lpC with
                | zero => intro i h1 h2; omega
                | succ f_lpC ih_lpC =>
                  intro i hi_lpC hf_lpC  H locs ls  hP hD hS hl
                  have hlc := rb_lnb_q1 ok hlb i hi_lpC
                  have hm12 := ok.2.2.1
                  refine lv_iload_n hx hb dX2_sound_37 rfl (lv_at hl 2 rfl) ?_
                  refine lv_aload_n hx hb dX2_sound_38 rfl (lv_at hl 0 rfl) ?_
                  refine gM1 hx hb hts hown hK hP dX2_sound_39 ?_
                  refine zi_icmp_ge (tgt := 109) hx hb dX2_sound_42 (by decide) ⟨by omega, by omega⟩ ⟨by omega, by omega⟩ (fun c7 => ?_) (fun c7 => ?_)
                  · have e_i : mw = i := by omega
                    subst e_i
                    refine zi_iinc (k := 1) (x' := (((r + 1) : Nat) : Int)) (lv' := [(1, .int (zI (((r + 1) : Nat) : Int))), (0, .ref (h 0)), (2, .int (zI ((mw : Nat) : Int)))]) hx hb dX2_sound_109 hl rfl (by omega) (by decide) rfl (fun ls hl => ?_)
                    refine lv_goto (tgt := 29) hx hb dX2_sound_112 (by decide) ?_
                    exact ih_lpB (r + 1) (by omega) (by omega)  _ _ _  (by rw [rb_it_s _ r, rb_q2_d]; exact hP) (zDM hD) hS (lv_sub hl [1, 0] rfl)
                  · have ho := ok.2.2.2.1 i (by omega)
                    have hho := hh i (by omega)
                    refine lv_aload_n hx hb dX2_sound_45 rfl (lv_at hl 0 rfl) ?_
                    refine gM5 hx hb hts hown hK hP dX2_sound_46 ?_
                    refine lv_iload_n hx hb dX2_sound_49 rfl (lv_at hl 2 rfl) ?_
                    refine lM4 hx hb hK hP i (by omega) (by omega) dX2_sound_50 ?_
                    refine zi_if_ne (tgt := 103) hx hb dX2_sound_51 (by decide) ⟨by omega, by omega⟩ (fun c8 => ?_) (fun c8 => ?_)
                    · refine zi_iinc (k := 2) (x' := (((i + 1) : Nat) : Int)) (lv' := [(2, .int (zI (((i + 1) : Nat) : Int))), (0, .ref (h 0)), (1, .int (zI ((r : Nat) : Int)))]) hx hb dX2_sound_103 hl rfl (by omega) (by decide) rfl (fun ls hl => ?_)
                      refine lv_goto (tgt := 37) hx hb dX2_sound_106 (by decide) ?_
                      exact ih_lpC (i + 1) (by omega) (by omega)  _ _ _  (by rw [rb_it_s _ i, rb_q1_d]; first | (rw [if_pos (by omega)]; exact hP) | (rw [if_neg (by omega)]; exact hP)) (zDM hD) hS (lv_sub hl [1, 2, 0] rfl)
                    · refine lv_aload_n hx hb dX2_sound_54 rfl (lv_at hl 0 rfl) ?_
                      refine gM7 hx hb hts hown hK hP dX2_sound_55 ?_
                      refine lv_aload_n hx hb dX2_sound_58 rfl (lv_at hl 0 rfl) ?_
                      refine gM4 hx hb hts hown hK hP dX2_sound_59 ?_
                      refine lv_iload_n hx hb dX2_sound_62 rfl (lv_at hl 2 rfl) ?_
                      refine lM3 hx hb hK hP i (by omega) (by omega) dX2_sound_63 ?_
                      refine lM6 hx hb hK hP (to i) (by omega) (by omega) dX2_sound_64 ?_
                      have b9 := hlc (to i) (by omega)
                      refine lv_aload_n hx hb dX2_sound_65 rfl (lv_at hl 0 rfl) ?_
                      refine gM7 hx hb hts hown hK hP dX2_sound_66 ?_
                      refine lv_aload_n hx hb dX2_sound_69 rfl (lv_at hl 0 rfl) ?_
                      refine gM3 hx hb hts hown hK hP dX2_sound_70 ?_
                      refine lv_iload_n hx hb dX2_sound_73 rfl (lv_at hl 2 rfl) ?_
                      refine lM2 hx hb hK hP i (by omega) (by omega) dX2_sound_74 ?_
                      refine lM6 hx hb hK hP (fr i) (by omega) (by omega) dX2_sound_75 ?_
                      have b10 := hlc (fr i) (by omega)
                      refine zi_icmp_gt (tgt := 103) hx hb dX2_sound_76 (by decide) ⟨by omega, by omega⟩ ⟨by omega, by omega⟩ (fun c11 => ?_) (fun c11 => ?_)
                      · refine zi_iinc (k := 2) (x' := (((i + 1) : Nat) : Int)) (lv' := [(2, .int (zI (((i + 1) : Nat) : Int))), (0, .ref (h 0)), (1, .int (zI ((r : Nat) : Int)))]) hx hb dX2_sound_103 hl rfl (by omega) (by decide) rfl (fun ls hl => ?_)
                        refine lv_goto (tgt := 37) hx hb dX2_sound_106 (by decide) ?_
                        exact ih_lpC (i + 1) (by omega) (by omega)  _ _ _  (by rw [rb_it_s _ i, rb_q1_d]; first | (rw [if_pos (by omega)]; exact hP) | (rw [if_neg (by omega)]; exact hP)) (zDM hD) hS (lv_sub hl [1, 2, 0] rfl)
                      · refine lv_aload_n hx hb dX2_sound_79 rfl (lv_at hl 0 rfl) ?_
                        refine gM7 hx hb hts hown hK hP dX2_sound_80 ?_
                        refine lv_aload_n hx hb dX2_sound_83 rfl (lv_at hl 0 rfl) ?_
                        refine gM4 hx hb hts hown hK hP dX2_sound_84 ?_
                        refine lv_iload_n hx hb dX2_sound_87 rfl (lv_at hl 2 rfl) ?_
                        refine lM3 hx hb hK hP i (by omega) (by omega) dX2_sound_88 ?_
                        refine lv_aload_n hx hb dX2_sound_89 rfl (lv_at hl 0 rfl) ?_
                        refine gM7 hx hb hts hown hK hP dX2_sound_90 ?_
                        refine lv_aload_n hx hb dX2_sound_93 rfl (lv_at hl 0 rfl) ?_
                        refine gM3 hx hb hts hown hK hP dX2_sound_94 ?_
                        refine lv_iload_n hx hb dX2_sound_97 rfl (lv_at hl 2 rfl) ?_
                        refine lM2 hx hb hK hP i (by omega) (by omega) dX2_sound_98 ?_
                        refine lM6 hx hb hK hP (fr i) (by omega) (by omega) dX2_sound_99 ?_
                        have b12 := hlc (fr i) (by omega)
                        refine lv_iconst (v := zI 1) hx hb dX2_sound_100 rfl ?_
                        refine zi_iadd hx hb dX2_sound_101 ?_
                        refine sM6 hx hb hK hP hD hS (to i) (by omega) (by omega) dX2_sound_102 (fun H locs hP hD hS => ?_)
                        refine zi_iinc (k := 2) (x' := (((i + 1) : Nat) : Int)) (lv' := [(2, .int (zI (((i + 1) : Nat) : Int))), (0, .ref (h 0)), (1, .int (zI ((r : Nat) : Int)))]) hx hb dX2_sound_103 hl rfl (by omega) (by decide) rfl (fun ls hl => ?_)
                        refine lv_goto (tgt := 37) hx hb dX2_sound_106 (by decide) ?_
                        exact ih_lpC (i + 1) (by omega) (by omega)  _ _ _  (by rw [rb_it_s _ i, rb_q1_d]; first | (rw [if_pos (by omega)]; exact hP) | (rw [if_neg (by omega)]; exact hP)) (zDM hD) hS (lv_sub hl [1, 2, 0] rfl)
              exact lpC (mw + 1) 0 (by omega) (by omega)  _ _ _  hP (zDM hD) hS (lv_sub hl [1, 2, 0] rfl)
        exact lpB (6 + 1) 0 (by omega) (by omega)  _ _ _  hP (zDM hD) hS (lv_sub hl [1, 0] rfl)
      · refine lv_aload_n hx hb dX2_sound_14 rfl (lv_at hl 0 rfl) ?_
        refine gM7 hx hb hts hown hK hP dX2_sound_15 ?_
        refine lv_iload_n hx hb dX2_sound_18 rfl (lv_at hl 1 rfl) ?_
        refine lv_iconst (v := zI 0) hx hb dX2_sound_19 rfl ?_
        refine sM6 hx hb hK hP hD hS v (by omega) (by omega) dX2_sound_20 (fun H locs hP hD hS => ?_)
        refine zi_iinc (k := 1) (x' := (((v + 1) : Nat) : Int)) (lv' := [(1, .int (zI (((v + 1) : Nat) : Int))), (0, .ref (h 0))]) hx hb dX2_sound_21 hl rfl (by omega) (by decide) rfl (fun ls hl => ?_)
        refine lv_goto (tgt := 6) hx hb dX2_sound_24 (by decide) ?_
        exact ih_lpA (v + 1) (by omega) (by omega)  _ _ _  (by rw [← rb_pre_up v]; exact hP) (zDM hD) hS (lv_sub hl [1, 0] rfl)
  exact lpA (nb + 1) 0 (by omega) (by omega)  _ _ _  (by rw [rb_pre_0]; exact hP) (zDM hD) hS (lv_sub hl [1, 0] rfl)
set_option maxHeartbeats 4000000 in
set_option maxRecDepth 100000 in
theorem mM_wl (l : Launch) (D : va_G) (h : Nat → Nat) (d : Nat → ClassId) (nb : Nat) (mw : Nat) (fr : Nat → Nat) (to : Nat → Nat) (dl : Nat → Int) (hd : Nat → Int) (lg : Nat → Int) (ln : Nat → Int) (kn : Int) (bp : Int) (pl : Nat → Int) (rc : Nat → Int) (c0 : Nat) (hn : nb ≤ 5) (hc : c0 ≤ 3125) : rb_MV l yX2_writeLags cX2_writeLags 4 0 D (rb_TM d) [.ref (h 0), .int (zI ((c0 : Nat) : Int))] (rb_WM h d nb mw fr to dl hd lg ln kn bp pl rc) (fun _ => True) (fun _ : Unit => (rb_WM h d nb mw fr to dl hd (rb_cd nb c0) ln kn bp pl rc)) := by
  refine rb_mkV (by decide) (Nat.le_of_ble_eq_true rfl) (fun p e s m args below meth c A ls Q hx hb hml hts hown hK hP hD hS hA hl hret => ?_)
  have hown : s.vm.findClass RX2 = some m.cls := hown
  have hl : lv_has ls 4 [(0, .ref (h 0)), (1, .int (zI ((c0 : Nat) : Int)))] := hl
  refine lv_iload_n hx hb dX2_writeLags_0 rfl (lv_at hl 1 rfl) ?_
  refine lv_istore_n (lv' := [(2, .int (zI ((c0 : Nat) : Int))), (0, .ref (h 0)), (1, .int (zI ((c0 : Nat) : Int)))]) hx hb dX2_writeLags_1 rfl hl (by decide) rfl (fun ls hl => ?_)
  refine lv_iconst (v := zI 0) hx hb dX2_writeLags_2 rfl ?_
  refine lv_istore_n (lv' := [(3, .int (zI 0)), (2, .int (zI ((c0 : Nat) : Int))), (0, .ref (h 0)), (1, .int (zI ((c0 : Nat) : Int)))]) hx hb dX2_writeLags_3 rfl hl (by decide) rfl (fun ls hl => ?_)
  have lpA : ∀ (f_lpA v : Nat), v ≤ 5 → 5 + 1 ≤ v + f_lpA → ∀  (H : Heap) (locs : List Loc) (ls : Array Slot), va_P D vwCl (rb_WM h d nb mw fr to dl hd (rb_pre v (rb_cd nb c0) lg) ln kn bp pl rc) H → va_D A (rb_WM h d nb mw fr to dl hd (rb_pre v (rb_cd nb c0) lg) ln kn bp pl rc) → va_S A s.heap H locs → lv_has ls 4 [(0, .ref (h 0)), (2, .int (zI (((rb_dg c0 v) : Nat) : Int))), (3, .int (zI ((v : Nat) : Int)))] → W p l e (rb_R 0) s m args below meth c H locs 0 0 Q (F0 m 4 ls []) := by
    intro f_lpA
    induction f_lpA with
    | zero => intro v h1 h2; omega
    | succ f_lpA ih_lpA =>
      intro v hi_lpA hf_lpA  H locs ls  hP hD hS hl
      have hdg := rb_dg_le c0 v
      refine lv_iload_n hx hb dX2_writeLags_4 rfl (lv_at hl 2 rfl) ?_
      refine lv_iconst (v := zI 5) hx hb dX2_writeLags_5 rfl ?_
      refine zi_icmp_ge (tgt := 41) hx hb dX2_writeLags_6 (by decide) ⟨by omega, by omega⟩ ⟨by omega, by omega⟩ (fun c1 => ?_) (fun c1 => ?_)
      · have e_v : v = 5 := by omega
        subst e_v
        have hP := cM5 (lg' := rb_cd nb c0) hP (fun j hj => by rw [rb_pre_in _ _ hj])
        exact hret () _ _ _ _ dX2_writeLags_41 hP (zDM hD) hS trivial
      · refine lv_aload_n hx hb dX2_writeLags_9 rfl (lv_at hl 0 rfl) ?_
        refine gM6 hx hb hts hown hK hP dX2_writeLags_10 ?_
        refine lv_iload_n hx hb dX2_writeLags_13 rfl (lv_at hl 2 rfl) ?_
        refine lv_iload_n hx hb dX2_writeLags_14 rfl (lv_at hl 2 rfl) ?_
        refine lv_aload_n hx hb dX2_writeLags_15 rfl (lv_at hl 0 rfl) ?_
        refine gM0 hx hb hts hown hK hP dX2_writeLags_16 ?_
        refine zi_icmp_ge (tgt := 29) hx hb dX2_writeLags_19 (by decide) ⟨by omega, by omega⟩ ⟨by omega, by omega⟩ (fun c2 => ?_) (fun c2 => ?_)
        · refine lv_iconst (v := zI 0) hx hb dX2_writeLags_29 rfl ?_
          refine sM5 hx hb hK hP hD hS v (by omega) (by omega) dX2_writeLags_30 (fun H locs hP hD hS => ?_)
          refine lv_iload_n hx hb dX2_writeLags_31 rfl (lv_at hl 1 rfl) ?_
          refine lv_iconst (v := zI 5) hx hb dX2_writeLags_32 rfl ?_
          refine zi_div5 hx hb (rb_dg c0 v) (by omega) (by omega) dX2_writeLags_33 ?_
          refine lv_istore_n (lv' := [(2, .int (zI ((((rb_dg c0 v) / 5) : Nat) : Int))), (0, .ref (h 0)), (3, .int (zI ((v : Nat) : Int)))]) hx hb dX2_writeLags_34 rfl hl (by decide) rfl (fun ls hl => ?_)
          refine zi_iinc (k := 2) (x' := (((v + 1) : Nat) : Int)) (lv' := [(3, .int (zI (((v + 1) : Nat) : Int))), (2, .int (zI ((((rb_dg c0 v) / 5) : Nat) : Int))), (0, .ref (h 0))]) hx hb dX2_writeLags_35 hl rfl (by omega) (by decide) rfl (fun ls hl => ?_)
          refine lv_goto (tgt := 4) hx hb dX2_writeLags_38 (by decide) ?_
          exact ih_lpA (v + 1) (by omega) (by omega)  _ _ _  (by rw [← rb_pre_up v]; first | (rw [rb_cd_y (by omega)]; exact hP) | (rw [rb_cd_n (by omega)]; exact hP)) (zDM hD) hS (by rw [← rb_dg_s c0 v]; exact lv_sub hl [2, 1, 0] rfl)
        · refine lv_iload_n hx hb dX2_writeLags_22 rfl (lv_at hl 1 rfl) ?_
          refine lv_iconst (v := zI 5) hx hb dX2_writeLags_23 rfl ?_
          refine zi_rem5 hx hb (rb_dg c0 v) (by omega) (by omega) dX2_writeLags_24 ?_
          refine zi_ineg hx hb dX2_writeLags_25 ?_
          refine lv_goto (tgt := 30) hx hb dX2_writeLags_26 (by decide) ?_
          refine sM5 hx hb hK hP hD hS v (by omega) (by omega) dX2_writeLags_30 (fun H locs hP hD hS => ?_)
          refine lv_iload_n hx hb dX2_writeLags_31 rfl (lv_at hl 1 rfl) ?_
          refine lv_iconst (v := zI 5) hx hb dX2_writeLags_32 rfl ?_
          refine zi_div5 hx hb (rb_dg c0 v) (by omega) (by omega) dX2_writeLags_33 ?_
          refine lv_istore_n (lv' := [(2, .int (zI ((((rb_dg c0 v) / 5) : Nat) : Int))), (0, .ref (h 0)), (3, .int (zI ((v : Nat) : Int)))]) hx hb dX2_writeLags_34 rfl hl (by decide) rfl (fun ls hl => ?_)
          refine zi_iinc (k := 2) (x' := (((v + 1) : Nat) : Int)) (lv' := [(3, .int (zI (((v + 1) : Nat) : Int))), (2, .int (zI ((((rb_dg c0 v) / 5) : Nat) : Int))), (0, .ref (h 0))]) hx hb dX2_writeLags_35 hl rfl (by omega) (by decide) rfl (fun ls hl => ?_)
          refine lv_goto (tgt := 4) hx hb dX2_writeLags_38 (by decide) ?_
          exact ih_lpA (v + 1) (by omega) (by omega)  _ _ _  (by rw [← rb_pre_up v]; first | (rw [rb_cd_y (by omega)]; exact hP) | (rw [rb_cd_n (by omega)]; exact hP)) (zDM hD) hS (by rw [← rb_dg_s c0 v]; exact lv_sub hl [2, 1, 0] rfl)
  exact lpA (5 + 1) 0 (by omega) (by omega)  _ _ _  (by rw [rb_pre_0]; exact hP) (zDM hD) hS (by rw [rb_dg_0]; exact lv_sub hl [2, 1, 0] rfl)
end
section
set_option maxHeartbeats 4000000 in
set_option maxRecDepth 100000 in
theorem mM_find (l : Launch) (D : va_G) (h : Nat → Nat) (d : Nat → ClassId) (nb : Nat) (mw : Nat) (fr : Nat → Nat) (to : Nat → Nat) (dl : Nat → Int) (hd : Nat → Int) (lg : Nat → Int) (ln : Nat → Int) (kn : Int) (bp : Int) (pl : Nat → Int) (rc : Nat → Int)  (a : Int) (ok : rb_ok nb mw fr to dl hd) (ha : 0 ≤ a) (ha2 : a ≤ 252) (hf : rb_few mw fr to hd a) (hs : rb_snd nb (rb_ms nb mw fr to dl hd)) (hmc : rb_mc nb mw fr to dl hd kn bp pl) : rb_MV l yX2_find cX2_find 6 2 D (rb_TM d) [.ref (h 0)] (rb_WM h d nb mw fr to dl hd lg ln kn bp pl rc) (fun (u : rb_T6) => rb_fo nb mw fr to dl hd u.2.2.2.1 u.2.2.2.2.1) (fun u : rb_T6 => (rb_WM h d nb mw fr to dl hd u.1 u.2.1 1 u.2.2.2.1 u.2.2.2.2.1 rc)) := by
  refine rb_mkV (by decide) (Nat.le_of_ble_eq_true rfl) (fun p e s m args below meth c A ls Q hx hb hml hts hown hK hP hD hS hA hl hret => ?_)
  have hown : s.vm.findClass RX2 = some m.cls := hown
  have hl : lv_has ls 6 [(0, .ref (h 0))] := hl
  have hh := rb_hh ha2 hf
  have hkn := rb_mc_kn hmc
  have hn5 := ok.2.1
  have hn1 := ok.1
  refine lv_aload_n hx hb dX2_find_0 rfl (lv_at hl 0 rfl) ?_
  refine gM8 hx hb hts hown hK hP dX2_find_1 ?_
  refine zi_if_eq (tgt := 8) hx hb dX2_find_4 (by decide) ⟨by omega, by omega⟩ (fun c1 => ?_) (fun c1 => ?_)
  · refine lv_aload_n hx hb dX2_find_8 rfl (lv_at hl 0 rfl) ?_
    refine lv_bipush (v := zI 100) hx hb dX2_find_9 (by decide) ?_
    refine pM9 hx hb hts hown hK hP hD hS dX2_find_11 (fun H locs hP hD hS => ?_)
    have hp5 := rb_p5_le ok.2.1
    have lpM : ∀ (f_lpM j : Nat), j ≤ (rb_p5 nb) → (rb_p5 nb) + 1 ≤ j + f_lpM → ∀ (g1 : Nat → Int) (g2 : Nat → Int) (H : Heap) (locs : List Loc) (ls : Array Slot), va_P D vwCl (rb_WM h d nb mw fr to dl hd g1 g2 kn (rb_fd nb mw fr to dl hd pl j).1 (rb_fd nb mw fr to dl hd pl j).2 rc) H → va_D A (rb_WM h d nb mw fr to dl hd g1 g2 kn (rb_fd nb mw fr to dl hd pl j).1 (rb_fd nb mw fr to dl hd pl j).2 rc) → va_S A s.heap H locs → lv_has ls 6 [(0, .ref (h 0)), (1, .int (zI (((rb_p5 nb) : Nat) : Int))), (2, .int (zI ((j : Nat) : Int)))] → W p l e (rb_R 2) s m args below meth c H locs 0 0 Q (F0 m 72 ls []) := by
      intro f_lpM
      induction f_lpM with
      | zero => intro j h1 h2; omega
      | succ f_lpM ih_lpM =>
        intro j hi_lpM hf_lpM g1 g2 H locs ls  hP hD hS hl
        have hbpi := rb_fd_in (pl := pl) ok hs j
        refine lv_iload_n hx hb dX2_find_72 rfl (lv_at hl 2 rfl) ?_
        refine lv_iload_n hx hb dX2_find_73 rfl (lv_at hl 1 rfl) ?_
        refine zi_icmp_ge (tgt := 187) hx hb dX2_find_74 (by decide) ⟨by omega, by omega⟩ ⟨by omega, by omega⟩ (fun c2 => ?_) (fun c2 => ?_)
        · have e_j : (rb_p5 nb) = j := by omega
          subst e_j
          refine lv_aload_n hx hb dX2_find_187 rfl (lv_at hl 0 rfl) ?_
          refine lv_iconst (v := zI 1) hx hb dX2_find_188 rfl ?_
          refine pM8 hx hb hts hown hK hP hD hS (Or.inr rfl) dX2_find_189 (fun H locs hP hD hS => ?_)
          exact hret (g1, g2, 1, (rb_fd nb mw fr to dl hd pl (rb_p5 nb)).1, (rb_fd nb mw fr to dl hd pl (rb_p5 nb)).2, rc) _ _ _ _ dX2_find_192 hP (zDM hD) hS (rb_find_fo ok ha ha2 hf hs hmc.1)
        · refine lv_aload_n hx hb dX2_find_77 rfl (lv_at hl 0 rfl) ?_
          refine lv_iload_n hx hb dX2_find_78 rfl (lv_at hl 2 rfl) ?_
          refine zc_V ⟨hx, hb, hml, hown, hts⟩ (mM_wl l D h d nb mw fr to dl hd g1 g2 kn (rb_fd nb mw fr to dl hd pl j).1 (rb_fd nb mw fr to dl hd pl j).2 rc j ok.2.1 (by omega)) (cwV 1 hts (lw_V q221 q223 qs11 q15 q224) rfl rfl rfl (by decide +kernel) ⟨Nat.le_of_ble_eq_true rfl, Nat.le_of_ble_eq_true rfl⟩) hK hP hD hS hA (ci := 1) rfl rfl rfl rfl hl.1 rfl (Nat.le_of_ble_eq_true rfl) dX2_find_79 ⟨Nat.le_refl 0, Nat.le_refl 0⟩ (fun ux2 H locs hp hP hD hS => ?_)
          have hP : va_P D vwCl (rb_WM h d nb mw fr to dl hd (rb_cd nb j) g2 kn (rb_fd nb mw fr to dl hd pl j).1 (rb_fd nb mw fr to dl hd pl j).2 rc) H := hP
          have hD : va_D A (rb_WM h d nb mw fr to dl hd (rb_cd nb j) g2 kn (rb_fd nb mw fr to dl hd pl j).1 (rb_fd nb mw fr to dl hd pl j).2 rc) := zDM hD
          have hcd := rb_cd_in nb j
          refine lv_aload_n hx hb dX2_find_82 rfl (lv_at hl 0 rfl) ?_
          refine zc_I ⟨hx, hb, hml, hown, hts⟩ (mM_legal l D h d nb mw fr to dl hd (rb_cd nb j) g2 kn (rb_fd nb mw fr to dl hd pl j).1 (rb_fd nb mw fr to dl hd pl j).2 rc ok hh hcd) (cwV 0 hts (lw_V q225 q227 qs12 q15 q228) rfl rfl rfl (by decide +kernel) ⟨Nat.le_of_ble_eq_true rfl, Nat.le_of_ble_eq_true rfl⟩) hK hP hD hS hA (ci := 1) rfl rfl rfl rfl hl.1 rfl (Nat.le_of_ble_eq_true rfl) dX2_find_83 ⟨Nat.le_refl 0, Nat.le_refl 0⟩ (fun r ux3 H locs hp hP hD hS => ?_)
          subst hp
          have hlgi := rb_b_in (rb_lgb mw fr to hd (rb_cd nb j))
          refine zi_if_eq (tgt := 181) hx hb dX2_find_86 (by decide) ⟨by omega, by omega⟩ (fun clg => ?_) (fun clg => ?_)
          · refine zi_iinc (k := 2) (x' := (((j + 1) : Nat) : Int)) (lv' := [(2, .int (zI (((j + 1) : Nat) : Int))), (0, .ref (h 0)), (1, .int (zI (((rb_p5 nb) : Nat) : Int)))]) hx hb dX2_find_181 hl rfl (by omega) (by decide) rfl (fun ls hl => ?_)
            refine lv_goto (tgt := 72) hx hb dX2_find_184 (by decide) ?_
            exact ih_lpM (j + 1) (by omega) (by omega) (rb_cd nb j) g2 _ _ _  (by rw [rb_fd_0 (rb_b_f clg)]; exact hP) (zDM hD) hS (lv_sub hl [1, 2, 0] rfl)
          · have hlt := rb_b_t clg
            have hleg := (rb_lgb_iff mw).mp hlt
            have hmli := rb_ml_in ok hs hleg (fun _ => 0)
            refine lv_aload_n hx hb dX2_find_89 rfl (lv_at hl 0 rfl) ?_
            refine zc_I ⟨hx, hb, hml, hown, hts⟩ (mM_longest l D h d nb mw fr to dl hd (rb_cd nb j) g2 kn (rb_fd nb mw fr to dl hd pl j).1 (rb_fd nb mw fr to dl hd pl j).2 rc ok hh hcd) (cwV 0 hts (lw_V q205 q207 qs8 q15 q208) rfl rfl rfl (by decide +kernel) ⟨Nat.le_of_ble_eq_true rfl, Nat.le_of_ble_eq_true rfl⟩) hK hP hD hS hA (ci := 1) rfl rfl rfl rfl hl.1 rfl (Nat.le_of_ble_eq_true rfl) dX2_find_90 ⟨Nat.le_refl 0, Nat.le_refl 0⟩ (fun r ux4 H locs hp hP hD hS => ?_)
            rw [rb_ml_indep ok hs hleg _ (fun _ => 0)] at hp
            subst hp
            have hP : va_P D vwCl (rb_WM h d nb mw fr to dl hd (rb_cd nb j) (rb_ln nb mw fr to dl hd (rb_cd nb j) g2) kn (rb_fd nb mw fr to dl hd pl j).1 (rb_fd nb mw fr to dl hd pl j).2 rc) H := hP
            have hD : va_D A (rb_WM h d nb mw fr to dl hd (rb_cd nb j) (rb_ln nb mw fr to dl hd (rb_cd nb j) g2) kn (rb_fd nb mw fr to dl hd pl j).1 (rb_fd nb mw fr to dl hd pl j).2 rc) := zDM hD
            refine lv_istore_n (lv' := [(3, .int (zI (rb_ml nb mw fr to dl hd (rb_cd nb j) (fun _ => 0)))), (0, .ref (h 0)), (1, .int (zI (((rb_p5 nb) : Nat) : Int))), (2, .int (zI ((j : Nat) : Int)))]) hx hb dX2_find_93 rfl hl (by decide) rfl (fun ls hl => ?_)
            refine lv_iload_n hx hb dX2_find_94 rfl (lv_at hl 0 rfl) ?_
            refine lv_aload_n hx hb dX2_find_95 rfl (lv_at hl 1 rfl) ?_
            refine gM9 hx hb hts hown hK hP dX2_find_96 ?_
            refine zi_icmp_ge (tgt := 106) hx hb dX2_find_99 (by decide) ⟨by omega, by omega⟩ ⟨by omega, by omega⟩ (fun hbet0 => ?_) (fun hbet0 => ?_)
            · have hbet : ¬ (rb_ml nb mw fr to dl hd (rb_cd nb j) (fun _ => 0)) < (rb_fd nb mw fr to dl hd pl j).1 := by omega
              refine lv_iconst (v := zI 0) hx hb dX2_find_106 rfl ?_
              refine lv_istore (lv' := [(4, .int (zI 0)), (3, .int (zI (rb_ml nb mw fr to dl hd (rb_cd nb j) (fun _ => 0)))), (0, .ref (h 0)), (1, .int (zI (((rb_p5 nb) : Nat) : Int))), (2, .int (zI ((j : Nat) : Int)))]) hx hb dX2_find_107 hl (by decide) rfl (fun ls hl => ?_)
              refine lv_iload hx hb dX2_find_109 (lv_at hl 0 rfl) ?_
              refine zi_if_eq (tgt := 119) hx hb dX2_find_111 (by decide) ⟨by omega, by omega⟩ (fun _ => ?_) (fun c => absurd c (by decide))
              refine lv_iconst (v := zI 0) hx hb dX2_find_119 rfl ?_
              refine lv_istore (lv' := [(5, .int (zI 0)), (4, .int (zI 0)), (3, .int (zI (rb_ml nb mw fr to dl hd (rb_cd nb j) (fun _ => 0)))), (0, .ref (h 0)), (1, .int (zI (((rb_p5 nb) : Nat) : Int))), (2, .int (zI ((j : Nat) : Int)))]) hx hb dX2_find_120 hl (by decide) rfl (fun ls hl => ?_)
              have lpY : ∀ (f_lpY k : Nat), k ≤ nb → nb + 1 ≤ k + f_lpY → ∀  (H : Heap) (locs : List Loc) (ls : Array Slot), va_P D vwCl (rb_WM h d nb mw fr to dl hd (rb_cd nb j) (rb_ln nb mw fr to dl hd (rb_cd nb j) g2) kn (rb_fd nb mw fr to dl hd pl j).1 (rb_pm (decide ((rb_ml nb mw fr to dl hd (rb_cd nb j) (fun _ => 0)) = (rb_fd nb mw fr to dl hd pl j).1)) k (rb_cd nb j) (rb_fd nb mw fr to dl hd pl j).2) rc) H → va_D A (rb_WM h d nb mw fr to dl hd (rb_cd nb j) (rb_ln nb mw fr to dl hd (rb_cd nb j) g2) kn (rb_fd nb mw fr to dl hd pl j).1 (rb_pm (decide ((rb_ml nb mw fr to dl hd (rb_cd nb j) (fun _ => 0)) = (rb_fd nb mw fr to dl hd pl j).1)) k (rb_cd nb j) (rb_fd nb mw fr to dl hd pl j).2) rc) → va_S A s.heap H locs → lv_has ls 6 [(0, .ref (h 0)), (1, .int (zI (((rb_p5 nb) : Nat) : Int))), (2, .int (zI ((j : Nat) : Int))), (3, .int (zI (rb_ml nb mw fr to dl hd (rb_cd nb j) (fun _ => 0)))), (4, .int (zI 0)), (5, .int (zI ((k : Nat) : Int)))] → W p l e (rb_R 2) s m args below meth c H locs 0 0 Q (F0 m 122 ls []) := by
                intro f_lpY
                induction f_lpY with
                | zero => intro k h1 h2; omega
                | succ f_lpY ih_lpY =>
                  intro k hi_lpY hf_lpY  H locs ls  hP hD hS hl
                  have hn5 := ok.2.1
                  have hpk := rb_pm_at (decide ((rb_ml nb mw fr to dl hd (rb_cd nb j) (fun _ => 0)) = (rb_fd nb mw fr to dl hd pl j).1)) k (rb_cd nb j) (rb_fd nb mw fr to dl hd pl j).2
                  have hplk := rb_fd_pl (n := nb) (m := mw) (fr := fr) (to := to) (dl := dl) (hd := hd) hmc.1 j k
                  have hcdk := rb_cd_in nb j k
                  refine lv_iload hx hb dX2_find_122 (lv_at hl 5 rfl) ?_
                  refine lv_aload_n hx hb dX2_find_124 rfl (lv_at hl 0 rfl) ?_
                  refine gM0 hx hb hts hown hK hP dX2_find_125 ?_
                  refine zi_icmp_ge (tgt := 181) hx hb dX2_find_128 (by decide) ⟨by omega, by omega⟩ ⟨by omega, by omega⟩ (fun c7 => ?_) (fun c7 => ?_)
                  · have e_k : nb = k := by omega
                    subst e_k
                    refine zi_iinc (k := 2) (x' := (((j + 1) : Nat) : Int)) (lv' := [(2, .int (zI (((j + 1) : Nat) : Int))), (0, .ref (h 0)), (1, .int (zI (((rb_p5 nb) : Nat) : Int))), (3, .int (zI (rb_ml nb mw fr to dl hd (rb_cd nb j) (fun _ => 0)))), (4, .int (zI 0)), (5, .int (zI ((nb : Nat) : Int)))]) hx hb dX2_find_181 hl rfl (by omega) (by decide) rfl (fun ls hl => ?_)
                    refine lv_goto (tgt := 72) hx hb dX2_find_184 (by decide) ?_
                    exact ih_lpM (j + 1) (by omega) (by omega) (rb_cd nb j) (rb_ln nb mw fr to dl hd (rb_cd nb j) g2) _ _ _  (by rw [(rb_fd_n hlt hbet).1, (rb_fd_n hlt hbet).2]; exact hP) (zDM hD) hS (lv_sub hl [1, 2, 0] rfl)
                  · refine lv_iload hx hb dX2_find_131 (lv_at hl 4 rfl) ?_
                    refine zi_if_ne (tgt := 161) hx hb dX2_find_133 (by decide) ⟨by omega, by omega⟩ (fun c => absurd c (by decide)) (fun _ => ?_)
                    refine lv_iload_n hx hb dX2_find_136 rfl (lv_at hl 3 rfl) ?_
                    refine lv_aload_n hx hb dX2_find_137 rfl (lv_at hl 0 rfl) ?_
                    refine gM9 hx hb hts hown hK hP dX2_find_138 ?_
                    refine zi_icmp_ne (tgt := 175) hx hb dX2_find_141 (by decide) ⟨by omega, by omega⟩ ⟨by omega, by omega⟩ (fun c9 => ?_) (fun c9 => ?_)
                    · refine zi_iinc (k := 5) (x' := (((k + 1) : Nat) : Int)) (lv' := [(5, .int (zI (((k + 1) : Nat) : Int))), (0, .ref (h 0)), (1, .int (zI (((rb_p5 nb) : Nat) : Int))), (2, .int (zI ((j : Nat) : Int))), (3, .int (zI (rb_ml nb mw fr to dl hd (rb_cd nb j) (fun _ => 0)))), (4, .int (zI 0))]) hx hb dX2_find_175 hl rfl (by omega) (by decide) rfl (fun ls hl => ?_)
                      refine lv_goto (tgt := 122) hx hb dX2_find_178 (by decide) ?_
                      exact ih_lpY (k + 1) (by omega) (by omega)  _ _ _  (by first | (rw [← rb_pm_n (b := (decide ((rb_ml nb mw fr to dl hd (rb_cd nb j) (fun _ => 0)) = (rb_fd nb mw fr to dl hd pl j).1))) (k := k) (fun z => absurd (of_decide_eq_true z.1) (by omega))]; exact hP) | (rw [← rb_pm_n (b := (decide ((rb_ml nb mw fr to dl hd (rb_cd nb j) (fun _ => 0)) = (rb_fd nb mw fr to dl hd pl j).1))) (k := k) (fun z => absurd z.2 (by omega))]; exact hP) | (rw [← rb_pm_y (b := (decide ((rb_ml nb mw fr to dl hd (rb_cd nb j) (fun _ => 0)) = (rb_fd nb mw fr to dl hd pl j).1))) (k := k) (decide_eq_true (by omega)) (by omega)]; exact hP)) (zDM hD) hS (lv_sub hl [1, 2, 3, 4, 5, 0] rfl)
                    · refine lv_aload_n hx hb dX2_find_144 rfl (lv_at hl 0 rfl) ?_
                      refine gM6 hx hb hts hown hK hP dX2_find_145 ?_
                      refine lv_iload hx hb dX2_find_148 (lv_at hl 5 rfl) ?_
                      refine lM5 hx hb hK hP k (by omega) (by omega) dX2_find_150 ?_
                      refine lv_aload_n hx hb dX2_find_151 rfl (lv_at hl 0 rfl) ?_
                      refine gM10 hx hb hts hown hK hP dX2_find_152 ?_
                      refine lv_iload hx hb dX2_find_155 (lv_at hl 5 rfl) ?_
                      refine lM7 hx hb hK hP k (by omega) (by omega) dX2_find_157 ?_
                      refine zi_icmp_le (tgt := 175) hx hb dX2_find_158 (by decide) ⟨by omega, by omega⟩ ⟨by omega, by omega⟩ (fun c10 => ?_) (fun c10 => ?_)
                      · refine zi_iinc (k := 5) (x' := (((k + 1) : Nat) : Int)) (lv' := [(5, .int (zI (((k + 1) : Nat) : Int))), (0, .ref (h 0)), (1, .int (zI (((rb_p5 nb) : Nat) : Int))), (2, .int (zI ((j : Nat) : Int))), (3, .int (zI (rb_ml nb mw fr to dl hd (rb_cd nb j) (fun _ => 0)))), (4, .int (zI 0))]) hx hb dX2_find_175 hl rfl (by omega) (by decide) rfl (fun ls hl => ?_)
                        refine lv_goto (tgt := 122) hx hb dX2_find_178 (by decide) ?_
                        exact ih_lpY (k + 1) (by omega) (by omega)  _ _ _  (by first | (rw [← rb_pm_n (b := (decide ((rb_ml nb mw fr to dl hd (rb_cd nb j) (fun _ => 0)) = (rb_fd nb mw fr to dl hd pl j).1))) (k := k) (fun z => absurd (of_decide_eq_true z.1) (by omega))]; exact hP) | (rw [← rb_pm_n (b := (decide ((rb_ml nb mw fr to dl hd (rb_cd nb j) (fun _ => 0)) = (rb_fd nb mw fr to dl hd pl j).1))) (k := k) (fun z => absurd z.2 (by omega))]; exact hP) | (rw [← rb_pm_y (b := (decide ((rb_ml nb mw fr to dl hd (rb_cd nb j) (fun _ => 0)) = (rb_fd nb mw fr to dl hd pl j).1))) (k := k) (decide_eq_true (by omega)) (by omega)]; exact hP)) (zDM hD) hS (lv_sub hl [1, 2, 3, 4, 5, 0] rfl)
                      · refine lv_aload_n hx hb dX2_find_161 rfl (lv_at hl 0 rfl) ?_
                        refine gM10 hx hb hts hown hK hP dX2_find_162 ?_
                        refine lv_iload hx hb dX2_find_165 (lv_at hl 5 rfl) ?_
                        refine lv_aload_n hx hb dX2_find_167 rfl (lv_at hl 0 rfl) ?_
                        refine gM6 hx hb hts hown hK hP dX2_find_168 ?_
                        refine lv_iload hx hb dX2_find_171 (lv_at hl 5 rfl) ?_
                        refine lM5 hx hb hK hP k (by omega) (by omega) dX2_find_173 ?_
                        refine sM7 hx hb hK hP hD hS k (by omega) (by omega) dX2_find_174 (fun H locs hP hD hS => ?_)
                        refine zi_iinc (k := 5) (x' := (((k + 1) : Nat) : Int)) (lv' := [(5, .int (zI (((k + 1) : Nat) : Int))), (0, .ref (h 0)), (1, .int (zI (((rb_p5 nb) : Nat) : Int))), (2, .int (zI ((j : Nat) : Int))), (3, .int (zI (rb_ml nb mw fr to dl hd (rb_cd nb j) (fun _ => 0)))), (4, .int (zI 0))]) hx hb dX2_find_175 hl rfl (by omega) (by decide) rfl (fun ls hl => ?_)
                        refine lv_goto (tgt := 122) hx hb dX2_find_178 (by decide) ?_
                        exact ih_lpY (k + 1) (by omega) (by omega)  _ _ _  (by first | (rw [← rb_pm_n (b := (decide ((rb_ml nb mw fr to dl hd (rb_cd nb j) (fun _ => 0)) = (rb_fd nb mw fr to dl hd pl j).1))) (k := k) (fun z => absurd (of_decide_eq_true z.1) (by omega))]; exact hP) | (rw [← rb_pm_n (b := (decide ((rb_ml nb mw fr to dl hd (rb_cd nb j) (fun _ => 0)) = (rb_fd nb mw fr to dl hd pl j).1))) (k := k) (fun z => absurd z.2 (by omega))]; exact hP) | (rw [← rb_pm_y (b := (decide ((rb_ml nb mw fr to dl hd (rb_cd nb j) (fun _ => 0)) = (rb_fd nb mw fr to dl hd pl j).1))) (k := k) (decide_eq_true (by omega)) (by omega)]; exact hP)) (zDM hD) hS (lv_sub hl [1, 2, 3, 4, 5, 0] rfl)
              exact lpY (nb + 1) 0 (by omega) (by omega)  _ _ _  (by rw [rb_pm_0]; exact hP) (zDM hD) hS (lv_sub hl [3, 4, 5, 2, 1, 0] rfl)
            · have hbet : (rb_ml nb mw fr to dl hd (rb_cd nb j) (fun _ => 0)) < (rb_fd nb mw fr to dl hd pl j).1 := by omega
              refine lv_iconst (v := zI 1) hx hb dX2_find_102 rfl ?_
              refine lv_goto (tgt := 107) hx hb dX2_find_103 (by decide) ?_
              refine lv_istore (lv' := [(4, .int (zI 1)), (3, .int (zI (rb_ml nb mw fr to dl hd (rb_cd nb j) (fun _ => 0)))), (0, .ref (h 0)), (1, .int (zI (((rb_p5 nb) : Nat) : Int))), (2, .int (zI ((j : Nat) : Int)))]) hx hb dX2_find_107 hl (by decide) rfl (fun ls hl => ?_)
              refine lv_iload hx hb dX2_find_109 (lv_at hl 0 rfl) ?_
              refine zi_if_eq (tgt := 119) hx hb dX2_find_111 (by decide) ⟨by omega, by omega⟩ (fun c => absurd c (by decide)) (fun _ => ?_)
              refine lv_aload_n hx hb dX2_find_114 rfl (lv_at hl 2 rfl) ?_
              refine lv_iload_n hx hb dX2_find_115 rfl (lv_at hl 1 rfl) ?_
              refine pM9 hx hb hts hown hK hP hD hS dX2_find_116 (fun H locs hP hD hS => ?_)
              refine lv_iconst (v := zI 0) hx hb dX2_find_119 rfl ?_
              refine lv_istore (lv' := [(5, .int (zI 0)), (4, .int (zI 1)), (3, .int (zI (rb_ml nb mw fr to dl hd (rb_cd nb j) (fun _ => 0)))), (0, .ref (h 0)), (1, .int (zI (((rb_p5 nb) : Nat) : Int))), (2, .int (zI ((j : Nat) : Int)))]) hx hb dX2_find_120 hl (by decide) rfl (fun ls hl => ?_)
              have lpX : ∀ (f_lpX k : Nat), k ≤ nb → nb + 1 ≤ k + f_lpX → ∀  (H : Heap) (locs : List Loc) (ls : Array Slot), va_P D vwCl (rb_WM h d nb mw fr to dl hd (rb_cd nb j) (rb_ln nb mw fr to dl hd (rb_cd nb j) g2) kn (rb_ml nb mw fr to dl hd (rb_cd nb j) (fun _ => 0)) (rb_pre k (rb_cd nb j) (rb_fd nb mw fr to dl hd pl j).2) rc) H → va_D A (rb_WM h d nb mw fr to dl hd (rb_cd nb j) (rb_ln nb mw fr to dl hd (rb_cd nb j) g2) kn (rb_ml nb mw fr to dl hd (rb_cd nb j) (fun _ => 0)) (rb_pre k (rb_cd nb j) (rb_fd nb mw fr to dl hd pl j).2) rc) → va_S A s.heap H locs → lv_has ls 6 [(0, .ref (h 0)), (1, .int (zI (((rb_p5 nb) : Nat) : Int))), (2, .int (zI ((j : Nat) : Int))), (3, .int (zI (rb_ml nb mw fr to dl hd (rb_cd nb j) (fun _ => 0)))), (4, .int (zI 1)), (5, .int (zI ((k : Nat) : Int)))] → W p l e (rb_R 2) s m args below meth c H locs 0 0 Q (F0 m 122 ls []) := by
                intro f_lpX
                induction f_lpX with
                | zero => intro k h1 h2; omega
                | succ f_lpX ih_lpX =>
                  intro k hi_lpX hf_lpX  H locs ls  hP hD hS hl
                  have hn5 := ok.2.1
                  refine lv_iload hx hb dX2_find_122 (lv_at hl 5 rfl) ?_
                  refine lv_aload_n hx hb dX2_find_124 rfl (lv_at hl 0 rfl) ?_
                  refine gM0 hx hb hts hown hK hP dX2_find_125 ?_
                  refine zi_icmp_ge (tgt := 181) hx hb dX2_find_128 (by decide) ⟨by omega, by omega⟩ ⟨by omega, by omega⟩ (fun c12 => ?_) (fun c12 => ?_)
                  · have e_k : nb = k := by omega
                    subst e_k
                    refine zi_iinc (k := 2) (x' := (((j + 1) : Nat) : Int)) (lv' := [(2, .int (zI (((j + 1) : Nat) : Int))), (0, .ref (h 0)), (1, .int (zI (((rb_p5 nb) : Nat) : Int))), (3, .int (zI (rb_ml nb mw fr to dl hd (rb_cd nb j) (fun _ => 0)))), (4, .int (zI 1)), (5, .int (zI ((nb : Nat) : Int)))]) hx hb dX2_find_181 hl rfl (by omega) (by decide) rfl (fun ls hl => ?_)
                    refine lv_goto (tgt := 72) hx hb dX2_find_184 (by decide) ?_
                    exact ih_lpM (j + 1) (by omega) (by omega) (rb_cd nb j) (rb_ln nb mw fr to dl hd (rb_cd nb j) g2) _ _ _  (by rw [(rb_fd_b hlt hbet).1, (rb_fd_b hlt hbet).2]; exact hP) (zDM hD) hS (lv_sub hl [1, 2, 0] rfl)
                  · refine lv_iload hx hb dX2_find_131 (lv_at hl 4 rfl) ?_
                    refine zi_if_ne (tgt := 161) hx hb dX2_find_133 (by decide) ⟨by omega, by omega⟩ (fun _ => ?_) (fun c => absurd c (by decide))
                    refine lv_aload_n hx hb dX2_find_161 rfl (lv_at hl 0 rfl) ?_
                    refine gM10 hx hb hts hown hK hP dX2_find_162 ?_
                    refine lv_iload hx hb dX2_find_165 (lv_at hl 5 rfl) ?_
                    refine lv_aload_n hx hb dX2_find_167 rfl (lv_at hl 0 rfl) ?_
                    refine gM6 hx hb hts hown hK hP dX2_find_168 ?_
                    refine lv_iload hx hb dX2_find_171 (lv_at hl 5 rfl) ?_
                    refine lM5 hx hb hK hP k (by omega) (by omega) dX2_find_173 ?_
                    refine sM7 hx hb hK hP hD hS k (by omega) (by omega) dX2_find_174 (fun H locs hP hD hS => ?_)
                    refine zi_iinc (k := 5) (x' := (((k + 1) : Nat) : Int)) (lv' := [(5, .int (zI (((k + 1) : Nat) : Int))), (0, .ref (h 0)), (1, .int (zI (((rb_p5 nb) : Nat) : Int))), (2, .int (zI ((j : Nat) : Int))), (3, .int (zI (rb_ml nb mw fr to dl hd (rb_cd nb j) (fun _ => 0)))), (4, .int (zI 1))]) hx hb dX2_find_175 hl rfl (by omega) (by decide) rfl (fun ls hl => ?_)
                    refine lv_goto (tgt := 122) hx hb dX2_find_178 (by decide) ?_
                    exact ih_lpX (k + 1) (by omega) (by omega)  _ _ _  (by rw [← rb_pre_up k]; exact hP) (zDM hD) hS (lv_sub hl [1, 2, 3, 4, 5, 0] rfl)
              exact lpX (nb + 1) 0 (by omega) (by omega)  _ _ _  (by rw [rb_pre_0]; exact hP) (zDM hD) hS (lv_sub hl [3, 4, 5, 2, 1, 0] rfl)
    refine lv_aload_n hx hb dX2_find_14 rfl (lv_at hl 0 rfl) ?_
    refine gM0 hx hb hts hown hK hP dX2_find_15 ?_
    refine lv_iconst (v := zI 1) hx hb dX2_find_18 rfl ?_
    refine zi_icmp_ne (tgt := 26) hx hb dX2_find_19 (by decide) ⟨by omega, by omega⟩ ⟨by omega, by omega⟩ (fun c14 => ?_) (fun c14 => ?_)
    · refine lv_aload_n hx hb dX2_find_26 rfl (lv_at hl 0 rfl) ?_
      refine gM0 hx hb hts hown hK hP dX2_find_27 ?_
      refine lv_iconst (v := zI 2) hx hb dX2_find_30 rfl ?_
      refine zi_icmp_ne (tgt := 39) hx hb dX2_find_31 (by decide) ⟨by omega, by omega⟩ ⟨by omega, by omega⟩ (fun c15 => ?_) (fun c15 => ?_)
      · refine lv_aload_n hx hb dX2_find_39 rfl (lv_at hl 0 rfl) ?_
        refine gM0 hx hb hts hown hK hP dX2_find_40 ?_
        refine lv_iconst (v := zI 3) hx hb dX2_find_43 rfl ?_
        refine zi_icmp_ne (tgt := 52) hx hb dX2_find_44 (by decide) ⟨by omega, by omega⟩ ⟨by omega, by omega⟩ (fun c16 => ?_) (fun c16 => ?_)
        · refine lv_aload_n hx hb dX2_find_52 rfl (lv_at hl 0 rfl) ?_
          refine gM0 hx hb hts hown hK hP dX2_find_53 ?_
          refine lv_iconst (v := zI 4) hx hb dX2_find_56 rfl ?_
          refine zi_icmp_ne (tgt := 66) hx hb dX2_find_57 (by decide) ⟨by omega, by omega⟩ ⟨by omega, by omega⟩ (fun c17 => ?_) (fun c17 => ?_)
          · refine lv_sipush (v := zI 3125) hx hb dX2_find_66 (by decide) ?_
            refine lv_istore_n (lv' := [(1, .int (zI 3125)), (0, .ref (h 0))]) hx hb dX2_find_69 rfl hl (by decide) rfl (fun ls hl => ?_)
            refine lv_iconst (v := zI 0) hx hb dX2_find_70 rfl ?_
            refine lv_istore_n (lv' := [(2, .int (zI 0)), (1, .int (zI 3125)), (0, .ref (h 0))]) hx hb dX2_find_71 rfl hl (by decide) rfl (fun ls hl => ?_)
            exact lpM ((rb_p5 nb) + 1) 0 (by omega) (by omega) lg ln _ _ _  hP (zDM hD) hS (by first | (rw [rb_p5_1 (by omega)]; exact lv_sub hl [2, 1, 0] rfl) | (rw [rb_p5_2 (by omega)]; exact lv_sub hl [2, 1, 0] rfl) | (rw [rb_p5_3 (by omega)]; exact lv_sub hl [2, 1, 0] rfl) | (rw [rb_p5_4 (by omega)]; exact lv_sub hl [2, 1, 0] rfl) | (rw [rb_p5_5 (by omega)]; exact lv_sub hl [2, 1, 0] rfl))
          · refine lv_sipush (v := zI 625) hx hb dX2_find_60 (by decide) ?_
            refine lv_goto (tgt := 69) hx hb dX2_find_63 (by decide) ?_
            refine lv_istore_n (lv' := [(1, .int (zI 625)), (0, .ref (h 0))]) hx hb dX2_find_69 rfl hl (by decide) rfl (fun ls hl => ?_)
            refine lv_iconst (v := zI 0) hx hb dX2_find_70 rfl ?_
            refine lv_istore_n (lv' := [(2, .int (zI 0)), (1, .int (zI 625)), (0, .ref (h 0))]) hx hb dX2_find_71 rfl hl (by decide) rfl (fun ls hl => ?_)
            exact lpM ((rb_p5 nb) + 1) 0 (by omega) (by omega) lg ln _ _ _  hP (zDM hD) hS (by first | (rw [rb_p5_1 (by omega)]; exact lv_sub hl [2, 1, 0] rfl) | (rw [rb_p5_2 (by omega)]; exact lv_sub hl [2, 1, 0] rfl) | (rw [rb_p5_3 (by omega)]; exact lv_sub hl [2, 1, 0] rfl) | (rw [rb_p5_4 (by omega)]; exact lv_sub hl [2, 1, 0] rfl) | (rw [rb_p5_5 (by omega)]; exact lv_sub hl [2, 1, 0] rfl))
        · refine lv_bipush (v := zI 125) hx hb dX2_find_47 (by decide) ?_
          refine lv_goto (tgt := 69) hx hb dX2_find_49 (by decide) ?_
          refine lv_istore_n (lv' := [(1, .int (zI 125)), (0, .ref (h 0))]) hx hb dX2_find_69 rfl hl (by decide) rfl (fun ls hl => ?_)
          refine lv_iconst (v := zI 0) hx hb dX2_find_70 rfl ?_
          refine lv_istore_n (lv' := [(2, .int (zI 0)), (1, .int (zI 125)), (0, .ref (h 0))]) hx hb dX2_find_71 rfl hl (by decide) rfl (fun ls hl => ?_)
          exact lpM ((rb_p5 nb) + 1) 0 (by omega) (by omega) lg ln _ _ _  hP (zDM hD) hS (by first | (rw [rb_p5_1 (by omega)]; exact lv_sub hl [2, 1, 0] rfl) | (rw [rb_p5_2 (by omega)]; exact lv_sub hl [2, 1, 0] rfl) | (rw [rb_p5_3 (by omega)]; exact lv_sub hl [2, 1, 0] rfl) | (rw [rb_p5_4 (by omega)]; exact lv_sub hl [2, 1, 0] rfl) | (rw [rb_p5_5 (by omega)]; exact lv_sub hl [2, 1, 0] rfl))
      · refine lv_bipush (v := zI 25) hx hb dX2_find_34 (by decide) ?_
        refine lv_goto (tgt := 69) hx hb dX2_find_36 (by decide) ?_
        refine lv_istore_n (lv' := [(1, .int (zI 25)), (0, .ref (h 0))]) hx hb dX2_find_69 rfl hl (by decide) rfl (fun ls hl => ?_)
        refine lv_iconst (v := zI 0) hx hb dX2_find_70 rfl ?_
        refine lv_istore_n (lv' := [(2, .int (zI 0)), (1, .int (zI 25)), (0, .ref (h 0))]) hx hb dX2_find_71 rfl hl (by decide) rfl (fun ls hl => ?_)
        exact lpM ((rb_p5 nb) + 1) 0 (by omega) (by omega) lg ln _ _ _  hP (zDM hD) hS (by first | (rw [rb_p5_1 (by omega)]; exact lv_sub hl [2, 1, 0] rfl) | (rw [rb_p5_2 (by omega)]; exact lv_sub hl [2, 1, 0] rfl) | (rw [rb_p5_3 (by omega)]; exact lv_sub hl [2, 1, 0] rfl) | (rw [rb_p5_4 (by omega)]; exact lv_sub hl [2, 1, 0] rfl) | (rw [rb_p5_5 (by omega)]; exact lv_sub hl [2, 1, 0] rfl))
    · refine lv_iconst (v := zI 5) hx hb dX2_find_22 rfl ?_
      refine lv_goto (tgt := 69) hx hb dX2_find_23 (by decide) ?_
      refine lv_istore_n (lv' := [(1, .int (zI 5)), (0, .ref (h 0))]) hx hb dX2_find_69 rfl hl (by decide) rfl (fun ls hl => ?_)
      refine lv_iconst (v := zI 0) hx hb dX2_find_70 rfl ?_
      refine lv_istore_n (lv' := [(2, .int (zI 0)), (1, .int (zI 5)), (0, .ref (h 0))]) hx hb dX2_find_71 rfl hl (by decide) rfl (fun ls hl => ?_)
      exact lpM ((rb_p5 nb) + 1) 0 (by omega) (by omega) lg ln _ _ _  hP (zDM hD) hS (by first | (rw [rb_p5_1 (by omega)]; exact lv_sub hl [2, 1, 0] rfl) | (rw [rb_p5_2 (by omega)]; exact lv_sub hl [2, 1, 0] rfl) | (rw [rb_p5_3 (by omega)]; exact lv_sub hl [2, 1, 0] rfl) | (rw [rb_p5_4 (by omega)]; exact lv_sub hl [2, 1, 0] rfl) | (rw [rb_p5_5 (by omega)]; exact lv_sub hl [2, 1, 0] rfl))
  · obtain ⟨rfl, hfo⟩ := rb_mc_fo hmc (by omega)
    exact hret (lg, ln, 1, bp, pl, rc) _ _ _ _ dX2_find_7 hP (zDM hD) hS hfo
set_option maxHeartbeats 4000000 in
set_option maxRecDepth 100000 in
theorem mM_period (l : Launch) (D : va_G) (h : Nat → Nat) (d : Nat → ClassId) (nb : Nat) (mw : Nat) (fr : Nat → Nat) (to : Nat → Nat) (dl : Nat → Int) (hd : Nat → Int) (lg : Nat → Int) (ln : Nat → Int) (kn : Int) (bp : Int) (pl : Nat → Int) (rc : Nat → Int)  (a : Int) (ok : rb_ok nb mw fr to dl hd) (ha : 0 ≤ a) (ha2 : a ≤ 252) (hf : rb_few mw fr to hd a) (hmc : rb_mc nb mw fr to dl hd kn bp pl) : rb_MI l yX2_period cX2_period 1 (some .int) 2 D (rb_TM d) [.ref (h 0)] (rb_WM h d nb mw fr to dl hd lg ln kn bp pl rc) (fun r (u : rb_T6) => r = zI (if (rb_sdv nb (rb_ms nb mw fr to dl hd)) = 0 then -3 else (rb_per nb dl (rb_ms nb mw fr to dl hd))) ∧ rb_mc nb mw fr to dl hd u.2.2.1 u.2.2.2.1 u.2.2.2.2.1) (fun u : rb_T6 => (rb_WM h d nb mw fr to dl hd u.1 u.2.1 u.2.2.1 u.2.2.2.1 u.2.2.2.2.1 u.2.2.2.2.2)) := by
  refine rb_mkI (by decide) (Nat.le_of_ble_eq_true rfl) (fun p e s m args below meth c A ls Q hx hb hml hts hown hK hP hD hS hA hl hret => ?_)
  have hown : s.vm.findClass RX2 = some m.cls := hown
  have hl : lv_has ls 1 [(0, .ref (h 0))] := hl
  have hh := rb_hh ha2 hf
  refine lv_aload_n hx hb dX2_period_0 rfl (lv_at hl 0 rfl) ?_
  refine zc_I ⟨hx, hb, hml, hown, hts⟩ (mM_sound l D h d nb mw fr to dl hd lg ln kn bp pl rc ok hh) (cwV 0 hts (lw_V q204 q193 q194 q15 q195) rfl rfl rfl (by decide +kernel) ⟨Nat.le_of_ble_eq_true rfl, Nat.le_of_ble_eq_true rfl⟩) hK hP hD hS hA (ci := 1) rfl rfl rfl rfl hl.1 rfl (Nat.le_of_ble_eq_true rfl) dX2_period_1 ⟨Nat.le_refl 0, Nat.le_refl 0⟩ (fun r ux0 H locs hp hP hD hS => ?_)
  subst hp
  have hsd := (rb_sdv_spec (rb_ms nb mw fr to dl hd) nb).1
  have hP : va_P D vwCl (rb_WM h d nb mw fr to dl hd (fun _ => 0) (rb_qs nb mw fr to hd ln) kn bp pl rc) H := hP
  have hD : va_D A (rb_WM h d nb mw fr to dl hd (fun _ => 0) (rb_qs nb mw fr to hd ln) kn bp pl rc) := zDM hD
  refine zi_if_ne (tgt := 10) hx hb dX2_period_4 (by decide) ⟨by omega, by omega⟩ (fun c2 => ?_) (fun c2 => ?_)
  · have hs : rb_snd nb (rb_ms nb mw fr to dl hd) := rb_sdv_s (by omega)
    refine lv_aload_n hx hb dX2_period_10 rfl (lv_at hl 0 rfl) ?_
    refine zc_I ⟨hx, hb, hml, hown, hts⟩ (mM_longest l D h d nb mw fr to dl hd (fun _ => 0) (rb_qs nb mw fr to hd ln) kn bp pl rc ok hh (fun _ => ⟨by omega, by omega⟩)) (cwV 0 hts (lw_V q205 q207 qs8 q15 q208) rfl rfl rfl (by decide +kernel) ⟨Nat.le_of_ble_eq_true rfl, Nat.le_of_ble_eq_true rfl⟩) hK hP hD hS hA (ci := 1) rfl rfl rfl rfl hl.1 rfl (Nat.le_of_ble_eq_true rfl) dX2_period_11 ⟨Nat.le_refl 0, Nat.le_refl 0⟩ (fun r ux2 H locs hp hP hD hS => ?_)
    rw [← rb_period_eq ok ha ha2 hf hs] at hp
    subst hp
    have hP : va_P D vwCl (rb_WM h d nb mw fr to dl hd (fun _ => 0) (rb_ln nb mw fr to dl hd (fun _ => 0) (rb_qs nb mw fr to hd ln)) kn bp pl rc) H := hP
    have hD : va_D A (rb_WM h d nb mw fr to dl hd (fun _ => 0) (rb_ln nb mw fr to dl hd (fun _ => 0) (rb_qs nb mw fr to hd ln)) kn bp pl rc) := zDM hD
    exact hret _ ((fun _ => 0), (rb_ln nb mw fr to dl hd (fun _ => 0) (rb_qs nb mw fr to hd ln)), kn, bp, pl, rc) _ _ _ _ dX2_period_14 rfl hP (zDM hD) hS ⟨by rw [if_neg (by omega)], hmc⟩
  · refine lv_bipush (v := zI (-3)) hx hb dX2_period_7 (by decide) ?_
    exact hret _ ((fun _ => 0), (rb_qs nb mw fr to hd ln), kn, bp, pl, rc) _ _ _ _ dX2_period_9 rfl hP (zDM hD) hS ⟨by rw [if_pos (by omega)], hmc⟩
set_option maxHeartbeats 4000000 in
set_option maxRecDepth 100000 in
theorem mM_best (l : Launch) (D : va_G) (h : Nat → Nat) (d : Nat → ClassId) (nb : Nat) (mw : Nat) (fr : Nat → Nat) (to : Nat → Nat) (dl : Nat → Int) (hd : Nat → Int) (lg : Nat → Int) (ln : Nat → Int) (kn : Int) (bp : Int) (pl : Nat → Int) (rc : Nat → Int)  (a : Int) (ok : rb_ok nb mw fr to dl hd) (ha : 0 ≤ a) (ha2 : a ≤ 252) (hf : rb_few mw fr to hd a) (hmc : rb_mc nb mw fr to dl hd kn bp pl) : rb_MI l yX2_best cX2_best 1 (some .int) 3 D (rb_TM d) [.ref (h 0)] (rb_WM h d nb mw fr to dl hd lg ln kn bp pl rc) (fun r (u : rb_T6) => r = zI (if (rb_sdv nb (rb_ms nb mw fr to dl hd)) = 0 then -3 else (rb_best nb mw fr to dl hd (rb_ms nb mw fr to dl hd))) ∧ rb_mc nb mw fr to dl hd u.2.2.1 u.2.2.2.1 u.2.2.2.2.1) (fun u : rb_T6 => (rb_WM h d nb mw fr to dl hd u.1 u.2.1 u.2.2.1 u.2.2.2.1 u.2.2.2.2.1 u.2.2.2.2.2)) := by
  refine rb_mkI (by decide) (Nat.le_of_ble_eq_true rfl) (fun p e s m args below meth c A ls Q hx hb hml hts hown hK hP hD hS hA hl hret => ?_)
  have hown : s.vm.findClass RX2 = some m.cls := hown
  have hl : lv_has ls 1 [(0, .ref (h 0))] := hl
  have hh := rb_hh ha2 hf
  refine lv_aload_n hx hb dX2_best_0 rfl (lv_at hl 0 rfl) ?_
  refine zc_I ⟨hx, hb, hml, hown, hts⟩ (mM_sound l D h d nb mw fr to dl hd lg ln kn bp pl rc ok hh) (cwV 0 hts (lw_V q204 q193 q194 q15 q195) rfl rfl rfl (by decide +kernel) ⟨Nat.le_of_ble_eq_true rfl, Nat.le_of_ble_eq_true rfl⟩) hK hP hD hS hA (ci := 1) rfl rfl rfl rfl hl.1 rfl (Nat.le_of_ble_eq_true rfl) dX2_best_1 ⟨Nat.le_refl 0, Nat.le_refl 0⟩ (fun r ux0 H locs hp hP hD hS => ?_)
  subst hp
  have hsd := (rb_sdv_spec (rb_ms nb mw fr to dl hd) nb).1
  have hP : va_P D vwCl (rb_WM h d nb mw fr to dl hd (fun _ => 0) (rb_qs nb mw fr to hd ln) kn bp pl rc) H := hP
  have hD : va_D A (rb_WM h d nb mw fr to dl hd (fun _ => 0) (rb_qs nb mw fr to hd ln) kn bp pl rc) := zDM hD
  refine zi_if_ne (tgt := 10) hx hb dX2_best_4 (by decide) ⟨by omega, by omega⟩ (fun c2 => ?_) (fun c2 => ?_)
  · have hs : rb_snd nb (rb_ms nb mw fr to dl hd) := rb_sdv_s (by omega)
    refine lv_aload_n hx hb dX2_best_10 rfl (lv_at hl 0 rfl) ?_
    refine zc_V ⟨hx, hb, hml, hown, hts⟩ (mM_find l D h d nb mw fr to dl hd (fun _ => 0) (rb_qs nb mw fr to hd ln) kn bp pl rc a ok ha ha2 hf hs hmc) (cwV 0 hts (lw_V q217 q219 qs10 q15 q220) rfl rfl rfl (by decide +kernel) ⟨Nat.le_of_ble_eq_true rfl, Nat.le_of_ble_eq_true rfl⟩) hK hP hD hS hA (ci := 1) rfl rfl rfl rfl hl.1 rfl (Nat.le_of_ble_eq_true rfl) dX2_best_11 ⟨Nat.le_refl 0, Nat.le_refl 0⟩ (fun ux2 H locs hp hP hD hS => ?_)
    have hP : va_P D vwCl (rb_WM h d nb mw fr to dl hd ux2.1 ux2.2.1 1 ux2.2.2.2.1 ux2.2.2.2.2.1 rc) H := hP
    have hD : va_D A (rb_WM h d nb mw fr to dl hd ux2.1 ux2.2.1 1 ux2.2.2.2.1 ux2.2.2.2.2.1 rc) := zDM hD
    have hbest := rb_best_in ok ha ha2 hf hs
    have hbpe : ux2.2.2.2.1 = (rb_best nb mw fr to dl hd (rb_ms nb mw fr to dl hd)) := hp.2.1
    refine lv_aload_n hx hb dX2_best_14 rfl (lv_at hl 0 rfl) ?_
    refine gM9 hx hb hts hown hK hP dX2_best_15 ?_
    exact hret _ (ux2.1, ux2.2.1, 1, ux2.2.2.2.1, ux2.2.2.2.2.1, rc) _ _ _ _ dX2_best_18 rfl hP (zDM hD) hS ⟨by rw [if_neg (by omega), hbpe], rb_fo_mc hs hp⟩
  · refine lv_bipush (v := zI (-3)) hx hb dX2_best_7 (by decide) ?_
    exact hret _ ((fun _ => 0), (rb_qs nb mw fr to hd ln), kn, bp, pl, rc) _ _ _ _ dX2_best_9 rfl hP (zDM hD) hS ⟨by rw [if_pos (by omega)], hmc⟩
set_option maxHeartbeats 4000000 in
set_option maxRecDepth 100000 in
theorem mM_lag (l : Launch) (D : va_G) (h : Nat → Nat) (d : Nat → ClassId) (nb : Nat) (mw : Nat) (fr : Nat → Nat) (to : Nat → Nat) (dl : Nat → Int) (hd : Nat → Int) (lg : Nat → Int) (ln : Nat → Int) (kn : Int) (bp : Int) (pl : Nat → Int) (rc : Nat → Int) (v0 : Int) (a : Int) (ok : rb_ok nb mw fr to dl hd) (ha : 0 ≤ a) (ha2 : a ≤ 252) (hf : rb_few mw fr to hd a) (hmc : rb_mc nb mw fr to dl hd kn bp pl) (hv0 : zin v0) : rb_MI l yX2_lag cX2_lag 2 (some .int) 3 D (rb_TM d) [.ref (h 0), .int (zI v0)] (rb_WM h d nb mw fr to dl hd lg ln kn bp pl rc) (fun r (u : rb_T6) => r = zI (rb_lagA nb mw fr to dl hd v0) ∧ rb_mc nb mw fr to dl hd u.2.2.1 u.2.2.2.1 u.2.2.2.2.1) (fun u : rb_T6 => (rb_WM h d nb mw fr to dl hd u.1 u.2.1 u.2.2.1 u.2.2.2.1 u.2.2.2.2.1 u.2.2.2.2.2)) := by
  refine rb_mkI (by decide) (Nat.le_of_ble_eq_true rfl) (fun p e s m args below meth c A ls Q hx hb hml hts hown hK hP hD hS hA hl hret => ?_)
  have hown : s.vm.findClass RX2 = some m.cls := hown
  have hl : lv_has ls 2 [(0, .ref (h 0)), (1, .int (zI v0))] := hl
  have hh := rb_hh ha2 hf
  have hn5 := ok.2.1
  refine lv_aload_n hx hb dX2_lag_0 rfl (lv_at hl 0 rfl) ?_
  refine lv_iload_n hx hb dX2_lag_1 rfl (lv_at hl 1 rfl) ?_
  refine zc_I ⟨hx, hb, hml, hown, hts⟩ (mM_isBlock l D h d nb mw fr to dl hd lg ln kn bp pl rc v0 ⟨by omega, by omega⟩ ok.2.1) (cwV 1 hts (lw_V q180 q182 qs6 q15 q183) rfl rfl rfl (by decide +kernel) ⟨Nat.le_of_ble_eq_true rfl, Nat.le_of_ble_eq_true rfl⟩) hK hP hD hS hA (ci := 1) rfl rfl rfl rfl hl.1 rfl (Nat.le_of_ble_eq_true rfl) dX2_lag_2 ⟨Nat.le_refl 0, Nat.le_refl 0⟩ (fun r ux0 H locs hp hP hD hS => ?_)
  subst hp
  have his1 := rb_isb_spec nb v0
  refine zi_if_ne (tgt := 11) hx hb dX2_lag_5 (by decide) ⟨by omega, by omega⟩ (fun c3 => ?_) (fun c3 => ?_)
  · refine lv_aload_n hx hb dX2_lag_11 rfl (lv_at hl 0 rfl) ?_
    refine zc_I ⟨hx, hb, hml, hown, hts⟩ (mM_sound l D h d nb mw fr to dl hd lg ln kn bp pl rc ok hh) (cwV 0 hts (lw_V q204 q193 q194 q15 q195) rfl rfl rfl (by decide +kernel) ⟨Nat.le_of_ble_eq_true rfl, Nat.le_of_ble_eq_true rfl⟩) hK hP hD hS hA (ci := 1) rfl rfl rfl rfl hl.1 rfl (Nat.le_of_ble_eq_true rfl) dX2_lag_12 ⟨Nat.le_refl 0, Nat.le_refl 0⟩ (fun r ux3 H locs hp hP hD hS => ?_)
    subst hp
    have hsd := (rb_sdv_spec (rb_ms nb mw fr to dl hd) nb).1
    have hP : va_P D vwCl (rb_WM h d nb mw fr to dl hd (fun _ => 0) (rb_qs nb mw fr to hd ln) kn bp pl rc) H := hP
    have hD : va_D A (rb_WM h d nb mw fr to dl hd (fun _ => 0) (rb_qs nb mw fr to hd ln) kn bp pl rc) := zDM hD
    refine zi_if_ne (tgt := 21) hx hb dX2_lag_15 (by decide) ⟨by omega, by omega⟩ (fun c5 => ?_) (fun c5 => ?_)
    · have hs : rb_snd nb (rb_ms nb mw fr to dl hd) := rb_sdv_s (by omega)
      refine lv_aload_n hx hb dX2_lag_21 rfl (lv_at hl 0 rfl) ?_
      refine zc_V ⟨hx, hb, hml, hown, hts⟩ (mM_find l D h d nb mw fr to dl hd (fun _ => 0) (rb_qs nb mw fr to hd ln) kn bp pl rc a ok ha ha2 hf hs hmc) (cwV 0 hts (lw_V q217 q219 qs10 q15 q220) rfl rfl rfl (by decide +kernel) ⟨Nat.le_of_ble_eq_true rfl, Nat.le_of_ble_eq_true rfl⟩) hK hP hD hS hA (ci := 1) rfl rfl rfl rfl hl.1 rfl (Nat.le_of_ble_eq_true rfl) dX2_lag_22 ⟨Nat.le_refl 0, Nat.le_refl 0⟩ (fun ux5 H locs hp hP hD hS => ?_)
      have hP : va_P D vwCl (rb_WM h d nb mw fr to dl hd ux5.1 ux5.2.1 1 ux5.2.2.2.1 ux5.2.2.2.2.1 rc) H := hP
      have hD : va_D A (rb_WM h d nb mw fr to dl hd ux5.1 ux5.2.1 1 ux5.2.2.2.1 ux5.2.2.2.2.1 rc) := zDM hD
      have hbest := rb_best_in ok ha ha2 hf hs
      have hbpe : ux5.2.2.2.1 = (rb_best nb mw fr to dl hd (rb_ms nb mw fr to dl hd)) := hp.2.1
      refine lv_aload_n hx hb dX2_lag_25 rfl (lv_at hl 0 rfl) ?_
      refine gM10 hx hb hts hown hK hP dX2_lag_26 ?_
      refine lv_iload_n hx hb dX2_lag_29 rfl (lv_at hl 1 rfl) ?_
      refine lM7 hx hb hK hP v0.toNat (by omega) (by omega) dX2_lag_30 ?_
      exact hret _ (ux5.1, ux5.2.1, 1, ux5.2.2.2.1, ux5.2.2.2.2.1, rc) _ _ _ _ dX2_lag_31 rfl hP (zDM hD) hS ⟨by unfold rb_lagA; rw [if_pos (by omega), if_neg (by omega), hp.2.2 v0.toNat (by omega)], rb_fo_mc hs hp⟩
    · refine lv_bipush (v := zI (-100)) hx hb dX2_lag_18 (by decide) ?_
      exact hret _ ((fun _ => 0), (rb_qs nb mw fr to hd ln), kn, bp, pl, rc) _ _ _ _ dX2_lag_20 rfl hP (zDM hD) hS ⟨by unfold rb_lagA; rw [if_pos (by omega), if_pos (by omega)], hmc⟩
  · refine lv_bipush (v := zI (-101)) hx hb dX2_lag_8 (by decide) ?_
    exact hret _ (lg, ln, kn, bp, pl, rc) _ _ _ _ dX2_lag_10 rfl hP (zDM hD) hS ⟨by unfold rb_lagA; rw [if_neg (by omega)], hmc⟩
set_option maxHeartbeats 4000000 in
set_option maxRecDepth 100000 in
theorem mM_reachable (l : Launch) (D : va_G) (h : Nat → Nat) (d : Nat → ClassId) (nb : Nat) (mw : Nat) (fr : Nat → Nat) (to : Nat → Nat) (dl : Nat → Int) (hd : Nat → Int) (lg : Nat → Int) (ln : Nat → Int) (kn : Int) (bp : Int) (pl : Nat → Int) (rc : Nat → Int) (p0 : Int) (a : Int) (ok : rb_ok nb mw fr to dl hd) (ha : 0 ≤ a) (ha2 : a ≤ 252) (hf : rb_few mw fr to hd a) (hmc : rb_mc nb mw fr to dl hd kn bp pl) (hp0 : zin p0) : rb_MI l yX2_reachable cX2_reachable 2 (some .boolean) 3 D (rb_TM d) [.ref (h 0), .int (zI p0)] (rb_WM h d nb mw fr to dl hd lg ln kn bp pl rc) (fun r (u : rb_T6) => r = zI (if (rb_sdv nb (rb_ms nb mw fr to dl hd)) = 0 then 0 else rb_b (rb_can nb mw fr to dl hd (rb_ms nb mw fr to dl hd) p0)) ∧ rb_mc nb mw fr to dl hd u.2.2.1 u.2.2.2.1 u.2.2.2.2.1) (fun u : rb_T6 => (rb_WM h d nb mw fr to dl hd u.1 u.2.1 u.2.2.1 u.2.2.2.1 u.2.2.2.2.1 u.2.2.2.2.2)) := by
  refine rb_mkI (by decide) (Nat.le_of_ble_eq_true rfl) (fun p e s m args below meth c A ls Q hx hb hml hts hown hK hP hD hS hA hl hret => ?_)
  have hown : s.vm.findClass RX2 = some m.cls := hown
  have hl : lv_has ls 2 [(0, .ref (h 0)), (1, .int (zI p0))] := hl
  have hh := rb_hh ha2 hf
  refine lv_aload_n hx hb dX2_reachable_0 rfl (lv_at hl 0 rfl) ?_
  refine zc_I ⟨hx, hb, hml, hown, hts⟩ (mM_sound l D h d nb mw fr to dl hd lg ln kn bp pl rc ok hh) (cwV 0 hts (lw_V q204 q193 q194 q15 q195) rfl rfl rfl (by decide +kernel) ⟨Nat.le_of_ble_eq_true rfl, Nat.le_of_ble_eq_true rfl⟩) hK hP hD hS hA (ci := 1) rfl rfl rfl rfl hl.1 rfl (Nat.le_of_ble_eq_true rfl) dX2_reachable_1 ⟨Nat.le_refl 0, Nat.le_refl 0⟩ (fun r ux0 H locs hp hP hD hS => ?_)
  subst hp
  have hsd := (rb_sdv_spec (rb_ms nb mw fr to dl hd) nb).1
  have hP : va_P D vwCl (rb_WM h d nb mw fr to dl hd (fun _ => 0) (rb_qs nb mw fr to hd ln) kn bp pl rc) H := hP
  have hD : va_D A (rb_WM h d nb mw fr to dl hd (fun _ => 0) (rb_qs nb mw fr to hd ln) kn bp pl rc) := zDM hD
  refine zi_if_ne (tgt := 9) hx hb dX2_reachable_4 (by decide) ⟨by omega, by omega⟩ (fun c2 => ?_) (fun c2 => ?_)
  · have hs : rb_snd nb (rb_ms nb mw fr to dl hd) := rb_sdv_s (by omega)
    refine lv_aload_n hx hb dX2_reachable_9 rfl (lv_at hl 0 rfl) ?_
    refine zc_V ⟨hx, hb, hml, hown, hts⟩ (mM_find l D h d nb mw fr to dl hd (fun _ => 0) (rb_qs nb mw fr to hd ln) kn bp pl rc a ok ha ha2 hf hs hmc) (cwV 0 hts (lw_V q217 q219 qs10 q15 q220) rfl rfl rfl (by decide +kernel) ⟨Nat.le_of_ble_eq_true rfl, Nat.le_of_ble_eq_true rfl⟩) hK hP hD hS hA (ci := 1) rfl rfl rfl rfl hl.1 rfl (Nat.le_of_ble_eq_true rfl) dX2_reachable_10 ⟨Nat.le_refl 0, Nat.le_refl 0⟩ (fun ux2 H locs hp hP hD hS => ?_)
    have hP : va_P D vwCl (rb_WM h d nb mw fr to dl hd ux2.1 ux2.2.1 1 ux2.2.2.2.1 ux2.2.2.2.2.1 rc) H := hP
    have hD : va_D A (rb_WM h d nb mw fr to dl hd ux2.1 ux2.2.1 1 ux2.2.2.2.1 ux2.2.2.2.2.1 rc) := zDM hD
    have hbest := rb_best_in ok ha ha2 hf hs
    have hbpe : ux2.2.2.2.1 = (rb_best nb mw fr to dl hd (rb_ms nb mw fr to dl hd)) := hp.2.1
    refine lv_iload_n hx hb dX2_reachable_13 rfl (lv_at hl 1 rfl) ?_
    refine lv_aload_n hx hb dX2_reachable_14 rfl (lv_at hl 0 rfl) ?_
    refine gM9 hx hb hts hown hK hP dX2_reachable_15 ?_
    refine zi_icmp_lt (tgt := 25) hx hb dX2_reachable_18 (by decide) ⟨by omega, by omega⟩ ⟨by omega, by omega⟩ (fun c4 => ?_) (fun c4 => ?_)
    · refine lv_iconst (v := zI 0) hx hb dX2_reachable_25 rfl ?_
      exact hret _ (ux2.1, ux2.2.1, 1, ux2.2.2.2.1, ux2.2.2.2.2.1, rc) _ _ _ _ dX2_reachable_26 rfl hP (zDM hD) hS ⟨by rw [if_neg (by omega), Bool.eq_false_iff.mpr (fun q => absurd ((rb_reach_eq ok ha ha2 hf hs p0).mp q) (by omega))]; rfl, rb_fo_mc hs hp⟩
    · refine lv_iconst (v := zI 1) hx hb dX2_reachable_21 rfl ?_
      refine lv_goto (tgt := 26) hx hb dX2_reachable_22 (by decide) ?_
      exact hret _ (ux2.1, ux2.2.1, 1, ux2.2.2.2.1, ux2.2.2.2.2.1, rc) _ _ _ _ dX2_reachable_26 rfl hP (zDM hD) hS ⟨by rw [if_neg (by omega), (rb_reach_eq ok ha ha2 hf hs p0).mpr (by omega)]; rfl, rb_fo_mc hs hp⟩
  · refine lv_iconst (v := zI 0) hx hb dX2_reachable_7 rfl ?_
    exact hret _ ((fun _ => 0), (rb_qs nb mw fr to hd ln), kn, bp, pl, rc) _ _ _ _ dX2_reachable_8 rfl hP (zDM hD) hS ⟨by rw [if_pos (by omega)], hmc⟩
set_option maxHeartbeats 4000000 in
set_option maxRecDepth 100000 in
theorem mM_apply (l : Launch) (D : va_G) (h : Nat → Nat) (d : Nat → ClassId) (nb : Nat) (mw : Nat) (fr : Nat → Nat) (to : Nat → Nat) (dl : Nat → Int) (hd : Nat → Int) (lg : Nat → Int) (ln : Nat → Int) (kn : Int) (bp : Int) (pl : Nat → Int) (rc : Nat → Int)  (a : Int) (ok : rb_ok nb mw fr to dl hd) (ha : 0 ≤ a) (ha2 : a ≤ 252) (hf : rb_few mw fr to hd a) (hmc : rb_mc nb mw fr to dl hd kn bp pl) : rb_MI l yX2_apply cX2_apply 4 (some .int) 3 D (rb_TM d) [.ref (h 0)] (rb_WM h d nb mw fr to dl hd lg ln kn bp pl rc) (fun r (u : rb_T6) => r = zI (if (rb_sdv nb (rb_ms nb mw fr to dl hd)) = 0 then -100 else rb_it (rb_gw fr to (rb_G nb mw fr to dl hd)) mw 0) ∧ rb_mc nb mw fr to dl (if (rb_sdv nb (rb_ms nb mw fr to dl hd)) = 0 then hd else rb_ap mw fr to hd (rb_G nb mw fr to dl hd)) u.2.2.1 u.2.2.2.1 u.2.2.2.2.1) (fun u : rb_T6 => (rb_WM h d nb mw fr to dl (if (rb_sdv nb (rb_ms nb mw fr to dl hd)) = 0 then hd else rb_ap mw fr to hd (rb_G nb mw fr to dl hd)) u.1 u.2.1 u.2.2.1 u.2.2.2.1 u.2.2.2.2.1 u.2.2.2.2.2)) := by
  refine rb_mkI (by decide) (Nat.le_of_ble_eq_true rfl) (fun p e s m args below meth c A ls Q hx hb hml hts hown hK hP hD hS hA hl hret => ?_)
  have hown : s.vm.findClass RX2 = some m.cls := hown
  have hl : lv_has ls 4 [(0, .ref (h 0))] := hl
  have hh := rb_hh ha2 hf
  refine lv_aload_n hx hb dX2_apply_0 rfl (lv_at hl 0 rfl) ?_
  refine zc_I ⟨hx, hb, hml, hown, hts⟩ (mM_sound l D h d nb mw fr to dl hd lg ln kn bp pl rc ok hh) (cwV 0 hts (lw_V q204 q193 q194 q15 q195) rfl rfl rfl (by decide +kernel) ⟨Nat.le_of_ble_eq_true rfl, Nat.le_of_ble_eq_true rfl⟩) hK hP hD hS hA (ci := 1) rfl rfl rfl rfl hl.1 rfl (Nat.le_of_ble_eq_true rfl) dX2_apply_1 ⟨Nat.le_refl 0, Nat.le_refl 0⟩ (fun r ux0 H locs hp hP hD hS => ?_)
  subst hp
  have hsd := (rb_sdv_spec (rb_ms nb mw fr to dl hd) nb).1
  have hP : va_P D vwCl (rb_WM h d nb mw fr to dl hd (fun _ => 0) (rb_qs nb mw fr to hd ln) kn bp pl rc) H := hP
  have hD : va_D A (rb_WM h d nb mw fr to dl hd (fun _ => 0) (rb_qs nb mw fr to hd ln) kn bp pl rc) := zDM hD
  refine zi_if_ne (tgt := 10) hx hb dX2_apply_4 (by decide) ⟨by omega, by omega⟩ (fun c2 => ?_) (fun c2 => ?_)
  · have hs : rb_snd nb (rb_ms nb mw fr to dl hd) := rb_sdv_s (by omega)
    refine lv_aload_n hx hb dX2_apply_10 rfl (lv_at hl 0 rfl) ?_
    refine zc_V ⟨hx, hb, hml, hown, hts⟩ (mM_find l D h d nb mw fr to dl hd (fun _ => 0) (rb_qs nb mw fr to hd ln) kn bp pl rc a ok ha ha2 hf hs hmc) (cwV 0 hts (lw_V q217 q219 qs10 q15 q220) rfl rfl rfl (by decide +kernel) ⟨Nat.le_of_ble_eq_true rfl, Nat.le_of_ble_eq_true rfl⟩) hK hP hD hS hA (ci := 1) rfl rfl rfl rfl hl.1 rfl (Nat.le_of_ble_eq_true rfl) dX2_apply_11 ⟨Nat.le_refl 0, Nat.le_refl 0⟩ (fun ux2 H locs hp hP hD hS => ?_)
    have hP : va_P D vwCl (rb_WM h d nb mw fr to dl hd ux2.1 ux2.2.1 1 ux2.2.2.2.1 ux2.2.2.2.2.1 rc) H := hP
    have hD : va_D A (rb_WM h d nb mw fr to dl hd ux2.1 ux2.2.1 1 ux2.2.2.2.1 ux2.2.2.2.2.1 rc) := zDM hD
    have hbest := rb_best_in ok ha ha2 hf hs
    have hbpe : ux2.2.2.2.1 = (rb_best nb mw fr to dl hd (rb_ms nb mw fr to dl hd)) := hp.2.1
    have hpin := hp.1
    refine lv_iconst (v := zI 0) hx hb dX2_apply_14 rfl ?_
    refine lv_istore_n (lv' := [(1, .int (zI 0)), (0, .ref (h 0))]) hx hb dX2_apply_15 rfl hl (by decide) rfl (fun ls hl => ?_)
    refine lv_iconst (v := zI 0) hx hb dX2_apply_16 rfl ?_
    refine lv_istore_n (lv' := [(2, .int (zI 0)), (1, .int (zI 0)), (0, .ref (h 0))]) hx hb dX2_apply_17 rfl hl (by decide) rfl (fun ls hl => ?_)
    have lp : ∀ (f_lp i : Nat), i ≤ mw → mw + 1 ≤ i + f_lp → ∀  (H : Heap) (locs : List Loc) (ls : Array Slot), va_P D vwCl (rb_WM h d nb mw fr to dl (rb_ap i fr to hd ux2.2.2.2.2.1) ux2.1 ux2.2.1 1 ux2.2.2.2.1 ux2.2.2.2.2.1 rc) H → va_D A (rb_WM h d nb mw fr to dl (rb_ap i fr to hd ux2.2.2.2.2.1) ux2.1 ux2.2.1 1 ux2.2.2.2.1 ux2.2.2.2.2.1 rc) → va_S A s.heap H locs → lv_has ls 4 [(0, .ref (h 0)), (1, .int (zI (rb_it (rb_gw fr to ux2.2.2.2.2.1) i 0))), (2, .int (zI ((i : Nat) : Int)))] → W p l e (rb_R 3) s m args below meth c H locs 0 0 Q (F0 m 18 ls []) := by
      intro f_lp
      induction f_lp with
      | zero => intro i h1 h2; omega
      | succ f_lp ih_lp =>
        intro i hi_lp hf_lp  H locs ls  hP hD hS hl
        have hmw := ok.2.2.1
        refine lv_iload_n hx hb dX2_apply_18 rfl (lv_at hl 2 rfl) ?_
        refine lv_aload_n hx hb dX2_apply_19 rfl (lv_at hl 0 rfl) ?_
        refine gM1 hx hb hts hown hK hP dX2_apply_20 ?_
        refine zi_icmp_ge (tgt := 70) hx hb dX2_apply_23 (by decide) ⟨by omega, by omega⟩ ⟨by omega, by omega⟩ (fun c4 => ?_) (fun c4 => ?_)
        · have e_i : mw = i := by omega
          subst e_i
          refine lv_aload_n hx hb dX2_apply_70 rfl (lv_at hl 0 rfl) ?_
          refine lv_iconst (v := zI 0) hx hb dX2_apply_71 rfl ?_
          refine pM8 hx hb hts hown hK hP hD hS (Or.inl rfl) dX2_apply_72 (fun H locs hP hD hS => ?_)
          refine lv_iload_n hx hb dX2_apply_75 rfl (lv_at hl 1 rfl) ?_
          rw [rb_ap_c ok hp.2.2] at hP
          exact hret _ (ux2.1, ux2.2.1, 0, ux2.2.2.2.1, ux2.2.2.2.2.1, rc) _ _ _ _ dX2_apply_76 rfl (by rw [if_neg (by omega)]; exact hP) (zDM hD) hS ⟨by rw [if_neg (by omega), rb_gw_c ok hp.2.2 mw (Nat.le_refl mw)], hpin, Or.inl rfl⟩
        · have ho := ok.2.2.2.1 i (by omega)
          have hn5 := ok.2.1
          refine lv_aload_n hx hb dX2_apply_26 rfl (lv_at hl 0 rfl) ?_
          refine gM10 hx hb hts hown hK hP dX2_apply_27 ?_
          refine lv_aload_n hx hb dX2_apply_30 rfl (lv_at hl 0 rfl) ?_
          refine gM4 hx hb hts hown hK hP dX2_apply_31 ?_
          refine lv_iload_n hx hb dX2_apply_34 rfl (lv_at hl 2 rfl) ?_
          refine lM3 hx hb hK hP i (by omega) (by omega) dX2_apply_35 ?_
          refine lM7 hx hb hK hP (to i) (by omega) (by omega) dX2_apply_36 ?_
          have b5 := hpin (to i)
          refine lv_aload_n hx hb dX2_apply_37 rfl (lv_at hl 0 rfl) ?_
          refine gM10 hx hb hts hown hK hP dX2_apply_38 ?_
          refine lv_aload_n hx hb dX2_apply_41 rfl (lv_at hl 0 rfl) ?_
          refine gM3 hx hb hts hown hK hP dX2_apply_42 ?_
          refine lv_iload_n hx hb dX2_apply_45 rfl (lv_at hl 2 rfl) ?_
          refine lM2 hx hb hK hP i (by omega) (by omega) dX2_apply_46 ?_
          refine lM7 hx hb hK hP (fr i) (by omega) (by omega) dX2_apply_47 ?_
          have b6 := hpin (fr i)
          refine zi_isub hx hb dX2_apply_48 ?_
          refine lv_istore_n (lv' := [(3, .int (zI ((ux2.2.2.2.2.1 (to i)) - (ux2.2.2.2.2.1 (fr i))))), (0, .ref (h 0)), (1, .int (zI (rb_it (rb_gw fr to ux2.2.2.2.2.1) i 0))), (2, .int (zI ((i : Nat) : Int)))]) hx hb dX2_apply_49 rfl hl (by decide) rfl (fun ls hl => ?_)
          refine lv_aload_n hx hb dX2_apply_50 rfl (lv_at hl 1 rfl) ?_
          refine gM5 hx hb hts hown hK hP dX2_apply_51 ?_
          refine lv_iload_n hx hb dX2_apply_54 rfl (lv_at hl 3 rfl) ?_
          refine lv_dup2_11 hx hb dX2_apply_55 rfl rfl ?_
          refine lM4 hx hb hK hP i (by omega) (by omega) dX2_apply_56 ?_
          refine lv_iload_n hx hb dX2_apply_57 rfl (lv_at hl 0 rfl) ?_
          refine zi_iadd hx hb dX2_apply_58 ?_
          refine sM4 hx hb hK hP hD hS i (by omega) (by omega) dX2_apply_59 (fun H locs hP hD hS => ?_)
          refine lv_iload_n hx hb dX2_apply_60 rfl (lv_at hl 2 rfl) ?_
          refine lv_iload_n hx hb dX2_apply_61 rfl (lv_at hl 0 rfl) ?_
          refine zi_iadd hx hb dX2_apply_62 ?_
          refine lv_istore_n (lv' := [(1, .int (zI ((rb_it (rb_gw fr to ux2.2.2.2.2.1) i 0) + ((ux2.2.2.2.2.1 (to i)) - (ux2.2.2.2.2.1 (fr i)))))), (3, .int (zI ((ux2.2.2.2.2.1 (to i)) - (ux2.2.2.2.2.1 (fr i))))), (0, .ref (h 0)), (2, .int (zI ((i : Nat) : Int)))]) hx hb dX2_apply_63 rfl hl (by decide) rfl (fun ls hl => ?_)
          refine zi_iinc (k := 3) (x' := (((i + 1) : Nat) : Int)) (lv' := [(2, .int (zI (((i + 1) : Nat) : Int))), (1, .int (zI ((rb_it (rb_gw fr to ux2.2.2.2.2.1) i 0) + ((ux2.2.2.2.2.1 (to i)) - (ux2.2.2.2.2.1 (fr i)))))), (3, .int (zI ((ux2.2.2.2.2.1 (to i)) - (ux2.2.2.2.2.1 (fr i))))), (0, .ref (h 0))]) hx hb dX2_apply_64 hl rfl (by omega) (by decide) rfl (fun ls hl => ?_)
          refine lv_goto (tgt := 18) hx hb dX2_apply_67 (by decide) ?_
          exact ih_lp (i + 1) (by omega) (by omega)  _ _ _  (by rw [← rb_ap_up i]; exact hP) (zDM hD) hS (by rw [rb_it_s _ i, rb_gw_d]; exact lv_sub hl [3, 1, 0] rfl)
    exact lp (mw + 1) 0 (by omega) (by omega)  _ _ _  (by rw [rb_ap_0]; exact hP) (zDM hD) hS (lv_sub hl [2, 1, 0] rfl)
  · refine lv_bipush (v := zI (-100)) hx hb dX2_apply_7 (by decide) ?_
    exact hret _ ((fun _ => 0), (rb_qs nb mw fr to hd ln), kn, bp, pl, rc) _ _ _ _ dX2_apply_9 rfl (by rw [if_pos (by omega)]; exact hP) (zDM hD) hS ⟨by rw [if_pos (by omega)], by rw [if_pos (by omega)]; exact hmc⟩
set_option maxHeartbeats 4000000 in
set_option maxRecDepth 100000 in
theorem mM_registers (l : Launch) (D : va_G) (h : Nat → Nat) (d : Nat → ClassId) (nb : Nat) (mw : Nat) (fr : Nat → Nat) (to : Nat → Nat) (dl : Nat → Int) (hd : Nat → Int) (lg : Nat → Int) (ln : Nat → Int) (kn : Int) (bp : Int) (pl : Nat → Int) (rc : Nat → Int) (i0 : Int) (hm : mw ≤ 12) (hi0 : zin i0) : rb_MI l yX2_registers cX2_registers 2 (some .int) 0 D (rb_TM d) [.ref (h 0), .int (zI i0)] (rb_WM h d nb mw fr to dl hd lg ln kn bp pl rc) (fun r _ => r = zI (if 0 ≤ i0 ∧ i0 < (mw : Int) then hd i0.toNat else -1)) (fun _ : Unit => (rb_WM h d nb mw fr to dl hd lg ln kn bp pl rc)) := by
  refine rb_mkI (by decide) (Nat.le_of_ble_eq_true rfl) (fun p e s m args below meth c A ls Q hx hb hml hts hown hK hP hD hS hA hl hret => ?_)
  have hown : s.vm.findClass RX2 = some m.cls := hown
  have hl : lv_has ls 2 [(0, .ref (h 0)), (1, .int (zI i0))] := hl
  refine lv_iload_n hx hb dX2_registers_0 rfl (lv_at hl 1 rfl) ?_
  refine zi_if_lt (tgt := 21) hx hb dX2_registers_1 (by decide) ⟨by omega, by omega⟩ (fun c1 => ?_) (fun c1 => ?_)
  · refine lv_iconst (v := zI (-1)) hx hb dX2_registers_21 rfl ?_
    exact hret _ () _ _ _ _ dX2_registers_22 rfl hP (zDM hD) hS (by first | rw [if_pos (by omega)] | rw [if_neg (by omega)])
  · refine lv_iload_n hx hb dX2_registers_4 rfl (lv_at hl 1 rfl) ?_
    refine lv_aload_n hx hb dX2_registers_5 rfl (lv_at hl 0 rfl) ?_
    refine gM1 hx hb hts hown hK hP dX2_registers_6 ?_
    refine zi_icmp_ge (tgt := 21) hx hb dX2_registers_9 (by decide) ⟨by omega, by omega⟩ ⟨by omega, by omega⟩ (fun c2 => ?_) (fun c2 => ?_)
    · refine lv_iconst (v := zI (-1)) hx hb dX2_registers_21 rfl ?_
      exact hret _ () _ _ _ _ dX2_registers_22 rfl hP (zDM hD) hS (by first | rw [if_pos (by omega)] | rw [if_neg (by omega)])
    · refine lv_aload_n hx hb dX2_registers_12 rfl (lv_at hl 0 rfl) ?_
      refine gM5 hx hb hts hown hK hP dX2_registers_13 ?_
      refine lv_iload_n hx hb dX2_registers_16 rfl (lv_at hl 1 rfl) ?_
      refine lM4 hx hb hK hP i0.toNat (by omega) (by omega) dX2_registers_17 ?_
      refine lv_goto (tgt := 22) hx hb dX2_registers_18 (by decide) ?_
      exact hret _ () _ _ _ _ dX2_registers_22 rfl hP (zDM hD) hS (by first | rw [if_pos (by omega)] | rw [if_neg (by omega)])
set_option maxHeartbeats 4000000 in
set_option maxRecDepth 100000 in
theorem mM_fewest (l : Launch) (D : va_G) (h : Nat → Nat) (d : Nat → ClassId) (nb : Nat) (mw : Nat) (fr : Nat → Nat) (to : Nat → Nat) (dl : Nat → Int) (hd : Nat → Int) (lg : Nat → Int) (ln : Nat → Int) (kn : Int) (bp : Int) (pl : Nat → Int) (rc : Nat → Int) (u0 v0 : Int) (a : Int) (ok : rb_ok nb mw fr to dl hd) (ha : 0 ≤ a) (ha2 : a ≤ 252) (hf : rb_few mw fr to hd a) (hmc : rb_mc nb mw fr to dl hd kn bp pl) (hu0 : zin u0) (hv0 : zin v0) : rb_MI l yX2_fewest cX2_fewest 6 (some .int) 1 D (rb_TM d) [.ref (h 0), .int (zI u0), .int (zI v0)] (rb_WM h d nb mw fr to dl hd lg ln kn bp pl rc) (fun r (u : rb_T6) => r = zI (rb_fewA nb mw fr to dl hd u0 v0) ∧ rb_mc nb mw fr to dl hd u.2.2.1 u.2.2.2.1 u.2.2.2.2.1) (fun u : rb_T6 => (rb_WM h d nb mw fr to dl hd u.1 u.2.1 u.2.2.1 u.2.2.2.1 u.2.2.2.2.1 u.2.2.2.2.2)) := by
  refine rb_mkI (by decide) (Nat.le_of_ble_eq_true rfl) (fun p e s m args below meth c A ls Q hx hb hml hts hown hK hP hD hS hA hl hret => ?_)
  have hown : s.vm.findClass RX2 = some m.cls := hown
  have hl : lv_has ls 6 [(0, .ref (h 0)), (1, .int (zI u0)), (2, .int (zI v0))] := hl
  have hh := rb_hh ha2 hf
  have hn5 := ok.2.1
  refine lv_aload_n hx hb dX2_fewest_0 rfl (lv_at hl 0 rfl) ?_
  refine lv_iload_n hx hb dX2_fewest_1 rfl (lv_at hl 1 rfl) ?_
  refine zc_I ⟨hx, hb, hml, hown, hts⟩ (mM_isBlock l D h d nb mw fr to dl hd lg ln kn bp pl rc u0 ⟨by omega, by omega⟩ ok.2.1) (cwV 1 hts (lw_V q180 q182 qs6 q15 q183) rfl rfl rfl (by decide +kernel) ⟨Nat.le_of_ble_eq_true rfl, Nat.le_of_ble_eq_true rfl⟩) hK hP hD hS hA (ci := 1) rfl rfl rfl rfl hl.1 rfl (Nat.le_of_ble_eq_true rfl) dX2_fewest_2 ⟨Nat.le_refl 0, Nat.le_refl 0⟩ (fun r ux0 H locs hp hP hD hS => ?_)
  subst hp
  have his1 := rb_isb_spec nb u0
  refine zi_if_eq (tgt := 16) hx hb dX2_fewest_5 (by decide) ⟨by omega, by omega⟩ (fun c3 => ?_) (fun c3 => ?_)
  · refine lv_iconst (v := zI (-1)) hx hb dX2_fewest_16 rfl ?_
    exact hret _ (lg, ln, kn, bp, pl, rc) _ _ _ _ dX2_fewest_17 rfl hP (zDM hD) hS ⟨by unfold rb_fewA; rw [if_neg (by omega)], hmc⟩
  · refine lv_aload_n hx hb dX2_fewest_8 rfl (lv_at hl 0 rfl) ?_
    refine lv_iload_n hx hb dX2_fewest_9 rfl (lv_at hl 2 rfl) ?_
    refine zc_I ⟨hx, hb, hml, hown, hts⟩ (mM_isBlock l D h d nb mw fr to dl hd lg ln kn bp pl rc v0 ⟨by omega, by omega⟩ ok.2.1) (cwV 1 hts (lw_V q180 q182 qs6 q15 q183) rfl rfl rfl (by decide +kernel) ⟨Nat.le_of_ble_eq_true rfl, Nat.le_of_ble_eq_true rfl⟩) hK hP hD hS hA (ci := 1) rfl rfl rfl rfl hl.1 rfl (Nat.le_of_ble_eq_true rfl) dX2_fewest_10 ⟨Nat.le_refl 0, Nat.le_refl 0⟩ (fun r ux3 H locs hp hP hD hS => ?_)
    subst hp
    have his4 := rb_isb_spec nb v0
    refine zi_if_ne (tgt := 18) hx hb dX2_fewest_13 (by decide) ⟨by omega, by omega⟩ (fun c6 => ?_) (fun c6 => ?_)
    · have hu : 0 ≤ u0 ∧ u0 < (nb : Int) := by omega
      have hv : 0 ≤ v0 ∧ v0 < (nb : Int) := by omega
      refine lv_iconst (v := zI 0) hx hb dX2_fewest_18 rfl ?_
      refine lv_istore_n (lv' := [(3, .int (zI 0)), (0, .ref (h 0)), (1, .int (zI u0)), (2, .int (zI v0))]) hx hb dX2_fewest_19 rfl hl (by decide) rfl (fun ls hl => ?_)
      have lpA : ∀ (f_lpA k : Nat), k ≤ 5 → 5 + 1 ≤ k + f_lpA → ∀  (H : Heap) (locs : List Loc) (ls : Array Slot), va_P D vwCl (rb_WM h d nb mw fr to dl hd lg ln kn bp pl (rb_pre k (fun _ => -1) rc)) H → va_D A (rb_WM h d nb mw fr to dl hd lg ln kn bp pl (rb_pre k (fun _ => -1) rc)) → va_S A s.heap H locs → lv_has ls 6 [(0, .ref (h 0)), (1, .int (zI u0)), (2, .int (zI v0)), (3, .int (zI ((k : Nat) : Int)))] → W p l e (rb_R 1) s m args below meth c H locs 0 0 Q (F0 m 20 ls []) := by
        intro f_lpA
        induction f_lpA with
        | zero => intro k h1 h2; omega
        | succ f_lpA ih_lpA =>
          intro k hi_lpA hf_lpA  H locs ls  hP hD hS hl
          refine lv_iload_n hx hb dX2_fewest_20 rfl (lv_at hl 3 rfl) ?_
          refine lv_iconst (v := zI 5) hx hb dX2_fewest_21 rfl ?_
          refine zi_icmp_ge (tgt := 38) hx hb dX2_fewest_22 (by decide) ⟨by omega, by omega⟩ ⟨by omega, by omega⟩ (fun c7 => ?_) (fun c7 => ?_)
          · have e_k : k = 5 := by omega
            subst e_k
            refine lv_iconst (v := zI 0) hx hb dX2_fewest_38 rfl ?_
            refine lv_istore_n (lv' := [(3, .int (zI 0)), (0, .ref (h 0)), (1, .int (zI u0)), (2, .int (zI v0))]) hx hb dX2_fewest_39 rfl hl (by decide) rfl (fun ls hl => ?_)
            have lpB : ∀ (f_lpB r : Nat), r ≤ 6 → 6 + 1 ≤ r + f_lpB → ∀  (H : Heap) (locs : List Loc) (ls : Array Slot), va_P D vwCl (rb_WM h d nb mw fr to dl hd lg ln kn bp pl (rb_it (rb_f2 mw fr to hd u0.toNat) r (rb_pre 5 (fun _ => -1) rc))) H → va_D A (rb_WM h d nb mw fr to dl hd lg ln kn bp pl (rb_it (rb_f2 mw fr to hd u0.toNat) r (rb_pre 5 (fun _ => -1) rc))) → va_S A s.heap H locs → lv_has ls 6 [(0, .ref (h 0)), (1, .int (zI u0)), (2, .int (zI v0)), (3, .int (zI ((r : Nat) : Int)))] → W p l e (rb_R 1) s m args below meth c H locs 0 0 Q (F0 m 40 ls []) := by
              intro f_lpB
              induction f_lpB with
              | zero => intro r h1 h2; omega
              | succ f_lpB ih_lpB =>
                intro r hi_lpB hf_lpB  H locs ls  hP hD hS hl
                have hlb := rb_rcb_f2 ok hh u0.toNat rc r
                refine lv_iload_n hx hb dX2_fewest_40 rfl (lv_at hl 3 rfl) ?_
                refine lv_bipush (v := zI 6) hx hb dX2_fewest_41 (by decide) ?_
                refine zi_icmp_ge (tgt := 166) hx hb dX2_fewest_43 (by decide) ⟨by omega, by omega⟩ ⟨by omega, by omega⟩ (fun c8 => ?_) (fun c8 => ?_)
                · have e_r : r = 6 := by omega
                  subst e_r
                  have hP : va_P D vwCl (rb_WM h d nb mw fr to dl hd lg ln kn bp pl (rb_fs mw fr to hd u0.toNat rc)) H := hP
                  have hD : va_D A (rb_WM h d nb mw fr to dl hd lg ln kn bp pl (rb_fs mw fr to hd u0.toNat rc)) := zDM hD
                  have hl6 : ∀ v, v < 5 → -1 ≤ (rb_fs mw fr to hd u0.toNat rc) v ∧ (rb_fs mw fr to hd u0.toNat rc) v ≤ 12000 * ((6 : Nat) : Int) := rb_rcb_f2 ok hh u0.toNat rc 6
                  refine lv_aload_n hx hb dX2_fewest_166 rfl (lv_at hl 0 rfl) ?_
                  refine gM11 hx hb hts hown hK hP dX2_fewest_167 ?_
                  refine lv_iload_n hx hb dX2_fewest_170 rfl (lv_at hl 2 rfl) ?_
                  refine lM8 hx hb hK hP v0.toNat (by omega) (by omega) dX2_fewest_171 ?_
                  have b9 := hl6 v0.toNat (by omega)
                  refine zi_if_ge (tgt := 180) hx hb dX2_fewest_172 (by decide) ⟨by omega, by omega⟩ (fun c10 => ?_) (fun c10 => ?_)
                  · refine lv_aload_n hx hb dX2_fewest_180 rfl (lv_at hl 0 rfl) ?_
                    refine gM11 hx hb hts hown hK hP dX2_fewest_181 ?_
                    refine lv_iload_n hx hb dX2_fewest_184 rfl (lv_at hl 2 rfl) ?_
                    refine lM8 hx hb hK hP v0.toNat (by omega) (by omega) dX2_fewest_185 ?_
                    have b11 := hl6 v0.toNat (by omega)
                    exact hret _ (lg, ln, kn, bp, pl, (rb_fs mw fr to hd u0.toNat rc)) _ _ _ _ dX2_fewest_186 rfl hP (zDM hD) hS ⟨by rw [rb_fewA_in ok ha ha2 hf hu hv rc]; first | rw [if_pos (by omega)] | rw [if_neg (by omega)], hmc⟩
                  · refine lv_bipush (v := zI (-2)) hx hb dX2_fewest_175 (by decide) ?_
                    refine lv_goto (tgt := 186) hx hb dX2_fewest_177 (by decide) ?_
                    exact hret _ (lg, ln, kn, bp, pl, (rb_fs mw fr to hd u0.toNat rc)) _ _ _ _ dX2_fewest_186 rfl hP (zDM hD) hS ⟨by rw [rb_fewA_in ok ha ha2 hf hu hv rc]; first | rw [if_pos (by omega)] | rw [if_neg (by omega)], hmc⟩
                · refine lv_iconst (v := zI 0) hx hb dX2_fewest_46 rfl ?_
                  refine lv_istore (lv' := [(4, .int (zI 0)), (0, .ref (h 0)), (1, .int (zI u0)), (2, .int (zI v0)), (3, .int (zI ((r : Nat) : Int)))]) hx hb dX2_fewest_47 hl (by decide) rfl (fun ls hl => ?_)
                  have lpC : ∀ (f_lpC i : Nat), i ≤ mw → mw + 1 ≤ i + f_lpC → ∀  (H : Heap) (locs : List Loc) (ls : Array Slot), va_P D vwCl (rb_WM h d nb mw fr to dl hd lg ln kn bp pl (rb_it (rb_f1 fr to hd u0.toNat) i (rb_it (rb_f2 mw fr to hd u0.toNat) r (rb_pre 5 (fun _ => -1) rc)))) H → va_D A (rb_WM h d nb mw fr to dl hd lg ln kn bp pl (rb_it (rb_f1 fr to hd u0.toNat) i (rb_it (rb_f2 mw fr to hd u0.toNat) r (rb_pre 5 (fun _ => -1) rc)))) → va_S A s.heap H locs → lv_has ls 6 [(0, .ref (h 0)), (1, .int (zI u0)), (2, .int (zI v0)), (3, .int (zI ((r : Nat) : Int))), (4, .int (zI ((i : Nat) : Int)))] → W p l e (rb_R 1) s m args below meth c H locs 0 0 Q (F0 m 49 ls []) := by
                    intro f_lpC
                    induction f_lpC with
                    | zero => intro i h1 h2; omega
                    | succ f_lpC ih_lpC =>
                      intro i hi_lpC hf_lpC  H locs ls  hP hD hS hl
                      have hlc := rb_rcb_f1 ok hh u0.toNat (K := 12000 * (r : Int)) (by omega) hlb i hi_lpC
                      have hm12 := ok.2.2.1
                      refine lv_iload hx hb dX2_fewest_49 (lv_at hl 4 rfl) ?_
                      refine lv_aload_n hx hb dX2_fewest_51 rfl (lv_at hl 0 rfl) ?_
                      refine gM1 hx hb hts hown hK hP dX2_fewest_52 ?_
                      refine zi_icmp_ge (tgt := 160) hx hb dX2_fewest_55 (by decide) ⟨by omega, by omega⟩ ⟨by omega, by omega⟩ (fun c12 => ?_) (fun c12 => ?_)
                      · have e_i : mw = i := by omega
                        subst e_i
                        refine zi_iinc (k := 3) (x' := (((r + 1) : Nat) : Int)) (lv' := [(3, .int (zI (((r + 1) : Nat) : Int))), (0, .ref (h 0)), (1, .int (zI u0)), (2, .int (zI v0)), (4, .int (zI ((mw : Nat) : Int)))]) hx hb dX2_fewest_160 hl rfl (by omega) (by decide) rfl (fun ls hl => ?_)
                        refine lv_goto (tgt := 40) hx hb dX2_fewest_163 (by decide) ?_
                        exact ih_lpB (r + 1) (by omega) (by omega)  _ _ _  (by rw [rb_it_s _ r, rb_f2_d]; exact hP) (zDM hD) hS (lv_sub hl [1, 2, 3, 0] rfl)
                      · have ho := ok.2.2.2.1 i (by omega)
                        have hho := hh i (by omega)
                        refine lv_aload_n hx hb dX2_fewest_58 rfl (lv_at hl 0 rfl) ?_
                        refine gM3 hx hb hts hown hK hP dX2_fewest_59 ?_
                        refine lv_iload hx hb dX2_fewest_62 (lv_at hl 4 rfl) ?_
                        refine lM2 hx hb hK hP i (by omega) (by omega) dX2_fewest_64 ?_
                        refine lv_iload_n hx hb dX2_fewest_65 rfl (lv_at hl 1 rfl) ?_
                        refine zi_icmp_ne (tgt := 73) hx hb dX2_fewest_66 (by decide) ⟨by omega, by omega⟩ ⟨by omega, by omega⟩ (fun c13 => ?_) (fun c13 => ?_)
                        · refine lv_aload_n hx hb dX2_fewest_73 rfl (lv_at hl 0 rfl) ?_
                          refine gM11 hx hb hts hown hK hP dX2_fewest_74 ?_
                          refine lv_aload_n hx hb dX2_fewest_77 rfl (lv_at hl 0 rfl) ?_
                          refine gM3 hx hb hts hown hK hP dX2_fewest_78 ?_
                          refine lv_iload hx hb dX2_fewest_81 (lv_at hl 4 rfl) ?_
                          refine lM2 hx hb hK hP i (by omega) (by omega) dX2_fewest_83 ?_
                          refine lM8 hx hb hK hP (fr i) (by omega) (by omega) dX2_fewest_84 ?_
                          have b14 := hlc (fr i) (by omega)
                          refine lv_istore (lv' := [(5, .int (zI ((rb_it (rb_f1 fr to hd u0.toNat) i (rb_it (rb_f2 mw fr to hd u0.toNat) r (rb_pre 5 (fun _ => -1) rc))) (fr i)))), (0, .ref (h 0)), (1, .int (zI u0)), (2, .int (zI v0)), (3, .int (zI ((r : Nat) : Int))), (4, .int (zI ((i : Nat) : Int)))]) hx hb dX2_fewest_85 hl (by decide) rfl (fun ls hl => ?_)
                          refine lv_iload hx hb dX2_fewest_87 (lv_at hl 0 rfl) ?_
                          refine zi_if_lt (tgt := 154) hx hb dX2_fewest_89 (by decide) ⟨by omega, by omega⟩ (fun c15 => ?_) (fun c15 => ?_)
                          · refine zi_iinc (k := 5) (x' := (((i + 1) : Nat) : Int)) (lv' := [(4, .int (zI (((i + 1) : Nat) : Int))), (5, .int (zI ((rb_it (rb_f1 fr to hd u0.toNat) i (rb_it (rb_f2 mw fr to hd u0.toNat) r (rb_pre 5 (fun _ => -1) rc))) (fr i)))), (0, .ref (h 0)), (1, .int (zI u0)), (2, .int (zI v0)), (3, .int (zI ((r : Nat) : Int)))]) hx hb dX2_fewest_154 hl rfl (by omega) (by decide) rfl (fun ls hl => ?_)
                            refine lv_goto (tgt := 49) hx hb dX2_fewest_157 (by decide) ?_
                            exact ih_lpC (i + 1) (by omega) (by omega)  _ _ _  (by rw [rb_it_s _ i]; first | (rw [rb_f1_y (u := u0.toNat) (i := i) (w := ((rb_it (rb_f1 fr to hd u0.toNat) i (rb_it (rb_f2 mw fr to hd u0.toNat) r (rb_pre 5 (fun _ => -1) rc))) (fr i))) (rc := (rb_it (rb_f1 fr to hd u0.toNat) i (rb_it (rb_f2 mw fr to hd u0.toNat) r (rb_pre 5 (fun _ => -1) rc)))) (by omega) (by omega)]; exact hP) | (rw [rb_f1_n (u := u0.toNat) (i := i) (w := ((rb_it (rb_f1 fr to hd u0.toNat) i (rb_it (rb_f2 mw fr to hd u0.toNat) r (rb_pre 5 (fun _ => -1) rc))) (fr i))) (rc := (rb_it (rb_f1 fr to hd u0.toNat) i (rb_it (rb_f2 mw fr to hd u0.toNat) r (rb_pre 5 (fun _ => -1) rc)))) (by omega) (by omega)]; exact hP)) (zDM hD) hS (lv_sub hl [2, 3, 4, 5, 0] rfl)
                          · refine lv_aload_n hx hb dX2_fewest_92 rfl (lv_at hl 1 rfl) ?_
                            refine gM11 hx hb hts hown hK hP dX2_fewest_93 ?_
                            refine lv_aload_n hx hb dX2_fewest_96 rfl (lv_at hl 1 rfl) ?_
                            refine gM4 hx hb hts hown hK hP dX2_fewest_97 ?_
                            refine lv_iload hx hb dX2_fewest_100 (lv_at hl 5 rfl) ?_
                            refine lM3 hx hb hK hP i (by omega) (by omega) dX2_fewest_102 ?_
                            refine lM8 hx hb hK hP (to i) (by omega) (by omega) dX2_fewest_103 ?_
                            have b16 := hlc (to i) (by omega)
                            refine zi_if_lt (tgt := 132) hx hb dX2_fewest_104 (by decide) ⟨by omega, by omega⟩ (fun c17 => ?_) (fun c17 => ?_)
                            · refine lv_aload_n hx hb dX2_fewest_132 rfl (lv_at hl 1 rfl) ?_
                              refine gM11 hx hb hts hown hK hP dX2_fewest_133 ?_
                              refine lv_aload_n hx hb dX2_fewest_136 rfl (lv_at hl 1 rfl) ?_
                              refine gM4 hx hb hts hown hK hP dX2_fewest_137 ?_
                              refine lv_iload hx hb dX2_fewest_140 (lv_at hl 5 rfl) ?_
                              refine lM3 hx hb hK hP i (by omega) (by omega) dX2_fewest_142 ?_
                              refine lv_iload hx hb dX2_fewest_143 (lv_at hl 0 rfl) ?_
                              refine lv_aload_n hx hb dX2_fewest_145 rfl (lv_at hl 1 rfl) ?_
                              refine gM5 hx hb hts hown hK hP dX2_fewest_146 ?_
                              refine lv_iload hx hb dX2_fewest_149 (lv_at hl 5 rfl) ?_
                              refine lM4 hx hb hK hP i (by omega) (by omega) dX2_fewest_151 ?_
                              refine zi_iadd hx hb dX2_fewest_152 ?_
                              refine sM8 hx hb hK hP hD hS (to i) (by omega) (by omega) dX2_fewest_153 (fun H locs hP hD hS => ?_)
                              refine zi_iinc (k := 5) (x' := (((i + 1) : Nat) : Int)) (lv' := [(4, .int (zI (((i + 1) : Nat) : Int))), (5, .int (zI ((rb_it (rb_f1 fr to hd u0.toNat) i (rb_it (rb_f2 mw fr to hd u0.toNat) r (rb_pre 5 (fun _ => -1) rc))) (fr i)))), (0, .ref (h 0)), (1, .int (zI u0)), (2, .int (zI v0)), (3, .int (zI ((r : Nat) : Int)))]) hx hb dX2_fewest_154 hl rfl (by omega) (by decide) rfl (fun ls hl => ?_)
                              refine lv_goto (tgt := 49) hx hb dX2_fewest_157 (by decide) ?_
                              exact ih_lpC (i + 1) (by omega) (by omega)  _ _ _  (by rw [rb_it_s _ i]; first | (rw [rb_f1_y (u := u0.toNat) (i := i) (w := ((rb_it (rb_f1 fr to hd u0.toNat) i (rb_it (rb_f2 mw fr to hd u0.toNat) r (rb_pre 5 (fun _ => -1) rc))) (fr i))) (rc := (rb_it (rb_f1 fr to hd u0.toNat) i (rb_it (rb_f2 mw fr to hd u0.toNat) r (rb_pre 5 (fun _ => -1) rc)))) (by omega) (by omega)]; exact hP) | (rw [rb_f1_n (u := u0.toNat) (i := i) (w := ((rb_it (rb_f1 fr to hd u0.toNat) i (rb_it (rb_f2 mw fr to hd u0.toNat) r (rb_pre 5 (fun _ => -1) rc))) (fr i))) (rc := (rb_it (rb_f1 fr to hd u0.toNat) i (rb_it (rb_f2 mw fr to hd u0.toNat) r (rb_pre 5 (fun _ => -1) rc)))) (by omega) (by omega)]; exact hP)) (zDM hD) hS (lv_sub hl [2, 3, 4, 5, 0] rfl)
                            · refine lv_iload hx hb dX2_fewest_107 (lv_at hl 0 rfl) ?_
                              refine lv_aload_n hx hb dX2_fewest_109 rfl (lv_at hl 1 rfl) ?_
                              refine gM5 hx hb hts hown hK hP dX2_fewest_110 ?_
                              refine lv_iload hx hb dX2_fewest_113 (lv_at hl 5 rfl) ?_
                              refine lM4 hx hb hK hP i (by omega) (by omega) dX2_fewest_115 ?_
                              refine zi_iadd hx hb dX2_fewest_116 ?_
                              refine lv_aload_n hx hb dX2_fewest_117 rfl (lv_at hl 1 rfl) ?_
                              refine gM11 hx hb hts hown hK hP dX2_fewest_118 ?_
                              refine lv_aload_n hx hb dX2_fewest_121 rfl (lv_at hl 1 rfl) ?_
                              refine gM4 hx hb hts hown hK hP dX2_fewest_122 ?_
                              refine lv_iload hx hb dX2_fewest_125 (lv_at hl 5 rfl) ?_
                              refine lM3 hx hb hK hP i (by omega) (by omega) dX2_fewest_127 ?_
                              refine lM8 hx hb hK hP (to i) (by omega) (by omega) dX2_fewest_128 ?_
                              have b18 := hlc (to i) (by omega)
                              refine zi_icmp_ge (tgt := 154) hx hb dX2_fewest_129 (by decide) ⟨by omega, by omega⟩ ⟨by omega, by omega⟩ (fun c19 => ?_) (fun c19 => ?_)
                              · refine zi_iinc (k := 5) (x' := (((i + 1) : Nat) : Int)) (lv' := [(4, .int (zI (((i + 1) : Nat) : Int))), (5, .int (zI ((rb_it (rb_f1 fr to hd u0.toNat) i (rb_it (rb_f2 mw fr to hd u0.toNat) r (rb_pre 5 (fun _ => -1) rc))) (fr i)))), (0, .ref (h 0)), (1, .int (zI u0)), (2, .int (zI v0)), (3, .int (zI ((r : Nat) : Int)))]) hx hb dX2_fewest_154 hl rfl (by omega) (by decide) rfl (fun ls hl => ?_)
                                refine lv_goto (tgt := 49) hx hb dX2_fewest_157 (by decide) ?_
                                exact ih_lpC (i + 1) (by omega) (by omega)  _ _ _  (by rw [rb_it_s _ i]; first | (rw [rb_f1_y (u := u0.toNat) (i := i) (w := ((rb_it (rb_f1 fr to hd u0.toNat) i (rb_it (rb_f2 mw fr to hd u0.toNat) r (rb_pre 5 (fun _ => -1) rc))) (fr i))) (rc := (rb_it (rb_f1 fr to hd u0.toNat) i (rb_it (rb_f2 mw fr to hd u0.toNat) r (rb_pre 5 (fun _ => -1) rc)))) (by omega) (by omega)]; exact hP) | (rw [rb_f1_n (u := u0.toNat) (i := i) (w := ((rb_it (rb_f1 fr to hd u0.toNat) i (rb_it (rb_f2 mw fr to hd u0.toNat) r (rb_pre 5 (fun _ => -1) rc))) (fr i))) (rc := (rb_it (rb_f1 fr to hd u0.toNat) i (rb_it (rb_f2 mw fr to hd u0.toNat) r (rb_pre 5 (fun _ => -1) rc)))) (by omega) (by omega)]; exact hP)) (zDM hD) hS (lv_sub hl [2, 3, 4, 5, 0] rfl)
                              · refine lv_aload_n hx hb dX2_fewest_132 rfl (lv_at hl 1 rfl) ?_
                                refine gM11 hx hb hts hown hK hP dX2_fewest_133 ?_
                                refine lv_aload_n hx hb dX2_fewest_136 rfl (lv_at hl 1 rfl) ?_
                                refine gM4 hx hb hts hown hK hP dX2_fewest_137 ?_
                                refine lv_iload hx hb dX2_fewest_140 (lv_at hl 5 rfl) ?_
                                refine lM3 hx hb hK hP i (by omega) (by omega) dX2_fewest_142 ?_
                                refine lv_iload hx hb dX2_fewest_143 (lv_at hl 0 rfl) ?_
                                refine lv_aload_n hx hb dX2_fewest_145 rfl (lv_at hl 1 rfl) ?_
                                refine gM5 hx hb hts hown hK hP dX2_fewest_146 ?_
                                refine lv_iload hx hb dX2_fewest_149 (lv_at hl 5 rfl) ?_
                                refine lM4 hx hb hK hP i (by omega) (by omega) dX2_fewest_151 ?_
                                refine zi_iadd hx hb dX2_fewest_152 ?_
                                refine sM8 hx hb hK hP hD hS (to i) (by omega) (by omega) dX2_fewest_153 (fun H locs hP hD hS => ?_)
                                refine zi_iinc (k := 5) (x' := (((i + 1) : Nat) : Int)) (lv' := [(4, .int (zI (((i + 1) : Nat) : Int))), (5, .int (zI ((rb_it (rb_f1 fr to hd u0.toNat) i (rb_it (rb_f2 mw fr to hd u0.toNat) r (rb_pre 5 (fun _ => -1) rc))) (fr i)))), (0, .ref (h 0)), (1, .int (zI u0)), (2, .int (zI v0)), (3, .int (zI ((r : Nat) : Int)))]) hx hb dX2_fewest_154 hl rfl (by omega) (by decide) rfl (fun ls hl => ?_)
                                refine lv_goto (tgt := 49) hx hb dX2_fewest_157 (by decide) ?_
                                exact ih_lpC (i + 1) (by omega) (by omega)  _ _ _  (by rw [rb_it_s _ i]; first | (rw [rb_f1_y (u := u0.toNat) (i := i) (w := ((rb_it (rb_f1 fr to hd u0.toNat) i (rb_it (rb_f2 mw fr to hd u0.toNat) r (rb_pre 5 (fun _ => -1) rc))) (fr i))) (rc := (rb_it (rb_f1 fr to hd u0.toNat) i (rb_it (rb_f2 mw fr to hd u0.toNat) r (rb_pre 5 (fun _ => -1) rc)))) (by omega) (by omega)]; exact hP) | (rw [rb_f1_n (u := u0.toNat) (i := i) (w := ((rb_it (rb_f1 fr to hd u0.toNat) i (rb_it (rb_f2 mw fr to hd u0.toNat) r (rb_pre 5 (fun _ => -1) rc))) (fr i))) (rc := (rb_it (rb_f1 fr to hd u0.toNat) i (rb_it (rb_f2 mw fr to hd u0.toNat) r (rb_pre 5 (fun _ => -1) rc)))) (by omega) (by omega)]; exact hP)) (zDM hD) hS (lv_sub hl [2, 3, 4, 5, 0] rfl)
                        · refine lv_iconst (v := zI 0) hx hb dX2_fewest_69 rfl ?_
                          refine lv_goto (tgt := 85) hx hb dX2_fewest_70 (by decide) ?_
                          refine lv_istore (lv' := [(5, .int (zI 0)), (0, .ref (h 0)), (1, .int (zI u0)), (2, .int (zI v0)), (3, .int (zI ((r : Nat) : Int))), (4, .int (zI ((i : Nat) : Int)))]) hx hb dX2_fewest_85 hl (by decide) rfl (fun ls hl => ?_)
                          refine lv_iload hx hb dX2_fewest_87 (lv_at hl 0 rfl) ?_
                          refine zi_if_lt (tgt := 154) hx hb dX2_fewest_89 (by decide) ⟨by omega, by omega⟩ (fun c => absurd c (by decide)) (fun _ => ?_)
                          refine lv_aload_n hx hb dX2_fewest_92 rfl (lv_at hl 1 rfl) ?_
                          refine gM11 hx hb hts hown hK hP dX2_fewest_93 ?_
                          refine lv_aload_n hx hb dX2_fewest_96 rfl (lv_at hl 1 rfl) ?_
                          refine gM4 hx hb hts hown hK hP dX2_fewest_97 ?_
                          refine lv_iload hx hb dX2_fewest_100 (lv_at hl 5 rfl) ?_
                          refine lM3 hx hb hK hP i (by omega) (by omega) dX2_fewest_102 ?_
                          refine lM8 hx hb hK hP (to i) (by omega) (by omega) dX2_fewest_103 ?_
                          have b21 := hlc (to i) (by omega)
                          refine zi_if_lt (tgt := 132) hx hb dX2_fewest_104 (by decide) ⟨by omega, by omega⟩ (fun c22 => ?_) (fun c22 => ?_)
                          · refine lv_aload_n hx hb dX2_fewest_132 rfl (lv_at hl 1 rfl) ?_
                            refine gM11 hx hb hts hown hK hP dX2_fewest_133 ?_
                            refine lv_aload_n hx hb dX2_fewest_136 rfl (lv_at hl 1 rfl) ?_
                            refine gM4 hx hb hts hown hK hP dX2_fewest_137 ?_
                            refine lv_iload hx hb dX2_fewest_140 (lv_at hl 5 rfl) ?_
                            refine lM3 hx hb hK hP i (by omega) (by omega) dX2_fewest_142 ?_
                            refine lv_iload hx hb dX2_fewest_143 (lv_at hl 0 rfl) ?_
                            refine lv_aload_n hx hb dX2_fewest_145 rfl (lv_at hl 1 rfl) ?_
                            refine gM5 hx hb hts hown hK hP dX2_fewest_146 ?_
                            refine lv_iload hx hb dX2_fewest_149 (lv_at hl 5 rfl) ?_
                            refine lM4 hx hb hK hP i (by omega) (by omega) dX2_fewest_151 ?_
                            refine zi_iadd hx hb dX2_fewest_152 ?_
                            refine sM8 hx hb hK hP hD hS (to i) (by omega) (by omega) dX2_fewest_153 (fun H locs hP hD hS => ?_)
                            refine zi_iinc (k := 5) (x' := (((i + 1) : Nat) : Int)) (lv' := [(4, .int (zI (((i + 1) : Nat) : Int))), (5, .int (zI 0)), (0, .ref (h 0)), (1, .int (zI u0)), (2, .int (zI v0)), (3, .int (zI ((r : Nat) : Int)))]) hx hb dX2_fewest_154 hl rfl (by omega) (by decide) rfl (fun ls hl => ?_)
                            refine lv_goto (tgt := 49) hx hb dX2_fewest_157 (by decide) ?_
                            exact ih_lpC (i + 1) (by omega) (by omega)  _ _ _  (by rw [rb_it_s _ i]; first | (rw [rb_f1_y (u := u0.toNat) (i := i) (w := 0) (rc := (rb_it (rb_f1 fr to hd u0.toNat) i (rb_it (rb_f2 mw fr to hd u0.toNat) r (rb_pre 5 (fun _ => -1) rc)))) (by omega) (by omega)]; exact hP) | (rw [rb_f1_n (u := u0.toNat) (i := i) (w := 0) (rc := (rb_it (rb_f1 fr to hd u0.toNat) i (rb_it (rb_f2 mw fr to hd u0.toNat) r (rb_pre 5 (fun _ => -1) rc)))) (by omega) (by omega)]; exact hP)) (zDM hD) hS (lv_sub hl [2, 3, 4, 5, 0] rfl)
                          · refine lv_iload hx hb dX2_fewest_107 (lv_at hl 0 rfl) ?_
                            refine lv_aload_n hx hb dX2_fewest_109 rfl (lv_at hl 1 rfl) ?_
                            refine gM5 hx hb hts hown hK hP dX2_fewest_110 ?_
                            refine lv_iload hx hb dX2_fewest_113 (lv_at hl 5 rfl) ?_
                            refine lM4 hx hb hK hP i (by omega) (by omega) dX2_fewest_115 ?_
                            refine zi_iadd hx hb dX2_fewest_116 ?_
                            refine lv_aload_n hx hb dX2_fewest_117 rfl (lv_at hl 1 rfl) ?_
                            refine gM11 hx hb hts hown hK hP dX2_fewest_118 ?_
                            refine lv_aload_n hx hb dX2_fewest_121 rfl (lv_at hl 1 rfl) ?_
                            refine gM4 hx hb hts hown hK hP dX2_fewest_122 ?_
                            refine lv_iload hx hb dX2_fewest_125 (lv_at hl 5 rfl) ?_
                            refine lM3 hx hb hK hP i (by omega) (by omega) dX2_fewest_127 ?_
                            refine lM8 hx hb hK hP (to i) (by omega) (by omega) dX2_fewest_128 ?_
                            have b23 := hlc (to i) (by omega)
                            refine zi_icmp_ge (tgt := 154) hx hb dX2_fewest_129 (by decide) ⟨by omega, by omega⟩ ⟨by omega, by omega⟩ (fun c24 => ?_) (fun c24 => ?_)
                            · refine zi_iinc (k := 5) (x' := (((i + 1) : Nat) : Int)) (lv' := [(4, .int (zI (((i + 1) : Nat) : Int))), (5, .int (zI 0)), (0, .ref (h 0)), (1, .int (zI u0)), (2, .int (zI v0)), (3, .int (zI ((r : Nat) : Int)))]) hx hb dX2_fewest_154 hl rfl (by omega) (by decide) rfl (fun ls hl => ?_)
                              refine lv_goto (tgt := 49) hx hb dX2_fewest_157 (by decide) ?_
                              exact ih_lpC (i + 1) (by omega) (by omega)  _ _ _  (by rw [rb_it_s _ i]; first | (rw [rb_f1_y (u := u0.toNat) (i := i) (w := 0) (rc := (rb_it (rb_f1 fr to hd u0.toNat) i (rb_it (rb_f2 mw fr to hd u0.toNat) r (rb_pre 5 (fun _ => -1) rc)))) (by omega) (by omega)]; exact hP) | (rw [rb_f1_n (u := u0.toNat) (i := i) (w := 0) (rc := (rb_it (rb_f1 fr to hd u0.toNat) i (rb_it (rb_f2 mw fr to hd u0.toNat) r (rb_pre 5 (fun _ => -1) rc)))) (by omega) (by omega)]; exact hP)) (zDM hD) hS (lv_sub hl [2, 3, 4, 5, 0] rfl)
                            · refine lv_aload_n hx hb dX2_fewest_132 rfl (lv_at hl 1 rfl) ?_
                              refine gM11 hx hb hts hown hK hP dX2_fewest_133 ?_
                              refine lv_aload_n hx hb dX2_fewest_136 rfl (lv_at hl 1 rfl) ?_
                              refine gM4 hx hb hts hown hK hP dX2_fewest_137 ?_
                              refine lv_iload hx hb dX2_fewest_140 (lv_at hl 5 rfl) ?_
                              refine lM3 hx hb hK hP i (by omega) (by omega) dX2_fewest_142 ?_
                              refine lv_iload hx hb dX2_fewest_143 (lv_at hl 0 rfl) ?_
                              refine lv_aload_n hx hb dX2_fewest_145 rfl (lv_at hl 1 rfl) ?_
                              refine gM5 hx hb hts hown hK hP dX2_fewest_146 ?_
                              refine lv_iload hx hb dX2_fewest_149 (lv_at hl 5 rfl) ?_
                              refine lM4 hx hb hK hP i (by omega) (by omega) dX2_fewest_151 ?_
                              refine zi_iadd hx hb dX2_fewest_152 ?_
                              refine sM8 hx hb hK hP hD hS (to i) (by omega) (by omega) dX2_fewest_153 (fun H locs hP hD hS => ?_)
                              refine zi_iinc (k := 5) (x' := (((i + 1) : Nat) : Int)) (lv' := [(4, .int (zI (((i + 1) : Nat) : Int))), (5, .int (zI 0)), (0, .ref (h 0)), (1, .int (zI u0)), (2, .int (zI v0)), (3, .int (zI ((r : Nat) : Int)))]) hx hb dX2_fewest_154 hl rfl (by omega) (by decide) rfl (fun ls hl => ?_)
                              refine lv_goto (tgt := 49) hx hb dX2_fewest_157 (by decide) ?_
                              exact ih_lpC (i + 1) (by omega) (by omega)  _ _ _  (by rw [rb_it_s _ i]; first | (rw [rb_f1_y (u := u0.toNat) (i := i) (w := 0) (rc := (rb_it (rb_f1 fr to hd u0.toNat) i (rb_it (rb_f2 mw fr to hd u0.toNat) r (rb_pre 5 (fun _ => -1) rc)))) (by omega) (by omega)]; exact hP) | (rw [rb_f1_n (u := u0.toNat) (i := i) (w := 0) (rc := (rb_it (rb_f1 fr to hd u0.toNat) i (rb_it (rb_f2 mw fr to hd u0.toNat) r (rb_pre 5 (fun _ => -1) rc)))) (by omega) (by omega)]; exact hP)) (zDM hD) hS (lv_sub hl [2, 3, 4, 5, 0] rfl)
                  exact lpC (mw + 1) 0 (by omega) (by omega)  _ _ _  hP (zDM hD) hS (lv_sub hl [1, 2, 3, 4, 0] rfl)
            exact lpB (6 + 1) 0 (by omega) (by omega)  _ _ _  hP (zDM hD) hS (lv_sub hl [1, 2, 3, 0] rfl)
          · refine lv_aload_n hx hb dX2_fewest_25 rfl (lv_at hl 0 rfl) ?_
            refine gM11 hx hb hts hown hK hP dX2_fewest_26 ?_
            refine lv_iload_n hx hb dX2_fewest_29 rfl (lv_at hl 3 rfl) ?_
            refine lv_iconst (v := zI (-1)) hx hb dX2_fewest_30 rfl ?_
            refine sM8 hx hb hK hP hD hS k (by omega) (by omega) dX2_fewest_31 (fun H locs hP hD hS => ?_)
            refine zi_iinc (k := 3) (x' := (((k + 1) : Nat) : Int)) (lv' := [(3, .int (zI (((k + 1) : Nat) : Int))), (0, .ref (h 0)), (1, .int (zI u0)), (2, .int (zI v0))]) hx hb dX2_fewest_32 hl rfl (by omega) (by decide) rfl (fun ls hl => ?_)
            refine lv_goto (tgt := 20) hx hb dX2_fewest_35 (by decide) ?_
            exact ih_lpA (k + 1) (by omega) (by omega)  _ _ _  (by rw [← rb_pre_up k]; exact hP) (zDM hD) hS (lv_sub hl [1, 2, 3, 0] rfl)
      exact lpA (5 + 1) 0 (by omega) (by omega)  _ _ _  (by rw [rb_pre_0]; exact hP) (zDM hD) hS (lv_sub hl [1, 2, 3, 0] rfl)
    · refine lv_iconst (v := zI (-1)) hx hb dX2_fewest_16 rfl ?_
      exact hret _ (lg, ln, kn, bp, pl, rc) _ _ _ _ dX2_fewest_17 rfl hP (zDM hD) hS ⟨by unfold rb_fewA; rw [if_neg (by omega)], hmc⟩
set_option maxHeartbeats 4000000 in
set_option maxRecDepth 100000 in
theorem mM_delay (l : Launch) (D : va_G) (h : Nat → Nat) (d : Nat → ClassId) (nb : Nat) (mw : Nat) (fr : Nat → Nat) (to : Nat → Nat) (dl : Nat → Int) (hd : Nat → Int) (lg : Nat → Int) (ln : Nat → Int) (kn : Int) (bp : Int) (pl : Nat → Int) (rc : Nat → Int) (v0 x0 : Int) (a : Int) (ok : rb_ok nb mw fr to dl hd) (ha : 0 ≤ a) (ha2 : a ≤ 252) (hf : rb_few mw fr to hd a) (hmc : rb_mc nb mw fr to dl hd kn bp pl) (hv0 : zin v0) (hx0 : zin x0) : rb_MI l yX2_delay cX2_delay 3 (some .boolean) 1 D (rb_TM d) [.ref (h 0), .int (zI v0), .int (zI x0)] (rb_WM h d nb mw fr to dl hd lg ln kn bp pl rc) (fun r (u : rb_T6) => r = zI (rb_b (rb_dv nb v0 x0)) ∧ rb_mc nb mw fr to (rb_sel (rb_dv nb v0 x0) (rb_up dl v0.toNat x0) dl) hd u.2.2.1 u.2.2.2.1 u.2.2.2.2.1) (fun u : rb_T6 => (rb_WM h d nb mw fr to (rb_sel (rb_dv nb v0 x0) (rb_up dl v0.toNat x0) dl) hd u.1 u.2.1 u.2.2.1 u.2.2.2.1 u.2.2.2.2.1 u.2.2.2.2.2)) := by
  refine rb_mkI (by decide) (Nat.le_of_ble_eq_true rfl) (fun p e s m args below meth c A ls Q hx hb hml hts hown hK hP hD hS hA hl hret => ?_)
  have hown : s.vm.findClass RX2 = some m.cls := hown
  have hl : lv_has ls 3 [(0, .ref (h 0)), (1, .int (zI v0)), (2, .int (zI x0))] := hl
  have hn5 := ok.2.1
  refine lv_aload_n hx hb dX2_delay_0 rfl (lv_at hl 0 rfl) ?_
  refine lv_iload_n hx hb dX2_delay_1 rfl (lv_at hl 1 rfl) ?_
  refine zc_I ⟨hx, hb, hml, hown, hts⟩ (mM_isBlock l D h d nb mw fr to dl hd lg ln kn bp pl rc v0 ⟨by omega, by omega⟩ ok.2.1) (cwV 1 hts (lw_V q180 q182 qs6 q15 q183) rfl rfl rfl (by decide +kernel) ⟨Nat.le_of_ble_eq_true rfl, Nat.le_of_ble_eq_true rfl⟩) hK hP hD hS hA (ci := 1) rfl rfl rfl rfl hl.1 rfl (Nat.le_of_ble_eq_true rfl) dX2_delay_2 ⟨Nat.le_refl 0, Nat.le_refl 0⟩ (fun r ux0 H locs hp hP hD hS => ?_)
  subst hp
  have his1 := rb_isb_spec nb v0
  refine zi_if_eq (tgt := 18) hx hb dX2_delay_5 (by decide) ⟨by omega, by omega⟩ (fun c3 => ?_) (fun c3 => ?_)
  · refine lv_iconst (v := zI 0) hx hb dX2_delay_18 rfl ?_
    exact hret _ (lg, ln, kn, bp, pl, rc) _ _ _ _ dX2_delay_19 rfl (by rw [rb_dv_f (by omega)]; exact hP) (zDM hD) hS ⟨by rw [rb_dv_f (by omega)]; rfl, by rw [rb_dv_f (by omega)]; exact hmc⟩
  · refine lv_iload_n hx hb dX2_delay_8 rfl (lv_at hl 2 rfl) ?_
    refine zi_if_lt (tgt := 18) hx hb dX2_delay_9 (by decide) ⟨by omega, by omega⟩ (fun c4 => ?_) (fun c4 => ?_)
    · refine lv_iconst (v := zI 0) hx hb dX2_delay_18 rfl ?_
      exact hret _ (lg, ln, kn, bp, pl, rc) _ _ _ _ dX2_delay_19 rfl (by rw [rb_dv_f (by omega)]; exact hP) (zDM hD) hS ⟨by rw [rb_dv_f (by omega)]; rfl, by rw [rb_dv_f (by omega)]; exact hmc⟩
    · refine lv_iload_n hx hb dX2_delay_12 rfl (lv_at hl 2 rfl) ?_
      refine lv_bipush (v := zI 9) hx hb dX2_delay_13 (by decide) ?_
      refine zi_icmp_le (tgt := 20) hx hb dX2_delay_15 (by decide) ⟨by omega, by omega⟩ ⟨by omega, by omega⟩ (fun c5 => ?_) (fun c5 => ?_)
      · refine lv_aload_n hx hb dX2_delay_20 rfl (lv_at hl 0 rfl) ?_
        refine gM2 hx hb hts hown hK hP dX2_delay_21 ?_
        refine lv_iload_n hx hb dX2_delay_24 rfl (lv_at hl 1 rfl) ?_
        refine lv_iload_n hx hb dX2_delay_25 rfl (lv_at hl 2 rfl) ?_
        refine sM1 hx hb hK hP hD hS v0.toNat (by omega) (by omega) dX2_delay_26 (fun H locs hP hD hS => ?_)
        refine lv_aload_n hx hb dX2_delay_27 rfl (lv_at hl 0 rfl) ?_
        refine lv_iconst (v := zI 0) hx hb dX2_delay_28 rfl ?_
        refine pM8 hx hb hts hown hK hP hD hS (Or.inl rfl) dX2_delay_29 (fun H locs hP hD hS => ?_)
        refine lv_iconst (v := zI 1) hx hb dX2_delay_32 rfl ?_
        exact hret _ (lg, ln, 0, bp, pl, rc) _ _ _ _ dX2_delay_33 rfl (by rw [rb_dv_t (by omega)]; exact hP) (zDM hD) hS ⟨by rw [rb_dv_t (by omega)]; rfl, hmc.1, Or.inl rfl⟩
      · refine lv_iconst (v := zI 0) hx hb dX2_delay_18 rfl ?_
        exact hret _ (lg, ln, kn, bp, pl, rc) _ _ _ _ dX2_delay_19 rfl (by rw [rb_dv_f (by omega)]; exact hP) (zDM hD) hS ⟨by rw [rb_dv_f (by omega)]; rfl, by rw [rb_dv_f (by omega)]; exact hmc⟩
set_option maxHeartbeats 4000000 in
set_option maxRecDepth 100000 in
theorem mM_wire (l : Launch) (D : va_G) (h : Nat → Nat) (d : Nat → ClassId) (nb : Nat) (mw : Nat) (fr : Nat → Nat) (to : Nat → Nat) (dl : Nat → Int) (hd : Nat → Int) (lg : Nat → Int) (ln : Nat → Int) (kn : Int) (bp : Int) (pl : Nat → Int) (rc : Nat → Int) (u0 v0 r0 : Int) (a : Int) (ok : rb_ok nb mw fr to dl hd) (ha : 0 ≤ a) (ha2 : a ≤ 252) (hf : rb_few mw fr to hd a) (hmc : rb_mc nb mw fr to dl hd kn bp pl) (hu0 : zin u0) (hv0 : zin v0) (hr0 : zin r0) : rb_MI l yX2_wire cX2_wire 4 (some .int) 1 D (rb_TM d) [.ref (h 0), .int (zI u0), .int (zI v0), .int (zI r0)] (rb_WM h d nb mw fr to dl hd lg ln kn bp pl rc) (fun r (u : rb_T6) => r = zI (if mw < 12 then rb_sel (rb_wv nb mw u0 v0 r0) (mw : Int) (-1) else -2) ∧ rb_mc nb (rb_sel (rb_wv nb mw u0 v0 r0) (mw + 1) mw) (rb_sel (rb_wv nb mw u0 v0 r0) (rb_up fr mw u0.toNat) fr) (rb_sel (rb_wv nb mw u0 v0 r0) (rb_up to mw v0.toNat) to) dl (rb_sel (rb_wv nb mw u0 v0 r0) (rb_up hd mw r0) hd) u.2.2.1 u.2.2.2.1 u.2.2.2.2.1) (fun u : rb_T6 => (rb_WM h d nb (rb_sel (rb_wv nb mw u0 v0 r0) (mw + 1) mw) (rb_sel (rb_wv nb mw u0 v0 r0) (rb_up fr mw u0.toNat) fr) (rb_sel (rb_wv nb mw u0 v0 r0) (rb_up to mw v0.toNat) to) dl (rb_sel (rb_wv nb mw u0 v0 r0) (rb_up hd mw r0) hd) u.1 u.2.1 u.2.2.1 u.2.2.2.1 u.2.2.2.2.1 u.2.2.2.2.2)) := by
  refine rb_mkI (by decide) (Nat.le_of_ble_eq_true rfl) (fun p e s m args below meth c A ls Q hx hb hml hts hown hK hP hD hS hA hl hret => ?_)
  have hown : s.vm.findClass RX2 = some m.cls := hown
  have hl : lv_has ls 4 [(0, .ref (h 0)), (1, .int (zI u0)), (2, .int (zI v0)), (3, .int (zI r0))] := hl
  have hn5 := ok.2.1
  have hm12 := ok.2.2.1
  refine lv_aload_n hx hb dX2_wire_0 rfl (lv_at hl 0 rfl) ?_
  refine gM1 hx hb hts hown hK hP dX2_wire_1 ?_
  refine lv_bipush (v := zI 12) hx hb dX2_wire_4 (by decide) ?_
  refine zi_icmp_ne (tgt := 12) hx hb dX2_wire_6 (by decide) ⟨by omega, by omega⟩ ⟨by omega, by omega⟩ (fun c1 => ?_) (fun c1 => ?_)
  · refine lv_aload_n hx hb dX2_wire_12 rfl (lv_at hl 0 rfl) ?_
    refine lv_iload_n hx hb dX2_wire_13 rfl (lv_at hl 1 rfl) ?_
    refine zc_I ⟨hx, hb, hml, hown, hts⟩ (mM_isBlock l D h d nb mw fr to dl hd lg ln kn bp pl rc u0 ⟨by omega, by omega⟩ ok.2.1) (cwV 1 hts (lw_V q180 q182 qs6 q15 q183) rfl rfl rfl (by decide +kernel) ⟨Nat.le_of_ble_eq_true rfl, Nat.le_of_ble_eq_true rfl⟩) hK hP hD hS hA (ci := 1) rfl rfl rfl rfl hl.1 rfl (Nat.le_of_ble_eq_true rfl) dX2_wire_14 ⟨Nat.le_refl 0, Nat.le_refl 0⟩ (fun r ux1 H locs hp hP hD hS => ?_)
    subst hp
    have his2 := rb_isb_spec nb u0
    refine zi_if_eq (tgt := 37) hx hb dX2_wire_17 (by decide) ⟨by omega, by omega⟩ (fun c4 => ?_) (fun c4 => ?_)
    · refine lv_iconst (v := zI (-1)) hx hb dX2_wire_37 rfl ?_
      exact hret _ (lg, ln, kn, bp, pl, rc) _ _ _ _ dX2_wire_38 rfl (by rw [rb_wv_f (by omega)]; exact hP) (zDM hD) hS ⟨by rw [if_pos (by omega), rb_wv_f (by omega)]; rfl, by rw [rb_wv_f (by omega)]; exact hmc⟩
    · refine lv_aload_n hx hb dX2_wire_20 rfl (lv_at hl 0 rfl) ?_
      refine lv_iload_n hx hb dX2_wire_21 rfl (lv_at hl 2 rfl) ?_
      refine zc_I ⟨hx, hb, hml, hown, hts⟩ (mM_isBlock l D h d nb mw fr to dl hd lg ln kn bp pl rc v0 ⟨by omega, by omega⟩ ok.2.1) (cwV 1 hts (lw_V q180 q182 qs6 q15 q183) rfl rfl rfl (by decide +kernel) ⟨Nat.le_of_ble_eq_true rfl, Nat.le_of_ble_eq_true rfl⟩) hK hP hD hS hA (ci := 1) rfl rfl rfl rfl hl.1 rfl (Nat.le_of_ble_eq_true rfl) dX2_wire_22 ⟨Nat.le_refl 0, Nat.le_refl 0⟩ (fun r ux4 H locs hp hP hD hS => ?_)
      subst hp
      have his5 := rb_isb_spec nb v0
      refine zi_if_eq (tgt := 37) hx hb dX2_wire_25 (by decide) ⟨by omega, by omega⟩ (fun c7 => ?_) (fun c7 => ?_)
      · refine lv_iconst (v := zI (-1)) hx hb dX2_wire_37 rfl ?_
        exact hret _ (lg, ln, kn, bp, pl, rc) _ _ _ _ dX2_wire_38 rfl (by rw [rb_wv_f (by omega)]; exact hP) (zDM hD) hS ⟨by rw [if_pos (by omega), rb_wv_f (by omega)]; rfl, by rw [rb_wv_f (by omega)]; exact hmc⟩
      · refine lv_iload_n hx hb dX2_wire_28 rfl (lv_at hl 3 rfl) ?_
        refine zi_if_lt (tgt := 37) hx hb dX2_wire_29 (by decide) ⟨by omega, by omega⟩ (fun c8 => ?_) (fun c8 => ?_)
        · refine lv_iconst (v := zI (-1)) hx hb dX2_wire_37 rfl ?_
          exact hret _ (lg, ln, kn, bp, pl, rc) _ _ _ _ dX2_wire_38 rfl (by rw [rb_wv_f (by omega)]; exact hP) (zDM hD) hS ⟨by rw [if_pos (by omega), rb_wv_f (by omega)]; rfl, by rw [rb_wv_f (by omega)]; exact hmc⟩
        · refine lv_iload_n hx hb dX2_wire_32 rfl (lv_at hl 3 rfl) ?_
          refine lv_iconst (v := zI 3) hx hb dX2_wire_33 rfl ?_
          refine zi_icmp_le (tgt := 39) hx hb dX2_wire_34 (by decide) ⟨by omega, by omega⟩ ⟨by omega, by omega⟩ (fun c9 => ?_) (fun c9 => ?_)
          · have e_u : u0 = ((u0.toNat : Nat) : Int) := by omega
            have e_v : v0 = ((v0.toNat : Nat) : Int) := by omega
            refine lv_aload_n hx hb dX2_wire_39 rfl (lv_at hl 0 rfl) ?_
            refine gM3 hx hb hts hown hK hP dX2_wire_40 ?_
            refine lv_aload_n hx hb dX2_wire_43 rfl (lv_at hl 0 rfl) ?_
            refine gM1 hx hb hts hown hK hP dX2_wire_44 ?_
            refine lv_iload_n hx hb dX2_wire_47 rfl (lv_at hl 1 rfl) ?_
            refine sM2 hx hb hK hP hD hS mw u0.toNat (by omega) (by omega) (by omega) dX2_wire_48 (fun H locs hP hD hS => ?_)
            refine lv_aload_n hx hb dX2_wire_49 rfl (lv_at hl 0 rfl) ?_
            refine gM4 hx hb hts hown hK hP dX2_wire_50 ?_
            refine lv_aload_n hx hb dX2_wire_53 rfl (lv_at hl 0 rfl) ?_
            refine gM1 hx hb hts hown hK hP dX2_wire_54 ?_
            refine lv_iload_n hx hb dX2_wire_57 rfl (lv_at hl 2 rfl) ?_
            refine sM3 hx hb hK hP hD hS mw v0.toNat (by omega) (by omega) (by omega) dX2_wire_58 (fun H locs hP hD hS => ?_)
            refine lv_aload_n hx hb dX2_wire_59 rfl (lv_at hl 0 rfl) ?_
            refine gM5 hx hb hts hown hK hP dX2_wire_60 ?_
            refine lv_aload_n hx hb dX2_wire_63 rfl (lv_at hl 0 rfl) ?_
            refine gM1 hx hb hts hown hK hP dX2_wire_64 ?_
            refine lv_iload_n hx hb dX2_wire_67 rfl (lv_at hl 3 rfl) ?_
            refine sM4 hx hb hK hP hD hS mw (by omega) (by omega) dX2_wire_68 (fun H locs hP hD hS => ?_)
            refine lv_aload_n hx hb dX2_wire_69 rfl (lv_at hl 0 rfl) ?_
            refine lv_dup hx hb dX2_wire_70 rfl ?_
            refine gM1 hx hb hts hown hK hP dX2_wire_71 ?_
            refine lv_iconst (v := zI 1) hx hb dX2_wire_74 rfl ?_
            refine zi_iadd hx hb dX2_wire_75 ?_
            refine pM1 hx hb hts hown hK hP hD hS (mw + 1) (by omega) dX2_wire_76 (fun H locs hP hD hS => ?_)
            refine lv_aload_n hx hb dX2_wire_79 rfl (lv_at hl 0 rfl) ?_
            refine lv_iconst (v := zI 0) hx hb dX2_wire_80 rfl ?_
            refine pM8 hx hb hts hown hK hP hD hS (Or.inl rfl) dX2_wire_81 (fun H locs hP hD hS => ?_)
            refine lv_aload_n hx hb dX2_wire_84 rfl (lv_at hl 0 rfl) ?_
            refine gM1 hx hb hts hown hK hP dX2_wire_85 ?_
            refine lv_iconst (v := zI 1) hx hb dX2_wire_88 rfl ?_
            refine zi_isub hx hb dX2_wire_89 ?_
            have e_r : ((((mw + 1) : Nat) : Int) - 1) = (mw : Int) := by omega
            exact hret _ (lg, ln, 0, bp, pl, rc) _ _ _ _ dX2_wire_90 rfl (by rw [rb_wv_t (by omega)]; exact hP) (zDM hD) hS ⟨by rw [if_pos (by omega), rb_wv_t (by omega), e_r]; rfl, hmc.1, Or.inl rfl⟩
          · refine lv_iconst (v := zI (-1)) hx hb dX2_wire_37 rfl ?_
            exact hret _ (lg, ln, kn, bp, pl, rc) _ _ _ _ dX2_wire_38 rfl (by rw [rb_wv_f (by omega)]; exact hP) (zDM hD) hS ⟨by rw [if_pos (by omega), rb_wv_f (by omega)]; rfl, by rw [rb_wv_f (by omega)]; exact hmc⟩
  · refine lv_bipush (v := zI (-2)) hx hb dX2_wire_9 (by decide) ?_
    exact hret _ (lg, ln, kn, bp, pl, rc) _ _ _ _ dX2_wire_11 rfl (by rw [rb_wv_f (by omega)]; exact hP) (zDM hD) hS ⟨by rw [if_neg (by omega)], by rw [rb_wv_f (by omega)]; exact hmc⟩
set_option maxHeartbeats 4000000 in
set_option maxRecDepth 100000 in
theorem mM_cut (l : Launch) (D : va_G) (h : Nat → Nat) (d : Nat → ClassId) (nb : Nat) (mw : Nat) (fr : Nat → Nat) (to : Nat → Nat) (dl : Nat → Int) (hd : Nat → Int) (lg : Nat → Int) (ln : Nat → Int) (kn : Int) (bp : Int) (pl : Nat → Int) (rc : Nat → Int) (i0 : Int) (a : Int) (ok : rb_ok nb mw fr to dl hd) (ha : 0 ≤ a) (ha2 : a ≤ 252) (hf : rb_few mw fr to hd a) (hmc : rb_mc nb mw fr to dl hd kn bp pl) (hi0 : zin i0) : rb_MI l yX2_cut cX2_cut 3 (some .int) 0 D (rb_TM d) [.ref (h 0), .int (zI i0)] (rb_WM h d nb mw fr to dl hd lg ln kn bp pl rc) (fun r (u : rb_T6) => r = zI (rb_sel (rb_cv mw i0) (((mw - 1 : Nat)) : Int) (-1)) ∧ rb_mc nb (rb_sel (rb_cv mw i0) (mw - 1) mw) (rb_sel (rb_cv mw i0) (rb_ct (mw - 1) i0.toNat fr) fr) (rb_sel (rb_cv mw i0) (rb_ct (mw - 1) i0.toNat to) to) dl (rb_sel (rb_cv mw i0) (rb_ct (mw - 1) i0.toNat hd) hd) u.2.2.1 u.2.2.2.1 u.2.2.2.2.1) (fun u : rb_T6 => (rb_WM h d nb (rb_sel (rb_cv mw i0) (mw - 1) mw) (rb_sel (rb_cv mw i0) (rb_ct (mw - 1) i0.toNat fr) fr) (rb_sel (rb_cv mw i0) (rb_ct (mw - 1) i0.toNat to) to) dl (rb_sel (rb_cv mw i0) (rb_ct (mw - 1) i0.toNat hd) hd) u.1 u.2.1 u.2.2.1 u.2.2.2.1 u.2.2.2.2.1 u.2.2.2.2.2)) := by
  refine rb_mkI (by decide) (Nat.le_of_ble_eq_true rfl) (fun p e s m args below meth c A ls Q hx hb hml hts hown hK hP hD hS hA hl hret => ?_)
  have hown : s.vm.findClass RX2 = some m.cls := hown
  have hl : lv_has ls 3 [(0, .ref (h 0)), (1, .int (zI i0))] := hl
  have hn5 := ok.2.1
  have hm12 := ok.2.2.1
  refine lv_iload_n hx hb dX2_cut_0 rfl (lv_at hl 1 rfl) ?_
  refine zi_if_lt (tgt := 12) hx hb dX2_cut_1 (by decide) ⟨by omega, by omega⟩ (fun c1 => ?_) (fun c1 => ?_)
  · refine lv_iconst (v := zI (-1)) hx hb dX2_cut_12 rfl ?_
    exact hret _ (lg, ln, kn, bp, pl, rc) _ _ _ _ dX2_cut_13 rfl (by rw [rb_cv_f (by omega)]; exact hP) (zDM hD) hS ⟨by rw [rb_cv_f (by omega)]; rfl, by rw [rb_cv_f (by omega)]; exact hmc⟩
  · refine lv_iload_n hx hb dX2_cut_4 rfl (lv_at hl 1 rfl) ?_
    refine lv_aload_n hx hb dX2_cut_5 rfl (lv_at hl 0 rfl) ?_
    refine gM1 hx hb hts hown hK hP dX2_cut_6 ?_
    refine zi_icmp_lt (tgt := 14) hx hb dX2_cut_9 (by decide) ⟨by omega, by omega⟩ ⟨by omega, by omega⟩ (fun c2 => ?_) (fun c2 => ?_)
    · refine lv_iload_n hx hb dX2_cut_14 rfl (lv_at hl 1 rfl) ?_
      refine lv_istore_n (lv' := [(2, .int (zI i0)), (0, .ref (h 0)), (1, .int (zI i0))]) hx hb dX2_cut_15 rfl hl (by decide) rfl (fun ls hl => ?_)
      have lp : ∀ (f_lp k : Nat), k ≤ (mw - 1) → (mw - 1) + 1 ≤ k + f_lp → ∀  (H : Heap) (locs : List Loc) (ls : Array Slot), i0.toNat ≤ k → va_P D vwCl (rb_WM h d nb mw (rb_ct k i0.toNat fr) (rb_ct k i0.toNat to) dl (rb_ct k i0.toNat hd) lg ln kn bp pl rc) H → va_D A (rb_WM h d nb mw (rb_ct k i0.toNat fr) (rb_ct k i0.toNat to) dl (rb_ct k i0.toNat hd) lg ln kn bp pl rc) → va_S A s.heap H locs → lv_has ls 3 [(0, .ref (h 0)), (2, .int (zI ((k : Nat) : Int)))] → W p l e (rb_R 0) s m args below meth c H locs 0 0 Q (F0 m 16 ls []) := by
        intro f_lp
        induction f_lp with
        | zero => intro k h1 h2; omega
        | succ f_lp ih_lp =>
          intro k hi_lp hf_lp  H locs ls hik hP hD hS hl
          refine lv_iload_n hx hb dX2_cut_16 rfl (lv_at hl 1 rfl) ?_
          refine lv_aload_n hx hb dX2_cut_17 rfl (lv_at hl 0 rfl) ?_
          refine gM1 hx hb hts hown hK hP dX2_cut_18 ?_
          refine lv_iconst (v := zI 1) hx hb dX2_cut_21 rfl ?_
          refine zi_isub hx hb dX2_cut_22 ?_
          refine zi_icmp_ge (tgt := 74) hx hb dX2_cut_23 (by decide) ⟨by omega, by omega⟩ ⟨by omega, by omega⟩ (fun c3 => ?_) (fun c3 => ?_)
          · have e_k : k = (mw - 1) := by omega
            subst e_k
            refine lv_aload_n hx hb dX2_cut_74 rfl (lv_at hl 0 rfl) ?_
            refine lv_dup hx hb dX2_cut_75 rfl ?_
            refine gM1 hx hb hts hown hK hP dX2_cut_76 ?_
            refine lv_iconst (v := zI 1) hx hb dX2_cut_79 rfl ?_
            refine zi_isub hx hb dX2_cut_80 ?_
            refine pM1 hx hb hts hown hK hP hD hS (mw - 1) (by omega) dX2_cut_81 (fun H locs hP hD hS => ?_)
            refine lv_aload_n hx hb dX2_cut_84 rfl (lv_at hl 0 rfl) ?_
            refine lv_iconst (v := zI 0) hx hb dX2_cut_85 rfl ?_
            refine pM8 hx hb hts hown hK hP hD hS (Or.inl rfl) dX2_cut_86 (fun H locs hP hD hS => ?_)
            refine lv_aload_n hx hb dX2_cut_89 rfl (lv_at hl 0 rfl) ?_
            refine gM1 hx hb hts hown hK hP dX2_cut_90 ?_
            exact hret _ (lg, ln, 0, bp, pl, rc) _ _ _ _ dX2_cut_93 rfl (by rw [rb_cv_t (by omega)]; exact hP) (zDM hD) hS ⟨by rw [rb_cv_t (by omega)]; rfl, hmc.1, Or.inl rfl⟩
          · have ho := ok.2.2.2.1 (k + 1) (by omega)
            have z1 := rb_ct_hi k i0.toNat fr
            have z2 := rb_ct_hi k i0.toNat to
            refine lv_aload_n hx hb dX2_cut_26 rfl (lv_at hl 0 rfl) ?_
            refine gM3 hx hb hts hown hK hP dX2_cut_27 ?_
            refine lv_iload_n hx hb dX2_cut_30 rfl (lv_at hl 1 rfl) ?_
            refine lv_aload_n hx hb dX2_cut_31 rfl (lv_at hl 0 rfl) ?_
            refine gM3 hx hb hts hown hK hP dX2_cut_32 ?_
            refine lv_iload_n hx hb dX2_cut_35 rfl (lv_at hl 1 rfl) ?_
            refine lv_iconst (v := zI 1) hx hb dX2_cut_36 rfl ?_
            refine zi_iadd hx hb dX2_cut_37 ?_
            refine lM2 hx hb hK hP (k + 1) (by omega) (by omega) dX2_cut_38 ?_
            refine sM2 hx hb hK hP hD hS k ((rb_ct k i0.toNat fr) (k + 1)) (by omega) (by omega) (by omega) dX2_cut_39 (fun H locs hP hD hS => ?_)
            refine lv_aload_n hx hb dX2_cut_40 rfl (lv_at hl 0 rfl) ?_
            refine gM4 hx hb hts hown hK hP dX2_cut_41 ?_
            refine lv_iload_n hx hb dX2_cut_44 rfl (lv_at hl 1 rfl) ?_
            refine lv_aload_n hx hb dX2_cut_45 rfl (lv_at hl 0 rfl) ?_
            refine gM4 hx hb hts hown hK hP dX2_cut_46 ?_
            refine lv_iload_n hx hb dX2_cut_49 rfl (lv_at hl 1 rfl) ?_
            refine lv_iconst (v := zI 1) hx hb dX2_cut_50 rfl ?_
            refine zi_iadd hx hb dX2_cut_51 ?_
            refine lM3 hx hb hK hP (k + 1) (by omega) (by omega) dX2_cut_52 ?_
            refine sM3 hx hb hK hP hD hS k ((rb_ct k i0.toNat to) (k + 1)) (by omega) (by omega) (by omega) dX2_cut_53 (fun H locs hP hD hS => ?_)
            refine lv_aload_n hx hb dX2_cut_54 rfl (lv_at hl 0 rfl) ?_
            refine gM5 hx hb hts hown hK hP dX2_cut_55 ?_
            refine lv_iload_n hx hb dX2_cut_58 rfl (lv_at hl 1 rfl) ?_
            refine lv_aload_n hx hb dX2_cut_59 rfl (lv_at hl 0 rfl) ?_
            refine gM5 hx hb hts hown hK hP dX2_cut_60 ?_
            refine lv_iload_n hx hb dX2_cut_63 rfl (lv_at hl 1 rfl) ?_
            refine lv_iconst (v := zI 1) hx hb dX2_cut_64 rfl ?_
            refine zi_iadd hx hb dX2_cut_65 ?_
            refine lM4 hx hb hK hP (k + 1) (by omega) (by omega) dX2_cut_66 ?_
            refine sM4 hx hb hK hP hD hS k (by omega) (by omega) dX2_cut_67 (fun H locs hP hD hS => ?_)
            refine zi_iinc (k := 1) (x' := (((k + 1) : Nat) : Int)) (lv' := [(2, .int (zI (((k + 1) : Nat) : Int))), (0, .ref (h 0))]) hx hb dX2_cut_68 hl rfl (by omega) (by decide) rfl (fun ls hl => ?_)
            refine lv_goto (tgt := 16) hx hb dX2_cut_71 (by decide) ?_
            exact ih_lp (k + 1) (by omega) (by omega)  _ _ _ (by omega) (by rw [← rb_ct_up hik fr, ← rb_ct_up hik to, ← rb_ct_up hik hd]; exact hP) (zDM hD) hS (lv_sub hl [1, 0] rfl)
      exact lp ((mw - 1) + 1) i0.toNat (by omega) (by omega)  _ _ _ (Nat.le_refl _) (by rw [rb_ct_0, rb_ct_0, rb_ct_0]; exact hP) (zDM hD) hS (by rw [show (((i0.toNat : Nat)) : Int) = i0 by omega]; exact lv_sub hl [1, 0] rfl)
    · refine lv_iconst (v := zI (-1)) hx hb dX2_cut_12 rfl ?_
      exact hret _ (lg, ln, kn, bp, pl, rc) _ _ _ _ dX2_cut_13 rfl (by rw [rb_cv_f (by omega)]; exact hP) (zDM hD) hS ⟨by rw [rb_cv_f (by omega)]; rfl, by rw [rb_cv_f (by omega)]; exact hmc⟩
end
section
/-! rows for the law: the script, calls beside another world, and what holds between the two objects -/
theorem rb_and (a b : Nat) : nI a &&& nI b = nI (a &&& b) := by
  apply Int32.toBitVec_inj.1
  show BitVec.ofNat 32 a &&& BitVec.ofNat 32 b = BitVec.ofNat 32 (a &&& b)
  exact BitVec.ofNat_and.symm
theorem rb_m15 (x : Int32) : ∃ k : Nat, k < 16 ∧ x &&& zI 15 = zI (k : Int) := by
  have e : x = nI x.toBitVec.toNat := by
    apply Int32.toBitVec_inj.1
    show x.toBitVec = BitVec.ofNat 32 x.toBitVec.toNat
    simp
  refine ⟨x.toBitVec.toNat % 16, Nat.mod_lt _ (by omega), ?_⟩
  rw [zI_n, show zI 15 = nI 15 from rfl]
  have h := rb_and x.toBitVec.toNat 15
  rw [← e, show (15 : Nat) = 2 ^ 4 - 1 from rfl, Nat.and_two_pow_sub_one_eq_mod] at h
  exact h
section ZL
variable {p : Program} {l : Launch} {e : Env} {R : Room} {s : State} {m : MethodId} {args : Array Value} {below : List Frame} {meth : Method} {c : Code} {H : Heap} {locs : List Loc} {cells slots : Nat} {Q : State → Prop}
variable {cc : ByteArray} {pc : Nat} {ls : Array Slot} {rest : List Value} {D : va_G} {A : Nat → Prop} {H0 : Heap} {tys : List (ClassId × FieldType)}
theorem zs_len (hx : p.tables.exec = Jvm.exec) (hb : c.code = cc) {b L : Nat} {xs : Nat → Int32} (hX : va_X b L xs s H0) (hbl : b < H0.size) (hbA : ¬ A b) (hS : va_S A H0 H locs) (hdg : decode cc pc = .ok (.arraylength, 1)) (kk : W p l e R s m args below meth c H locs cells slots Q (F0 m (pc + 1) ls (.int (zI (L : Int)) :: rest))) : W p l e R s m args below meth c H locs cells slots Q (F0 m pc ls (.ref b :: rest)) := by
  rw [zI_n] at kk
  exact va_slen hx hb hX hbl hbA hS hdg kk
theorem zs_ld (hx : p.tables.exec = Jvm.exec) (hb : c.code = cc) {b L : Nat} {xs : Nat → Int32} (hX : va_X b L xs s H0) (hbl : b < H0.size) (hbA : ¬ A b) (hS : va_S A H0 H locs) (hL : L ≤ 257) {i : Int} (k : Nat) (hi : i = (k : Int)) (hk : k < L) (hdg : decode cc pc = .ok (.iaload, 1)) (kk : W p l e R s m args below meth c H locs cells slots Q (F0 m (pc + 1) ls (.int (zI (xs k).toInt) :: rest))) : W p l e R s m args below meth c H locs cells slots Q (F0 m pc ls (.int (zI i) :: .ref b :: rest)) := by
  subst hi
  rw [← zI_of (xs k)] at kk
  refine va_sld hx hb hX hbl hbA hS (zI_vin hk (by omega)) hdg ?_
  rw [zI_clamp (by omega)]
  exact kk
variable {y : MethodName} {bytes : ByteArray} {maxL nL n index k ci : Nat} {ret : Option FieldType} {own C : String} {b : Addr} {As st0 : List Value} {wa wb : va_W} {qc : vw_C} {fs : List Value}
/-- a call of an object of the first world: what comes back stands behind the second -/
theorem zj_I {S : Type} {post : Int32 → S → Prop} {w1 : S → va_W} (hF : CallFix p m c cc nL s args lw_all own) (hM : rb_MI l y bytes maxL ret k D tys (.ref b :: As) wa post w1) (cw : CallW R s args own C index y bytes maxL ret (ws_ y bytes maxL ret) (rb_R k) 0 0 n) (hK : va_K D vwCl tys s) (hP : va_P D vwCl (wa ++ wb) H) (hD : va_D A (wa ++ wb)) (hS : va_S A H0 H locs) (hA : ∀ q : Nat, H0.size ≤ q → A q)
    (isC isR : List Nat) (hC : isC.map (fun i => (wa ++ wb)[i]?) = wa.map some) (hR : isR.map (fun i => (wa ++ wb)[i]?) = wb.map some) (hnd : va_nd isR = true) (hdis : ∀ i ∈ isR, i ∉ isC)
    (hc : vwCl[ci]? = some qc) (hq : qc.1 = C) (he : wa[0]? = some (b, .inr (ci, fs))) (hn : As.length = n) (hsize : ls.size = nL) (hst : st0 = As.reverse ++ .ref b :: rest) (hroom : (rest.map fun v => v.category).sum ≤ 8) (hdg : decode cc pc = .ok (.invokevirtual index, 3)) (hf : cells ≤ R.cells ∧ slots ≤ R.slots)
    (kk : ∀ (r : Int32) (u : S) (H1 : Heap) (locs1 : List Loc), post r u → va_P D vwCl (wb ++ w1 u) H1 → va_D A (wb ++ w1 u) → va_S A H0 H1 locs1 → W p l e R s m args below meth c H1 locs1 cells slots Q (F0 m (pc + 3) ls (.int r :: rest))) : W p l e R s m args below meth c H locs cells slots Q (F0 m pc ls st0) := by
  subst hst
  have lft : ∀ (k : Nat) (q : Nat × va_E), wa[k]? = some q → (wa ++ wb)[k]? = some q := fun k q hk => by
    rw [List.getElem?_append_left (List.getElem?_eq_some_iff.mp hk).1]
    exact hk
  have hPa : va_P D vwCl wa H := fun k q hk => hP k q (lft k q hk)
  have hDa : va_D A wa := ⟨fun i j p q h1 h2 e => hD.1 i j p q (lft i p h1) (lft j q h2) e, fun k q hk => hD.2 k q (lft k q hk)⟩
  have hFr := va_free (wc := wa) hD hS hA isC hC
  refine va_calli (va_runV (As := As) (rest := rest) hF (hM H.size) cw ⟨rb_blind D tys _ wa H.size, by rw [← hq]; exact va_recv hK hPa hc he, fun U hU hW => ⟨rfl, by rw [hU], by rw [hU]; exact hPa, va_K.moved hW.alike hK, hDa.weaken (fun _ _ _ _ => trivial)⟩⟩ rfl hn hsize rfl (lv_room hroom) hdg hf) hS (fun q _ h => hFr q h) hFr (fun r u t H1 locs1 ht hvm hp hB hz hk hS => ?_)
  obtain ⟨hP1, -, hD1⟩ := hB
  rw [ht] at hP1
  obtain ⟨hP, hD⟩ := va_join (wr := wb) (w1 := w1 u) hP hD isC isR hC hR hnd hdis hk hFr hP1 hD1
  exact kk r u H1 locs1 hp hP hD hS
end ZL
/-- what holds between the two objects -/
def rb_Inv (nb mw : Nat) (fr to : Nat → Nat) (dl hd : Nat → Int) (kn sd : Int) (le lo : Nat → Int) (kn2 bp : Int) (pl : Nat → Int) (a : Int) : Prop := rb_ok nb mw fr to dl hd ∧ 0 ≤ a ∧ rb_few mw fr to hd a ∧ rb_ch nb mw fr to dl hd kn sd le lo ∧ rb_mc nb mw fr to dl hd kn2 bp pl
section ZI
variable {nb mw : Nat} {fr to : Nat → Nat} {dl hd : Nat → Int} {kn sd : Int} {le lo : Nat → Int} {kn2 bp : Int} {pl : Nat → Int} {a : Int}
variable {kn' sd' : Int} {le' lo' : Nat → Int} {kn2' bp' : Int} {pl' : Nat → Int}
theorem rb_inv_same (I : rb_Inv nb mw fr to dl hd kn sd le lo kn2 bp pl a) (h1 : rb_ch nb mw fr to dl hd kn' sd' le' lo') (h2 : rb_mc nb mw fr to dl hd kn2' bp' pl') : rb_Inv nb mw fr to dl hd kn' sd' le' lo' kn2' bp' pl' a := ⟨I.1, I.2.1, I.2.2.1, h1, h2⟩
theorem rb_inv_delay {v0 x0 : Int} (I : rb_Inv nb mw fr to dl hd kn sd le lo kn2 bp pl a) (h1 : rb_ch nb mw fr to (rb_sel (rb_dv nb v0 x0) (rb_up dl v0.toNat x0) dl) hd kn' sd' le' lo') (h2 : rb_mc nb mw fr to (rb_sel (rb_dv nb v0 x0) (rb_up dl v0.toNat x0) dl) hd kn2' bp' pl') : rb_Inv nb mw fr to (rb_sel (rb_dv nb v0 x0) (rb_up dl v0.toNat x0) dl) hd kn' sd' le' lo' kn2' bp' pl' a := by
  refine ⟨?_, I.2.1, I.2.2.1, h1, h2⟩
  clear h1 h2
  cases hq : rb_dv nb v0 x0 with
  | false => exact I.1
  | true =>
    have h := of_decide_eq_true hq
    exact rb_delay_ok I.1 h.2.2.1 h.2.2.2
theorem rb_inv_wire {u0 v0 r0 : Int} (I : rb_Inv nb mw fr to dl hd kn sd le lo kn2 bp pl a) (h1 : rb_ch nb (rb_sel (rb_wv nb mw u0 v0 r0) (mw + 1) mw) (rb_sel (rb_wv nb mw u0 v0 r0) (rb_up fr mw u0.toNat) fr) (rb_sel (rb_wv nb mw u0 v0 r0) (rb_up to mw v0.toNat) to) dl (rb_sel (rb_wv nb mw u0 v0 r0) (rb_up hd mw r0) hd) kn' sd' le' lo') (h2 : rb_mc nb (rb_sel (rb_wv nb mw u0 v0 r0) (mw + 1) mw) (rb_sel (rb_wv nb mw u0 v0 r0) (rb_up fr mw u0.toNat) fr) (rb_sel (rb_wv nb mw u0 v0 r0) (rb_up to mw v0.toNat) to) dl (rb_sel (rb_wv nb mw u0 v0 r0) (rb_up hd mw r0) hd) kn2' bp' pl') : rb_Inv nb (rb_sel (rb_wv nb mw u0 v0 r0) (mw + 1) mw) (rb_sel (rb_wv nb mw u0 v0 r0) (rb_up fr mw u0.toNat) fr) (rb_sel (rb_wv nb mw u0 v0 r0) (rb_up to mw v0.toNat) to) dl (rb_sel (rb_wv nb mw u0 v0 r0) (rb_up hd mw r0) hd) kn' sd' le' lo' kn2' bp' pl' a := by
  have key : rb_ok nb (rb_sel (rb_wv nb mw u0 v0 r0) (mw + 1) mw) (rb_sel (rb_wv nb mw u0 v0 r0) (rb_up fr mw u0.toNat) fr) (rb_sel (rb_wv nb mw u0 v0 r0) (rb_up to mw v0.toNat) to) dl (rb_sel (rb_wv nb mw u0 v0 r0) (rb_up hd mw r0) hd) ∧ rb_few (rb_sel (rb_wv nb mw u0 v0 r0) (mw + 1) mw) (rb_sel (rb_wv nb mw u0 v0 r0) (rb_up fr mw u0.toNat) fr) (rb_sel (rb_wv nb mw u0 v0 r0) (rb_up to mw v0.toNat) to) (rb_sel (rb_wv nb mw u0 v0 r0) (rb_up hd mw r0) hd) a := by
    clear h1 h2
    cases hq : rb_wv nb mw u0 v0 r0 with
    | false => exact ⟨I.1, I.2.2.1⟩
    | true =>
      have h := of_decide_eq_true hq
      exact rb_wire_ok I.1 I.2.1 I.2.2.1 h.1 (by omega) (by omega) (by omega) (by omega)
  exact ⟨key.1, I.2.1, key.2, h1, h2⟩
theorem rb_inv_cut {i0 : Int} (I : rb_Inv nb mw fr to dl hd kn sd le lo kn2 bp pl a) (h1 : rb_ch nb (rb_sel (rb_cv mw i0) (mw - 1) mw) (rb_sel (rb_cv mw i0) (rb_ct (mw - 1) i0.toNat fr) fr) (rb_sel (rb_cv mw i0) (rb_ct (mw - 1) i0.toNat to) to) dl (rb_sel (rb_cv mw i0) (rb_ct (mw - 1) i0.toNat hd) hd) kn' sd' le' lo') (h2 : rb_mc nb (rb_sel (rb_cv mw i0) (mw - 1) mw) (rb_sel (rb_cv mw i0) (rb_ct (mw - 1) i0.toNat fr) fr) (rb_sel (rb_cv mw i0) (rb_ct (mw - 1) i0.toNat to) to) dl (rb_sel (rb_cv mw i0) (rb_ct (mw - 1) i0.toNat hd) hd) kn2' bp' pl') : rb_Inv nb (rb_sel (rb_cv mw i0) (mw - 1) mw) (rb_sel (rb_cv mw i0) (rb_ct (mw - 1) i0.toNat fr) fr) (rb_sel (rb_cv mw i0) (rb_ct (mw - 1) i0.toNat to) to) dl (rb_sel (rb_cv mw i0) (rb_ct (mw - 1) i0.toNat hd) hd) kn' sd' le' lo' kn2' bp' pl' a := by
  have key : rb_ok nb (rb_sel (rb_cv mw i0) (mw - 1) mw) (rb_sel (rb_cv mw i0) (rb_ct (mw - 1) i0.toNat fr) fr) (rb_sel (rb_cv mw i0) (rb_ct (mw - 1) i0.toNat to) to) dl (rb_sel (rb_cv mw i0) (rb_ct (mw - 1) i0.toNat hd) hd) ∧ rb_few (rb_sel (rb_cv mw i0) (mw - 1) mw) (rb_sel (rb_cv mw i0) (rb_ct (mw - 1) i0.toNat fr) fr) (rb_sel (rb_cv mw i0) (rb_ct (mw - 1) i0.toNat to) to) (rb_sel (rb_cv mw i0) (rb_ct (mw - 1) i0.toNat hd) hd) a := by
    clear h1 h2
    cases hq : rb_cv mw i0 with
    | false => exact ⟨I.1, I.2.2.1⟩
    | true =>
      have h := of_decide_eq_true hq
      obtain ⟨m', rfl⟩ : ∃ m', mw = m' + 1 := ⟨mw - 1, by omega⟩
      exact rb_cut_ok I.1 I.2.2.1
  exact ⟨key.1, I.2.1, key.2, h1, h2⟩
theorem rb_inv_apply (I : rb_Inv nb mw fr to dl hd kn sd le lo kn2 bp pl a) (ha2 : a ≤ 252) (h1 : rb_ch nb mw fr to dl (if rb_sdv nb (rb_ms nb mw fr to dl hd) = 0 then hd else rb_ap mw fr to hd (rb_G nb mw fr to dl hd)) kn' sd' le' lo') (h2 : rb_mc nb mw fr to dl (if rb_sdv nb (rb_ms nb mw fr to dl hd) = 0 then hd else rb_ap mw fr to hd (rb_G nb mw fr to dl hd)) kn2' bp' pl') : rb_Inv nb mw fr to dl (if rb_sdv nb (rb_ms nb mw fr to dl hd) = 0 then hd else rb_ap mw fr to hd (rb_G nb mw fr to dl hd)) kn' sd' le' lo' kn2' bp' pl' (a + 4) := by
  have key : rb_ok nb mw fr to dl (if rb_sdv nb (rb_ms nb mw fr to dl hd) = 0 then hd else rb_ap mw fr to hd (rb_G nb mw fr to dl hd)) ∧ rb_few mw fr to (if rb_sdv nb (rb_ms nb mw fr to dl hd) = 0 then hd else rb_ap mw fr to hd (rb_G nb mw fr to dl hd)) (a + 4) := by
    by_cases hq : rb_sdv nb (rb_ms nb mw fr to dl hd) = 0
    · rw [if_pos hq]
      exact ⟨I.1, rb_few_up (by omega) I.2.2.1⟩
    · rw [if_neg hq]
      obtain ⟨g1, -, g3, -⟩ := rb_G_ok I.1 I.2.1 ha2 I.2.2.1 (rb_sdv_s hq)
      exact rb_apply_ok I.1 I.2.2.1 g1 g3
  exact ⟨key.1, by have := I.2.1; omega, key.2, h1, h2⟩
end ZI
/-- how many blocks -/
def rb_nb (v : Int) : Nat := if v < 1 then 1 else if 5 < v then 5 else v.toNat
theorem rb_nb_1 {v : Int} (h : v < 1) : (1 : Int) = ((rb_nb v : Nat) : Int) := by
  unfold rb_nb
  rw [if_pos h]
  rfl
theorem rb_nb_5 {v : Int} (h : ¬ v < 1) (h5 : 5 < v) : (5 : Int) = ((rb_nb v : Nat) : Int) := by
  unfold rb_nb
  rw [if_neg h, if_pos h5]
  rfl
theorem rb_nb_v {v : Int} (h : ¬ v < 1) (h5 : ¬ 5 < v) : v = ((rb_nb v : Nat) : Int) := by
  unfold rb_nb
  rw [if_neg h, if_neg h5]
  omega
theorem rb_nb_in (v : Int) : 1 ≤ rb_nb v ∧ rb_nb v ≤ 5 := by
  unfold rb_nb
  split
  · omega
  · split <;> omega
theorem rb_inv_start (v : Int) : rb_Inv (rb_nb v) 0 (fun _ => 0) (fun _ => 0) (fun _ => 0) (fun _ => 0) 0 0 (fun _ => 0) (fun _ => 0) 0 0 (fun _ => 0) 0 := by
  have h := rb_nb_in v
  exact ⟨⟨h.1, h.2, by omega, fun i hi => absurd hi (by omega), fun v => (by decide : (0 : Int) ≤ 0 ∧ (0 : Int) ≤ 9)⟩, by omega, ⟨fun i hi => absurd hi (by omega), fun i j hi => absurd hi (by omega)⟩, Or.inl rfl, fun v => (by decide : (-4 : Int) ≤ 0 ∧ (0 : Int) ≤ 0), Or.inl rfl⟩
end
section
set_option maxHeartbeats 4000000 in
set_option maxRecDepth 100000 in
theorem mC_init (l : Launch) (D : va_G) (h0 : Nat) (sz : Nat) (v : Int) (hv : zin v) : Met l yX1_init (ws_ yX1_init cX1_init 2 none) ({ frames := 1, cells := 7, slots := 96, locals := 12 }) (va_Pc [.ref h0, .int (zI v)] (rb_Pre D [] [(h0, .inr (0, [.int (zI 0), .null, .int (zI 0), .null, .null, .null, .int (zI 0), .int (zI 0), .null, .null, .null]))] sz)) (va_Qv (fun u : (Nat → Nat) × (Nat → ClassId) => u.1 0 = h0) (fun (u : (Nat → Nat) × (Nat → ClassId)) t => va_P D vwCl (rb_WC u.1 u.2 (rb_nb v) 0 (fun _ => 0) (fun _ => 0) (fun _ => 0) (fun _ => 0) 0 0 (fun _ => 0) (fun _ => 0) (fun _ => 0)) t.heap ∧ va_K D vwCl (rb_TC u.2) t ∧ va_D (va_A [(h0, .inr (0, [.int (zI 0), .null, .int (zI 0), .null, .null, .null, .int (zI 0), .int (zI 0), .null, .null, .null]))] sz) (rb_WC u.1 u.2 (rb_nb v) 0 (fun _ => 0) (fun _ => 0) (fun _ => 0) (fun _ => 0) 0 0 (fun _ => 0) (fun _ => 0) (fun _ => 0))) (va_A [(h0, .inr (0, [.int (zI 0), .null, .int (zI 0), .null, .null, .null, .int (zI 0), .int (zI 0), .null, .null, .null]))] sz)) 7 96 (va_A [(h0, .inr (0, [.int (zI 0), .null, .int (zI 0), .null, .null, .null, .int (zI 0), .int (zI 0), .null, .null, .null]))] sz) := by
  refine Met.ofW (cc := cX1_init) (maxL := 2) (ret := none) (by decide) rfl ?_
  intro p e s m args below meth c s₁ B hml hv0
  obtain ⟨rfl, hsz, hP, hK, hD0⟩ := hv0
  have hx := B.exec
  have hb := B.bytes
  have hr := B.returns
  have hts := atoms_spec (ws := ws_ yX1_init cX1_init 2 none) B.pre
  have hts : ∀ w ∈ lw_all, w.before _ s = true := fun w h => hts w (List.mem_cons_of_mem _ h)
  have hown : s.vm.findClass RX1 = some m.cls := findClass_of_methodNamed B.named
  have hlocks := B.notSynchronized
  have hin : meth.name = "<init>" := (name_of_methodNamed B.named B.method).1
  subst hsz
  have hD := hD0.self (sz := s.heap.size)
  generalize hAe : va_A [(h0, .inr (0, [.int (zI 0), .null, .int (zI 0), .null, .null, .null, .int (zI 0), .int (zI 0), .null, .null, .null]))] s.heap.size = A at hD ⊢
  have hA : ∀ q : Nat, s.heap.size ≤ q → A q := fun q h => by rw [← hAe]; exact Or.inr h
  have hS : va_S A s.heap s.heap [] := va_S.rf
  have hP : va_P D vwCl [(h0, .inr (0, [.int (zI 0), .null, .int (zI 0), .null, .null, .null, .int (zI 0), .int (zI 0), .null, .null, .null]))] s.heap := hP
  have hl := lv_entry ([.ref h0, .int (zI v)]) (n := 2) (Nat.le_of_ble_eq_true rfl)
  rw [lg_entry_eq]
  generalize (lg_sl ([.ref h0, .int (zI v)]) ++ List.replicate (2 - (lg_sl ([.ref h0, .int (zI v)])).length) Slot.unset).toArray = ls at hl ⊢
  have hl : lv_has ls 2 [(0, .ref h0), (1, .int (zI v))] := hl
  refine lv_aload_n hx hb dX1_init_0 rfl (lv_at hl 0 rfl) ?_
  refine W.objInit hx hb hown (hts _ q21) (hts _ q22) (hts _ q23) rfl (by rw [hml]; exact hl.1) rfl dX1_init_1 (Nat.le_of_ble_eq_true rfl) (Nat.le_of_ble_eq_true rfl) ?_
  refine W.eq (g2 := F0 m 4 ls []) rfl ?_
  refine lv_aload_n hx hb dX1_init_4 rfl (lv_at hl 0 rfl) ?_
  refine lv_iconst (v := zI 5) hx hb dX1_init_5 rfl ?_
  refine va_newa (atype := .byte) (ty := .byte) (N' := 5) (a0 := (5, .inl (zC (fun _ => 0)))) hx hb (hts _ q58) rfl hK hP hD hS hA (fun _ => rfl) (by decide) rfl (by decide) (Nat.le_of_ble_eq_true rfl) (Nat.le_of_ble_eq_true rfl) dX1_init_6 (fun q1 c1 H hK hP hD hS => ?_)
  have hK : va_K D vwCl [(c1, .byte)] s := hK
  have hP : va_P D vwCl [(h0, .inr (0, [.int (zI 0), .null, .int (zI 0), .null, .null, .null, .int (zI 0), .int (zI 0), .null, .null, .null])), (q1, .inl (c1, (5, .inl (zC (fun _ => 0)))))] H := hP
  have hD : va_D A [(h0, .inr (0, [.int (zI 0), .null, .int (zI 0), .null, .null, .null, .int (zI 0), .int (zI 0), .null, .null, .null])), (q1, .inl (c1, (5, .inl (zC (fun _ => 0)))))] := hD
  refine W.widen (k := 1) (n := 5) (Nat.le_refl _) (Nat.le_refl _) ?_
  refine va_putF (D := D) (ci := 0) (v := .ref q1) (ty := .array .byte) (C := RX1) (T := TX1) (N := 11) hx hb hts in_X1 tyX1 tyX1_ok nmX1 hown hK hP hD hS 0 rfl rfl 1 (by decide) (hts _ q25) (fun _ h9 => h9) rfl hin rfl (by decide +kernel) rfl rfl (Nat.le_of_ble_eq_true rfl) dX1_init_8 (fun H locs hP hD hS => ?_)
  have hP : va_P D vwCl [(h0, .inr (0, [.int (zI 0), .ref q1, .int (zI 0), .null, .null, .null, .int (zI 0), .int (zI 0), .null, .null, .null])), (q1, .inl (c1, (5, .inl (zC (fun _ => 0)))))] H := hP
  have hD : va_D A [(h0, .inr (0, [.int (zI 0), .ref q1, .int (zI 0), .null, .null, .null, .int (zI 0), .int (zI 0), .null, .null, .null])), (q1, .inl (c1, (5, .inl (zC (fun _ => 0)))))] := hD
  refine lv_aload_n hx hb dX1_init_11 rfl (lv_at hl 0 rfl) ?_
  refine lv_bipush (v := zI 12) hx hb dX1_init_12 (by decide) ?_
  refine va_newa (atype := .byte) (ty := .byte) (N' := 12) (a0 := (12, .inl (zC (fun j => (((fun _ => 0 : Nat → Nat) j : Nat) : Int))))) hx hb (hts _ q58) rfl hK hP hD hS hA (fun _ => rfl) (by decide) rfl (by decide) (Nat.le_of_ble_eq_true rfl) (Nat.le_of_ble_eq_true rfl) dX1_init_14 (fun q2 c2 H hK hP hD hS => ?_)
  have hK : va_K D vwCl [(c1, .byte), (c2, .byte)] s := hK
  have hP : va_P D vwCl [(h0, .inr (0, [.int (zI 0), .ref q1, .int (zI 0), .null, .null, .null, .int (zI 0), .int (zI 0), .null, .null, .null])), (q1, .inl (c1, (5, .inl (zC (fun _ => 0))))), (q2, .inl (c2, (12, .inl (zC (fun j => (((fun _ => 0 : Nat → Nat) j : Nat) : Int))))))] H := hP
  have hD : va_D A [(h0, .inr (0, [.int (zI 0), .ref q1, .int (zI 0), .null, .null, .null, .int (zI 0), .int (zI 0), .null, .null, .null])), (q1, .inl (c1, (5, .inl (zC (fun _ => 0))))), (q2, .inl (c2, (12, .inl (zC (fun j => (((fun _ => 0 : Nat → Nat) j : Nat) : Int))))))] := hD
  refine W.widen (k := 2) (n := 17) (Nat.le_refl _) (Nat.le_refl _) ?_
  refine va_putF (D := D) (ci := 0) (v := .ref q2) (ty := .array .byte) (C := RX1) (T := TX1) (N := 11) hx hb hts in_X1 tyX1 tyX1_ok nmX1 hown hK hP hD hS 0 rfl rfl 3 (by decide) (hts _ q27) (fun _ h9 => h9) rfl hin rfl (by decide +kernel) rfl rfl (Nat.le_of_ble_eq_true rfl) dX1_init_16 (fun H locs hP hD hS => ?_)
  have hP : va_P D vwCl [(h0, .inr (0, [.int (zI 0), .ref q1, .int (zI 0), .ref q2, .null, .null, .int (zI 0), .int (zI 0), .null, .null, .null])), (q1, .inl (c1, (5, .inl (zC (fun _ => 0))))), (q2, .inl (c2, (12, .inl (zC (fun j => (((fun _ => 0 : Nat → Nat) j : Nat) : Int))))))] H := hP
  have hD : va_D A [(h0, .inr (0, [.int (zI 0), .ref q1, .int (zI 0), .ref q2, .null, .null, .int (zI 0), .int (zI 0), .null, .null, .null])), (q1, .inl (c1, (5, .inl (zC (fun _ => 0))))), (q2, .inl (c2, (12, .inl (zC (fun j => (((fun _ => 0 : Nat → Nat) j : Nat) : Int))))))] := hD
  refine lv_aload_n hx hb dX1_init_19 rfl (lv_at hl 0 rfl) ?_
  refine lv_bipush (v := zI 12) hx hb dX1_init_20 (by decide) ?_
  refine va_newa (atype := .byte) (ty := .byte) (N' := 12) (a0 := (12, .inl (zC (fun j => (((fun _ => 0 : Nat → Nat) j : Nat) : Int))))) hx hb (hts _ q58) rfl hK hP hD hS hA (fun _ => rfl) (by decide) rfl (by decide) (Nat.le_of_ble_eq_true rfl) (Nat.le_of_ble_eq_true rfl) dX1_init_22 (fun q3 c3 H hK hP hD hS => ?_)
  have hK : va_K D vwCl [(c1, .byte), (c2, .byte), (c3, .byte)] s := hK
  have hP : va_P D vwCl [(h0, .inr (0, [.int (zI 0), .ref q1, .int (zI 0), .ref q2, .null, .null, .int (zI 0), .int (zI 0), .null, .null, .null])), (q1, .inl (c1, (5, .inl (zC (fun _ => 0))))), (q2, .inl (c2, (12, .inl (zC (fun j => (((fun _ => 0 : Nat → Nat) j : Nat) : Int)))))), (q3, .inl (c3, (12, .inl (zC (fun j => (((fun _ => 0 : Nat → Nat) j : Nat) : Int))))))] H := hP
  have hD : va_D A [(h0, .inr (0, [.int (zI 0), .ref q1, .int (zI 0), .ref q2, .null, .null, .int (zI 0), .int (zI 0), .null, .null, .null])), (q1, .inl (c1, (5, .inl (zC (fun _ => 0))))), (q2, .inl (c2, (12, .inl (zC (fun j => (((fun _ => 0 : Nat → Nat) j : Nat) : Int)))))), (q3, .inl (c3, (12, .inl (zC (fun j => (((fun _ => 0 : Nat → Nat) j : Nat) : Int))))))] := hD
  refine W.widen (k := 3) (n := 29) (Nat.le_refl _) (Nat.le_refl _) ?_
  refine va_putF (D := D) (ci := 0) (v := .ref q3) (ty := .array .byte) (C := RX1) (T := TX1) (N := 11) hx hb hts in_X1 tyX1 tyX1_ok nmX1 hown hK hP hD hS 0 rfl rfl 4 (by decide) (hts _ q28) (fun _ h9 => h9) rfl hin rfl (by decide +kernel) rfl rfl (Nat.le_of_ble_eq_true rfl) dX1_init_24 (fun H locs hP hD hS => ?_)
  have hP : va_P D vwCl [(h0, .inr (0, [.int (zI 0), .ref q1, .int (zI 0), .ref q2, .ref q3, .null, .int (zI 0), .int (zI 0), .null, .null, .null])), (q1, .inl (c1, (5, .inl (zC (fun _ => 0))))), (q2, .inl (c2, (12, .inl (zC (fun j => (((fun _ => 0 : Nat → Nat) j : Nat) : Int)))))), (q3, .inl (c3, (12, .inl (zC (fun j => (((fun _ => 0 : Nat → Nat) j : Nat) : Int))))))] H := hP
  have hD : va_D A [(h0, .inr (0, [.int (zI 0), .ref q1, .int (zI 0), .ref q2, .ref q3, .null, .int (zI 0), .int (zI 0), .null, .null, .null])), (q1, .inl (c1, (5, .inl (zC (fun _ => 0))))), (q2, .inl (c2, (12, .inl (zC (fun j => (((fun _ => 0 : Nat → Nat) j : Nat) : Int)))))), (q3, .inl (c3, (12, .inl (zC (fun j => (((fun _ => 0 : Nat → Nat) j : Nat) : Int))))))] := hD
  refine lv_aload_n hx hb dX1_init_27 rfl (lv_at hl 0 rfl) ?_
  refine lv_bipush (v := zI 12) hx hb dX1_init_28 (by decide) ?_
  refine va_newa (atype := .int) (ty := .int) (N' := 12) (a0 := (12, .inl (zC (fun _ => 0)))) hx hb (hts _ q59) rfl hK hP hD hS hA (fun _ => rfl) (by decide) rfl (by decide) (Nat.le_of_ble_eq_true rfl) (Nat.le_of_ble_eq_true rfl) dX1_init_30 (fun q4 c4 H hK hP hD hS => ?_)
  have hK : va_K D vwCl [(c1, .byte), (c2, .byte), (c3, .byte), (c4, .int)] s := hK
  have hP : va_P D vwCl [(h0, .inr (0, [.int (zI 0), .ref q1, .int (zI 0), .ref q2, .ref q3, .null, .int (zI 0), .int (zI 0), .null, .null, .null])), (q1, .inl (c1, (5, .inl (zC (fun _ => 0))))), (q2, .inl (c2, (12, .inl (zC (fun j => (((fun _ => 0 : Nat → Nat) j : Nat) : Int)))))), (q3, .inl (c3, (12, .inl (zC (fun j => (((fun _ => 0 : Nat → Nat) j : Nat) : Int)))))), (q4, .inl (c4, (12, .inl (zC (fun _ => 0)))))] H := hP
  have hD : va_D A [(h0, .inr (0, [.int (zI 0), .ref q1, .int (zI 0), .ref q2, .ref q3, .null, .int (zI 0), .int (zI 0), .null, .null, .null])), (q1, .inl (c1, (5, .inl (zC (fun _ => 0))))), (q2, .inl (c2, (12, .inl (zC (fun j => (((fun _ => 0 : Nat → Nat) j : Nat) : Int)))))), (q3, .inl (c3, (12, .inl (zC (fun j => (((fun _ => 0 : Nat → Nat) j : Nat) : Int)))))), (q4, .inl (c4, (12, .inl (zC (fun _ => 0)))))] := hD
  refine W.widen (k := 4) (n := 41) (Nat.le_refl _) (Nat.le_refl _) ?_
  refine va_putF (D := D) (ci := 0) (v := .ref q4) (ty := .array .int) (C := RX1) (T := TX1) (N := 11) hx hb hts in_X1 tyX1 tyX1_ok nmX1 hown hK hP hD hS 0 rfl rfl 5 (by decide) (hts _ q29) (fun _ h9 => h9) rfl hin rfl (by decide +kernel) rfl rfl (Nat.le_of_ble_eq_true rfl) dX1_init_32 (fun H locs hP hD hS => ?_)
  have hP : va_P D vwCl [(h0, .inr (0, [.int (zI 0), .ref q1, .int (zI 0), .ref q2, .ref q3, .ref q4, .int (zI 0), .int (zI 0), .null, .null, .null])), (q1, .inl (c1, (5, .inl (zC (fun _ => 0))))), (q2, .inl (c2, (12, .inl (zC (fun j => (((fun _ => 0 : Nat → Nat) j : Nat) : Int)))))), (q3, .inl (c3, (12, .inl (zC (fun j => (((fun _ => 0 : Nat → Nat) j : Nat) : Int)))))), (q4, .inl (c4, (12, .inl (zC (fun _ => 0)))))] H := hP
  have hD : va_D A [(h0, .inr (0, [.int (zI 0), .ref q1, .int (zI 0), .ref q2, .ref q3, .ref q4, .int (zI 0), .int (zI 0), .null, .null, .null])), (q1, .inl (c1, (5, .inl (zC (fun _ => 0))))), (q2, .inl (c2, (12, .inl (zC (fun j => (((fun _ => 0 : Nat → Nat) j : Nat) : Int)))))), (q3, .inl (c3, (12, .inl (zC (fun j => (((fun _ => 0 : Nat → Nat) j : Nat) : Int)))))), (q4, .inl (c4, (12, .inl (zC (fun _ => 0)))))] := hD
  refine lv_aload_n hx hb dX1_init_35 rfl (lv_at hl 0 rfl) ?_
  refine lv_bipush (v := zI 25) hx hb dX1_init_36 (by decide) ?_
  refine va_newa (atype := .int) (ty := .int) (N' := 25) (a0 := (25, .inl (zC (fun _ => 0)))) hx hb (hts _ q59) rfl hK hP hD hS hA (fun _ => rfl) (by decide) rfl (by decide) (Nat.le_of_ble_eq_true rfl) (Nat.le_of_ble_eq_true rfl) dX1_init_38 (fun q5 c5 H hK hP hD hS => ?_)
  have hK : va_K D vwCl [(c1, .byte), (c2, .byte), (c3, .byte), (c4, .int), (c5, .int)] s := hK
  have hP : va_P D vwCl [(h0, .inr (0, [.int (zI 0), .ref q1, .int (zI 0), .ref q2, .ref q3, .ref q4, .int (zI 0), .int (zI 0), .null, .null, .null])), (q1, .inl (c1, (5, .inl (zC (fun _ => 0))))), (q2, .inl (c2, (12, .inl (zC (fun j => (((fun _ => 0 : Nat → Nat) j : Nat) : Int)))))), (q3, .inl (c3, (12, .inl (zC (fun j => (((fun _ => 0 : Nat → Nat) j : Nat) : Int)))))), (q4, .inl (c4, (12, .inl (zC (fun _ => 0))))), (q5, .inl (c5, (25, .inl (zC (fun _ => 0)))))] H := hP
  have hD : va_D A [(h0, .inr (0, [.int (zI 0), .ref q1, .int (zI 0), .ref q2, .ref q3, .ref q4, .int (zI 0), .int (zI 0), .null, .null, .null])), (q1, .inl (c1, (5, .inl (zC (fun _ => 0))))), (q2, .inl (c2, (12, .inl (zC (fun j => (((fun _ => 0 : Nat → Nat) j : Nat) : Int)))))), (q3, .inl (c3, (12, .inl (zC (fun j => (((fun _ => 0 : Nat → Nat) j : Nat) : Int)))))), (q4, .inl (c4, (12, .inl (zC (fun _ => 0))))), (q5, .inl (c5, (25, .inl (zC (fun _ => 0)))))] := hD
  refine W.widen (k := 5) (n := 66) (Nat.le_refl _) (Nat.le_refl _) ?_
  refine va_putF (D := D) (ci := 0) (v := .ref q5) (ty := .array .int) (C := RX1) (T := TX1) (N := 11) hx hb hts in_X1 tyX1 tyX1_ok nmX1 hown hK hP hD hS 0 rfl rfl 8 (by decide) (hts _ q32) (fun _ h9 => h9) rfl hin rfl (by decide +kernel) rfl rfl (Nat.le_of_ble_eq_true rfl) dX1_init_40 (fun H locs hP hD hS => ?_)
  have hP : va_P D vwCl [(h0, .inr (0, [.int (zI 0), .ref q1, .int (zI 0), .ref q2, .ref q3, .ref q4, .int (zI 0), .int (zI 0), .ref q5, .null, .null])), (q1, .inl (c1, (5, .inl (zC (fun _ => 0))))), (q2, .inl (c2, (12, .inl (zC (fun j => (((fun _ => 0 : Nat → Nat) j : Nat) : Int)))))), (q3, .inl (c3, (12, .inl (zC (fun j => (((fun _ => 0 : Nat → Nat) j : Nat) : Int)))))), (q4, .inl (c4, (12, .inl (zC (fun _ => 0))))), (q5, .inl (c5, (25, .inl (zC (fun _ => 0)))))] H := hP
  have hD : va_D A [(h0, .inr (0, [.int (zI 0), .ref q1, .int (zI 0), .ref q2, .ref q3, .ref q4, .int (zI 0), .int (zI 0), .ref q5, .null, .null])), (q1, .inl (c1, (5, .inl (zC (fun _ => 0))))), (q2, .inl (c2, (12, .inl (zC (fun j => (((fun _ => 0 : Nat → Nat) j : Nat) : Int)))))), (q3, .inl (c3, (12, .inl (zC (fun j => (((fun _ => 0 : Nat → Nat) j : Nat) : Int)))))), (q4, .inl (c4, (12, .inl (zC (fun _ => 0))))), (q5, .inl (c5, (25, .inl (zC (fun _ => 0)))))] := hD
  refine lv_aload_n hx hb dX1_init_43 rfl (lv_at hl 0 rfl) ?_
  refine lv_bipush (v := zI 25) hx hb dX1_init_44 (by decide) ?_
  refine va_newa (atype := .int) (ty := .int) (N' := 25) (a0 := (25, .inl (zC (fun _ => 0)))) hx hb (hts _ q59) rfl hK hP hD hS hA (fun _ => rfl) (by decide) rfl (by decide) (Nat.le_of_ble_eq_true rfl) (Nat.le_of_ble_eq_true rfl) dX1_init_46 (fun q6 c6 H hK hP hD hS => ?_)
  have hK : va_K D vwCl [(c1, .byte), (c2, .byte), (c3, .byte), (c4, .int), (c5, .int), (c6, .int)] s := hK
  have hP : va_P D vwCl [(h0, .inr (0, [.int (zI 0), .ref q1, .int (zI 0), .ref q2, .ref q3, .ref q4, .int (zI 0), .int (zI 0), .ref q5, .null, .null])), (q1, .inl (c1, (5, .inl (zC (fun _ => 0))))), (q2, .inl (c2, (12, .inl (zC (fun j => (((fun _ => 0 : Nat → Nat) j : Nat) : Int)))))), (q3, .inl (c3, (12, .inl (zC (fun j => (((fun _ => 0 : Nat → Nat) j : Nat) : Int)))))), (q4, .inl (c4, (12, .inl (zC (fun _ => 0))))), (q5, .inl (c5, (25, .inl (zC (fun _ => 0))))), (q6, .inl (c6, (25, .inl (zC (fun _ => 0)))))] H := hP
  have hD : va_D A [(h0, .inr (0, [.int (zI 0), .ref q1, .int (zI 0), .ref q2, .ref q3, .ref q4, .int (zI 0), .int (zI 0), .ref q5, .null, .null])), (q1, .inl (c1, (5, .inl (zC (fun _ => 0))))), (q2, .inl (c2, (12, .inl (zC (fun j => (((fun _ => 0 : Nat → Nat) j : Nat) : Int)))))), (q3, .inl (c3, (12, .inl (zC (fun j => (((fun _ => 0 : Nat → Nat) j : Nat) : Int)))))), (q4, .inl (c4, (12, .inl (zC (fun _ => 0))))), (q5, .inl (c5, (25, .inl (zC (fun _ => 0))))), (q6, .inl (c6, (25, .inl (zC (fun _ => 0)))))] := hD
  refine W.widen (k := 6) (n := 91) (Nat.le_refl _) (Nat.le_refl _) ?_
  refine va_putF (D := D) (ci := 0) (v := .ref q6) (ty := .array .int) (C := RX1) (T := TX1) (N := 11) hx hb hts in_X1 tyX1 tyX1_ok nmX1 hown hK hP hD hS 0 rfl rfl 9 (by decide) (hts _ q33) (fun _ h9 => h9) rfl hin rfl (by decide +kernel) rfl rfl (Nat.le_of_ble_eq_true rfl) dX1_init_48 (fun H locs hP hD hS => ?_)
  have hP : va_P D vwCl [(h0, .inr (0, [.int (zI 0), .ref q1, .int (zI 0), .ref q2, .ref q3, .ref q4, .int (zI 0), .int (zI 0), .ref q5, .ref q6, .null])), (q1, .inl (c1, (5, .inl (zC (fun _ => 0))))), (q2, .inl (c2, (12, .inl (zC (fun j => (((fun _ => 0 : Nat → Nat) j : Nat) : Int)))))), (q3, .inl (c3, (12, .inl (zC (fun j => (((fun _ => 0 : Nat → Nat) j : Nat) : Int)))))), (q4, .inl (c4, (12, .inl (zC (fun _ => 0))))), (q5, .inl (c5, (25, .inl (zC (fun _ => 0))))), (q6, .inl (c6, (25, .inl (zC (fun _ => 0)))))] H := hP
  have hD : va_D A [(h0, .inr (0, [.int (zI 0), .ref q1, .int (zI 0), .ref q2, .ref q3, .ref q4, .int (zI 0), .int (zI 0), .ref q5, .ref q6, .null])), (q1, .inl (c1, (5, .inl (zC (fun _ => 0))))), (q2, .inl (c2, (12, .inl (zC (fun j => (((fun _ => 0 : Nat → Nat) j : Nat) : Int)))))), (q3, .inl (c3, (12, .inl (zC (fun j => (((fun _ => 0 : Nat → Nat) j : Nat) : Int)))))), (q4, .inl (c4, (12, .inl (zC (fun _ => 0))))), (q5, .inl (c5, (25, .inl (zC (fun _ => 0))))), (q6, .inl (c6, (25, .inl (zC (fun _ => 0)))))] := hD
  refine lv_aload_n hx hb dX1_init_51 rfl (lv_at hl 0 rfl) ?_
  refine lv_iconst (v := zI 5) hx hb dX1_init_52 rfl ?_
  refine va_newa (atype := .int) (ty := .int) (N' := 5) (a0 := (5, .inl (zC (fun _ => 0)))) hx hb (hts _ q59) rfl hK hP hD hS hA (fun _ => rfl) (by decide) rfl (by decide) (Nat.le_of_ble_eq_true rfl) (Nat.le_of_ble_eq_true rfl) dX1_init_53 (fun q7 c7 H hK hP hD hS => ?_)
  have hK : va_K D vwCl [(c1, .byte), (c2, .byte), (c3, .byte), (c4, .int), (c5, .int), (c6, .int), (c7, .int)] s := hK
  have hP : va_P D vwCl [(h0, .inr (0, [.int (zI 0), .ref q1, .int (zI 0), .ref q2, .ref q3, .ref q4, .int (zI 0), .int (zI 0), .ref q5, .ref q6, .null])), (q1, .inl (c1, (5, .inl (zC (fun _ => 0))))), (q2, .inl (c2, (12, .inl (zC (fun j => (((fun _ => 0 : Nat → Nat) j : Nat) : Int)))))), (q3, .inl (c3, (12, .inl (zC (fun j => (((fun _ => 0 : Nat → Nat) j : Nat) : Int)))))), (q4, .inl (c4, (12, .inl (zC (fun _ => 0))))), (q5, .inl (c5, (25, .inl (zC (fun _ => 0))))), (q6, .inl (c6, (25, .inl (zC (fun _ => 0))))), (q7, .inl (c7, (5, .inl (zC (fun _ => 0)))))] H := hP
  have hD : va_D A [(h0, .inr (0, [.int (zI 0), .ref q1, .int (zI 0), .ref q2, .ref q3, .ref q4, .int (zI 0), .int (zI 0), .ref q5, .ref q6, .null])), (q1, .inl (c1, (5, .inl (zC (fun _ => 0))))), (q2, .inl (c2, (12, .inl (zC (fun j => (((fun _ => 0 : Nat → Nat) j : Nat) : Int)))))), (q3, .inl (c3, (12, .inl (zC (fun j => (((fun _ => 0 : Nat → Nat) j : Nat) : Int)))))), (q4, .inl (c4, (12, .inl (zC (fun _ => 0))))), (q5, .inl (c5, (25, .inl (zC (fun _ => 0))))), (q6, .inl (c6, (25, .inl (zC (fun _ => 0))))), (q7, .inl (c7, (5, .inl (zC (fun _ => 0)))))] := hD
  refine W.widen (k := 7) (n := 96) (Nat.le_refl _) (Nat.le_refl _) ?_
  refine va_putF (D := D) (ci := 0) (v := .ref q7) (ty := .array .int) (C := RX1) (T := TX1) (N := 11) hx hb hts in_X1 tyX1 tyX1_ok nmX1 hown hK hP hD hS 0 rfl rfl 10 (by decide) (hts _ q34) (fun _ h9 => h9) rfl hin rfl (by decide +kernel) rfl rfl (Nat.le_of_ble_eq_true rfl) dX1_init_55 (fun H locs hP hD hS => ?_)
  have hP : va_P D vwCl [(h0, .inr (0, [.int (zI 0), .ref q1, .int (zI 0), .ref q2, .ref q3, .ref q4, .int (zI 0), .int (zI 0), .ref q5, .ref q6, .ref q7])), (q1, .inl (c1, (5, .inl (zC (fun _ => 0))))), (q2, .inl (c2, (12, .inl (zC (fun j => (((fun _ => 0 : Nat → Nat) j : Nat) : Int)))))), (q3, .inl (c3, (12, .inl (zC (fun j => (((fun _ => 0 : Nat → Nat) j : Nat) : Int)))))), (q4, .inl (c4, (12, .inl (zC (fun _ => 0))))), (q5, .inl (c5, (25, .inl (zC (fun _ => 0))))), (q6, .inl (c6, (25, .inl (zC (fun _ => 0))))), (q7, .inl (c7, (5, .inl (zC (fun _ => 0)))))] H := hP
  have hD : va_D A [(h0, .inr (0, [.int (zI 0), .ref q1, .int (zI 0), .ref q2, .ref q3, .ref q4, .int (zI 0), .int (zI 0), .ref q5, .ref q6, .ref q7])), (q1, .inl (c1, (5, .inl (zC (fun _ => 0))))), (q2, .inl (c2, (12, .inl (zC (fun j => (((fun _ => 0 : Nat → Nat) j : Nat) : Int)))))), (q3, .inl (c3, (12, .inl (zC (fun j => (((fun _ => 0 : Nat → Nat) j : Nat) : Int)))))), (q4, .inl (c4, (12, .inl (zC (fun _ => 0))))), (q5, .inl (c5, (25, .inl (zC (fun _ => 0))))), (q6, .inl (c6, (25, .inl (zC (fun _ => 0))))), (q7, .inl (c7, (5, .inl (zC (fun _ => 0)))))] := hD
  refine lv_aload_n hx hb dX1_init_58 rfl (lv_at hl 0 rfl) ?_
  refine lv_iload_n hx hb dX1_init_59 rfl (lv_at hl 1 rfl) ?_
  refine lv_iconst (v := zI 1) hx hb dX1_init_60 rfl ?_
  refine zi_icmp_ge (tgt := 68) hx hb dX1_init_61 (by decide) ⟨by omega, by omega⟩ ⟨by omega, by omega⟩ (fun c1_ => ?_) (fun c1_ => ?_)
  · refine lv_iload_n hx hb dX1_init_68 rfl (lv_at hl 1 rfl) ?_
    refine lv_iconst (v := zI 5) hx hb dX1_init_69 rfl ?_
    refine zi_icmp_le (tgt := 77) hx hb dX1_init_70 (by decide) ⟨by omega, by omega⟩ ⟨by omega, by omega⟩ (fun c2_ => ?_) (fun c2_ => ?_)
    · refine lv_iload_n hx hb dX1_init_77 rfl (lv_at hl 1 rfl) ?_
      refine zi_top (z' := ((rb_nb v : Nat) : Int)) (rb_nb_v (by omega) (by omega)) ?_
      refine va_put (D := D) (ci := 0) (v := .int (zI ((rb_nb v : Nat) : Int))) (ty := .int) (C := RX1) (T := TX1) (N := 11) hx hb hts in_X1 tyX1 tyX1_ok nmX1 hown hK hP hD hS 0 rfl rfl 0 (by decide) (hts _ q24) (fun _ h9 => h9) rfl (by decide +kernel) rfl rfl (Nat.le_of_ble_eq_true rfl) dX1_init_78 (fun H locs hP hD hS => ?_)
      have hP : va_P D vwCl (rb_WC (fun k => if k = 1 then q1 else if k = 2 then q2 else if k = 3 then q3 else if k = 4 then q4 else if k = 5 then q5 else if k = 6 then q6 else if k = 7 then q7 else h0) (fun k => if k = 1 then c1 else if k = 2 then c2 else if k = 3 then c3 else if k = 4 then c4 else if k = 5 then c5 else if k = 6 then c6 else c7) (rb_nb v) 0 (fun _ => 0) (fun _ => 0) (fun _ => 0) (fun _ => 0) 0 0 (fun _ => 0) (fun _ => 0) (fun _ => 0)) H := hP
      have hD : va_D A (rb_WC (fun k => if k = 1 then q1 else if k = 2 then q2 else if k = 3 then q3 else if k = 4 then q4 else if k = 5 then q5 else if k = 6 then q6 else if k = 7 then q7 else h0) (fun k => if k = 1 then c1 else if k = 2 then c2 else if k = 3 then c3 else if k = 4 then c4 else if k = 5 then c5 else if k = 6 then c6 else c7) (rb_nb v) 0 (fun _ => 0) (fun _ => 0) (fun _ => 0) (fun _ => 0) 0 0 (fun _ => 0) (fun _ => 0) (fun _ => 0)) := hD
      have hK : va_K D vwCl (rb_TC (fun k => if k = 1 then c1 else if k = 2 then c2 else if k = 3 then c3 else if k = 4 then c4 else if k = 5 then c5 else if k = 6 then c6 else c7)) s := hK
      exact W.vret hx hb hr (fun t ht hW => ⟨⟨(fun k => if k = 1 then q1 else if k = 2 then q2 else if k = 3 then q3 else if k = 4 then q4 else if k = 5 then q5 else if k = 6 then q6 else if k = 7 then q7 else h0, fun k => if k = 1 then c1 else if k = 2 then c2 else if k = 3 then c3 else if k = 4 then c4 else if k = 5 then c5 else if k = 6 then c6 else c7), rfl, rfl, by rw [ht]; exact hP, va_K.moved hW.alike hK, hD⟩, hS.F ht⟩) hS.2.2 dX1_init_81
    · refine lv_iconst (v := zI 5) hx hb dX1_init_73 rfl ?_
      refine lv_goto (tgt := 78) hx hb dX1_init_74 (by decide) ?_
      refine zi_top (z' := ((rb_nb v : Nat) : Int)) (rb_nb_5 (by omega) (by omega)) ?_
      refine va_put (D := D) (ci := 0) (v := .int (zI ((rb_nb v : Nat) : Int))) (ty := .int) (C := RX1) (T := TX1) (N := 11) hx hb hts in_X1 tyX1 tyX1_ok nmX1 hown hK hP hD hS 0 rfl rfl 0 (by decide) (hts _ q24) (fun _ h9 => h9) rfl (by decide +kernel) rfl rfl (Nat.le_of_ble_eq_true rfl) dX1_init_78 (fun H locs hP hD hS => ?_)
      have hP : va_P D vwCl (rb_WC (fun k => if k = 1 then q1 else if k = 2 then q2 else if k = 3 then q3 else if k = 4 then q4 else if k = 5 then q5 else if k = 6 then q6 else if k = 7 then q7 else h0) (fun k => if k = 1 then c1 else if k = 2 then c2 else if k = 3 then c3 else if k = 4 then c4 else if k = 5 then c5 else if k = 6 then c6 else c7) (rb_nb v) 0 (fun _ => 0) (fun _ => 0) (fun _ => 0) (fun _ => 0) 0 0 (fun _ => 0) (fun _ => 0) (fun _ => 0)) H := hP
      have hD : va_D A (rb_WC (fun k => if k = 1 then q1 else if k = 2 then q2 else if k = 3 then q3 else if k = 4 then q4 else if k = 5 then q5 else if k = 6 then q6 else if k = 7 then q7 else h0) (fun k => if k = 1 then c1 else if k = 2 then c2 else if k = 3 then c3 else if k = 4 then c4 else if k = 5 then c5 else if k = 6 then c6 else c7) (rb_nb v) 0 (fun _ => 0) (fun _ => 0) (fun _ => 0) (fun _ => 0) 0 0 (fun _ => 0) (fun _ => 0) (fun _ => 0)) := hD
      have hK : va_K D vwCl (rb_TC (fun k => if k = 1 then c1 else if k = 2 then c2 else if k = 3 then c3 else if k = 4 then c4 else if k = 5 then c5 else if k = 6 then c6 else c7)) s := hK
      exact W.vret hx hb hr (fun t ht hW => ⟨⟨(fun k => if k = 1 then q1 else if k = 2 then q2 else if k = 3 then q3 else if k = 4 then q4 else if k = 5 then q5 else if k = 6 then q6 else if k = 7 then q7 else h0, fun k => if k = 1 then c1 else if k = 2 then c2 else if k = 3 then c3 else if k = 4 then c4 else if k = 5 then c5 else if k = 6 then c6 else c7), rfl, rfl, by rw [ht]; exact hP, va_K.moved hW.alike hK, hD⟩, hS.F ht⟩) hS.2.2 dX1_init_81
  · refine lv_iconst (v := zI 1) hx hb dX1_init_64 rfl ?_
    refine lv_goto (tgt := 78) hx hb dX1_init_65 (by decide) ?_
    refine zi_top (z' := ((rb_nb v : Nat) : Int)) (rb_nb_1 (by omega)) ?_
    refine va_put (D := D) (ci := 0) (v := .int (zI ((rb_nb v : Nat) : Int))) (ty := .int) (C := RX1) (T := TX1) (N := 11) hx hb hts in_X1 tyX1 tyX1_ok nmX1 hown hK hP hD hS 0 rfl rfl 0 (by decide) (hts _ q24) (fun _ h9 => h9) rfl (by decide +kernel) rfl rfl (Nat.le_of_ble_eq_true rfl) dX1_init_78 (fun H locs hP hD hS => ?_)
    have hP : va_P D vwCl (rb_WC (fun k => if k = 1 then q1 else if k = 2 then q2 else if k = 3 then q3 else if k = 4 then q4 else if k = 5 then q5 else if k = 6 then q6 else if k = 7 then q7 else h0) (fun k => if k = 1 then c1 else if k = 2 then c2 else if k = 3 then c3 else if k = 4 then c4 else if k = 5 then c5 else if k = 6 then c6 else c7) (rb_nb v) 0 (fun _ => 0) (fun _ => 0) (fun _ => 0) (fun _ => 0) 0 0 (fun _ => 0) (fun _ => 0) (fun _ => 0)) H := hP
    have hD : va_D A (rb_WC (fun k => if k = 1 then q1 else if k = 2 then q2 else if k = 3 then q3 else if k = 4 then q4 else if k = 5 then q5 else if k = 6 then q6 else if k = 7 then q7 else h0) (fun k => if k = 1 then c1 else if k = 2 then c2 else if k = 3 then c3 else if k = 4 then c4 else if k = 5 then c5 else if k = 6 then c6 else c7) (rb_nb v) 0 (fun _ => 0) (fun _ => 0) (fun _ => 0) (fun _ => 0) 0 0 (fun _ => 0) (fun _ => 0) (fun _ => 0)) := hD
    have hK : va_K D vwCl (rb_TC (fun k => if k = 1 then c1 else if k = 2 then c2 else if k = 3 then c3 else if k = 4 then c4 else if k = 5 then c5 else if k = 6 then c6 else c7)) s := hK
    exact W.vret hx hb hr (fun t ht hW => ⟨⟨(fun k => if k = 1 then q1 else if k = 2 then q2 else if k = 3 then q3 else if k = 4 then q4 else if k = 5 then q5 else if k = 6 then q6 else if k = 7 then q7 else h0, fun k => if k = 1 then c1 else if k = 2 then c2 else if k = 3 then c3 else if k = 4 then c4 else if k = 5 then c5 else if k = 6 then c6 else c7), rfl, rfl, by rw [ht]; exact hP, va_K.moved hW.alike hK, hD⟩, hS.F ht⟩) hS.2.2 dX1_init_81
set_option maxHeartbeats 4000000 in
set_option maxRecDepth 100000 in
theorem mM_init (l : Launch) (D : va_G) (h0 : Nat) (sz : Nat) (v : Int) (hv : zin v) : Met l yX2_init (ws_ yX2_init cX2_init 2 none) ({ frames := 1, cells := 8, slots := 81, locals := 12 }) (va_Pc [.ref h0, .int (zI v)] (rb_Pre D [] [(h0, .inr (1, [.int (zI 0), .int (zI 0), .null, .null, .null, .null, .null, .null, .int (zI 0), .int (zI 0), .null, .null]))] sz)) (va_Qv (fun u : (Nat → Nat) × (Nat → ClassId) => u.1 0 = h0) (fun (u : (Nat → Nat) × (Nat → ClassId)) t => va_P D vwCl (rb_WM u.1 u.2 (rb_nb v) 0 (fun _ => 0) (fun _ => 0) (fun _ => 0) (fun _ => 0) (fun _ => 0) (fun _ => 0) 0 0 (fun _ => 0) (fun _ => 0)) t.heap ∧ va_K D vwCl (rb_TM u.2) t ∧ va_D (va_A [(h0, .inr (1, [.int (zI 0), .int (zI 0), .null, .null, .null, .null, .null, .null, .int (zI 0), .int (zI 0), .null, .null]))] sz) (rb_WM u.1 u.2 (rb_nb v) 0 (fun _ => 0) (fun _ => 0) (fun _ => 0) (fun _ => 0) (fun _ => 0) (fun _ => 0) 0 0 (fun _ => 0) (fun _ => 0))) (va_A [(h0, .inr (1, [.int (zI 0), .int (zI 0), .null, .null, .null, .null, .null, .null, .int (zI 0), .int (zI 0), .null, .null]))] sz)) 8 81 (va_A [(h0, .inr (1, [.int (zI 0), .int (zI 0), .null, .null, .null, .null, .null, .null, .int (zI 0), .int (zI 0), .null, .null]))] sz) := by
  refine Met.ofW (cc := cX2_init) (maxL := 2) (ret := none) (by decide) rfl ?_
  intro p e s m args below meth c s₁ B hml hv0
  obtain ⟨rfl, hsz, hP, hK, hD0⟩ := hv0
  have hx := B.exec
  have hb := B.bytes
  have hr := B.returns
  have hts := atoms_spec (ws := ws_ yX2_init cX2_init 2 none) B.pre
  have hts : ∀ w ∈ lw_all, w.before _ s = true := fun w h => hts w (List.mem_cons_of_mem _ h)
  have hown : s.vm.findClass RX2 = some m.cls := findClass_of_methodNamed B.named
  have hlocks := B.notSynchronized
  have hin : meth.name = "<init>" := (name_of_methodNamed B.named B.method).1
  subst hsz
  have hD := hD0.self (sz := s.heap.size)
  generalize hAe : va_A [(h0, .inr (1, [.int (zI 0), .int (zI 0), .null, .null, .null, .null, .null, .null, .int (zI 0), .int (zI 0), .null, .null]))] s.heap.size = A at hD ⊢
  have hA : ∀ q : Nat, s.heap.size ≤ q → A q := fun q h => by rw [← hAe]; exact Or.inr h
  have hS : va_S A s.heap s.heap [] := va_S.rf
  have hP : va_P D vwCl [(h0, .inr (1, [.int (zI 0), .int (zI 0), .null, .null, .null, .null, .null, .null, .int (zI 0), .int (zI 0), .null, .null]))] s.heap := hP
  have hl := lv_entry ([.ref h0, .int (zI v)]) (n := 2) (Nat.le_of_ble_eq_true rfl)
  rw [lg_entry_eq]
  generalize (lg_sl ([.ref h0, .int (zI v)]) ++ List.replicate (2 - (lg_sl ([.ref h0, .int (zI v)])).length) Slot.unset).toArray = ls at hl ⊢
  have hl : lv_has ls 2 [(0, .ref h0), (1, .int (zI v))] := hl
  refine lv_aload_n hx hb dX2_init_0 rfl (lv_at hl 0 rfl) ?_
  refine W.objInit hx hb hown (hts _ q138) (hts _ q22) (hts _ q23) rfl (by rw [hml]; exact hl.1) rfl dX2_init_1 (Nat.le_of_ble_eq_true rfl) (Nat.le_of_ble_eq_true rfl) ?_
  refine W.eq (g2 := F0 m 4 ls []) rfl ?_
  refine lv_aload_n hx hb dX2_init_4 rfl (lv_at hl 0 rfl) ?_
  refine lv_iconst (v := zI 0) hx hb dX2_init_5 rfl ?_
  refine va_put (D := D) (ci := 1) (v := .int (zI 0)) (ty := .int) (C := RX2) (T := TX2) (N := 12) hx hb hts in_X2 tyX2 tyX2_ok nmX2 hown hK hP hD hS 0 rfl rfl 1 (by decide) (hts _ q140) (fun _ h9 => h9) rfl (by decide +kernel) rfl rfl (Nat.le_of_ble_eq_true rfl) dX2_init_6 (fun H locs hP hD hS => ?_)
  have hP : va_P D vwCl [(h0, .inr (1, [.int (zI 0), .int (zI 0), .null, .null, .null, .null, .null, .null, .int (zI 0), .int (zI 0), .null, .null]))] H := hP
  have hD : va_D A [(h0, .inr (1, [.int (zI 0), .int (zI 0), .null, .null, .null, .null, .null, .null, .int (zI 0), .int (zI 0), .null, .null]))] := hD
  refine lv_aload_n hx hb dX2_init_9 rfl (lv_at hl 0 rfl) ?_
  refine lv_iconst (v := zI 5) hx hb dX2_init_10 rfl ?_
  refine va_newa (atype := .int) (ty := .int) (N' := 5) (a0 := (5, .inl (zC (fun _ => 0)))) hx hb (hts _ q59) rfl hK hP hD hS hA (fun _ => rfl) (by decide) rfl (by decide) (Nat.le_of_ble_eq_true rfl) (Nat.le_of_ble_eq_true rfl) dX2_init_11 (fun q1 c1 H hK hP hD hS => ?_)
  have hK : va_K D vwCl [(c1, .int)] s := hK
  have hP : va_P D vwCl [(h0, .inr (1, [.int (zI 0), .int (zI 0), .null, .null, .null, .null, .null, .null, .int (zI 0), .int (zI 0), .null, .null])), (q1, .inl (c1, (5, .inl (zC (fun _ => 0)))))] H := hP
  have hD : va_D A [(h0, .inr (1, [.int (zI 0), .int (zI 0), .null, .null, .null, .null, .null, .null, .int (zI 0), .int (zI 0), .null, .null])), (q1, .inl (c1, (5, .inl (zC (fun _ => 0)))))] := hD
  refine W.widen (k := 1) (n := 5) (Nat.le_refl _) (Nat.le_refl _) ?_
  refine va_put (D := D) (ci := 1) (v := .ref q1) (ty := .array .int) (C := RX2) (T := TX2) (N := 12) hx hb hts in_X2 tyX2 tyX2_ok nmX2 hown hK hP hD hS 0 rfl rfl 2 (by decide) (hts _ q141) (fun _ h9 => h9) rfl (by decide +kernel) rfl rfl (Nat.le_of_ble_eq_true rfl) dX2_init_13 (fun H locs hP hD hS => ?_)
  have hP : va_P D vwCl [(h0, .inr (1, [.int (zI 0), .int (zI 0), .ref q1, .null, .null, .null, .null, .null, .int (zI 0), .int (zI 0), .null, .null])), (q1, .inl (c1, (5, .inl (zC (fun _ => 0)))))] H := hP
  have hD : va_D A [(h0, .inr (1, [.int (zI 0), .int (zI 0), .ref q1, .null, .null, .null, .null, .null, .int (zI 0), .int (zI 0), .null, .null])), (q1, .inl (c1, (5, .inl (zC (fun _ => 0)))))] := hD
  refine lv_aload_n hx hb dX2_init_16 rfl (lv_at hl 0 rfl) ?_
  refine lv_bipush (v := zI 12) hx hb dX2_init_17 (by decide) ?_
  refine va_newa (atype := .int) (ty := .int) (N' := 12) (a0 := (12, .inl (zC (fun j => (((fun _ => 0 : Nat → Nat) j : Nat) : Int))))) hx hb (hts _ q59) rfl hK hP hD hS hA (fun _ => rfl) (by decide) rfl (by decide) (Nat.le_of_ble_eq_true rfl) (Nat.le_of_ble_eq_true rfl) dX2_init_19 (fun q2 c2 H hK hP hD hS => ?_)
  have hK : va_K D vwCl [(c1, .int), (c2, .int)] s := hK
  have hP : va_P D vwCl [(h0, .inr (1, [.int (zI 0), .int (zI 0), .ref q1, .null, .null, .null, .null, .null, .int (zI 0), .int (zI 0), .null, .null])), (q1, .inl (c1, (5, .inl (zC (fun _ => 0))))), (q2, .inl (c2, (12, .inl (zC (fun j => (((fun _ => 0 : Nat → Nat) j : Nat) : Int))))))] H := hP
  have hD : va_D A [(h0, .inr (1, [.int (zI 0), .int (zI 0), .ref q1, .null, .null, .null, .null, .null, .int (zI 0), .int (zI 0), .null, .null])), (q1, .inl (c1, (5, .inl (zC (fun _ => 0))))), (q2, .inl (c2, (12, .inl (zC (fun j => (((fun _ => 0 : Nat → Nat) j : Nat) : Int))))))] := hD
  refine W.widen (k := 2) (n := 17) (Nat.le_refl _) (Nat.le_refl _) ?_
  refine va_put (D := D) (ci := 1) (v := .ref q2) (ty := .array .int) (C := RX2) (T := TX2) (N := 12) hx hb hts in_X2 tyX2 tyX2_ok nmX2 hown hK hP hD hS 0 rfl rfl 3 (by decide) (hts _ q142) (fun _ h9 => h9) rfl (by decide +kernel) rfl rfl (Nat.le_of_ble_eq_true rfl) dX2_init_21 (fun H locs hP hD hS => ?_)
  have hP : va_P D vwCl [(h0, .inr (1, [.int (zI 0), .int (zI 0), .ref q1, .ref q2, .null, .null, .null, .null, .int (zI 0), .int (zI 0), .null, .null])), (q1, .inl (c1, (5, .inl (zC (fun _ => 0))))), (q2, .inl (c2, (12, .inl (zC (fun j => (((fun _ => 0 : Nat → Nat) j : Nat) : Int))))))] H := hP
  have hD : va_D A [(h0, .inr (1, [.int (zI 0), .int (zI 0), .ref q1, .ref q2, .null, .null, .null, .null, .int (zI 0), .int (zI 0), .null, .null])), (q1, .inl (c1, (5, .inl (zC (fun _ => 0))))), (q2, .inl (c2, (12, .inl (zC (fun j => (((fun _ => 0 : Nat → Nat) j : Nat) : Int))))))] := hD
  refine lv_aload_n hx hb dX2_init_24 rfl (lv_at hl 0 rfl) ?_
  refine lv_bipush (v := zI 12) hx hb dX2_init_25 (by decide) ?_
  refine va_newa (atype := .int) (ty := .int) (N' := 12) (a0 := (12, .inl (zC (fun j => (((fun _ => 0 : Nat → Nat) j : Nat) : Int))))) hx hb (hts _ q59) rfl hK hP hD hS hA (fun _ => rfl) (by decide) rfl (by decide) (Nat.le_of_ble_eq_true rfl) (Nat.le_of_ble_eq_true rfl) dX2_init_27 (fun q3 c3 H hK hP hD hS => ?_)
  have hK : va_K D vwCl [(c1, .int), (c2, .int), (c3, .int)] s := hK
  have hP : va_P D vwCl [(h0, .inr (1, [.int (zI 0), .int (zI 0), .ref q1, .ref q2, .null, .null, .null, .null, .int (zI 0), .int (zI 0), .null, .null])), (q1, .inl (c1, (5, .inl (zC (fun _ => 0))))), (q2, .inl (c2, (12, .inl (zC (fun j => (((fun _ => 0 : Nat → Nat) j : Nat) : Int)))))), (q3, .inl (c3, (12, .inl (zC (fun j => (((fun _ => 0 : Nat → Nat) j : Nat) : Int))))))] H := hP
  have hD : va_D A [(h0, .inr (1, [.int (zI 0), .int (zI 0), .ref q1, .ref q2, .null, .null, .null, .null, .int (zI 0), .int (zI 0), .null, .null])), (q1, .inl (c1, (5, .inl (zC (fun _ => 0))))), (q2, .inl (c2, (12, .inl (zC (fun j => (((fun _ => 0 : Nat → Nat) j : Nat) : Int)))))), (q3, .inl (c3, (12, .inl (zC (fun j => (((fun _ => 0 : Nat → Nat) j : Nat) : Int))))))] := hD
  refine W.widen (k := 3) (n := 29) (Nat.le_refl _) (Nat.le_refl _) ?_
  refine va_put (D := D) (ci := 1) (v := .ref q3) (ty := .array .int) (C := RX2) (T := TX2) (N := 12) hx hb hts in_X2 tyX2 tyX2_ok nmX2 hown hK hP hD hS 0 rfl rfl 4 (by decide) (hts _ q143) (fun _ h9 => h9) rfl (by decide +kernel) rfl rfl (Nat.le_of_ble_eq_true rfl) dX2_init_29 (fun H locs hP hD hS => ?_)
  have hP : va_P D vwCl [(h0, .inr (1, [.int (zI 0), .int (zI 0), .ref q1, .ref q2, .ref q3, .null, .null, .null, .int (zI 0), .int (zI 0), .null, .null])), (q1, .inl (c1, (5, .inl (zC (fun _ => 0))))), (q2, .inl (c2, (12, .inl (zC (fun j => (((fun _ => 0 : Nat → Nat) j : Nat) : Int)))))), (q3, .inl (c3, (12, .inl (zC (fun j => (((fun _ => 0 : Nat → Nat) j : Nat) : Int))))))] H := hP
  have hD : va_D A [(h0, .inr (1, [.int (zI 0), .int (zI 0), .ref q1, .ref q2, .ref q3, .null, .null, .null, .int (zI 0), .int (zI 0), .null, .null])), (q1, .inl (c1, (5, .inl (zC (fun _ => 0))))), (q2, .inl (c2, (12, .inl (zC (fun j => (((fun _ => 0 : Nat → Nat) j : Nat) : Int)))))), (q3, .inl (c3, (12, .inl (zC (fun j => (((fun _ => 0 : Nat → Nat) j : Nat) : Int))))))] := hD
  refine lv_aload_n hx hb dX2_init_32 rfl (lv_at hl 0 rfl) ?_
  refine lv_bipush (v := zI 12) hx hb dX2_init_33 (by decide) ?_
  refine va_newa (atype := .int) (ty := .int) (N' := 12) (a0 := (12, .inl (zC (fun _ => 0)))) hx hb (hts _ q59) rfl hK hP hD hS hA (fun _ => rfl) (by decide) rfl (by decide) (Nat.le_of_ble_eq_true rfl) (Nat.le_of_ble_eq_true rfl) dX2_init_35 (fun q4 c4 H hK hP hD hS => ?_)
  have hK : va_K D vwCl [(c1, .int), (c2, .int), (c3, .int), (c4, .int)] s := hK
  have hP : va_P D vwCl [(h0, .inr (1, [.int (zI 0), .int (zI 0), .ref q1, .ref q2, .ref q3, .null, .null, .null, .int (zI 0), .int (zI 0), .null, .null])), (q1, .inl (c1, (5, .inl (zC (fun _ => 0))))), (q2, .inl (c2, (12, .inl (zC (fun j => (((fun _ => 0 : Nat → Nat) j : Nat) : Int)))))), (q3, .inl (c3, (12, .inl (zC (fun j => (((fun _ => 0 : Nat → Nat) j : Nat) : Int)))))), (q4, .inl (c4, (12, .inl (zC (fun _ => 0)))))] H := hP
  have hD : va_D A [(h0, .inr (1, [.int (zI 0), .int (zI 0), .ref q1, .ref q2, .ref q3, .null, .null, .null, .int (zI 0), .int (zI 0), .null, .null])), (q1, .inl (c1, (5, .inl (zC (fun _ => 0))))), (q2, .inl (c2, (12, .inl (zC (fun j => (((fun _ => 0 : Nat → Nat) j : Nat) : Int)))))), (q3, .inl (c3, (12, .inl (zC (fun j => (((fun _ => 0 : Nat → Nat) j : Nat) : Int)))))), (q4, .inl (c4, (12, .inl (zC (fun _ => 0)))))] := hD
  refine W.widen (k := 4) (n := 41) (Nat.le_refl _) (Nat.le_refl _) ?_
  refine va_put (D := D) (ci := 1) (v := .ref q4) (ty := .array .int) (C := RX2) (T := TX2) (N := 12) hx hb hts in_X2 tyX2 tyX2_ok nmX2 hown hK hP hD hS 0 rfl rfl 5 (by decide) (hts _ q144) (fun _ h9 => h9) rfl (by decide +kernel) rfl rfl (Nat.le_of_ble_eq_true rfl) dX2_init_37 (fun H locs hP hD hS => ?_)
  have hP : va_P D vwCl [(h0, .inr (1, [.int (zI 0), .int (zI 0), .ref q1, .ref q2, .ref q3, .ref q4, .null, .null, .int (zI 0), .int (zI 0), .null, .null])), (q1, .inl (c1, (5, .inl (zC (fun _ => 0))))), (q2, .inl (c2, (12, .inl (zC (fun j => (((fun _ => 0 : Nat → Nat) j : Nat) : Int)))))), (q3, .inl (c3, (12, .inl (zC (fun j => (((fun _ => 0 : Nat → Nat) j : Nat) : Int)))))), (q4, .inl (c4, (12, .inl (zC (fun _ => 0)))))] H := hP
  have hD : va_D A [(h0, .inr (1, [.int (zI 0), .int (zI 0), .ref q1, .ref q2, .ref q3, .ref q4, .null, .null, .int (zI 0), .int (zI 0), .null, .null])), (q1, .inl (c1, (5, .inl (zC (fun _ => 0))))), (q2, .inl (c2, (12, .inl (zC (fun j => (((fun _ => 0 : Nat → Nat) j : Nat) : Int)))))), (q3, .inl (c3, (12, .inl (zC (fun j => (((fun _ => 0 : Nat → Nat) j : Nat) : Int)))))), (q4, .inl (c4, (12, .inl (zC (fun _ => 0)))))] := hD
  refine lv_aload_n hx hb dX2_init_40 rfl (lv_at hl 0 rfl) ?_
  refine lv_iconst (v := zI 5) hx hb dX2_init_41 rfl ?_
  refine va_newa (atype := .int) (ty := .int) (N' := 5) (a0 := (5, .inl (zC (fun _ => 0)))) hx hb (hts _ q59) rfl hK hP hD hS hA (fun _ => rfl) (by decide) rfl (by decide) (Nat.le_of_ble_eq_true rfl) (Nat.le_of_ble_eq_true rfl) dX2_init_42 (fun q5 c5 H hK hP hD hS => ?_)
  have hK : va_K D vwCl [(c1, .int), (c2, .int), (c3, .int), (c4, .int), (c5, .int)] s := hK
  have hP : va_P D vwCl [(h0, .inr (1, [.int (zI 0), .int (zI 0), .ref q1, .ref q2, .ref q3, .ref q4, .null, .null, .int (zI 0), .int (zI 0), .null, .null])), (q1, .inl (c1, (5, .inl (zC (fun _ => 0))))), (q2, .inl (c2, (12, .inl (zC (fun j => (((fun _ => 0 : Nat → Nat) j : Nat) : Int)))))), (q3, .inl (c3, (12, .inl (zC (fun j => (((fun _ => 0 : Nat → Nat) j : Nat) : Int)))))), (q4, .inl (c4, (12, .inl (zC (fun _ => 0))))), (q5, .inl (c5, (5, .inl (zC (fun _ => 0)))))] H := hP
  have hD : va_D A [(h0, .inr (1, [.int (zI 0), .int (zI 0), .ref q1, .ref q2, .ref q3, .ref q4, .null, .null, .int (zI 0), .int (zI 0), .null, .null])), (q1, .inl (c1, (5, .inl (zC (fun _ => 0))))), (q2, .inl (c2, (12, .inl (zC (fun j => (((fun _ => 0 : Nat → Nat) j : Nat) : Int)))))), (q3, .inl (c3, (12, .inl (zC (fun j => (((fun _ => 0 : Nat → Nat) j : Nat) : Int)))))), (q4, .inl (c4, (12, .inl (zC (fun _ => 0))))), (q5, .inl (c5, (5, .inl (zC (fun _ => 0)))))] := hD
  refine W.widen (k := 5) (n := 46) (Nat.le_refl _) (Nat.le_refl _) ?_
  refine va_put (D := D) (ci := 1) (v := .ref q5) (ty := .array .int) (C := RX2) (T := TX2) (N := 12) hx hb hts in_X2 tyX2 tyX2_ok nmX2 hown hK hP hD hS 0 rfl rfl 6 (by decide) (hts _ q145) (fun _ h9 => h9) rfl (by decide +kernel) rfl rfl (Nat.le_of_ble_eq_true rfl) dX2_init_44 (fun H locs hP hD hS => ?_)
  have hP : va_P D vwCl [(h0, .inr (1, [.int (zI 0), .int (zI 0), .ref q1, .ref q2, .ref q3, .ref q4, .ref q5, .null, .int (zI 0), .int (zI 0), .null, .null])), (q1, .inl (c1, (5, .inl (zC (fun _ => 0))))), (q2, .inl (c2, (12, .inl (zC (fun j => (((fun _ => 0 : Nat → Nat) j : Nat) : Int)))))), (q3, .inl (c3, (12, .inl (zC (fun j => (((fun _ => 0 : Nat → Nat) j : Nat) : Int)))))), (q4, .inl (c4, (12, .inl (zC (fun _ => 0))))), (q5, .inl (c5, (5, .inl (zC (fun _ => 0)))))] H := hP
  have hD : va_D A [(h0, .inr (1, [.int (zI 0), .int (zI 0), .ref q1, .ref q2, .ref q3, .ref q4, .ref q5, .null, .int (zI 0), .int (zI 0), .null, .null])), (q1, .inl (c1, (5, .inl (zC (fun _ => 0))))), (q2, .inl (c2, (12, .inl (zC (fun j => (((fun _ => 0 : Nat → Nat) j : Nat) : Int)))))), (q3, .inl (c3, (12, .inl (zC (fun j => (((fun _ => 0 : Nat → Nat) j : Nat) : Int)))))), (q4, .inl (c4, (12, .inl (zC (fun _ => 0))))), (q5, .inl (c5, (5, .inl (zC (fun _ => 0)))))] := hD
  refine lv_aload_n hx hb dX2_init_47 rfl (lv_at hl 0 rfl) ?_
  refine lv_iconst (v := zI 5) hx hb dX2_init_48 rfl ?_
  refine va_newa (atype := .int) (ty := .int) (N' := 5) (a0 := (5, .inl (zC (fun _ => 0)))) hx hb (hts _ q59) rfl hK hP hD hS hA (fun _ => rfl) (by decide) rfl (by decide) (Nat.le_of_ble_eq_true rfl) (Nat.le_of_ble_eq_true rfl) dX2_init_49 (fun q6 c6 H hK hP hD hS => ?_)
  have hK : va_K D vwCl [(c1, .int), (c2, .int), (c3, .int), (c4, .int), (c5, .int), (c6, .int)] s := hK
  have hP : va_P D vwCl [(h0, .inr (1, [.int (zI 0), .int (zI 0), .ref q1, .ref q2, .ref q3, .ref q4, .ref q5, .null, .int (zI 0), .int (zI 0), .null, .null])), (q1, .inl (c1, (5, .inl (zC (fun _ => 0))))), (q2, .inl (c2, (12, .inl (zC (fun j => (((fun _ => 0 : Nat → Nat) j : Nat) : Int)))))), (q3, .inl (c3, (12, .inl (zC (fun j => (((fun _ => 0 : Nat → Nat) j : Nat) : Int)))))), (q4, .inl (c4, (12, .inl (zC (fun _ => 0))))), (q5, .inl (c5, (5, .inl (zC (fun _ => 0))))), (q6, .inl (c6, (5, .inl (zC (fun _ => 0)))))] H := hP
  have hD : va_D A [(h0, .inr (1, [.int (zI 0), .int (zI 0), .ref q1, .ref q2, .ref q3, .ref q4, .ref q5, .null, .int (zI 0), .int (zI 0), .null, .null])), (q1, .inl (c1, (5, .inl (zC (fun _ => 0))))), (q2, .inl (c2, (12, .inl (zC (fun j => (((fun _ => 0 : Nat → Nat) j : Nat) : Int)))))), (q3, .inl (c3, (12, .inl (zC (fun j => (((fun _ => 0 : Nat → Nat) j : Nat) : Int)))))), (q4, .inl (c4, (12, .inl (zC (fun _ => 0))))), (q5, .inl (c5, (5, .inl (zC (fun _ => 0))))), (q6, .inl (c6, (5, .inl (zC (fun _ => 0)))))] := hD
  refine W.widen (k := 6) (n := 51) (Nat.le_refl _) (Nat.le_refl _) ?_
  refine va_put (D := D) (ci := 1) (v := .ref q6) (ty := .array .int) (C := RX2) (T := TX2) (N := 12) hx hb hts in_X2 tyX2 tyX2_ok nmX2 hown hK hP hD hS 0 rfl rfl 7 (by decide) (hts _ q146) (fun _ h9 => h9) rfl (by decide +kernel) rfl rfl (Nat.le_of_ble_eq_true rfl) dX2_init_51 (fun H locs hP hD hS => ?_)
  have hP : va_P D vwCl [(h0, .inr (1, [.int (zI 0), .int (zI 0), .ref q1, .ref q2, .ref q3, .ref q4, .ref q5, .ref q6, .int (zI 0), .int (zI 0), .null, .null])), (q1, .inl (c1, (5, .inl (zC (fun _ => 0))))), (q2, .inl (c2, (12, .inl (zC (fun j => (((fun _ => 0 : Nat → Nat) j : Nat) : Int)))))), (q3, .inl (c3, (12, .inl (zC (fun j => (((fun _ => 0 : Nat → Nat) j : Nat) : Int)))))), (q4, .inl (c4, (12, .inl (zC (fun _ => 0))))), (q5, .inl (c5, (5, .inl (zC (fun _ => 0))))), (q6, .inl (c6, (5, .inl (zC (fun _ => 0)))))] H := hP
  have hD : va_D A [(h0, .inr (1, [.int (zI 0), .int (zI 0), .ref q1, .ref q2, .ref q3, .ref q4, .ref q5, .ref q6, .int (zI 0), .int (zI 0), .null, .null])), (q1, .inl (c1, (5, .inl (zC (fun _ => 0))))), (q2, .inl (c2, (12, .inl (zC (fun j => (((fun _ => 0 : Nat → Nat) j : Nat) : Int)))))), (q3, .inl (c3, (12, .inl (zC (fun j => (((fun _ => 0 : Nat → Nat) j : Nat) : Int)))))), (q4, .inl (c4, (12, .inl (zC (fun _ => 0))))), (q5, .inl (c5, (5, .inl (zC (fun _ => 0))))), (q6, .inl (c6, (5, .inl (zC (fun _ => 0)))))] := hD
  refine lv_aload_n hx hb dX2_init_54 rfl (lv_at hl 0 rfl) ?_
  refine lv_iconst (v := zI 0) hx hb dX2_init_55 rfl ?_
  refine va_put (D := D) (ci := 1) (v := .int (zI 0)) (ty := .boolean) (C := RX2) (T := TX2) (N := 12) hx hb hts in_X2 tyX2 tyX2_ok nmX2 hown hK hP hD hS 0 rfl rfl 8 (by decide) (hts _ q147) (fun _ h9 => h9) rfl (by decide +kernel) rfl rfl (Nat.le_of_ble_eq_true rfl) dX2_init_56 (fun H locs hP hD hS => ?_)
  have hP : va_P D vwCl [(h0, .inr (1, [.int (zI 0), .int (zI 0), .ref q1, .ref q2, .ref q3, .ref q4, .ref q5, .ref q6, .int (zI 0), .int (zI 0), .null, .null])), (q1, .inl (c1, (5, .inl (zC (fun _ => 0))))), (q2, .inl (c2, (12, .inl (zC (fun j => (((fun _ => 0 : Nat → Nat) j : Nat) : Int)))))), (q3, .inl (c3, (12, .inl (zC (fun j => (((fun _ => 0 : Nat → Nat) j : Nat) : Int)))))), (q4, .inl (c4, (12, .inl (zC (fun _ => 0))))), (q5, .inl (c5, (5, .inl (zC (fun _ => 0))))), (q6, .inl (c6, (5, .inl (zC (fun _ => 0)))))] H := hP
  have hD : va_D A [(h0, .inr (1, [.int (zI 0), .int (zI 0), .ref q1, .ref q2, .ref q3, .ref q4, .ref q5, .ref q6, .int (zI 0), .int (zI 0), .null, .null])), (q1, .inl (c1, (5, .inl (zC (fun _ => 0))))), (q2, .inl (c2, (12, .inl (zC (fun j => (((fun _ => 0 : Nat → Nat) j : Nat) : Int)))))), (q3, .inl (c3, (12, .inl (zC (fun j => (((fun _ => 0 : Nat → Nat) j : Nat) : Int)))))), (q4, .inl (c4, (12, .inl (zC (fun _ => 0))))), (q5, .inl (c5, (5, .inl (zC (fun _ => 0))))), (q6, .inl (c6, (5, .inl (zC (fun _ => 0)))))] := hD
  refine lv_aload_n hx hb dX2_init_59 rfl (lv_at hl 0 rfl) ?_
  refine lv_iconst (v := zI 5) hx hb dX2_init_60 rfl ?_
  refine va_newa (atype := .int) (ty := .int) (N' := 5) (a0 := (5, .inl (zC (fun _ => 0)))) hx hb (hts _ q59) rfl hK hP hD hS hA (fun _ => rfl) (by decide) rfl (by decide) (Nat.le_of_ble_eq_true rfl) (Nat.le_of_ble_eq_true rfl) dX2_init_61 (fun q7 c7 H hK hP hD hS => ?_)
  have hK : va_K D vwCl [(c1, .int), (c2, .int), (c3, .int), (c4, .int), (c5, .int), (c6, .int), (c7, .int)] s := hK
  have hP : va_P D vwCl [(h0, .inr (1, [.int (zI 0), .int (zI 0), .ref q1, .ref q2, .ref q3, .ref q4, .ref q5, .ref q6, .int (zI 0), .int (zI 0), .null, .null])), (q1, .inl (c1, (5, .inl (zC (fun _ => 0))))), (q2, .inl (c2, (12, .inl (zC (fun j => (((fun _ => 0 : Nat → Nat) j : Nat) : Int)))))), (q3, .inl (c3, (12, .inl (zC (fun j => (((fun _ => 0 : Nat → Nat) j : Nat) : Int)))))), (q4, .inl (c4, (12, .inl (zC (fun _ => 0))))), (q5, .inl (c5, (5, .inl (zC (fun _ => 0))))), (q6, .inl (c6, (5, .inl (zC (fun _ => 0))))), (q7, .inl (c7, (5, .inl (zC (fun _ => 0)))))] H := hP
  have hD : va_D A [(h0, .inr (1, [.int (zI 0), .int (zI 0), .ref q1, .ref q2, .ref q3, .ref q4, .ref q5, .ref q6, .int (zI 0), .int (zI 0), .null, .null])), (q1, .inl (c1, (5, .inl (zC (fun _ => 0))))), (q2, .inl (c2, (12, .inl (zC (fun j => (((fun _ => 0 : Nat → Nat) j : Nat) : Int)))))), (q3, .inl (c3, (12, .inl (zC (fun j => (((fun _ => 0 : Nat → Nat) j : Nat) : Int)))))), (q4, .inl (c4, (12, .inl (zC (fun _ => 0))))), (q5, .inl (c5, (5, .inl (zC (fun _ => 0))))), (q6, .inl (c6, (5, .inl (zC (fun _ => 0))))), (q7, .inl (c7, (5, .inl (zC (fun _ => 0)))))] := hD
  refine W.widen (k := 7) (n := 56) (Nat.le_refl _) (Nat.le_refl _) ?_
  refine va_put (D := D) (ci := 1) (v := .ref q7) (ty := .array .int) (C := RX2) (T := TX2) (N := 12) hx hb hts in_X2 tyX2 tyX2_ok nmX2 hown hK hP hD hS 0 rfl rfl 10 (by decide) (hts _ q149) (fun _ h9 => h9) rfl (by decide +kernel) rfl rfl (Nat.le_of_ble_eq_true rfl) dX2_init_63 (fun H locs hP hD hS => ?_)
  have hP : va_P D vwCl [(h0, .inr (1, [.int (zI 0), .int (zI 0), .ref q1, .ref q2, .ref q3, .ref q4, .ref q5, .ref q6, .int (zI 0), .int (zI 0), .ref q7, .null])), (q1, .inl (c1, (5, .inl (zC (fun _ => 0))))), (q2, .inl (c2, (12, .inl (zC (fun j => (((fun _ => 0 : Nat → Nat) j : Nat) : Int)))))), (q3, .inl (c3, (12, .inl (zC (fun j => (((fun _ => 0 : Nat → Nat) j : Nat) : Int)))))), (q4, .inl (c4, (12, .inl (zC (fun _ => 0))))), (q5, .inl (c5, (5, .inl (zC (fun _ => 0))))), (q6, .inl (c6, (5, .inl (zC (fun _ => 0))))), (q7, .inl (c7, (5, .inl (zC (fun _ => 0)))))] H := hP
  have hD : va_D A [(h0, .inr (1, [.int (zI 0), .int (zI 0), .ref q1, .ref q2, .ref q3, .ref q4, .ref q5, .ref q6, .int (zI 0), .int (zI 0), .ref q7, .null])), (q1, .inl (c1, (5, .inl (zC (fun _ => 0))))), (q2, .inl (c2, (12, .inl (zC (fun j => (((fun _ => 0 : Nat → Nat) j : Nat) : Int)))))), (q3, .inl (c3, (12, .inl (zC (fun j => (((fun _ => 0 : Nat → Nat) j : Nat) : Int)))))), (q4, .inl (c4, (12, .inl (zC (fun _ => 0))))), (q5, .inl (c5, (5, .inl (zC (fun _ => 0))))), (q6, .inl (c6, (5, .inl (zC (fun _ => 0))))), (q7, .inl (c7, (5, .inl (zC (fun _ => 0)))))] := hD
  refine lv_aload_n hx hb dX2_init_66 rfl (lv_at hl 0 rfl) ?_
  refine lv_bipush (v := zI 25) hx hb dX2_init_67 (by decide) ?_
  refine va_newa (atype := .int) (ty := .int) (N' := 25) (a0 := (25, .inl (zC (fun _ => 0)))) hx hb (hts _ q59) rfl hK hP hD hS hA (fun _ => rfl) (by decide) rfl (by decide) (Nat.le_of_ble_eq_true rfl) (Nat.le_of_ble_eq_true rfl) dX2_init_69 (fun q8 c8 H hK hP hD hS => ?_)
  have hK : va_K D vwCl [(c1, .int), (c2, .int), (c3, .int), (c4, .int), (c5, .int), (c6, .int), (c7, .int), (c8, .int)] s := hK
  have hP : va_P D vwCl [(h0, .inr (1, [.int (zI 0), .int (zI 0), .ref q1, .ref q2, .ref q3, .ref q4, .ref q5, .ref q6, .int (zI 0), .int (zI 0), .ref q7, .null])), (q1, .inl (c1, (5, .inl (zC (fun _ => 0))))), (q2, .inl (c2, (12, .inl (zC (fun j => (((fun _ => 0 : Nat → Nat) j : Nat) : Int)))))), (q3, .inl (c3, (12, .inl (zC (fun j => (((fun _ => 0 : Nat → Nat) j : Nat) : Int)))))), (q4, .inl (c4, (12, .inl (zC (fun _ => 0))))), (q5, .inl (c5, (5, .inl (zC (fun _ => 0))))), (q6, .inl (c6, (5, .inl (zC (fun _ => 0))))), (q7, .inl (c7, (5, .inl (zC (fun _ => 0))))), (q8, .inl (c8, (25, .inl (zC (fun _ => 0)))))] H := hP
  have hD : va_D A [(h0, .inr (1, [.int (zI 0), .int (zI 0), .ref q1, .ref q2, .ref q3, .ref q4, .ref q5, .ref q6, .int (zI 0), .int (zI 0), .ref q7, .null])), (q1, .inl (c1, (5, .inl (zC (fun _ => 0))))), (q2, .inl (c2, (12, .inl (zC (fun j => (((fun _ => 0 : Nat → Nat) j : Nat) : Int)))))), (q3, .inl (c3, (12, .inl (zC (fun j => (((fun _ => 0 : Nat → Nat) j : Nat) : Int)))))), (q4, .inl (c4, (12, .inl (zC (fun _ => 0))))), (q5, .inl (c5, (5, .inl (zC (fun _ => 0))))), (q6, .inl (c6, (5, .inl (zC (fun _ => 0))))), (q7, .inl (c7, (5, .inl (zC (fun _ => 0))))), (q8, .inl (c8, (25, .inl (zC (fun _ => 0)))))] := hD
  refine W.widen (k := 8) (n := 81) (Nat.le_refl _) (Nat.le_refl _) ?_
  refine va_put (D := D) (ci := 1) (v := .ref q8) (ty := .array .int) (C := RX2) (T := TX2) (N := 12) hx hb hts in_X2 tyX2 tyX2_ok nmX2 hown hK hP hD hS 0 rfl rfl 11 (by decide) (hts _ q150) (fun _ h9 => h9) rfl (by decide +kernel) rfl rfl (Nat.le_of_ble_eq_true rfl) dX2_init_71 (fun H locs hP hD hS => ?_)
  have hP : va_P D vwCl [(h0, .inr (1, [.int (zI 0), .int (zI 0), .ref q1, .ref q2, .ref q3, .ref q4, .ref q5, .ref q6, .int (zI 0), .int (zI 0), .ref q7, .ref q8])), (q1, .inl (c1, (5, .inl (zC (fun _ => 0))))), (q2, .inl (c2, (12, .inl (zC (fun j => (((fun _ => 0 : Nat → Nat) j : Nat) : Int)))))), (q3, .inl (c3, (12, .inl (zC (fun j => (((fun _ => 0 : Nat → Nat) j : Nat) : Int)))))), (q4, .inl (c4, (12, .inl (zC (fun _ => 0))))), (q5, .inl (c5, (5, .inl (zC (fun _ => 0))))), (q6, .inl (c6, (5, .inl (zC (fun _ => 0))))), (q7, .inl (c7, (5, .inl (zC (fun _ => 0))))), (q8, .inl (c8, (25, .inl (zC (fun _ => 0)))))] H := hP
  have hD : va_D A [(h0, .inr (1, [.int (zI 0), .int (zI 0), .ref q1, .ref q2, .ref q3, .ref q4, .ref q5, .ref q6, .int (zI 0), .int (zI 0), .ref q7, .ref q8])), (q1, .inl (c1, (5, .inl (zC (fun _ => 0))))), (q2, .inl (c2, (12, .inl (zC (fun j => (((fun _ => 0 : Nat → Nat) j : Nat) : Int)))))), (q3, .inl (c3, (12, .inl (zC (fun j => (((fun _ => 0 : Nat → Nat) j : Nat) : Int)))))), (q4, .inl (c4, (12, .inl (zC (fun _ => 0))))), (q5, .inl (c5, (5, .inl (zC (fun _ => 0))))), (q6, .inl (c6, (5, .inl (zC (fun _ => 0))))), (q7, .inl (c7, (5, .inl (zC (fun _ => 0))))), (q8, .inl (c8, (25, .inl (zC (fun _ => 0)))))] := hD
  refine lv_aload_n hx hb dX2_init_74 rfl (lv_at hl 0 rfl) ?_
  refine lv_iload_n hx hb dX2_init_75 rfl (lv_at hl 1 rfl) ?_
  refine lv_iconst (v := zI 1) hx hb dX2_init_76 rfl ?_
  refine zi_icmp_ge (tgt := 84) hx hb dX2_init_77 (by decide) ⟨by omega, by omega⟩ ⟨by omega, by omega⟩ (fun c1_ => ?_) (fun c1_ => ?_)
  · refine lv_iload_n hx hb dX2_init_84 rfl (lv_at hl 1 rfl) ?_
    refine lv_iconst (v := zI 5) hx hb dX2_init_85 rfl ?_
    refine zi_icmp_le (tgt := 93) hx hb dX2_init_86 (by decide) ⟨by omega, by omega⟩ ⟨by omega, by omega⟩ (fun c2_ => ?_) (fun c2_ => ?_)
    · refine lv_iload_n hx hb dX2_init_93 rfl (lv_at hl 1 rfl) ?_
      refine zi_top (z' := ((rb_nb v : Nat) : Int)) (rb_nb_v (by omega) (by omega)) ?_
      refine va_put (D := D) (ci := 1) (v := .int (zI ((rb_nb v : Nat) : Int))) (ty := .int) (C := RX2) (T := TX2) (N := 12) hx hb hts in_X2 tyX2 tyX2_ok nmX2 hown hK hP hD hS 0 rfl rfl 0 (by decide) (hts _ q139) (fun _ h9 => h9) rfl (by decide +kernel) rfl rfl (Nat.le_of_ble_eq_true rfl) dX2_init_94 (fun H locs hP hD hS => ?_)
      have hP : va_P D vwCl (rb_WM (fun k => if k = 1 then q1 else if k = 2 then q2 else if k = 3 then q3 else if k = 4 then q4 else if k = 5 then q5 else if k = 6 then q6 else if k = 7 then q7 else if k = 8 then q8 else h0) (fun k => if k = 1 then c1 else if k = 2 then c2 else if k = 3 then c3 else if k = 4 then c4 else if k = 5 then c5 else if k = 6 then c6 else if k = 7 then c7 else c8) (rb_nb v) 0 (fun _ => 0) (fun _ => 0) (fun _ => 0) (fun _ => 0) (fun _ => 0) (fun _ => 0) 0 0 (fun _ => 0) (fun _ => 0)) H := hP
      have hD : va_D A (rb_WM (fun k => if k = 1 then q1 else if k = 2 then q2 else if k = 3 then q3 else if k = 4 then q4 else if k = 5 then q5 else if k = 6 then q6 else if k = 7 then q7 else if k = 8 then q8 else h0) (fun k => if k = 1 then c1 else if k = 2 then c2 else if k = 3 then c3 else if k = 4 then c4 else if k = 5 then c5 else if k = 6 then c6 else if k = 7 then c7 else c8) (rb_nb v) 0 (fun _ => 0) (fun _ => 0) (fun _ => 0) (fun _ => 0) (fun _ => 0) (fun _ => 0) 0 0 (fun _ => 0) (fun _ => 0)) := hD
      have hK : va_K D vwCl (rb_TM (fun k => if k = 1 then c1 else if k = 2 then c2 else if k = 3 then c3 else if k = 4 then c4 else if k = 5 then c5 else if k = 6 then c6 else if k = 7 then c7 else c8)) s := hK
      exact W.vret hx hb hr (fun t ht hW => ⟨⟨(fun k => if k = 1 then q1 else if k = 2 then q2 else if k = 3 then q3 else if k = 4 then q4 else if k = 5 then q5 else if k = 6 then q6 else if k = 7 then q7 else if k = 8 then q8 else h0, fun k => if k = 1 then c1 else if k = 2 then c2 else if k = 3 then c3 else if k = 4 then c4 else if k = 5 then c5 else if k = 6 then c6 else if k = 7 then c7 else c8), rfl, rfl, by rw [ht]; exact hP, va_K.moved hW.alike hK, hD⟩, hS.F ht⟩) hS.2.2 dX2_init_97
    · refine lv_iconst (v := zI 5) hx hb dX2_init_89 rfl ?_
      refine lv_goto (tgt := 94) hx hb dX2_init_90 (by decide) ?_
      refine zi_top (z' := ((rb_nb v : Nat) : Int)) (rb_nb_5 (by omega) (by omega)) ?_
      refine va_put (D := D) (ci := 1) (v := .int (zI ((rb_nb v : Nat) : Int))) (ty := .int) (C := RX2) (T := TX2) (N := 12) hx hb hts in_X2 tyX2 tyX2_ok nmX2 hown hK hP hD hS 0 rfl rfl 0 (by decide) (hts _ q139) (fun _ h9 => h9) rfl (by decide +kernel) rfl rfl (Nat.le_of_ble_eq_true rfl) dX2_init_94 (fun H locs hP hD hS => ?_)
      have hP : va_P D vwCl (rb_WM (fun k => if k = 1 then q1 else if k = 2 then q2 else if k = 3 then q3 else if k = 4 then q4 else if k = 5 then q5 else if k = 6 then q6 else if k = 7 then q7 else if k = 8 then q8 else h0) (fun k => if k = 1 then c1 else if k = 2 then c2 else if k = 3 then c3 else if k = 4 then c4 else if k = 5 then c5 else if k = 6 then c6 else if k = 7 then c7 else c8) (rb_nb v) 0 (fun _ => 0) (fun _ => 0) (fun _ => 0) (fun _ => 0) (fun _ => 0) (fun _ => 0) 0 0 (fun _ => 0) (fun _ => 0)) H := hP
      have hD : va_D A (rb_WM (fun k => if k = 1 then q1 else if k = 2 then q2 else if k = 3 then q3 else if k = 4 then q4 else if k = 5 then q5 else if k = 6 then q6 else if k = 7 then q7 else if k = 8 then q8 else h0) (fun k => if k = 1 then c1 else if k = 2 then c2 else if k = 3 then c3 else if k = 4 then c4 else if k = 5 then c5 else if k = 6 then c6 else if k = 7 then c7 else c8) (rb_nb v) 0 (fun _ => 0) (fun _ => 0) (fun _ => 0) (fun _ => 0) (fun _ => 0) (fun _ => 0) 0 0 (fun _ => 0) (fun _ => 0)) := hD
      have hK : va_K D vwCl (rb_TM (fun k => if k = 1 then c1 else if k = 2 then c2 else if k = 3 then c3 else if k = 4 then c4 else if k = 5 then c5 else if k = 6 then c6 else if k = 7 then c7 else c8)) s := hK
      exact W.vret hx hb hr (fun t ht hW => ⟨⟨(fun k => if k = 1 then q1 else if k = 2 then q2 else if k = 3 then q3 else if k = 4 then q4 else if k = 5 then q5 else if k = 6 then q6 else if k = 7 then q7 else if k = 8 then q8 else h0, fun k => if k = 1 then c1 else if k = 2 then c2 else if k = 3 then c3 else if k = 4 then c4 else if k = 5 then c5 else if k = 6 then c6 else if k = 7 then c7 else c8), rfl, rfl, by rw [ht]; exact hP, va_K.moved hW.alike hK, hD⟩, hS.F ht⟩) hS.2.2 dX2_init_97
  · refine lv_iconst (v := zI 1) hx hb dX2_init_80 rfl ?_
    refine lv_goto (tgt := 94) hx hb dX2_init_81 (by decide) ?_
    refine zi_top (z' := ((rb_nb v : Nat) : Int)) (rb_nb_1 (by omega)) ?_
    refine va_put (D := D) (ci := 1) (v := .int (zI ((rb_nb v : Nat) : Int))) (ty := .int) (C := RX2) (T := TX2) (N := 12) hx hb hts in_X2 tyX2 tyX2_ok nmX2 hown hK hP hD hS 0 rfl rfl 0 (by decide) (hts _ q139) (fun _ h9 => h9) rfl (by decide +kernel) rfl rfl (Nat.le_of_ble_eq_true rfl) dX2_init_94 (fun H locs hP hD hS => ?_)
    have hP : va_P D vwCl (rb_WM (fun k => if k = 1 then q1 else if k = 2 then q2 else if k = 3 then q3 else if k = 4 then q4 else if k = 5 then q5 else if k = 6 then q6 else if k = 7 then q7 else if k = 8 then q8 else h0) (fun k => if k = 1 then c1 else if k = 2 then c2 else if k = 3 then c3 else if k = 4 then c4 else if k = 5 then c5 else if k = 6 then c6 else if k = 7 then c7 else c8) (rb_nb v) 0 (fun _ => 0) (fun _ => 0) (fun _ => 0) (fun _ => 0) (fun _ => 0) (fun _ => 0) 0 0 (fun _ => 0) (fun _ => 0)) H := hP
    have hD : va_D A (rb_WM (fun k => if k = 1 then q1 else if k = 2 then q2 else if k = 3 then q3 else if k = 4 then q4 else if k = 5 then q5 else if k = 6 then q6 else if k = 7 then q7 else if k = 8 then q8 else h0) (fun k => if k = 1 then c1 else if k = 2 then c2 else if k = 3 then c3 else if k = 4 then c4 else if k = 5 then c5 else if k = 6 then c6 else if k = 7 then c7 else c8) (rb_nb v) 0 (fun _ => 0) (fun _ => 0) (fun _ => 0) (fun _ => 0) (fun _ => 0) (fun _ => 0) 0 0 (fun _ => 0) (fun _ => 0)) := hD
    have hK : va_K D vwCl (rb_TM (fun k => if k = 1 then c1 else if k = 2 then c2 else if k = 3 then c3 else if k = 4 then c4 else if k = 5 then c5 else if k = 6 then c6 else if k = 7 then c7 else c8)) s := hK
    exact W.vret hx hb hr (fun t ht hW => ⟨⟨(fun k => if k = 1 then q1 else if k = 2 then q2 else if k = 3 then q3 else if k = 4 then q4 else if k = 5 then q5 else if k = 6 then q6 else if k = 7 then q7 else if k = 8 then q8 else h0, fun k => if k = 1 then c1 else if k = 2 then c2 else if k = 3 then c3 else if k = 4 then c4 else if k = 5 then c5 else if k = 6 then c6 else if k = 7 then c7 else c8), rfl, rfl, by rw [ht]; exact hP, va_K.moved hW.alike hK, hD⟩, hS.F ht⟩) hS.2.2 dX2_init_97
end
section
/-! THE CLAIM OUT OF ONE WALK OF THE LAW'S BODY. Your part is whole_start (and what it stands on); all else here is the same for every law, but numbers. -/
def R_law : String := "RetimingBenchLaw"
def lw_P (b : Addr) (xs : List Int32) (args : Array Value) (s : State) : Prop := args = #[.ref b] ∧ s.IntsAt b xs ∧ xs.length ≤ 257 ∧ (Jvm.Cond.and given_1 narrow_1).before args s = true
def lw_Q (_ : Array Value) (s : State) (o : Outcome) (t : State) : Prop := o = .returned (some (.int 1)) ∧ Framed s o t [] 600000 7290000
def lw_Z (below : List Frame) (a : Array Value) (s : State) : State → Prop := fun t => ∃ o, t.status = .running ∧ Ended t below o ∧ lw_Q a s o t
/-- the law's own end, with 1 on the stack, nothing written that was there before, its room as the claim has it -/
theorem lw_ret {p : Program} {l : Launch} {e : Env} {s : State} {m : MethodId} {below : List Frame} {meth : Method} {c : Code} {b : Nat} (hx : p.tables.exec = Jvm.exec) (hb : c.code = code) (hr : meth.sig.returnType = ret) (hlocks : meth.locks = false) {pc : Nat} {H : Heap} {ls : Array Slot} (hdg : decode code pc = .ok (.ireturn, 1)) : W p l e room_1 s m #[Value.ref b] below meth c H [] 600000 7290000 (lw_Z below #[Value.ref b] s) (F0 m pc ls [.int 1]) := by
  intro T hT X
  obtain ⟨fs, hret, hrun, hended, hW, hframe⟩ := X.leave (v := some (.int 1)) (hlocks := hlocks) (fun h => by rw [hr] at h; cases h)
  have hmeth' : T.vm.method? m = some meth := X.method'
  refine ⟨T.setFrames fs, ?_, .returned (some (.int 1)), hrun, hended, rfl, ⟨_, rfl⟩, hW, hframe⟩
  jvm_step X.here [X.here.top, hx, hb, hdg, hmeth', hr, ret, narrow_b1]
  (try refine ⟨rfl, ?_⟩); (try refine ⟨rfl, ?_⟩)
  first | (intro acts; rw [hret _ acts rfl rfl rfl]) | rw [hret _ _ rfl rfl rfl]
  exact Steps.refl _
/-- what holds at the law's entry: the machine, the code, the tables' words (any of lw_tbl by 'hts w (by decide +kernel)'), the script of L ints xs at the cell b, what the Statement gives of the start (any of its parts by flat_of_before) -/
def lw_At (p : Program) (s : State) (m : MethodId) (meth : Method) (c : Code) (b L : Nat) (xs : Nat → Int32) : Prop :=
  p.tables.exec = Jvm.exec ∧ c.code = code ∧ meth.sig.returnType = ret ∧ c.maxLocals = 4 ∧ s.vm.findClass R_law = some m.cls ∧ (∀ w ∈ lw_tbl, w.before #[Value.ref b] s = true) ∧ va_X b L xs s s.heap ∧ b < s.heap.size ∧ meth.locks = false ∧ (Jvm.Cond.and given_1 narrow_1).before #[Value.ref b] s = true
/-- the script's first int, or 0 -/
def rb_cv0 (L : Nat) (xs : Nat → Int32) : Int := if 0 < L then (xs 0).toInt else 0
theorem rb_cv0_in (L : Nat) (xs : Nat → Int32) : zin (rb_cv0 L xs) := by
  unfold rb_cv0
  split
  · exact zI_inx _
  · exact ⟨by omega, by omega⟩
def rb_PreS (b L : Nat) (xs : Nat → Int32) (sz : Nat) : State → Prop := fun U => U.heap.size = sz ∧ b < sz ∧ va_X b L xs U U.heap
theorem rb_blindS (b L : Nat) (xs : Nat → Int32) (av : List Value) (sz : Nat) : FrameBlind (va_Pc av (rb_PreS b L xs sz)) := by
  intro a U g mk q
  obtain ⟨q0, q1, q2, qX⟩ := q
  exact ⟨q0, q1, q2, va_X.moved (u := U) (U := U.calling g mk a) (Vm.Alike.refl U.vm) qX⟩
set_option maxHeartbeats 4000000 in
set_option maxRecDepth 100000 in
theorem mL_cell (l : Launch) (b L : Nat) (xs : Nat → Int32) (hL : L ≤ 257) (sz : Nat) : Met l yX0_cell (ws_ yX0_cell cX0_cell 2 (some .int)) (rb_R 0) (va_Pc [.ref b, .int (zI 0)] (rb_PreS b L xs sz)) (va_Qi (fun r (_ : Unit) => r = zI (rb_cv0 L xs)) (fun _ _ => True) (fun q : Nat => sz ≤ q)) 0 0 (fun q : Nat => sz ≤ q) := by
  refine Met.ofW (cc := cX0_cell) (maxL := 2) (ret := some .int) (by decide) rfl ?_
  intro p e s m args below meth c s₁ B hml hv0
  obtain ⟨rfl, hsz, hbl, hX⟩ := hv0
  have hx := B.exec
  have hb := B.bytes
  have hr := B.returns
  have hlocks := B.notSynchronized
  subst hsz
  have hbA : ¬ (fun q : Nat => s.heap.size ≤ q) b := Nat.not_le.mpr hbl
  have hS : va_S (fun q : Nat => s.heap.size ≤ q) s.heap s.heap [] := va_S.rf
  have hl := lv_entry ([.ref b, .int (zI 0)]) (n := 2) (Nat.le_of_ble_eq_true rfl)
  rw [lg_entry_eq]
  generalize (lg_sl ([.ref b, .int (zI 0)]) ++ List.replicate (2 - (lg_sl ([.ref b, .int (zI 0)])).length) Slot.unset).toArray = ls at hl ⊢
  have hl : lv_has ls 2 [(0, .ref b), (1, .int (zI 0))] := hl
  refine lv_iload_n hx hb dX0_cell_0 rfl (lv_at hl 1 rfl) ?_
  refine lv_aload_n hx hb dX0_cell_1 rfl (lv_at hl 0 rfl) ?_
  refine zs_len hx hb hX hbl hbA hS dX0_cell_2 ?_
  refine zi_icmp_ge (tgt := 12) hx hb dX0_cell_3 (by decide) ⟨by omega, by omega⟩ ⟨by omega, by omega⟩ (fun c1 => ?_) (fun c1 => ?_)
  · refine lv_iconst (v := zI 0) hx hb dX0_cell_12 rfl ?_
    exact W.iret (v := zI 0) hx hb hr (fun t ht hW => ⟨⟨zI 0, (), rfl, by unfold rb_cv0; rw [if_neg (by omega)], trivial⟩, hS.F ht⟩) hS.2.2 dX0_cell_13
  · refine lv_aload_n hx hb dX0_cell_6 rfl (lv_at hl 0 rfl) ?_
    refine lv_iload_n hx hb dX0_cell_7 rfl (lv_at hl 1 rfl) ?_
    refine zs_ld hx hb hX hbl hbA hS hL 0 (by omega) (by omega) dX0_cell_8 ?_
    refine lv_goto (tgt := 13) hx hb dX0_cell_9 (by decide) ?_
    exact W.iret (v := zI (xs 0).toInt) hx hb hr (fun t ht hW => ⟨⟨zI (xs 0).toInt, (), rfl, by unfold rb_cv0; rw [if_pos (by omega)], trivial⟩, hS.F ht⟩) hS.2.2 dX0_cell_13
end
section
/-- what may come behind a case of the law -/
def rb_Go (p : Program) (l : Launch) (e : Env) (s : State) (m : MethodId) (below : List Frame) (meth : Method) (c : Code) (b : Nat) (D : va_G) (h1 : Nat → Nat) (d1 : Nat → ClassId) (h2 : Nat → Nat) (d2 : Nat → ClassId) (nb : Nat) (ls : Array Slot) (a0 : Int) : Prop := ∀ (mw : Nat) (fr to : Nat → Nat) (dl hd : Nat → Int) (kn sd : Int) (le lo lg lg2 ln : Nat → Int) (kn2 bp : Int) (pl rc : Nat → Int) (a : Int), rb_Inv nb mw fr to dl hd kn sd le lo kn2 bp pl a → a ≤ a0 + 4 → ∀ (H : Heap) (locs : List Loc), va_P D vwCl ((rb_WC h1 d1 nb mw fr to dl hd kn sd le lo lg) ++ (rb_WM h2 d2 nb mw fr to dl hd lg2 ln kn2 bp pl rc)) H → va_D (fun q : Nat => s.heap.size ≤ q) ((rb_WC h1 d1 nb mw fr to dl hd kn sd le lo lg) ++ (rb_WM h2 d2 nb mw fr to dl hd lg2 ln kn2 bp pl rc)) → va_S (fun q : Nat => s.heap.size ≤ q) s.heap H locs → W p l e room_1 s m #[Value.ref b] below meth c H locs 17 200 (lw_Z below #[Value.ref b] s) (F0 m 353 ls [])
set_option maxHeartbeats 4000000 in
set_option maxRecDepth 100000 in
theorem rb_case0 {p : Program} {l : Launch} {e : Env} {s : State} {m : MethodId} {below : List Frame} {meth : Method} {c : Code} {b L : Nat} {xs : Nat → Int32} {D : va_G} {h1 h2 : Nat → Nat} {d1 d2 : Nat → ClassId} {nb : Nat} {mw : Nat} {fr to : Nat → Nat} {dl hd : Nat → Int} {kn sd : Int} {le lo lg lg2 ln : Nat → Int} {kn2 bp : Int} {pl rc : Nat → Int} {a : Int} {H : Heap} {locs : List Loc} {ls : Array Slot} (hL : L ≤ 257) (C0 : lw_At p s m meth c b L xs) (hKC : va_K D vwCl (rb_TC d1) s) (hKM : va_K D vwCl (rb_TM d2) s) (i : Nat) (hi : 1 + 4 * i + 4 ≤ L) (hl : lv_has ls 4 [(0, .ref b), (1, .ref (h1 0)), (2, .ref (h2 0)), (3, .int (zI ((1 + 4 * i : Nat) : Int)))]) (I : rb_Inv nb mw fr to dl hd kn sd le lo kn2 bp pl a) (ha2 : a ≤ 252) (hP : va_P D vwCl ((rb_WC h1 d1 nb mw fr to dl hd kn sd le lo lg) ++ (rb_WM h2 d2 nb mw fr to dl hd lg2 ln kn2 bp pl rc)) H) (hD : va_D (fun q : Nat => s.heap.size ≤ q) ((rb_WC h1 d1 nb mw fr to dl hd kn sd le lo lg) ++ (rb_WM h2 d2 nb mw fr to dl hd lg2 ln kn2 bp pl rc))) (hS : va_S (fun q : Nat => s.heap.size ≤ q) s.heap H locs) (kk : rb_Go p l e s m below meth c b D h1 d1 h2 d2 nb ls a) : W p l e room_1 s m #[Value.ref b] below meth c H locs 17 200 (lw_Z below #[Value.ref b] s) (F0 m 100 ls []) := by
  obtain ⟨hx, hb, hr, hml, hown, hts0, hX, hbl, hlocks, hgv⟩ := id C0
  have hts : ∀ w ∈ lw_all, w.before #[Value.ref b] s = true := fun w h => hts0 w (lw_all_tbl h)
  have hA : ∀ q : Nat, s.heap.size ≤ q → (fun q : Nat => s.heap.size ≤ q) q := fun _ h => h
  have hbA : ¬ (fun q : Nat => s.heap.size ≤ q) b := Nat.not_le.mpr hbl
  obtain ⟨ok, ha, hf, hk, hmc⟩ := id I
  have hh := rb_hh ha2 hf
  refine lv_aload_n hx hb dL_law_100 rfl (lv_at hl 1 rfl) ?_
  refine lv_aload_n hx hb dL_law_101 rfl (lv_at hl 0 rfl) ?_
  refine lv_iload_n hx hb dL_law_102 rfl (lv_at hl 3 rfl) ?_
  refine lv_iconst (v := zI 1) hx hb dL_law_103 rfl ?_
  refine zi_iadd hx hb dL_law_104 ?_
  refine zs_ld hx hb hX hbl hbA hS hL (1 + 4 * i + 1) (by omega) (by omega) dL_law_105 ?_
  refine lv_aload_n hx hb dL_law_106 rfl (lv_at hl 0 rfl) ?_
  refine lv_iload_n hx hb dL_law_107 rfl (lv_at hl 3 rfl) ?_
  refine lv_iconst (v := zI 2) hx hb dL_law_108 rfl ?_
  refine zi_iadd hx hb dL_law_109 ?_
  refine zs_ld hx hb hX hbl hbA hS hL (1 + 4 * i + 2) (by omega) (by omega) dL_law_110 ?_
  refine zj_I (b := h1 0) ⟨hx, hb, hml, hown, hts⟩ (mC_delay l D h1 d1 nb mw fr to dl hd kn sd le lo lg ((xs (1 + 4 * i + 1)).toInt) ((xs (1 + 4 * i + 2)).toInt) ok hh hk (zI_inx (xs (1 + 4 * i + 1))) (zI_inx (xs (1 + 4 * i + 2)))) (cwV 2 hts (lw_V q60 q61 q62 q14 q63) rfl rfl rfl (by decide +kernel) ⟨Nat.le_of_ble_eq_true rfl, Nat.le_of_ble_eq_true rfl⟩) hKC hP hD hS hA [0, 1, 2, 3, 4, 5, 6, 7] [8, 9, 10, 11, 12, 13, 14, 15, 16] rfl rfl (by decide) (by decide) (ci := 0) rfl rfl rfl rfl hl.1 rfl (Nat.le_of_ble_eq_true rfl) dL_law_111 ⟨Nat.le_of_ble_eq_true rfl, Nat.le_of_ble_eq_true rfl⟩ (fun r1 u1 H locs hp1 hP hD hS => ?_)
  have hP : va_P D vwCl ((rb_WM h2 d2 nb mw fr to dl hd lg2 ln kn2 bp pl rc) ++ (rb_WC h1 d1 nb mw fr to (rb_sel (rb_dv nb ((xs (1 + 4 * i + 1)).toInt) ((xs (1 + 4 * i + 2)).toInt)) (rb_up dl (((xs (1 + 4 * i + 1)).toInt)).toNat ((xs (1 + 4 * i + 2)).toInt)) dl) hd u1.1 u1.2.1 u1.2.2.1 u1.2.2.2.1 u1.2.2.2.2)) H := hP
  have hD : va_D (fun q : Nat => s.heap.size ≤ q) ((rb_WM h2 d2 nb mw fr to dl hd lg2 ln kn2 bp pl rc) ++ (rb_WC h1 d1 nb mw fr to (rb_sel (rb_dv nb ((xs (1 + 4 * i + 1)).toInt) ((xs (1 + 4 * i + 2)).toInt)) (rb_up dl (((xs (1 + 4 * i + 1)).toInt)).toNat ((xs (1 + 4 * i + 2)).toInt)) dl) hd u1.1 u1.2.1 u1.2.2.1 u1.2.2.2.1 u1.2.2.2.2)) := hD
  refine lv_aload_n hx hb dL_law_114 rfl (lv_at hl 2 rfl) ?_
  refine lv_aload_n hx hb dL_law_115 rfl (lv_at hl 0 rfl) ?_
  refine lv_iload_n hx hb dL_law_116 rfl (lv_at hl 3 rfl) ?_
  refine lv_iconst (v := zI 1) hx hb dL_law_117 rfl ?_
  refine zi_iadd hx hb dL_law_118 ?_
  refine zs_ld hx hb hX hbl hbA hS hL (1 + 4 * i + 1) (by omega) (by omega) dL_law_119 ?_
  refine lv_aload_n hx hb dL_law_120 rfl (lv_at hl 0 rfl) ?_
  refine lv_iload_n hx hb dL_law_121 rfl (lv_at hl 3 rfl) ?_
  refine lv_iconst (v := zI 2) hx hb dL_law_122 rfl ?_
  refine zi_iadd hx hb dL_law_123 ?_
  refine zs_ld hx hb hX hbl hbA hS hL (1 + 4 * i + 2) (by omega) (by omega) dL_law_124 ?_
  refine zj_I (b := h2 0) ⟨hx, hb, hml, hown, hts⟩ (mM_delay l D h2 d2 nb mw fr to dl hd lg2 ln kn2 bp pl rc ((xs (1 + 4 * i + 1)).toInt) ((xs (1 + 4 * i + 2)).toInt) a ok ha ha2 hf hmc (zI_inx (xs (1 + 4 * i + 1))) (zI_inx (xs (1 + 4 * i + 2)))) (cwV 2 hts (lw_V q176 q177 q178 q15 q179) rfl rfl rfl (by decide +kernel) ⟨Nat.le_of_ble_eq_true rfl, Nat.le_of_ble_eq_true rfl⟩) hKM hP hD hS hA [0, 1, 2, 3, 4, 5, 6, 7, 8] [9, 10, 11, 12, 13, 14, 15, 16] rfl rfl (by decide) (by decide) (ci := 1) rfl rfl rfl rfl hl.1 rfl (Nat.le_of_ble_eq_true rfl) dL_law_125 ⟨Nat.le_of_ble_eq_true rfl, Nat.le_of_ble_eq_true rfl⟩ (fun r2 u2 H locs hp2 hP hD hS => ?_)
  have hP : va_P D vwCl ((rb_WC h1 d1 nb mw fr to (rb_sel (rb_dv nb ((xs (1 + 4 * i + 1)).toInt) ((xs (1 + 4 * i + 2)).toInt)) (rb_up dl (((xs (1 + 4 * i + 1)).toInt)).toNat ((xs (1 + 4 * i + 2)).toInt)) dl) hd u1.1 u1.2.1 u1.2.2.1 u1.2.2.2.1 u1.2.2.2.2) ++ (rb_WM h2 d2 nb mw fr to (rb_sel (rb_dv nb ((xs (1 + 4 * i + 1)).toInt) ((xs (1 + 4 * i + 2)).toInt)) (rb_up dl (((xs (1 + 4 * i + 1)).toInt)).toNat ((xs (1 + 4 * i + 2)).toInt)) dl) hd u2.1 u2.2.1 u2.2.2.1 u2.2.2.2.1 u2.2.2.2.2.1 u2.2.2.2.2.2)) H := hP
  have hD : va_D (fun q : Nat => s.heap.size ≤ q) ((rb_WC h1 d1 nb mw fr to (rb_sel (rb_dv nb ((xs (1 + 4 * i + 1)).toInt) ((xs (1 + 4 * i + 2)).toInt)) (rb_up dl (((xs (1 + 4 * i + 1)).toInt)).toNat ((xs (1 + 4 * i + 2)).toInt)) dl) hd u1.1 u1.2.1 u1.2.2.1 u1.2.2.2.1 u1.2.2.2.2) ++ (rb_WM h2 d2 nb mw fr to (rb_sel (rb_dv nb ((xs (1 + 4 * i + 1)).toInt) ((xs (1 + 4 * i + 2)).toInt)) (rb_up dl (((xs (1 + 4 * i + 1)).toInt)).toNat ((xs (1 + 4 * i + 2)).toInt)) dl) hd u2.1 u2.2.1 u2.2.2.1 u2.2.2.2.1 u2.2.2.2.2.1 u2.2.2.2.2.2)) := hD
  refine lv_icmp_eq (tgt := 353) hx hb dL_law_128 (by decide) (fun _ => ?_) (fun cq => absurd ((hp1.1).trans (hp2.1).symm) cq)
  exact kk mw fr to (rb_sel (rb_dv nb ((xs (1 + 4 * i + 1)).toInt) ((xs (1 + 4 * i + 2)).toInt)) (rb_up dl (((xs (1 + 4 * i + 1)).toInt)).toNat ((xs (1 + 4 * i + 2)).toInt)) dl) hd u1.1 u1.2.1 u1.2.2.1 u1.2.2.2.1 u1.2.2.2.2 u2.1 u2.2.1 u2.2.2.1 u2.2.2.2.1 u2.2.2.2.2.1 u2.2.2.2.2.2 a (rb_inv_delay I hp1.2 hp2.2) (by omega) _ _ hP hD hS
set_option maxHeartbeats 4000000 in
set_option maxRecDepth 100000 in
theorem rb_case1 {p : Program} {l : Launch} {e : Env} {s : State} {m : MethodId} {below : List Frame} {meth : Method} {c : Code} {b L : Nat} {xs : Nat → Int32} {D : va_G} {h1 h2 : Nat → Nat} {d1 d2 : Nat → ClassId} {nb : Nat} {mw : Nat} {fr to : Nat → Nat} {dl hd : Nat → Int} {kn sd : Int} {le lo lg lg2 ln : Nat → Int} {kn2 bp : Int} {pl rc : Nat → Int} {a : Int} {H : Heap} {locs : List Loc} {ls : Array Slot} (hL : L ≤ 257) (C0 : lw_At p s m meth c b L xs) (hKC : va_K D vwCl (rb_TC d1) s) (hKM : va_K D vwCl (rb_TM d2) s) (i : Nat) (hi : 1 + 4 * i + 4 ≤ L) (hl : lv_has ls 4 [(0, .ref b), (1, .ref (h1 0)), (2, .ref (h2 0)), (3, .int (zI ((1 + 4 * i : Nat) : Int)))]) (I : rb_Inv nb mw fr to dl hd kn sd le lo kn2 bp pl a) (ha2 : a ≤ 252) (hP : va_P D vwCl ((rb_WC h1 d1 nb mw fr to dl hd kn sd le lo lg) ++ (rb_WM h2 d2 nb mw fr to dl hd lg2 ln kn2 bp pl rc)) H) (hD : va_D (fun q : Nat => s.heap.size ≤ q) ((rb_WC h1 d1 nb mw fr to dl hd kn sd le lo lg) ++ (rb_WM h2 d2 nb mw fr to dl hd lg2 ln kn2 bp pl rc))) (hS : va_S (fun q : Nat => s.heap.size ≤ q) s.heap H locs) (kk : rb_Go p l e s m below meth c b D h1 d1 h2 d2 nb ls a) : W p l e room_1 s m #[Value.ref b] below meth c H locs 17 200 (lw_Z below #[Value.ref b] s) (F0 m 133 ls []) := by
  obtain ⟨hx, hb, hr, hml, hown, hts0, hX, hbl, hlocks, hgv⟩ := id C0
  have hts : ∀ w ∈ lw_all, w.before #[Value.ref b] s = true := fun w h => hts0 w (lw_all_tbl h)
  have hA : ∀ q : Nat, s.heap.size ≤ q → (fun q : Nat => s.heap.size ≤ q) q := fun _ h => h
  have hbA : ¬ (fun q : Nat => s.heap.size ≤ q) b := Nat.not_le.mpr hbl
  obtain ⟨ok, ha, hf, hk, hmc⟩ := id I
  have hh := rb_hh ha2 hf
  refine lv_aload_n hx hb dL_law_133 rfl (lv_at hl 1 rfl) ?_
  refine lv_aload_n hx hb dL_law_134 rfl (lv_at hl 0 rfl) ?_
  refine lv_iload_n hx hb dL_law_135 rfl (lv_at hl 3 rfl) ?_
  refine lv_iconst (v := zI 1) hx hb dL_law_136 rfl ?_
  refine zi_iadd hx hb dL_law_137 ?_
  refine zs_ld hx hb hX hbl hbA hS hL (1 + 4 * i + 1) (by omega) (by omega) dL_law_138 ?_
  refine lv_aload_n hx hb dL_law_139 rfl (lv_at hl 0 rfl) ?_
  refine lv_iload_n hx hb dL_law_140 rfl (lv_at hl 3 rfl) ?_
  refine lv_iconst (v := zI 2) hx hb dL_law_141 rfl ?_
  refine zi_iadd hx hb dL_law_142 ?_
  refine zs_ld hx hb hX hbl hbA hS hL (1 + 4 * i + 2) (by omega) (by omega) dL_law_143 ?_
  refine lv_aload_n hx hb dL_law_144 rfl (lv_at hl 0 rfl) ?_
  refine lv_iload_n hx hb dL_law_145 rfl (lv_at hl 3 rfl) ?_
  refine lv_iconst (v := zI 3) hx hb dL_law_146 rfl ?_
  refine zi_iadd hx hb dL_law_147 ?_
  refine zs_ld hx hb hX hbl hbA hS hL (1 + 4 * i + 3) (by omega) (by omega) dL_law_148 ?_
  refine zj_I (b := h1 0) ⟨hx, hb, hml, hown, hts⟩ (mC_wire l D h1 d1 nb mw fr to dl hd kn sd le lo lg ((xs (1 + 4 * i + 1)).toInt) ((xs (1 + 4 * i + 2)).toInt) ((xs (1 + 4 * i + 3)).toInt) ok hh hk (zI_inx (xs (1 + 4 * i + 1))) (zI_inx (xs (1 + 4 * i + 2))) (zI_inx (xs (1 + 4 * i + 3)))) (cwV 3 hts (lw_V q68 q69 q70 q14 q71) rfl rfl rfl (by decide +kernel) ⟨Nat.le_of_ble_eq_true rfl, Nat.le_of_ble_eq_true rfl⟩) hKC hP hD hS hA [0, 1, 2, 3, 4, 5, 6, 7] [8, 9, 10, 11, 12, 13, 14, 15, 16] rfl rfl (by decide) (by decide) (ci := 0) rfl rfl rfl rfl hl.1 rfl (Nat.le_of_ble_eq_true rfl) dL_law_149 ⟨Nat.le_of_ble_eq_true rfl, Nat.le_of_ble_eq_true rfl⟩ (fun r1 u1 H locs hp1 hP hD hS => ?_)
  have hP : va_P D vwCl ((rb_WM h2 d2 nb mw fr to dl hd lg2 ln kn2 bp pl rc) ++ (rb_WC h1 d1 nb (rb_sel (rb_wv nb mw ((xs (1 + 4 * i + 1)).toInt) ((xs (1 + 4 * i + 2)).toInt) ((xs (1 + 4 * i + 3)).toInt)) (mw + 1) mw) (rb_sel (rb_wv nb mw ((xs (1 + 4 * i + 1)).toInt) ((xs (1 + 4 * i + 2)).toInt) ((xs (1 + 4 * i + 3)).toInt)) (rb_up fr mw (((xs (1 + 4 * i + 1)).toInt)).toNat) fr) (rb_sel (rb_wv nb mw ((xs (1 + 4 * i + 1)).toInt) ((xs (1 + 4 * i + 2)).toInt) ((xs (1 + 4 * i + 3)).toInt)) (rb_up to mw (((xs (1 + 4 * i + 2)).toInt)).toNat) to) dl (rb_sel (rb_wv nb mw ((xs (1 + 4 * i + 1)).toInt) ((xs (1 + 4 * i + 2)).toInt) ((xs (1 + 4 * i + 3)).toInt)) (rb_up hd mw ((xs (1 + 4 * i + 3)).toInt)) hd) u1.1 u1.2.1 u1.2.2.1 u1.2.2.2.1 u1.2.2.2.2)) H := hP
  have hD : va_D (fun q : Nat => s.heap.size ≤ q) ((rb_WM h2 d2 nb mw fr to dl hd lg2 ln kn2 bp pl rc) ++ (rb_WC h1 d1 nb (rb_sel (rb_wv nb mw ((xs (1 + 4 * i + 1)).toInt) ((xs (1 + 4 * i + 2)).toInt) ((xs (1 + 4 * i + 3)).toInt)) (mw + 1) mw) (rb_sel (rb_wv nb mw ((xs (1 + 4 * i + 1)).toInt) ((xs (1 + 4 * i + 2)).toInt) ((xs (1 + 4 * i + 3)).toInt)) (rb_up fr mw (((xs (1 + 4 * i + 1)).toInt)).toNat) fr) (rb_sel (rb_wv nb mw ((xs (1 + 4 * i + 1)).toInt) ((xs (1 + 4 * i + 2)).toInt) ((xs (1 + 4 * i + 3)).toInt)) (rb_up to mw (((xs (1 + 4 * i + 2)).toInt)).toNat) to) dl (rb_sel (rb_wv nb mw ((xs (1 + 4 * i + 1)).toInt) ((xs (1 + 4 * i + 2)).toInt) ((xs (1 + 4 * i + 3)).toInt)) (rb_up hd mw ((xs (1 + 4 * i + 3)).toInt)) hd) u1.1 u1.2.1 u1.2.2.1 u1.2.2.2.1 u1.2.2.2.2)) := hD
  refine lv_aload_n hx hb dL_law_152 rfl (lv_at hl 2 rfl) ?_
  refine lv_aload_n hx hb dL_law_153 rfl (lv_at hl 0 rfl) ?_
  refine lv_iload_n hx hb dL_law_154 rfl (lv_at hl 3 rfl) ?_
  refine lv_iconst (v := zI 1) hx hb dL_law_155 rfl ?_
  refine zi_iadd hx hb dL_law_156 ?_
  refine zs_ld hx hb hX hbl hbA hS hL (1 + 4 * i + 1) (by omega) (by omega) dL_law_157 ?_
  refine lv_aload_n hx hb dL_law_158 rfl (lv_at hl 0 rfl) ?_
  refine lv_iload_n hx hb dL_law_159 rfl (lv_at hl 3 rfl) ?_
  refine lv_iconst (v := zI 2) hx hb dL_law_160 rfl ?_
  refine zi_iadd hx hb dL_law_161 ?_
  refine zs_ld hx hb hX hbl hbA hS hL (1 + 4 * i + 2) (by omega) (by omega) dL_law_162 ?_
  refine lv_aload_n hx hb dL_law_163 rfl (lv_at hl 0 rfl) ?_
  refine lv_iload_n hx hb dL_law_164 rfl (lv_at hl 3 rfl) ?_
  refine lv_iconst (v := zI 3) hx hb dL_law_165 rfl ?_
  refine zi_iadd hx hb dL_law_166 ?_
  refine zs_ld hx hb hX hbl hbA hS hL (1 + 4 * i + 3) (by omega) (by omega) dL_law_167 ?_
  refine zj_I (b := h2 0) ⟨hx, hb, hml, hown, hts⟩ (mM_wire l D h2 d2 nb mw fr to dl hd lg2 ln kn2 bp pl rc ((xs (1 + 4 * i + 1)).toInt) ((xs (1 + 4 * i + 2)).toInt) ((xs (1 + 4 * i + 3)).toInt) a ok ha ha2 hf hmc (zI_inx (xs (1 + 4 * i + 1))) (zI_inx (xs (1 + 4 * i + 2))) (zI_inx (xs (1 + 4 * i + 3)))) (cwV 3 hts (lw_V q184 q185 q186 q15 q187) rfl rfl rfl (by decide +kernel) ⟨Nat.le_of_ble_eq_true rfl, Nat.le_of_ble_eq_true rfl⟩) hKM hP hD hS hA [0, 1, 2, 3, 4, 5, 6, 7, 8] [9, 10, 11, 12, 13, 14, 15, 16] rfl rfl (by decide) (by decide) (ci := 1) rfl rfl rfl rfl hl.1 rfl (Nat.le_of_ble_eq_true rfl) dL_law_168 ⟨Nat.le_of_ble_eq_true rfl, Nat.le_of_ble_eq_true rfl⟩ (fun r2 u2 H locs hp2 hP hD hS => ?_)
  have hP : va_P D vwCl ((rb_WC h1 d1 nb (rb_sel (rb_wv nb mw ((xs (1 + 4 * i + 1)).toInt) ((xs (1 + 4 * i + 2)).toInt) ((xs (1 + 4 * i + 3)).toInt)) (mw + 1) mw) (rb_sel (rb_wv nb mw ((xs (1 + 4 * i + 1)).toInt) ((xs (1 + 4 * i + 2)).toInt) ((xs (1 + 4 * i + 3)).toInt)) (rb_up fr mw (((xs (1 + 4 * i + 1)).toInt)).toNat) fr) (rb_sel (rb_wv nb mw ((xs (1 + 4 * i + 1)).toInt) ((xs (1 + 4 * i + 2)).toInt) ((xs (1 + 4 * i + 3)).toInt)) (rb_up to mw (((xs (1 + 4 * i + 2)).toInt)).toNat) to) dl (rb_sel (rb_wv nb mw ((xs (1 + 4 * i + 1)).toInt) ((xs (1 + 4 * i + 2)).toInt) ((xs (1 + 4 * i + 3)).toInt)) (rb_up hd mw ((xs (1 + 4 * i + 3)).toInt)) hd) u1.1 u1.2.1 u1.2.2.1 u1.2.2.2.1 u1.2.2.2.2) ++ (rb_WM h2 d2 nb (rb_sel (rb_wv nb mw ((xs (1 + 4 * i + 1)).toInt) ((xs (1 + 4 * i + 2)).toInt) ((xs (1 + 4 * i + 3)).toInt)) (mw + 1) mw) (rb_sel (rb_wv nb mw ((xs (1 + 4 * i + 1)).toInt) ((xs (1 + 4 * i + 2)).toInt) ((xs (1 + 4 * i + 3)).toInt)) (rb_up fr mw (((xs (1 + 4 * i + 1)).toInt)).toNat) fr) (rb_sel (rb_wv nb mw ((xs (1 + 4 * i + 1)).toInt) ((xs (1 + 4 * i + 2)).toInt) ((xs (1 + 4 * i + 3)).toInt)) (rb_up to mw (((xs (1 + 4 * i + 2)).toInt)).toNat) to) dl (rb_sel (rb_wv nb mw ((xs (1 + 4 * i + 1)).toInt) ((xs (1 + 4 * i + 2)).toInt) ((xs (1 + 4 * i + 3)).toInt)) (rb_up hd mw ((xs (1 + 4 * i + 3)).toInt)) hd) u2.1 u2.2.1 u2.2.2.1 u2.2.2.2.1 u2.2.2.2.2.1 u2.2.2.2.2.2)) H := hP
  have hD : va_D (fun q : Nat => s.heap.size ≤ q) ((rb_WC h1 d1 nb (rb_sel (rb_wv nb mw ((xs (1 + 4 * i + 1)).toInt) ((xs (1 + 4 * i + 2)).toInt) ((xs (1 + 4 * i + 3)).toInt)) (mw + 1) mw) (rb_sel (rb_wv nb mw ((xs (1 + 4 * i + 1)).toInt) ((xs (1 + 4 * i + 2)).toInt) ((xs (1 + 4 * i + 3)).toInt)) (rb_up fr mw (((xs (1 + 4 * i + 1)).toInt)).toNat) fr) (rb_sel (rb_wv nb mw ((xs (1 + 4 * i + 1)).toInt) ((xs (1 + 4 * i + 2)).toInt) ((xs (1 + 4 * i + 3)).toInt)) (rb_up to mw (((xs (1 + 4 * i + 2)).toInt)).toNat) to) dl (rb_sel (rb_wv nb mw ((xs (1 + 4 * i + 1)).toInt) ((xs (1 + 4 * i + 2)).toInt) ((xs (1 + 4 * i + 3)).toInt)) (rb_up hd mw ((xs (1 + 4 * i + 3)).toInt)) hd) u1.1 u1.2.1 u1.2.2.1 u1.2.2.2.1 u1.2.2.2.2) ++ (rb_WM h2 d2 nb (rb_sel (rb_wv nb mw ((xs (1 + 4 * i + 1)).toInt) ((xs (1 + 4 * i + 2)).toInt) ((xs (1 + 4 * i + 3)).toInt)) (mw + 1) mw) (rb_sel (rb_wv nb mw ((xs (1 + 4 * i + 1)).toInt) ((xs (1 + 4 * i + 2)).toInt) ((xs (1 + 4 * i + 3)).toInt)) (rb_up fr mw (((xs (1 + 4 * i + 1)).toInt)).toNat) fr) (rb_sel (rb_wv nb mw ((xs (1 + 4 * i + 1)).toInt) ((xs (1 + 4 * i + 2)).toInt) ((xs (1 + 4 * i + 3)).toInt)) (rb_up to mw (((xs (1 + 4 * i + 2)).toInt)).toNat) to) dl (rb_sel (rb_wv nb mw ((xs (1 + 4 * i + 1)).toInt) ((xs (1 + 4 * i + 2)).toInt) ((xs (1 + 4 * i + 3)).toInt)) (rb_up hd mw ((xs (1 + 4 * i + 3)).toInt)) hd) u2.1 u2.2.1 u2.2.2.1 u2.2.2.2.1 u2.2.2.2.2.1 u2.2.2.2.2.2)) := hD
  refine lv_icmp_eq (tgt := 353) hx hb dL_law_171 (by decide) (fun _ => ?_) (fun cq => absurd ((hp1.1).trans (hp2.1).symm) cq)
  exact kk (rb_sel (rb_wv nb mw ((xs (1 + 4 * i + 1)).toInt) ((xs (1 + 4 * i + 2)).toInt) ((xs (1 + 4 * i + 3)).toInt)) (mw + 1) mw) (rb_sel (rb_wv nb mw ((xs (1 + 4 * i + 1)).toInt) ((xs (1 + 4 * i + 2)).toInt) ((xs (1 + 4 * i + 3)).toInt)) (rb_up fr mw (((xs (1 + 4 * i + 1)).toInt)).toNat) fr) (rb_sel (rb_wv nb mw ((xs (1 + 4 * i + 1)).toInt) ((xs (1 + 4 * i + 2)).toInt) ((xs (1 + 4 * i + 3)).toInt)) (rb_up to mw (((xs (1 + 4 * i + 2)).toInt)).toNat) to) dl (rb_sel (rb_wv nb mw ((xs (1 + 4 * i + 1)).toInt) ((xs (1 + 4 * i + 2)).toInt) ((xs (1 + 4 * i + 3)).toInt)) (rb_up hd mw ((xs (1 + 4 * i + 3)).toInt)) hd) u1.1 u1.2.1 u1.2.2.1 u1.2.2.2.1 u1.2.2.2.2 u2.1 u2.2.1 u2.2.2.1 u2.2.2.2.1 u2.2.2.2.2.1 u2.2.2.2.2.2 a (rb_inv_wire I hp1.2 hp2.2) (by omega) _ _ hP hD hS
set_option maxHeartbeats 4000000 in
set_option maxRecDepth 100000 in
theorem rb_case2 {p : Program} {l : Launch} {e : Env} {s : State} {m : MethodId} {below : List Frame} {meth : Method} {c : Code} {b L : Nat} {xs : Nat → Int32} {D : va_G} {h1 h2 : Nat → Nat} {d1 d2 : Nat → ClassId} {nb : Nat} {mw : Nat} {fr to : Nat → Nat} {dl hd : Nat → Int} {kn sd : Int} {le lo lg lg2 ln : Nat → Int} {kn2 bp : Int} {pl rc : Nat → Int} {a : Int} {H : Heap} {locs : List Loc} {ls : Array Slot} (hL : L ≤ 257) (C0 : lw_At p s m meth c b L xs) (hKC : va_K D vwCl (rb_TC d1) s) (hKM : va_K D vwCl (rb_TM d2) s) (i : Nat) (hi : 1 + 4 * i + 4 ≤ L) (hl : lv_has ls 4 [(0, .ref b), (1, .ref (h1 0)), (2, .ref (h2 0)), (3, .int (zI ((1 + 4 * i : Nat) : Int)))]) (I : rb_Inv nb mw fr to dl hd kn sd le lo kn2 bp pl a) (ha2 : a ≤ 252) (hP : va_P D vwCl ((rb_WC h1 d1 nb mw fr to dl hd kn sd le lo lg) ++ (rb_WM h2 d2 nb mw fr to dl hd lg2 ln kn2 bp pl rc)) H) (hD : va_D (fun q : Nat => s.heap.size ≤ q) ((rb_WC h1 d1 nb mw fr to dl hd kn sd le lo lg) ++ (rb_WM h2 d2 nb mw fr to dl hd lg2 ln kn2 bp pl rc))) (hS : va_S (fun q : Nat => s.heap.size ≤ q) s.heap H locs) (kk : rb_Go p l e s m below meth c b D h1 d1 h2 d2 nb ls a) : W p l e room_1 s m #[Value.ref b] below meth c H locs 17 200 (lw_Z below #[Value.ref b] s) (F0 m 176 ls []) := by
  obtain ⟨hx, hb, hr, hml, hown, hts0, hX, hbl, hlocks, hgv⟩ := id C0
  have hts : ∀ w ∈ lw_all, w.before #[Value.ref b] s = true := fun w h => hts0 w (lw_all_tbl h)
  have hA : ∀ q : Nat, s.heap.size ≤ q → (fun q : Nat => s.heap.size ≤ q) q := fun _ h => h
  have hbA : ¬ (fun q : Nat => s.heap.size ≤ q) b := Nat.not_le.mpr hbl
  obtain ⟨ok, ha, hf, hk, hmc⟩ := id I
  have hh := rb_hh ha2 hf
  refine lv_aload_n hx hb dL_law_176 rfl (lv_at hl 1 rfl) ?_
  refine lv_aload_n hx hb dL_law_177 rfl (lv_at hl 0 rfl) ?_
  refine lv_iload_n hx hb dL_law_178 rfl (lv_at hl 3 rfl) ?_
  refine lv_iconst (v := zI 1) hx hb dL_law_179 rfl ?_
  refine zi_iadd hx hb dL_law_180 ?_
  refine zs_ld hx hb hX hbl hbA hS hL (1 + 4 * i + 1) (by omega) (by omega) dL_law_181 ?_
  refine zj_I (b := h1 0) ⟨hx, hb, hml, hown, hts⟩ (mC_cut l D h1 d1 nb mw fr to dl hd kn sd le lo lg ((xs (1 + 4 * i + 1)).toInt) ok hh hk (zI_inx (xs (1 + 4 * i + 1)))) (cwV 1 hts (lw_V q72 q73 q74 q14 q75) rfl rfl rfl (by decide +kernel) ⟨Nat.le_of_ble_eq_true rfl, Nat.le_of_ble_eq_true rfl⟩) hKC hP hD hS hA [0, 1, 2, 3, 4, 5, 6, 7] [8, 9, 10, 11, 12, 13, 14, 15, 16] rfl rfl (by decide) (by decide) (ci := 0) rfl rfl rfl rfl hl.1 rfl (Nat.le_of_ble_eq_true rfl) dL_law_182 ⟨Nat.le_of_ble_eq_true rfl, Nat.le_of_ble_eq_true rfl⟩ (fun r1 u1 H locs hp1 hP hD hS => ?_)
  have hP : va_P D vwCl ((rb_WM h2 d2 nb mw fr to dl hd lg2 ln kn2 bp pl rc) ++ (rb_WC h1 d1 nb (rb_sel (rb_cv mw ((xs (1 + 4 * i + 1)).toInt)) (mw - 1) mw) (rb_sel (rb_cv mw ((xs (1 + 4 * i + 1)).toInt)) (rb_ct (mw - 1) (((xs (1 + 4 * i + 1)).toInt)).toNat fr) fr) (rb_sel (rb_cv mw ((xs (1 + 4 * i + 1)).toInt)) (rb_ct (mw - 1) (((xs (1 + 4 * i + 1)).toInt)).toNat to) to) dl (rb_sel (rb_cv mw ((xs (1 + 4 * i + 1)).toInt)) (rb_ct (mw - 1) (((xs (1 + 4 * i + 1)).toInt)).toNat hd) hd) u1.1 u1.2.1 u1.2.2.1 u1.2.2.2.1 u1.2.2.2.2)) H := hP
  have hD : va_D (fun q : Nat => s.heap.size ≤ q) ((rb_WM h2 d2 nb mw fr to dl hd lg2 ln kn2 bp pl rc) ++ (rb_WC h1 d1 nb (rb_sel (rb_cv mw ((xs (1 + 4 * i + 1)).toInt)) (mw - 1) mw) (rb_sel (rb_cv mw ((xs (1 + 4 * i + 1)).toInt)) (rb_ct (mw - 1) (((xs (1 + 4 * i + 1)).toInt)).toNat fr) fr) (rb_sel (rb_cv mw ((xs (1 + 4 * i + 1)).toInt)) (rb_ct (mw - 1) (((xs (1 + 4 * i + 1)).toInt)).toNat to) to) dl (rb_sel (rb_cv mw ((xs (1 + 4 * i + 1)).toInt)) (rb_ct (mw - 1) (((xs (1 + 4 * i + 1)).toInt)).toNat hd) hd) u1.1 u1.2.1 u1.2.2.1 u1.2.2.2.1 u1.2.2.2.2)) := hD
  refine lv_aload_n hx hb dL_law_185 rfl (lv_at hl 2 rfl) ?_
  refine lv_aload_n hx hb dL_law_186 rfl (lv_at hl 0 rfl) ?_
  refine lv_iload_n hx hb dL_law_187 rfl (lv_at hl 3 rfl) ?_
  refine lv_iconst (v := zI 1) hx hb dL_law_188 rfl ?_
  refine zi_iadd hx hb dL_law_189 ?_
  refine zs_ld hx hb hX hbl hbA hS hL (1 + 4 * i + 1) (by omega) (by omega) dL_law_190 ?_
  refine zj_I (b := h2 0) ⟨hx, hb, hml, hown, hts⟩ (mM_cut l D h2 d2 nb mw fr to dl hd lg2 ln kn2 bp pl rc ((xs (1 + 4 * i + 1)).toInt) a ok ha ha2 hf hmc (zI_inx (xs (1 + 4 * i + 1)))) (cwV 1 hts (lw_V q188 q189 q190 q15 q191) rfl rfl rfl (by decide +kernel) ⟨Nat.le_of_ble_eq_true rfl, Nat.le_of_ble_eq_true rfl⟩) hKM hP hD hS hA [0, 1, 2, 3, 4, 5, 6, 7, 8] [9, 10, 11, 12, 13, 14, 15, 16] rfl rfl (by decide) (by decide) (ci := 1) rfl rfl rfl rfl hl.1 rfl (Nat.le_of_ble_eq_true rfl) dL_law_191 ⟨Nat.le_of_ble_eq_true rfl, Nat.le_of_ble_eq_true rfl⟩ (fun r2 u2 H locs hp2 hP hD hS => ?_)
  have hP : va_P D vwCl ((rb_WC h1 d1 nb (rb_sel (rb_cv mw ((xs (1 + 4 * i + 1)).toInt)) (mw - 1) mw) (rb_sel (rb_cv mw ((xs (1 + 4 * i + 1)).toInt)) (rb_ct (mw - 1) (((xs (1 + 4 * i + 1)).toInt)).toNat fr) fr) (rb_sel (rb_cv mw ((xs (1 + 4 * i + 1)).toInt)) (rb_ct (mw - 1) (((xs (1 + 4 * i + 1)).toInt)).toNat to) to) dl (rb_sel (rb_cv mw ((xs (1 + 4 * i + 1)).toInt)) (rb_ct (mw - 1) (((xs (1 + 4 * i + 1)).toInt)).toNat hd) hd) u1.1 u1.2.1 u1.2.2.1 u1.2.2.2.1 u1.2.2.2.2) ++ (rb_WM h2 d2 nb (rb_sel (rb_cv mw ((xs (1 + 4 * i + 1)).toInt)) (mw - 1) mw) (rb_sel (rb_cv mw ((xs (1 + 4 * i + 1)).toInt)) (rb_ct (mw - 1) (((xs (1 + 4 * i + 1)).toInt)).toNat fr) fr) (rb_sel (rb_cv mw ((xs (1 + 4 * i + 1)).toInt)) (rb_ct (mw - 1) (((xs (1 + 4 * i + 1)).toInt)).toNat to) to) dl (rb_sel (rb_cv mw ((xs (1 + 4 * i + 1)).toInt)) (rb_ct (mw - 1) (((xs (1 + 4 * i + 1)).toInt)).toNat hd) hd) u2.1 u2.2.1 u2.2.2.1 u2.2.2.2.1 u2.2.2.2.2.1 u2.2.2.2.2.2)) H := hP
  have hD : va_D (fun q : Nat => s.heap.size ≤ q) ((rb_WC h1 d1 nb (rb_sel (rb_cv mw ((xs (1 + 4 * i + 1)).toInt)) (mw - 1) mw) (rb_sel (rb_cv mw ((xs (1 + 4 * i + 1)).toInt)) (rb_ct (mw - 1) (((xs (1 + 4 * i + 1)).toInt)).toNat fr) fr) (rb_sel (rb_cv mw ((xs (1 + 4 * i + 1)).toInt)) (rb_ct (mw - 1) (((xs (1 + 4 * i + 1)).toInt)).toNat to) to) dl (rb_sel (rb_cv mw ((xs (1 + 4 * i + 1)).toInt)) (rb_ct (mw - 1) (((xs (1 + 4 * i + 1)).toInt)).toNat hd) hd) u1.1 u1.2.1 u1.2.2.1 u1.2.2.2.1 u1.2.2.2.2) ++ (rb_WM h2 d2 nb (rb_sel (rb_cv mw ((xs (1 + 4 * i + 1)).toInt)) (mw - 1) mw) (rb_sel (rb_cv mw ((xs (1 + 4 * i + 1)).toInt)) (rb_ct (mw - 1) (((xs (1 + 4 * i + 1)).toInt)).toNat fr) fr) (rb_sel (rb_cv mw ((xs (1 + 4 * i + 1)).toInt)) (rb_ct (mw - 1) (((xs (1 + 4 * i + 1)).toInt)).toNat to) to) dl (rb_sel (rb_cv mw ((xs (1 + 4 * i + 1)).toInt)) (rb_ct (mw - 1) (((xs (1 + 4 * i + 1)).toInt)).toNat hd) hd) u2.1 u2.2.1 u2.2.2.1 u2.2.2.2.1 u2.2.2.2.2.1 u2.2.2.2.2.2)) := hD
  refine lv_icmp_eq (tgt := 353) hx hb dL_law_194 (by decide) (fun _ => ?_) (fun cq => absurd ((hp1.1).trans (hp2.1).symm) cq)
  exact kk (rb_sel (rb_cv mw ((xs (1 + 4 * i + 1)).toInt)) (mw - 1) mw) (rb_sel (rb_cv mw ((xs (1 + 4 * i + 1)).toInt)) (rb_ct (mw - 1) (((xs (1 + 4 * i + 1)).toInt)).toNat fr) fr) (rb_sel (rb_cv mw ((xs (1 + 4 * i + 1)).toInt)) (rb_ct (mw - 1) (((xs (1 + 4 * i + 1)).toInt)).toNat to) to) dl (rb_sel (rb_cv mw ((xs (1 + 4 * i + 1)).toInt)) (rb_ct (mw - 1) (((xs (1 + 4 * i + 1)).toInt)).toNat hd) hd) u1.1 u1.2.1 u1.2.2.1 u1.2.2.2.1 u1.2.2.2.2 u2.1 u2.2.1 u2.2.2.1 u2.2.2.2.1 u2.2.2.2.2.1 u2.2.2.2.2.2 a (rb_inv_cut I hp1.2 hp2.2) (by omega) _ _ hP hD hS
set_option maxHeartbeats 4000000 in
set_option maxRecDepth 100000 in
theorem rb_case3 {p : Program} {l : Launch} {e : Env} {s : State} {m : MethodId} {below : List Frame} {meth : Method} {c : Code} {b L : Nat} {xs : Nat → Int32} {D : va_G} {h1 h2 : Nat → Nat} {d1 d2 : Nat → ClassId} {nb : Nat} {mw : Nat} {fr to : Nat → Nat} {dl hd : Nat → Int} {kn sd : Int} {le lo lg lg2 ln : Nat → Int} {kn2 bp : Int} {pl rc : Nat → Int} {a : Int} {H : Heap} {locs : List Loc} {ls : Array Slot} (hL : L ≤ 257) (C0 : lw_At p s m meth c b L xs) (hKC : va_K D vwCl (rb_TC d1) s) (hKM : va_K D vwCl (rb_TM d2) s) (i : Nat) (hi : 1 + 4 * i + 4 ≤ L) (hl : lv_has ls 4 [(0, .ref b), (1, .ref (h1 0)), (2, .ref (h2 0)), (3, .int (zI ((1 + 4 * i : Nat) : Int)))]) (I : rb_Inv nb mw fr to dl hd kn sd le lo kn2 bp pl a) (ha2 : a ≤ 252) (hP : va_P D vwCl ((rb_WC h1 d1 nb mw fr to dl hd kn sd le lo lg) ++ (rb_WM h2 d2 nb mw fr to dl hd lg2 ln kn2 bp pl rc)) H) (hD : va_D (fun q : Nat => s.heap.size ≤ q) ((rb_WC h1 d1 nb mw fr to dl hd kn sd le lo lg) ++ (rb_WM h2 d2 nb mw fr to dl hd lg2 ln kn2 bp pl rc))) (hS : va_S (fun q : Nat => s.heap.size ≤ q) s.heap H locs) (kk : rb_Go p l e s m below meth c b D h1 d1 h2 d2 nb ls a) : W p l e room_1 s m #[Value.ref b] below meth c H locs 17 200 (lw_Z below #[Value.ref b] s) (F0 m 199 ls []) := by
  obtain ⟨hx, hb, hr, hml, hown, hts0, hX, hbl, hlocks, hgv⟩ := id C0
  have hts : ∀ w ∈ lw_all, w.before #[Value.ref b] s = true := fun w h => hts0 w (lw_all_tbl h)
  have hA : ∀ q : Nat, s.heap.size ≤ q → (fun q : Nat => s.heap.size ≤ q) q := fun _ h => h
  have hbA : ¬ (fun q : Nat => s.heap.size ≤ q) b := Nat.not_le.mpr hbl
  obtain ⟨ok, ha, hf, hk, hmc⟩ := id I
  have hh := rb_hh ha2 hf
  refine lv_aload_n hx hb dL_law_199 rfl (lv_at hl 1 rfl) ?_
  refine zj_I (b := h1 0) ⟨hx, hb, hml, hown, hts⟩ (mC_sound l D h1 d1 nb mw fr to dl hd kn sd le lo lg  ok hh hk ) (cwV 0 hts (lw_V q76 q77 q78 q14 q79) rfl rfl rfl (by decide +kernel) ⟨Nat.le_of_ble_eq_true rfl, Nat.le_of_ble_eq_true rfl⟩) hKC hP hD hS hA [0, 1, 2, 3, 4, 5, 6, 7] [8, 9, 10, 11, 12, 13, 14, 15, 16] rfl rfl (by decide) (by decide) (ci := 0) rfl rfl rfl rfl hl.1 rfl (Nat.le_of_ble_eq_true rfl) dL_law_200 ⟨Nat.le_of_ble_eq_true rfl, Nat.le_of_ble_eq_true rfl⟩ (fun r1 u1 H locs hp1 hP hD hS => ?_)
  have hP : va_P D vwCl ((rb_WM h2 d2 nb mw fr to dl hd lg2 ln kn2 bp pl rc) ++ (rb_WC h1 d1 nb mw fr to dl hd u1.1 u1.2.1 u1.2.2.1 u1.2.2.2.1 u1.2.2.2.2)) H := hP
  have hD : va_D (fun q : Nat => s.heap.size ≤ q) ((rb_WM h2 d2 nb mw fr to dl hd lg2 ln kn2 bp pl rc) ++ (rb_WC h1 d1 nb mw fr to dl hd u1.1 u1.2.1 u1.2.2.1 u1.2.2.2.1 u1.2.2.2.2)) := hD
  refine lv_aload_n hx hb dL_law_203 rfl (lv_at hl 2 rfl) ?_
  refine zj_I (b := h2 0) ⟨hx, hb, hml, hown, hts⟩ (mM_sound l D h2 d2 nb mw fr to dl hd lg2 ln kn2 bp pl rc  ok hh ) (cwV 0 hts (lw_V q192 q193 q194 q15 q195) rfl rfl rfl (by decide +kernel) ⟨Nat.le_of_ble_eq_true rfl, Nat.le_of_ble_eq_true rfl⟩) hKM hP hD hS hA [0, 1, 2, 3, 4, 5, 6, 7, 8] [9, 10, 11, 12, 13, 14, 15, 16] rfl rfl (by decide) (by decide) (ci := 1) rfl rfl rfl rfl hl.1 rfl (Nat.le_of_ble_eq_true rfl) dL_law_204 ⟨Nat.le_of_ble_eq_true rfl, Nat.le_of_ble_eq_true rfl⟩ (fun r2 u2 H locs hp2 hP hD hS => ?_)
  have hP : va_P D vwCl ((rb_WC h1 d1 nb mw fr to dl hd u1.1 u1.2.1 u1.2.2.1 u1.2.2.2.1 u1.2.2.2.2) ++ (rb_WM h2 d2 nb mw fr to dl hd (fun _ => 0) (rb_qs nb mw fr to hd ln) kn2 bp pl rc)) H := hP
  have hD : va_D (fun q : Nat => s.heap.size ≤ q) ((rb_WC h1 d1 nb mw fr to dl hd u1.1 u1.2.1 u1.2.2.1 u1.2.2.2.1 u1.2.2.2.2) ++ (rb_WM h2 d2 nb mw fr to dl hd (fun _ => 0) (rb_qs nb mw fr to hd ln) kn2 bp pl rc)) := hD
  refine lv_icmp_eq (tgt := 353) hx hb dL_law_207 (by decide) (fun _ => ?_) (fun cq => absurd ((hp1.1).trans (hp2).symm) cq)
  exact kk mw fr to dl hd u1.1 u1.2.1 u1.2.2.1 u1.2.2.2.1 u1.2.2.2.2 (fun _ => 0) (rb_qs nb mw fr to hd ln) kn2 bp pl rc a (rb_inv_same I hp1.2 hmc) (by omega) _ _ hP hD hS
set_option maxHeartbeats 4000000 in
set_option maxRecDepth 100000 in
theorem rb_case4 {p : Program} {l : Launch} {e : Env} {s : State} {m : MethodId} {below : List Frame} {meth : Method} {c : Code} {b L : Nat} {xs : Nat → Int32} {D : va_G} {h1 h2 : Nat → Nat} {d1 d2 : Nat → ClassId} {nb : Nat} {mw : Nat} {fr to : Nat → Nat} {dl hd : Nat → Int} {kn sd : Int} {le lo lg lg2 ln : Nat → Int} {kn2 bp : Int} {pl rc : Nat → Int} {a : Int} {H : Heap} {locs : List Loc} {ls : Array Slot} (hL : L ≤ 257) (C0 : lw_At p s m meth c b L xs) (hKC : va_K D vwCl (rb_TC d1) s) (hKM : va_K D vwCl (rb_TM d2) s) (i : Nat) (hi : 1 + 4 * i + 4 ≤ L) (hl : lv_has ls 4 [(0, .ref b), (1, .ref (h1 0)), (2, .ref (h2 0)), (3, .int (zI ((1 + 4 * i : Nat) : Int)))]) (I : rb_Inv nb mw fr to dl hd kn sd le lo kn2 bp pl a) (ha2 : a ≤ 252) (hP : va_P D vwCl ((rb_WC h1 d1 nb mw fr to dl hd kn sd le lo lg) ++ (rb_WM h2 d2 nb mw fr to dl hd lg2 ln kn2 bp pl rc)) H) (hD : va_D (fun q : Nat => s.heap.size ≤ q) ((rb_WC h1 d1 nb mw fr to dl hd kn sd le lo lg) ++ (rb_WM h2 d2 nb mw fr to dl hd lg2 ln kn2 bp pl rc))) (hS : va_S (fun q : Nat => s.heap.size ≤ q) s.heap H locs) (kk : rb_Go p l e s m below meth c b D h1 d1 h2 d2 nb ls a) : W p l e room_1 s m #[Value.ref b] below meth c H locs 17 200 (lw_Z below #[Value.ref b] s) (F0 m 212 ls []) := by
  obtain ⟨hx, hb, hr, hml, hown, hts0, hX, hbl, hlocks, hgv⟩ := id C0
  have hts : ∀ w ∈ lw_all, w.before #[Value.ref b] s = true := fun w h => hts0 w (lw_all_tbl h)
  have hA : ∀ q : Nat, s.heap.size ≤ q → (fun q : Nat => s.heap.size ≤ q) q := fun _ h => h
  have hbA : ¬ (fun q : Nat => s.heap.size ≤ q) b := Nat.not_le.mpr hbl
  obtain ⟨ok, ha, hf, hk, hmc⟩ := id I
  have hh := rb_hh ha2 hf
  refine lv_aload_n hx hb dL_law_212 rfl (lv_at hl 1 rfl) ?_
  refine zj_I (b := h1 0) ⟨hx, hb, hml, hown, hts⟩ (mC_period l D h1 d1 nb mw fr to dl hd kn sd le lo lg  ok hh hk ) (cwV 0 hts (lw_V q88 q89 q90 q14 q91) rfl rfl rfl (by decide +kernel) ⟨Nat.le_of_ble_eq_true rfl, Nat.le_of_ble_eq_true rfl⟩) hKC hP hD hS hA [0, 1, 2, 3, 4, 5, 6, 7] [8, 9, 10, 11, 12, 13, 14, 15, 16] rfl rfl (by decide) (by decide) (ci := 0) rfl rfl rfl rfl hl.1 rfl (Nat.le_of_ble_eq_true rfl) dL_law_213 ⟨Nat.le_of_ble_eq_true rfl, Nat.le_of_ble_eq_true rfl⟩ (fun r1 u1 H locs hp1 hP hD hS => ?_)
  have hP : va_P D vwCl ((rb_WM h2 d2 nb mw fr to dl hd lg2 ln kn2 bp pl rc) ++ (rb_WC h1 d1 nb mw fr to dl hd 1 (rb_sdv nb (rb_ms nb mw fr to dl hd)) (rb_ms nb mw fr to dl hd).1 (rb_ms nb mw fr to dl hd).2 lg)) H := hP
  have hD : va_D (fun q : Nat => s.heap.size ≤ q) ((rb_WM h2 d2 nb mw fr to dl hd lg2 ln kn2 bp pl rc) ++ (rb_WC h1 d1 nb mw fr to dl hd 1 (rb_sdv nb (rb_ms nb mw fr to dl hd)) (rb_ms nb mw fr to dl hd).1 (rb_ms nb mw fr to dl hd).2 lg)) := hD
  refine lv_aload_n hx hb dL_law_216 rfl (lv_at hl 2 rfl) ?_
  refine zj_I (b := h2 0) ⟨hx, hb, hml, hown, hts⟩ (mM_period l D h2 d2 nb mw fr to dl hd lg2 ln kn2 bp pl rc  a ok ha ha2 hf hmc ) (cwV 0 hts (lw_V q200 q201 q202 q15 q203) rfl rfl rfl (by decide +kernel) ⟨Nat.le_of_ble_eq_true rfl, Nat.le_of_ble_eq_true rfl⟩) hKM hP hD hS hA [0, 1, 2, 3, 4, 5, 6, 7, 8] [9, 10, 11, 12, 13, 14, 15, 16] rfl rfl (by decide) (by decide) (ci := 1) rfl rfl rfl rfl hl.1 rfl (Nat.le_of_ble_eq_true rfl) dL_law_217 ⟨Nat.le_of_ble_eq_true rfl, Nat.le_of_ble_eq_true rfl⟩ (fun r2 u2 H locs hp2 hP hD hS => ?_)
  have hP : va_P D vwCl ((rb_WC h1 d1 nb mw fr to dl hd 1 (rb_sdv nb (rb_ms nb mw fr to dl hd)) (rb_ms nb mw fr to dl hd).1 (rb_ms nb mw fr to dl hd).2 lg) ++ (rb_WM h2 d2 nb mw fr to dl hd u2.1 u2.2.1 u2.2.2.1 u2.2.2.2.1 u2.2.2.2.2.1 u2.2.2.2.2.2)) H := hP
  have hD : va_D (fun q : Nat => s.heap.size ≤ q) ((rb_WC h1 d1 nb mw fr to dl hd 1 (rb_sdv nb (rb_ms nb mw fr to dl hd)) (rb_ms nb mw fr to dl hd).1 (rb_ms nb mw fr to dl hd).2 lg) ++ (rb_WM h2 d2 nb mw fr to dl hd u2.1 u2.2.1 u2.2.2.1 u2.2.2.2.1 u2.2.2.2.2.1 u2.2.2.2.2.2)) := hD
  refine lv_icmp_eq (tgt := 353) hx hb dL_law_220 (by decide) (fun _ => ?_) (fun cq => absurd ((hp1).trans (hp2.1).symm) cq)
  exact kk mw fr to dl hd 1 (rb_sdv nb (rb_ms nb mw fr to dl hd)) (rb_ms nb mw fr to dl hd).1 (rb_ms nb mw fr to dl hd).2 lg u2.1 u2.2.1 u2.2.2.1 u2.2.2.2.1 u2.2.2.2.2.1 u2.2.2.2.2.2 a (rb_inv_same I (Or.inr ⟨rfl, rfl, rfl, rfl⟩) hp2.2) (by omega) _ _ hP hD hS
set_option maxHeartbeats 4000000 in
set_option maxRecDepth 100000 in
theorem rb_case5 {p : Program} {l : Launch} {e : Env} {s : State} {m : MethodId} {below : List Frame} {meth : Method} {c : Code} {b L : Nat} {xs : Nat → Int32} {D : va_G} {h1 h2 : Nat → Nat} {d1 d2 : Nat → ClassId} {nb : Nat} {mw : Nat} {fr to : Nat → Nat} {dl hd : Nat → Int} {kn sd : Int} {le lo lg lg2 ln : Nat → Int} {kn2 bp : Int} {pl rc : Nat → Int} {a : Int} {H : Heap} {locs : List Loc} {ls : Array Slot} (hL : L ≤ 257) (C0 : lw_At p s m meth c b L xs) (hKC : va_K D vwCl (rb_TC d1) s) (hKM : va_K D vwCl (rb_TM d2) s) (i : Nat) (hi : 1 + 4 * i + 4 ≤ L) (hl : lv_has ls 4 [(0, .ref b), (1, .ref (h1 0)), (2, .ref (h2 0)), (3, .int (zI ((1 + 4 * i : Nat) : Int)))]) (I : rb_Inv nb mw fr to dl hd kn sd le lo kn2 bp pl a) (ha2 : a ≤ 252) (hP : va_P D vwCl ((rb_WC h1 d1 nb mw fr to dl hd kn sd le lo lg) ++ (rb_WM h2 d2 nb mw fr to dl hd lg2 ln kn2 bp pl rc)) H) (hD : va_D (fun q : Nat => s.heap.size ≤ q) ((rb_WC h1 d1 nb mw fr to dl hd kn sd le lo lg) ++ (rb_WM h2 d2 nb mw fr to dl hd lg2 ln kn2 bp pl rc))) (hS : va_S (fun q : Nat => s.heap.size ≤ q) s.heap H locs) (kk : rb_Go p l e s m below meth c b D h1 d1 h2 d2 nb ls a) : W p l e room_1 s m #[Value.ref b] below meth c H locs 17 200 (lw_Z below #[Value.ref b] s) (F0 m 225 ls []) := by
  obtain ⟨hx, hb, hr, hml, hown, hts0, hX, hbl, hlocks, hgv⟩ := id C0
  have hts : ∀ w ∈ lw_all, w.before #[Value.ref b] s = true := fun w h => hts0 w (lw_all_tbl h)
  have hA : ∀ q : Nat, s.heap.size ≤ q → (fun q : Nat => s.heap.size ≤ q) q := fun _ h => h
  have hbA : ¬ (fun q : Nat => s.heap.size ≤ q) b := Nat.not_le.mpr hbl
  obtain ⟨ok, ha, hf, hk, hmc⟩ := id I
  have hh := rb_hh ha2 hf
  refine lv_aload_n hx hb dL_law_225 rfl (lv_at hl 1 rfl) ?_
  refine zj_I (b := h1 0) ⟨hx, hb, hml, hown, hts⟩ (mC_best l D h1 d1 nb mw fr to dl hd kn sd le lo lg  ok hh hk ) (cwV 0 hts (lw_V q96 q97 q98 q14 q99) rfl rfl rfl (by decide +kernel) ⟨Nat.le_of_ble_eq_true rfl, Nat.le_of_ble_eq_true rfl⟩) hKC hP hD hS hA [0, 1, 2, 3, 4, 5, 6, 7] [8, 9, 10, 11, 12, 13, 14, 15, 16] rfl rfl (by decide) (by decide) (ci := 0) rfl rfl rfl rfl hl.1 rfl (Nat.le_of_ble_eq_true rfl) dL_law_226 ⟨Nat.le_of_ble_eq_true rfl, Nat.le_of_ble_eq_true rfl⟩ (fun r1 u1 H locs hp1 hP hD hS => ?_)
  have hP : va_P D vwCl ((rb_WM h2 d2 nb mw fr to dl hd lg2 ln kn2 bp pl rc) ++ (rb_WC h1 d1 nb mw fr to dl hd 1 (rb_sdv nb (rb_ms nb mw fr to dl hd)) (rb_ms nb mw fr to dl hd).1 (rb_ms nb mw fr to dl hd).2 u1)) H := hP
  have hD : va_D (fun q : Nat => s.heap.size ≤ q) ((rb_WM h2 d2 nb mw fr to dl hd lg2 ln kn2 bp pl rc) ++ (rb_WC h1 d1 nb mw fr to dl hd 1 (rb_sdv nb (rb_ms nb mw fr to dl hd)) (rb_ms nb mw fr to dl hd).1 (rb_ms nb mw fr to dl hd).2 u1)) := hD
  refine lv_aload_n hx hb dL_law_229 rfl (lv_at hl 2 rfl) ?_
  refine zj_I (b := h2 0) ⟨hx, hb, hml, hown, hts⟩ (mM_best l D h2 d2 nb mw fr to dl hd lg2 ln kn2 bp pl rc  a ok ha ha2 hf hmc ) (cwV 0 hts (lw_V q213 q214 q215 q15 q216) rfl rfl rfl (by decide +kernel) ⟨Nat.le_of_ble_eq_true rfl, Nat.le_of_ble_eq_true rfl⟩) hKM hP hD hS hA [0, 1, 2, 3, 4, 5, 6, 7, 8] [9, 10, 11, 12, 13, 14, 15, 16] rfl rfl (by decide) (by decide) (ci := 1) rfl rfl rfl rfl hl.1 rfl (Nat.le_of_ble_eq_true rfl) dL_law_230 ⟨Nat.le_of_ble_eq_true rfl, Nat.le_of_ble_eq_true rfl⟩ (fun r2 u2 H locs hp2 hP hD hS => ?_)
  have hP : va_P D vwCl ((rb_WC h1 d1 nb mw fr to dl hd 1 (rb_sdv nb (rb_ms nb mw fr to dl hd)) (rb_ms nb mw fr to dl hd).1 (rb_ms nb mw fr to dl hd).2 u1) ++ (rb_WM h2 d2 nb mw fr to dl hd u2.1 u2.2.1 u2.2.2.1 u2.2.2.2.1 u2.2.2.2.2.1 u2.2.2.2.2.2)) H := hP
  have hD : va_D (fun q : Nat => s.heap.size ≤ q) ((rb_WC h1 d1 nb mw fr to dl hd 1 (rb_sdv nb (rb_ms nb mw fr to dl hd)) (rb_ms nb mw fr to dl hd).1 (rb_ms nb mw fr to dl hd).2 u1) ++ (rb_WM h2 d2 nb mw fr to dl hd u2.1 u2.2.1 u2.2.2.1 u2.2.2.2.1 u2.2.2.2.2.1 u2.2.2.2.2.2)) := hD
  refine lv_icmp_eq (tgt := 353) hx hb dL_law_233 (by decide) (fun _ => ?_) (fun cq => absurd ((hp1).trans (hp2.1).symm) cq)
  exact kk mw fr to dl hd 1 (rb_sdv nb (rb_ms nb mw fr to dl hd)) (rb_ms nb mw fr to dl hd).1 (rb_ms nb mw fr to dl hd).2 u1 u2.1 u2.2.1 u2.2.2.1 u2.2.2.2.1 u2.2.2.2.2.1 u2.2.2.2.2.2 a (rb_inv_same I (Or.inr ⟨rfl, rfl, rfl, rfl⟩) hp2.2) (by omega) _ _ hP hD hS
set_option maxHeartbeats 4000000 in
set_option maxRecDepth 100000 in
theorem rb_case6 {p : Program} {l : Launch} {e : Env} {s : State} {m : MethodId} {below : List Frame} {meth : Method} {c : Code} {b L : Nat} {xs : Nat → Int32} {D : va_G} {h1 h2 : Nat → Nat} {d1 d2 : Nat → ClassId} {nb : Nat} {mw : Nat} {fr to : Nat → Nat} {dl hd : Nat → Int} {kn sd : Int} {le lo lg lg2 ln : Nat → Int} {kn2 bp : Int} {pl rc : Nat → Int} {a : Int} {H : Heap} {locs : List Loc} {ls : Array Slot} (hL : L ≤ 257) (C0 : lw_At p s m meth c b L xs) (hKC : va_K D vwCl (rb_TC d1) s) (hKM : va_K D vwCl (rb_TM d2) s) (i : Nat) (hi : 1 + 4 * i + 4 ≤ L) (hl : lv_has ls 4 [(0, .ref b), (1, .ref (h1 0)), (2, .ref (h2 0)), (3, .int (zI ((1 + 4 * i : Nat) : Int)))]) (I : rb_Inv nb mw fr to dl hd kn sd le lo kn2 bp pl a) (ha2 : a ≤ 252) (hP : va_P D vwCl ((rb_WC h1 d1 nb mw fr to dl hd kn sd le lo lg) ++ (rb_WM h2 d2 nb mw fr to dl hd lg2 ln kn2 bp pl rc)) H) (hD : va_D (fun q : Nat => s.heap.size ≤ q) ((rb_WC h1 d1 nb mw fr to dl hd kn sd le lo lg) ++ (rb_WM h2 d2 nb mw fr to dl hd lg2 ln kn2 bp pl rc))) (hS : va_S (fun q : Nat => s.heap.size ≤ q) s.heap H locs) (kk : rb_Go p l e s m below meth c b D h1 d1 h2 d2 nb ls a) : W p l e room_1 s m #[Value.ref b] below meth c H locs 17 200 (lw_Z below #[Value.ref b] s) (F0 m 238 ls []) := by
  obtain ⟨hx, hb, hr, hml, hown, hts0, hX, hbl, hlocks, hgv⟩ := id C0
  have hts : ∀ w ∈ lw_all, w.before #[Value.ref b] s = true := fun w h => hts0 w (lw_all_tbl h)
  have hA : ∀ q : Nat, s.heap.size ≤ q → (fun q : Nat => s.heap.size ≤ q) q := fun _ h => h
  have hbA : ¬ (fun q : Nat => s.heap.size ≤ q) b := Nat.not_le.mpr hbl
  obtain ⟨ok, ha, hf, hk, hmc⟩ := id I
  have hh := rb_hh ha2 hf
  refine lv_aload_n hx hb dL_law_238 rfl (lv_at hl 1 rfl) ?_
  refine lv_aload_n hx hb dL_law_239 rfl (lv_at hl 0 rfl) ?_
  refine lv_iload_n hx hb dL_law_240 rfl (lv_at hl 3 rfl) ?_
  refine lv_iconst (v := zI 1) hx hb dL_law_241 rfl ?_
  refine zi_iadd hx hb dL_law_242 ?_
  refine zs_ld hx hb hX hbl hbA hS hL (1 + 4 * i + 1) (by omega) (by omega) dL_law_243 ?_
  refine zj_I (b := h1 0) ⟨hx, hb, hml, hown, hts⟩ (mC_lag l D h1 d1 nb mw fr to dl hd kn sd le lo lg ((xs (1 + 4 * i + 1)).toInt) ok hh hk (zI_inx (xs (1 + 4 * i + 1)))) (cwV 1 hts (lw_V q109 q110 q111 q14 q112) rfl rfl rfl (by decide +kernel) ⟨Nat.le_of_ble_eq_true rfl, Nat.le_of_ble_eq_true rfl⟩) hKC hP hD hS hA [0, 1, 2, 3, 4, 5, 6, 7] [8, 9, 10, 11, 12, 13, 14, 15, 16] rfl rfl (by decide) (by decide) (ci := 0) rfl rfl rfl rfl hl.1 rfl (Nat.le_of_ble_eq_true rfl) dL_law_244 ⟨Nat.le_of_ble_eq_true rfl, Nat.le_of_ble_eq_true rfl⟩ (fun r1 u1 H locs hp1 hP hD hS => ?_)
  have hP : va_P D vwCl ((rb_WM h2 d2 nb mw fr to dl hd lg2 ln kn2 bp pl rc) ++ (rb_WC h1 d1 nb mw fr to dl hd u1.1 u1.2.1 u1.2.2.1 u1.2.2.2.1 u1.2.2.2.2)) H := hP
  have hD : va_D (fun q : Nat => s.heap.size ≤ q) ((rb_WM h2 d2 nb mw fr to dl hd lg2 ln kn2 bp pl rc) ++ (rb_WC h1 d1 nb mw fr to dl hd u1.1 u1.2.1 u1.2.2.1 u1.2.2.2.1 u1.2.2.2.2)) := hD
  refine lv_aload_n hx hb dL_law_247 rfl (lv_at hl 2 rfl) ?_
  refine lv_aload_n hx hb dL_law_248 rfl (lv_at hl 0 rfl) ?_
  refine lv_iload_n hx hb dL_law_249 rfl (lv_at hl 3 rfl) ?_
  refine lv_iconst (v := zI 1) hx hb dL_law_250 rfl ?_
  refine zi_iadd hx hb dL_law_251 ?_
  refine zs_ld hx hb hX hbl hbA hS hL (1 + 4 * i + 1) (by omega) (by omega) dL_law_252 ?_
  refine zj_I (b := h2 0) ⟨hx, hb, hml, hown, hts⟩ (mM_lag l D h2 d2 nb mw fr to dl hd lg2 ln kn2 bp pl rc ((xs (1 + 4 * i + 1)).toInt) a ok ha ha2 hf hmc (zI_inx (xs (1 + 4 * i + 1)))) (cwV 1 hts (lw_V q229 q230 q231 q15 q232) rfl rfl rfl (by decide +kernel) ⟨Nat.le_of_ble_eq_true rfl, Nat.le_of_ble_eq_true rfl⟩) hKM hP hD hS hA [0, 1, 2, 3, 4, 5, 6, 7, 8] [9, 10, 11, 12, 13, 14, 15, 16] rfl rfl (by decide) (by decide) (ci := 1) rfl rfl rfl rfl hl.1 rfl (Nat.le_of_ble_eq_true rfl) dL_law_253 ⟨Nat.le_of_ble_eq_true rfl, Nat.le_of_ble_eq_true rfl⟩ (fun r2 u2 H locs hp2 hP hD hS => ?_)
  have hP : va_P D vwCl ((rb_WC h1 d1 nb mw fr to dl hd u1.1 u1.2.1 u1.2.2.1 u1.2.2.2.1 u1.2.2.2.2) ++ (rb_WM h2 d2 nb mw fr to dl hd u2.1 u2.2.1 u2.2.2.1 u2.2.2.2.1 u2.2.2.2.2.1 u2.2.2.2.2.2)) H := hP
  have hD : va_D (fun q : Nat => s.heap.size ≤ q) ((rb_WC h1 d1 nb mw fr to dl hd u1.1 u1.2.1 u1.2.2.1 u1.2.2.2.1 u1.2.2.2.2) ++ (rb_WM h2 d2 nb mw fr to dl hd u2.1 u2.2.1 u2.2.2.1 u2.2.2.2.1 u2.2.2.2.2.1 u2.2.2.2.2.2)) := hD
  refine lv_icmp_eq (tgt := 353) hx hb dL_law_256 (by decide) (fun _ => ?_) (fun cq => absurd ((hp1.1).trans (hp2.1).symm) cq)
  exact kk mw fr to dl hd u1.1 u1.2.1 u1.2.2.1 u1.2.2.2.1 u1.2.2.2.2 u2.1 u2.2.1 u2.2.2.1 u2.2.2.2.1 u2.2.2.2.2.1 u2.2.2.2.2.2 a (rb_inv_same I hp1.2 hp2.2) (by omega) _ _ hP hD hS
set_option maxHeartbeats 4000000 in
set_option maxRecDepth 100000 in
theorem rb_case7 {p : Program} {l : Launch} {e : Env} {s : State} {m : MethodId} {below : List Frame} {meth : Method} {c : Code} {b L : Nat} {xs : Nat → Int32} {D : va_G} {h1 h2 : Nat → Nat} {d1 d2 : Nat → ClassId} {nb : Nat} {mw : Nat} {fr to : Nat → Nat} {dl hd : Nat → Int} {kn sd : Int} {le lo lg lg2 ln : Nat → Int} {kn2 bp : Int} {pl rc : Nat → Int} {a : Int} {H : Heap} {locs : List Loc} {ls : Array Slot} (hL : L ≤ 257) (C0 : lw_At p s m meth c b L xs) (hKC : va_K D vwCl (rb_TC d1) s) (hKM : va_K D vwCl (rb_TM d2) s) (i : Nat) (hi : 1 + 4 * i + 4 ≤ L) (hl : lv_has ls 4 [(0, .ref b), (1, .ref (h1 0)), (2, .ref (h2 0)), (3, .int (zI ((1 + 4 * i : Nat) : Int)))]) (I : rb_Inv nb mw fr to dl hd kn sd le lo kn2 bp pl a) (ha2 : a ≤ 252) (hP : va_P D vwCl ((rb_WC h1 d1 nb mw fr to dl hd kn sd le lo lg) ++ (rb_WM h2 d2 nb mw fr to dl hd lg2 ln kn2 bp pl rc)) H) (hD : va_D (fun q : Nat => s.heap.size ≤ q) ((rb_WC h1 d1 nb mw fr to dl hd kn sd le lo lg) ++ (rb_WM h2 d2 nb mw fr to dl hd lg2 ln kn2 bp pl rc))) (hS : va_S (fun q : Nat => s.heap.size ≤ q) s.heap H locs) (kk : rb_Go p l e s m below meth c b D h1 d1 h2 d2 nb ls a) : W p l e room_1 s m #[Value.ref b] below meth c H locs 17 200 (lw_Z below #[Value.ref b] s) (F0 m 261 ls []) := by
  obtain ⟨hx, hb, hr, hml, hown, hts0, hX, hbl, hlocks, hgv⟩ := id C0
  have hts : ∀ w ∈ lw_all, w.before #[Value.ref b] s = true := fun w h => hts0 w (lw_all_tbl h)
  have hA : ∀ q : Nat, s.heap.size ≤ q → (fun q : Nat => s.heap.size ≤ q) q := fun _ h => h
  have hbA : ¬ (fun q : Nat => s.heap.size ≤ q) b := Nat.not_le.mpr hbl
  obtain ⟨ok, ha, hf, hk, hmc⟩ := id I
  have hh := rb_hh ha2 hf
  refine lv_aload_n hx hb dL_law_261 rfl (lv_at hl 1 rfl) ?_
  refine lv_aload_n hx hb dL_law_262 rfl (lv_at hl 0 rfl) ?_
  refine lv_iload_n hx hb dL_law_263 rfl (lv_at hl 3 rfl) ?_
  refine lv_iconst (v := zI 1) hx hb dL_law_264 rfl ?_
  refine zi_iadd hx hb dL_law_265 ?_
  refine zs_ld hx hb hX hbl hbA hS hL (1 + 4 * i + 1) (by omega) (by omega) dL_law_266 ?_
  refine zj_I (b := h1 0) ⟨hx, hb, hml, hown, hts⟩ (mC_reachable l D h1 d1 nb mw fr to dl hd kn sd le lo lg ((xs (1 + 4 * i + 1)).toInt) ok hh hk (zI_inx (xs (1 + 4 * i + 1)))) (cwV 1 hts (lw_V q114 q115 q116 q14 q117) rfl rfl rfl (by decide +kernel) ⟨Nat.le_of_ble_eq_true rfl, Nat.le_of_ble_eq_true rfl⟩) hKC hP hD hS hA [0, 1, 2, 3, 4, 5, 6, 7] [8, 9, 10, 11, 12, 13, 14, 15, 16] rfl rfl (by decide) (by decide) (ci := 0) rfl rfl rfl rfl hl.1 rfl (Nat.le_of_ble_eq_true rfl) dL_law_267 ⟨Nat.le_of_ble_eq_true rfl, Nat.le_of_ble_eq_true rfl⟩ (fun r1 u1 H locs hp1 hP hD hS => ?_)
  have hP : va_P D vwCl ((rb_WM h2 d2 nb mw fr to dl hd lg2 ln kn2 bp pl rc) ++ (rb_WC h1 d1 nb mw fr to dl hd u1.1 u1.2.1 u1.2.2.1 u1.2.2.2.1 u1.2.2.2.2)) H := hP
  have hD : va_D (fun q : Nat => s.heap.size ≤ q) ((rb_WM h2 d2 nb mw fr to dl hd lg2 ln kn2 bp pl rc) ++ (rb_WC h1 d1 nb mw fr to dl hd u1.1 u1.2.1 u1.2.2.1 u1.2.2.2.1 u1.2.2.2.2)) := hD
  refine lv_aload_n hx hb dL_law_270 rfl (lv_at hl 2 rfl) ?_
  refine lv_aload_n hx hb dL_law_271 rfl (lv_at hl 0 rfl) ?_
  refine lv_iload_n hx hb dL_law_272 rfl (lv_at hl 3 rfl) ?_
  refine lv_iconst (v := zI 1) hx hb dL_law_273 rfl ?_
  refine zi_iadd hx hb dL_law_274 ?_
  refine zs_ld hx hb hX hbl hbA hS hL (1 + 4 * i + 1) (by omega) (by omega) dL_law_275 ?_
  refine zj_I (b := h2 0) ⟨hx, hb, hml, hown, hts⟩ (mM_reachable l D h2 d2 nb mw fr to dl hd lg2 ln kn2 bp pl rc ((xs (1 + 4 * i + 1)).toInt) a ok ha ha2 hf hmc (zI_inx (xs (1 + 4 * i + 1)))) (cwV 1 hts (lw_V q233 q234 q235 q15 q236) rfl rfl rfl (by decide +kernel) ⟨Nat.le_of_ble_eq_true rfl, Nat.le_of_ble_eq_true rfl⟩) hKM hP hD hS hA [0, 1, 2, 3, 4, 5, 6, 7, 8] [9, 10, 11, 12, 13, 14, 15, 16] rfl rfl (by decide) (by decide) (ci := 1) rfl rfl rfl rfl hl.1 rfl (Nat.le_of_ble_eq_true rfl) dL_law_276 ⟨Nat.le_of_ble_eq_true rfl, Nat.le_of_ble_eq_true rfl⟩ (fun r2 u2 H locs hp2 hP hD hS => ?_)
  have hP : va_P D vwCl ((rb_WC h1 d1 nb mw fr to dl hd u1.1 u1.2.1 u1.2.2.1 u1.2.2.2.1 u1.2.2.2.2) ++ (rb_WM h2 d2 nb mw fr to dl hd u2.1 u2.2.1 u2.2.2.1 u2.2.2.2.1 u2.2.2.2.2.1 u2.2.2.2.2.2)) H := hP
  have hD : va_D (fun q : Nat => s.heap.size ≤ q) ((rb_WC h1 d1 nb mw fr to dl hd u1.1 u1.2.1 u1.2.2.1 u1.2.2.2.1 u1.2.2.2.2) ++ (rb_WM h2 d2 nb mw fr to dl hd u2.1 u2.2.1 u2.2.2.1 u2.2.2.2.1 u2.2.2.2.2.1 u2.2.2.2.2.2)) := hD
  refine lv_icmp_eq (tgt := 353) hx hb dL_law_279 (by decide) (fun _ => ?_) (fun cq => absurd ((hp1.1).trans (hp2.1).symm) cq)
  exact kk mw fr to dl hd u1.1 u1.2.1 u1.2.2.1 u1.2.2.2.1 u1.2.2.2.2 u2.1 u2.2.1 u2.2.2.1 u2.2.2.2.1 u2.2.2.2.2.1 u2.2.2.2.2.2 a (rb_inv_same I hp1.2 hp2.2) (by omega) _ _ hP hD hS
set_option maxHeartbeats 4000000 in
set_option maxRecDepth 100000 in
theorem rb_case8 {p : Program} {l : Launch} {e : Env} {s : State} {m : MethodId} {below : List Frame} {meth : Method} {c : Code} {b L : Nat} {xs : Nat → Int32} {D : va_G} {h1 h2 : Nat → Nat} {d1 d2 : Nat → ClassId} {nb : Nat} {mw : Nat} {fr to : Nat → Nat} {dl hd : Nat → Int} {kn sd : Int} {le lo lg lg2 ln : Nat → Int} {kn2 bp : Int} {pl rc : Nat → Int} {a : Int} {H : Heap} {locs : List Loc} {ls : Array Slot} (hL : L ≤ 257) (C0 : lw_At p s m meth c b L xs) (hKC : va_K D vwCl (rb_TC d1) s) (hKM : va_K D vwCl (rb_TM d2) s) (i : Nat) (hi : 1 + 4 * i + 4 ≤ L) (hl : lv_has ls 4 [(0, .ref b), (1, .ref (h1 0)), (2, .ref (h2 0)), (3, .int (zI ((1 + 4 * i : Nat) : Int)))]) (I : rb_Inv nb mw fr to dl hd kn sd le lo kn2 bp pl a) (ha2 : a ≤ 252) (hP : va_P D vwCl ((rb_WC h1 d1 nb mw fr to dl hd kn sd le lo lg) ++ (rb_WM h2 d2 nb mw fr to dl hd lg2 ln kn2 bp pl rc)) H) (hD : va_D (fun q : Nat => s.heap.size ≤ q) ((rb_WC h1 d1 nb mw fr to dl hd kn sd le lo lg) ++ (rb_WM h2 d2 nb mw fr to dl hd lg2 ln kn2 bp pl rc))) (hS : va_S (fun q : Nat => s.heap.size ≤ q) s.heap H locs) (kk : rb_Go p l e s m below meth c b D h1 d1 h2 d2 nb ls a) : W p l e room_1 s m #[Value.ref b] below meth c H locs 17 200 (lw_Z below #[Value.ref b] s) (F0 m 284 ls []) := by
  obtain ⟨hx, hb, hr, hml, hown, hts0, hX, hbl, hlocks, hgv⟩ := id C0
  have hts : ∀ w ∈ lw_all, w.before #[Value.ref b] s = true := fun w h => hts0 w (lw_all_tbl h)
  have hA : ∀ q : Nat, s.heap.size ≤ q → (fun q : Nat => s.heap.size ≤ q) q := fun _ h => h
  have hbA : ¬ (fun q : Nat => s.heap.size ≤ q) b := Nat.not_le.mpr hbl
  obtain ⟨ok, ha, hf, hk, hmc⟩ := id I
  have hh := rb_hh ha2 hf
  refine lv_aload_n hx hb dL_law_284 rfl (lv_at hl 1 rfl) ?_
  refine zj_I (b := h1 0) ⟨hx, hb, hml, hown, hts⟩ (mC_apply l D h1 d1 nb mw fr to dl hd kn sd le lo lg  ok hh hk ) (cwV 0 hts (lw_V q118 q119 q120 q14 q121) rfl rfl rfl (by decide +kernel) ⟨Nat.le_of_ble_eq_true rfl, Nat.le_of_ble_eq_true rfl⟩) hKC hP hD hS hA [0, 1, 2, 3, 4, 5, 6, 7] [8, 9, 10, 11, 12, 13, 14, 15, 16] rfl rfl (by decide) (by decide) (ci := 0) rfl rfl rfl rfl hl.1 rfl (Nat.le_of_ble_eq_true rfl) dL_law_285 ⟨Nat.le_of_ble_eq_true rfl, Nat.le_of_ble_eq_true rfl⟩ (fun r1 u1 H locs hp1 hP hD hS => ?_)
  have hP : va_P D vwCl ((rb_WM h2 d2 nb mw fr to dl hd lg2 ln kn2 bp pl rc) ++ (rb_WC h1 d1 nb mw fr to dl (if (rb_sdv nb (rb_ms nb mw fr to dl hd)) = 0 then hd else rb_ap mw fr to hd (rb_G nb mw fr to dl hd)) u1.1 u1.2.1 u1.2.2.1 u1.2.2.2.1 u1.2.2.2.2)) H := hP
  have hD : va_D (fun q : Nat => s.heap.size ≤ q) ((rb_WM h2 d2 nb mw fr to dl hd lg2 ln kn2 bp pl rc) ++ (rb_WC h1 d1 nb mw fr to dl (if (rb_sdv nb (rb_ms nb mw fr to dl hd)) = 0 then hd else rb_ap mw fr to hd (rb_G nb mw fr to dl hd)) u1.1 u1.2.1 u1.2.2.1 u1.2.2.2.1 u1.2.2.2.2)) := hD
  refine lv_aload_n hx hb dL_law_288 rfl (lv_at hl 2 rfl) ?_
  refine zj_I (b := h2 0) ⟨hx, hb, hml, hown, hts⟩ (mM_apply l D h2 d2 nb mw fr to dl hd lg2 ln kn2 bp pl rc  a ok ha ha2 hf hmc ) (cwV 0 hts (lw_V q237 q238 q239 q15 q240) rfl rfl rfl (by decide +kernel) ⟨Nat.le_of_ble_eq_true rfl, Nat.le_of_ble_eq_true rfl⟩) hKM hP hD hS hA [0, 1, 2, 3, 4, 5, 6, 7, 8] [9, 10, 11, 12, 13, 14, 15, 16] rfl rfl (by decide) (by decide) (ci := 1) rfl rfl rfl rfl hl.1 rfl (Nat.le_of_ble_eq_true rfl) dL_law_289 ⟨Nat.le_of_ble_eq_true rfl, Nat.le_of_ble_eq_true rfl⟩ (fun r2 u2 H locs hp2 hP hD hS => ?_)
  have hP : va_P D vwCl ((rb_WC h1 d1 nb mw fr to dl (if (rb_sdv nb (rb_ms nb mw fr to dl hd)) = 0 then hd else rb_ap mw fr to hd (rb_G nb mw fr to dl hd)) u1.1 u1.2.1 u1.2.2.1 u1.2.2.2.1 u1.2.2.2.2) ++ (rb_WM h2 d2 nb mw fr to dl (if (rb_sdv nb (rb_ms nb mw fr to dl hd)) = 0 then hd else rb_ap mw fr to hd (rb_G nb mw fr to dl hd)) u2.1 u2.2.1 u2.2.2.1 u2.2.2.2.1 u2.2.2.2.2.1 u2.2.2.2.2.2)) H := hP
  have hD : va_D (fun q : Nat => s.heap.size ≤ q) ((rb_WC h1 d1 nb mw fr to dl (if (rb_sdv nb (rb_ms nb mw fr to dl hd)) = 0 then hd else rb_ap mw fr to hd (rb_G nb mw fr to dl hd)) u1.1 u1.2.1 u1.2.2.1 u1.2.2.2.1 u1.2.2.2.2) ++ (rb_WM h2 d2 nb mw fr to dl (if (rb_sdv nb (rb_ms nb mw fr to dl hd)) = 0 then hd else rb_ap mw fr to hd (rb_G nb mw fr to dl hd)) u2.1 u2.2.1 u2.2.2.1 u2.2.2.2.1 u2.2.2.2.2.1 u2.2.2.2.2.2)) := hD
  refine lv_icmp_eq (tgt := 353) hx hb dL_law_292 (by decide) (fun _ => ?_) (fun cq => absurd ((hp1.1).trans (hp2.1).symm) cq)
  exact kk mw fr to dl (if (rb_sdv nb (rb_ms nb mw fr to dl hd)) = 0 then hd else rb_ap mw fr to hd (rb_G nb mw fr to dl hd)) u1.1 u1.2.1 u1.2.2.1 u1.2.2.2.1 u1.2.2.2.2 u2.1 u2.2.1 u2.2.2.1 u2.2.2.2.1 u2.2.2.2.2.1 u2.2.2.2.2.2 (a + 4) (rb_inv_apply I ha2 hp1.2 hp2.2) (by omega) _ _ hP hD hS
set_option maxHeartbeats 4000000 in
set_option maxRecDepth 100000 in
theorem rb_case9 {p : Program} {l : Launch} {e : Env} {s : State} {m : MethodId} {below : List Frame} {meth : Method} {c : Code} {b L : Nat} {xs : Nat → Int32} {D : va_G} {h1 h2 : Nat → Nat} {d1 d2 : Nat → ClassId} {nb : Nat} {mw : Nat} {fr to : Nat → Nat} {dl hd : Nat → Int} {kn sd : Int} {le lo lg lg2 ln : Nat → Int} {kn2 bp : Int} {pl rc : Nat → Int} {a : Int} {H : Heap} {locs : List Loc} {ls : Array Slot} (hL : L ≤ 257) (C0 : lw_At p s m meth c b L xs) (hKC : va_K D vwCl (rb_TC d1) s) (hKM : va_K D vwCl (rb_TM d2) s) (i : Nat) (hi : 1 + 4 * i + 4 ≤ L) (hl : lv_has ls 4 [(0, .ref b), (1, .ref (h1 0)), (2, .ref (h2 0)), (3, .int (zI ((1 + 4 * i : Nat) : Int)))]) (I : rb_Inv nb mw fr to dl hd kn sd le lo kn2 bp pl a) (ha2 : a ≤ 252) (hP : va_P D vwCl ((rb_WC h1 d1 nb mw fr to dl hd kn sd le lo lg) ++ (rb_WM h2 d2 nb mw fr to dl hd lg2 ln kn2 bp pl rc)) H) (hD : va_D (fun q : Nat => s.heap.size ≤ q) ((rb_WC h1 d1 nb mw fr to dl hd kn sd le lo lg) ++ (rb_WM h2 d2 nb mw fr to dl hd lg2 ln kn2 bp pl rc))) (hS : va_S (fun q : Nat => s.heap.size ≤ q) s.heap H locs) (kk : rb_Go p l e s m below meth c b D h1 d1 h2 d2 nb ls a) : W p l e room_1 s m #[Value.ref b] below meth c H locs 17 200 (lw_Z below #[Value.ref b] s) (F0 m 297 ls []) := by
  obtain ⟨hx, hb, hr, hml, hown, hts0, hX, hbl, hlocks, hgv⟩ := id C0
  have hts : ∀ w ∈ lw_all, w.before #[Value.ref b] s = true := fun w h => hts0 w (lw_all_tbl h)
  have hA : ∀ q : Nat, s.heap.size ≤ q → (fun q : Nat => s.heap.size ≤ q) q := fun _ h => h
  have hbA : ¬ (fun q : Nat => s.heap.size ≤ q) b := Nat.not_le.mpr hbl
  obtain ⟨ok, ha, hf, hk, hmc⟩ := id I
  have hh := rb_hh ha2 hf
  refine lv_aload_n hx hb dL_law_297 rfl (lv_at hl 1 rfl) ?_
  refine lv_aload_n hx hb dL_law_298 rfl (lv_at hl 0 rfl) ?_
  refine lv_iload_n hx hb dL_law_299 rfl (lv_at hl 3 rfl) ?_
  refine lv_iconst (v := zI 1) hx hb dL_law_300 rfl ?_
  refine zi_iadd hx hb dL_law_301 ?_
  refine zs_ld hx hb hX hbl hbA hS hL (1 + 4 * i + 1) (by omega) (by omega) dL_law_302 ?_
  refine zj_I (b := h1 0) ⟨hx, hb, hml, hown, hts⟩ (mC_registers l D h1 d1 nb mw fr to dl hd kn sd le lo lg ((xs (1 + 4 * i + 1)).toInt) ok.2.2.1 (zI_inx (xs (1 + 4 * i + 1)))) (cwV 1 hts (lw_V q122 q123 q124 q14 q125) rfl rfl rfl (by decide +kernel) ⟨Nat.le_of_ble_eq_true rfl, Nat.le_of_ble_eq_true rfl⟩) hKC hP hD hS hA [0, 1, 2, 3, 4, 5, 6, 7] [8, 9, 10, 11, 12, 13, 14, 15, 16] rfl rfl (by decide) (by decide) (ci := 0) rfl rfl rfl rfl hl.1 rfl (Nat.le_of_ble_eq_true rfl) dL_law_303 ⟨Nat.le_of_ble_eq_true rfl, Nat.le_of_ble_eq_true rfl⟩ (fun r1 u1 H locs hp1 hP hD hS => ?_)
  have hP : va_P D vwCl ((rb_WM h2 d2 nb mw fr to dl hd lg2 ln kn2 bp pl rc) ++ (rb_WC h1 d1 nb mw fr to dl hd kn sd le lo lg)) H := hP
  have hD : va_D (fun q : Nat => s.heap.size ≤ q) ((rb_WM h2 d2 nb mw fr to dl hd lg2 ln kn2 bp pl rc) ++ (rb_WC h1 d1 nb mw fr to dl hd kn sd le lo lg)) := hD
  refine lv_aload_n hx hb dL_law_306 rfl (lv_at hl 2 rfl) ?_
  refine lv_aload_n hx hb dL_law_307 rfl (lv_at hl 0 rfl) ?_
  refine lv_iload_n hx hb dL_law_308 rfl (lv_at hl 3 rfl) ?_
  refine lv_iconst (v := zI 1) hx hb dL_law_309 rfl ?_
  refine zi_iadd hx hb dL_law_310 ?_
  refine zs_ld hx hb hX hbl hbA hS hL (1 + 4 * i + 1) (by omega) (by omega) dL_law_311 ?_
  refine zj_I (b := h2 0) ⟨hx, hb, hml, hown, hts⟩ (mM_registers l D h2 d2 nb mw fr to dl hd lg2 ln kn2 bp pl rc ((xs (1 + 4 * i + 1)).toInt) ok.2.2.1 (zI_inx (xs (1 + 4 * i + 1)))) (cwV 1 hts (lw_V q241 q242 q243 q15 q244) rfl rfl rfl (by decide +kernel) ⟨Nat.le_of_ble_eq_true rfl, Nat.le_of_ble_eq_true rfl⟩) hKM hP hD hS hA [0, 1, 2, 3, 4, 5, 6, 7, 8] [9, 10, 11, 12, 13, 14, 15, 16] rfl rfl (by decide) (by decide) (ci := 1) rfl rfl rfl rfl hl.1 rfl (Nat.le_of_ble_eq_true rfl) dL_law_312 ⟨Nat.le_of_ble_eq_true rfl, Nat.le_of_ble_eq_true rfl⟩ (fun r2 u2 H locs hp2 hP hD hS => ?_)
  have hP : va_P D vwCl ((rb_WC h1 d1 nb mw fr to dl hd kn sd le lo lg) ++ (rb_WM h2 d2 nb mw fr to dl hd lg2 ln kn2 bp pl rc)) H := hP
  have hD : va_D (fun q : Nat => s.heap.size ≤ q) ((rb_WC h1 d1 nb mw fr to dl hd kn sd le lo lg) ++ (rb_WM h2 d2 nb mw fr to dl hd lg2 ln kn2 bp pl rc)) := hD
  refine lv_icmp_eq (tgt := 353) hx hb dL_law_315 (by decide) (fun _ => ?_) (fun cq => absurd ((hp1).trans (hp2).symm) cq)
  exact kk mw fr to dl hd kn sd le lo lg lg2 ln kn2 bp pl rc a (I) (by omega) _ _ hP hD hS
set_option maxHeartbeats 4000000 in
set_option maxRecDepth 100000 in
theorem rb_case10 {p : Program} {l : Launch} {e : Env} {s : State} {m : MethodId} {below : List Frame} {meth : Method} {c : Code} {b L : Nat} {xs : Nat → Int32} {D : va_G} {h1 h2 : Nat → Nat} {d1 d2 : Nat → ClassId} {nb : Nat} {mw : Nat} {fr to : Nat → Nat} {dl hd : Nat → Int} {kn sd : Int} {le lo lg lg2 ln : Nat → Int} {kn2 bp : Int} {pl rc : Nat → Int} {a : Int} {H : Heap} {locs : List Loc} {ls : Array Slot} (hL : L ≤ 257) (C0 : lw_At p s m meth c b L xs) (hKC : va_K D vwCl (rb_TC d1) s) (hKM : va_K D vwCl (rb_TM d2) s) (i : Nat) (hi : 1 + 4 * i + 4 ≤ L) (hl : lv_has ls 4 [(0, .ref b), (1, .ref (h1 0)), (2, .ref (h2 0)), (3, .int (zI ((1 + 4 * i : Nat) : Int)))]) (I : rb_Inv nb mw fr to dl hd kn sd le lo kn2 bp pl a) (ha2 : a ≤ 252) (hP : va_P D vwCl ((rb_WC h1 d1 nb mw fr to dl hd kn sd le lo lg) ++ (rb_WM h2 d2 nb mw fr to dl hd lg2 ln kn2 bp pl rc)) H) (hD : va_D (fun q : Nat => s.heap.size ≤ q) ((rb_WC h1 d1 nb mw fr to dl hd kn sd le lo lg) ++ (rb_WM h2 d2 nb mw fr to dl hd lg2 ln kn2 bp pl rc))) (hS : va_S (fun q : Nat => s.heap.size ≤ q) s.heap H locs) (kk : rb_Go p l e s m below meth c b D h1 d1 h2 d2 nb ls a) : W p l e room_1 s m #[Value.ref b] below meth c H locs 17 200 (lw_Z below #[Value.ref b] s) (F0 m 320 ls []) := by
  obtain ⟨hx, hb, hr, hml, hown, hts0, hX, hbl, hlocks, hgv⟩ := id C0
  have hts : ∀ w ∈ lw_all, w.before #[Value.ref b] s = true := fun w h => hts0 w (lw_all_tbl h)
  have hA : ∀ q : Nat, s.heap.size ≤ q → (fun q : Nat => s.heap.size ≤ q) q := fun _ h => h
  have hbA : ¬ (fun q : Nat => s.heap.size ≤ q) b := Nat.not_le.mpr hbl
  obtain ⟨ok, ha, hf, hk, hmc⟩ := id I
  have hh := rb_hh ha2 hf
  refine lv_aload_n hx hb dL_law_320 rfl (lv_at hl 1 rfl) ?_
  refine lv_aload_n hx hb dL_law_321 rfl (lv_at hl 0 rfl) ?_
  refine lv_iload_n hx hb dL_law_322 rfl (lv_at hl 3 rfl) ?_
  refine lv_iconst (v := zI 1) hx hb dL_law_323 rfl ?_
  refine zi_iadd hx hb dL_law_324 ?_
  refine zs_ld hx hb hX hbl hbA hS hL (1 + 4 * i + 1) (by omega) (by omega) dL_law_325 ?_
  refine lv_aload_n hx hb dL_law_326 rfl (lv_at hl 0 rfl) ?_
  refine lv_iload_n hx hb dL_law_327 rfl (lv_at hl 3 rfl) ?_
  refine lv_iconst (v := zI 2) hx hb dL_law_328 rfl ?_
  refine zi_iadd hx hb dL_law_329 ?_
  refine zs_ld hx hb hX hbl hbA hS hL (1 + 4 * i + 2) (by omega) (by omega) dL_law_330 ?_
  refine zj_I (b := h1 0) ⟨hx, hb, hml, hown, hts⟩ (mC_fewest l D h1 d1 nb mw fr to dl hd kn sd le lo lg ((xs (1 + 4 * i + 1)).toInt) ((xs (1 + 4 * i + 2)).toInt) ok hh hk (zI_inx (xs (1 + 4 * i + 1))) (zI_inx (xs (1 + 4 * i + 2)))) (cwV 2 hts (lw_V q126 q127 q128 q14 q129) rfl rfl rfl (by decide +kernel) ⟨Nat.le_of_ble_eq_true rfl, Nat.le_of_ble_eq_true rfl⟩) hKC hP hD hS hA [0, 1, 2, 3, 4, 5, 6, 7] [8, 9, 10, 11, 12, 13, 14, 15, 16] rfl rfl (by decide) (by decide) (ci := 0) rfl rfl rfl rfl hl.1 rfl (Nat.le_of_ble_eq_true rfl) dL_law_331 ⟨Nat.le_of_ble_eq_true rfl, Nat.le_of_ble_eq_true rfl⟩ (fun r1 u1 H locs hp1 hP hD hS => ?_)
  have hP : va_P D vwCl ((rb_WM h2 d2 nb mw fr to dl hd lg2 ln kn2 bp pl rc) ++ (rb_WC h1 d1 nb mw fr to dl hd u1.1 u1.2.1 u1.2.2.1 u1.2.2.2.1 u1.2.2.2.2)) H := hP
  have hD : va_D (fun q : Nat => s.heap.size ≤ q) ((rb_WM h2 d2 nb mw fr to dl hd lg2 ln kn2 bp pl rc) ++ (rb_WC h1 d1 nb mw fr to dl hd u1.1 u1.2.1 u1.2.2.1 u1.2.2.2.1 u1.2.2.2.2)) := hD
  refine lv_aload_n hx hb dL_law_334 rfl (lv_at hl 2 rfl) ?_
  refine lv_aload_n hx hb dL_law_335 rfl (lv_at hl 0 rfl) ?_
  refine lv_iload_n hx hb dL_law_336 rfl (lv_at hl 3 rfl) ?_
  refine lv_iconst (v := zI 1) hx hb dL_law_337 rfl ?_
  refine zi_iadd hx hb dL_law_338 ?_
  refine zs_ld hx hb hX hbl hbA hS hL (1 + 4 * i + 1) (by omega) (by omega) dL_law_339 ?_
  refine lv_aload_n hx hb dL_law_340 rfl (lv_at hl 0 rfl) ?_
  refine lv_iload_n hx hb dL_law_341 rfl (lv_at hl 3 rfl) ?_
  refine lv_iconst (v := zI 2) hx hb dL_law_342 rfl ?_
  refine zi_iadd hx hb dL_law_343 ?_
  refine zs_ld hx hb hX hbl hbA hS hL (1 + 4 * i + 2) (by omega) (by omega) dL_law_344 ?_
  refine zj_I (b := h2 0) ⟨hx, hb, hml, hown, hts⟩ (mM_fewest l D h2 d2 nb mw fr to dl hd lg2 ln kn2 bp pl rc ((xs (1 + 4 * i + 1)).toInt) ((xs (1 + 4 * i + 2)).toInt) a ok ha ha2 hf hmc (zI_inx (xs (1 + 4 * i + 1))) (zI_inx (xs (1 + 4 * i + 2)))) (cwV 2 hts (lw_V q245 q246 q247 q15 q248) rfl rfl rfl (by decide +kernel) ⟨Nat.le_of_ble_eq_true rfl, Nat.le_of_ble_eq_true rfl⟩) hKM hP hD hS hA [0, 1, 2, 3, 4, 5, 6, 7, 8] [9, 10, 11, 12, 13, 14, 15, 16] rfl rfl (by decide) (by decide) (ci := 1) rfl rfl rfl rfl hl.1 rfl (Nat.le_of_ble_eq_true rfl) dL_law_345 ⟨Nat.le_of_ble_eq_true rfl, Nat.le_of_ble_eq_true rfl⟩ (fun r2 u2 H locs hp2 hP hD hS => ?_)
  have hP : va_P D vwCl ((rb_WC h1 d1 nb mw fr to dl hd u1.1 u1.2.1 u1.2.2.1 u1.2.2.2.1 u1.2.2.2.2) ++ (rb_WM h2 d2 nb mw fr to dl hd u2.1 u2.2.1 u2.2.2.1 u2.2.2.2.1 u2.2.2.2.2.1 u2.2.2.2.2.2)) H := hP
  have hD : va_D (fun q : Nat => s.heap.size ≤ q) ((rb_WC h1 d1 nb mw fr to dl hd u1.1 u1.2.1 u1.2.2.1 u1.2.2.2.1 u1.2.2.2.2) ++ (rb_WM h2 d2 nb mw fr to dl hd u2.1 u2.2.1 u2.2.2.1 u2.2.2.2.1 u2.2.2.2.2.1 u2.2.2.2.2.2)) := hD
  refine lv_icmp_eq (tgt := 353) hx hb dL_law_348 (by decide) (fun _ => ?_) (fun cq => absurd ((hp1.1).trans (hp2.1).symm) cq)
  exact kk mw fr to dl hd u1.1 u1.2.1 u1.2.2.1 u1.2.2.2.1 u1.2.2.2.2 u2.1 u2.2.1 u2.2.2.1 u2.2.2.2.1 u2.2.2.2.2.1 u2.2.2.2.2.2 a (rb_inv_same I hp1.2 hp2.2) (by omega) _ _ hP hD hS
end
section
set_option maxHeartbeats 4000000 in
set_option maxRecDepth 100000 in
theorem rb_loop {p : Program} {l : Launch} {e : Env} {s : State} {m : MethodId} {below : List Frame} {meth : Method} {c : Code} {b L : Nat} {xs : Nat → Int32} {D : va_G} {h1 h2 : Nat → Nat} {d1 d2 : Nat → ClassId} {nb : Nat} (hL : L ≤ 257) (C0 : lw_At p s m meth c b L xs) (hKC : va_K D vwCl (rb_TC d1) s) (hKM : va_K D vwCl (rb_TM d2) s) : ∀ (f i : Nat), i ≤ 64 → 65 ≤ i + f → ∀ (mw : Nat) (fr to : Nat → Nat) (dl hd : Nat → Int) (kn sd : Int) (le lo lg lg2 ln : Nat → Int) (kn2 bp : Int) (pl rc : Nat → Int) (a : Int), rb_Inv nb mw fr to dl hd kn sd le lo kn2 bp pl a → a ≤ 4 * (i : Int) → ∀ (H : Heap) (locs : List Loc) (ls : Array Slot), va_P D vwCl ((rb_WC h1 d1 nb mw fr to dl hd kn sd le lo lg) ++ (rb_WM h2 d2 nb mw fr to dl hd lg2 ln kn2 bp pl rc)) H → va_D (fun q : Nat => s.heap.size ≤ q) ((rb_WC h1 d1 nb mw fr to dl hd kn sd le lo lg) ++ (rb_WM h2 d2 nb mw fr to dl hd lg2 ln kn2 bp pl rc)) → va_S (fun q : Nat => s.heap.size ≤ q) s.heap H locs → lv_has ls 4 [(0, .ref b), (1, .ref (h1 0)), (2, .ref (h2 0)), (3, .int (zI ((1 + 4 * i : Nat) : Int)))] → W p l e room_1 s m #[Value.ref b] below meth c H locs 17 200 (lw_Z below #[Value.ref b] s) (F0 m 28 ls []) := by
  obtain ⟨hx, hb, hr, hml, hown, hts0, hX, hbl, hlocks, hgv⟩ := id C0
  have hbA : ¬ (fun q : Nat => s.heap.size ≤ q) b := Nat.not_le.mpr hbl
  intro f
  induction f with
  | zero => intro i h1 h2; omega
  | succ f ih =>
    intro i hi hf mw fr to dl hd kn sd le lo lg lg2 ln kn2 bp pl rc a I ha H locs ls hP hD hS hl
    refine lv_iload_n hx hb dL_law_28 rfl (lv_at hl 3 rfl) ?_
    refine lv_aload_n hx hb dL_law_29 rfl (lv_at hl 0 rfl) ?_
    refine zs_len hx hb hX hbl hbA hS dL_law_30 ?_
    refine lv_iconst (v := zI 4) hx hb dL_law_31 rfl ?_
    refine zi_isub hx hb dL_law_32 ?_
    refine zi_icmp_gt (tgt := 359) hx hb dL_law_33 (by decide) ⟨by omega, by omega⟩ ⟨by omega, by omega⟩ (fun c1 => ?_) (fun c1 => ?_)
    · refine lv_iconst (v := 1) hx hb dL_law_359 (by decide) ?_
      refine va_forget (fun q hq => hS.2.2 q hq) ?_
      refine W.widen (k := 600000) (n := 7290000) (Nat.le_of_ble_eq_true rfl) (Nat.le_of_ble_eq_true rfl) ?_
      exact lw_ret hx hb hr hlocks dL_law_360
    · have hi4 : 1 + 4 * i + 4 ≤ L := by omega
      have ha2 : a ≤ 252 := by omega
      have kk : rb_Go p l e s m below meth c b D h1 d1 h2 d2 nb ls a := by
        intro mw' fr' to' dl' hd' kn' sd' le' lo' lg' lg2' ln' kn2' bp' pl' rc' a' I' ha' H locs hP hD hS
        refine zi_iinc (k := 3) (x' := (((1 + 4 * (i + 1)) : Nat) : Int)) (lv' := [(3, .int (zI (((1 + 4 * (i + 1)) : Nat) : Int))), (0, .ref b), (1, .ref (h1 0)), (2, .ref (h2 0))]) hx hb dL_law_353 hl rfl (by omega) (by decide) rfl (fun ls hl => ?_)
        refine lv_goto (tgt := 28) hx hb dL_law_356 (by decide) ?_
        exact ih (i + 1) (by omega) (by omega) _ _ _ _ _ _ _ _ _ _ _ _ _ _ _ _ a' I' (by omega) _ _ _ hP hD hS (lv_sub hl [1, 2, 3, 0] rfl)
      refine lv_aload_n hx hb dL_law_36 rfl (lv_at hl 0 rfl) ?_
      refine lv_iload_n hx hb dL_law_37 rfl (lv_at hl 3 rfl) ?_
      refine zs_ld hx hb hX hbl hbA hS hL (1 + 4 * i) rfl (by omega) dL_law_38 ?_
      refine lv_bipush (v := zI 15) hx hb dL_law_39 (by decide) ?_
      refine lv_iand hx hb dL_law_41 ?_
      obtain ⟨q, hq, eq⟩ := rb_m15 (zI (xs (1 + 4 * i)).toInt)
      rw [eq]
      have et : (zI (q : Int)).toInt = (q : Int) := zI_toInt ⟨by omega, by omega⟩
      by_cases hq11 : q < 11
      · have cs : q = 0 ∨ q = 1 ∨ q = 2 ∨ q = 3 ∨ q = 4 ∨ q = 5 ∨ q = 6 ∨ q = 7 ∨ q = 8 ∨ q = 9 ∨ q = 10 := by omega
        rcases cs with rfl | rfl | rfl | rfl | rfl | rfl | rfl | rfl | rfl | rfl | rfl
        · exact lv_tableIn (off := 58) (tgt := 100) hx hb dL_law_42 (by decide) (by decide) (by decide +kernel) (by decide) (rb_case0 hL C0 hKC hKM i hi4 hl I ha2 hP hD hS kk)
        · exact lv_tableIn (off := 91) (tgt := 133) hx hb dL_law_42 (by decide) (by decide) (by decide +kernel) (by decide) (rb_case1 hL C0 hKC hKM i hi4 hl I ha2 hP hD hS kk)
        · exact lv_tableIn (off := 134) (tgt := 176) hx hb dL_law_42 (by decide) (by decide) (by decide +kernel) (by decide) (rb_case2 hL C0 hKC hKM i hi4 hl I ha2 hP hD hS kk)
        · exact lv_tableIn (off := 157) (tgt := 199) hx hb dL_law_42 (by decide) (by decide) (by decide +kernel) (by decide) (rb_case3 hL C0 hKC hKM i hi4 hl I ha2 hP hD hS kk)
        · exact lv_tableIn (off := 170) (tgt := 212) hx hb dL_law_42 (by decide) (by decide) (by decide +kernel) (by decide) (rb_case4 hL C0 hKC hKM i hi4 hl I ha2 hP hD hS kk)
        · exact lv_tableIn (off := 183) (tgt := 225) hx hb dL_law_42 (by decide) (by decide) (by decide +kernel) (by decide) (rb_case5 hL C0 hKC hKM i hi4 hl I ha2 hP hD hS kk)
        · exact lv_tableIn (off := 196) (tgt := 238) hx hb dL_law_42 (by decide) (by decide) (by decide +kernel) (by decide) (rb_case6 hL C0 hKC hKM i hi4 hl I ha2 hP hD hS kk)
        · exact lv_tableIn (off := 219) (tgt := 261) hx hb dL_law_42 (by decide) (by decide) (by decide +kernel) (by decide) (rb_case7 hL C0 hKC hKM i hi4 hl I ha2 hP hD hS kk)
        · exact lv_tableIn (off := 242) (tgt := 284) hx hb dL_law_42 (by decide) (by decide) (by decide +kernel) (by decide) (rb_case8 hL C0 hKC hKM i hi4 hl I ha2 hP hD hS kk)
        · exact lv_tableIn (off := 255) (tgt := 297) hx hb dL_law_42 (by decide) (by decide) (by decide +kernel) (by decide) (rb_case9 hL C0 hKC hKM i hi4 hl I ha2 hP hD hS kk)
        · exact lv_tableIn (off := 278) (tgt := 320) hx hb dL_law_42 (by decide) (by decide) (by decide +kernel) (by decide) (rb_case10 hL C0 hKC hKM i hi4 hl I ha2 hP hD hS kk)
      · exact lv_tableOut (tgt := 353) hx hb dL_law_42 (Or.inr (by rw [et]; omega)) (by decide) (kk _ _ _ _ _ _ _ _ _ _ _ _ _ _ _ _ a I (by omega) _ _ hP hD hS)
set_option maxHeartbeats 4000000 in
set_option maxRecDepth 100000 in
theorem whole_start {p : Program} {e : Env} {s : State} {m : MethodId} {below : List Frame} {meth : Method} {c : Code} (l : Launch) {b L : Nat} {xs : Nat → Int32} (hL : L ≤ 257) (C0 : lw_At p s m meth c b L xs) : W p l e room_1 s m #[Value.ref b] below meth c s.heap [] 0 0 (lw_Z below #[Value.ref b] s) (entryFrame m ([Value.ref b] : List Value).toArray 4) := by
  obtain ⟨hx, hb, hr, hml, hown, hts0, hX, hbl, hlocks, hgv⟩ := id C0
  have hts : ∀ w ∈ lw_all, w.before #[Value.ref b] s = true := fun w h => hts0 w (lw_all_tbl h)
  have hA : ∀ q : Nat, s.heap.size ≤ q → (fun q : Nat => s.heap.size ≤ q) q := fun _ h => h
  have hbA : ¬ (fun q : Nat => s.heap.size ≤ q) b := Nat.not_le.mpr hbl
  obtain ⟨c0_, iS0, hKn0⟩ := u_known (C := RX1) (T := TX1) (N := 11) (n := 11) hts in_X1 (hts _ q17)
  obtain ⟨c1_, iS1, hKn1⟩ := u_known (C := RX2) (T := TX2) (N := 12) (n := 12) hts in_X2 (hts _ q134)
  obtain ⟨D, hKc⟩ : ∃ (D : va_G), ∀ (k : Nat) (q : vw_C), vwCl[k]? = some q → u_Kn s q.1 q.2.1 q.2.2 (D.1 k) (D.2 k) := by
    refine ⟨(fun k => if k = 0 then c0_ else c1_, fun k => if k = 0 then iS0 else iS1), ?_⟩
    intro k q hq
    match k, hq with
    | 0, hq => cases hq; exact hKn0
    | 1, hq => cases hq; exact hKn1
    | k + 2, hq => simp [vwCl] at hq
  have hS : va_S (fun q : Nat => s.heap.size ≤ q) s.heap s.heap [] := va_S.rf
  have hK : va_K D vwCl [] s := ⟨hKc, fun k q h => by simp at h⟩
  have hP : va_P D vwCl [] s.heap := fun k q h => by simp at h
  have hD : va_D (fun q : Nat => s.heap.size ≤ q) [] := ⟨fun i j p q h => by simp at h, fun k q h => by simp at h⟩
  have hl := lv_entry ([.ref b]) (n := 4) (Nat.le_of_ble_eq_true rfl)
  rw [lg_entry_eq]
  generalize (lg_sl ([.ref b]) ++ List.replicate (4 - (lg_sl ([.ref b])).length) Slot.unset).toArray = ls at hl ⊢
  have hl : lv_has ls 4 [(0, .ref b)] := hl
  refine va_new (ci := 0) (fs := [.int (zI 0), .null, .int (zI 0), .null, .null, .null, .int (zI 0), .int (zI 0), .null, .null, .null]) (C := RX1) (T := TX1) (N := 11) hx hb hts in_X1 tyX1 tyX1_ok hown (hts _ q16) (hts _ q17) (hts _ q14) hK hP hD hS hA rfl (fun j hj => by rcases (show j = 0 ∨ j = 1 ∨ j = 2 ∨ j = 3 ∨ j = 4 ∨ j = 5 ∨ j = 6 ∨ j = 7 ∨ j = 8 ∨ j = 9 ∨ j = 10 by omega) with rfl | rfl | rfl | rfl | rfl | rfl | rfl | rfl | rfl | rfl | rfl <;> rfl) (Nat.le_of_ble_eq_true rfl) (Nat.le_of_ble_eq_true rfl) dL_law_0 (fun q0 H hP hD hS => ?_)
  have hP : va_P D vwCl [(q0, .inr (0, [.int (zI 0), .null, .int (zI 0), .null, .null, .null, .int (zI 0), .int (zI 0), .null, .null, .null]))] H := hP
  have hD : va_D (fun q : Nat => s.heap.size ≤ q) [(q0, .inr (0, [.int (zI 0), .null, .int (zI 0), .null, .null, .null, .int (zI 0), .int (zI 0), .null, .null, .null]))] := hD
  refine W.widen (k := 1) (n := 11) (Nat.le_refl _) (Nat.le_refl _) ?_
  refine lv_dup hx hb dL_law_3 rfl ?_
  refine lv_aload_n hx hb dL_law_4 rfl (lv_at hl 0 rfl) ?_
  refine lv_iconst (v := zI 0) hx hb dL_law_5 rfl ?_
  have hbH : H[b]? = s.heap[b]? := hS.2.1 b hbl hbA
  have hHs : s.heap.size ≤ H.size := hS.1
  refine va_calli (va_runS (As := [.ref b, .int (zI 0)]) (rest := [.ref q0, .ref q0]) ⟨hx, hb, hml, hown, hts⟩ (mL_cell l b L xs hL H.size) (va_cwS 2 hts (lw_S q130 q131 q13 q132) rfl rfl rfl (by decide +kernel) ⟨Nat.le_of_ble_eq_true rfl, Nat.le_of_ble_eq_true rfl⟩) ⟨rb_blindS b L xs _ H.size, fun U hU hW => ⟨rfl, by rw [hU], by omega, va_X.moved hW.alike (by rw [hU]; exact hX.kept hbH)⟩⟩ rfl rfl hl.1 rfl (lv_room (Nat.le_of_ble_eq_true rfl)) dL_law_6 ⟨Nat.le_of_ble_eq_true rfl, Nat.le_of_ble_eq_true rfl⟩) hS (fun q h1 h2 => absurd h2 (Nat.not_le.mpr h1)) (fun q h => Nat.le_trans hHs h) (fun r u t H1 locs ht hvm hp hB hz hk hS => ?_)
  have hp : r = zI (rb_cv0 L xs) := hp
  subst hp
  have hP := hP.kept (H1 := H1) (fun k q hq => hk q.1 ((hP k q hq).lt) (Nat.not_le.mpr ((hP k q hq).lt)))
  clear hbH hHs hz hk
  generalize H1 = H at hP hS ht ⊢
  refine W.widen (k := 1) (n := 11) (Nat.le_refl _) (Nat.le_refl _) ?_
  have hPc := hP.sub (ws' := [(q0, .inr (0, [.int (zI 0), .null, .int (zI 0), .null, .null, .null, .int (zI 0), .int (zI 0), .null, .null, .null]))]) [0] rfl
  have hDc := hD.sub (ws' := [(q0, .inr (0, [.int (zI 0), .null, .int (zI 0), .null, .null, .null, .int (zI 0), .int (zI 0), .null, .null, .null]))]) [0] (by decide) rfl
  have hKc := hK.sub (tys' := []) [] rfl
  have hFc := va_free (wc := [(q0, .inr (0, [.int (zI 0), .null, .int (zI 0), .null, .null, .null, .int (zI 0), .int (zI 0), .null, .null, .null]))]) hD hS hA [0] rfl
  refine va_callv (va_runI (As := [.int (zI (rb_cv0 L xs))]) (rest := [.ref q0]) ⟨hx, hb, hml, hown, hts⟩ (mC_init l D q0 H.size (rb_cv0 L xs) (rb_cv0_in L xs)) (cwI 1 hts (lw_meth q20) rfl rfl rfl (hts _ q14) (hts _ q18) (hts _ q19) rfl (by decide +kernel) ⟨Nat.le_of_ble_eq_true rfl, Nat.le_of_ble_eq_true rfl⟩) ⟨rb_blind D [] _ _ H.size, fun U hU hW => ⟨rfl, by rw [hU], by rw [hU]; exact hPc, va_K.moved hW.alike hKc, hDc.weaken (fun _ _ _ _ => trivial)⟩⟩ rfl rfl hl.1 rfl (lv_room (Nat.le_of_ble_eq_true rfl)) dL_law_9 ⟨Nat.le_of_ble_eq_true rfl, Nat.le_of_ble_eq_true rfl⟩) hS (fun q _ h => hFc q h) hFc (fun u t H1 locs ht hvm hw hB hz1 hk1 hS => ?_)
  obtain ⟨h1, d1⟩ := u
  obtain ⟨hP1, hK1, hD1⟩ := hB
  have hw : h1 0 = q0 := hw
  rw [ht] at hP1
  have hKC : va_K D vwCl (rb_TC d1) s := va_K.moved hvm.symm hK1
  obtain ⟨hP, hD⟩ := va_join (wr := []) (w1 := (rb_WC h1 d1 (rb_nb (rb_cv0 L xs)) 0 (fun _ => 0) (fun _ => 0) (fun _ => 0) (fun _ => 0) 0 0 (fun _ => 0) (fun _ => 0) (fun _ => 0))) hP hD [0] [] rfl rfl (by decide) (by decide) hk1 hFc hP1 hD1
  clear hPc hDc hFc hP1 hD1 hk1 hz1
  generalize H1 = H at hP hS ⊢
  have hP : va_P D vwCl (rb_WC h1 d1 (rb_nb (rb_cv0 L xs)) 0 (fun _ => 0) (fun _ => 0) (fun _ => 0) (fun _ => 0) 0 0 (fun _ => 0) (fun _ => 0) (fun _ => 0)) H := hP
  have hD : va_D (fun q : Nat => s.heap.size ≤ q) (rb_WC h1 d1 (rb_nb (rb_cv0 L xs)) 0 (fun _ => 0) (fun _ => 0) (fun _ => 0) (fun _ => 0) 0 0 (fun _ => 0) (fun _ => 0) (fun _ => 0)) := hD
  refine W.widen (k := 8) (n := 107) (Nat.le_refl _) (Nat.le_refl _) ?_
  rw [← hw]
  refine lv_astore_n (lv' := [(1, .ref (h1 0)), (0, .ref b)]) hx hb dL_law_12 rfl hl (by decide) rfl (fun ls hl => ?_)
  refine va_new (ci := 1) (fs := [.int (zI 0), .int (zI 0), .null, .null, .null, .null, .null, .null, .int (zI 0), .int (zI 0), .null, .null]) (C := RX2) (T := TX2) (N := 12) hx hb hts in_X2 tyX2 tyX2_ok hown (hts _ q133) (hts _ q134) (hts _ q15) hK hP hD hS hA rfl (fun j hj => by rcases (show j = 0 ∨ j = 1 ∨ j = 2 ∨ j = 3 ∨ j = 4 ∨ j = 5 ∨ j = 6 ∨ j = 7 ∨ j = 8 ∨ j = 9 ∨ j = 10 ∨ j = 11 by omega) with rfl | rfl | rfl | rfl | rfl | rfl | rfl | rfl | rfl | rfl | rfl | rfl <;> rfl) (Nat.le_of_ble_eq_true rfl) (Nat.le_of_ble_eq_true rfl) dL_law_13 (fun q1 H hP hD hS => ?_)
  have hP : va_P D vwCl ((rb_WC h1 d1 (rb_nb (rb_cv0 L xs)) 0 (fun _ => 0) (fun _ => 0) (fun _ => 0) (fun _ => 0) 0 0 (fun _ => 0) (fun _ => 0) (fun _ => 0)) ++ [(q1, .inr (1, [.int (zI 0), .int (zI 0), .null, .null, .null, .null, .null, .null, .int (zI 0), .int (zI 0), .null, .null]))]) H := hP
  have hD : va_D (fun q : Nat => s.heap.size ≤ q) ((rb_WC h1 d1 (rb_nb (rb_cv0 L xs)) 0 (fun _ => 0) (fun _ => 0) (fun _ => 0) (fun _ => 0) 0 0 (fun _ => 0) (fun _ => 0) (fun _ => 0)) ++ [(q1, .inr (1, [.int (zI 0), .int (zI 0), .null, .null, .null, .null, .null, .null, .int (zI 0), .int (zI 0), .null, .null]))]) := hD
  refine W.widen (k := 9) (n := 119) (Nat.le_refl _) (Nat.le_refl _) ?_
  refine lv_dup hx hb dL_law_16 rfl ?_
  refine lv_aload_n hx hb dL_law_17 rfl (lv_at hl 1 rfl) ?_
  refine lv_iconst (v := zI 0) hx hb dL_law_18 rfl ?_
  have hbH : H[b]? = s.heap[b]? := hS.2.1 b hbl hbA
  have hHs : s.heap.size ≤ H.size := hS.1
  refine va_calli (va_runS (As := [.ref b, .int (zI 0)]) (rest := [.ref q1, .ref q1]) ⟨hx, hb, hml, hown, hts⟩ (mL_cell l b L xs hL H.size) (va_cwS 2 hts (lw_S q130 q131 q13 q132) rfl rfl rfl (by decide +kernel) ⟨Nat.le_of_ble_eq_true rfl, Nat.le_of_ble_eq_true rfl⟩) ⟨rb_blindS b L xs _ H.size, fun U hU hW => ⟨rfl, by rw [hU], by omega, va_X.moved hW.alike (by rw [hU]; exact hX.kept hbH)⟩⟩ rfl rfl hl.1 rfl (lv_room (Nat.le_of_ble_eq_true rfl)) dL_law_19 ⟨Nat.le_of_ble_eq_true rfl, Nat.le_of_ble_eq_true rfl⟩) hS (fun q h1 h2 => absurd h2 (Nat.not_le.mpr h1)) (fun q h => Nat.le_trans hHs h) (fun r u t H1 locs ht hvm hp hB hz hk hS => ?_)
  have hp : r = zI (rb_cv0 L xs) := hp
  subst hp
  have hP := hP.kept (H1 := H1) (fun k q hq => hk q.1 ((hP k q hq).lt) (Nat.not_le.mpr ((hP k q hq).lt)))
  clear hbH hHs hz hk
  generalize H1 = H at hP hS ht ⊢
  refine W.widen (k := 9) (n := 119) (Nat.le_refl _) (Nat.le_refl _) ?_
  have hPc := hP.sub (ws' := [(q1, .inr (1, [.int (zI 0), .int (zI 0), .null, .null, .null, .null, .null, .null, .int (zI 0), .int (zI 0), .null, .null]))]) [8] rfl
  have hDc := hD.sub (ws' := [(q1, .inr (1, [.int (zI 0), .int (zI 0), .null, .null, .null, .null, .null, .null, .int (zI 0), .int (zI 0), .null, .null]))]) [8] (by decide) rfl
  have hKc := hK.sub (tys' := []) [] rfl
  have hFc := va_free (wc := [(q1, .inr (1, [.int (zI 0), .int (zI 0), .null, .null, .null, .null, .null, .null, .int (zI 0), .int (zI 0), .null, .null]))]) hD hS hA [8] rfl
  refine va_callv (va_runI (As := [.int (zI (rb_cv0 L xs))]) (rest := [.ref q1]) ⟨hx, hb, hml, hown, hts⟩ (mM_init l D q1 H.size (rb_cv0 L xs) (rb_cv0_in L xs)) (cwI 1 hts (lw_meth q137) rfl rfl rfl (hts _ q15) (hts _ q135) (hts _ q136) rfl (by decide +kernel) ⟨Nat.le_of_ble_eq_true rfl, Nat.le_of_ble_eq_true rfl⟩) ⟨rb_blind D [] _ _ H.size, fun U hU hW => ⟨rfl, by rw [hU], by rw [hU]; exact hPc, va_K.moved hW.alike hKc, hDc.weaken (fun _ _ _ _ => trivial)⟩⟩ rfl rfl hl.1 rfl (lv_room (Nat.le_of_ble_eq_true rfl)) dL_law_22 ⟨Nat.le_of_ble_eq_true rfl, Nat.le_of_ble_eq_true rfl⟩) hS (fun q _ h => hFc q h) hFc (fun u t H1 locs ht hvm hw hB hz1 hk1 hS => ?_)
  obtain ⟨h2, d2⟩ := u
  obtain ⟨hP1, hK1, hD1⟩ := hB
  have hw : h2 0 = q1 := hw
  rw [ht] at hP1
  have hKM : va_K D vwCl (rb_TM d2) s := va_K.moved hvm.symm hK1
  obtain ⟨hP, hD⟩ := va_join (wr := (rb_WC h1 d1 (rb_nb (rb_cv0 L xs)) 0 (fun _ => 0) (fun _ => 0) (fun _ => 0) (fun _ => 0) 0 0 (fun _ => 0) (fun _ => 0) (fun _ => 0))) (w1 := (rb_WM h2 d2 (rb_nb (rb_cv0 L xs)) 0 (fun _ => 0) (fun _ => 0) (fun _ => 0) (fun _ => 0) (fun _ => 0) (fun _ => 0) 0 0 (fun _ => 0) (fun _ => 0))) hP hD [8] [0, 1, 2, 3, 4, 5, 6, 7] rfl rfl (by decide) (by decide) hk1 hFc hP1 hD1
  clear hPc hDc hFc hP1 hD1 hk1 hz1
  generalize H1 = H at hP hS ⊢
  have hP : va_P D vwCl ((rb_WC h1 d1 (rb_nb (rb_cv0 L xs)) 0 (fun _ => 0) (fun _ => 0) (fun _ => 0) (fun _ => 0) 0 0 (fun _ => 0) (fun _ => 0) (fun _ => 0)) ++ (rb_WM h2 d2 (rb_nb (rb_cv0 L xs)) 0 (fun _ => 0) (fun _ => 0) (fun _ => 0) (fun _ => 0) (fun _ => 0) (fun _ => 0) 0 0 (fun _ => 0) (fun _ => 0))) H := hP
  have hD : va_D (fun q : Nat => s.heap.size ≤ q) ((rb_WC h1 d1 (rb_nb (rb_cv0 L xs)) 0 (fun _ => 0) (fun _ => 0) (fun _ => 0) (fun _ => 0) 0 0 (fun _ => 0) (fun _ => 0) (fun _ => 0)) ++ (rb_WM h2 d2 (rb_nb (rb_cv0 L xs)) 0 (fun _ => 0) (fun _ => 0) (fun _ => 0) (fun _ => 0) (fun _ => 0) (fun _ => 0) 0 0 (fun _ => 0) (fun _ => 0))) := hD
  refine W.widen (k := 17) (n := 200) (Nat.le_refl _) (Nat.le_refl _) ?_
  rw [← hw]
  refine lv_astore_n (lv' := [(2, .ref (h2 0)), (1, .ref (h1 0)), (0, .ref b)]) hx hb dL_law_25 rfl hl (by decide) rfl (fun ls hl => ?_)
  refine lv_iconst (v := zI 1) hx hb dL_law_26 rfl ?_
  refine lv_istore_n (lv' := [(3, .int (zI 1)), (2, .ref (h2 0)), (1, .ref (h1 0)), (0, .ref b)]) hx hb dL_law_27 rfl hl (by decide) rfl (fun ls hl => ?_)
  exact rb_loop hL C0 hKC hKM 65 0 (by omega) (by omega) 0 (fun _ => 0) (fun _ => 0) (fun _ => 0) (fun _ => 0) 0 0 (fun _ => 0) (fun _ => 0) (fun _ => 0) (fun _ => 0) (fun _ => 0) 0 0 (fun _ => 0) (fun _ => 0) 0 (rb_inv_start _) (by omega) _ _ _ hP hD hS (lv_sub hl [3, 2, 1, 0] rfl)
end
section
set_option maxHeartbeats 4000000 in
theorem lw_walk (l : Launch) (b : Addr) (xs : List Int32) : MetFree l x (headSpec (Jvm.Cond.code x code maxLocals ret :: tables_1) room_1) (lw_P b xs) (fun _ _ _ _ _ => True) lw_Q := by
  refine MetFree.of_bodyS (code := code) (maxLocals := maxLocals) (ret := ret) (by decide) ?_ ?_
  · intro args s m h hn
    obtain ⟨meth, c, h1, h2, h3, h4, h5, h6, -, -⟩ := Cond.code_spec hn (atoms_spec (ws := Jvm.Cond.code x code maxLocals ret :: tables_1) h _ List.mem_cons_self)
    exact ⟨meth, c, h1, h2, h3, h4, h5, h6⟩
  · intro p e s m args below meth c s₁ B hml0 hP _
    obtain ⟨rfl, hx, hbd, hgv⟩ := hP
    obtain ⟨scr, harrAt, hlist, hof, hsmall⟩ := hx
    obtain ⟨hcb, hkn, -, -⟩ := State.arrayAt?_spec harrAt
    have hown : s.vm.findClass R_law = some m.cls := findClass_of_methodNamed B.named
    have hts0 : ∀ c ∈ (Jvm.Cond.code x code maxLocals ret :: tables_1), c.before #[Value.ref b] s = true := atoms_spec (ws := Jvm.Cond.code x code maxLocals ret :: tables_1) B.pre
    have hts : ∀ w ∈ lw_tbl, w.before #[Value.ref b] s = true := k2_hts_sels lw_privs (fun w hw => hts0 w (List.mem_cons_of_mem _ hw)) lw_privs_ok
    have hml : c.maxLocals = 4 := B.maxLocals_eq (hts0 _ List.mem_cons_self)
    have X₀ : Stand p l e room_1 s m #[Value.ref b] below meth c s₁ [] 0 0 := Stand.of_body B
    have hh0 : s₁.heap = s.heap := by rw [B.state]; rfl
    have hsz : scr.slots.size = xs.length := by rw [← Array.length_toList, hlist, List.length_map]
    have hval : ∀ j : Nat, j < xs.length → scr.slots[j]? = some (.int (xs.getD j 0)) := fun j hj => by
      rw [← Array.getElem?_toList, hlist]
      simp [hj]
    have hbl : b < s.heap.size := (Array.getElem?_eq_some_iff.mp hcb).1
    have hX : va_X b xs.length (fun j => xs.getD j 0) s s.heap := ⟨scr, hcb, hof, hkn, hsz, hval⟩
    have K : W p l e room_1 s m #[Value.ref b] below meth c s₁.heap [] 0 0 (lw_Z below #[Value.ref b] s) (entryFrame m ([Value.ref b] : List Value).toArray 4) := by
      rw [hh0]
      exact whole_start l hbd ⟨B.exec, B.bytes, B.returns, hml, hown, hts, hX, hbl, B.notSynchronized, hgv⟩
    obtain ⟨t, a1, o, b1, b2, b3⟩ := K s₁ rfl X₀
    exact ⟨t, o, a1, b1, b2, b3⟩
theorem lw_pre_spec {args : Array Value} {s : State} (h : (Jvm.Cond.and given_1 narrow_1).before args s = true) (hr : rest_1_c.before args s = true) : ∃ (b : Addr) (xs : List Int32), lw_P b xs args s := by
  have hs := flat_of_before _ h
  have hq := flat_of_before _ hr
  have hc : (Cond.count 1).before args s = true := hs _ (by decide +kernel)
  have harr : (Cond.arrayOf (.arg 0) .int).before args s = true := hs _ (by decide +kernel)
  have hle : (Cond.le (.length (.arg 0)) (.int 257)).before args s = true := hs _ (by decide +kernel)
  have hlen : (Cond.isInt (.length (.arg 0))).before args s = true := hq _ (by decide +kernel)
  have hall : (Cond.all (.arg 0) (.isInt (.elem (.arg 0) (.index 0)))).before args s = true := hq _ (by decide +kernel)
  obtain ⟨b, xs, hb, hx⟩ := State.ints_of_pre rfl harr hlen hall
  have hsm : xs.length < 2 ^ 31 := hx.choose_spec.2.2.2
  have hev : (Term.length (.arg 0)).eval args s none [] s = some (.int xs.length.toInt32) := hx.length_eval hb
  have hv := Cond.le_ints hev (show (Term.int 257).eval args s none [] s = some (.int 257) from rfl)
  have hd : xs.length.toInt32 ≤ 257 := by
    simpa [Cond.before, Cond.holds, hv] using hle
  have hN : xs.length ≤ 257 := (Int32.ofNat_le_ofNat hsm (by decide)).mp (show Int32.ofNat xs.length ≤ Int32.ofNat 257 from hd)
  exact ⟨b, xs, Cond.one_arg hc (show args[0]? = some (.ref b) from hb), hx, hN, h⟩
theorem lw_comes (l : Launch) : Comes l x (Jvm.Cond.code x code maxLocals ret :: tables_1) room_1 (fun tb e args s => Calls_1 tb e args s ∧ rest_1 tb e args s ∧ Pre_1 tb e args s)
    (fun _ _ args s o t => lw_Q args s o t) := by
  intro p e ha hc hk s m args below hf hfit hheap happ hpre
  obtain ⟨b, xs, hP⟩ := lw_pre_spec hpre.2.2 hpre.2.1
  obtain ⟨k, o, h1, h2, h3, hQ⟩ := lw_walk l b xs p e ha hc hk s m args below hf ((Spec.applies_iff_loose hf).mp happ).1 hP trivial
  exact ⟨k, o, h1, h2, h3, hQ⟩
theorem lw_frame {s t : State} {o : Outcome} {args : Array Value} (h : Framed s o t [] 600000 7290000) :
    Framed s o t (fieldLocs frame_1_writes args s ++ arrayLocs frame_1_arrays args s ++ staticLocs frame_1_statics s) 600000 7290000 := h
theorem lw_limb (L : Cond) (hL : ∀ (args : Array Value) (s t : State), L.after args s (.returned (some (.int 1))) t = true) :
    ArmFor flags0 classFile x code maxLocals ret World_1 tables_1 room_1 Calls_1 rest_1 Pre_1
      (fun tb e a s o t => postC L tb e a s o t ∧ Framed s o t (fieldLocs frame_1_writes a s ++ arrayLocs frame_1_arrays a s ++ staticLocs frame_1_statics s) 600000 7290000) := by
  intro l _ _ _ p e ha hc hk s m args below hf hfit hheap happ hpre
  obtain ⟨k, o, h1, h2, h3, rfl, hF⟩ := lw_comes l p e ha hc hk s m args below hf hfit hheap happ hpre
  exact ⟨k, _, h1, h2, h3, hL args s _, lw_frame hF⟩
theorem i_vc : Claimed_1_1 ∧ Claimed_1_2 := ⟨lw_limb limb_1_1 (fun args s t => by simp [limb_1_1, Cond.after, Cond.holds, Cond.value]), lw_limb limb_1_2 (fun args s t => Cond.after_iff.mpr (by
  first | (rw [show limb_1_2 = Cond.eq .result (.int 1) from rfl, Cond.eq_ints (x := 1) (y := 1) rfl rfl]; simp; done) | (simp [limb_1_2, Cond.value, Term.eval]; done)))⟩
end
