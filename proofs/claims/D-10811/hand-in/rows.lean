section
/-- how many letters a piece has (0: no piece, read as 1) -/
def ff_sz (p : Nat) : Nat := if p < 6 then 1 else if p < 18 then 2 else if p < 54 then 3 else 4
/-- the numbers of pieces, and 0 for none -/
def ff_ok (p : Nat) : Bool := p == 0 || (decide (3 ≤ p) && decide (p < 6)) || (decide (9 ≤ p) && decide (p < 18)) || (decide (27 ≤ p) && decide (p < 54)) || (decide (81 ≤ p) && decide (p < 162))
/-- the beginnings of a piece: state j is the beginning of j letters -/
def ff_kn (p j : Nat) : Nat := if j = 0 then 1 else p / 3 ^ (ff_sz p - j)
/-- how many letters a word has, by its number -/
def ff_nz (N : Nat) : Nat := if N < 9 then 1 else if N < 27 then 2 else if N < 81 then 3 else 4
/-- the last r letters of a word of z letters -/
def ff_en (N z r : Nat) : Nat := 3 ^ r + (N - 3 ^ z) % 3 ^ r
def ff_t9 (p N z : Nat) : Nat → Nat
  | 0 => 0
  | r + 1 => if r + 1 < ff_sz p ∧ ff_kn p (r + 1) = ff_en N z (r + 1) then r + 1 else ff_t9 p N z r
def ff_t4 (p N z : Nat) : Nat → Nat
  | 0 => ff_t9 p N z z
  | r + 1 => if ff_en N z (r + 1) = p then 25 else ff_t4 p N z r
def ff_tg (p N : Nat) : Nat := ff_t4 p N (ff_nz N) (ff_nz N)
/-- the machine's step -/
def ff_d (p s x : Nat) : Nat := if s = 25 then 25 else ff_tg p (3 * ff_kn p s + x)
def ff_rd (p c : Nat) : Nat → Nat → Nat
  | 0, s => s
  | k + 1, s => ff_rd p c k (ff_d p s (c / 3 ^ k % 3))
/-- the states that are reached -/
def ff_R (p s : Nat) : Prop := s < ff_sz p ∨ s = 25
theorem ff_sz_b (p : Nat) : 1 ≤ ff_sz p ∧ ff_sz p ≤ 4 := by
  unfold ff_sz
  split
  · omega
  · split
    · omega
    · split <;> omega
theorem ff_F1 : ∀ p, p < 162 → ff_ok p = true → ∀ s, s < ff_sz p → ∀ x, x < 3 → (ff_tg p (3 * ff_kn p s + x) < ff_sz p ∨ ff_tg p (3 * ff_kn p s + x) = 25) := by decide +kernel
theorem ff_F2 : ∀ p, p < 162 → ff_ok p = true → ∀ j, j < ff_sz p → (3 ^ j ≤ ff_kn p j ∧ ff_kn p j < 2 * 3 ^ j ∧ ff_kn p j ≤ 53) := by decide +kernel
theorem ff_G3 : ∀ p, p < 162 → ff_ok p = true → ∀ s, s < ff_sz p → ∀ x, x < 3 → x + 3 = p → ff_d p s x = 25 := by decide +kernel
theorem ff_G4 : ∀ p, p < 162 → ff_ok p = true → ∀ s, s < ff_sz p → ∀ v, v < 9 → v + 9 = p → ff_d p (ff_d p s (v / 3)) (v % 3) = 25 := by decide +kernel
theorem ff_F5 : ∀ p, p < 162 → ff_ok p = true → ∀ x, x < 3 → ff_d p 0 x = 25 → x + 3 = p := by decide +kernel
theorem ff_G6 : ∀ p, p < 162 → ff_ok p = true → ∀ v, v < 9 → ff_d p (ff_d p 0 (v / 3)) (v % 3) = 25 → (v % 3 + 3 = p ∨ v + 9 = p ∨ v / 3 + 3 = p) := by decide +kernel
theorem ff_F7 : ∀ x, x < 3 → ff_d 0 0 x = 0 := by decide +kernel
theorem ff_F8 : ∀ N, N < 243 → 3 ≤ N → (1 ≤ ff_nz N ∧ ff_nz N ≤ 4 ∧ 3 ^ ff_nz N ≤ N ∧ N < 3 ^ (ff_nz N + 1)) := by decide +kernel
/-- the letters of a piece's beginnings: known j as the walk computes it -/
theorem ff_F9 : ∀ p, p < 162 → ff_ok p = true → 0 < p → (3 ^ ff_sz p ≤ p ∧ p < 2 * 3 ^ ff_sz p) := by decide +kernel
theorem ff_d25 (p x : Nat) : ff_d p 25 x = 25 := rfl
theorem ff_F3 {p : Nat} (hp : p < 162) (hok : ff_ok p = true) {s : Nat} (hs : ff_R p s) {x : Nat} (hx : x < 3) (e : x + 3 = p) : ff_d p s x = 25 := by
  rcases hs with h | h
  · exact ff_G3 p hp hok s h x hx e
  · rw [h]
    exact ff_d25 p x
theorem ff_F4 {p : Nat} (hp : p < 162) (hok : ff_ok p = true) {s : Nat} (hs : ff_R p s) {y x : Nat} (hy : y < 3) (hx : x < 3) (e : 3 * y + x + 9 = p) : ff_d p (ff_d p s y) x = 25 := by
  rcases hs with h | h
  · have t := ff_G4 p hp hok s h (3 * y + x) (by omega) e
    rw [show (3 * y + x) / 3 = y by omega, show (3 * y + x) % 3 = x by omega] at t
    exact t
  · rw [h, ff_d25]
    exact ff_d25 p x
theorem ff_F6 {p : Nat} (hp : p < 162) (hok : ff_ok p = true) {y x : Nat} (hy : y < 3) (hx : x < 3) (h : ff_d p (ff_d p 0 y) x = 25) : x + 3 = p ∨ 3 * y + x + 9 = p ∨ y + 3 = p := by
  have t := ff_G6 p hp hok (3 * y + x) (by omega)
  rw [show (3 * y + x) / 3 = y by omega, show (3 * y + x) % 3 = x by omega] at t
  exact t h
theorem ff_dR {p s x : Nat} (hp : p < 162) (hok : ff_ok p = true) (hs : ff_R p s) (hx : x < 3) : ff_R p (ff_d p s x) := by
  rcases hs with h | h
  · have hb := ff_sz_b p
    unfold ff_d
    rw [if_neg (by omega)]
    exact ff_F1 p hp hok s h x hx
  · rw [h]
    exact Or.inr rfl
theorem ff_R26 {p s : Nat} (h : ff_R p s) : s < 26 := by
  have hb := ff_sz_b p
  rcases h with h | h <;> omega
theorem ff_R0 (p : Nat) : ff_R p 0 := Or.inl (ff_sz_b p).1
theorem ff_s1 {p c : Nat} (hp : p < 162) (hok : ff_ok p = true) : ∀ k s, ff_R p s → ∃ s', ff_R p s' ∧ ff_rd p c (k + 1) s = ff_d p s' (c % 3) := by
  intro k
  induction k with
  | zero =>
    intro s hs
    refine ⟨s, hs, ?_⟩
    show ff_d p s (c / 3 ^ 0 % 3) = _
    rw [Nat.pow_zero, Nat.div_one]
  | succ k ih =>
    intro s hs
    exact ih _ (ff_dR hp hok hs (Nat.mod_lt _ (by omega)))
theorem ff_s2 {p c : Nat} (hp : p < 162) (hok : ff_ok p = true) : ∀ k s, ff_R p s → ∃ s', ff_R p s' ∧ ff_rd p c (k + 2) s = ff_d p (ff_d p s' (c / 3 % 3)) (c % 3) := by
  intro k
  induction k with
  | zero =>
    intro s hs
    refine ⟨s, hs, ?_⟩
    show ff_d p (ff_d p s (c / 3 ^ 1 % 3)) (c / 3 ^ 0 % 3) = _
    rw [Nat.pow_zero, Nat.div_one, Nat.pow_one]
  | succ k ih =>
    intro s hs
    exact ih _ (ff_dR hp hok hs (Nat.mod_lt _ (by omega)))
/-- the law's 'in': the word ends with the piece, or its last letter but one is the piece -/
def ff_in (p n c : Nat) : Prop := (c % 3 + 3 = p ∧ 0 < n) ∨ (1 < n ∧ (c % 9 + 9 = p ∨ c / 3 % 3 + 3 = p))
theorem ff_l1 {p n c : Nat} (hp : p < 162) (hok : ff_ok p = true) (h : ff_in p n c) : ff_rd p c n 0 = 25 := by
  have h3 : c % 3 < 3 := Nat.mod_lt _ (by omega)
  have h4 : c / 3 % 3 < 3 := Nat.mod_lt _ (by omega)
  rcases h with ⟨e, hn⟩ | ⟨hn, e⟩
  · obtain ⟨k, rfl⟩ : ∃ k, n = k + 1 := ⟨n - 1, by omega⟩
    obtain ⟨s, hs, e1⟩ := ff_s1 (c := c) hp hok k 0 (ff_R0 p)
    rw [e1]
    exact ff_F3 hp hok hs h3 e
  · obtain ⟨k, rfl⟩ : ∃ k, n = k + 2 := ⟨n - 2, by omega⟩
    obtain ⟨s, hs, e1⟩ := ff_s2 (c := c) hp hok k 0 (ff_R0 p)
    rw [e1]
    rcases e with e | e
    · exact ff_F4 hp hok hs h4 h3 (by omega)
    · rw [ff_F3 hp hok hs h4 e]
      exact ff_d25 p _
theorem ff_l2 {p n c : Nat} (hp : p < 162) (hok : ff_ok p = true) (hn : n < 3) (h : ff_rd p c n 0 = 25) : ff_in p n c := by
  have h3 : c % 3 < 3 := Nat.mod_lt _ (by omega)
  have h4 : c / 3 % 3 < 3 := Nat.mod_lt _ (by omega)
  rcases (show n = 0 ∨ n = 1 ∨ n = 2 by omega) with e | e | e
  · rw [e] at h
    exact absurd (show 0 = 25 from h) (by omega)
  · rw [e] at h
    have h' : ff_d p 0 (c / 3 ^ 0 % 3) = 25 := h
    rw [Nat.pow_zero, Nat.div_one] at h'
    exact Or.inl ⟨ff_F5 p hp hok _ h3 h', by omega⟩
  · rw [e] at h
    have h' : ff_d p (ff_d p 0 (c / 3 ^ 1 % 3)) (c / 3 ^ 0 % 3) = 25 := h
    rw [Nat.pow_zero, Nat.div_one, Nat.pow_one] at h'
    rcases ff_F6 hp hok h4 h3 h' with q | q | q
    · exact Or.inl ⟨q, by omega⟩
    · exact Or.inr ⟨by omega, Or.inl (by omega)⟩
    · exact Or.inr ⟨by omega, Or.inr q⟩
theorem ff_l3 (c : Nat) : ∀ n, ff_rd 0 c n 0 = 0 := by
  intro n
  induction n with
  | zero => rfl
  | succ n ih =>
    show ff_rd 0 c n (ff_d 0 0 (c / 3 ^ n % 3)) = 0
    rw [ff_F7 _ (Nat.mod_lt _ (by omega))]
    exact ih
/-- numbers of i letters and of j letters are different -/
theorem ff_lv {i j v : Nat} (h1 : 3 ^ i ≤ v) (h2 : v < 2 * 3 ^ i) (h3 : 3 ^ j ≤ v) (h4 : v < 2 * 3 ^ j) : i = j := by
  have key : ∀ a b : Nat, a < b → 3 ^ b ≤ v → v < 2 * 3 ^ a → False := by
    intro a b hab g1 g2
    have g3 : 3 ^ (a + 1) ≤ 3 ^ b := Nat.pow_le_pow_right (by omega) hab
    rw [Nat.pow_succ] at g3
    generalize 3 ^ a = A at *
    generalize 3 ^ b = B at *
    omega
  rcases Nat.lt_trichotomy i j with h | h | h
  · exact (key i j h h3 h2).elim
  · exact h
  · exact (key j i h h1 h4).elim
theorem ff_pw {r : Nat} (h : r ≤ 4) : 0 < 3 ^ r ∧ 3 ^ r ≤ 81 := by
  have h1 : 3 ^ r ≤ 3 ^ 4 := Nat.pow_le_pow_right (by omega) h
  exact ⟨Nat.pow_pos (by omega), h1⟩
theorem ff_en_b (N z : Nat) {r : Nat} : 3 ^ r ≤ ff_en N z r ∧ ff_en N z r < 2 * 3 ^ r := by
  have h : (N - 3 ^ z) % 3 ^ r < 3 ^ r := Nat.mod_lt _ (Nat.pow_pos (by omega))
  unfold ff_en
  generalize (N - 3 ^ z) % 3 ^ r = a at *
  generalize 3 ^ r = b at *
  omega
end
section
/-! comparisons of ints by their values -/
theorem ff_ic {x y : Int32} {A B : Prop} (a b : Int) (f : a < b → A) (g : b ≤ a → B) (hx : x.toInt = a := by first | rfl | decide) (hy : y.toInt = b := by first | rfl | decide) : (x < y → A) ∧ (¬ x < y → B) := by
  subst hx hy
  rw [Int32.lt_iff_toInt_lt]
  exact ⟨f, fun z => g (by omega)⟩
theorem ff_il {x y : Int32} {A B : Prop} (a b : Int) (f : a ≤ b → A) (g : b < a → B) (hx : x.toInt = a := by first | rfl | decide) (hy : y.toInt = b := by first | rfl | decide) : (x ≤ y → A) ∧ (¬ x ≤ y → B) := by
  subst hx hy
  rw [Int32.le_iff_toInt_le]
  exact ⟨f, fun z => g (by omega)⟩
/-- the pieces, as ints -/
def ff_K (t : Int) : Prop := (3 ≤ t ∧ t < 6) ∨ (9 ≤ t ∧ t < 18) ∨ (27 ≤ t ∧ t < 54) ∨ (81 ≤ t ∧ t < 162)
theorem ff_ofInt {x : Int32} (h : 0 ≤ x.toInt) : ∃ j : Nat, j < 2 ^ 31 ∧ x = nI j ∧ x.toInt = (j : Int) := by
  have h0 : ¬ x < 0 := by
    rw [Int32.lt_iff_toInt_lt]
    have : (0 : Int32).toInt = 0 := by decide
    omega
  obtain ⟨j, hj, e⟩ := nI_of h0
  exact ⟨j, hj, e, by rw [e, nI_toInt hj]⟩
theorem ff_okI {p : Nat} (h : ff_K (p : Int)) : ff_ok p = true ∧ p < 162 ∧ 0 < p := by
  unfold ff_K at h
  refine ⟨?_, by omega, by omega⟩
  unfold ff_ok
  rcases h with h | h | h | h
  · rw [decide_eq_true (show 3 ≤ p by omega), decide_eq_true (show p < 6 by omega)]
    cases (p == 0) <;> rfl
  · rw [decide_eq_true (show 9 ≤ p by omega), decide_eq_true (show p < 18 by omega)]
    simp
  · rw [decide_eq_true (show 27 ≤ p by omega), decide_eq_true (show p < 54 by omega)]
    simp
  · rw [decide_eq_true (show 81 ≤ p by omega), decide_eq_true (show p < 162 by omega)]
    simp
/-! power, sizeOf, isPiece -/
theorem ff_pow {post : Int32 → Prop} {u : St0} {x : Int32} (k : Nat) (h : post (nI (3 ^ k))) (hx : x = nI k := by rfl) (hk : k < 2 ^ 31 := by omega) : wpX_power post u x := by
  subst hx
  unfold wpX_power
  exact pk_loop (fun n i s => wX_power_4 post (nI k) n s (nI i)) (fun i s => s = nI (3 ^ i)) k 0 1 (by omega) (by show (1 : Int32) = nI (3 ^ 0); rfl)
    (fun n s e => pk_le k k (fun _ => by have e' : s = nI (3 ^ k) := e; rw [e']; exact h) (fun z => absurd z (by omega)))
    (fun n i s hi e hw => pk_le k i (fun z => absurd z (by omega)) (fun _ => nm_r (e' := nI (3 ^ (i + 1))) (by have e' : s = nI (3 ^ i) := e; rw [e', Nat.pow_succ, ← pk_mul]; rfl) (nm_r (nI_1 i) (hw _ rfl))))
theorem ff_size {post : Int32 → Prop} {u : St0} {x : Int32} (h1 : x.toInt < 6 → post (nI 1)) (h2 : 6 ≤ x.toInt → x.toInt < 18 → post (nI 2)) (h3 : 18 ≤ x.toInt → x.toInt < 54 → post (nI 3)) (h4 : 54 ≤ x.toInt → post (nI 4)) : wpX_sizeOf post u x := by
  unfold wpX_sizeOf
  refine ⟨4, br_f (by decide) (ff_pow 1 (ff_ic x.toInt 6 h1 (fun g1 => nm_r (e' := nI 2) (by decide) ?_)))⟩
  refine br_f (by decide) (ff_pow 2 (ff_ic x.toInt 18 (h2 g1) (fun g2 => nm_r (e' := nI 3) (by decide) ?_)))
  refine br_f (by decide) (ff_pow 3 (ff_ic x.toInt 54 (h3 g2) (fun g3 => nm_r (e' := nI 4) (by decide) ?_)))
  exact br_t (by decide) (h4 g3)
theorem ff_isP {post : Int32 → Prop} {u : St0} {x : Int32} (hy : ff_K x.toInt → post 1) (hn : ¬ ff_K x.toInt → post 0) : wpX_isPiece post u x := by
  unfold wpX_isPiece
  refine ff_size (fun g => ?_) (fun g g' => ?_) (fun g g' => ?_) (fun g => ?_)
  · exact ff_pow 1 (ff_ic x.toInt 3 (fun q => hn (by unfold ff_K; omega)) (fun q => ff_pow 1 (ff_il 6 x.toInt (fun q' => hn (by unfold ff_K; omega)) (fun q' => hy (by unfold ff_K; omega)))))
  · exact ff_pow 2 (ff_ic x.toInt 9 (fun q => hn (by unfold ff_K; omega)) (fun q => ff_pow 2 (ff_il 18 x.toInt (fun q' => hn (by unfold ff_K; omega)) (fun q' => hy (by unfold ff_K; omega)))))
  · exact ff_pow 3 (ff_ic x.toInt 27 (fun q => hn (by unfold ff_K; omega)) (fun q => ff_pow 3 (ff_il 54 x.toInt (fun q' => hn (by unfold ff_K; omega)) (fun q' => hy (by unfold ff_K; omega)))))
  · exact ff_pow 4 (ff_ic x.toInt 81 (fun q => hn (by unfold ff_K; omega)) (fun q => ff_pow 4 (ff_il 162 x.toInt (fun q' => hn (by unfold ff_K; omega)) (fun q' => hy (by unfold ff_K; omega)))))
/-- sizeOf of a piece -/
theorem ff_sizeN {post : Int32 → Prop} {u : St0} {x : Int32} {p : Nat} (hp : p < 162) (hx : x = nI p) (h : post (nI (ff_sz p))) : wpX_sizeOf post u x := by
  have e : x.toInt = (p : Int) := by rw [hx, nI_toInt (by omega)]
  unfold ff_sz at h
  refine ff_size (fun g => ?_) (fun g g' => ?_) (fun g g' => ?_) (fun g => ?_)
  · rw [if_pos (by omega)] at h
    exact h
  · rw [if_neg (by omega), if_pos (by omega)] at h
    exact h
  · rw [if_neg (by omega), if_neg (by omega), if_pos (by omega)] at h
    exact h
  · rw [if_neg (by omega), if_neg (by omega), if_neg (by omega)] at h
    exact h
/-! place, stateOf -/
section
variable {f0 f1 f2 : Int32} {a1 a2 a3 : Nat → Int32} {a4 a5 a6 : Nat → Int64} {a7 a8 : Nat → Int32}
theorem ff_place {post : Int32 → Prop} {x : Int32} (c : Nat) (hc : c ≤ 1) (h1 : c = 1 → a1 0 = x → post (nI 0)) (h2 : (c = 1 → ¬ a1 0 = x) → post (-1)) : wpX_place post (nI c, f1, f2, a1, a2, a3, a4, a5, a6, a7, a8) x := by
  unfold wpX_place
  refine ⟨2, pk_le c 0 (fun z => h2 (fun e => absurd e (by omega))) (fun z => ⟨pk_in 0 6 (by omega), ?_⟩)⟩
  refine br_c (fun g => h1 (by omega) g) (fun g => nm_r (e' := nI 1) (by decide) ?_)
  exact pk_le c 1 (fun _ => h2 (fun _ => g)) (fun z => absurd z (by omega))
theorem ff_state {post : Int32 → Prop} {x : Int32} (S : Nat) (hS : S ≤ 26) (h1 : ∀ j, j < S → a2 j = x → (∀ i, i < j → ¬ a2 i = x) → post (nI j)) (h2 : (∀ j, j < S → ¬ a2 j = x) → post (-1)) : wpX_stateOf post (f0, nI S, f2, a1, a2, a3, a4, a5, a6, a7, a8) x := by
  unfold wpX_stateOf
  exact pk_loop (σ := Unit) (fun n i _ => wX_stateOf_2 post x f0 (nI S) f2 a1 a2 a3 a4 a5 a6 a7 a8 n (nI i)) (fun i _ => ∀ j, j < i → ¬ a2 j = x) S 0 () (by omega) (fun j hj => absurd hj (by omega))
    (fun n _ h => pk_le S S (fun _ => h2 h) (fun z => absurd z (by omega)))
    (fun n i _ hi h hw => pk_le S i (fun z => absurd z (by omega)) (fun _ => ⟨pk_in i 26 (by omega), br_c (fun g => h1 i hi (by rw [nI_clamp (by omega)] at g; exact g) h) (fun g => nm_r (nI_1 i) (hw () (lt_s (p := fun j => ¬ a2 j = x) h (by rw [nI_clamp (by omega)] at g; exact g))))⟩))
end
/-! isLength, refused -/
theorem ff_refused {post : Int32 → Prop} {u : St0} {x y : Int32} (h1 : (x.toInt < 0 ∨ 9 < x.toInt) → post (-1)) (h2 : ∀ n : Nat, n ≤ 9 → x = nI n → (y.toInt < 0 ∨ (3 ^ n : Nat) ≤ y.toInt) → post (-2)) (h3 : ∀ n k : Nat, n ≤ 9 → x = nI n → k < 3 ^ n → y = nI k → post (nI 0)) : wpX_refused post u x y := by
  unfold wpX_refused wpX_isLength
  refine ff_ic x.toInt 0 (fun g => br_t rfl (h1 (Or.inl g))) (fun g => ?_)
  refine ff_ic 9 x.toInt (fun g' => br_t rfl (h1 (Or.inr g'))) (fun g' => ?_)
  obtain ⟨n, hn, ex, en⟩ := ff_ofInt g
  have hn9 : n ≤ 9 := by omega
  have hb : 3 ^ n ≤ 3 ^ 9 := Nat.pow_le_pow_right (by omega) hn9
  refine br_f (by decide) (ff_ic y.toInt 0 (fun q => h2 n hn9 ex (Or.inl q)) (fun q => ?_))
  refine ff_pow n (ff_ic y.toInt (3 ^ n : Nat) (fun q' => ?_) (fun q' => h2 n hn9 ex (Or.inr q')) rfl (nI_toInt (Nat.lt_of_le_of_lt hb (by decide)))) ex
  obtain ⟨k, hk, ey, ek⟩ := ff_ofInt q
  rw [ek] at q'
  exact h3 n k hn9 ex (Int.ofNat_lt.mp q') ey
end
section
/-! target -/
section
variable {f0 f1 f2 : Int32} {a1 a2 a3 : Nat → Int32} {a4 a5 a6 : Nat → Int64} {a7 a8 : Nat → Int32}
theorem ff_enI {N z r : Nat} (hr : r ≤ 4) (hN : N < 243) : nI (3 ^ r) + (nI (N - 3 ^ z) - nI (N - 3 ^ z) / nI (3 ^ r) * nI (3 ^ r)) = nI (ff_en N z r) := by
  have hb := ff_pw hr
  rw [pk_rem (Nat.lt_of_le_of_lt (Nat.sub_le N (3 ^ z)) (by omega)) hb.1 (by omega), nI_add]
  rfl
theorem ff_dn {z r : Nat} (hr : r + 1 ≤ z) : nI z - nI (z - (r + 1)) = nI (r + 1) := by
  rw [pk_sub (by omega)]
  exact congrArg nI (by omega)
theorem ff_up {z r : Nat} (hr : r + 1 ≤ z) : nI (z - (r + 1)) + 1 = nI (z - r) := by
  rw [nI_1]
  exact congrArg nI (by omega)
theorem ff_90 {post : Int32 → Prop} (p N z : Nat) (hp : p < 162) (hok : ff_ok p = true) (hz : z ≤ 4) (hN : N < 243) (hk : ∀ j, j < ff_sz p → a2 j = nI (ff_kn p j)) :
    ∀ r, r ≤ z → post (nI (ff_t9 p N z r)) → wX_target_90 post (nI z) (nI (N - 3 ^ z)) f0 (nI (ff_sz p)) f2 a1 a2 a3 a4 a5 a6 a7 a8 (r + 1) (nI (z - r)) := by
  intro r
  induction r with
  | zero =>
    intro _ h
    exact pk_le z z (fun _ => h) (fun q => absurd q (by omega))
  | succ r ih =>
    intro hr h
    have hsz := ff_sz_b p
    have hb := ff_pw (r := r + 1) (by omega)
    have he := ff_en_b N z (r := r + 1)
    refine pk_le z (z - (r + 1)) (fun q => absurd q (by omega)) (fun _ => ?_)
    refine ff_pow (r + 1) (ff_pow (r + 1) ⟨nI_ne0 hb.1 (by omega), nm_r (ff_enI (by omega) hN) (ff_state (ff_sz p) (by omega) (fun j hj e _ => ?_) (fun hall => ?_))⟩ (ff_dn hr)) (ff_dn hr)
    · have hkj := ff_F2 p hp hok j hj
      rw [hk j hj] at e
      have e2 : ff_kn p j = ff_en N z (r + 1) := (nI_eq (by omega) (by omega)).mp e
      have e3 : j = r + 1 := ff_lv hkj.1 hkj.2.1 (by rw [e2]; exact he.1) (by rw [e2]; exact he.2)
      have cond : r + 1 < ff_sz p ∧ ff_kn p (r + 1) = ff_en N z (r + 1) := ⟨by omega, by rw [e3] at e2; exact e2⟩
      rw [ff_t9, if_pos cond] at h
      refine br_f (nI_pos (by omega)) ?_
      rw [e3]
      exact h
    · have cond : ¬ (r + 1 < ff_sz p ∧ ff_kn p (r + 1) = ff_en N z (r + 1)) := fun t => hall (r + 1) t.1 (by rw [hk (r + 1) t.1, t.2])
      rw [ff_t9, if_neg cond] at h
      exact br_t (by decide) (nm_r (ff_up hr) (ih (by omega) h))
theorem ff_44 {post : Int32 → Prop} (c p N z : Nat) (hp : p < 162) (hok : ff_ok p = true) (hz : z ≤ 4) (hN : N < 243) (hk : ∀ j, j < ff_sz p → a2 j = nI (ff_kn p j)) (hc : (c = 0 ∧ p = 0) ∨ (c = 1 ∧ a1 0 = nI p)) :
    ∀ r, r ≤ z → post (nI (ff_t4 p N z r)) → wX_target_44 post (nI z) (nI (N - 3 ^ z)) (nI c) (nI (ff_sz p)) f2 a1 a2 a3 a4 a5 a6 a7 a8 (r + 1) (nI (z - r)) := by
  intro r
  induction r with
  | zero =>
    intro _ h
    refine pk_le z z (fun _ => ⟨z + 1, ?_⟩) (fun q => absurd q (by omega))
    have t := ff_90 (post := post) (f0 := nI c) (f2 := f2) (a1 := a1) (a3 := a3) (a4 := a4) (a5 := a5) (a6 := a6) (a7 := a7) (a8 := a8) p N z hp hok hz hN hk z (Nat.le_refl z) h
    rw [Nat.sub_self] at t
    exact t
  | succ r ih =>
    intro hr h
    have hb := ff_pw (r := r + 1) (by omega)
    have he := ff_en_b N z (r := r + 1)
    refine pk_le z (z - (r + 1)) (fun q => absurd q (by omega)) (fun _ => ?_)
    refine ff_pow (r + 1) (ff_pow (r + 1) ⟨nI_ne0 hb.1 (by omega), nm_r (ff_enI (by omega) hN) (ff_place c (by omega) (fun hc1 e => ?_) (fun hall => ?_))⟩ (ff_dn hr)) (ff_dn hr)
    · have ep : a1 0 = nI p := by
        rcases hc with g | g
        · omega
        · exact g.2
      rw [ep] at e
      have e2 : p = ff_en N z (r + 1) := (nI_eq (by omega) (by omega)).mp e
      rw [ff_t4, if_pos e2.symm] at h
      exact br_f (by decide) h
    · have hne : ¬ ff_en N z (r + 1) = p := by
        intro e
        rcases hc with g | g
        · omega
        · exact hall g.1 (by rw [g.2, e])
      rw [ff_t4, if_neg hne] at h
      exact br_t (by decide) (nm_r (ff_up hr) (ih (by omega) h))
theorem ff_34 {post : Int32 → Prop} (c p N z : Nat) (hp : p < 162) (hok : ff_ok p = true) (hz : z ≤ 4) (hN : N < 243) (hzN : 3 ^ z ≤ N) (hk : ∀ j, j < ff_sz p → a2 j = nI (ff_kn p j)) (hc : (c = 0 ∧ p = 0) ∨ (c = 1 ∧ a1 0 = nI p)) (h : post (nI (ff_t4 p N z z))) :
    wX_target_34 post (nI N) (nI z) (nI c) (nI (ff_sz p)) f2 a1 a2 a3 a4 a5 a6 a7 a8 := by
  unfold wX_target_34
  refine ff_pow z (nm_r (pk_sub hzN) ⟨z + 1, ?_⟩)
  have t := ff_44 (post := post) (f2 := f2) (a3 := a3) (a4 := a4) (a5 := a5) (a6 := a6) (a7 := a7) (a8 := a8) c p N z hp hok hz hN hk hc z (Nat.le_refl z) h
  rw [Nat.sub_self] at t
  exact t
theorem ff_23 {post : Int32 → Prop} (c p N z : Nat) (hp : p < 162) (hok : ff_ok p = true) (hz : z ≤ 4) (hN : N < 243) (hzN : 3 ^ z ≤ N) (hk : ∀ j, j < ff_sz p → a2 j = nI (ff_kn p j)) (hc : (c = 0 ∧ p = 0) ∨ (c = 1 ∧ a1 0 = nI p)) (h : post (nI (ff_t4 p N z z))) :
    wX_target_23 post (nI N) (nI z) (nI c) (nI (ff_sz p)) f2 a1 a2 a3 a4 a5 a6 a7 a8 := by
  unfold wX_target_23
  have hb := ff_pw hz
  exact ff_pow z (pk_le (3 ^ z) N (fun _ => ff_34 c p N z hp hok hz hN hzN hk hc h) (fun q => absurd q (by omega)))
theorem ff_tgz {post : Int32 → Prop} (c p N z : Nat) (hp : p < 162) (hok : ff_ok p = true) (hN : N < 243) (hz4 : z ≤ 4) (hzN : 3 ^ z ≤ N) (hNz : N < 3 ^ (z + 1)) (hk : ∀ j, j < ff_sz p → a2 j = nI (ff_kn p j)) (hc : (c = 0 ∧ p = 0) ∨ (c = 1 ∧ a1 0 = nI p)) (h' : post (nI (ff_t4 p N z z))) :
    wpX_target post (nI c, nI (ff_sz p), f2, a1, a2, a3, a4, a5, a6, a7, a8) (nI N) := by
  unfold wpX_target
  have hb : 3 ^ (z + 1) ≤ 3 ^ 5 := Nat.pow_le_pow_right (by omega) (by omega)
  have hb' : 3 ^ (z + 1) < 2 ^ 31 := Nat.lt_of_le_of_lt hb (by decide)
  refine pk_loop (σ := Unit) (fun n i _ => wX_target_2 post (nI N) (nI c) (nI (ff_sz p)) f2 a1 a2 a3 a4 a5 a6 a7 a8 n (nI i)) (fun _ _ => True) z 0 () (by omega) trivial (fun n _ _ => ?_) (fun n i _ hi _ hw => ?_)
  · exact pk_le 5 z (fun q => absurd q (by omega)) (fun _ => ff_pow (z + 1) (pk_lt N (3 ^ (z + 1)) (fun _ => ff_23 c p N z hp hok hz4 hN hzN hk hc h') (fun q => absurd q (Nat.not_le_of_lt hNz)) rfl rfl (by omega) hb') (nI_1 z))
  · have hi' : 3 ^ (i + 1) ≤ 3 ^ z := Nat.pow_le_pow_right (by omega) hi
    have hi2 : 3 ^ (i + 1) ≤ N := Nat.le_trans hi' hzN
    exact pk_le 5 i (fun q => absurd q (by omega)) (fun _ => ff_pow (i + 1) (pk_lt N (3 ^ (i + 1)) (fun q => absurd q (Nat.not_lt_of_le hi2)) (fun _ => nm_r (nI_1 i) (hw () trivial)) rfl rfl (by omega) (Nat.lt_of_le_of_lt hi2 (by omega))) (nI_1 i))
theorem ff_tgt {post : Int32 → Prop} {x : Int32} (c p N : Nat) (hp : p < 162) (hok : ff_ok p = true) (h3 : 3 ≤ N) (hN : N < 243) (hk : ∀ j, j < ff_sz p → a2 j = nI (ff_kn p j)) (hc : (c = 0 ∧ p = 0) ∨ (c = 1 ∧ a1 0 = nI p)) (h : post (nI (ff_tg p N))) (hx : x = nI N) :
    wpX_target post (nI c, nI (ff_sz p), f2, a1, a2, a3, a4, a5, a6, a7, a8) x := by
  subst hx
  obtain ⟨hz1, hz4, hzN, hNz⟩ := ff_F8 N hN h3
  exact ff_tgz c p N (ff_nz N) hp hok hN hz4 hzN hNz hk hc h
end
end
section
/-! countWays: what it writes doesn't matter, its places do -/
section
variable {f0 f1 f2 : Int32} {a1 a2 a3 : Nat → Int32} {a5 a6 : Nat → Int64} {a7 a8 : Nat → Int32}
theorem ff_ix (a m s : Nat) : nI a * nI m + nI s = nI (a * m + s) := by rw [pk_mul, nI_add]
theorem ff_63 {post : St2 → Prop} {J35 J43 : Int32 → (Nat → Int32) → (Nat → Int32) → (Nat → Int32) → (Nat → Int64) → (Nat → Int64) → (Nat → Int64) → (Nat → Int32) → (Nat → Int32) → Prop} (S m s : Nat) (a4 : Nat → Int64) (hS : S ≤ 26) (hm : 1 ≤ m) (hm' : m ≤ 30) (hs : s < 26) (ha : ∀ i, i < S → ∀ l, l < 3 → ∃ t, t < 26 ∧ a3 (3 * i + l) = nI t) (HJ : ∀ a4', J43 (nI (s + 1)) a1 a2 a3 a4' a5 a6 a7 a8) :
    ∃ n, wX_countWays_63 post J35 J43 (nI m) (nI s) f0 (nI S) f2 n 0 a1 a2 a3 a4 a5 a6 a7 a8 := by
  refine pk_loop (fun n i b4 => wX_countWays_63 post J35 J43 (nI m) (nI s) f0 (nI S) f2 n (nI i) a1 a2 a3 b4 a5 a6 a7 a8) (fun _ _ => True) 3 0 a4 (by omega) trivial (fun n b4 _ => ?_) (fun n i b4 hi _ hw => ?_)
  · exact pk_le 3 3 (fun _ => nm_r (nI_1 s) (HJ b4)) (fun z => absurd z (by omega))
  · refine pk_le 3 i (fun z => absurd z (by omega)) (fun _ => pk_le S s (fun _ => nm_r (nI_1 s) (HJ b4)) (fun q => ?_))
    obtain ⟨t, ht, et⟩ := ha s q i hi
    have e1 : (26 : Int32) * nI m + nI s = nI (26 * m + s) := ff_ix 26 m s
    have e2 : (3 : Int32) * nI s + nI i = nI (3 * s + i) := ff_ix 3 s i
    have e3 : nI m - 1 = nI (m - 1) := pk_sub (b := 1) hm
    have e4 : (26 : Int32) * (nI m - 1) + a3 ((3 : Int32) * nI s + nI i).toNatClampNeg = nI (26 * (m - 1) + t) := by
      rw [e2, nI_clamp (by omega), et, e3]
      exact ff_ix 26 (m - 1) t
    exact ⟨pk_in (26 * m + s) 806 (by omega) e1, pk_in (3 * s + i) 78 (by omega) e2, pk_in (26 * (m - 1) + t) 806 (by omega) e4, pk_in (26 * m + s) 806 (by omega) e1, nm_e (nm_r (nI_1 i) (hw _ trivial))⟩
theorem ff_43 {post : St2 → Prop} {J35 : Int32 → (Nat → Int32) → (Nat → Int32) → (Nat → Int32) → (Nat → Int64) → (Nat → Int64) → (Nat → Int64) → (Nat → Int32) → (Nat → Int32) → Prop} (S m : Nat) (a4 : Nat → Int64) (hS : S ≤ 26) (hm : 1 ≤ m) (hm' : m ≤ 30) (ha : ∀ i, i < S → ∀ l, l < 3 → ∃ t, t < 26 ∧ a3 (3 * i + l) = nI t) (HJ : ∀ a4', J35 (nI (m + 1)) a1 a2 a3 a4' a5 a6 a7 a8) :
    ∃ n, wX_countWays_43 post J35 (nI m) f0 (nI S) f2 n 0 a1 a2 a3 a4 a5 a6 a7 a8 := by
  refine pk_loop (fun n i b4 => wX_countWays_43 post J35 (nI m) f0 (nI S) f2 n (nI i) a1 a2 a3 b4 a5 a6 a7 a8) (fun _ _ => True) 26 0 a4 (by omega) trivial (fun n b4 _ => ?_) (fun n i b4 hi _ hw => ?_)
  · exact pk_le 26 26 (fun _ => nm_r (nI_1 m) (HJ b4)) (fun z => absurd z (by omega))
  · have e1 : (26 : Int32) * nI m + nI i = nI (26 * m + i) := ff_ix 26 m i
    exact pk_le 26 i (fun z => absurd z (by omega)) (fun _ => ⟨pk_in (26 * m + i) 806 (by omega) e1, nm_e (ff_63 S m i _ hS hm hm' hi ha (fun a4' => hw a4' trivial))⟩)
theorem ff_35 {post : St2 → Prop} (S : Nat) (a4 : Nat → Int64) (hS : S ≤ 26) (ha : ∀ i, i < S → ∀ l, l < 3 → ∃ t, t < 26 ∧ a3 (3 * i + l) = nI t) (H : ∀ a4', post (f0, nI S, f2, a1, a2, a3, a4', a5, a6, a7, a8)) :
    ∃ n, wX_countWays_35 post f0 (nI S) f2 n 1 a1 a2 a3 a4 a5 a6 a7 a8 := by
  refine pk_loop (fun n i b4 => wX_countWays_35 post f0 (nI S) f2 n (nI i) a1 a2 a3 b4 a5 a6 a7 a8) (fun i _ => 1 ≤ i) 31 1 a4 (by omega) (Nat.le_refl 1) (fun n b4 _ => ?_) (fun n i b4 hi h1 hw => ?_)
  · exact pk_lt 30 31 (fun _ => H b4) (fun z => absurd z (by omega))
  · have h1' : 1 ≤ i := h1
    exact pk_lt 30 i (fun z => absurd z (by omega)) (fun _ => ff_43 S i b4 hS h1' (by omega) ha (fun a4' => hw a4' (Nat.le_add_left 1 i)))
theorem ff_cw {post : St2 → Prop} {a4 : Nat → Int64} (S : Nat) (hS : S ≤ 26) (ha : ∀ i, i < S → ∀ l, l < 3 → ∃ t, t < 26 ∧ a3 (3 * i + l) = nI t) (H : ∀ a4', post (f0, nI S, f2, a1, a2, a3, a4', a5, a6, a7, a8)) :
    wpX_countWays post (f0, nI S, f2, a1, a2, a3, a4, a5, a6, a7, a8) := by
  unfold wpX_countWays
  refine pk_loop (fun n i b4 => wX_countWays_2 post f0 (nI S) f2 n (nI i) a1 a2 a3 b4 a5 a6 a7 a8) (fun _ _ => True) 26 0 a4 (by omega) trivial (fun n b4 _ => ?_) (fun n i b4 hi _ hw => ?_)
  · exact pk_le 26 26 (fun _ => ff_35 S b4 hS ha H) (fun z => absurd z (by omega))
  · exact pk_le 26 i (fun z => absurd z (by omega)) (fun _ => pk_le S i (fun _ => ⟨pk_in i 806 (by omega), nm_e (nm_r (nI_1 i) (hw _ trivial))⟩) (fun _ => ⟨pk_in i 806 (by omega), nm_e (nm_r (nI_1 i) (hw _ trivial))⟩))
end
end
section
/-! build -/
/-- the table of steps as the machine's picture -/
def ff_T (p : Nat) (a3 : Nat → Int32) : Prop := ∀ s, ff_R p s → ∀ x, x < 3 → a3 (3 * s + x) = nI (ff_d p s x)
section
variable {f0 f1 f2 : Int32} {a1 a2 a3 : Nat → Int32} {a4 a5 a6 : Nat → Int64} {a7 a8 : Nat → Int32}
theorem ff_153 {post : St2 → Prop} (p : Nat) (hp : p < 162) (hok : ff_ok p = true) (hT : ∀ j, j < 3 * ff_sz p → a3 j = nI (ff_tg p (3 * ff_kn p (j / 3) + j % 3))) (H : ∀ a3' a4', ff_T p a3' → post (f0, nI (ff_sz p), f2, a1, a2, a3', a4', a5, a6, a7, a8)) :
    ∃ n, wX_build_153 post f0 (nI (ff_sz p)) f2 n 0 a1 a2 a3 a4 a5 a6 a7 a8 := by
  have hsz := ff_sz_b p
  refine pk_loop (fun n i b3 => wX_build_153 post f0 (nI (ff_sz p)) f2 n (nI i) a1 a2 b3 a4 a5 a6 a7 a8) (fun i b3 => (∀ j, j < 3 * ff_sz p → b3 j = nI (ff_tg p (3 * ff_kn p (j / 3) + j % 3))) ∧ ∀ j, j < i → b3 (75 + j) = nI 25) 3 0 a3 (by omega) ⟨hT, fun j hj => absurd hj (by omega)⟩ (fun n b3 h => ?_) (fun n i b3 hi h hw => ?_)
  · obtain ⟨g1, g2⟩ := h
    have h1 : ∀ s, s < ff_sz p → ∀ x, x < 3 → b3 (3 * s + x) = nI (ff_tg p (3 * ff_kn p s + x)) := by
      intro s hs x hx
      rw [g1 (3 * s + x) (by omega), show (3 * s + x) / 3 = s by omega, show (3 * s + x) % 3 = x by omega]
    have hTT : ff_T p b3 := by
      intro s hs x hx
      rcases hs with hs | hs
      · rw [h1 s hs x hx]
        unfold ff_d
        rw [if_neg (by omega)]
      · rw [hs]
        exact g2 x hx
    refine pk_le 3 3 (fun _ => ff_cw (ff_sz p) (by omega) (fun i hi l hl => ⟨_, ?_, h1 i hi l hl⟩) (fun a4' => H b3 a4' hTT)) (fun z => absurd z (by omega))
    rcases ff_F1 p hp hok i hi l hl with q | q <;> omega
  · obtain ⟨g1, g2⟩ := h
    have e : (75 : Int32) + nI i = nI (75 + i) := nI_add 75 i
    have ec : ((75 : Int32) + nI i).toNatClampNeg = 75 + i := pk_cl (75 + i) e
    refine pk_le 3 i (fun z => absurd z (by omega)) (fun _ => ⟨pk_in (75 + i) 78 (by omega) e, nm_e (nm_r (nI_1 i) (hw (upd b3 ((75 : Int32) + nI i).toNatClampNeg 25) ⟨fun j hj => ?_, fun j hj => ?_⟩))⟩)
    · rw [ec, pk_un (by omega)]
      exact g1 j hj
    · rw [ec]
      by_cases q : j = i
      · rw [q, pk_us]
        rfl
      · rw [pk_un (by omega)]
        exact g2 j (by omega)
theorem ff_111 {post : St2 → Prop} (c p : Nat) (hp : p < 162) (hok : ff_ok p = true) (hk : ∀ j, j < ff_sz p → a2 j = nI (ff_kn p j)) (hc : (c = 0 ∧ p = 0) ∨ (c = 1 ∧ a1 0 = nI p)) (H : ∀ a3' a4', ff_T p a3' → post (nI c, nI (ff_sz p), f2, a1, a2, a3', a4', a5, a6, a7, a8)) :
    ∃ n, wX_build_111 post (nI c) (nI (ff_sz p)) f2 n 0 a1 a2 a3 a4 a5 a6 a7 a8 := by
  have hsz := ff_sz_b p
  have e3 : (3 : Int32) * nI (ff_sz p) = nI (3 * ff_sz p) := pk_mul 3 (ff_sz p)
  refine pk_loop (fun n i b3 => wX_build_111 post (nI c) (nI (ff_sz p)) f2 n (nI i) a1 a2 b3 a4 a5 a6 a7 a8) (fun i b3 => ∀ j, j < i → b3 j = nI (ff_tg p (3 * ff_kn p (j / 3) + j % 3))) (3 * ff_sz p) 0 a3 (by omega) (fun j hj => absurd hj (by omega)) (fun n b3 h => ?_) (fun n i b3 hi h hw => ?_)
  · exact pk_le (3 * ff_sz p) (3 * ff_sz p) (fun _ => ff_153 p hp hok h H) (fun z => absurd z (by omega)) e3
  · have ed : nI i / (3 : Int32) = nI (i / 3) := pk_div (d := 3) (by omega) (by omega) (by omega)
    have er : nI i - nI i / (3 : Int32) * 3 = nI (i % 3) := pk_rem (d := 3) (by omega) (by omega) (by omega)
    have hkn := ff_F2 p hp hok (i / 3) (by omega)
    have hpos : 0 < 3 ^ (i / 3) := Nat.pow_pos (by omega)
    have hx : (3 : Int32) * a2 (nI i / (3 : Int32)).toNatClampNeg + (nI i - nI i / (3 : Int32) * 3) = nI (3 * ff_kn p (i / 3) + i % 3) := by
      rw [er, ed, nI_clamp (by omega), hk (i / 3) (by omega)]
      exact ff_ix 3 _ _
    refine pk_le (3 * ff_sz p) i (fun z => absurd z (by omega)) (fun _ => ⟨by decide, pk_in (i / 3) 26 (by omega) ed, by decide, ff_tgt c p (3 * ff_kn p (i / 3) + i % 3) hp hok (by omega) (by omega) hk hc ⟨pk_in i 78 (by omega), nm_e (nm_r (nI_1 i) (hw _ (fun j hj => ?_)))⟩ hx⟩) e3
    rw [nI_clamp (by omega)]
    by_cases q : j = i
    · rw [q, pk_us]
    · rw [pk_un q]
      exact h j (by omega)
theorem ff_49 {post : St2 → Prop} {J27 : Int32 → Int32 → (Nat → Int32) → (Nat → Int32) → (Nat → Int32) → (Nat → Int64) → (Nat → Int64) → (Nat → Int64) → (Nat → Int32) → (Nat → Int32) → Prop} (p : Nat) (hp : p < 162) (hok : ff_ok p = true) (ha : a1 0 = nI p) (HJ : ∀ b2, (∀ i, i < ff_sz p → b2 i = nI (ff_kn p i)) → J27 (nI 1) (nI (ff_sz p)) a1 b2 a3 a4 a5 a6 a7 a8) :
    ∀ r, r + 1 ≤ ff_sz p → ∀ b2, (∀ i, i < ff_sz p - r → b2 i = nI (ff_kn p i)) → wX_build_49 post J27 0 f0 f2 (r + 1) (nI r) (nI (ff_sz p - r)) a1 b2 a3 a4 a5 a6 a7 a8 := by
  have hsz := ff_sz_b p
  intro r
  induction r with
  | zero =>
    intro _ b2 h
    exact pk_lt 0 1 (fun _ => nm_r (e' := nI 1) (by decide) (HJ b2 h)) (fun z => absurd z (by omega))
  | succ r ih =>
    intro hr b2 h
    have hb := ff_pw (r := r + 1) (by omega)
    have hkm := ff_F2 p hp hok (ff_sz p - (r + 1)) (by omega)
    have ex : a1 (0 : Int32).toNatClampNeg / nI (3 ^ (r + 1)) = nI (ff_kn p (ff_sz p - (r + 1))) := by
      rw [sb_cl0, ha, pk_div (by omega) hb.1 (by omega)]
      unfold ff_kn
      rw [if_neg (by omega), show ff_sz p - (ff_sz p - (r + 1)) = r + 1 by omega]
    refine pk_lt (r + 1) 1 (fun z => absurd z (by omega)) (fun _ => ⟨pk_in 0 6 (by omega), ff_pow (r + 1) ⟨nI_ne0 hb.1 (by omega), nm_r ex (ff_state (ff_sz p - (r + 1)) (by omega) (fun j hj e _ => ?_) (fun hall => ?_))⟩⟩)
    · rw [h j hj] at e
      have hkj := ff_F2 p hp hok j (by omega)
      have e2 := (nI_eq (by omega) (by omega)).mp e
      have e3 := ff_lv hkj.1 hkj.2.1 (by rw [e2]; exact hkm.1) (by rw [e2]; exact hkm.2.1)
      exact absurd e3 (by omega)
    · refine br_f (by decide) ⟨pk_in (ff_sz p - (r + 1)) 26 (by omega), nm_e (nm_r (e' := nI (ff_sz p - r)) ?_ (nm_r (pk_m1 r) (ih (by omega) _ (fun i hi => ?_))))⟩
      · rw [nI_1]
        exact congrArg nI (by omega)
      · rw [nI_clamp (by omega)]
        by_cases q : i = ff_sz p - (r + 1)
        · rw [q, pk_us]
        · rw [pk_un q]
          exact h i (by omega)
theorem ff_build {post : St2 → Prop} (c p : Nat) (hp : p < 162) (hok : ff_ok p = true) (hc : (c = 0 ∧ p = 0) ∨ (c = 1 ∧ a1 0 = nI p)) (H : ∀ a2' a3' a4', ff_T p a3' → post (nI c, nI (ff_sz p), 1, a1, a2', a3', a4', a5, a6, a7, a8)) :
    wpX_build post (nI c, f1, 0, a1, a2, a3, a4, a5, a6, a7, a8) := by
  unfold wpX_build
  refine br_t rfl (nm_e ?_)
  have h0 : ∀ i, i < 1 → upd a2 0 1 i = nI (ff_kn p i) := by
    intro i hi
    rw [show i = 0 by omega, pk_us]
    rfl
  have hcc := hc
  rcases hc with ⟨c0, p0⟩ | ⟨c1, e1⟩
  · have es : ff_sz p = 1 := by rw [p0]; rfl
    refine ⟨1, pk_le c 0 (fun _ => ?_) (fun z => absurd z (by omega))⟩
    have t := ff_111 (post := post) (f2 := 1) (a2 := upd a2 0 1) (a3 := a3) (a4 := a4) c p hp hok (fun j hj => h0 j (by omega)) hcc (fun a3' a4' h => H _ a3' a4' h)
    rw [es] at t
    exact t
  · have hsz := ff_sz_b p
    refine ⟨2, pk_le c 0 (fun z => absurd z (by omega)) (fun _ => ⟨pk_in 0 6 (by omega), ff_sizeN hp e1 (nm_r (e' := nI (ff_sz p - 1)) (pk_sub (b := 1) hsz.1) ⟨ff_sz p - 1 + 1, ?_⟩)⟩)⟩
    have t := ff_49 (post := post) (J27 := wX_build_27 post (nI c) 1 1) (f0 := nI c) (f2 := 1) (a1 := a1) (a3 := a3) (a4 := a4) (a5 := a5) (a6 := a6) (a7 := a7) (a8 := a8) p hp hok e1 (fun b2 hb => pk_le c 1 (fun _ => ff_111 c p hp hok hb hcc (fun a3' a4' h => H _ a3' a4' h)) (fun z => absurd z (by omega))) (ff_sz p - 1) (by omega) (upd a2 0 1) (fun i hi => h0 i (by omega))
    rw [show ff_sz p - (ff_sz p - 1) = 1 by omega] at t
    exact t
/-! read, allowed -/
theorem ff_rdR {p c : Nat} (hp : p < 162) (hok : ff_ok p = true) : ∀ k s, ff_R p s → ff_R p (ff_rd p c k s) := by
  intro k
  induction k with
  | zero => exact fun s h => h
  | succ k ih => exact fun s h => ih _ (ff_dR hp hok h (Nat.mod_lt _ (by omega)))
theorem ff_read8 {post : Int32 → Prop} (p cd : Nat) (hp : p < 162) (hok : ff_ok p = true) (hcd : cd < 2 ^ 31) (hT : ff_T p a3) :
    ∀ k s, k ≤ 9 → ff_R p s → post (nI (ff_rd p cd k s)) → wX_read_8 post (nI cd) f0 f1 f2 a1 a2 a3 a4 a5 a6 a7 a8 (k + 1) (nI s) (nI k - 1) := by
  intro k
  induction k with
  | zero =>
    intro s _ _ h
    exact br_t (by decide) h
  | succ k ih =>
    intro s hk hs h
    have hs26 := ff_R26 hs
    have hb : 3 ^ k ≤ 3 ^ 9 := Nat.pow_le_pow_right (by omega) (by omega)
    have hb1 : 3 ^ k < 2 ^ 31 := Nat.lt_of_le_of_lt hb (by decide)
    have hb0 : 0 < 3 ^ k := Nat.pow_pos (by omega)
    have hx : cd / 3 ^ k % 3 < 3 := Nat.mod_lt _ (by omega)
    have hq : cd / 3 ^ k < 2 ^ 31 := Nat.lt_of_le_of_lt (Nat.div_le_self _ _) hcd
    have e1 : nI cd / nI (3 ^ k) - nI cd / nI (3 ^ k) / (3 : Int32) * 3 = nI (cd / 3 ^ k % 3) := by
      rw [pk_div hcd hb0 hb1]
      exact pk_rem (d := 3) hq (by omega) (by omega)
    have h' : post (nI (ff_rd p cd k (ff_d p s (cd / 3 ^ k % 3)))) := h
    have e2 : (3 : Int32) * nI s + nI (cd / 3 ^ k % 3) = nI (3 * s + cd / 3 ^ k % 3) := ff_ix 3 s _
    have e3 : a3 ((3 : Int32) * nI s + nI (cd / 3 ^ k % 3)).toNatClampNeg = nI (ff_d p s (cd / 3 ^ k % 3)) := by
      rw [e2, nI_clamp (by omega)]
      exact hT s hs _ hx
    rw [nI_pred]
    exact br_f (nI_pos (by omega)) (ff_pow k ⟨nI_ne0 hb0 hb1, by decide, nm_r e1 ⟨pk_in (3 * s + cd / 3 ^ k % 3) 78 (by omega) e2, nm_r e3 (nm_r (Int32.sub_eq_add_neg _ _).symm (ih _ (by omega) (ff_dR hp hok hs hx) h'))⟩⟩)
theorem ff_read {post : Int32 → Prop} (p cd n : Nat) (hp : p < 162) (hok : ff_ok p = true) (hn : n ≤ 9) (hcd : cd < 2 ^ 31) (hT : ff_T p a3) (h : post (nI (ff_rd p cd n 0))) : wpX_read post (f0, f1, f2, a1, a2, a3, a4, a5, a6, a7, a8) 0 (nI n) (nI cd) := by
  unfold wpX_read
  exact nm_e ⟨n + 1, ff_read8 p cd hp hok hcd hT n 0 hn (ff_R0 p) h⟩
theorem ff_allow {post : Int32 → St2 → Prop} {x y : Int32} (c p : Nat) (hp : p < 162) (hok : ff_ok p = true) (hc : (c = 0 ∧ p = 0) ∨ (c = 1 ∧ a1 0 = nI p))
    (h1 : (x.toInt < 0 ∨ 9 < x.toInt) → post (-1) (nI c, f1, 0, a1, a2, a3, a4, a5, a6, a7, a8))
    (h2 : ∀ n : Nat, n ≤ 9 → x = nI n → (y.toInt < 0 ∨ (3 ^ n : Nat) ≤ y.toInt) → post (-2) (nI c, f1, 0, a1, a2, a3, a4, a5, a6, a7, a8))
    (h3 : ∀ (n k : Nat) a2' a3' a4', n ≤ 9 → x = nI n → k < 3 ^ n → y = nI k → post (if ff_rd p k n 0 = 25 then 0 else 1) (nI c, nI (ff_sz p), 1, a1, a2', a3', a4', a5, a6, a7, a8)) :
    wpX_allowed post (nI c, f1, 0, a1, a2, a3, a4, a5, a6, a7, a8) x y := by
  unfold wpX_allowed
  refine ff_refused (fun g => br_f (by decide) (h1 g)) (fun n hn ex g => br_f (by decide) (h2 n hn ex g)) (fun n k hn ex hk ey => br_t (by decide) (ff_build c p hp hok hc (fun a2' a3' a4' hT => ?_)))
  try dsimp only
  have hb : 3 ^ n ≤ 3 ^ 9 := Nat.pow_le_pow_right (by omega) hn
  have hk' : k < 2 ^ 31 := Nat.lt_of_lt_of_le hk (Nat.le_trans hb (by decide))
  have hr := ff_R26 (ff_rdR (c := k) hp hok n 0 (ff_R0 p))
  have t := h3 n k a2' a3' a4' hn ex hk ey
  rw [ex, ey]
  refine ff_read p k n hp hok hn hk' hT (pk_eq (ff_rd p k n 0) 25 (fun e => ?_) (fun e => ?_))
  · rw [if_pos e] at t
    exact t
  · rw [if_neg e] at t
    exact t
end
end
section
/-! the law behind 'allowed' -/
/-- what stands behind 'forbid': no piece, or the one piece p -/
def ff_C (x0 x7 : Int32) (a1 : Nat → Int32) (p c : Nat) : Prop := p < 162 ∧ ff_ok p = true ∧ ((x7 = 0 ∧ c = 0 ∧ p = 0 ∧ ¬ ff_K x0.toInt) ∨ (x7 = 1 ∧ c = 1 ∧ x0 = nI p ∧ a1 0 = nI p))
theorem ff_Cc {x0 x7 : Int32} {a1 : Nat → Int32} {p c : Nat} (h : ff_C x0 x7 a1 p c) : (c = 0 ∧ p = 0) ∨ (c = 1 ∧ a1 0 = nI p) := by
  rcases h.2.2 with g | g
  · exact Or.inl ⟨g.2.1, g.2.2.1⟩
  · exact Or.inr ⟨g.2.1, g.2.2.2⟩
theorem ff_Cv {x0 x7 : Int32} {a1 : Nat → Int32} {p c : Nat} (h : ff_C x0 x7 a1 p c) (v : Nat) (hv : (3 ≤ v ∧ v < 6) ∨ (9 ≤ v ∧ v < 18)) : x0 = nI v ↔ v = p := by
  have hp := h.1
  rcases h.2.2 with g | g
  · constructor
    · intro e
      refine absurd ?_ g.2.2.2
      rw [e, nI_toInt (by omega)]
      unfold ff_K
      omega
    · intro e
      have := g.2.2.1
      omega
  · rw [g.2.2.1, nI_eq (by omega) (by omega)]
    exact ⟨fun e => e.symm, fun e => e.symm⟩
theorem ff_sb {x0 : Int32} (v k : Nat) : nI v = x0 - nI k ↔ x0 = nI (v + k) := by
  rw [← nI_add]
  constructor
  · intro e
    rw [e, Int32.sub_add_cancel]
  · intro e
    rw [e, Int32.add_sub_cancel]
section
variable {post : Int32 → St0 → Prop} {mc ms kc ks p c : Nat} {x0 x1 x2 x3 x7 x8 x9 x11 x12 z0 z1 : Int32} {f0 f1 f2 : Int32} {a1 a2 a3 : Nat → Int32} {a4 a5 a6 : Nat → Int64} {a7 a8 : Nat → Int32}
theorem fl_411 (HQ : post 1 ()) (h : z1 = z0) : wL_lawOf_411 post mc ms z0 z1 kc ks := by
  unfold wL_lawOf_411
  exact br_t h HQ
theorem fl_410 (HQ : post 1 ()) (h : z0 = 0) : wL_lawOf_410 post mc ms z0 kc ks := by
  unfold wL_lawOf_410
  exact fl_411 HQ h
theorem fl_pieces {Q : Int32 → Prop} (h : Q f0) : wpX_pieces Q (f0, f1, f2, a1, a2, a3, a4, a5, a6, a7, a8) := h
theorem fl_386 (HQ : post 1 ()) (hz : z1 = z0) (h : (x7 = 0 ∧ f0 = 0) ∨ (¬ x7 = 0 ∧ x3 = x0 ∧ f0 = 0) ∨ (¬ x7 = 0 ∧ ¬ x3 = x0 ∧ f0 = 1)) : wL_lawOf_386 post mc ms x0 x3 x7 z0 z1 kc ks f0 f1 f2 a1 a2 a3 a4 a5 a6 a7 a8 := by
  unfold wL_lawOf_386
  refine br_t hz (fl_pieces ?_)
  rcases h with ⟨h7, hf⟩ | ⟨h7, h3, hf⟩ | ⟨h7, h3, hf⟩
  · exact br_t h7 (fl_410 HQ hf)
  · exact br_f h7 (br_t h3 (fl_410 HQ hf))
  · exact br_f h7 (br_f h3 (fl_411 HQ hf))
theorem fl_385 (HQ : post 1 ()) (hz : z0 = -1) (h : (x7 = 0 ∧ f0 = 0) ∨ (¬ x7 = 0 ∧ x3 = x0 ∧ f0 = 0) ∨ (¬ x7 = 0 ∧ ¬ x3 = x0 ∧ f0 = 1)) : wL_lawOf_385 post mc ms x0 x3 x7 z0 kc ks f0 f1 f2 a1 a2 a3 a4 a5 a6 a7 a8 := by
  unfold wL_lawOf_385
  exact fl_386 HQ hz h
theorem fl_permit {Q : Int32 → St2 → Prop} {x : Int32} (c : Nat) (hc : c ≤ 1) (h1 : c = 1 → a1 0 = x → Q (nI 0) (nI 0, f1, 0, a1, a2, a3, a4, a5, a6, a7, a8)) (h2 : (c = 1 → ¬ a1 0 = x) → Q (-1) (nI c, f1, f2, a1, a2, a3, a4, a5, a6, a7, a8)) : wpX_permit Q (nI c, f1, f2, a1, a2, a3, a4, a5, a6, a7, a8) x := by
  unfold wpX_permit
  refine ff_place c hc (fun c1 e => ?_) (fun hall => br_f (by decide) (h2 hall))
  refine br_t (by decide) (nm_r (e' := nI 1) (by decide) ⟨1, pk_le c 1 (fun _ => nm_r (e' := nI 0) ?_ (h1 c1 e)) (fun z => absurd z (by omega))⟩)
  rw [c1]
  decide
theorem fl_365 (HQ : post 1 ()) (hC : ff_C x0 x7 a1 p c) : wL_lawOf_365 post mc ms x0 x3 x7 kc ks (nI c) f1 f2 a1 a2 a3 a4 a5 a6 a7 a8 := by
  unfold wL_lawOf_365
  obtain ⟨hp, hok, h⟩ := hC
  refine fl_permit c (by omega) (fun c1 e => ?_) (fun hall => ?_)
  · rcases h with g | g
    · omega
    · have h7 : ¬ x7 = 0 := by rw [g.1]; decide
      have h3 : x3 = x0 := by rw [g.2.2.1, ← e, g.2.2.2]
      exact br_f h7 (br_t h3 (fl_386 HQ rfl (Or.inr (Or.inl ⟨h7, h3, rfl⟩))))
  · rcases h with g | g
    · exact br_t g.1 (fl_385 HQ rfl (Or.inl ⟨g.1, by rw [g.2.1]; rfl⟩))
    · have h7 : ¬ x7 = 0 := by rw [g.1]; decide
      have h3 : ¬ x3 = x0 := fun e => hall g.2.1 (by rw [e, g.2.2.1, g.2.2.2])
      exact br_f h7 (br_f h3 (fl_385 HQ rfl (Or.inr (Or.inr ⟨h7, h3, by rw [g.2.1]; rfl⟩))))
theorem fl_353 (HQ : post 1 ()) (hC : ff_C x0 x7 a1 p c) (h1 : ¬ x12 = 0 → x11 = 0) : wL_lawOf_353 post mc ms x0 x3 x7 x11 x12 kc ks (nI c) f1 f2 a1 a2 a3 a4 a5 a6 a7 a8 := by
  unfold wL_lawOf_353
  exact br_c (fun _ => fl_365 HQ hC) (fun g => br_t (h1 g) (fl_365 HQ hC))
theorem fl_350 (HQ : post 1 ()) (hC : ff_C x0 x7 a1 p c) (h1 : ¬ x12 = 0 → x11 = 0) (hz : z1 = z0) : wL_lawOf_350 post mc ms x0 x3 x7 x11 x12 z0 z1 kc ks (nI c) f1 f2 a1 a2 a3 a4 a5 a6 a7 a8 := by
  unfold wL_lawOf_350
  exact br_t hz (fl_353 HQ hC h1)
theorem fl_331 (HQ : post 1 ()) (hC : ff_C x0 x7 a1 p c) (h1 : ¬ z0 = 0 → x11 = 0) (h2 : x1.toInt < 3 → z0 = 0 → x11 = 1) : wL_lawOf_331 post mc ms x0 x1 x3 x7 x11 z0 kc ks (nI c) f1 f2 a1 a2 a3 a4 a5 a6 a7 a8 := by
  unfold wL_lawOf_331
  exact ff_il 3 x1.toInt (fun _ => fl_353 HQ hC h1) (fun g => br_c (fun e => fl_350 HQ hC h1 (h2 g e)) (fun e => fl_350 HQ hC h1 (h1 e)))
theorem fl_326 {n cd : Nat} (HQ : post 1 ()) (hC : ff_C x0 x7 a1 p c) (h1 : ff_in p n cd → x11 = 0) (h : ff_in p n cd) : wL_lawOf_326 post mc ms x0 (nI n) x3 x7 x11 kc ks (nI c) f1 f2 a1 a2 a3 a4 a5 a6 a7 a8 := by
  unfold wL_lawOf_326
  exact fl_331 HQ hC (fun _ => h1 h) (fun _ e => absurd e (by decide))
theorem fl_330 {n cd : Nat} (HQ : post 1 ()) (hC : ff_C x0 x7 a1 p c) (hn : n ≤ 9) (h2 : n < 3 → ¬ ff_in p n cd → x11 = 1) (h : ¬ ff_in p n cd) : wL_lawOf_330 post mc ms x0 (nI n) x3 x7 x11 kc ks (nI c) f1 f2 a1 a2 a3 a4 a5 a6 a7 a8 := by
  unfold wL_lawOf_330
  refine fl_331 HQ hC (fun e => absurd rfl e) (fun g _ => h2 ?_ h)
  rw [nI_toInt (by omega)] at g
  omega
theorem fl_299 {n cd : Nat} (HQ : post 1 ()) (hC : ff_C x0 x7 a1 p c) (hn : n ≤ 9) (hcd : cd < 2 ^ 31) (h1 : ff_in p n cd → x11 = 0) (h2 : n < 3 → ¬ ff_in p n cd → x11 = 1) (h : ¬ (cd % 3 + 3 = p ∧ 0 < n)) : wL_lawOf_299 post mc ms x0 (nI n) (nI cd) x3 x7 x11 kc ks (nI c) f1 f2 a1 a2 a3 a4 a5 a6 a7 a8 := by
  unfold wL_lawOf_299
  have e9 : nI cd - nI cd / (9 : Int32) * 9 = nI (cd % 9) := pk_rem (d := 9) hcd (by omega) (by omega)
  have ed : nI cd / (3 : Int32) = nI (cd / 3) := pk_div (d := 3) hcd (by omega) (by omega)
  have e3 : nI cd / (3 : Int32) - nI cd / (3 : Int32) / (3 : Int32) * 3 = nI (cd / 3 % 3) := by
    rw [ed]
    exact pk_rem (d := 3) (by omega) (by omega) (by omega)
  have c9 : nI cd - nI cd / (9 : Int32) * 9 = x0 - 9 ↔ cd % 9 + 9 = p := by
    rw [e9]
    exact (ff_sb (cd % 9) 9).trans (ff_Cv hC _ (by omega))
  have c3 : nI cd / (3 : Int32) - nI cd / (3 : Int32) / (3 : Int32) * 3 = x0 - 3 ↔ cd / 3 % 3 + 3 = p := by
    rw [e3]
    exact (ff_sb (cd / 3 % 3) 3).trans (ff_Cv hC _ (by omega))
  refine pk_le n 1 (fun q => fl_330 HQ hC hn h2 ?_) (fun q => ⟨by decide, ek_if c9 (fun e => fl_326 HQ hC h1 (Or.inr ⟨q, Or.inl e⟩)) (fun e => ⟨by decide, by decide, ek_if c3 (fun e' => fl_326 HQ hC h1 (Or.inr ⟨q, Or.inr e'⟩)) (fun e' => fl_330 HQ hC hn h2 ?_)⟩)⟩)
  · rintro (t | t)
    · exact h t
    · omega
  · rintro (t | t)
    · exact h t
    · rcases t.2 with t' | t'
      · exact e t'
      · exact e' t'
theorem fl_286 {n cd : Nat} (HQ : post 1 ()) (hC : ff_C x0 x7 a1 p c) (hn : n ≤ 9) (hcd : cd < 2 ^ 31) (h1 : ff_in p n cd → x11 = 0) (h2 : n < 3 → ¬ ff_in p n cd → x11 = 1) : wL_lawOf_286 post mc ms x0 (nI n) (nI cd) x3 x7 x11 kc ks (nI c) f1 f2 a1 a2 a3 a4 a5 a6 a7 a8 := by
  unfold wL_lawOf_286
  have e3 : nI cd - nI cd / (3 : Int32) * 3 = nI (cd % 3) := pk_rem (d := 3) hcd (by omega) (by omega)
  have c3 : nI cd - nI cd / (3 : Int32) * 3 = x0 - 3 ↔ cd % 3 + 3 = p := by
    rw [e3]
    exact (ff_sb (cd % 3) 3).trans (ff_Cv hC _ (by omega))
  exact ⟨by decide, ek_if c3 (fun e => pk_lt 0 n (fun q => fl_326 HQ hC h1 (Or.inl ⟨e, q⟩)) (fun q => fl_299 HQ hC hn hcd h1 h2 (fun t => absurd t.2 (by omega)))) (fun e => fl_299 HQ hC hn hcd h1 h2 (fun t => e t.1))⟩
theorem fl_273 {n cd : Nat} (HQ : post 1 ()) (hC : ff_C x0 x7 a1 p c) (hn : n ≤ 9) (hcd : cd < 2 ^ 31) (h1 : ff_in p n cd → x11 = 0) (h2 : n < 3 → ¬ ff_in p n cd → x11 = 1) (h3 : x7 = 0 → x11 = 1) : wL_lawOf_273 post mc ms x0 (nI n) (nI cd) x3 x7 x11 kc ks (nI c) f1 f2 a1 a2 a3 a4 a5 a6 a7 a8 := by
  unfold wL_lawOf_273
  exact br_c (fun g => br_t (h3 g) (fl_286 HQ hC hn hcd h1 h2)) (fun _ => fl_286 HQ hC hn hcd h1 h2)
theorem fl_253 (HQ : post 1 ()) (h : z1 = z0) : wL_lawOf_253 post mc ms z0 z1 kc ks := by
  unfold wL_lawOf_253
  exact br_t h HQ
end
end
section
/-! the law up to 'allowed' -/
section
variable {post : Int32 → St0 → Prop} {mc ms kc ks p c : Nat} {x0 x1 x2 x3 x5 x7 x8 x9 x11 x12 z0 z1 : Int32} {f0 f1 f2 : Int32} {a1 a2 a3 : Nat → Int32} {a4 a5 a6 : Nat → Int64} {a7 a8 : Nat → Int32}
theorem fl_224a (HQ : post 1 ()) (hC : ff_C x0 x7 a1 p c) (h : x1.toInt < 0 ∨ 9 < x1.toInt) : wL_lawOf_224 post mc ms x0 x1 x2 x3 x7 0 0 kc ks (nI c) f1 0 a1 a2 a3 a4 a5 a6 a7 a8 := by
  unfold wL_lawOf_224
  have hno : ∀ n : Nat, n ≤ 9 → ¬ x1 = nI n := by
    intro n hn e
    rw [e, nI_toInt (by omega)] at h
    omega
  exact ff_allow c p hC.1 hC.2.1 (ff_Cc hC) (fun _ => br_t rfl (br_t rfl (fl_253 HQ rfl))) (fun n hn ex _ => absurd ex (hno n hn)) (fun n k _ _ _ hn ex _ _ => absurd ex (hno n hn))
theorem fl_224b {n : Nat} (HQ : post 1 ()) (hC : ff_C x0 x7 a1 p c) (hn : n ≤ 9) (h : x2.toInt < 0 ∨ (3 ^ n : Nat) ≤ x2.toInt) : wL_lawOf_224 post mc ms x0 (nI n) x2 x3 x7 1 0 kc ks (nI c) f1 0 a1 a2 a3 a4 a5 a6 a7 a8 := by
  unfold wL_lawOf_224
  have hb : 3 ^ n ≤ 3 ^ 9 := Nat.pow_le_pow_right (by omega) hn
  refine ff_allow c p hC.1 hC.2.1 (ff_Cc hC) (fun g => ?_) (fun n' hn' ex _ => br_t rfl (br_f (by decide) (fl_253 HQ rfl))) (fun n' k _ _ _ hn' ex hk ey => ?_)
  · rw [nI_toInt (by omega)] at g
    omega
  · have e : n = n' := (nI_eq (by omega) (by omega)).mp ex
    have hk' : k < 2 ^ 31 := by
      rw [← e] at hk
      exact Nat.lt_of_lt_of_le hk (Nat.le_trans hb (by decide))
    rw [ey, nI_toInt hk'] at h
    rw [e] at h
    generalize 3 ^ n' = w at *
    omega
theorem fl_224c {n cd : Nat} (HQ : post 1 ()) (hC : ff_C x0 x7 a1 p c) (hn : n ≤ 9) (h : cd < 3 ^ n) : wL_lawOf_224 post mc ms x0 (nI n) (nI cd) x3 x7 1 1 kc ks (nI c) f1 0 a1 a2 a3 a4 a5 a6 a7 a8 := by
  unfold wL_lawOf_224
  have hb : 3 ^ n ≤ 3 ^ 9 := Nat.pow_le_pow_right (by omega) hn
  have hcd : cd < 2 ^ 31 := Nat.lt_of_lt_of_le h (Nat.le_trans hb (by decide))
  refine ff_allow c p hC.1 hC.2.1 (ff_Cc hC) (fun g => ?_) (fun n' hn' ex g => ?_) (fun n' k b2 b3 b4 hn' ex hk ey => ?_)
  · rw [nI_toInt (by omega)] at g
    omega
  · have e : n = n' := (nI_eq (by omega) (by omega)).mp ex
    rw [nI_toInt hcd, ← e] at g
    generalize 3 ^ n = w at *
    omega
  · have e : n = n' := (nI_eq (by omega) (by omega)).mp ex
    have hk' : k < 2 ^ 31 := by
      rw [← e] at hk
      exact Nat.lt_of_lt_of_le hk (Nat.le_trans hb (by decide))
    have e2 : cd = k := (nI_eq hcd hk').mp ey
    subst e
    subst e2
    by_cases q : ff_rd p cd n 0 = 25
    · rw [if_pos q]
      refine br_f (by decide) (br_t rfl (fl_273 HQ hC hn hcd (fun _ => rfl) (fun h3 t => absurd (ff_l2 hC.1 hC.2.1 h3 q) t) (fun h7 => ?_)))
      rcases hC.2.2 with g | g
      · rw [g.2.2.1, ff_l3] at q
        omega
      · rw [g.1] at h7
        exact absurd h7 (by decide)
    · rw [if_neg q]
      exact br_f (by decide) (br_f (by decide) (br_t rfl (fl_273 HQ hC hn hcd (fun t => absurd (ff_l1 hC.1 hC.2.1 t) q) (fun _ _ => rfl) (fun _ => rfl))))
/-! n is no length -/
theorem fl_204a (HQ : post 1 ()) (hC : ff_C x0 x7 a1 p c) (h : x1.toInt < 0 ∨ 9 < x1.toInt) : wL_lawOf_204 post mc ms x0 x1 x2 x3 x7 0 x9 kc ks (nI c) f1 0 a1 a2 a3 a4 a5 a6 a7 a8 := by
  unfold wL_lawOf_204 wL_lawOf_223
  exact br_t rfl (fl_224a HQ hC h)
theorem fl_182a (HQ : post 1 ()) (hC : ff_C x0 x7 a1 p c) (h : x1.toInt < 0 ∨ 9 < x1.toInt) : wL_lawOf_182 post mc ms x0 x1 x2 x3 x7 0 x9 kc ks (nI c) f1 0 a1 a2 a3 a4 a5 a6 a7 a8 := by
  unfold wL_lawOf_182
  exact br_t rfl (fl_204a HQ hC h)
theorem fl_163a (HQ : post 1 ()) (hC : ff_C x0 x7 a1 p c) (h : x1.toInt < 0 ∨ 9 < x1.toInt) : wL_lawOf_163 post mc ms x0 x1 x2 x3 x7 0 x9 kc ks (nI c) f1 0 a1 a2 a3 a4 a5 a6 a7 a8 := by
  unfold wL_lawOf_163
  exact br_t rfl (fl_182a HQ hC h)
theorem fl_144a (HQ : post 1 ()) (hC : ff_C x0 x7 a1 p c) (h : x1.toInt < 0 ∨ 9 < x1.toInt) : wL_lawOf_144 post mc ms x0 x1 x2 x3 x7 0 x9 kc ks (nI c) f1 0 a1 a2 a3 a4 a5 a6 a7 a8 := by
  unfold wL_lawOf_144
  exact br_t rfl (fl_163a HQ hC h)
theorem fl_123a (HQ : post 1 ()) (hC : ff_C x0 x7 a1 p c) (h : x1.toInt < 0 ∨ 9 < x1.toInt) : wL_lawOf_123 post mc ms x0 x1 x2 x3 x7 kc ks (nI c) f1 0 a1 a2 a3 a4 a5 a6 a7 a8 := by
  unfold wL_lawOf_123 wL_lawOf_124
  exact br_t rfl (fl_144a HQ hC h)
/-! n is a length: x9 runs to 3^n -/
theorem fl_204b {n : Nat} (HQ : post 1 ()) (hC : ff_C x0 x7 a1 p c) (hn : n ≤ 9) (h9 : x9 = nI (3 ^ n)) : wL_lawOf_204 post mc ms x0 (nI n) x2 x3 x7 1 x9 kc ks (nI c) f1 0 a1 a2 a3 a4 a5 a6 a7 a8 := by
  unfold wL_lawOf_204 wL_lawOf_223
  have hb : 3 ^ n ≤ 3 ^ 9 := Nat.pow_le_pow_right (by omega) hn
  have h9i : x9.toInt = ((3 ^ n : Nat) : Int) := by rw [h9, nI_toInt (Nat.lt_of_le_of_lt hb (by decide))]
  refine br_f (by decide) (ff_ic x2.toInt 0 (fun g => fl_224b HQ hC hn (Or.inl g)) (fun g => ff_il ((3 ^ n : Nat) : Int) x2.toInt (fun g' => fl_224b HQ hC hn (Or.inr g')) (fun g' => ?_) h9i))
  obtain ⟨k, hk, ey, ek⟩ := ff_ofInt g
  rw [ey]
  refine fl_224c HQ hC hn ?_
  rw [ek] at g'
  generalize 3 ^ n = w at *
  omega
theorem fl_182b {n : Nat} (HQ : post 1 ()) (hC : ff_C x0 x7 a1 p c) (hn : n ≤ 9) (h9 : (if nI n &&& 8 = 8 then 6561 * x9 else x9) = nI (3 ^ n)) : wL_lawOf_182 post mc ms x0 (nI n) x2 x3 x7 1 x9 kc ks (nI c) f1 0 a1 a2 a3 a4 a5 a6 a7 a8 := by
  unfold wL_lawOf_182
  exact br_f (by decide) (br_c (fun g => nm_e (fl_204b HQ hC hn (by rw [if_pos g] at h9; exact h9))) (fun g => fl_204b HQ hC hn (by rw [if_neg g] at h9; exact h9)))
theorem fl_163b {n : Nat} (HQ : post 1 ()) (hC : ff_C x0 x7 a1 p c) (hn : n ≤ 9) (h9 : (if nI n &&& 8 = 8 then 6561 * (if nI n &&& 4 = 4 then 81 * x9 else x9) else (if nI n &&& 4 = 4 then 81 * x9 else x9)) = nI (3 ^ n)) : wL_lawOf_163 post mc ms x0 (nI n) x2 x3 x7 1 x9 kc ks (nI c) f1 0 a1 a2 a3 a4 a5 a6 a7 a8 := by
  unfold wL_lawOf_163
  exact br_f (by decide) (br_c (fun g => nm_e (fl_182b HQ hC hn (by rw [if_pos g] at h9; exact h9))) (fun g => fl_182b HQ hC hn (by rw [if_neg g] at h9; exact h9)))
def ff_e2 (n : Nat) (x9 : Int32) : Int32 := if nI n &&& 2 = 2 then 9 * x9 else x9
def ff_e4 (n : Nat) (x9 : Int32) : Int32 := if nI n &&& 4 = 4 then 81 * x9 else x9
def ff_e8 (n : Nat) (x9 : Int32) : Int32 := if nI n &&& 8 = 8 then 6561 * x9 else x9
theorem fl_144b {n : Nat} (HQ : post 1 ()) (hC : ff_C x0 x7 a1 p c) (hn : n ≤ 9) (h9 : ff_e8 n (ff_e4 n (ff_e2 n x9)) = nI (3 ^ n)) : wL_lawOf_144 post mc ms x0 (nI n) x2 x3 x7 1 x9 kc ks (nI c) f1 0 a1 a2 a3 a4 a5 a6 a7 a8 := by
  unfold wL_lawOf_144
  exact br_f (by decide) (br_c (fun g => nm_e (fl_163b HQ hC hn (by rw [ff_e2, if_pos g] at h9; exact h9))) (fun g => fl_163b HQ hC hn (by rw [ff_e2, if_neg g] at h9; exact h9)))
theorem ff_e1 : ∀ n, n < 10 → (if nI n &&& 1 = 1 then ff_e8 n (ff_e4 n (ff_e2 n 3)) else ff_e8 n (ff_e4 n (ff_e2 n 1))) = nI (3 ^ n) := by decide +kernel
theorem fl_124b {n : Nat} (HQ : post 1 ()) (hC : ff_C x0 x7 a1 p c) (hn : n ≤ 9) : wL_lawOf_124 post mc ms x0 (nI n) x2 x3 x7 1 kc ks (nI c) f1 0 a1 a2 a3 a4 a5 a6 a7 a8 := by
  unfold wL_lawOf_124
  have h9 := ff_e1 n (by omega)
  exact br_f (by decide) (br_c (fun g => fl_144b HQ hC hn (by rw [if_pos g] at h9; exact h9)) (fun g => fl_144b HQ hC hn (by rw [if_neg g] at h9; exact h9)))
theorem fl_104 (HQ : post 1 ()) (hC : ff_C x0 x7 a1 p c) (hz : z1 = z0) : wL_lawOf_104 post mc ms x0 x1 x2 x3 x7 z0 z1 kc ks (nI c) f1 0 a1 a2 a3 a4 a5 a6 a7 a8 := by
  unfold wL_lawOf_104
  refine br_t hz (ff_ic x1.toInt 0 (fun g => fl_123a HQ hC (Or.inl g)) (fun g => ff_ic 9 x1.toInt (fun g' => fl_123a HQ hC (Or.inr g')) (fun g' => ?_)))
  obtain ⟨n, hn, ex, en⟩ := ff_ofInt g
  rw [ex]
  exact fl_124b HQ hC (by omega)
/-! forbid -/
theorem ff_forbid {Q : Int32 → St2 → Prop} {x : Int32} (hK : ff_K x.toInt → ∀ b1 : Nat → Int32, b1 0 = x → Q (nI 1) (nI 1, f1, 0, b1, a2, a3, a4, a5, a6, a7, a8)) (hN : ¬ ff_K x.toInt → Q (-1) (nI 0, f1, f2, a1, a2, a3, a4, a5, a6, a7, a8)) : wpX_forbid Q (nI 0, f1, f2, a1, a2, a3, a4, a5, a6, a7, a8) x := by
  unfold wpX_forbid
  refine ff_isP (fun k => br_f (by decide) (ff_place 0 (by omega) (fun e => absurd e (by omega)) (fun _ => br_t (by decide) (br_f (by decide) ⟨pk_in 0 6 (by omega), nm_e (nm_r (e' := nI 1) (by decide) (hK k _ ?_))⟩)))) (fun k => br_t rfl (hN k))
  rw [nI_clamp (by omega), pk_us]
theorem fl_86 (HQ : post 1 ()) (h : (z0 = 1 ∧ ff_K x0.toInt) ∨ (z0 = 0 ∧ ¬ ff_K x0.toInt)) : wL_lawOf_86 post mc ms x0 x1 x2 x3 z0 kc ks (nI 0) f1 0 a1 a2 a3 a4 a5 a6 a7 a8 := by
  unfold wL_lawOf_86
  refine ff_forbid (fun k b1 hb => ?_) (fun k => ?_)
  · rcases h with ⟨hz, _⟩ | ⟨_, nk⟩
    · obtain ⟨p, hp, ep, et⟩ := ff_ofInt (x := x0) (by unfold ff_K at k; omega)
      rw [et] at k
      obtain ⟨hok, hp', h0⟩ := ff_okI k
      have hC : ff_C x0 z0 b1 p 1 := ⟨hp', hok, Or.inr ⟨hz, rfl, ep, by rw [hb, ep]⟩⟩
      exact br_f (by rw [hz]; decide) (fl_104 HQ hC rfl)
    · exact absurd k nk
  · rcases h with ⟨_, hk⟩ | ⟨hz, nk⟩
    · exact absurd hk k
    · have hC : ff_C x0 z0 a1 0 0 := ⟨by omega, rfl, Or.inl ⟨hz, rfl, rfl, k⟩⟩
      exact br_t hz (fl_104 HQ hC rfl)
theorem fl_81 (HQ : post 1 ()) (h : ff_K x0.toInt) : wL_lawOf_81 post mc ms x0 x1 x2 x3 kc ks (nI 0) f1 0 a1 a2 a3 a4 a5 a6 a7 a8 := by
  unfold wL_lawOf_81
  exact fl_86 HQ (Or.inl ⟨rfl, h⟩)
theorem fl_85 (HQ : post 1 ()) (h : ¬ ff_K x0.toInt) : wL_lawOf_85 post mc ms x0 x1 x2 x3 kc ks (nI 0) f1 0 a1 a2 a3 a4 a5 a6 a7 a8 := by
  unfold wL_lawOf_85
  exact fl_86 HQ (Or.inr ⟨rfl, h⟩)
theorem fl_68 (HQ : post 1 ()) (h3 : ¬ (3 ≤ x0.toInt ∧ x0.toInt < 6)) (h9 : ¬ (9 ≤ x0.toInt ∧ x0.toInt < 18)) (h27 : ¬ (27 ≤ x0.toInt ∧ x0.toInt < 54)) : wL_lawOf_68 post mc ms x0 x1 x2 x3 kc ks (nI 0) f1 0 a1 a2 a3 a4 a5 a6 a7 a8 := by
  unfold wL_lawOf_68
  exact ff_il x0.toInt 80 (fun g => fl_85 HQ (by unfold ff_K; omega)) (fun g => ff_il 162 x0.toInt (fun g' => fl_85 HQ (by unfold ff_K; omega)) (fun g' => fl_81 HQ (by unfold ff_K; omega)))
theorem fl_44 (HQ : post 1 ()) (h5 : (x5 = 1 ∧ 3 ≤ x0.toInt ∧ x0.toInt < 6) ∨ (x5 = 0 ∧ ¬ (3 ≤ x0.toInt ∧ x0.toInt < 6))) (hz : (z0 = 1 ∧ 9 ≤ x0.toInt ∧ x0.toInt < 18) ∨ (z0 = 0 ∧ ¬ (9 ≤ x0.toInt ∧ x0.toInt < 18))) : wL_lawOf_44 post mc ms x0 x1 x2 x3 x5 z0 kc ks (nI 0) f1 0 a1 a2 a3 a4 a5 a6 a7 a8 := by
  unfold wL_lawOf_44
  rcases h5 with ⟨e5, g5⟩ | ⟨e5, g5⟩
  · exact br_f (by rw [e5]; decide) (fl_81 HQ (by unfold ff_K; omega))
  · refine br_t e5 ?_
    rcases hz with ⟨ez, gz⟩ | ⟨ez, gz⟩
    · exact br_f (by rw [ez]; decide) (fl_81 HQ (by unfold ff_K; omega))
    · exact br_t ez (ff_il x0.toInt 26 (fun g => fl_68 HQ g5 gz (by omega)) (fun g => ff_ic x0.toInt 54 (fun g' => fl_81 HQ (by unfold ff_K; omega)) (fun g' => fl_68 HQ g5 gz (by omega))))
theorem fl_25 (HQ : post 1 ()) (h5 : (z0 = 1 ∧ 3 ≤ x0.toInt ∧ x0.toInt < 6) ∨ (z0 = 0 ∧ ¬ (3 ≤ x0.toInt ∧ x0.toInt < 6))) : wL_lawOf_25 post mc ms x0 x1 x2 x3 z0 kc ks (nI 0) f1 0 a1 a2 a3 a4 a5 a6 a7 a8 := by
  unfold wL_lawOf_25 wL_lawOf_43
  exact ff_il x0.toInt 8 (fun g => fl_44 HQ h5 (Or.inr ⟨rfl, by omega⟩)) (fun g => ff_il 18 x0.toInt (fun g' => fl_44 HQ h5 (Or.inr ⟨rfl, by omega⟩)) (fun g' => fl_44 HQ h5 (Or.inl ⟨rfl, by omega, by omega⟩)))
theorem fl_24 (HQ : post 1 ()) (h5 : ¬ (3 ≤ x0.toInt ∧ x0.toInt < 6)) : wL_lawOf_24 post mc ms x0 x1 x2 x3 kc ks (nI 0) f1 0 a1 a2 a3 a4 a5 a6 a7 a8 := by
  unfold wL_lawOf_24
  exact fl_25 HQ (Or.inr ⟨rfl, h5⟩)
end
end
section
theorem fl_init {Q : St2 → Prop} (h : Q (0, 0, 0, (fun _ => 0), (fun _ => 0), (fun _ => 0), (fun _ => 0), (fun _ => 0), (fun _ => 0), (fun _ => 0), (fun _ => 0))) : wpX_init Q 8 1488 (0, 0, 0) := by
  unfold wpX_init
  exact ⟨by omega, by omega, by omega, by omega, by omega, by omega, by omega, by omega, by omega, by omega, by omega, by omega, by omega, by omega, by omega, by omega, h⟩
theorem fl_lawOf {post : Int32 → St0 → Prop} {u : St0} (x0 x1 x2 x3 : Int32) (HQ : post 1 ()) : wpL_lawOf post 9 1499 u x0 x1 x2 x3 := by
  unfold wpL_lawOf
  refine ⟨by omega, by omega, 8, 1488, by omega, by omega, fl_init ?_⟩
  exact ff_il x0.toInt 2 (fun g => fl_24 HQ (by omega)) (fun g => ff_il 6 x0.toInt (fun g' => fl_24 HQ (by omega)) (fun g' => fl_25 HQ (Or.inl ⟨rfl, by omega, by omega⟩)))
theorem fl_cell {Q : Int32 → Prop} {L : Nat} {xs : Nat → Int32} {u : St0} {x : Int32} (k : Nat) (hL : L ≤ 4) (hk : k < 4) (h : ∀ r, Q r) (hx : x = nI k := by rfl) : wpL_cellAt Q L xs u x := by
  unfold wpL_cellAt
  exact pk_le L k (fun _ => h 0) (fun q => ⟨pk_in k L q hx, h _⟩) rfl hx
theorem i_vc (xs : Nat → Int32) (L : Nat) (hL : L ≤ 4) : wpL_law (fun r => r = 1) L xs := by
  unfold wpL_law
  exact fl_cell 0 hL (by omega) (fun r1 => fl_cell 1 hL (by omega) (fun r2 => fl_cell 2 hL (by omega) (fun r3 => fl_cell 3 hL (by omega) (fun r4 => ⟨9, 1499, by omega, by omega, fl_lawOf r1 r2 r3 r4 rfl⟩))))
end
