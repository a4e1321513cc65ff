section
/-- the lengths by code: 0: none, 1: x, 2: y, 3: x + y, 4: the less of the two, else: far -/
def sw_ev (x y k : Nat) : Nat := if k = 0 then 0 else if k = 1 then x else if k = 2 then y else if k = 3 then x + y else if k = 4 then min x y else 100000
/-- the code of the least way from i to j along the streets of m: street 0 joins 0 and 1, street 1 has the ends E -/
def sw_cd (m E i j : Nat) : Nat :=
  if i = j then 0
  else if 2 ^ i ||| 2 ^ j = 3 then (if m.testBit 0 = true then (if m.testBit 1 = true ∧ E = 3 then 4 else 1) else if m.testBit 1 = true ∧ E = 3 then 2 else 5)
  else if 2 ^ i ||| 2 ^ j = E ∧ m.testBit 1 = true then 2
  else if m = 3 ∧ 2 ^ i ||| 2 ^ j = E ^^^ 3 then 3
  else 5
def sw_D (m E x y j : Nat) : Nat := sw_ev x y (sw_cd m E (j / 6) (j % 6))
/-- the sets of two corners -/
def sw_L : List Nat := [3, 5, 6, 9, 10, 12, 17, 18, 20, 24, 33, 34, 36, 40, 48]
theorem sw_inL : ∀ a, a < 6 → ∀ b, b < 6 → a ≠ b → 2 ^ a ||| 2 ^ b ∈ sw_L := by decide +kernel
def sw_t3 (p q r : Nat) : Bool := decide (p = 0 ∨ 5 ≤ q ∨ 5 ≤ r ∨ p = q ∨ p = r ∨ (p = 3 ∧ q = 1 ∧ r = 2) ∨ (p = 3 ∧ q = 2 ∧ r = 1) ∨ (p = 1 ∧ (q = 3 ∨ r = 3)) ∨ (p = 2 ∧ (q = 3 ∨ r = 3)))
theorem sw_tri0 : ∀ E, E ∈ sw_L → ∀ m, m < 4 → ∀ j, j < 36 → ∀ c, c < 6 → sw_t3 (sw_cd m E (j / 6) (j % 6)) (sw_cd m E ((j / 6 * 6 + c) / 6) ((j / 6 * 6 + c) % 6)) (sw_cd m E ((c * 6 + j % 6) / 6) ((c * 6 + j % 6) % 6)) = true := by decide +kernel
theorem sw_ev_le {x y k : Nat} (hx : x ≤ 20) (hy : y ≤ 20) : sw_ev x y k ≤ 100000 := by
  unfold sw_ev
  repeat' split
  all_goals omega
theorem sw_ev5 {x y k : Nat} (h : 5 ≤ k) : sw_ev x y k = 100000 := by
  unfold sw_ev
  rw [if_neg (by omega), if_neg (by omega), if_neg (by omega), if_neg (by omega), if_neg (by omega)]
theorem sw_t3s {x y p q r : Nat} (hx : x ≤ 20) (hy : y ≤ 20) (h : sw_t3 p q r = true) : sw_ev x y p ≤ sw_ev x y q + sw_ev x y r := by
  have b := sw_ev_le (k := p) hx hy
  have h' := of_decide_eq_true h
  rcases h' with h' | h' | h' | h' | h' | h' | h' | h' | h'
  · rw [h']; exact Nat.zero_le _
  · rw [sw_ev5 h']; omega
  · rw [sw_ev5 h']; omega
  · rw [h']; omega
  · rw [h']; omega
  · obtain ⟨rfl, rfl, rfl⟩ := h'
    exact Nat.le_refl _
  · obtain ⟨rfl, rfl, rfl⟩ := h'
    show x + y ≤ y + x
    omega
  · obtain ⟨rfl, h' | h'⟩ := h'
    · rw [h']; show x ≤ x + y + _; omega
    · rw [h']; show x ≤ _ + (x + y); omega
  · obtain ⟨rfl, h' | h'⟩ := h'
    · rw [h']; show y ≤ x + y + _; omega
    · rw [h']; show y ≤ _ + (x + y); omega
theorem sw_tri {m E x y : Nat} (hE : E ∈ sw_L) (hm : m < 4) (hx : x ≤ 20) (hy : y ≤ 20) : ∀ j, j < 36 → ∀ c, c < 6 → sw_D m E x y j ≤ sw_D m E x y (j / 6 * 6 + c) + sw_D m E x y (c * 6 + j % 6) :=
  fun j hj c hc => sw_t3s hx hy (sw_tri0 E hE m hm j hj c hc)
/-- the ways at first -/
def sw_w0 (j : Nat) : Nat := if j / 6 = j % 6 then 0 else 100000
theorem sw_w0_le (j : Nat) : sw_w0 j ≤ 100000 := by
  unfold sw_w0
  split <;> omega
theorem sw_D_le {m E x y : Nat} (hx : x ≤ 20) (hy : y ≤ 20) (j : Nat) : sw_D m E x y j ≤ 100000 := sw_ev_le hx hy
theorem sw_D_w0 {m E x y : Nat} (hx : x ≤ 20) (hy : y ≤ 20) (j : Nat) : sw_D m E x y j ≤ sw_w0 j := by
  unfold sw_w0
  split
  · next h =>
    unfold sw_D sw_cd
    rw [if_pos h]
    exact Nat.le_refl _
  · exact sw_D_le hx hy j
def sw_is1 (i : Nat) : Bool := decide (i = 1 ∨ i = 6)
def sw_is2 (a b i : Nat) : Bool := decide (i = a * 6 + b ∨ i = b * 6 + a)
def sw_mid (a b : Nat) : Nat := if a = 0 ∨ b = 0 then 0 else 1
def sw_thru (a b j : Nat) : Bool := decide ((sw_is1 (j / 6 * 6 + sw_mid a b) = true ∧ sw_is2 a b (sw_mid a b * 6 + j % 6) = true) ∨ (sw_is1 (sw_mid a b * 6 + j % 6) = true ∧ sw_is2 a b (j / 6 * 6 + sw_mid a b) = true))
theorem sw_mid_lt (a b : Nat) : sw_mid a b < 6 := by
  unfold sw_mid
  split <;> omega
def sw_chk (k m a b j : Nat) : Bool := decide ((k = 0 ∧ j / 6 = j % 6) ∨ k = 5 ∨ (k = 1 ∧ m.testBit 0 = true ∧ sw_is1 j = true) ∨ (k = 2 ∧ m.testBit 1 = true ∧ sw_is2 a b j = true) ∨ (k = 4 ∧ m.testBit 0 = true ∧ m.testBit 1 = true ∧ sw_is1 j = true ∧ sw_is2 a b j = true) ∨ (k = 3 ∧ m.testBit 0 = true ∧ m.testBit 1 = true ∧ sw_thru a b j = true))
theorem sw_at0 : ∀ a, a < 6 → ∀ b, b < 6 → a ≠ b → ∀ m, m < 4 → ∀ j, j < 36 → sw_chk (sw_cd m (2 ^ a ||| 2 ^ b) (j / 6) (j % 6)) m a b j = true := by decide +kernel
/-- what is reached in one step or in two -/
theorem sw_at {m a b x y : Nat} (ha : a < 6) (hb : b < 6) (hab : a ≠ b) (hm : m < 4) (w : Nat → Nat) (h0 : ∀ j, j < 36 → w j ≤ sw_w0 j) (h1 : m.testBit 0 = true → w 1 ≤ x ∧ w 6 ≤ x) (h2 : m.testBit 1 = true → w (a * 6 + b) ≤ y ∧ w (b * 6 + a) ≤ y) :
    ∀ j, j < 36 → w j ≤ sw_D m (2 ^ a ||| 2 ^ b) x y j ∨ ∃ c, c < 6 ∧ w (j / 6 * 6 + c) + w (c * 6 + j % 6) ≤ sw_D m (2 ^ a ||| 2 ^ b) x y j := by
  intro j hj
  have g := of_decide_eq_true (sw_at0 a ha b hb hab m hm j hj)
  have h0j := h0 j hj
  unfold sw_D
  generalize sw_cd m (2 ^ a ||| 2 ^ b) (j / 6) (j % 6) = k at g
  have p : m.testBit 0 = true → ∀ i, sw_is1 i = true → w i ≤ x := fun g1 i hi => by
    rcases of_decide_eq_true hi with rfl | rfl
    · exact (h1 g1).1
    · exact (h1 g1).2
  have q : m.testBit 1 = true → ∀ i, sw_is2 a b i = true → w i ≤ y := fun g2 i hi => by
    rcases of_decide_eq_true hi with hi | hi
    · rw [hi]; exact (h2 g2).1
    · rw [hi]; exact (h2 g2).2
  rcases g with ⟨rfl, g⟩ | rfl | ⟨rfl, g1, g⟩ | ⟨rfl, g1, g⟩ | ⟨rfl, g1, g2, g, g'⟩ | ⟨rfl, g1, g2, g⟩
  · left
    unfold sw_w0 at h0j
    rw [if_pos g] at h0j
    exact h0j
  · left
    exact Nat.le_trans h0j (sw_w0_le j)
  · left
    exact p g1 j g
  · left
    exact q g1 j g
  · left
    exact Nat.le_min.mpr ⟨p g1 j g, q g2 j g'⟩
  · right
    refine ⟨sw_mid a b, sw_mid_lt a b, ?_⟩
    show _ ≤ x + y
    rcases of_decide_eq_true g with ⟨g, g'⟩ | ⟨g, g'⟩
    · exact Nat.add_le_add (p g1 _ g) (q g2 _ g')
    · rw [Nat.add_comm x y]
      exact Nat.add_le_add (q g2 _ g') (p g1 _ g)
theorem sw_st0c : ∀ E, E ∈ sw_L → ∀ m, m < 4 → m.testBit 0 = true → (sw_cd m E 0 1 = 1 ∨ sw_cd m E 0 1 = 4) ∧ (sw_cd m E 1 0 = 1 ∨ sw_cd m E 1 0 = 4) := by decide +kernel
def sw_24 (k : Nat) : Bool := decide (k = 2 ∨ k = 4)
def sw_b24 (m a b : Nat) : Bool := !m.testBit 1 || (sw_24 (sw_cd m (2 ^ a ||| 2 ^ b) ((a * 6 + b) / 6) ((a * 6 + b) % 6)) && sw_24 (sw_cd m (2 ^ a ||| 2 ^ b) ((b * 6 + a) / 6) ((b * 6 + a) % 6)))
theorem sw_st1b : ∀ a, a < 6 → ∀ b, b < 6 → a ≠ b → ∀ m, m < 4 → sw_b24 m a b = true := by decide +kernel
theorem sw_st1c {m a b : Nat} (ha : a < 6) (hb : b < 6) (hab : a ≠ b) (hm : m < 4) (h : m.testBit 1 = true) : sw_24 (sw_cd m (2 ^ a ||| 2 ^ b) ((a * 6 + b) / 6) ((a * 6 + b) % 6)) = true ∧ sw_24 (sw_cd m (2 ^ a ||| 2 ^ b) ((b * 6 + a) / 6) ((b * 6 + a) % 6)) = true := by
  have t := sw_st1b a ha b hb hab m hm
  unfold sw_b24 at t
  rw [h, Bool.not_true, Bool.false_or, Bool.and_eq_true] at t
  exact t
theorem sw_ev14 {x y k : Nat} (h : k = 1 ∨ k = 4) : sw_ev x y k ≤ x := by
  rcases h with rfl | rfl
  · exact Nat.le_refl _
  · exact Nat.min_le_left _ _
theorem sw_ev24 {x y k : Nat} (h : sw_24 k = true) : sw_ev x y k ≤ y := by
  rcases of_decide_eq_true h with rfl | rfl
  · exact Nat.le_refl _
  · exact Nat.min_le_right _ _
end
section
/-! the pairing, as a table -/
def sw_low (k : Nat) : Nat := if k.testBit 0 = true then 0 else if k.testBit 1 = true then 1 else if k.testBit 2 = true then 2 else if k.testBit 3 = true then 3 else if k.testBit 4 = true then 4 else 5
def sw_high (k : Nat) : Nat := if k.testBit 5 = true then 5 else if k.testBit 4 = true then 4 else if k.testBit 3 = true then 3 else if k.testBit 2 = true then 2 else if k.testBit 1 = true then 1 else 0
theorem sw_low_ok : ∀ k, k < 64 → 0 < k → sw_low k < 6 ∧ k.testBit (sw_low k) = true ∧ ∀ j, j < sw_low k → k.testBit j = false := by decide +kernel
def sw_rest (k lo c : Nat) : Nat := (k &&& (63 ^^^ 2 ^ lo)) &&& (63 ^^^ 2 ^ c)
theorem sw_rest_lt : ∀ k, k < 64 → ∀ lo, lo < 6 → ∀ c, c < 6 → k.testBit lo = true → sw_rest k lo c < k := by decide +kernel
def sw_pf (D G : Nat → Nat) (k lo : Nat) : Nat → Nat
  | 0 => 200000
  | c + 1 => if lo < c ∧ k.testBit c = true then min (sw_pf D G k lo c) (D (lo * 6 + c) + G (sw_rest k lo c)) else sw_pf D G k lo c
def sw_pu (D G : Nat → Nat) (k : Nat) : Nat := sw_pf D G k (sw_low k) 6
def sw_gs (D : Nat → Nat) (wn : Nat) : Nat → Nat → Nat
  | 0 => fun _ => 0
  | n + 1 => fun j => if j = n + 1 then (if j &&& (63 ^^^ wn) = 0 then sw_pu D (sw_gs D wn n) j else 200000) else sw_gs D wn n j
theorem sw_pf_on {D G : Nat → Nat} {k lo c : Nat} (h : lo < c ∧ k.testBit c = true) : sw_pf D G k lo (c + 1) = min (sw_pf D G k lo c) (D (lo * 6 + c) + G (sw_rest k lo c)) := if_pos h
theorem sw_pf_off {D G : Nat → Nat} {k lo c : Nat} (h : ¬ (lo < c ∧ k.testBit c = true)) : sw_pf D G k lo (c + 1) = sw_pf D G k lo c := if_neg h
theorem sw_pf_first {D G : Nat → Nat} {k lo : Nat} : ∀ n, n ≤ lo + 1 → sw_pf D G k lo n = 200000 := by
  intro n
  induction n with
  | zero => intro _; rfl
  | succ n ih =>
    intro h
    rw [sw_pf_off (by omega)]
    exact ih (by omega)
theorem sw_pf_top {D G : Nat → Nat} {k lo : Nat} : ∀ n, sw_pf D G k lo n ≤ 200000 := by
  intro n
  induction n with
  | zero => exact Nat.le_refl _
  | succ n ih =>
    by_cases h : lo < n ∧ k.testBit n = true
    · rw [sw_pf_on h]
      exact Nat.le_trans (Nat.min_le_left _ _) ih
    · rw [sw_pf_off h]
      exact ih
theorem sw_pf_le {D G : Nat → Nat} {k lo c : Nat} (h : lo < c ∧ k.testBit c = true) : ∀ n, c < n → sw_pf D G k lo n ≤ D (lo * 6 + c) + G (sw_rest k lo c) := by
  intro n
  induction n with
  | zero => intro z; omega
  | succ n ih =>
    intro z
    by_cases e : c = n
    · subst e
      rw [sw_pf_on h]
      exact Nat.min_le_right _ _
    · by_cases h' : lo < n ∧ k.testBit n = true
      · rw [sw_pf_on h']
        exact Nat.le_trans (Nat.min_le_left _ _) (ih (by omega))
      · rw [sw_pf_off h']
        exact ih (by omega)
theorem sw_pf_ge {D G : Nat → Nat} {k lo t : Nat} (ht : t ≤ 200000) (h : ∀ c, c < 6 → lo < c → k.testBit c = true → t ≤ D (lo * 6 + c) + G (sw_rest k lo c)) : ∀ n, n ≤ 6 → t ≤ sw_pf D G k lo n := by
  intro n
  induction n with
  | zero => intro _; exact ht
  | succ n ih =>
    intro z
    by_cases h' : lo < n ∧ k.testBit n = true
    · rw [sw_pf_on h']
      exact Nat.le_min.mpr ⟨ih (by omega), h n (by omega) h'.1 h'.2⟩
    · rw [sw_pf_off h']
      exact ih (by omega)
theorem sw_pf_cg {D G G' : Nat → Nat} {k lo : Nat} (h : ∀ c, c < 6 → G (sw_rest k lo c) = G' (sw_rest k lo c)) : ∀ n, n ≤ 6 → sw_pf D G k lo n = sw_pf D G' k lo n := by
  intro n
  induction n with
  | zero => intro _; rfl
  | succ n ih =>
    intro z
    by_cases h' : lo < n ∧ k.testBit n = true
    · rw [sw_pf_on h', sw_pf_on h', ih (by omega), h n (by omega)]
    · rw [sw_pf_off h', sw_pf_off h', ih (by omega)]
theorem sw_gs_new (D : Nat → Nat) (wn n : Nat) : sw_gs D wn (n + 1) (n + 1) = if (n + 1) &&& (63 ^^^ wn) = 0 then sw_pu D (sw_gs D wn n) (n + 1) else 200000 := if_pos rfl
theorem sw_gs_old {D : Nat → Nat} {wn n j : Nat} (h : j ≤ n) : sw_gs D wn (n + 1) j = sw_gs D wn n j := if_neg (by omega)
theorem sw_gs_at {D : Nat → Nat} {wn j : Nat} : ∀ d, sw_gs D wn (j + d) j = sw_gs D wn j j := by
  intro d
  induction d with
  | zero => rfl
  | succ d ih =>
    show sw_gs D wn (j + d + 1) j = _
    rw [sw_gs_old (by omega), ih]
theorem sw_gs_to {D : Nat → Nat} {wn j n : Nat} (h : j ≤ n) : sw_gs D wn n j = sw_gs D wn j j := by
  have e := sw_gs_at (D := D) (wn := wn) (j := j) (n - j)
  rw [show j + (n - j) = n by omega] at e
  exact e
/-- the table of pairings -/
def sw_G (D : Nat → Nat) (wn : Nat) : Nat → Nat := sw_gs D wn 63
theorem sw_G0 (D : Nat → Nat) (wn : Nat) : sw_G D wn 0 = 0 := by
  unfold sw_G
  rw [sw_gs_to (Nat.zero_le _)]
  rfl
theorem sw_Gk {D : Nat → Nat} {wn k : Nat} (h0 : 0 < k) (h : k < 64) : sw_G D wn k = if k &&& (63 ^^^ wn) = 0 then sw_pu D (sw_G D wn) k else 200000 := by
  obtain ⟨l1, l2, _⟩ := sw_low_ok k h h0
  have c : sw_pu D (sw_gs D wn (k - 1)) k = sw_pu D (sw_G D wn) k := by
    unfold sw_pu
    refine sw_pf_cg (fun c hc => ?_) 6 (Nat.le_refl _)
    have r := sw_rest_lt k h _ l1 c hc l2
    unfold sw_G
    rw [sw_gs_to (n := k - 1) (by omega), sw_gs_to (n := 63) (by omega)]
  have e : sw_G D wn k = sw_gs D wn (k - 1 + 1) (k - 1 + 1) := by
    unfold sw_G
    rw [show k - 1 + 1 = k by omega]
    exact sw_gs_to (by omega)
  rw [e, sw_gs_new, show k - 1 + 1 = k by omega, c]
theorem sw_G_top {D : Nat → Nat} {wn k : Nat} (h : k < 64) : sw_G D wn k ≤ 200000 := by
  rcases Nat.eq_zero_or_pos k with z | z
  · rw [z, sw_G0]
    omega
  · rw [sw_Gk z h]
    split
    · exact sw_pf_top 6
    · exact Nat.le_refl _
/-- the length that join answers -/
def sw_J (m E x y wn : Nat) : Nat := sw_G (sw_D m E x y) wn wn
theorem sw_self : ∀ k, k < 64 → k &&& (63 ^^^ k) = 0 := by decide +kernel
theorem sw_2 : ∀ k, k ∈ sw_L → k < 64 ∧ 0 < k ∧ sw_low k < 6 ∧ sw_high k < 6 ∧ sw_low k < sw_high k ∧ k.testBit (sw_high k) = true ∧ sw_rest k (sw_low k) (sw_high k) = 0 ∧ ∀ c, c < 6 → sw_low k < c → k.testBit c = true → c = sw_high k := by decide +kernel
/-- two corners within the wanted ones: their way -/
theorem sw_G2 {D : Nat → Nat} (hD : ∀ j, D j ≤ 100000) {wn k : Nat} (hk : k ∈ sw_L) (hw : k &&& (63 ^^^ wn) = 0) : sw_G D wn k = D (sw_low k * 6 + sw_high k) := by
  obtain ⟨h1, h2, h3, h4, h5, h6, h7, h8⟩ := sw_2 k hk
  rw [sw_Gk h2 h1, if_pos hw]
  unfold sw_pu
  have b := hD (sw_low k * 6 + sw_high k)
  refine Nat.le_antisymm ?_ ?_
  · have t := sw_pf_le (D := D) (G := sw_G D wn) ⟨h5, h6⟩ 6 h4
    rw [h7, sw_G0] at t
    exact t
  · refine sw_pf_ge (by omega) (fun c hc hl ht => ?_) 6 (Nat.le_refl _)
    rw [h8 c hc hl ht]
    exact Nat.le_add_right _ _
theorem sw_J0 {m E x y : Nat} : sw_J m E x y 0 = 0 := sw_G0 _ _
theorem sw_J2 {m E x y wn : Nat} (hx : x ≤ 20) (hy : y ≤ 20) (hk : wn ∈ sw_L) : sw_J m E x y wn = sw_D m E x y (sw_low wn * 6 + sw_high wn) :=
  sw_G2 (sw_D_le hx hy) hk (sw_self wn (sw_2 wn hk).1)
def sw_dc (m E k : Nat) : Nat := sw_cd m E ((sw_low k * 6 + sw_high k) / 6) ((sw_low k * 6 + sw_high k) % 6)
theorem sw_J2c {m E x y wn c : Nat} (hx : x ≤ 20) (hy : y ≤ 20) (hk : wn ∈ sw_L) (hc : sw_dc m E wn = c) : sw_J m E x y wn = sw_ev x y c := by
  rw [sw_J2 hx hy hk, ← hc]
  rfl
theorem sw_c3 : ∀ E, E ∈ sw_L → sw_dc 0 E 3 = 5 ∧ sw_dc 1 E 3 = 1 ∧ sw_dc 0 E E = 5 ∧ sw_dc 2 E E = 2 ∧ (E ≠ 3 → E &&& 3 ≠ 0 → E ^^^ 3 ∈ sw_L ∧ sw_dc 3 E (E ^^^ 3) = 3 ∧ sw_dc 2 E (E ^^^ 3) = 5) := by decide +kernel
theorem sw_3L : 3 ∈ sw_L := by decide +kernel
/-- four corners -/
theorem sw_c4 : ∀ E, E ∈ sw_L → E &&& 3 = 0 → E ^^^ 3 < 64 ∧ 0 < E ^^^ 3 ∧ sw_low (E ^^^ 3) = 0 ∧ (E ^^^ 3).testBit 1 = true ∧ sw_rest (E ^^^ 3) 0 1 = E ∧ E &&& (63 ^^^ (E ^^^ 3)) = 0 ∧ sw_cd 3 E 0 1 = 1 ∧ sw_cd 2 E 0 1 = 5 ∧ ∀ c, c < 6 → 0 < c → ((c = 1 ∨ sw_cd 3 E ((0 * 6 + c) / 6) ((0 * 6 + c) % 6) = 5) ∧ sw_cd 2 E ((0 * 6 + c) / 6) ((0 * 6 + c) % 6) = 5) := by decide +kernel
theorem sw_dc3 : ∀ E, E ∈ sw_L → E &&& 3 = 0 → sw_dc 3 E E = 2 := by decide +kernel
theorem sw_J4a {E x y : Nat} (hx : x ≤ 20) (hy : y ≤ 20) (hE : E ∈ sw_L) (h3 : E &&& 3 = 0) : sw_J 3 E x y (E ^^^ 3) = x + y := by
  obtain ⟨h1, h2, h4, h5, h6, h7, h8, h9, h10⟩ := sw_c4 E hE h3
  have hG : sw_G (sw_D 3 E x y) (E ^^^ 3) E = y := by
    rw [sw_G2 (sw_D_le hx hy) hE h7]
    show sw_ev x y (sw_dc 3 E E) = y
    rw [sw_dc3 E hE h3]
    rfl
  have hd : sw_D 3 E x y (0 * 6 + 1) = x := by
    show sw_ev x y (sw_cd 3 E 0 1) = x
    rw [h8]
    rfl
  unfold sw_J
  rw [sw_Gk h2 h1, if_pos (sw_self _ h1)]
  unfold sw_pu
  rw [h4]
  refine Nat.le_antisymm ?_ ?_
  · have t := sw_pf_le (D := sw_D 3 E x y) (G := sw_G (sw_D 3 E x y) (E ^^^ 3)) (k := E ^^^ 3) (lo := 0) (c := 1) ⟨by omega, h5⟩ 6 (by omega)
    rw [h6, hG, hd] at t
    exact t
  · refine sw_pf_ge (by omega) (fun c hc hl ht => ?_) 6 (Nat.le_refl _)
    rcases (h10 c hc hl).1 with e | e
    · rw [e, h6, hG, hd]
      exact Nat.le_refl _
    · have t : sw_D 3 E x y (0 * 6 + c) = 100000 := by
        unfold sw_D
        rw [e]
        rfl
      rw [t]
      omega
theorem sw_J4b {E x y : Nat} (hE : E ∈ sw_L) (h3 : E &&& 3 = 0) : 100000 ≤ sw_J 2 E x y (E ^^^ 3) := by
  obtain ⟨h1, h2, h4, h5, h6, h7, h8, h9, h10⟩ := sw_c4 E hE h3
  unfold sw_J
  rw [sw_Gk h2 h1, if_pos (sw_self _ h1)]
  unfold sw_pu
  rw [h4]
  refine sw_pf_ge (by omega) (fun c hc hl ht => ?_) 6 (Nat.le_refl _)
  have t : sw_D 2 E x y (0 * 6 + c) = 100000 := by
    unfold sw_D
    rw [(h10 c hc hl).2]
    rfl
  rw [t]
  omega
/-! what join answers, call by call -/
theorem sw_j1 {E x y : Nat} (hx : x ≤ 20) (hy : y ≤ 20) (hE : E ∈ sw_L) : sw_J 1 E x y 3 = x ∧ sw_J 0 E x y 3 = 100000 :=
  ⟨sw_J2c hx hy sw_3L (sw_c3 E hE).2.1, sw_J2c hx hy sw_3L (sw_c3 E hE).1⟩
theorem sw_jE {E x y : Nat} (hx : x ≤ 20) (hy : y ≤ 20) (hE : E ∈ sw_L) : sw_J 2 E x y E = y ∧ sw_J 0 E x y E = 100000 :=
  ⟨sw_J2c hx hy hE (sw_c3 E hE).2.2.2.1, sw_J2c hx hy hE (sw_c3 E hE).2.2.1⟩
theorem sw_jX {E x y : Nat} (hx : x ≤ 20) (hy : y ≤ 20) (hE : E ∈ sw_L) (h3 : E ≠ 3) : sw_J 3 E x y (E ^^^ 3) = x + y ∧ 100000 ≤ sw_J 2 E x y (E ^^^ 3) := by
  by_cases h : E &&& 3 = 0
  · exact ⟨sw_J4a hx hy hE h, sw_J4b hE h⟩
  · obtain ⟨t1, t2, t3⟩ := (sw_c3 E hE).2.2.2.2 h3 h
    exact ⟨sw_J2c hx hy t1 t2, Nat.le_of_eq (sw_J2c hx hy t1 t3).symm⟩
theorem sw_J_top {m E x y wn : Nat} (h : wn < 64) : sw_J m E x y wn ≤ 200000 := sw_G_top h
theorem sw_w6 : ∀ E, E ∈ sw_L → sw_cd 1 E 1 0 = 1 ∧ (E ≠ 3 → sw_cd 3 E 1 0 = 1) ∧ (E = 3 → sw_cd 3 E 1 0 = 4) := by decide +kernel
end
section
/-! small methods -/
theorem sw_bit : ∀ M, M < 4 → ∀ k, k < 10 → (((nI M >>> (nI k &&& 31)) &&& 1) = 0 ↔ M.testBit k = false) := by decide +kernel
theorem sw_nt {b : Bool} (h : ¬ b = false) : b = true := by
  cases b
  · exact absurd rfl h
  · rfl
theorem sw_has {post : Int32 → Prop} {M k : Nat} {a1 a2 a3 a4 a5 a6 : Nat → Int32} (hM : M < 4) (hk : k < 10) (h0 : M.testBit k = false → post 0) (h1 : M.testBit k = true → post 1) : wpX_has post (nI M, a1, a2, a3, a4, a5, a6) (nI k) := by
  unfold wpX_has
  dsimp only
  exact pk_lt k 0 (fun z => absurd z (by omega)) (fun _ => pk_le 10 k (fun z => absurd z (by omega)) (fun _ => ek_if (sw_bit M hM k hk) h0 (fun z => h1 (sw_nt z))))
theorem sw_corner {post : Int32 → Prop} {c : Nat} (hc : c < 6) (h : post 1) : wpX_isCorner post () (nI c) := by
  unfold wpX_isCorner
  exact pk_lt c 0 (fun z => absurd z (by omega)) (fun _ => pk_le 6 c (fun z => absurd z (by omega)) (fun _ => h))
/-- the ends of a street, as a mask -/
def sw_e32 (a1 a2 : Nat → Int32) (k : Nat) : Int32 := ((1 : Int32) <<< ((a1 k) &&& 31)) ||| ((1 : Int32) <<< ((a2 k) &&& 31))
theorem sw_ends {post : Int32 → Prop} {f : Int32} {k : Nat} {a1 a2 a3 a4 a5 a6 : Nat → Int32} (hk : k < 10) (h : post (sw_e32 a1 a2 k)) : wpX_endsOf post (f, a1, a2, a3, a4, a5, a6) (nI k) := by
  unfold wpX_endsOf
  dsimp only
  rw [nI_clamp (show k < 2 ^ 31 by omega)]
  exact ⟨pk_in k 10 hk, pk_in k 10 hk, h⟩
theorem sw_odd {post : Int32 → Prop} {M : Nat} {a1 a2 a3 a4 a5 a6 : Nat → Int32} (hM : M < 4) (F : Nat → Int32) (h0 : F 0 = 0) (hF : ∀ k, k < 10 → F (k + 1) = if M.testBit k = true then F k ^^^ sw_e32 a1 a2 k else F k) (h : post (F 10)) : wpX_odd post (nI M, a1, a2, a3, a4, a5, a6) := by
  unfold wpX_odd
  dsimp only
  refine pk_loop (fun n i s => wX_odd_4 post (nI M) a1 a2 a3 a4 a5 a6 n s (nI i)) (fun i s => s = F i) 10 0 0 (by omega) h0.symm (fun n s e => ?_) (fun n i s hi e hw => ?_)
  · rw [e]
    exact pk_le 10 10 (fun _ => h) (fun z => absurd z (by omega))
  · refine pk_le 10 i (fun z => absurd z (by omega)) (fun _ => sw_has hM hi (fun z => ?_) (fun z => ?_))
    · refine br_t rfl (nm_r (nI_1 i) (hw s ?_))
      rw [hF i hi, z, e]
      rfl
    · refine br_f (by decide) (sw_ends hi (nm_e (nm_r (nI_1 i) (hw _ ?_))))
      rw [hF i hi, z, e]
      rfl
theorem sw_touched {post : Int32 → Prop} {f : Int32} {M : Nat} {a1 a2 a3 a4 a5 a6 : Nat → Int32} (hM : M < 4) (F : Nat → Int32) (h0 : F 0 = 0) (hF : ∀ k, k < 10 → F (k + 1) = if M.testBit k = true then F k ||| sw_e32 a1 a2 k else F k) (h : post (F 10)) : wpX_touched post (f, a1, a2, a3, a4, a5, a6) (nI M) := by
  unfold wpX_touched
  dsimp only
  refine pk_loop (fun n i s => wX_touched_4 post (nI M) f a1 a2 a3 a4 a5 a6 n s (nI i)) (fun i s => s = F i) 10 0 0 (by omega) h0.symm (fun n s e => ?_) (fun n i s hi e hw => ?_)
  · rw [e]
    exact pk_le 10 10 (fun _ => h) (fun z => absurd z (by omega))
  · refine pk_le 10 i (fun z => absurd z (by omega)) (fun _ => ek_if (sw_bit M hM i hi) (fun z => ?_) (fun z => ?_))
    · refine nm_r (nI_1 i) (hw s ?_)
      rw [hF i hi, z, e]
      rfl
    · refine sw_ends hi (nm_e (nm_r (nI_1 i) (hw _ ?_)))
      rw [hF i hi, sw_nt z, e]
      rfl
theorem sw_reached {post : Int32 → Prop} {f : Int32} {M : Nat} {c0 : Int32} {a1 a2 a3 a4 a5 a6 : Nat → Int32} (hM : M < 4) (F : Nat → Nat → Int32) (h0 : F 0 0 = c0) (hR : ∀ r, r < 6 → F r 10 = F (r + 1) 0)
    (hF : ∀ r, r < 6 → ∀ k, k < 10 → F r (k + 1) = if M.testBit k = true then (if sw_e32 a1 a2 k &&& F r k = 0 then F r k else F r k ||| sw_e32 a1 a2 k) else F r k) (h : post (F 6 0)) : wpX_reached post (f, a1, a2, a3, a4, a5, a6) c0 (nI M) := by
  unfold wpX_reached
  dsimp only
  refine pk_loop (fun n i s => wX_reached_5 post (nI M) f a1 a2 a3 a4 a5 a6 n s (nI i)) (fun i s => s = F i 0) 6 0 c0 (by omega) h0.symm (fun n s e => ?_) (fun n r s hr e hw => ?_)
  · rw [e]
    exact pk_le 6 6 (fun _ => h) (fun z => absurd z (by omega))
  · refine pk_le 6 r (fun z => absurd z (by omega)) (fun _ => ?_)
    refine pk_loop (fun n' i s => wX_reached_15 post (wX_reached_5 post (nI M) f a1 a2 a3 a4 a5 a6 n) (nI M) (nI r) f a1 a2 a3 a4 a5 a6 n' s (nI i)) (fun i s => s = F r i) 10 0 s (by omega) e (fun n' s' e' => ?_) (fun n' i s' hi e' hw' => ?_)
    · refine pk_le 10 10 (fun _ => nm_r (nI_1 r) (hw s' ?_)) (fun z => absurd z (by omega))
      rw [e', hR r hr]
    · refine pk_le 10 i (fun z => absurd z (by omega)) (fun _ => ek_if (sw_bit M hM i hi) (fun z => ?_) (fun z => ?_))
      · refine nm_r (nI_1 i) (hw' s' ?_)
        rw [hF r hr i hi, z, e']
        rfl
      · refine sw_ends hi (br_c (fun g => ?_) (fun g => ?_))
        · refine nm_r (nI_1 i) (hw' s' ?_)
          rw [e'] at g
          rw [hF r hr i hi, sw_nt z, if_pos rfl, if_pos g, e']
        · refine sw_ends hi (nm_e (nm_r (nI_1 i) (hw' _ ?_)))
          rw [e'] at g
          rw [hF r hr i hi, sw_nt z, if_pos rfl, if_neg g, e']
end
section
/-! least ways -/
theorem sw_k1 {i c : Nat} (hi : i < 36) : nI i / 6 * 6 + nI c = nI (i / 6 * 6 + c) := by
  show nI i / nI 6 * nI 6 + nI c = _
  rw [pk_div (by omega) (by omega) (by omega), pk_mul, nI_add]
theorem sw_k2 {i c : Nat} (hi : i < 36) : nI c * 6 + (nI i - nI i / 6 * 6) = nI (c * 6 + i % 6) := by
  show nI c * nI 6 + (nI i - nI i / nI 6 * nI 6) = _
  rw [pk_rem (by omega) (by omega) (by omega), pk_mul, nI_add]
theorem sw_k0 (u v : Nat) : nI u * 6 + nI v = nI (u * 6 + v) := by
  show nI u * nI 6 + nI v = _
  rw [pk_mul, nI_add]
theorem sw_shorten {post : St2 → Prop} {f : Int32} {a1 a2 a3 a4 a5 a6 : Nat → Int32} {w : Nat → Nat} {u v l : Nat} (hu : u < 6) (hv : v < 6) (hl : l ≤ 20) (hw : ∀ j, j < 36 → a4 j = nI (w j)) (hb : ∀ j, j < 36 → w j ≤ 100000)
    (H : ∀ (s : Nat → Int32) (w' : Nat → Nat), (∀ j, j < 36 → s j = nI (w' j)) → (∀ j, w' j ≤ w j) → (∀ j, w' j = w j ∨ (j = u * 6 + v ∧ w' j = l)) → w' (u * 6 + v) ≤ l → post (f, a1, a2, a3, s, a5, a6)) :
    wpX_shorten post (f, a1, a2, a3, a4, a5, a6) (nI u) (nI v) (nI l) := by
  unfold wpX_shorten
  dsimp only
  have hk : u * 6 + v < 36 := by omega
  have bk := hb _ hk
  refine nm_r (sw_k0 u v) ⟨pk_in (u * 6 + v) 36 hk, ?_⟩
  rw [nI_clamp (show u * 6 + v < 2 ^ 31 by omega), hw _ hk]
  refine pk_le (w (u * 6 + v)) l (fun z => H a4 w hw (fun j => Nat.le_refl _) (fun j => Or.inl rfl) z) (fun z => ⟨pk_in (u * 6 + v) 36 hk, nm_e ?_⟩)
  refine H _ (fun j => if j = u * 6 + v then l else w j) (fun j hj => ?_) (fun j => ?_) (fun j => ?_) ?_
  · by_cases e : j = u * 6 + v
    · rw [e, pk_us]
      rw [if_pos rfl]
    · rw [pk_un e, hw j hj]
      rw [if_neg e]
  · by_cases e : j = u * 6 + v
    · rw [if_pos e, e]
      omega
    · rw [if_neg e]
      exact Nat.le_refl _
  · by_cases e : j = u * 6 + v
    · right
      exact ⟨e, if_pos e⟩
    · left
      exact if_neg e
  · rw [if_pos rfl]
    exact Nat.le_refl _
/-- within the rounds: between D and what w1 gives in two steps through the corners done -/
def sw_F (D w1 : Nat → Nat) (c i : Nat) (s : Nat → Int32) : Prop := ∃ w : Nat → Nat, ∀ j, j < 36 → s j = nI (w j) ∧ D j ≤ w j ∧ w j ≤ w1 j ∧ ∀ c', (c' < c ∨ (c' = c ∧ j < i)) → w j ≤ w1 (j / 6 * 6 + c') + w1 (c' * 6 + j % 6)
theorem sw_113 {post : St2 → Prop} {J : Int32 → (Nat → Int32) → (Nat → Int32) → (Nat → Int32) → (Nat → Int32) → (Nat → Int32) → (Nat → Int32) → Prop} {f : Int32} {a1 a2 a3 a4 a5 a6 : Nat → Int32} {D w1 : Nat → Nat} {c : Nat} (hc : c < 6)
    (h1 : ∀ j, j < 36 → w1 j ≤ 100000) (htri : ∀ j, j < 36 → ∀ c, c < 6 → D j ≤ D (j / 6 * 6 + c) + D (c * 6 + j % 6)) (h4 : sw_F D w1 c 0 a4)
    (H : ∀ s, sw_F D w1 (c + 1) 0 s → J (nI (c + 1)) a1 a2 a3 s a5 a6) : ∃ n, wX_measure_113 post J (nI c) f n 0 a1 a2 a3 a4 a5 a6 := by
  refine pk_loop (fun n i s => wX_measure_113 post J (nI c) f n (nI i) a1 a2 a3 s a5 a6) (fun i s => sw_F D w1 c i s) 36 0 a4 (by omega) h4 (fun n s h => ?_) (fun n i s hi h hw => ?_)
  · refine pk_le 36 36 (fun _ => nm_r (nI_1 c) (H s ?_)) (fun z => absurd z (by omega))
    obtain ⟨w, h⟩ := h
    refine ⟨w, fun j hj => ?_⟩
    obtain ⟨g1, g2, g3, g4⟩ := h j hj
    exact ⟨g1, g2, g3, fun c' hc' => g4 c' (by omega)⟩
  · obtain ⟨w, h⟩ := h
    have k1 : i / 6 * 6 + c < 36 := by omega
    have k2 : c * 6 + i % 6 < 36 := by omega
    obtain ⟨p1, p2, p3, _⟩ := h _ k1
    obtain ⟨q1, q2, q3, _⟩ := h _ k2
    obtain ⟨r1, r2, r3, r4⟩ := h i hi
    have b1 := h1 _ k1
    have b2 := h1 _ k2
    have b3 := h1 i hi
    have t := htri i hi c hc
    refine pk_le 36 i (fun z => absurd z (by omega)) (fun _ => ⟨by decide, pk_in (i / 6 * 6 + c) 36 k1 (sw_k1 hi), by decide, pk_in (c * 6 + i % 6) 36 k2 (sw_k2 hi), ?_⟩)
    refine nm_r (e' := nI (w (i / 6 * 6 + c) + w (c * 6 + i % 6))) ?_ ⟨pk_in i 36 hi, ?_⟩
    · rw [sw_k1 hi, sw_k2 hi, nI_clamp (by omega), nI_clamp (by omega), p1, q1, nI_add]
    · rw [nI_clamp (show i < 2 ^ 31 by omega), r1]
      refine pk_le (w i) (w (i / 6 * 6 + c) + w (c * 6 + i % 6)) (fun z => nm_r (nI_1 i) (hw s ⟨w, fun j hj => ?_⟩)) (fun z => ⟨pk_in i 36 hi, nm_e (nm_r (nI_1 i) (hw _ ⟨fun j => if j = i then w (i / 6 * 6 + c) + w (c * 6 + i % 6) else w j, fun j hj => ?_⟩))⟩)
      · obtain ⟨g1, g2, g3, g4⟩ := h j hj
        refine ⟨g1, g2, g3, fun c' hc' => ?_⟩
        by_cases e : j = i ∧ c' = c
        · obtain ⟨e1, e2⟩ := e
          subst e1 e2
          omega
        · exact g4 c' (by omega)
      · dsimp only
        by_cases e : j = i
        · subst e
          rw [pk_us, if_pos rfl]
          refine ⟨rfl, by omega, by omega, fun c' hc' => ?_⟩
          by_cases e2 : c' = c
          · subst e2
            omega
          · have := r4 c' (by omega)
            omega
        · obtain ⟨g1, g2, g3, g4⟩ := h j hj
          rw [pk_un e, if_neg e]
          exact ⟨g1, g2, g3, fun c' hc' => g4 c' (by omega)⟩
theorem sw_105 {post : St2 → Prop} {f : Int32} {a1 a2 a3 a4 a5 a6 : Nat → Int32} {D w1 : Nat → Nat}
    (h1 : ∀ j, j < 36 → w1 j ≤ 100000) (htri : ∀ j, j < 36 → ∀ c, c < 6 → D j ≤ D (j / 6 * 6 + c) + D (c * 6 + j % 6)) (h4 : sw_F D w1 0 0 a4)
    (hat : ∀ j, j < 36 → w1 j ≤ D j ∨ ∃ c, c < 6 ∧ w1 (j / 6 * 6 + c) + w1 (c * 6 + j % 6) ≤ D j)
    (H : ∀ s, (∀ j, j < 36 → s j = nI (D j)) → post (f, a1, a2, a3, s, a5, a6)) : ∃ n, wX_measure_105 post f n 0 a1 a2 a3 a4 a5 a6 := by
  refine pk_loop (fun n i s => wX_measure_105 post f n (nI i) a1 a2 a3 s a5 a6) (fun i s => sw_F D w1 i 0 s) 6 0 a4 (by omega) h4 (fun n s h => ?_) (fun n c s hc h hw => ?_)
  · refine pk_le 6 6 (fun _ => H s (fun j hj => ?_)) (fun z => absurd z (by omega))
    obtain ⟨w, h⟩ := h
    obtain ⟨g1, g2, g3, g4⟩ := h j hj
    have e : w j = D j := by
      rcases hat j hj with z | ⟨c, hc, z⟩
      · omega
      · have := g4 c (Or.inl hc)
        omega
    rw [g1, e]
  · exact pk_le 6 c (fun z => absurd z (by omega)) (fun _ => sw_113 hc h1 htri h hw)
theorem sw_39 {post : St2 → Prop} {f : Int32} {a1 a2 a3 a4 a5 a6 : Nat → Int32} {D u v l : Nat → Nat} {m : Nat} (hm : m < 4) (hD : ∀ j, D j ≤ sw_w0 j)
    (hst : ∀ k, k < 10 → m.testBit k = true → a1 k = nI (u k) ∧ a2 k = nI (v k) ∧ a3 k = nI (l k) ∧ u k < 6 ∧ v k < 6 ∧ l k ≤ 20 ∧ D (u k * 6 + v k) ≤ l k ∧ D (v k * 6 + u k) ≤ l k)
    (h4 : ∀ j, j < 36 → a4 j = nI (sw_w0 j)) (htri : ∀ j, j < 36 → ∀ c, c < 6 → D j ≤ D (j / 6 * 6 + c) + D (c * 6 + j % 6))
    (hat : ∀ w : Nat → Nat, (∀ j, j < 36 → w j ≤ sw_w0 j) → (∀ k, k < 10 → m.testBit k = true → w (u k * 6 + v k) ≤ l k ∧ w (v k * 6 + u k) ≤ l k) → ∀ j, j < 36 → w j ≤ D j ∨ ∃ c, c < 6 ∧ w (j / 6 * 6 + c) + w (c * 6 + j % 6) ≤ D j)
    (H : ∀ s, (∀ j, j < 36 → s j = nI (D j)) → post (f, a1, a2, a3, s, a5, a6)) : ∃ n, wX_measure_39 post (nI m) n 0 f a1 a2 a3 a4 a5 a6 := by
  refine pk_loop (fun n i s => wX_measure_39 post (nI m) n (nI i) f a1 a2 a3 s a5 a6) (fun i s => ∃ w : Nat → Nat, (∀ j, j < 36 → s j = nI (w j)) ∧ (∀ j, D j ≤ w j) ∧ (∀ j, w j ≤ sw_w0 j) ∧ (∀ k, k < i → m.testBit k = true → w (u k * 6 + v k) ≤ l k ∧ w (v k * 6 + u k) ≤ l k)) 10 0 a4 (by omega) ⟨sw_w0, h4, hD, fun j => Nat.le_refl _, fun k hk => absurd hk (by omega)⟩ (fun n s h => ?_) (fun n i s hi h hw => ?_)
  · obtain ⟨w, g1, g2, g3, g4⟩ := h
    refine pk_le 10 10 (fun _ => sw_105 (w1 := w) (fun j _ => Nat.le_trans (g3 j) (sw_w0_le j)) htri ⟨w, fun j hj => ⟨g1 j hj, g2 j, Nat.le_refl _, fun c' hc' => absurd hc' (by omega)⟩⟩ (hat w (fun j _ => g3 j) g4) H) (fun z => absurd z (by omega))
  · obtain ⟨w, g1, g2, g3, g4⟩ := h
    refine pk_le 10 i (fun z => absurd z (by omega)) (fun _ => ek_if (sw_bit m hm i hi) (fun z => nm_r (nI_1 i) (hw s ⟨w, g1, g2, g3, fun k hk ht => ?_⟩)) (fun z => ?_))
    · by_cases e : k = i
      · rw [e, z] at ht
        exact absurd ht (by decide)
      · exact g4 k (by omega) ht
    · have z := sw_nt z
      obtain ⟨t1, t2, t3, t4, t5, t6, t7, t8⟩ := hst i hi z
      rw [nI_clamp (show i < 2 ^ 31 by omega), t1, t2, t3]
      refine ⟨pk_in i 10 hi, pk_in i 10 hi, pk_in i 10 hi, ?_⟩
      refine sw_shorten t4 t5 t6 g1 (fun j _ => Nat.le_trans (g3 j) (sw_w0_le j)) (fun s' w' d1 d2 d3 d4 => ?_)
      refine ⟨pk_in i 10 hi, pk_in i 10 hi, pk_in i 10 hi, ?_⟩
      rw [t1, t2, t3]
      refine sw_shorten t5 t4 t6 d1 (fun j _ => Nat.le_trans (d2 j) (Nat.le_trans (g3 j) (sw_w0_le j))) (fun s'' w'' e1 e2 e3 e4 => ?_)
      refine nm_r (nI_1 i) (hw s'' ⟨w'', e1, fun j => ?_, fun j => Nat.le_trans (e2 j) (Nat.le_trans (d2 j) (g3 j)), fun k hk ht => ?_⟩)
      · rcases e3 j with y | ⟨y, y'⟩
        · rw [y]
          rcases d3 j with y | ⟨y, y'⟩
          · rw [y]
            exact g2 j
          · rw [y', y]
            exact t7
        · rw [y', y]
          exact t8
      · by_cases e : k = i
        · rw [e]
          exact ⟨Nat.le_trans (e2 _) d4, e4⟩
        · obtain ⟨y1, y2⟩ := g4 k (by omega) ht
          exact ⟨Nat.le_trans (e2 _) (Nat.le_trans (d2 _) y1), Nat.le_trans (e2 _) (Nat.le_trans (d2 _) y2)⟩
theorem sw_fill {f s : Nat → Int32} {i : Nat} {x : Int32} (h : ∀ j, j < i → s j = f j) (hx : x = f i) : ∀ j, j < i + 1 → upd s i x j = f j := by
  intro j hj
  by_cases e : j = i
  · rw [e, pk_us, hx]
  · rw [pk_un e]
    exact h j (by omega)
theorem sw_measure {post : St2 → Prop} {f : Int32} {a1 a2 a3 a4 a5 a6 : Nat → Int32} {D u v l : Nat → Nat} {m : Nat} (hm : m < 4) (hD : ∀ j, D j ≤ sw_w0 j)
    (hst : ∀ k, k < 10 → m.testBit k = true → a1 k = nI (u k) ∧ a2 k = nI (v k) ∧ a3 k = nI (l k) ∧ u k < 6 ∧ v k < 6 ∧ l k ≤ 20 ∧ D (u k * 6 + v k) ≤ l k ∧ D (v k * 6 + u k) ≤ l k)
    (htri : ∀ j, j < 36 → ∀ c, c < 6 → D j ≤ D (j / 6 * 6 + c) + D (c * 6 + j % 6))
    (hat : ∀ w : Nat → Nat, (∀ j, j < 36 → w j ≤ sw_w0 j) → (∀ k, k < 10 → m.testBit k = true → w (u k * 6 + v k) ≤ l k ∧ w (v k * 6 + u k) ≤ l k) → ∀ j, j < 36 → w j ≤ D j ∨ ∃ c, c < 6 ∧ w (j / 6 * 6 + c) + w (c * 6 + j % 6) ≤ D j)
    (H : ∀ s, (∀ j, j < 36 → s j = nI (D j)) → post (f, a1, a2, a3, s, a5, a6)) : wpX_measure post (f, a1, a2, a3, a4, a5, a6) (nI m) := by
  unfold wpX_measure
  dsimp only
  refine pk_loop (fun n i s => wX_measure_2 post (nI m) f n (nI i) a1 a2 a3 s a5 a6) (fun i s => ∀ j, j < i → s j = nI (sw_w0 j)) 36 0 a4 (by omega) (fun j hj => absurd hj (by omega)) (fun n s h => ?_) (fun n i s hi h hw => ?_)
  · exact pk_le 36 36 (fun _ => sw_39 hm hD hst h htri hat H) (fun z => absurd z (by omega))
  · refine pk_le 36 i (fun z => absurd z (by omega)) (fun _ => ⟨by decide, by decide, ?_⟩)
    rw [nI_clamp (show i < 2 ^ 31 by omega)]
    refine pk_eq (i / 6) (i % 6) (fun z => ⟨pk_in i 36 hi, nm_e (nm_r (nI_1 i) (hw _ (sw_fill (f := fun j => nI (sw_w0 j)) h ?_)))⟩) (fun z => ⟨pk_in i 36 hi, nm_e (nm_r (nI_1 i) (hw _ (sw_fill (f := fun j => nI (sw_w0 j)) h ?_)))⟩) (pk_div (a := i) (d := 6) (by omega) (by omega) (by omega)) (pk_rem (a := i) (d := 6) (by omega) (by omega) (by omega))
    · unfold sw_w0
      rw [if_pos z]
      rfl
    · unfold sw_w0
      rw [if_neg z]
      rfl
end
section
/-- the picture: street 0 joins 0 and 1 and is x long; with M = 3 street 1 joins a and b and is y long -/
def sw_C (M a b x y : Nat) (a1 a2 a3 : Nat → Int32) : Prop := (M = 1 ∨ M = 3) ∧ a < 6 ∧ b < 6 ∧ a ≠ b ∧ x ≤ 20 ∧ y ≤ 20 ∧ a1 0 = nI 0 ∧ a2 0 = nI 1 ∧ a3 0 = nI x ∧ (M = 3 → a1 1 = nI a ∧ a2 1 = nI b ∧ a3 1 = nI y)
theorem sw_two : ∀ m, m < 4 → ∀ k, k < 10 → m.testBit k = true → k = 0 ∨ k = 1 := by decide +kernel
theorem sw_meas {post : St2 → Prop} {f : Int32} {a1 a2 a3 a4 a5 a6 : Nat → Int32} {M a b x y m : Nat} (C : sw_C M a b x y a1 a2 a3) (hm : m < 4) (h1 : m.testBit 1 = true → M = 3)
    (H : ∀ s, (∀ j, j < 36 → s j = nI (sw_D m (2 ^ a ||| 2 ^ b) x y j)) → post (f, a1, a2, a3, s, a5, a6)) : wpX_measure post (f, a1, a2, a3, a4, a5, a6) (nI m) := by
  obtain ⟨_, ha, hb, hab, hx, hy, c1, c2, c3, c4⟩ := C
  have hE := sw_inL a ha b hb hab
  refine sw_measure (D := sw_D m (2 ^ a ||| 2 ^ b) x y) (u := fun k => if k = 0 then 0 else a) (v := fun k => if k = 0 then 1 else b) (l := fun k => if k = 0 then x else y) hm (sw_D_w0 hx hy) (fun k hk ht => ?_) (sw_tri hE hm hx hy) (fun w g0 g => ?_) H
  · rcases sw_two m hm k hk ht with rfl | rfl
    · have t := sw_st0c _ hE m hm ht
      show a1 0 = nI 0 ∧ a2 0 = nI 1 ∧ a3 0 = nI x ∧ 0 < 6 ∧ 1 < 6 ∧ x ≤ 20 ∧ sw_D m (2 ^ a ||| 2 ^ b) x y (0 * 6 + 1) ≤ x ∧ sw_D m (2 ^ a ||| 2 ^ b) x y (1 * 6 + 0) ≤ x
      exact ⟨c1, c2, c3, by decide, by decide, hx, sw_ev14 t.1, sw_ev14 t.2⟩
    · obtain ⟨d1, d2, d3⟩ := c4 (h1 ht)
      have t := sw_st1c ha hb hab hm ht
      exact ⟨d1, d2, d3, ha, hb, hy, sw_ev24 t.1, sw_ev24 t.2⟩
  · exact sw_at ha hb hab hm w g0 (fun t => g 0 (by omega) t) (fun t => g 1 (by omega) t)
/-! pairings -/
theorem sw_mbit : ∀ k, k < 64 → ∀ j, j < 6 → (((nI k >>> (nI j &&& 31)) &&& 1) = 0 ↔ k.testBit j = false) := by decide +kernel
theorem sw_mrest : ∀ k, k < 64 → ∀ lo, lo < 6 → ∀ c, c < 6 → (nI k &&& (((1 : Int32) <<< (nI lo &&& 31)) ^^^ (-1))) &&& (((1 : Int32) <<< (nI c &&& 31)) ^^^ (-1)) = nI (sw_rest k lo c) := by decide +kernel
theorem sw_msub : ∀ k, k < 64 → ∀ w, w < 64 → ((nI k &&& (nI w ^^^ (-1))) = 0 ↔ k &&& (63 ^^^ w) = 0) := by decide +kernel
theorem sw_pair30 {post : Int32 → Prop} {f : Int32} {a1 a2 a3 a4 a5 a6 : Nat → Int32} {D G : Nat → Nat} {k lo : Nat} (hk : k < 64) (hlo : lo < 6) (ht : k.testBit lo = true) (h4 : ∀ j, j < 36 → a4 j = nI (D j)) (hD : ∀ j, D j ≤ 100000) (h5 : ∀ j, j < k → a5 j = nI (G j)) (hG : ∀ j, j < 64 → G j ≤ 200000) (H : post (nI (sw_pf D G k lo 6))) :
    ∃ n, wX_pairUp_30 post (nI k) (nI lo) f a1 a2 a3 a4 a5 a6 n 200000 (nI (lo + 1)) := by
  refine pk_loop (fun n i s => wX_pairUp_30 post (nI k) (nI lo) f a1 a2 a3 a4 a5 a6 n s (nI i)) (fun i s => lo < i ∧ s = nI (sw_pf D G k lo i)) 6 (lo + 1) 200000 (by omega) ⟨by omega, by rw [sw_pf_first _ (Nat.le_refl _)]; rfl⟩ (fun n s e => ?_) (fun n i s hi e hw => ?_)
  · rw [e.2]
    exact pk_le 6 6 (fun _ => H) (fun z => absurd z (by omega))
  · obtain ⟨el, e⟩ := e
    refine pk_le 6 i (fun z => absurd z (by omega)) (fun _ => ek_if (sw_mbit k hk i hi) (fun z => nm_r (nI_1 i) (hw s ⟨by omega, ?_⟩)) (fun z => ?_))
    · rw [e, sw_pf_off (fun t => absurd (z.symm.trans t.2) (by decide))]
    · have z := sw_nt z
      have r := sw_rest_lt k hk lo hlo i hi ht
      have bD := hD (lo * 6 + i)
      have bG := hG (sw_rest k lo i) (by omega)
      have bP := sw_pf_top (D := D) (G := G) (k := k) (lo := lo) i
      refine nm_r (sw_mrest k hk lo hlo i hi) ⟨pk_in (lo * 6 + i) 36 (by omega) (sw_k0 lo i), pk_in (sw_rest k lo i) 64 (by omega), ?_⟩
      refine nm_r (e' := nI (D (lo * 6 + i) + G (sw_rest k lo i))) ?_ ?_
      · rw [sw_k0, nI_clamp (by omega), nI_clamp (by omega), h4 _ (by omega), h5 _ r, nI_add]
      · rw [e]
        refine pk_le (sw_pf D G k lo i) (D (lo * 6 + i) + G (sw_rest k lo i)) (fun g => nm_r (nI_1 i) (hw _ ⟨by omega, ?_⟩)) (fun g => nm_r (nI_1 i) (hw _ ⟨by omega, ?_⟩))
        · rw [sw_pf_on ⟨el, z⟩, Nat.min_eq_left g]
        · rw [sw_pf_on ⟨el, z⟩, Nat.min_eq_right (Nat.le_of_lt g)]
theorem sw_pairUp {post : Int32 → Prop} {f : Int32} {a1 a2 a3 a4 a5 a6 : Nat → Int32} {D G : Nat → Nat} {k : Nat} (hk : k < 64) (h0 : 0 < k) (h4 : ∀ j, j < 36 → a4 j = nI (D j)) (hD : ∀ j, D j ≤ 100000) (h5 : ∀ j, j < k → a5 j = nI (G j)) (hG : ∀ j, j < 64 → G j ≤ 200000) (H : post (nI (sw_pu D G k))) :
    wpX_pairUp post (f, a1, a2, a3, a4, a5, a6) (nI k) := by
  unfold wpX_pairUp
  dsimp only
  obtain ⟨l1, l2, l3⟩ := sw_low_ok k hk h0
  refine pk_loop (σ := Unit) (fun n i _ => wX_pairUp_2 post (nI k) f a1 a2 a3 a4 a5 a6 n (nI i)) (fun _ _ => True) (sw_low k) 0 () (by omega) trivial (fun n _ _ => ?_) (fun n i _ hi _ hw => ?_)
  · refine pk_le 6 (sw_low k) (fun z => absurd z (by omega)) (fun _ => ek_if (sw_mbit k hk _ l1) (fun z => absurd (z.symm.trans l2) (by decide)) (fun _ => nm_r (nI_1 _) ?_))
    exact sw_pair30 hk l1 l2 h4 hD h5 hG H
  · exact pk_le 6 i (fun z => absurd z (by omega)) (fun _ => ek_if (sw_mbit k hk i (by omega)) (fun _ => nm_r (nI_1 i) (hw () trivial)) (fun z => absurd (l3 i hi) z))
theorem sw_join {post : Int32 → St2 → Prop} {f : Int32} {a1 a2 a3 a4 a5 a6 : Nat → Int32} {M a b x y m wn : Nat} (C : sw_C M a b x y a1 a2 a3) (hm : m < 4) (h1 : m.testBit 1 = true → M = 3) (hwn : wn < 64)
    (H : ∀ s t, post (nI (sw_J m (2 ^ a ||| 2 ^ b) x y wn)) (f, a1, a2, a3, s, t, a6)) : wpX_join post (f, a1, a2, a3, a4, a5, a6) (nI wn) (nI m) := by
  have hx : x ≤ 20 := C.2.2.2.2.1
  have hy : y ≤ 20 := C.2.2.2.2.2.1
  unfold wpX_join
  dsimp only
  refine sw_meas C hm h1 (fun s4 h4 => ?_)
  dsimp only
  refine nm_e ?_
  refine pk_loop (fun n i s => wX_join_14 post (nI wn) f n (nI i) a1 a2 a3 s4 s a6) (fun i s => 0 < i ∧ ∀ j, j < i → s j = nI (sw_G (sw_D m (2 ^ a ||| 2 ^ b) x y) wn j)) 64 1 (upd a5 0 0) (by omega) ⟨by omega, fun j hj => ?_⟩ (fun n s h => ?_) (fun n i s hi h hw => ?_)
  · rw [show j = 0 by omega, pk_us, sw_G0]
    rfl
  · refine pk_le 64 64 (fun _ => ⟨pk_in wn 64 hwn, ?_⟩) (fun z => absurd z (by omega))
    rw [nI_clamp (show wn < 2 ^ 31 by omega), h.2 wn hwn]
    exact H s4 s
  · obtain ⟨i0, h⟩ := h
    refine pk_le 64 i (fun z => absurd z (by omega)) (fun _ => ⟨pk_in i 64 hi, ?_⟩)
    rw [nI_clamp (show i < 2 ^ 31 by omega)]
    refine nm_e (ek_if (sw_msub i hi wn hwn) (fun z => ?_) (fun z => nm_r (nI_1 i) (hw _ ⟨by omega, fun j hj => ?_⟩)))
    · refine sw_pairUp (G := sw_G (sw_D m (2 ^ a ||| 2 ^ b) x y) wn) hi i0 h4 (sw_D_le hx hy) (fun j hj => ?_) (fun j hj => sw_G_top hj) ⟨pk_in i 64 hi, nm_e (nm_r (nI_1 i) (hw _ ⟨by omega, fun j hj => ?_⟩))⟩
      · rw [pk_un (by omega), h j hj]
      · by_cases e : j = i
        · rw [e, pk_us, sw_Gk i0 hi, if_pos z]
        · rw [pk_un e, pk_un e, h j (by omega)]
    · by_cases e : j = i
      · rw [e, pk_us, sw_Gk i0 hi, if_neg z]
        rfl
      · rw [pk_un e, h j (by omega)]
end
section
/-! the methods, over the picture -/
theorem sw_eab : ∀ a, a < 6 → ∀ b, b < 6 → ((1 : Int32) <<< (nI a &&& 31)) ||| ((1 : Int32) <<< (nI b &&& 31)) = nI (2 ^ a ||| 2 ^ b) := by decide +kernel
def sw_ee (E k : Nat) : Int32 := if k = 0 then nI 3 else nI E
theorem sw_M4 {M : Nat} (h : M = 1 ∨ M = 3) : M < 4 := by omega
theorem sw_M0 {M : Nat} (h : M = 1 ∨ M = 3) : M.testBit 0 = true := by
  rcases h with rfl | rfl <;> decide
theorem sw_M1 {M : Nat} (h : M = 1 ∨ M = 3) (t : M.testBit 1 = true) : M = 3 := by
  rcases h with rfl | rfl
  · exact absurd t (by decide)
  · rfl
theorem sw_Mp {M : Nat} (h : M = 1 ∨ M = 3) (t : (M - 1).testBit 1 = true) : M = 3 := by
  rcases h with rfl | rfl
  · exact absurd t (by decide)
  · rfl
theorem sw_e0 {M a b x y : Nat} {a1 a2 a3 : Nat → Int32} (C : sw_C M a b x y a1 a2 a3) : sw_e32 a1 a2 0 = nI 3 := by
  obtain ⟨hM, ha, hb, hab, hx, hy, c1, c2, c3, c4⟩ := C
  unfold sw_e32
  rw [c1, c2]
  decide
theorem sw_e1 {M a b x y : Nat} {a1 a2 a3 : Nat → Int32} (C : sw_C M a b x y a1 a2 a3) (h3 : M = 3) : sw_e32 a1 a2 1 = nI (2 ^ a ||| 2 ^ b) := by
  obtain ⟨hM, ha, hb, hab, hx, hy, c1, c2, c3, c4⟩ := C
  unfold sw_e32
  rw [(c4 h3).1, (c4 h3).2.1]
  exact sw_eab a ha b hb
theorem sw_he {M a b x y : Nat} {a1 a2 a3 : Nat → Int32} (C : sw_C M a b x y a1 a2 a3) : ∀ k, k < 10 → M.testBit k = true → sw_e32 a1 a2 k = sw_ee (2 ^ a ||| 2 ^ b) k := by
  intro k hk ht
  have hM := C.1
  rcases sw_two M (sw_M4 hM) k hk ht with rfl | rfl
  · exact sw_e0 C
  · exact sw_e1 C (sw_M1 hM ht)
def sw_o (M E : Nat) : Nat := if M = 3 then E ^^^ 3 else 3
def sw_oF (M E k : Nat) : Int32 := if k = 0 then 0 else if k = 1 then nI 3 else nI (sw_o M E)
def sw_Ms : List Nat := [1, 3]
theorem sw_inM {M : Nat} (h : M = 1 ∨ M = 3) : M ∈ sw_Ms := by
  rcases h with rfl | rfl <;> decide
theorem sw_oS : ∀ E, E ∈ sw_L → ∀ M, M ∈ sw_Ms → ∀ k, k < 10 → sw_oF M E (k + 1) = if M.testBit k = true then sw_oF M E k ^^^ sw_ee E k else sw_oF M E k := by decide +kernel
theorem sw_oddC {post : Int32 → Prop} {a1 a2 a3 a4 a5 a6 : Nat → Int32} {M a b x y : Nat} (C : sw_C M a b x y a1 a2 a3) (H : post (nI (sw_o M (2 ^ a ||| 2 ^ b)))) : wpX_odd post (nI M, a1, a2, a3, a4, a5, a6) := by
  have hM := C.1
  have hE := sw_inL a C.2.1 b C.2.2.1 C.2.2.2.1
  refine sw_odd (sw_M4 hM) (sw_oF M (2 ^ a ||| 2 ^ b)) rfl (fun k hk => ?_) H
  have key := sw_oS _ hE M (sw_inM hM) k hk
  by_cases t : M.testBit k = true
  · rw [if_pos t] at key ⊢
    rw [sw_he C k hk t]
    exact key
  · rw [if_neg t] at key ⊢
    exact key
/-! connected -/
def sw_tt (M E : Nat) : Nat := if M = 3 then E ||| 3 else 3
def sw_tF (M E k : Nat) : Int32 := if k = 0 then 0 else if k = 1 then nI 3 else nI (sw_tt M E)
def sw_rv (M E : Nat) : Nat := if M = 3 ∧ ¬ E &&& 3 = 0 then E ||| 3 else 3
def sw_rF (M E r k : Nat) : Int32 := if r = 0 ∧ k = 0 then nI 1 else if r = 0 ∧ k = 1 then nI 3 else nI (sw_rv M E)
theorem sw_tS : ∀ E, E ∈ sw_L → ∀ M, M ∈ sw_Ms → ∀ k, k < 10 → sw_tF M E (k + 1) = if M.testBit k = true then sw_tF M E k ||| sw_ee E k else sw_tF M E k := by decide +kernel
theorem sw_rS : ∀ E, E ∈ sw_L → ∀ M, M ∈ sw_Ms → ∀ r, r < 6 → ∀ k, k < 10 → sw_rF M E r (k + 1) = if M.testBit k = true then (if sw_ee E k &&& sw_rF M E r k = 0 then sw_rF M E r k else sw_rF M E r k ||| sw_ee E k) else sw_rF M E r k := by decide +kernel
def sw_con (M E : Nat) : Int32 := if M = 3 ∧ E &&& 3 = 0 then 0 else 1
theorem sw_cV : ∀ E, E ∈ sw_L → ∀ M, M ∈ sw_Ms → nI (sw_tt M E) &&& (-nI (sw_tt M E)) = nI 1 ∧ (nI (sw_tt M E) &&& (nI (sw_rv M E) ^^^ (-1)) = 0 ↔ sw_con M E = 1) := by decide +kernel
theorem sw_con01 (M E : Nat) (h : ¬ sw_con M E = 1) : sw_con M E = 0 := by
  unfold sw_con at h ⊢
  split
  · rfl
  · next t => exact absurd (if_neg t) h
theorem sw_connected {post : Int32 → Prop} {a1 a2 a3 a4 a5 a6 : Nat → Int32} {M a b x y : Nat} (C : sw_C M a b x y a1 a2 a3) (H : post (sw_con M (2 ^ a ||| 2 ^ b))) : wpX_connected post (nI M, a1, a2, a3, a4, a5, a6) := by
  have hM := C.1
  have hE := sw_inL a C.2.1 b C.2.2.1 C.2.2.2.1
  have cV := sw_cV _ hE M (sw_inM hM)
  unfold wpX_connected
  dsimp only
  refine sw_touched (sw_M4 hM) (sw_tF M (2 ^ a ||| 2 ^ b)) rfl (fun k hk => ?_) ?_
  · have key := sw_tS _ hE M (sw_inM hM) k hk
    by_cases t : M.testBit k = true
    · rw [if_pos t] at key ⊢
      rw [sw_he C k hk t]
      exact key
    · rw [if_neg t] at key ⊢
      exact key
  · refine nm_r (e' := nI 1) cV.1 ?_
    refine sw_reached (sw_M4 hM) (sw_rF M (2 ^ a ||| 2 ^ b)) rfl (fun r hr => ?_) (fun r hr k hk => ?_) ?_
    · unfold sw_rF
      rw [if_neg (by omega), if_neg (by omega), if_neg (by omega), if_neg (by omega)]
    · have key := sw_rS _ hE M (sw_inM hM) r hr k hk
      by_cases t : M.testBit k = true
      · rw [if_pos t] at key ⊢
        rw [sw_he C k hk t]
        exact key
      · rw [if_neg t] at key ⊢
        exact key
    · refine ek_if cV.2 (fun z => ?_) (fun z => ?_)
      · rw [z] at H
        exact H
      · rw [sw_con01 _ _ z] at H
        exact H
/-! extra, and those that join -/
theorem sw_o64 : ∀ E, E ∈ sw_L → ∀ M, M ∈ sw_Ms → sw_o M E < 64 := by decide +kernel
theorem sw_olt {M a b x y : Nat} {a1 a2 a3 : Nat → Int32} (C : sw_C M a b x y a1 a2 a3) : sw_o M (2 ^ a ||| 2 ^ b) < 64 := sw_o64 _ (sw_inL a C.2.1 b C.2.2.1 C.2.2.2.1) M (sw_inM C.1)
theorem sw_extra {post : Int32 → St2 → Prop} {a1 a2 a3 a4 a5 a6 : Nat → Int32} {M a b x y t : Nat} (C : sw_C M a b x y a1 a2 a3) (hj : sw_J M (2 ^ a ||| 2 ^ b) x y (sw_o M (2 ^ a ||| 2 ^ b)) = t) (ht : t < 100000) (H : ∀ s4 s5, post (nI t) (nI M, a1, a2, a3, s4, s5, a6)) : wpX_extra post (nI M, a1, a2, a3, a4, a5, a6) := by
  unfold wpX_extra
  dsimp only
  refine sw_oddC C (sw_join C (sw_M4 C.1) (sw_M1 C.1) (sw_olt C) (fun s4 s5 => ?_))
  rw [hj]
  exact pk_le 100000 t (fun z => absurd z (by omega)) (fun _ => H s4 s5)
theorem sw_way {post : Int32 → St2 → Prop} {a1 a2 a3 a4 a5 a6 : Nat → Int32} {M a b x y t : Nat} (C : sw_C M a b x y a1 a2 a3) (hj : sw_D M (2 ^ a ||| 2 ^ b) x y 6 = t) (ht : t < 100000) (H : ∀ s4 s5, post (nI t) (nI M, a1, a2, a3, s4, s5, a6)) : wpX_way post (nI M, a1, a2, a3, a4, a5, a6) 1 0 := by
  unfold wpX_way
  dsimp only
  refine sw_corner (c := 1) (by omega) (br_f (by decide) (sw_corner (c := 0) (by omega) (br_f (by decide) (sw_meas C (sw_M4 C.1) (sw_M1 C.1) (fun s4 h4 => ?_)))))
  refine ⟨pk_in 6 36 (by omega), nm_r (e' := nI t) ?_ (pk_le 100000 t (fun z => absurd z (by omega)) (fun _ => H s4 a5))⟩
  have e := h4 6 (by omega)
  rw [hj] at e
  exact e
theorem sw_Mm {M : Nat} (h : M = 1 ∨ M = 3) : nI M &&& (((1 : Int32) <<< ((0 : Int32) &&& 31)) ^^^ (-1)) = nI (M - 1) := by
  rcases h with rfl | rfl <;> decide
theorem sw_without {post : Int32 → St2 → Prop} {a1 a2 a3 a4 a5 a6 : Nat → Int32} {M a b x y : Nat} {q : Int32} (C : sw_C M a b x y a1 a2 a3)
    (hq : (100000 ≤ sw_J (M - 1) (2 ^ a ||| 2 ^ b) x y (sw_o M (2 ^ a ||| 2 ^ b)) ∧ q = -1) ∨ (sw_J (M - 1) (2 ^ a ||| 2 ^ b) x y (sw_o M (2 ^ a ||| 2 ^ b)) < 100000 ∧ q = nI (sw_J (M - 1) (2 ^ a ||| 2 ^ b) x y (sw_o M (2 ^ a ||| 2 ^ b)))))
    (H : ∀ s4 s5, post q (nI M, a1, a2, a3, s4, s5, a6)) : wpX_extraWithout post (nI M, a1, a2, a3, a4, a5, a6) 0 := by
  have hM := C.1
  have top := sw_J_top (m := M - 1) (E := 2 ^ a ||| 2 ^ b) (x := x) (y := y) (sw_olt C)
  unfold wpX_extraWithout
  dsimp only
  refine sw_has (k := 0) (sw_M4 hM) (by omega) (fun z => absurd (z.symm.trans (sw_M0 hM)) (by decide)) (fun _ => br_f (by decide) (sw_oddC C ?_))
  rw [sw_Mm hM]
  refine sw_join C (by omega) (sw_Mp hM) (sw_olt C) (fun s4 s5 => ?_)
  refine pk_le 100000 _ (fun z => ?_) (fun z => ?_)
  · rcases hq with ⟨h, e⟩ | ⟨h, e⟩
    · rw [← e]
      exact H s4 s5
    · omega
  · rcases hq with ⟨h, e⟩ | ⟨h, e⟩
    · omega
    · rw [← e]
      exact H s4 s5
theorem sw_with {post : Int32 → St2 → Prop} {a1 a2 a3 a4 a5 a6 : Nat → Int32} {M a b x y t wn : Nat} (C : sw_C M a b x y a1 a2 a3) (hw : wn < 64) (ho : nI (sw_o M (2 ^ a ||| 2 ^ b)) ^^^ nI 3 = nI wn)
    (hj : sw_J (M - 1) (2 ^ a ||| 2 ^ b) x y wn = t) (ht : t < 100000)
    (H : ∀ s4 s5, post (nI (t + x)) (nI M, a1, a2, a3, s4, s5, a6)) : wpX_extraWith post (nI M, a1, a2, a3, a4, a5, a6) 0 := by
  have hM := C.1
  have c3 : a3 0 = nI x := C.2.2.2.2.2.2.2.2.1
  unfold wpX_extraWith
  dsimp only
  refine sw_has (k := 0) (sw_M4 hM) (by omega) (fun z => absurd (z.symm.trans (sw_M0 hM)) (by decide)) (fun _ => br_f (by decide) (sw_oddC C (sw_ends (k := 0) (by omega) (nm_r (e' := nI wn) ?_ ?_))))
  · rw [sw_e0 C]
    exact ho
  · rw [sw_Mm hM]
    refine sw_join C (by omega) (sw_Mp hM) hw (fun s4 s5 => ?_)
    rw [hj]
    refine pk_le 100000 t (fun z => absurd z (by omega)) (fun _ => ⟨pk_in 0 10 (by omega), ?_⟩)
    dsimp only
    rw [sb_cl0, c3, nI_add]
    exact H s4 s5
end
section
/-! walkLength -/
def sw_wF (M t x y i : Nat) : Nat := if i = 0 then t else if i = 1 then t + x else t + x + (if M = 3 then y else 0)
theorem sw_wOff {M t x y i : Nat} (h : M = 1 ∨ M = 3) (z : M.testBit i = false) : sw_wF M t x y (i + 1) = sw_wF M t x y i := by
  have i0 : i ≠ 0 := by
    intro e
    rw [e, sw_M0 h] at z
    exact absurd z (by decide)
  by_cases e : i = 1
  · subst e
    rcases h with rfl | rfl
    · rfl
    · exact absurd z (by decide)
  · unfold sw_wF
    rw [if_neg (by omega), if_neg (by omega), if_neg i0, if_neg e]
theorem sw_wOn {M t x y i : Nat} (h : M = 1 ∨ M = 3) (hi : i < 10) (z : M.testBit i = true) : sw_wF M t x y (i + 1) = sw_wF M t x y i + (if i = 0 then x else y) := by
  rcases sw_two M (sw_M4 h) i hi z with rfl | rfl
  · rfl
  · have e := sw_M1 h z
    subst e
    rfl
theorem sw_len {M a b x y : Nat} {a1 a2 a3 : Nat → Int32} (C : sw_C M a b x y a1 a2 a3) {k : Nat} (hk : k < 10) (z : M.testBit k = true) : a3 k = nI (if k = 0 then x else y) := by
  obtain ⟨hM, ha, hb, hab, hx, hy, c1, c2, c3, c4⟩ := C
  rcases sw_two M (sw_M4 hM) k hk z with rfl | rfl
  · exact c3
  · exact (c4 (sw_M1 hM z)).2.2
theorem sw_walk {post : Int32 → St2 → Prop} {a1 a2 a3 a4 a5 a6 : Nat → Int32} {M a b x y t : Nat} (C : sw_C M a b x y a1 a2 a3) (hj : sw_J M (2 ^ a ||| 2 ^ b) x y (sw_o M (2 ^ a ||| 2 ^ b)) = t) (ht : t < 100000)
    (H0 : sw_con M (2 ^ a ||| 2 ^ b) = 0 → ∀ s4 s5, post (-1) (nI M, a1, a2, a3, s4, s5, a6))
    (H1 : ¬ sw_con M (2 ^ a ||| 2 ^ b) = 0 → ∀ s4 s5, post (nI (t + x + (if M = 3 then y else 0))) (nI M, a1, a2, a3, s4, s5, a6)) : wpX_walkLength post (nI M, a1, a2, a3, a4, a5, a6) := by
  have hM := C.1
  unfold wpX_walkLength
  dsimp only
  refine sw_extra C hj ht (fun s4 s5 => ?_)
  refine pk_lt t 0 (fun z => absurd z (by omega)) (fun _ => sw_connected C (br_c (fun z => H0 z s4 s5) (fun z => ?_)))
  refine pk_loop (fun n i s => wX_walkLength_20 post (nI M) a1 a2 a3 s4 s5 a6 n s (nI i)) (fun i s => s = nI (sw_wF M t x y i)) 10 0 (nI t) (by omega) rfl (fun n s e => ?_) (fun n i s hi e hw => ?_)
  · rw [e]
    exact pk_le 10 10 (fun _ => H1 z s4 s5) (fun z => absurd z (by omega))
  · refine pk_le 10 i (fun z => absurd z (by omega)) (fun _ => sw_has (sw_M4 hM) hi (fun z => br_t rfl (nm_r (nI_1 i) (hw s ?_))) (fun z => br_f (by decide) ⟨pk_in i 10 hi, nm_r (e' := nI (sw_wF M t x y (i + 1))) ?_ (nm_r (nI_1 i) (hw _ rfl))⟩))
    · rw [e, sw_wOff hM z]
    · rw [e, nI_clamp (by omega), sw_len C hi z, nI_add, sw_wOn hM hi z]
/-! bestSet -/
theorem sw_bs_off {post : Int32 → St2 → Prop} {n k M : Nat} {x1 x2 x3 x4 : Int32} {a1 a2 a3 a4 a5 a6 : Nat → Int32} (hM : M < 4) (hk : k < 10) (ht : M.testBit k = false) (h : wX_bestSet_34 post n x1 x2 x3 x4 (nI (k + 1)) (nI M) a1 a2 a3 a4 a5 a6) : wX_bestSet_34 post (n + 1) x1 x2 x3 x4 (nI k) (nI M) a1 a2 a3 a4 a5 a6 :=
  pk_le 10 k (fun z => absurd z (by omega)) (fun _ => sw_has hM hk (fun _ => br_t rfl (nm_r (nI_1 k) h)) (fun z => absurd (ht.symm.trans z) (by decide)))
theorem sw_bs_tail {post : Int32 → St2 → Prop} {M : Nat} {x1 x2 x3 x4 r : Int32} {a1 a2 a3 a4 a5 a6 : Nat → Int32} (hM : M < 4) (hr : x4 = r) (H : post r (nI M, a1, a2, a3, a4, a5, a6)) :
    ∀ d k n, k + d = 10 → (∀ j, k ≤ j → j < 10 → M.testBit j = false) → wX_bestSet_34 post (n + d + 1) x1 x2 x3 x4 (nI k) (nI M) a1 a2 a3 a4 a5 a6 := by
  intro d
  induction d with
  | zero =>
    intro k n hk _
    have e : k = 10 := by omega
    subst e
    subst hr
    exact pk_le 10 10 (fun _ => H) (fun z => absurd z (by omega))
  | succ d ih =>
    intro k n hk hz
    exact sw_bs_off (n := n + d + 1) hM (by omega) (hz k (by omega) (by omega)) (ih (k + 1) n (by omega) (fun j h1 h2 => hz j (by omega) h2))
theorem sw_bs_on {post : Int32 → St2 → Prop} {n k M a b x y wa le op op' : Nat} {x4 : Int32} {a1 a2 a3 a4 a5 a6 : Nat → Int32} (C : sw_C M a b x y a1 a2 a3) (hk : k < 10) (ht : M.testBit k = true)
    (hop : nI op &&& (((1 : Int32) <<< (nI k &&& 31)) ^^^ (-1)) = nI op') (hop4 : op' < 4) (h1 : op'.testBit 1 = true → M = 3) (hwa : wa < 64) (hle : le ≤ 200000)
    (Heq : sw_J op' (2 ^ a ||| 2 ^ b) x y wa = le → ∀ s4 s5, wX_bestSet_34 post n (nI wa) (nI le) (nI op') x4 (nI (k + 1)) (nI M) a1 a2 a3 s4 s5 a6)
    (Hne : sw_J op' (2 ^ a ||| 2 ^ b) x y wa ≠ le → ∀ s4 s5, wX_bestSet_34 post n (nI wa ^^^ sw_ee (2 ^ a ||| 2 ^ b) k) (nI le - nI (if k = 0 then x else y)) (nI op') (x4 ||| ((1 : Int32) <<< (nI k &&& 31))) (nI (k + 1)) (nI M) a1 a2 a3 s4 s5 a6) :
    wX_bestSet_34 post (n + 1) (nI wa) (nI le) (nI op) x4 (nI k) (nI M) a1 a2 a3 a4 a5 a6 := by
  have top := sw_J_top (m := op') (E := 2 ^ a ||| 2 ^ b) (x := x) (y := y) hwa
  refine pk_le 10 k (fun z => absurd z (by omega)) (fun _ => sw_has (sw_M4 C.1) hk (fun z => absurd (z.symm.trans ht) (by decide)) (fun _ => br_f (by decide) (nm_r hop ?_)))
  refine sw_join C hop4 h1 hwa (fun s4 s5 => ?_)
  refine pk_eq (sw_J op' (2 ^ a ||| 2 ^ b) x y wa) le (fun z => nm_r (nI_1 k) (Heq z s4 s5)) (fun z => nm_e (sw_ends hk (nm_r (e' := nI wa ^^^ sw_ee (2 ^ a ||| 2 ^ b) k) ?_ ⟨pk_in k 10 hk, nm_r (e' := nI le - nI (if k = 0 then x else y)) ?_ (nm_r (nI_1 k) (Hne z s4 s5))⟩)))
  · rw [sw_he C k hk ht]
  · rw [nI_clamp (by omega), sw_len C hk ht]
theorem sw_z1 : ∀ j, j < 10 → 1 ≤ j → (1 : Nat).testBit j = false := by decide +kernel
theorem sw_z3 : ∀ j, j < 10 → 2 ≤ j → (3 : Nat).testBit j = false := by decide +kernel
/-- one street: it is taken -/
theorem sw_bestN {post : Int32 → St2 → Prop} {a1 a2 a3 a4 a5 a6 : Nat → Int32} {a b x y : Nat} (C : sw_C 1 a b x y a1 a2 a3) (H : ∀ s4 s5, post 1 (nI 1, a1, a2, a3, s4, s5, a6)) : wpX_bestSet post (nI 1, a1, a2, a3, a4, a5, a6) := by
  have hx : x ≤ 20 := C.2.2.2.2.1
  have hy : y ≤ 20 := C.2.2.2.2.2.1
  have hE := sw_inL a C.2.1 b C.2.2.1 C.2.2.2.1
  obtain ⟨j1, j2⟩ := sw_j1 hx hy hE
  unfold wpX_bestSet
  dsimp only
  refine sw_oddC C (sw_join C (by omega) (fun z => absurd z (by decide)) (sw_olt C) (fun s4 s5 => ?_))
  rw [show sw_o 1 (2 ^ a ||| 2 ^ b) = 3 from rfl, j1]
  refine pk_lt x 100000 (fun _ => ⟨11, ?_⟩) (fun z => absurd z (by omega))
  refine sw_bs_on (n := 10) (k := 0) (wa := 3) (le := x) (op := 1) (op' := 0) C (by omega) (by decide) (by decide) (by omega) (fun z => absurd z (by decide)) (by omega) (by omega) (fun z => absurd (j2.symm.trans z) (by omega)) (fun _ s4 s5 => ?_)
  exact sw_bs_tail (by omega) (by decide) (H s4 s5) 9 1 0 (by omega) (fun j h1 h2 => sw_z1 j h2 h1)
/-- two streets with the same ends: none is taken -/
theorem sw_bestE {post : Int32 → St2 → Prop} {a1 a2 a3 a4 a5 a6 : Nat → Int32} {a b x y : Nat} (C : sw_C 3 a b x y a1 a2 a3) (h3 : 2 ^ a ||| 2 ^ b = 3) (H : ∀ s4 s5, post 0 (nI 3, a1, a2, a3, s4, s5, a6)) : wpX_bestSet post (nI 3, a1, a2, a3, a4, a5, a6) := by
  unfold wpX_bestSet
  dsimp only
  refine sw_oddC C (sw_join C (by omega) (fun _ => rfl) (sw_olt C) (fun s4 s5 => ?_))
  rw [show sw_o 3 (2 ^ a ||| 2 ^ b) = 0 by rw [h3]; rfl, sw_J0]
  refine pk_lt 0 100000 (fun _ => ⟨11, ?_⟩) (fun z => absurd z (by omega))
  refine sw_bs_on (n := 10) (k := 0) (wa := 0) (le := 0) (op := 3) (op' := 2) C (by omega) (by decide) (by decide) (by omega) (fun _ => rfl) (by omega) (by omega) (fun _ s4 s5 => ?_) (fun z => absurd sw_J0 z)
  refine sw_bs_on (n := 9) (k := 1) (wa := 0) (le := 0) (op := 2) (op' := 0) C (by omega) (by decide) (by decide) (by omega) (fun _ => rfl) (by omega) (by omega) (fun _ s4 s5 => ?_) (fun z => absurd sw_J0 z)
  exact sw_bs_tail (by omega) rfl (H s4 s5) 8 2 0 (by omega) (fun j h1 h2 => sw_z3 j h2 h1)
theorem sw_xx : ∀ E, E ∈ sw_L → nI (E ^^^ 3) ^^^ nI 3 = nI E ∧ E < 64 ∧ E ^^^ 3 < 64 := by decide +kernel
/-- two streets with different ends: both are taken -/
theorem sw_bestX {post : Int32 → St2 → Prop} {a1 a2 a3 a4 a5 a6 : Nat → Int32} {a b x y : Nat} (C : sw_C 3 a b x y a1 a2 a3) (h3 : 2 ^ a ||| 2 ^ b ≠ 3) (H : ∀ s4 s5, post 3 (nI 3, a1, a2, a3, s4, s5, a6)) : wpX_bestSet post (nI 3, a1, a2, a3, a4, a5, a6) := by
  have hx : x ≤ 20 := C.2.2.2.2.1
  have hy : y ≤ 20 := C.2.2.2.2.2.1
  have hE := sw_inL a C.2.1 b C.2.2.1 C.2.2.2.1
  obtain ⟨j1, j2⟩ := sw_jX hx hy hE h3
  obtain ⟨j3, j4⟩ := sw_jE hx hy hE
  obtain ⟨e1, e2, e3⟩ := sw_xx _ hE
  unfold wpX_bestSet
  dsimp only
  refine sw_oddC C (sw_join C (by omega) (fun _ => rfl) (sw_olt C) (fun s4 s5 => ?_))
  rw [show sw_o 3 (2 ^ a ||| 2 ^ b) = (2 ^ a ||| 2 ^ b) ^^^ 3 from rfl, j1]
  refine pk_lt (x + y) 100000 (fun _ => ⟨11, ?_⟩) (fun z => absurd z (by omega))
  refine sw_bs_on (n := 10) (k := 0) (wa := (2 ^ a ||| 2 ^ b) ^^^ 3) (le := x + y) (op := 3) (op' := 2) C (by omega) (by decide) (by decide) (by omega) (fun _ => rfl) e3 (by omega) (fun z => absurd z (by omega)) (fun _ s4 s5 => ?_)
  rw [show nI ((2 ^ a ||| 2 ^ b) ^^^ 3) ^^^ sw_ee (2 ^ a ||| 2 ^ b) 0 = nI (2 ^ a ||| 2 ^ b) from e1, show nI (x + y) - nI (if 0 = 0 then x else y) = nI y by rw [if_pos rfl, pk_sub (by omega), Nat.add_sub_cancel_left]]
  refine sw_bs_on (n := 9) (k := 1) (wa := 2 ^ a ||| 2 ^ b) (le := y) (op := 2) (op' := 0) C (by omega) (by decide) (by decide) (by omega) (fun _ => rfl) e2 (by omega) (fun z => absurd (j4.symm.trans z) (by omega)) (fun _ s4 s5 => ?_)
  exact sw_bs_tail (by omega) (by decide) (H s4 s5) 8 2 0 (by omega) (fun j h1 h2 => sw_z3 j h2 h1)
end
section
/-! build -/
theorem sw_byte : ∀ x, x < 21 → (nI x).toInt8.toInt32 = nI x := by decide +kernel
theorem sw_build1 {post : Int32 → St2 → Prop} {a4 a5 a6 : Nat → Int32} {x : Nat} (hx : x ≤ 20) (H : ∀ a1 a2 a3, a1 0 = nI 0 → a2 0 = nI 1 → a3 0 = nI x → post 0 (nI 1, a1, a2, a3, a4, a5, a6)) : wpX_build post (0, (fun _ => 0), (fun _ => 0), (fun _ => 0), a4, a5, a6) 0 1 (nI x) := by
  unfold wpX_build
  dsimp only
  refine br_f (by decide) (sw_corner (c := 0) (by omega) (br_f (by decide) (sw_corner (c := 1) (by omega) (br_f (by decide) (pk_lt x 0 (fun z => absurd z (by omega)) (fun _ => pk_le x 20 (fun _ => ⟨1, ?_⟩) (fun z => absurd z (by omega))))))))
  refine pk_le 10 0 (fun z => absurd z (by omega)) (fun _ => sw_has (M := 0) (k := 0) (by omega) (by omega) (fun _ => br_t rfl (nm_r (e' := nI 1) (by decide) ⟨pk_in 0 10 (by omega), nm_e ⟨pk_in 0 10 (by omega), nm_e ⟨pk_in 0 10 (by omega), nm_e (H _ _ _ ?_ ?_ ?_)⟩⟩⟩)) (fun z => absurd z (by decide)))
  · rw [sb_cl0, pk_us]
    decide
  · rw [sb_cl0, pk_us]
    decide
  · rw [sb_cl0, pk_us]
    exact sw_byte x (by omega)
theorem sw_build2 {post : Int32 → St2 → Prop} {a1 a2 a3 a4 a5 a6 : Nat → Int32} {a b x y : Nat} (ha : a < 6) (hb : b < 6) (hab : a ≠ b) (hx : x ≤ 20) (hy : y ≤ 20) (h1 : a1 0 = nI 0) (h2 : a2 0 = nI 1) (h3 : a3 0 = nI x)
    (H : ∀ b1 b2 b3, sw_C 3 a b x y b1 b2 b3 → post 1 (nI 3, b1, b2, b3, a4, a5, a6)) : wpX_build post (nI 1, a1, a2, a3, a4, a5, a6) (nI a) (nI b) (nI y) := by
  unfold wpX_build
  dsimp only
  refine pk_eq a b (fun z => absurd z hab) (fun _ => sw_corner ha (br_f (by decide) (sw_corner hb (br_f (by decide) (pk_lt y 0 (fun z => absurd z (by omega)) (fun _ => pk_le y 20 (fun _ => ⟨2, ?_⟩) (fun z => absurd z (by omega))))))))
  refine pk_le 10 0 (fun z => absurd z (by omega)) (fun _ => sw_has (M := 1) (k := 0) (by omega) (by omega) (fun z => absurd z (by decide)) (fun _ => br_f (by decide) (nm_r (nI_1 0) ?_)))
  refine pk_le 10 1 (fun z => absurd z (by omega)) (fun _ => sw_has (M := 1) (k := 1) (by omega) (by omega) (fun _ => br_t rfl (nm_r (e' := nI 3) (by decide) ⟨pk_in 1 10 (by omega), nm_e ⟨pk_in 1 10 (by omega), nm_e ⟨pk_in 1 10 (by omega), nm_e (H _ _ _ ?_)⟩⟩⟩)) (fun z => absurd z (by decide)))
  rw [nI_clamp (by omega)]
  refine ⟨Or.inr rfl, ha, hb, hab, hx, hy, ?_, ?_, ?_, fun _ => ⟨?_, ?_, ?_⟩⟩
  · rw [pk_un (by decide), h1]
  · rw [pk_un (by decide), h2]
  · rw [pk_un (by decide), h3]
  · rw [pk_us]
    exact sw_byte a (by omega)
  · rw [pk_us]
    exact sw_byte b (by omega)
  · rw [pk_us]
    exact sw_byte y (by omega)
def sw_bad (p1 p2 p3 : Int32) : Prop := p1 < 0 ∨ 6 ≤ p1 ∨ p2 < 0 ∨ 6 ≤ p2 ∨ p1 = p2 ∨ p3 < 0 ∨ 20 < p3
theorem sw_split (p1 p2 p3 : Int32) : (∃ a b y : Nat, a < 6 ∧ b < 6 ∧ a ≠ b ∧ y ≤ 20 ∧ p1 = nI a ∧ p2 = nI b ∧ p3 = nI y) ∨ sw_bad p1 p2 p3 := by
  unfold sw_bad
  rcases pk_ix p1 (n := 6) (by omega) with h | h | ⟨a, ha, e1⟩
  · exact Or.inr (Or.inl h)
  · exact Or.inr (Or.inr (Or.inl h))
  rcases pk_ix p2 (n := 6) (by omega) with h | h | ⟨b, hb, e2⟩
  · exact Or.inr (Or.inr (Or.inr (Or.inl h)))
  · exact Or.inr (Or.inr (Or.inr (Or.inr (Or.inl h))))
  rcases pk_ix p3 (n := 21) (by omega) with h | h | ⟨y, hy, e3⟩
  · exact Or.inr (Or.inr (Or.inr (Or.inr (Or.inr (Or.inr (Or.inl h))))))
  · refine Or.inr (Or.inr (Or.inr (Or.inr (Or.inr (Or.inr (Or.inr ?_))))))
    rw [Int32.le_iff_toInt_le, nI_toInt (by omega)] at h
    rw [Int32.lt_iff_toInt_lt, show (20 : Int32).toInt = 20 by decide]
    omega
  by_cases e : a = b
  · refine Or.inr (Or.inr (Or.inr (Or.inr (Or.inr (Or.inl ?_)))))
    rw [e1, e2, e]
  · exact Or.inl ⟨a, b, y, ha, hb, e, by omega, e1, e2, e3⟩
theorem sw_nlt {p : Int32} (h : p ≤ 20) : ¬ 20 < p := by
  rw [Int32.le_iff_toInt_le] at h
  rw [Int32.lt_iff_toInt_lt]
  omega
theorem sw_build_bad {post : Int32 → St2 → Prop} {f : Int32} {a1 a2 a3 a4 a5 a6 : Nat → Int32} {p1 p2 p3 : Int32} (hb : sw_bad p1 p2 p3) (H : post (-1) (f, a1, a2, a3, a4, a5, a6)) : wpX_build post (f, a1, a2, a3, a4, a5, a6) p1 p2 p3 := by
  unfold wpX_build wpX_isCorner
  dsimp only
  refine br_c (fun _ => H) (fun n1 => br_c (fun _ => br_t rfl H) (fun n2 => br_c (fun _ => br_t rfl H) (fun n3 => br_f (by decide) (br_c (fun _ => br_t rfl H) (fun n4 => br_c (fun _ => br_t rfl H) (fun n5 => br_f (by decide) (br_c (fun _ => H) (fun n6 => br_c (fun n7 => ?_) (fun _ => H)))))))))
  rcases hb with h | h | h | h | h | h | h
  · exact absurd h n2
  · exact absurd h n3
  · exact absurd h n4
  · exact absurd h n5
  · exact absurd h n1
  · exact absurd h n6
  · exact absurd h (sw_nlt n7)
/-! the law's own checks -/
theorem sw_endN {post : Int32 → St0 → Prop} {mc ms kc ks x : Nat} {p1 p2 p3 : Int32} (hp : post 1 ()) : wL_lawOf_137 post mc ms p1 p2 p3 (nI x) (-1) (nI 3) (nI x) 1 1 (nI (x + x + 0)) (nI x) (nI (0 + x)) (-1) kc ks := by
  unfold wL_lawOf_137 wL_lawOf_138
  refine br_t rfl (br_t rfl (br_t rfl (br_t rfl (br_t rfl (br_f (by decide) (br_t ?_ (br_t rfl (br_t ?_ (br_t rfl hp)))))))))
  · show _ = nI 2 * nI x
    rw [pk_mul, show x + x + 0 = 2 * x by omega]
  · rw [Nat.zero_add]
theorem sw_endE {post : Int32 → St0 → Prop} {mc ms kc ks a b x y : Nat} (ha : a < 6) (hb : b < 6) (hx : x ≤ 20) (hy : y ≤ 20) (h3 : 2 ^ a ||| 2 ^ b = 3) (hp : post 1 ()) : wL_lawOf_138 post mc ms (nI a) (nI b) (nI y) (nI x) 1 (nI 0) (nI 0) 0 1 (nI (0 + x + y)) (nI (min x y)) (nI (y + x)) (nI 0) 1 kc ks := by
  unfold wL_lawOf_138 wL_lawOf_274
  have e : nI x + nI y = nI (x + y) := nI_add x y
  refine br_f (by decide) (nm_r (e' := nI 3) ((sw_eab a ha b hb).trans (by rw [h3])) (br_t rfl (br_t rfl (br_t rfl (br_t rfl (br_t rfl (br_f (by decide) (br_t ?_ (pk_le y x (fun z => br_t ?_ (br_t ?_ (br_t rfl hp))) (fun z => br_t ?_ (br_t ?_ (br_t rfl hp))))))))))))
  · rw [e, Nat.zero_add]
  · rw [Nat.min_eq_right z]
  · rw [e, Nat.add_comm]
  · rw [Nat.min_eq_left (Nat.le_of_lt z)]
  · rw [e, Nat.add_comm]
theorem sw_and3 : ∀ E, E ∈ sw_L → (nI E = 3 ↔ E = 3) ∧ (nI E &&& 3 = 0 ↔ E &&& 3 = 0) ∧ nI (E ^^^ 3) = nI E ^^^ 3 := by decide +kernel
theorem sw_endX {post : Int32 → St0 → Prop} {mc ms kc ks a b x y : Nat} {q : Int32} (ha : a < 6) (hb : b < 6) (hab : a ≠ b) (h3 : 2 ^ a ||| 2 ^ b ≠ 3)
    (hq : ((2 ^ a ||| 2 ^ b) &&& 3 = 0 ∧ q = -1) ∨ (¬ (2 ^ a ||| 2 ^ b) &&& 3 = 0 ∧ q = nI (x + y + x + y))) (hp : post 1 ()) :
    wL_lawOf_138 post mc ms (nI a) (nI b) (nI y) (nI x) 1 (nI ((2 ^ a ||| 2 ^ b) ^^^ 3)) (nI (x + y)) 3 (sw_con 3 (2 ^ a ||| 2 ^ b)) q (nI x) (nI (y + x)) (-1) 1 kc ks := by
  have hE := sw_inL a ha b hb hab
  obtain ⟨e1, e2, e3⟩ := sw_and3 _ hE
  have e : nI x + nI y = nI (x + y) := nI_add x y
  unfold wL_lawOf_138 wL_lawOf_309 wL_lawOf_367
  refine br_f (by decide) (nm_r (sw_eab a ha b hb) (br_f (fun z => h3 (e1.mp z)) (ek_if e2 (fun z => ?_) (fun z => ?_))))
  · have hc : sw_con 3 (2 ^ a ||| 2 ^ b) = 0 := if_pos ⟨rfl, z⟩
    have hq' : q = -1 := by
      rcases hq with h | h
      · exact h.2
      · exact absurd z h.1
    refine br_t rfl (br_t e3 (br_t e.symm (br_t rfl (br_t hc (br_t rfl (br_t hq' (br_t rfl (br_t ?_ (br_t rfl hp)))))))))
    rw [e, Nat.add_comm]
  · have hc : sw_con 3 (2 ^ a ||| 2 ^ b) = 1 := if_neg (fun t => z t.2)
    have hq' : q = nI (x + y + x + y) := by
      rcases hq with h | h
      · exact absurd h.1 z
      · exact h.2
    refine br_t rfl (br_t e3 (br_t e.symm (br_t rfl (br_t hc (br_f (by decide) (br_t ?_ (br_t rfl (br_t ?_ (br_t rfl hp)))))))))
    · show _ = nI 2 * nI x + nI 2 * nI y
      rw [hq', pk_mul, pk_mul, nI_add, show x + y + x + y = 2 * x + 2 * y by omega]
    · rw [e, Nat.add_comm]
theorem sw_walkQ {post : Int32 → St2 → Prop} {a1 a2 a3 a4 a5 a6 : Nat → Int32} {M a b x y t : Nat} (C : sw_C M a b x y a1 a2 a3) (hj : sw_J M (2 ^ a ||| 2 ^ b) x y (sw_o M (2 ^ a ||| 2 ^ b)) = t) (ht : t < 100000)
    (H : ∀ q : Int32, (sw_con M (2 ^ a ||| 2 ^ b) = 0 ∧ q = -1) ∨ (¬ sw_con M (2 ^ a ||| 2 ^ b) = 0 ∧ q = nI (t + x + (if M = 3 then y else 0))) → ∀ s4 s5, post q (nI M, a1, a2, a3, s4, s5, a6)) : wpX_walkLength post (nI M, a1, a2, a3, a4, a5, a6) :=
  sw_walk C hj ht (fun z => H _ (Or.inl ⟨z, rfl⟩)) (fun z => H _ (Or.inr ⟨z, rfl⟩))
theorem sw_lawOf {post : Int32 → St0 → Prop} (p0 p1 p2 p3 : Int32) (hp : post 1 ()) : wpL_lawOf post 76 1200 () p0 p1 p2 p3 := by
  obtain ⟨r, hr, er⟩ := pk_andE p0 (m := 65535) 16 (by decide)
  obtain ⟨x, hx, ex⟩ : ∃ x, x ≤ 20 ∧ (p0 &&& 65535) - (p0 &&& 65535) / 21 * 21 = nI x := by
    refine ⟨r % 21, by omega, ?_⟩
    rw [er]
    exact pk_rem (a := r) (d := 21) (by omega) (by omega) (by omega)
  unfold wpL_lawOf
  refine ⟨by omega, by omega, 75, 1193, by omega, by omega, ?_⟩
  unfold wpX_init
  refine ⟨by omega, by omega, by omega, by omega, by omega, by omega, by omega, by omega, by omega, by omega, by omega, by omega, ?_⟩
  refine ⟨by decide, nm_r ex (sw_build1 hx (fun a1 a2 a3 h1 h2 h3 => ?_))⟩
  rcases sw_split p1 p2 p3 with ⟨a, b, y, ha, hb, hab, hy, rfl, rfl, rfl⟩ | hbad
  · have hE := sw_inL a ha b hb hab
    refine sw_build2 ha hb hab hx hy h1 h2 h3 (fun b1 b2 b3 C => ?_)
    have last : ∀ {A B : Prop}, B → ((nI a < 0 → A) ∧ (¬ nI a < 0 → ((6 ≤ nI a → A) ∧ (¬ 6 ≤ nI a → ((nI b < 0 → A) ∧ (¬ nI b < 0 → ((6 ≤ nI b → A) ∧ (¬ 6 ≤ nI b → ((nI a = nI b → A) ∧ (¬ nI a = nI b → ((nI y < 0 → A) ∧ (¬ nI y < 0 → ((20 < nI y → A) ∧ (¬ 20 < nI y → B)))))))))))))) := fun {A B} h =>
      pk_lt a 0 (fun z => absurd z (by omega)) (fun _ => pk_le 6 a (fun z => absurd z (by omega)) (fun _ => pk_lt b 0 (fun z => absurd z (by omega)) (fun _ => pk_le 6 b (fun z => absurd z (by omega)) (fun _ => pk_eq a b (fun z => absurd z hab) (fun _ => pk_lt y 0 (fun z => absurd z (by omega)) (fun _ => pk_lt 20 y (fun z => absurd z (by omega)) (fun _ => h)))))))
    by_cases e3 : 2 ^ a ||| 2 ^ b = 3
    · have o0 : sw_o 3 (2 ^ a ||| 2 ^ b) = 0 := by
        rw [e3]
        rfl
      have c1 : sw_con 3 (2 ^ a ||| 2 ^ b) = 1 := by
        rw [e3]
        decide
      have jE := (sw_jE (x := x) (y := y) hx hy hE).1
      rw [show sw_J 2 (2 ^ a ||| 2 ^ b) x y (2 ^ a ||| 2 ^ b) = sw_J 2 (2 ^ a ||| 2 ^ b) x y 3 by rw [e3]] at jE
      have j0 : sw_J 3 (2 ^ a ||| 2 ^ b) x y (sw_o 3 (2 ^ a ||| 2 ^ b)) = 0 := by rw [o0, sw_J0]
      refine sw_oddC C (sw_extra C j0 (by omega) (fun s4 s5 => sw_bestE C e3 (fun s4 s5 => sw_connected C (sw_walk C j0 (by omega) (fun z => absurd (c1.symm.trans z) (by decide)) (fun _ s4 s5 => ?_)))))
      refine sw_way (t := min x y) C ?_ (by omega) (fun s4 s5 => sw_with (wn := 3) (t := y) C (by omega) ?_ jE (by omega) (fun s4 s5 => sw_without (q := nI 0) C (Or.inr ?_) (fun s4 s5 => last ?_)))
      · show sw_ev x y (sw_cd 3 (2 ^ a ||| 2 ^ b) 1 0) = _
        rw [(sw_w6 _ hE).2.2 e3]
        rfl
      · rw [o0]
        decide
      · rw [o0, sw_J0]
        exact ⟨by omega, rfl⟩
      · rw [o0, c1]
        exact sw_endE ha hb hx hy e3 hp
    · have oX : sw_o 3 (2 ^ a ||| 2 ^ b) = (2 ^ a ||| 2 ^ b) ^^^ 3 := rfl
      obtain ⟨j1, j2⟩ := sw_jX (x := x) (y := y) hx hy hE e3
      obtain ⟨j3, j4⟩ := sw_jE (x := x) (y := y) hx hy hE
      obtain ⟨x1, x2, x3⟩ := sw_xx _ hE
      refine sw_oddC C (sw_extra C j1 (by omega) (fun s4 s5 => sw_bestX C e3 (fun s4 s5 => sw_connected C (sw_walkQ C j1 (by omega) (fun q hq s4 s5 => ?_)))))
      refine sw_way (t := x) C ?_ (by omega) (fun s4 s5 => sw_with (wn := 2 ^ a ||| 2 ^ b) (t := y) C x2 x1 j3 (by omega) (fun s4 s5 => sw_without (q := -1) C (Or.inl ⟨j2, rfl⟩) (fun s4 s5 => last (sw_endX ha hb hab e3 ?_ hp))))
      · show sw_ev x y (sw_cd 3 (2 ^ a ||| 2 ^ b) 1 0) = _
        rw [(sw_w6 _ hE).2.1 e3]
        rfl
      · rcases hq with ⟨z, eq⟩ | ⟨z, eq⟩
        · refine Or.inl ⟨?_, eq⟩
          unfold sw_con at z
          by_cases t : (2 ^ a ||| 2 ^ b) &&& 3 = 0
          · exact t
          · rw [if_neg (fun t' => t t'.2)] at z
            exact absurd z (by decide)
        · exact Or.inr ⟨fun t => z (if_pos ⟨rfl, t⟩), eq⟩
  · refine sw_build_bad hbad ?_
    have C : sw_C 1 0 1 x 0 a1 a2 a3 := ⟨Or.inl rfl, by omega, by omega, by omega, hx, by omega, h1, h2, h3, fun z => absurd z (by omega)⟩
    have last : ∀ {A B : Prop}, A → ((p1 < 0 → A) ∧ (¬ p1 < 0 → ((6 ≤ p1 → A) ∧ (¬ 6 ≤ p1 → ((p2 < 0 → A) ∧ (¬ p2 < 0 → ((6 ≤ p2 → A) ∧ (¬ 6 ≤ p2 → ((p1 = p2 → A) ∧ (¬ p1 = p2 → ((p3 < 0 → A) ∧ (¬ p3 < 0 → ((20 < p3 → A) ∧ (¬ 20 < p3 → B)))))))))))))) := fun {A B} h =>
      br_c (fun _ => h) (fun n1 => br_c (fun _ => h) (fun n2 => br_c (fun _ => h) (fun n3 => br_c (fun _ => h) (fun n4 => br_c (fun _ => h) (fun n5 => br_c (fun _ => h) (fun n6 => br_c (fun _ => h) (fun n7 => by
        rcases hbad with t | t | t | t | t | t | t
        · exact absurd t n1
        · exact absurd t n2
        · exact absurd t n3
        · exact absurd t n4
        · exact absurd t n5
        · exact absurd t n6
        · exact absurd t n7)))))))
    obtain ⟨j1, j2⟩ := sw_j1 (x := x) (y := 0) hx (by omega) sw_3L
    refine sw_oddC C (sw_extra C j1 (by omega) (fun s4 s5 => sw_bestN C (fun s4 s5 => sw_connected C (sw_walk C j1 (by omega) (fun z => absurd z (by decide)) (fun _ s4 s5 => ?_)))))
    refine sw_way (t := x) C ?_ (by omega) (fun s4 s5 => sw_with (wn := 0) (t := 0) C (by omega) (by decide) sw_J0 (by omega) (fun s4 s5 => sw_without (q := -1) C (Or.inl ⟨Nat.le_of_eq j2.symm, rfl⟩) (fun s4 s5 => last ?_)))
    · show sw_ev x 0 (sw_cd 1 3 1 0) = _
      rw [(sw_w6 _ sw_3L).1]
      rfl
    · exact sw_endN hp
/-! ===== WHAT IS OWED ===== -/
theorem sw_cell {post : Int32 → Prop} {L : Nat} {xs : Nat → Int32} {k : Nat} (hL : L ≤ 4) (hk : k < 4) (h : ∀ r, post r) : wpL_cellAt post L xs () (nI k) := by
  unfold wpL_cellAt
  exact pk_le L k (fun _ => h _) (fun z => ⟨pk_in k L z, h _⟩)
theorem i_vc (xs : Nat → Int32) (L : Nat) (hL : L ≤ 4) : wpL_law (fun r => r = 1) L xs := by
  unfold wpL_law
  refine sw_cell (k := 0) hL (by omega) (fun r1 => sw_cell (k := 1) hL (by omega) (fun r2 => sw_cell (k := 2) hL (by omega) (fun r3 => sw_cell (k := 3) hL (by omega) (fun r4 => ⟨76, 1200, by omega, by omega, ?_⟩))))
  exact sw_lawOf r1 r2 r3 r4 rfl
end
