section
/-! ===== plain rows: counting the entries of a row, where a row begins ===== -/
/-- how many of the first n entries of a row aren't 0 -/
def sk_rc (a : Nat → Int32) : Nat → Nat
  | 0 => 0
  | n + 1 => sk_rc a n + (if a n = 0 then 0 else 1)
/-- where row i begins -/
def sk_ps (A : Nat → Nat → Int32) : Nat → Nat
  | 0 => 0
  | n + 1 => sk_ps A n + sk_rc (A n) 6
theorem sk_rc_z {a : Nat → Int32} {n : Nat} (h : a n = 0) : sk_rc a (n + 1) = sk_rc a n := by
  show sk_rc a n + (if a n = 0 then 0 else 1) = sk_rc a n
  rw [if_pos h]
  rfl
theorem sk_rc_s {a : Nat → Int32} {n : Nat} (h : a n ≠ 0) : sk_rc a (n + 1) = sk_rc a n + 1 := by
  show sk_rc a n + (if a n = 0 then 0 else 1) = sk_rc a n + 1
  rw [if_neg h]
theorem sk_rc_le (a : Nat → Int32) (n : Nat) : sk_rc a n ≤ n := by
  induction n with
  | zero => exact Nat.le_refl 0
  | succ n ih =>
    by_cases h : a n = 0
    · rw [sk_rc_z h]; omega
    · rw [sk_rc_s h]; omega
theorem sk_rc_1 (a : Nat → Int32) (n : Nat) : sk_rc a n ≤ sk_rc a (n + 1) := by
  by_cases h : a n = 0
  · rw [sk_rc_z h]; omega
  · rw [sk_rc_s h]; omega
theorem sk_rc_mono {a : Nat → Int32} {m n : Nat} (h : m ≤ n) : sk_rc a m ≤ sk_rc a n := by
  induction n with
  | zero =>
    have e : m = 0 := by omega
    rw [e]
    exact Nat.le_refl _
  | succ n ih =>
    by_cases e : m = n + 1
    · rw [e]; exact Nat.le_refl _
    · exact Nat.le_trans (ih (by omega)) (sk_rc_1 a n)
theorem sk_rc_lt {a : Nat → Int32} {m n : Nat} (h : m < n) (hm : a m ≠ 0) : sk_rc a m < sk_rc a n := by
  have h1 := sk_rc_s hm
  have h2 := sk_rc_mono (a := a) (show m + 1 ≤ n by omega)
  omega
theorem sk_rc_skip {a : Nat → Int32} {j c : Nat} (h : j ≤ c) (hz : ∀ d, j ≤ d → d < c → a d = 0) : sk_rc a c = sk_rc a j := by
  induction c with
  | zero =>
    have e : j = 0 := by omega
    rw [e]
  | succ c ih =>
    by_cases e : j = c + 1
    · rw [e]
    · rw [sk_rc_z (hz c (by omega) (by omega))]
      exact ih (by omega) (fun d h1 h2 => hz d h1 (by omega))
theorem sk_rc_next0 {a : Nat → Int32} {n : Nat} : ∀ k j : Nat, n - j = k → j ≤ n → sk_rc a j < sk_rc a n → ∃ c, j ≤ c ∧ c < n ∧ a c ≠ 0 ∧ sk_rc a c = sk_rc a j ∧ ∀ d, j ≤ d → d < c → a d = 0 := by
  intro k
  induction k with
  | zero =>
    intro j h1 h2 h3
    have e : j = n := by omega
    rw [e] at h3
    exact absurd h3 (Nat.lt_irrefl _)
  | succ k ih =>
    intro j h1 h2 h3
    by_cases e : a j = 0
    · have e1 := sk_rc_z e
      obtain ⟨c, c1, c2, c3, c4, c5⟩ := ih (j + 1) (by omega) (by omega) (by omega)
      refine ⟨c, by omega, c2, c3, by omega, fun d d1 d2 => ?_⟩
      by_cases f : d = j
      · rw [f]; exact e
      · exact c5 d (by omega) d2
    · exact ⟨j, Nat.le_refl j, by omega, e, rfl, fun d d1 d2 => absurd d1 (by omega)⟩
theorem sk_rc_next {a : Nat → Int32} {j n : Nat} (h : j ≤ n) (hl : sk_rc a j < sk_rc a n) : ∃ c, j ≤ c ∧ c < n ∧ a c ≠ 0 ∧ sk_rc a c = sk_rc a j ∧ ∀ d, j ≤ d → d < c → a d = 0 :=
  sk_rc_next0 (n - j) j rfl h hl
theorem sk_rc_end {a : Nat → Int32} {j n : Nat} (hl : sk_rc a n ≤ sk_rc a j) : ∀ d, j ≤ d → d < n → a d = 0 := by
  intro d h1 h2
  by_cases e : a d = 0
  · exact e
  · have h3 := sk_rc_lt h2 e
    have h4 := sk_rc_mono (a := a) h1
    omega
theorem sk_rc_at {a : Nat → Int32} {k n : Nat} (h : k < sk_rc a n) : ∃ c, c < n ∧ a c ≠ 0 ∧ sk_rc a c = k := by
  induction n with
  | zero => exact absurd h (Nat.not_lt_zero k)
  | succ n ih =>
    by_cases e : a n = 0
    · rw [sk_rc_z e] at h
      obtain ⟨c, c1, c2, c3⟩ := ih h
      exact ⟨c, by omega, c2, c3⟩
    · rw [sk_rc_s e] at h
      by_cases f : k < sk_rc a n
      · obtain ⟨c, c1, c2, c3⟩ := ih f
        exact ⟨c, by omega, c2, c3⟩
      · exact ⟨n, by omega, e, by omega⟩
theorem sk_rc_cg {a b : Nat → Int32} {n : Nat} (h : ∀ d, d < n → a d = b d) : sk_rc a n = sk_rc b n := by
  induction n with
  | zero => rfl
  | succ n ih =>
    have i1 := ih (fun d hd => h d (by omega))
    have e := h n (by omega)
    by_cases f : a n = 0
    · rw [sk_rc_z f, sk_rc_z (e ▸ f), i1]
    · rw [sk_rc_s f, sk_rc_s (e ▸ f), i1]
theorem sk_ps_s (A : Nat → Nat → Int32) (n : Nat) : sk_ps A (n + 1) = sk_ps A n + sk_rc (A n) 6 := rfl
theorem sk_ps_le (A : Nat → Nat → Int32) (n : Nat) : sk_ps A n ≤ 6 * n := by
  induction n with
  | zero => exact Nat.le_refl 0
  | succ n ih =>
    have h1 := sk_rc_le (A n) 6
    rw [sk_ps_s]
    omega
theorem sk_ps_mono {A : Nat → Nat → Int32} {m n : Nat} (h : m ≤ n) : sk_ps A m ≤ sk_ps A n := by
  induction n with
  | zero =>
    have e : m = 0 := by omega
    rw [e]
    exact Nat.le_refl _
  | succ n ih =>
    by_cases e : m = n + 1
    · rw [e]; exact Nat.le_refl _
    · have h1 := ih (by omega)
      rw [sk_ps_s]
      omega
theorem sk_ps_cg {A B : Nat → Nat → Int32} {n : Nat} (h : ∀ i j, i < n → j < 6 → A i j = B i j) : sk_ps A n = sk_ps B n := by
  induction n with
  | zero => rfl
  | succ n ih =>
    rw [sk_ps_s, sk_ps_s, ih (fun i j hi hj => h i j (by omega) hj), sk_rc_cg (fun d hd => h n d (by omega) hd)]
/-- a place in a list stays below 36 -/
theorem sk_pl (A : Nat → Nat → Int32) {i j : Nat} (hi : i < 6) (hj : j ≤ 6) : sk_ps A i + sk_rc (A i) j ≤ 36 ∧ sk_ps A i ≤ 30 ∧ sk_rc (A i) j ≤ j := by
  have h1 := sk_ps_le A i
  have h2 := sk_rc_le (A i) j
  omega
/-- an earlier row's places lie below a later row's -/
theorem sk_pl_row (A : Nat → Nat → Int32) {r i c : Nat} (h : r < i) (hc : c < 6) (hn : A r c ≠ 0) : sk_ps A r + sk_rc (A r) c < sk_ps A i := by
  have h1 := sk_rc_lt hc hn
  have h2 := sk_ps_mono (A := A) (show r + 1 ≤ i by omega)
  rw [sk_ps_s] at h2
  omega
/-- every place below the count is some entry's -/
theorem sk_pl_ex (A : Nat → Nat → Int32) {k n : Nat} (h : k < sk_ps A n) : ∃ i j, i < n ∧ j < 6 ∧ A i j ≠ 0 ∧ sk_ps A i + sk_rc (A i) j = k := by
  induction n with
  | zero => exact absurd h (Nat.not_lt_zero k)
  | succ n ih =>
    by_cases f : k < sk_ps A n
    · obtain ⟨i, j, h1, h2, h3, h4⟩ := ih f
      exact ⟨i, j, by omega, h2, h3, h4⟩
    · rw [sk_ps_s] at h
      obtain ⟨c, c1, c2, c3⟩ := sk_rc_at (show k - sk_ps A n < sk_rc (A n) 6 by omega)
      exact ⟨n, c, by omega, c1, c2, by omega⟩
/-! ===== sums of ints ===== -/
def sk_dot (f : Nat → Int32) : Nat → Int32
  | 0 => 0
  | n + 1 => sk_dot f n + f n
theorem sk_dot_s (f : Nat → Int32) (n : Nat) : sk_dot f (n + 1) = sk_dot f n + f n := rfl
theorem sk_dot_skip {f : Nat → Int32} {j c : Nat} (h : j ≤ c) (hz : ∀ d, j ≤ d → d < c → f d = 0) : sk_dot f c = sk_dot f j := by
  induction c with
  | zero =>
    have e : j = 0 := by omega
    rw [e]
  | succ c ih =>
    by_cases e : j = c + 1
    · rw [e]
    · rw [sk_dot_s, hz c (by omega) (by omega), Int32.add_zero]
      exact ih (by omega) (fun d h1 h2 => hz d h1 (by omega))
/-! ===== ints ===== -/
theorem sk_le {a b : Nat} {A B : Prop} (ha : a < 2 ^ 31) (hb : b < 2 ^ 31) (f : a ≤ b → A) (g : b < a → B) : (nI a ≤ nI b → A) ∧ (¬ nI a ≤ nI b → B) := by
  rw [nI_leI ha hb]
  exact ⟨f, fun z => g (by omega)⟩
theorem sk_lt {a b : Nat} {A B : Prop} (ha : a < 2 ^ 31) (hb : b < 2 ^ 31) (f : a < b → A) (g : b ≤ a → B) : (nI a < nI b → A) ∧ (¬ nI a < nI b → B) := by
  rw [nI_ltI ha hb]
  exact ⟨f, fun z => g (by omega)⟩
theorem sk_eq {a b : Nat} {A B : Prop} (ha : a < 2 ^ 31) (hb : b < 2 ^ 31) (f : a = b → A) (g : a ≠ b → B) : (nI a = nI b → A) ∧ (¬ nI a = nI b → B) := by
  rw [nI_eq ha hb]
  exact ⟨f, g⟩
theorem sk_b8 : ∀ c, c < 128 → (nI c).toInt8.toInt32 = nI c := by decide +kernel
theorem sk_nb {c : Nat} (h : c < 128) : vp_nar .byte (nI c) = nI c := by
  rw [vp_nar_byte]
  exact sk_b8 c h
theorem sk_i7 (s i : Nat) : nI s * 7 + nI i = nI (s * 7 + i) := by
  rw [← nI_add, ← pk_mul]
  rfl
theorem sk_i36 (s i : Nat) : nI s * 36 + nI i = nI (s * 36 + i) := by
  rw [← nI_add, ← pk_mul]
  rfl
/-- the next place -/
theorem sk_s1 {a b c d : Nat} (h : d = c + 1) : nI (a + (b + c)) + 1 = nI (a + (b + d)) := by
  rw [nI_1, h]
  exact congrArg nI (by omega)
theorem sk_m1_lt {p q : Nat} (h : p ≤ q) (hq : q < 2 ^ 31) : nI p - 1 < nI q := by
  cases p with
  | zero =>
    have e : nI 0 - 1 = -1 := by decide
    rw [e, Int32.lt_iff_toInt_lt, nI_toInt hq]
    have e2 : (-1 : Int32).toInt = -1 := by decide
    omega
  | succ p =>
    rw [nI_pred]
    exact nI_lt (by omega) hq
/-! ===== the picture ===== -/
/-- slot s of the lists holds A -/
def sk_sl (a1 a2 a3 : Nat → Int32) (s : Nat) (A : Nat → Nat → Int32) : Prop :=
  (∀ i, i ≤ 6 → a1 (s * 7 + i) = nI (sk_ps A i)) ∧
  (∀ i j, i < 6 → j < 6 → A i j ≠ 0 → a2 (s * 36 + (sk_ps A i + sk_rc (A i) j)) = nI j ∧ a3 (s * 36 + (sk_ps A i + sk_rc (A i) j)) = A i j)
/-- the lists hold the five matrices -/
def sk_R (a1 a2 a3 : Nat → Int32) (M : Nat → Nat → Nat → Int32) : Prop := ∀ s, s < 5 → sk_sl a1 a2 a3 s (M s)
/-- B is made, up to row i, column j -/
def sk_mk (m : Int32) (a4 a5 a6 : Nat → Int32) (B : Nat → Nat → Int32) (i j : Nat) : Prop :=
  m = nI (sk_ps B i + sk_rc (B i) j) ∧ (∀ r, r ≤ i → a4 r = nI (sk_ps B r)) ∧
  (∀ r c, r < 6 → c < 6 → (r < i ∨ (r = i ∧ c < j)) → B r c ≠ 0 → a5 (sk_ps B r + sk_rc (B r) c) = nI c ∧ a6 (sk_ps B r + sk_rc (B r) c) = B r c)
/-- slot t set to B -/
def sk_set (M : Nat → Nat → Nat → Int32) (t : Nat) (B : Nat → Nat → Int32) : Nat → Nat → Nat → Int32 := fun s => if s = t then B else M s
theorem sk_R_cg {a1 a2 a3 : Nat → Int32} {M N : Nat → Nat → Nat → Int32} (h : sk_R a1 a2 a3 M) (e : ∀ s i j, s < 5 → i < 6 → j < 6 → M s i j = N s i j) : sk_R a1 a2 a3 N := by
  intro s hs
  obtain ⟨h1, h2⟩ := h s hs
  constructor
  · intro i hi
    rw [h1 i hi, sk_ps_cg (fun r c hr hc => e s r c hs (by omega) hc)]
  · intro i j hi hj hn
    have e1 : sk_ps (M s) i = sk_ps (N s) i := sk_ps_cg (fun r c hr hc => e s r c hs (by omega) hc)
    have e2 : sk_rc (M s i) j = sk_rc (N s i) j := sk_rc_cg (fun d hd => e s i d hs hi (by omega))
    have e3 := e s i j hs hi hj
    have h3 := h2 i j hi hj (by rw [e3]; exact hn)
    rw [e1, e2, e3] at h3
    exact h3
theorem sk_R_0 : sk_R (fun _ => 0) (fun _ => 0) (fun _ => 0) (fun _ _ _ => 0) := by
  intro s hs
  have e : ∀ i, sk_ps (fun _ _ => (0 : Int32)) i = 0 := by
    intro i
    induction i with
    | zero => rfl
    | succ i ih =>
      rw [sk_ps_s, ih, sk_rc_skip (j := 0) (by omega) (fun d _ _ => rfl)]
      rfl
  constructor
  · intro i hi
    show (0 : Int32) = nI (sk_ps (fun _ _ => (0 : Int32)) i)
    rw [e i]
    rfl
  · intro i j hi hj hn
    exact absurd rfl hn
/-- the next entry of a row, from column j on -/
theorem sk_ent {a1 a2 a3 : Nat → Int32} {M : Nat → Nat → Nat → Int32} {s i j : Nat} (hR : sk_R a1 a2 a3 M) (hs : s < 5) (hi : i < 6) (hj : j ≤ 6) (hl : sk_rc (M s i) j < sk_rc (M s i) 6) :
    ∃ c, j ≤ c ∧ c < 6 ∧ M s i c ≠ 0 ∧ (∀ d, j ≤ d → d < c → M s i d = 0) ∧ a2 (s * 36 + (sk_ps (M s) i + sk_rc (M s i) j)) = nI c ∧ a3 (s * 36 + (sk_ps (M s) i + sk_rc (M s i) j)) = M s i c ∧ sk_rc (M s i) (c + 1) = sk_rc (M s i) j + 1 ∧ s * 36 + (sk_ps (M s) i + sk_rc (M s i) j) < 180 ∧ (nI (s * 36 + (sk_ps (M s) i + sk_rc (M s i) j))).toNatClampNeg = s * 36 + (sk_ps (M s) i + sk_rc (M s i) j) := by
  obtain ⟨c, c1, c2, c3, c4, c5⟩ := sk_rc_next hj hl
  obtain ⟨f1, f2⟩ := (hR s hs).2 i c hi c2 c3
  rw [c4] at f1 f2
  have h1 := sk_ps_le (M s) i
  have h2 := sk_rc_le (M s i) 6
  exact ⟨c, c1, c2, c3, c5, f1, f2, by rw [sk_rc_s c3, c4], by omega, nI_clamp (by omega)⟩
theorem sk_bd (A : Nat → Nat → Int32) {s i j : Nat} (hs : s < 5) (hi : i < 6) (hj : j ≤ 6) : s * 36 + (sk_ps A i + sk_rc (A i) j) < 2 ^ 31 := by
  have h1 := sk_ps_le A i
  have h2 := sk_rc_le (A i) j
  omega
end
section
/-! ===== looking: what a method answers depends on the five matrices alone ===== -/
section
variable {m : Int32} {a1 a2 a3 a4 a5 a6 a7 : Nat → Int32} {M : Nat → Nat → Nat → Int32} {s i j t : Nat} {post : Int32 → Prop}
theorem sk_slot {p : Int32} (h0 : (∀ s, s < 5 → p ≠ nI s) → post 0) (h1 : ∀ s, s < 5 → p = nI s → post 1) : wpX_isSlot post () p := by
  refine br_c (fun z => h0 (fun s hs e => ?_)) (fun z => br_c (fun z2 => h0 (fun s hs e => ?_)) (fun z2 => ?_))
  · rw [e] at z
    exact nI_pos (by omega) z
  · rw [e] at z2
    exact nI_ge (b := 5) hs (by omega) z2
  · obtain ⟨s, hs, e⟩ := nI_of z
    have h : s < 5 := by
      rcases Nat.lt_or_ge s 5 with g | g
      · exact g
      · exact absurd (show (5 : Int32) ≤ p by rw [e]; exact nI_le (a := 5) g hs) z2
    exact h1 s h e
theorem sk_index {p : Int32} (h0 : (∀ s, s < 6 → p ≠ nI s) → post 0) (h1 : ∀ s, s < 6 → p = nI s → post 1) : wpX_isIndex post () p := by
  refine br_c (fun z => h0 (fun s hs e => ?_)) (fun z => br_c (fun z2 => h0 (fun s hs e => ?_)) (fun z2 => ?_))
  · rw [e] at z
    exact nI_pos (by omega) z
  · rw [e] at z2
    exact nI_ge (b := 6) hs (by omega) z2
  · obtain ⟨s, hs, e⟩ := nI_of z
    have h : s < 6 := by
      rcases Nat.lt_or_ge s 6 with g | g
      · exact g
      · exact absurd (show (6 : Int32) ≤ p by rw [e]; exact nI_le (a := 6) g hs) z2
    exact h1 s h e
theorem sk_slot1 (hs : s < 5) (H : post 1) : wpX_isSlot post () (nI s) := sk_slot (fun h => absurd rfl (h s hs)) (fun _ _ _ => H)
theorem sk_index1 (hs : i < 6) (H : post 1) : wpX_isIndex post () (nI i) := sk_index (fun h => absurd rfl (h i hs)) (fun _ _ _ => H)
theorem sk_from (hR : sk_R a1 a2 a3 M) (hs : s < 5) (hi : i < 6) (H : post (nI (s * 36 + (sk_ps (M s) i + sk_rc (M s i) 0)))) : wpX_from post (m, a1, a2, a3, a4, a5, a6, a7) (nI s) (nI i) := by
  have e := sk_i7 s i
  have f := (hR s hs).1 i (by omega)
  have g : s * 7 + i < 2 ^ 31 := by omega
  refine ⟨?_, ?_⟩
  · rw [e]
    exact vp_in_nI (by omega) (by omega)
  · rw [e, nI_clamp g, f, sk_i36]
    exact H
theorem sk_upTo (hR : sk_R a1 a2 a3 M) (hs : s < 5) (hi : i < 6) (H : post (nI (s * 36 + (sk_ps (M s) i + sk_rc (M s i) 6)))) : wpX_upTo post (m, a1, a2, a3, a4, a5, a6, a7) (nI s) (nI i) := by
  have e : nI s * 7 + nI i + 1 = nI (s * 7 + (i + 1)) := by
    rw [sk_i7]
    exact (nI_1 _).trans (congrArg nI (by omega))
  have f := (hR s hs).1 (i + 1) (by omega)
  have g : s * 7 + (i + 1) < 2 ^ 31 := by omega
  refine ⟨?_, ?_⟩
  · rw [e]
    exact vp_in_nI (by omega) (by omega)
  · rw [e, nI_clamp g, f, sk_i36]
    exact H
/-! find, by halving -/
theorem sk_find21 (hR : sk_R a1 a2 a3 M) (hs : s < 5) (hi : i < 6) (hj : j < 6) (H1 : ∀ q, q < 180 → a3 q = M s i j → M s i j ≠ 0 → post (nI q)) (H0 : M s i j = 0 → post (-1)) :
    ∀ n r lo hh : Nat, 3 < n + r → ((r = 0 ∧ hh ≤ lo + 7) ∨ (r = 1 ∧ hh ≤ lo + 3) ∨ (r = 2 ∧ hh ≤ lo + 1) ∨ (r = 3 ∧ hh ≤ lo)) → lo ≤ hh → hh ≤ sk_rc (M s i) 6 → (M s i j ≠ 0 → lo ≤ sk_rc (M s i) j ∧ sk_rc (M s i) j < hh) →
      wX_find_21 post (nI j) m a1 a2 a3 a4 a5 a6 a7 n (nI (s * 36 + (sk_ps (M s) i + lo))) (nI (s * 36 + (sk_ps (M s) i + hh)) - 1) (nI r) := by
  intro n
  induction n with
  | zero => intro r lo hh h1 h2; omega
  | succ n ih =>
    intro r lo hh h1 h2 h3 h4 h5
    have b1 := sk_ps_le (M s) i
    have b2 := sk_rc_le (M s i) 6
    refine pk_le 4 r (fun z => absurd z (by omega)) (fun _ => ?_)
    by_cases hlh : lo < hh
    · have e1 : nI (s * 36 + (sk_ps (M s) i + hh)) - 1 = nI (s * 36 + (sk_ps (M s) i + (hh - 1))) := by
        have e : s * 36 + (sk_ps (M s) i + hh) = s * 36 + (sk_ps (M s) i + (hh - 1)) + 1 := by omega
        rw [e, nI_pred]
      refine br_f (by rw [e1]; exact nI_nlt (by omega) (by omega)) (nm_r (e' := nI (s * 36 + (sk_ps (M s) i + (lo + hh - 1) / 2))) ?_ ?_)
      · rw [e1, nI_add, pk_shrN (by omega) _ 1 (by decide)]
        exact congrArg nI (by omega)
      · obtain ⟨c, c1, c2, c3⟩ := sk_rc_at (show (lo + hh - 1) / 2 < sk_rc (M s i) 6 by omega)
        obtain ⟨f1, f2⟩ := (hR s hs).2 i c hi c1 c2
        rw [c3] at f1 f2
        have hb : s * 36 + (sk_ps (M s) i + (lo + hh - 1) / 2) < 180 := by omega
        have hb2 : s * 36 + (sk_ps (M s) i + (lo + hh - 1) / 2) < 2 ^ 31 := by omega
        refine ⟨vp_in_nI hb (by omega), ?_⟩
        rw [nI_clamp hb2, f1]
        refine sk_eq (by omega) (by omega) (fun z => ?_) (fun z => ⟨vp_in_nI hb (by omega), sk_le (by omega) (by omega) (fun z2 => ?_) (fun z2 => ?_)⟩)
        · subst z
          exact H1 _ hb f2 c2
        · refine nm_e (nm_r (nI_1 r) (ih (r + 1) lo ((lo + hh - 1) / 2) (by omega) (by omega) (by omega) (by omega) (fun hn => ?_)))
          have q1 := sk_rc_lt (show j < c by omega) hn
          have q2 := h5 hn
          omega
        · refine nm_r (sk_s1 rfl) (nm_r (nI_1 r) (ih (r + 1) ((lo + hh - 1) / 2 + 1) hh (by omega) (by omega) (by omega) (by omega) (fun hn => ?_)))
          have q1 := sk_rc_lt (show c < j by omega) c2
          have q2 := h5 hn
          omega
    · refine br_t (sk_m1_lt (by omega) (by omega)) (H0 ?_)
      by_cases e : M s i j = 0
      · exact e
      · have q2 := h5 e
        omega
theorem sk_find (hR : sk_R a1 a2 a3 M) (hs : s < 5) (hi : i < 6) (hj : j < 6) (H1 : ∀ q, q < 180 → a3 q = M s i j → M s i j ≠ 0 → post (nI q)) (H0 : M s i j = 0 → post (-1)) : wpX_find post (m, a1, a2, a3, a4, a5, a6, a7) (nI s) (nI i) (nI j) := by
  have b2 := sk_rc_le (M s i) 6
  unfold wpX_find
  dsimp only
  refine sk_from hR hs hi (sk_upTo hR hs hi (nm_e ⟨5, ?_⟩))
  exact sk_find21 hR hs hi hj H1 H0 5 0 0 (sk_rc (M s i) 6) (by omega) (by omega) (by omega) (by omega) (fun hn => ⟨Nat.zero_le _, sk_rc_lt hj hn⟩)
theorem sk_at (hR : sk_R a1 a2 a3 M) (hs : s < 5) (hi : i < 6) (hj : j < 6) (H : post (M s i j)) : wpX_at post (m, a1, a2, a3, a4, a5, a6, a7) (nI s) (nI i) (nI j) := by
  unfold wpX_at
  dsimp only
  refine sk_slot1 hs (br_f (by decide) (sk_index1 hi (br_f (by decide) (sk_index1 hj (br_f (by decide) (sk_find hR hs hi hj (fun q hq h3 hn => ?_) (fun h => ?_)))))))
  · refine br_t (nI_pos' (by omega)) ⟨vp_in_nI hq (by omega), ?_⟩
    rw [nI_clamp (show q < 2 ^ 31 by omega), h3]
    exact H
  · refine br_f (by decide) ?_
    rw [h] at H
    exact H
theorem sk_count (hR : sk_R a1 a2 a3 M) (hs : s < 5) (H : post (nI (sk_ps (M s) 6))) : wpX_count post (m, a1, a2, a3, a4, a5, a6, a7) (nI s) := by
  have e : nI s * 7 + 6 = nI (s * 7 + 6) := sk_i7 s 6
  have f := (hR s hs).1 6 (by omega)
  have g : s * 7 + 6 < 2 ^ 31 := by omega
  unfold wpX_count
  dsimp only
  refine sk_slot1 hs (br_f (by decide) ⟨?_, ?_⟩)
  · rw [e]
    exact vp_in_nI (by omega) (by omega)
  · rw [e, nI_clamp g, f]
    exact H
/-! next -/
theorem sk_next24 (hR : sk_R a1 a2 a3 M) (hs : s < 5) (hi : i < 6) (hj : j < 6) (H1 : ∀ c, j ≤ c → c < 6 → M s i c ≠ 0 → (∀ d, j ≤ d → d < c → M s i d = 0) → post (nI c)) (H0 : (∀ d, j ≤ d → d < 6 → M s i d = 0) → post (-1)) :
    ∀ n c0 : Nat, 6 < n + c0 → c0 ≤ 6 → (∀ d, j ≤ d → d < c0 → M s i d = 0) → wX_next_24 post (nI s) (nI i) (nI j) m a1 a2 a3 a4 a5 a6 a7 n (nI (s * 36 + (sk_ps (M s) i + sk_rc (M s i) c0))) := by
  intro n
  induction n with
  | zero => intro c0 h1 h2; omega
  | succ n ih =>
    intro c0 h1 h2 h3
    unfold wX_next_24
    refine sk_upTo hR hs hi (sk_le (sk_bd _ hs hi (by omega)) (sk_bd _ hs hi h2) (fun z => H0 (fun d d1 d2 => ?_)) (fun z => ?_))
    · by_cases e : d < c0
      · exact h3 d d1 e
      · exact sk_rc_end (a := M s i) (j := c0) (n := 6) (by omega) d (by omega) d2
    · obtain ⟨c, c1, c2, c3, c4, c5, c6, c7, c8, c9⟩ := sk_ent hR hs hi h2 (by omega)
      refine ⟨vp_in_nI c8 (by omega), ?_⟩
      rw [c9, c5]
      refine sk_lt (by omega) (by omega) (fun g => nm_r (sk_s1 c7) (ih (c + 1) (by omega) (by omega) (fun d d1 d2 => absurd d1 (by omega)))) (fun g => ⟨vp_in_nI c8 (by omega), H1 c g c2 c3 (fun d d1 d2 => ?_)⟩)
      by_cases e : d < c0
      · exact h3 d d1 e
      · exact c4 d (by omega) d2
theorem sk_next (hR : sk_R a1 a2 a3 M) (hs : s < 5) (hi : i < 6) (hj : j < 6) (H1 : ∀ c, j ≤ c → c < 6 → M s i c ≠ 0 → (∀ d, j ≤ d → d < c → M s i d = 0) → post (nI c)) (H0 : (∀ d, j ≤ d → d < 6 → M s i d = 0) → post (-1)) : wpX_next post (m, a1, a2, a3, a4, a5, a6, a7) (nI s) (nI i) (nI j) := by
  unfold wpX_next
  dsimp only
  refine sk_slot1 hs (br_f (by decide) (sk_index1 hi (br_f (by decide) (sk_from hR hs hi ⟨7, ?_⟩))))
  exact sk_next24 hR hs hi hj H1 H0 7 0 (by omega) (by omega) (fun d d1 d2 => absurd d2 (by omega))
/-! rowsProduct -/
section
variable {J : Int32 → Int32 → Int32 → Prop} {b c k : Nat} {acc : Int32}
theorem sk_rp97 (hR : sk_R a1 a2 a3 M) (hs : s < 5) (hi : i < 6) (hb : b < 5) (hj : j < 6) (hk : k < 180) (hc : c < 6) (e2 : a2 k = nI c) (e3 : a3 k = M s i c) {d0 : Nat} (hd : d0 ≤ c) (hz : ∀ d, d0 ≤ d → d < c → M b j d = 0)
    (HJ : J (acc + M s i c * M b j c) (nI (b * 36 + (sk_ps (M b) j + sk_rc (M b j) d0))) (nI (k + 1))) :
    wX_rowsProduct_97 post J (nI s) (nI i) (nI b) (nI j) acc (nI (b * 36 + (sk_ps (M b) j + sk_rc (M b j) d0))) (nI k) m a1 a2 a3 a4 a5 a6 a7 := by
  have hkc : (nI k).toNatClampNeg = k := nI_clamp (by omega)
  unfold wX_rowsProduct_97
  refine sk_upTo hR hb hj (sk_le (sk_bd _ hb hj (by omega)) (sk_bd _ hb hj (by omega)) (fun z => nm_r (nI_1 k) ?_) (fun z => ?_))
  · have q := sk_rc_end (a := M b j) (j := d0) (n := 6) (by omega) c hd hc
    rw [q, Int32.mul_zero, Int32.add_zero] at HJ
    exact HJ
  · obtain ⟨e, f1, f2, f3, f4, f5, f6, f7, f8, f9⟩ := sk_ent hR hb hj (show d0 ≤ 6 by omega) (by omega)
    refine ⟨vp_in_nI f8 (by omega), vp_in_nI hk (by omega), ?_⟩
    rw [f9, hkc, f5, e2]
    refine sk_eq (by omega) (by omega) (fun g => ⟨vp_in_nI hk (by omega), vp_in_nI f8 (by omega), ?_⟩) (fun g => nm_r (nI_1 k) ?_)
    · subst g
      rw [f6, e3]
      exact nm_e (nm_r (nI_1 k) HJ)
    · have q : M b j c = 0 := by
        by_cases w : M b j c = 0
        · exact w
        · have w1 : ¬ e < c := fun w2 => f3 (hz e f1 w2)
          exact f4 c hd (by omega)
      rw [q, Int32.mul_zero, Int32.add_zero] at HJ
      exact HJ
theorem sk_rp62 (hR : sk_R a1 a2 a3 M) (hs : s < 5) (hi : i < 6) (hb : b < 5) (hj : j < 6) (hk : k < 180) (hc : c < 6) (e2 : a2 k = nI c) (e3 : a3 k = M s i c)
    (HJ : ∀ d0, d0 ≤ c → J (acc + M s i c * M b j c) (nI (b * 36 + (sk_ps (M b) j + sk_rc (M b j) d0))) (nI (k + 1))) :
    ∀ n d0 : Nat, 6 < n + d0 → d0 ≤ c → wX_rowsProduct_62 post J (nI s) (nI i) (nI b) (nI j) acc (nI k) m a1 a2 a3 a4 a5 a6 a7 n (nI (b * 36 + (sk_ps (M b) j + sk_rc (M b j) d0))) := by
  have hkc : (nI k).toNatClampNeg = k := nI_clamp (by omega)
  intro n
  induction n with
  | zero => intro d0 h1 h2; omega
  | succ n ih =>
    intro d0 h1 h2
    unfold wX_rowsProduct_62
    refine sk_upTo hR hb hj (sk_le (sk_bd _ hb hj (by omega)) (sk_bd _ hb hj (by omega)) (fun z => ?_) (fun z => ?_))
    · exact sk_rp97 hR hs hi hb hj hk hc e2 e3 h2 (fun d d1 d2 => sk_rc_end (a := M b j) (j := d0) (n := 6) (by omega) d d1 (by omega)) (HJ d0 h2)
    · obtain ⟨e, f1, f2, f3, f4, f5, f6, f7, f8, f9⟩ := sk_ent hR hb hj (show d0 ≤ 6 by omega) (by omega)
      refine ⟨vp_in_nI f8 (by omega), vp_in_nI hk (by omega), ?_⟩
      rw [f9, hkc, f5, e2]
      refine sk_le (by omega) (by omega) (fun g => ?_) (fun g => nm_r (sk_s1 f7) (ih (e + 1) (by omega) (by omega)))
      exact sk_rp97 hR hs hi hb hj hk hc e2 e3 h2 (fun d d1 d2 => f4 d d1 (by omega)) (HJ d0 h2)
end
theorem sk_rp51 {b : Nat} (hR : sk_R a1 a2 a3 M) (hs : s < 5) (hi : i < 6) (hb : b < 5) (hj : j < 6) (H : post (sk_dot (fun c => M s i c * M b j c) 6)) :
    ∀ n c0 d0 : Nat, 6 < n + c0 → c0 ≤ 6 → d0 ≤ c0 → wX_rowsProduct_51 post (nI s) (nI i) (nI b) (nI j) m a1 a2 a3 a4 a5 a6 a7 n (sk_dot (fun c => M s i c * M b j c) c0) (nI (b * 36 + (sk_ps (M b) j + sk_rc (M b j) d0))) (nI (s * 36 + (sk_ps (M s) i + sk_rc (M s i) c0))) := by
  intro n
  induction n with
  | zero => intro c0 d0 h1 h2; omega
  | succ n ih =>
    intro c0 d0 h1 h2 h3
    unfold wX_rowsProduct_51
    refine sk_upTo hR hs hi (sk_le (sk_bd _ hs hi (by omega)) (sk_bd _ hs hi h2) (fun z => ?_) (fun z => ?_))
    · rw [sk_dot_skip (f := fun c => M s i c * M b j c) h2 (fun d d1 d2 => by
        show M s i d * M b j d = 0
        rw [sk_rc_end (a := M s i) (j := c0) (n := 6) (by omega) d d1 d2, Int32.zero_mul])] at H
      exact H
    · obtain ⟨c, c1, c2, c3, c4, c5, c6, c7, c8, c9⟩ := sk_ent hR hs hi h2 (by omega)
      refine ⟨7, sk_rp62 hR hs hi hb hj c8 c2 c5 c6 (fun d1 hd1 => ?_) 7 d0 (by omega) (by omega)⟩
      have w := ih (c + 1) d1 (by omega) (by omega) (by omega)
      rw [sk_dot_s, sk_dot_skip (f := fun c => M s i c * M b j c) c1 (fun d d1 d2 => by
        show M s i d * M b j d = 0
        rw [c4 d d1 d2, Int32.zero_mul]), c7] at w
      exact w
theorem sk_rowsProduct {b : Nat} (hR : sk_R a1 a2 a3 M) (hs : s < 5) (hi : i < 6) (hb : b < 5) (hj : j < 6) (H : post (sk_dot (fun c => M s i c * M b j c) 6)) : wpX_rowsProduct post (m, a1, a2, a3, a4, a5, a6, a7) (nI s) (nI i) (nI b) (nI j) := by
  unfold wpX_rowsProduct
  dsimp only
  refine sk_slot1 hs (br_f (by decide) (sk_index1 hi (br_f (by decide) (sk_slot1 hb (br_f (by decide) (sk_index1 hj (br_f (by decide) (sk_from hR hb hj (sk_from hR hs hi ⟨7, ?_⟩)))))))))
  exact sk_rp51 hR hs hi hb hj H 7 0 0 (by omega) (by omega) (by omega)
/-! symmetric -/
theorem sk_sym24 {J : Int32 → Prop} (hR : sk_R a1 a2 a3 M) (hs : s < 5) (hi : i < 6) (HJ : (∀ j, j < 6 → M s i j ≠ 0 → M s j i = M s i j) → J (nI (i + 1))) (H0 : ∀ j, j < 6 → M s i j ≠ 0 → M s j i ≠ M s i j → post 0) :
    ∀ n j : Nat, 6 < n + j → j ≤ 6 → (∀ d, d < j → M s i d ≠ 0 → M s d i = M s i d) → wX_symmetric_24 post J (nI s) (nI i) m a1 a2 a3 a4 a5 a6 a7 n (nI (s * 36 + (sk_ps (M s) i + sk_rc (M s i) j))) := by
  intro n
  induction n with
  | zero => intro j h1 h2; omega
  | succ n ih =>
    intro j h1 h2 h3
    unfold wX_symmetric_24
    refine sk_upTo hR hs hi (sk_le (sk_bd _ hs hi (by omega)) (sk_bd _ hs hi h2) (fun z => nm_r (nI_1 i) (HJ (fun d hd hn => ?_))) (fun z => ?_))
    · by_cases e : d < j
      · exact h3 d e hn
      · exact absurd (sk_rc_end (a := M s i) (j := j) (n := 6) (by omega) d (by omega) hd) hn
    · obtain ⟨c, c1, c2, c3, c4, c5, c6, c7, c8, c9⟩ := sk_ent hR hs hi h2 (by omega)
      refine ⟨vp_in_nI c8 (by omega), ?_⟩
      rw [c9, c5, c6]
      refine sk_find hR hs c2 hi (fun q hq hq3 hn => ?_) (fun h => ?_)
      · refine br_f (nI_pos (by omega)) ⟨vp_in_nI hq (by omega), vp_in_nI c8 (by omega), ?_⟩
        rw [nI_clamp (show q < 2 ^ 31 by omega), hq3]
        refine br_c (fun g => nm_r (sk_s1 c7) (ih (c + 1) (by omega) (by omega) (fun d hd hn => ?_))) (fun g => H0 c c2 c3 g)
        by_cases e : d < j
        · exact h3 d e hn
        · by_cases e2 : d = c
          · rw [e2]; exact g
          · exact absurd (c4 d (by omega) (by omega)) hn
      · refine br_t (by decide) (H0 c c2 c3 ?_)
        rw [h]
        exact fun e => c3 e.symm
theorem sk_sym11 (hR : sk_R a1 a2 a3 M) (hs : s < 5) (H1 : (∀ i j, i < 6 → j < 6 → M s i j ≠ 0 → M s j i = M s i j) → post 1) (H0 : ¬ (∀ i j, i < 6 → j < 6 → M s i j ≠ 0 → M s j i = M s i j) → post 0) :
    ∀ n i : Nat, 6 < n + i → i ≤ 6 → (∀ r j, r < i → j < 6 → M s r j ≠ 0 → M s j r = M s r j) → wX_symmetric_11 post (nI s) m a1 a2 a3 a4 a5 a6 a7 n (nI i) := by
  intro n
  induction n with
  | zero => intro i h1 h2; omega
  | succ n ih =>
    intro i h1 h2 h3
    refine pk_le 6 i (fun z => H1 (fun r j hr hj => h3 r j (by omega) hj)) (fun z => sk_from hR hs z ⟨7, ?_⟩)
    refine sk_sym24 hR hs z (fun g => ih (i + 1) (by omega) (by omega) (fun r j hr hj hn => ?_)) (fun j hj hn he => H0 (fun S => he (S i j z hj hn))) 7 0 (by omega) (by omega) (fun d hd => absurd hd (by omega))
    by_cases e : r = i
    · rw [e] at hn ⊢
      exact g j hj hn
    · exact h3 r j (by omega) hj hn
theorem sk_symmetric (hR : sk_R a1 a2 a3 M) (hs : s < 5) (H1 : (∀ i j, i < 6 → j < 6 → M s i j ≠ 0 → M s j i = M s i j) → post 1) (H0 : ¬ (∀ i j, i < 6 → j < 6 → M s i j ≠ 0 → M s j i = M s i j) → post 0) : wpX_symmetric post (m, a1, a2, a3, a4, a5, a6, a7) (nI s) := by
  unfold wpX_symmetric
  dsimp only
  refine sk_slot1 hs (br_f (by decide) ⟨7, ?_⟩)
  exact sk_sym11 hR hs H1 H0 7 0 (by omega) (by omega) (fun r j hr => absurd hr (by omega))
/-! same -/
/-- what same(s, t) asks, of the lists themselves -/
def sk_Q (a2 a3 : Nat → Int32) (M : Nat → Nat → Nat → Int32) (s t : Nat) : Prop :=
  (∀ r, r ≤ 6 → sk_ps (M s) r = sk_ps (M t) r) ∧ ∀ k, k < sk_ps (M s) 6 → a2 (s * 36 + k) = a2 (t * 36 + k) ∧ a3 (s * 36 + k) = a3 (t * 36 + k)
theorem sk_same59 (hR : sk_R a1 a2 a3 M) (hs : s < 5) (ht : t < 5) (H1 : (∀ k, k < sk_ps (M s) 6 → a2 (s * 36 + k) = a2 (t * 36 + k) ∧ a3 (s * 36 + k) = a3 (t * 36 + k)) → post 1)
    (H0 : ¬ (∀ k, k < sk_ps (M s) 6 → a2 (s * 36 + k) = a2 (t * 36 + k) ∧ a3 (s * 36 + k) = a3 (t * 36 + k)) → post 0) :
    ∀ n k : Nat, 36 < n + k → k ≤ sk_ps (M s) 6 → (∀ q, q < k → a2 (s * 36 + q) = a2 (t * 36 + q) ∧ a3 (s * 36 + q) = a3 (t * 36 + q)) → wX_same_59 post (nI s) (nI t) m a1 a2 a3 a4 a5 a6 a7 n (nI k) := by
  have e : nI s * 7 + 6 = nI (s * 7 + 6) := sk_i7 s 6
  have f := (hR s hs).1 6 (by omega)
  have g : s * 7 + 6 < 2 ^ 31 := by omega
  have b1 := sk_ps_le (M s) 6
  intro n
  induction n with
  | zero => intro k h1 h2; omega
  | succ n ih =>
    intro k h1 h2 h3
    unfold wX_same_59
    refine ⟨by rw [e]; exact vp_in_nI (by omega) (by omega), ?_⟩
    rw [e, nI_clamp g, f]
    refine sk_le (by omega) (by omega) (fun z => H1 (fun q hq => h3 q (by omega))) (fun z => nm_r (sk_i36 s k) (nm_r (sk_i36 t k) ⟨vp_in_nI (by omega) (by omega), vp_in_nI (by omega) (by omega), ?_⟩))
    rw [nI_clamp (show s * 36 + k < 2 ^ 31 by omega), nI_clamp (show t * 36 + k < 2 ^ 31 by omega)]
    refine br_c (fun g1 => ⟨vp_in_nI (by omega) (by omega), vp_in_nI (by omega) (by omega), br_c (fun g2 => nm_r (nI_1 k) (ih (k + 1) (by omega) (by omega) (fun q hq => ?_))) (fun g2 => H0 (fun S => g2 (S k z).2))⟩) (fun g1 => H0 (fun S => g1 (S k z).1))
    by_cases w : q = k
    · rw [w]; exact ⟨g1, g2⟩
    · exact h3 q (by omega)
theorem sk_same18 (hR : sk_R a1 a2 a3 M) (hs : s < 5) (ht : t < 5) (H1 : sk_Q a2 a3 M s t → post 1) (H0 : ¬ sk_Q a2 a3 M s t → post 0) :
    ∀ n i : Nat, 7 < n + i → i ≤ 7 → (∀ r, r < i → sk_ps (M s) r = sk_ps (M t) r) → wX_same_18 post (nI s) (nI t) m a1 a2 a3 a4 a5 a6 a7 n (nI i) := by
  intro n
  induction n with
  | zero => intro i h1 h2; omega
  | succ n ih =>
    intro i h1 h2 h3
    refine pk_lt 6 i (fun z => ⟨37, ?_⟩) (fun z => ?_)
    · exact sk_same59 hR hs ht (fun S => H1 ⟨fun r hr => h3 r (by omega), S⟩) (fun S => H0 (fun Q => S Q.2)) 37 0 (by omega) (by omega) (fun q hq => absurd hq (by omega))
    · have b1 := sk_ps_le (M s) i
      have b2 := sk_ps_le (M t) i
      rw [sk_i7, sk_i7]
      refine ⟨vp_in_nI (by omega) (by omega), vp_in_nI (by omega) (by omega), ?_⟩
      rw [nI_clamp (show s * 7 + i < 2 ^ 31 by omega), nI_clamp (show t * 7 + i < 2 ^ 31 by omega), (hR s hs).1 i z, (hR t ht).1 i z]
      refine sk_eq (by omega) (by omega) (fun g => nm_r (nI_1 i) (ih (i + 1) (by omega) (by omega) (fun r hr => ?_))) (fun g => H0 (fun Q => g (Q.1 i z)))
      by_cases w : r = i
      · rw [w]; exact g
      · exact h3 r (by omega)
theorem sk_same (hR : sk_R a1 a2 a3 M) (hs : s < 5) (ht : t < 5) (H1 : sk_Q a2 a3 M s t → post 1) (H0 : ¬ sk_Q a2 a3 M s t → post 0) : wpX_same post (m, a1, a2, a3, a4, a5, a6, a7) (nI s) (nI t) := by
  unfold wpX_same
  dsimp only
  refine sk_slot1 hs (br_f (by decide) (sk_slot1 ht (br_f (by decide) ⟨8, ?_⟩)))
  exact sk_same18 hR hs ht H1 H0 8 0 (by omega) (by omega) (fun r hr => absurd hr (by omega))
end
/-- two states that hold the same matrices: same asks the same of both -/
theorem sk_Q_cg {a1 a2 a3 b1 b2 b3 : Nat → Int32} {M : Nat → Nat → Nat → Int32} {s t : Nat} (hR : sk_R a1 a2 a3 M) (hR' : sk_R b1 b2 b3 M) (hs : s < 5) (ht : t < 5) (h : sk_Q a2 a3 M s t) : sk_Q b2 b3 M s t := by
  have key : ∀ s, s < 5 → ∀ k, k < sk_ps (M s) 6 → a2 (s * 36 + k) = b2 (s * 36 + k) ∧ a3 (s * 36 + k) = b3 (s * 36 + k) := by
    intro s hs k hk
    obtain ⟨i, j, h1, h2, h3, h4⟩ := sk_pl_ex (M s) hk
    have f := (hR s hs).2 i j h1 h2 h3
    have g := (hR' s hs).2 i j h1 h2 h3
    rw [h4] at f g
    exact ⟨f.1.trans g.1.symm, f.2.trans g.2.symm⟩
  refine ⟨h.1, fun k hk => ?_⟩
  have e1 := key s hs k hk
  have e2 := key t ht k (by rw [← h.1 6 (by omega)]; exact hk)
  have e3 := h.2 k hk
  exact ⟨e1.1.symm.trans (e3.1.trans e2.1), e1.2.symm.trans (e3.2.trans e2.2)⟩
end
section
/-! ===== making a matrix ===== -/
theorem sk_mk_skip {m : Int32} {a4 a5 a6 : Nat → Int32} {B : Nat → Nat → Int32} {i j c : Nat} (h : sk_mk m a4 a5 a6 B i j) (hj : j ≤ c) (hz : ∀ d, j ≤ d → d < c → B i d = 0) : sk_mk m a4 a5 a6 B i c := by
  obtain ⟨h1, h2, h3⟩ := h
  refine ⟨by rw [h1, sk_rc_skip hj hz], h2, fun r d hr hd hl hn => ?_⟩
  refine h3 r d hr hd ?_ hn
  by_cases e : r = i
  · by_cases f : d < j
    · exact Or.inr ⟨e, f⟩
    · rw [e] at hn
      exact absurd (hz d (by omega) (by omega)) hn
  · exact Or.inl (by omega)
section
variable {m : Int32} {a1 a2 a3 a4 a5 a6 a7 : Nat → Int32} {M : Nat → Nat → Nat → Int32} {B : Nat → Nat → Int32} {i j c t : Nat} {post : St1 → Prop}
theorem sk_begin (B : Nat → Nat → Int32) (H : ∀ b4, sk_mk 0 b4 a5 a6 B 0 0 → post (0, a1, a2, a3, b4, a5, a6, a7)) : wpX_begin post (m, a1, a2, a3, a4, a5, a6, a7) := by
  unfold wpX_begin
  dsimp only
  refine nm_e (H _ ⟨rfl, fun r hr => ?_, fun r c _ _ h => absurd h (by omega)⟩)
  have e : r = 0 := by omega
  rw [e, pk_us]
  rfl
theorem sk_emit {p0 v : Int32} (h : sk_mk m a4 a5 a6 B i j) (hi : i < 6) (hj : j ≤ c) (hc : c < 6) (hz : ∀ d, j ≤ d → d < c → B i d = 0) (hp : p0 = nI c) (hv : v = B i c)
    (H : ∀ m' b5 b6, sk_mk m' a4 b5 b6 B i (c + 1) → post (m', a1, a2, a3, a4, b5, b6, a7)) : wpX_emit post (m, a1, a2, a3, a4, a5, a6, a7) p0 v := by
  obtain ⟨h1, h2, h3⟩ := sk_mk_skip h hj hz
  subst hp hv h1
  have b1 := sk_ps_le B i
  have b2 := sk_rc_le (B i) c
  have b3 : sk_ps B i + sk_rc (B i) c < 36 := by omega
  refine br_c (fun z => H _ a5 a6 ⟨by rw [sk_rc_z z], h2, fun r d hr hd hl hn => ?_⟩) (fun z => ⟨vp_in_nI b3 (by omega), ?_⟩)
  · refine h3 r d hr hd ?_ hn
    by_cases e : r = i
    · by_cases f : d = c
      · rw [e, f] at hn
        exact absurd z hn
      · exact Or.inr ⟨e, by omega⟩
    · exact Or.inl (by omega)
  · rw [nI_clamp (show sk_ps B i + sk_rc (B i) c < 2 ^ 31 by omega), sk_b8 c (by omega)]
    refine nm_e ⟨vp_in_nI b3 (by omega), nm_e (nm_r (nI_1 _) (H _ _ _ ⟨by rw [sk_rc_s z]; rfl, h2, fun r d hr hd hl hn => ?_⟩))⟩
    by_cases e : r = i
    · by_cases f : d = c
      · rw [e, f, pk_us, pk_us]
        exact ⟨rfl, rfl⟩
      · have q : sk_rc (B r) d < sk_rc (B i) c := by
          rw [e]
          rw [e] at hn
          exact sk_rc_lt (by omega) hn
        have q2 : sk_ps B r + sk_rc (B r) d ≠ sk_ps B i + sk_rc (B i) c := by
          rw [e] at q ⊢
          omega
        rw [pk_un q2, pk_un q2]
        exact h3 r d hr hd (Or.inr ⟨e, by omega⟩) hn
    · have q := sk_pl_row B (show r < i by omega) hd hn
      have q2 : sk_ps B r + sk_rc (B r) d ≠ sk_ps B i + sk_rc (B i) c := by omega
      rw [pk_un q2, pk_un q2]
      exact h3 r d hr hd (Or.inl (by omega)) hn
theorem sk_endRow (h : sk_mk m a4 a5 a6 B i 6) (hi : i < 6) (H : ∀ b4, sk_mk m b4 a5 a6 B (i + 1) 0 → post (m, a1, a2, a3, b4, a5, a6, a7)) : wpX_endRow post (m, a1, a2, a3, a4, a5, a6, a7) (nI i) := by
  obtain ⟨h1, h2, h3⟩ := h
  have b1 := sk_ps_le B i
  have b2 := sk_rc_le (B i) 6
  refine ⟨by rw [nI_1]; exact vp_in_nI (by omega) (by omega), nm_r (e' := upd a4 (i + 1) (nI (sk_ps B i + sk_rc (B i) 6))) ?_ (H _ ⟨h1, fun r hr => ?_, fun r c hr hc hl hn => ?_⟩)⟩
  · rw [nI_1, nI_clamp (show i + 1 < 2 ^ 31 by omega), h1, sk_b8 _ (by omega)]
  · by_cases e : r = i + 1
    · rw [e, pk_us]
      rfl
    · rw [pk_un e]
      exact h2 r (by omega)
  · exact h3 r c hr hc (by omega) hn
/-! one row in full -/
theorem sk_clear2 (H : ∀ b7, (∀ c, c < 6 → b7 c = 0) → post (m, a1, a2, a3, a4, a5, a6, b7)) :
    ∀ (n i : Nat) (b7 : Nat → Int32), 6 < n + i → i ≤ 6 → (∀ c, c < i → b7 c = 0) → wX_clearWork_2 post m n (nI i) a1 a2 a3 a4 a5 a6 b7 := by
  intro n
  induction n with
  | zero => intro i b7 h1 h2; omega
  | succ n ih =>
    intro i b7 h1 h2 h3
    refine pk_le 6 i (fun z => H b7 (fun c hc => h3 c (by omega))) (fun z => ⟨vp_in_nI z (by omega), nm_r (e' := upd b7 i 0) (by rw [nI_clamp (by omega)]) (nm_r (nI_1 i) (ih (i + 1) _ (by omega) (by omega) (fun c hc => ?_)))⟩)
    by_cases e : c = i
    · rw [e, pk_us]
    · rw [pk_un e]
      exact h3 c (by omega)
theorem sk_clear (H : ∀ b7, (∀ c, c < 6 → b7 c = 0) → post (m, a1, a2, a3, a4, a5, a6, b7)) : wpX_clearWork post (m, a1, a2, a3, a4, a5, a6, a7) :=
  ⟨7, sk_clear2 H 7 0 a7 (by omega) (by omega) (fun c hc => absurd hc (by omega))⟩
theorem sk_emitW2 (hi : i < 6) (hw : ∀ c, c < 6 → a7 c = B i c) (H : ∀ m' b5 b6, sk_mk m' a4 b5 b6 B i 6 → post (m', a1, a2, a3, a4, b5, b6, a7)) :
    ∀ (n c : Nat) (m : Int32) (b5 b6 : Nat → Int32), 6 < n + c → c ≤ 6 → sk_mk m a4 b5 b6 B i c → wX_emitWork_2 post n (nI c) m a1 a2 a3 a4 b5 b6 a7 := by
  intro n
  induction n with
  | zero => intro c m b5 b6 h1 h2; omega
  | succ n ih =>
    intro c m b5 b6 h1 h2 h3
    refine pk_le 6 c (fun z => ?_) (fun z => ⟨vp_in_nI z (by omega), ?_⟩)
    · have e : c = 6 := by omega
      rw [e] at h3
      exact H m b5 b6 h3
    · rw [nI_clamp (show c < 2 ^ 31 by omega)]
      exact sk_emit h3 hi (Nat.le_refl c) z (fun d d1 d2 => absurd d1 (by omega)) rfl (hw c z) (fun m' c5 c6 h' => nm_r (nI_1 c) (ih (c + 1) m' c5 c6 (by omega) (by omega) h'))
theorem sk_emitWork (h : sk_mk m a4 a5 a6 B i 0) (hi : i < 6) (hw : ∀ c, c < 6 → a7 c = B i c) (H : ∀ m' b5 b6, sk_mk m' a4 b5 b6 B i 6 → post (m', a1, a2, a3, a4, b5, b6, a7)) : wpX_emitWork post (m, a1, a2, a3, a4, a5, a6, a7) :=
  ⟨7, sk_emitW2 hi hw H 7 0 m a5 a6 (by omega) (by omega) h⟩
end
/-! ===== storing it ===== -/
theorem sk_store_R {a1 a2 a3 b1 b2 b3 a4 a5 a6 : Nat → Int32} {m : Int32} {M : Nat → Nat → Nat → Int32} {B : Nat → Nat → Int32} {t : Nat} (hR : sk_R a1 a2 a3 M) (h : sk_mk m a4 a5 a6 B 6 0)
    (i1 : ∀ r, r < 7 → b1 (t * 7 + r) = nI (sk_ps B r)) (o1 : ∀ q, (q < t * 7 ∨ t * 7 + 7 ≤ q) → b1 q = a1 q)
    (i2 : ∀ q, q < sk_ps B 6 → b2 (t * 36 + q) = vp_nar .byte (a5 q) ∧ b3 (t * 36 + q) = a6 q) (o2 : ∀ q, (q < t * 36 ∨ t * 36 + 36 ≤ q) → b2 q = a2 q ∧ b3 q = a3 q) : sk_R b1 b2 b3 (sk_set M t B) := by
  intro s hs
  by_cases e : s = t
  · subst e
    have e1 : sk_set M s B s = B := if_pos rfl
    rw [e1]
    refine ⟨fun i hi => i1 i (by omega), fun i j hi hj hn => ?_⟩
    have q := sk_pl_row B hi hj hn
    have f := h.2.2 i j hi hj (Or.inl hi) hn
    have g := i2 _ q
    rw [f.1, sk_nb (by omega), f.2] at g
    exact g
  · have e1 : sk_set M t B s = M s := if_neg e
    rw [e1]
    refine ⟨fun i hi => ?_, fun i j hi hj hn => ?_⟩
    · rw [o1 (s * 7 + i) (by omega)]
      exact (hR s hs).1 i hi
    · have b1 := sk_ps_le (M s) i
      have b2 := sk_rc_le (M s i) j
      have g := o2 (s * 36 + (sk_ps (M s) i + sk_rc (M s i) j)) (by omega)
      rw [g.1, g.2]
      exact (hR s hs).2 i j hi hj hn
section
variable {m : Int32} {a1 a2 a3 a4 a5 a6 a7 : Nat → Int32} {M : Nat → Nat → Nat → Int32} {B : Nat → Nat → Int32} {t : Nat} {post : Int32 → St1 → Prop}
theorem sk_store33 (hm : m = nI (sk_ps B 6)) (ht : t < 5)
    (H : ∀ b2 b3, (∀ q, q < sk_ps B 6 → b2 (t * 36 + q) = vp_nar .byte (a5 q) ∧ b3 (t * 36 + q) = a6 q) → (∀ q, (q < t * 36 ∨ t * 36 + 36 ≤ q) → b2 q = a2 q ∧ b3 q = a3 q) → post (nI (sk_ps B 6)) (m, a1, b2, b3, a4, a5, a6, a7)) :
    ∀ (n k : Nat) (b2 b3 : Nat → Int32), 36 < n + k → k ≤ sk_ps B 6 → (∀ q, q < k → b2 (t * 36 + q) = vp_nar .byte (a5 q) ∧ b3 (t * 36 + q) = a6 q) → (∀ q, (q < t * 36 ∨ t * 36 + 36 ≤ q) → b2 q = a2 q ∧ b3 q = a3 q) → wX_store_33 post (nI t) m n (nI k) a1 b2 b3 a4 a5 a6 a7 := by
  subst hm
  have b1 := sk_ps_le B 6
  intro n
  induction n with
  | zero => intro k b2 b3 h1 h2; omega
  | succ n ih =>
    intro k b2 b3 h1 h2 h3 h4
    unfold wX_store_33
    rw [sk_i36, nI_clamp (show t * 36 + k < 2 ^ 31 by omega), nI_clamp (show k < 2 ^ 31 by omega)]
    refine sk_le (by omega) (by omega) (fun z => H b2 b3 (fun q hq => h3 q (by omega)) h4) (fun z => ⟨vp_in_nI (by omega) (by omega), vp_in_nI (by omega) (by omega), nm_e ⟨vp_in_nI (by omega) (by omega), vp_in_nI (by omega) (by omega), nm_e (nm_r (nI_1 k) (ih (k + 1) _ _ (by omega) (by omega) (fun q hq => ?_) (fun q hq => ?_)))⟩⟩)
    · by_cases e : q = k
      · rw [e, pk_us, pk_us]
        exact ⟨rfl, rfl⟩
      · have e' : t * 36 + q ≠ t * 36 + k := by omega
        rw [pk_un e', pk_un e']
        exact h3 q (by omega)
    · have e' : q ≠ t * 36 + k := by omega
      rw [pk_un e', pk_un e']
      exact h4 q hq
theorem sk_store2 (h : sk_mk m a4 a5 a6 B 6 0) (hR : sk_R a1 a2 a3 M) (ht : t < 5) (H : ∀ b1 b2 b3, sk_R b1 b2 b3 (sk_set M t B) → post (nI (sk_ps B 6)) (m, b1, b2, b3, a4, a5, a6, a7)) :
    ∀ (n i : Nat) (b1 : Nat → Int32), 7 < n + i → i ≤ 7 → (∀ r, r < i → b1 (t * 7 + r) = nI (sk_ps B r)) → (∀ q, (q < t * 7 ∨ t * 7 + 7 ≤ q) → b1 q = a1 q) → wX_store_2 post (nI t) m n (nI i) b1 a2 a3 a4 a5 a6 a7 := by
  intro n
  induction n with
  | zero => intro i b1 h1 h2; omega
  | succ n ih =>
    intro i b1 h1 h2 h3 h4
    refine pk_lt 6 i (fun z => ⟨37, ?_⟩) (fun z => ?_)
    · have e : i = 7 := by omega
      subst e
      exact sk_store33 h.1 ht (fun b2 b3 i2 o2 => H b1 b2 b3 (sk_store_R hR h h3 h4 i2 o2)) 37 0 a2 a3 (by omega) (by omega) (fun q hq => absurd hq (by omega)) (fun q _ => ⟨rfl, rfl⟩)
    · have b0 := sk_ps_le B i
      rw [sk_i7, nI_clamp (show t * 7 + i < 2 ^ 31 by omega), nI_clamp (show i < 2 ^ 31 by omega), h.2.1 i z, sk_nb (by omega)]
      refine ⟨vp_in_nI (by omega) (by omega), vp_in_nI (by omega) (by omega), nm_e (nm_r (nI_1 i) (ih (i + 1) _ (by omega) (by omega) (fun r hr => ?_) (fun q hq => ?_)))⟩
      · by_cases e : r = i
        · rw [e, pk_us]
        · rw [pk_un (show t * 7 + r ≠ t * 7 + i by omega)]
          exact h3 r (by omega)
      · rw [pk_un (show q ≠ t * 7 + i by omega)]
        exact h4 q hq
theorem sk_store (h : sk_mk m a4 a5 a6 B 6 0) (hR : sk_R a1 a2 a3 M) (ht : t < 5) (H : ∀ b1 b2 b3, sk_R b1 b2 b3 (sk_set M t B) → post (nI (sk_ps B 6)) (m, b1, b2, b3, a4, a5, a6, a7)) : wpX_store post (m, a1, a2, a3, a4, a5, a6, a7) (nI t) :=
  ⟨8, sk_store2 h hR ht H 8 0 a1 (by omega) (by omega) (fun r hr => absurd hr (by omega)) (fun q _ => rfl)⟩
end
end
section
/-! ===== the operations: what each makes of the five matrices ===== -/
/-- P holds of every state that holds N -/
abbrev sk_po (N : Nat → Nat → Nat → Int32) (P : St1 → Prop) : Prop := ∀ (m : Int32) (b1 b2 b3 b4 b5 b6 b7 : Nat → Int32), sk_R b1 b2 b3 N → P (m, b1, b2, b3, b4, b5, b6, b7)
def sk_put (A : Nat → Nat → Int32) (x y : Nat) (v : Int32) : Nat → Nat → Int32 := fun r c => if r = x ∧ c = y then v else A r c
def sk_tr (A : Nat → Nat → Int32) : Nat → Nat → Int32 := fun r c => A c r
def sk_sc (A : Nat → Nat → Int32) (v : Int32) : Nat → Nat → Int32 := fun r c => A r c * v
def sk_sel (A : Nat → Nat → Int32) (p : Int32) : Nat → Nat → Int32 := fun r c => if ((p >>> (nI r &&& 31)) &&& 1) = 0 then 0 else if ((p >>> ((6 + nI c) &&& 31)) &&& 1) = 0 then 0 else A r c
section
variable {m : Int32} {a1 a2 a3 a4 a5 a6 a7 : Nat → Int32} {M : Nat → Nat → Nat → Int32} {B : Nat → Nat → Int32} {s i j t a r : Nat} {v : Int32} {post : Int32 → St1 → Prop}
variable {J : Int32 → Int32 → (Nat → Int32) → (Nat → Int32) → (Nat → Int32) → (Nat → Int32) → (Nat → Int32) → (Nat → Int32) → (Nat → Int32) → Prop}
/-! put -/
theorem sk_put101 {x1 x2 x3 x4 : Int32} (h : sk_mk m a4 a5 a6 B r 0) (hr : r < 6) (hw : ∀ c, c < 6 → a7 c = B r c) (HJ : ∀ m' b4 b5 b6, sk_mk m' b4 b5 b6 B (r + 1) 0 → J (nI (r + 1)) m' a1 a2 a3 b4 b5 b6 a7) : wX_put_101 post J x1 x2 x3 x4 (nI r) m a1 a2 a3 a4 a5 a6 a7 := by
  unfold wX_put_101
  exact sk_emitWork h hr hw (fun m' b5 b6 h' => sk_endRow h' hr (fun b4 h2 => nm_r (nI_1 r) (HJ m' b4 b5 b6 h2)))
theorem sk_put50 (hR : sk_R a1 a2 a3 M) (hs : s < 5) (hi : i < 6) (hj : j < 6) (hr : r < 6) (h : sk_mk m a4 a5 a6 (sk_put (M s) i j v) r 0) (HJ : ∀ m' b4 b5 b6 b7, sk_mk m' b4 b5 b6 (sk_put (M s) i j v) (r + 1) 0 → J (nI (r + 1)) m' a1 a2 a3 b4 b5 b6 b7) :
    ∀ (n d : Nat) (b7 : Nat → Int32), 6 < n + d → d ≤ 6 → (∀ c, c < d → b7 c = M s r c) → (∀ c, d ≤ c → c < 6 → b7 c = 0) → wX_put_50 post J (nI s) (nI i) (nI j) v (nI r) m n (nI (s * 36 + (sk_ps (M s) r + sk_rc (M s r) d))) a1 a2 a3 a4 a5 a6 b7 := by
  intro n
  induction n with
  | zero => intro d b7 h1 h2; omega
  | succ n ih =>
    intro d b7 h1 h2 h3 h4
    unfold wX_put_50
    refine sk_upTo hR hs hr (sk_le (sk_bd _ hs hr (by omega)) (sk_bd _ hs hr h2) (fun z => ?_) (fun z => ?_))
    · have hf : ∀ c, c < 6 → b7 c = M s r c := by
        intro c hc
        by_cases e : c < d
        · exact h3 c e
        · rw [h4 c (by omega) hc, sk_rc_end (a := M s r) (j := d) (n := 6) (by omega) c (by omega) hc]
      refine sk_eq (by omega) (by omega) (fun g => ⟨vp_in_nI hj (by omega), nm_r (e' := upd b7 j v) (by rw [nI_clamp (by omega)]) (sk_put101 h hr (fun c hc => ?_) (fun m' b4 b5 b6 h' => HJ m' b4 b5 b6 _ h'))⟩) (fun g => sk_put101 h hr (fun c hc => ?_) (fun m' b4 b5 b6 h' => HJ m' b4 b5 b6 _ h'))
      · show upd b7 j v c = if r = i ∧ c = j then v else M s r c
        by_cases e : c = j
        · rw [e, pk_us, if_pos ⟨g, rfl⟩]
        · rw [pk_un e, if_neg (fun w => e w.2)]
          exact hf c hc
      · show b7 c = if r = i ∧ c = j then v else M s r c
        rw [if_neg (fun w => g w.1)]
        exact hf c hc
    · obtain ⟨c, c1, c2, c3, c4, c5, c6, c7, c8, c9⟩ := sk_ent hR hs hr h2 (by omega)
      refine ⟨vp_in_nI c8 (by omega), vp_in_nI c8 (by omega), ?_⟩
      rw [c9, c5, c6, nI_clamp (show c < 2 ^ 31 by omega)]
      refine ⟨vp_in_nI c2 (by omega), nm_e (nm_r (sk_s1 c7) (ih (c + 1) _ (by omega) (by omega) (fun x hx => ?_) (fun x h5 h6 => ?_)))⟩
      · by_cases e : x = c
        · rw [e, pk_us]
        · rw [pk_un e]
          by_cases f : x < d
          · exact h3 x f
          · rw [h4 x (by omega) (by omega), c4 x (by omega) (by omega)]
      · rw [pk_un (show x ≠ c by omega)]
        exact h4 x (by omega) h6
theorem sk_put30 (hR : sk_R a1 a2 a3 M) (hs : s < 5) (hi : i < 6) (hj : j < 6) (H : sk_po (sk_set M s (sk_put (M s) i j v)) (post 1)) :
    ∀ (n r : Nat) (m : Int32) (b4 b5 b6 b7 : Nat → Int32), 6 < n + r → r ≤ 6 → sk_mk m b4 b5 b6 (sk_put (M s) i j v) r 0 → wX_put_30 post (nI s) (nI i) (nI j) v n (nI r) m a1 a2 a3 b4 b5 b6 b7 := by
  intro n
  induction n with
  | zero => intro r m b4 b5 b6 b7 h1 h2; omega
  | succ n ih =>
    intro r m b4 b5 b6 b7 h1 h2 h3
    refine pk_le 6 r (fun z => ?_) (fun z => sk_clear (fun c7 h7 => sk_from hR hs z ⟨7, ?_⟩))
    · have e : r = 6 := by omega
      subst e
      exact sk_store h3 hR hs (fun c1 c2 c3 h' => H _ _ _ _ _ _ _ _ h')
    · exact sk_put50 hR hs hi hj z h3 (fun m' c4 c5 c6 c7 h' => ih (r + 1) m' c4 c5 c6 c7 (by omega) (by omega) h') 7 0 c7 (by omega) (by omega) (fun c hc => absurd hc (by omega)) (fun c _ hc => h7 c hc)
theorem sk_putW (hR : sk_R a1 a2 a3 M) (hs : s < 5) (hi : i < 6) (hj : j < 6) (H : sk_po (sk_set M s (sk_put (M s) i j v)) (post 1)) : wpX_put post (m, a1, a2, a3, a4, a5, a6, a7) (nI s) (nI i) (nI j) v := by
  unfold wpX_put
  dsimp only
  refine sk_slot1 hs (br_f (by decide) (sk_index1 hi (br_f (by decide) (sk_index1 hj (br_f (by decide) (sk_begin (sk_put (M s) i j v) (fun b4 h => ⟨7, ?_⟩)))))))
  exact sk_put30 hR hs hi hj H 7 0 0 b4 a5 a6 a7 (by omega) (by omega) h
theorem sk_putN {p0 p1 p2 : Int32} (hn : ¬ ∃ s i j, s < 5 ∧ i < 6 ∧ j < 6 ∧ p0 = nI s ∧ p1 = nI i ∧ p2 = nI j) (H : post 0 (m, a1, a2, a3, a4, a5, a6, a7)) : wpX_put post (m, a1, a2, a3, a4, a5, a6, a7) p0 p1 p2 v := by
  unfold wpX_put
  dsimp only
  exact sk_slot (fun _ => br_t rfl H) (fun s hs e1 => br_f (by decide) (sk_index (fun _ => br_t rfl H) (fun i hi e2 => br_f (by decide) (sk_index (fun _ => br_t rfl H) (fun j hj e3 => absurd ⟨s, i, j, hs, hi, hj, e1, e2, e3⟩ hn)))))
/-! scale -/
theorem sk_scale39 {x1 : Int32} (hR : sk_R a1 a2 a3 M) (ha : a < 5) (hi : i < 6) (HJ : ∀ m' b4 b5 b6, sk_mk m' b4 b5 b6 (sk_sc (M a) v) (i + 1) 0 → J (nI (i + 1)) m' a1 a2 a3 b4 b5 b6 a7) :
    ∀ (n d : Nat) (m : Int32) (b5 b6 : Nat → Int32), 6 < n + d → d ≤ 6 → sk_mk m a4 b5 b6 (sk_sc (M a) v) i d → wX_scale_39 post J x1 (nI a) v (nI i) n (nI (a * 36 + (sk_ps (M a) i + sk_rc (M a i) d))) m a1 a2 a3 a4 b5 b6 a7 := by
  intro n
  induction n with
  | zero => intro d m b5 b6 h1 h2; omega
  | succ n ih =>
    intro d m b5 b6 h1 h2 h3
    unfold wX_scale_39
    refine sk_upTo hR ha hi (sk_le (sk_bd _ ha hi (by omega)) (sk_bd _ ha hi h2) (fun z => sk_endRow (sk_mk_skip h3 h2 (fun x x1 x2 => ?_)) hi (fun b4 h' => nm_r (nI_1 i) (HJ m b4 b5 b6 h'))) (fun z => ?_))
    · show M a i x * v = 0
      rw [sk_rc_end (a := M a i) (j := d) (n := 6) (by omega) x x1 x2, Int32.zero_mul]
    · obtain ⟨c, c1, c2, c3, c4, c5, c6, c7, c8, c9⟩ := sk_ent hR ha hi h2 (by omega)
      refine ⟨vp_in_nI c8 (by omega), vp_in_nI c8 (by omega), ?_⟩
      rw [c9, c5, c6]
      refine sk_emit h3 hi c1 c2 (fun x x1 x2 => ?_) rfl rfl (fun m' d5 d6 h' => nm_r (sk_s1 c7) (ih (c + 1) m' d5 d6 (by omega) (by omega) h'))
      show M a i x * v = 0
      rw [c4 x x1 x2, Int32.zero_mul]
theorem sk_scale23 (hR : sk_R a1 a2 a3 M) (ht : t < 5) (ha : a < 5) (H : sk_po (sk_set M t (sk_sc (M a) v)) (post (nI (sk_ps (sk_sc (M a) v) 6)))) :
    ∀ (n r : Nat) (m : Int32) (b4 b5 b6 : Nat → Int32), 6 < n + r → r ≤ 6 → sk_mk m b4 b5 b6 (sk_sc (M a) v) r 0 → wX_scale_23 post (nI t) (nI a) v n (nI r) m a1 a2 a3 b4 b5 b6 a7 := by
  intro n
  induction n with
  | zero => intro r m b4 b5 b6 h1 h2; omega
  | succ n ih =>
    intro r m b4 b5 b6 h1 h2 h3
    refine pk_le 6 r (fun z => ?_) (fun z => sk_from hR ha z ⟨7, ?_⟩)
    · have e : r = 6 := by omega
      subst e
      exact sk_store h3 hR ht (fun c1 c2 c3 h' => H _ _ _ _ _ _ _ _ h')
    · exact sk_scale39 hR ha z (fun m' c4 c5 c6 h' => ih (r + 1) m' c4 c5 c6 (by omega) (by omega) h') 7 0 m b5 b6 (by omega) (by omega) h3
theorem sk_scaleW (hR : sk_R a1 a2 a3 M) (ht : t < 5) (ha : a < 5) (H : sk_po (sk_set M t (sk_sc (M a) v)) (post (nI (sk_ps (sk_sc (M a) v) 6)))) : wpX_scale post (m, a1, a2, a3, a4, a5, a6, a7) (nI t) (nI a) v := by
  unfold wpX_scale
  dsimp only
  refine sk_slot1 ht (br_f (by decide) (sk_slot1 ha (br_f (by decide) (sk_begin (sk_sc (M a) v) (fun b4 h => ⟨7, ?_⟩)))))
  exact sk_scale23 hR ht ha H 7 0 0 b4 a5 a6 (by omega) (by omega) h
theorem sk_scaleN {p0 p1 : Int32} (hn : ¬ ∃ t a, t < 5 ∧ a < 5 ∧ p0 = nI t ∧ p1 = nI a) (H : post (-1) (m, a1, a2, a3, a4, a5, a6, a7)) : wpX_scale post (m, a1, a2, a3, a4, a5, a6, a7) p0 p1 v := by
  unfold wpX_scale
  dsimp only
  exact sk_slot (fun _ => br_t rfl H) (fun t ht e1 => br_f (by decide) (sk_slot (fun _ => br_t rfl H) (fun a ha e2 => absurd ⟨t, a, ht, ha, e1, e2⟩ hn)))
/-! transpose -/
theorem sk_transpose31 {x1 : Int32} (hR : sk_R a1 a2 a3 M) (ha : a < 5) (hj : j < 6) (HJ : ∀ m' b4 b5 b6, sk_mk m' b4 b5 b6 (sk_tr (M a)) (j + 1) 0 → J (nI (j + 1)) m' a1 a2 a3 b4 b5 b6 a7) :
    ∀ (n d : Nat) (m : Int32) (b5 b6 : Nat → Int32), 6 < n + d → d ≤ 6 → sk_mk m a4 b5 b6 (sk_tr (M a)) j d → wX_transpose_31 post J x1 (nI a) (nI j) n (nI d) m a1 a2 a3 a4 b5 b6 a7 := by
  intro n
  induction n with
  | zero => intro d m b5 b6 h1 h2; omega
  | succ n ih =>
    intro d m b5 b6 h1 h2 h3
    refine pk_le 6 d (fun z => ?_) (fun z => sk_find hR ha z hj (fun q hq hq3 hn => ?_) (fun h0 => ?_))
    · have e : d = 6 := by omega
      subst e
      exact sk_endRow h3 hj (fun b4 h' => nm_r (nI_1 j) (HJ m b4 b5 b6 h'))
    · refine br_f (nI_pos (by omega)) ⟨vp_in_nI hq (by omega), ?_⟩
      rw [nI_clamp (show q < 2 ^ 31 by omega), hq3]
      exact sk_emit h3 hj (Nat.le_refl d) z (fun x x1 x2 => absurd x1 (by omega)) rfl rfl (fun m' d5 d6 h' => nm_r (nI_1 d) (ih (d + 1) m' d5 d6 (by omega) (by omega) h'))
    · refine br_t (by decide) (nm_r (nI_1 d) (ih (d + 1) m b5 b6 (by omega) (by omega) (sk_mk_skip h3 (by omega) (fun x x1 x2 => ?_))))
      have e : x = d := by omega
      rw [e]
      exact h0
theorem sk_transpose22 (hR : sk_R a1 a2 a3 M) (ht : t < 5) (ha : a < 5) (H : sk_po (sk_set M t (sk_tr (M a))) (post (nI (sk_ps (sk_tr (M a)) 6)))) :
    ∀ (n r : Nat) (m : Int32) (b4 b5 b6 : Nat → Int32), 6 < n + r → r ≤ 6 → sk_mk m b4 b5 b6 (sk_tr (M a)) r 0 → wX_transpose_22 post (nI t) (nI a) n (nI r) m a1 a2 a3 b4 b5 b6 a7 := by
  intro n
  induction n with
  | zero => intro r m b4 b5 b6 h1 h2; omega
  | succ n ih =>
    intro r m b4 b5 b6 h1 h2 h3
    refine pk_le 6 r (fun z => ?_) (fun z => ⟨7, ?_⟩)
    · have e : r = 6 := by omega
      subst e
      exact sk_store h3 hR ht (fun c1 c2 c3 h' => H _ _ _ _ _ _ _ _ h')
    · exact sk_transpose31 hR ha z (fun m' c4 c5 c6 h' => ih (r + 1) m' c4 c5 c6 (by omega) (by omega) h') 7 0 m b5 b6 (by omega) (by omega) h3
theorem sk_transposeW (hR : sk_R a1 a2 a3 M) (ht : t < 5) (ha : a < 5) (H : sk_po (sk_set M t (sk_tr (M a))) (post (nI (sk_ps (sk_tr (M a)) 6)))) : wpX_transpose post (m, a1, a2, a3, a4, a5, a6, a7) (nI t) (nI a) := by
  unfold wpX_transpose
  dsimp only
  refine sk_slot1 ht (br_f (by decide) (sk_slot1 ha (br_f (by decide) (sk_begin (sk_tr (M a)) (fun b4 h => ⟨7, ?_⟩)))))
  exact sk_transpose22 hR ht ha H 7 0 0 b4 a5 a6 (by omega) (by omega) h
theorem sk_transposeN {p0 p1 : Int32} (hn : ¬ ∃ t a, t < 5 ∧ a < 5 ∧ p0 = nI t ∧ p1 = nI a) (H : post (-1) (m, a1, a2, a3, a4, a5, a6, a7)) : wpX_transpose post (m, a1, a2, a3, a4, a5, a6, a7) p0 p1 := by
  unfold wpX_transpose
  dsimp only
  exact sk_slot (fun _ => br_t rfl H) (fun t ht e1 => br_f (by decide) (sk_slot (fun _ => br_t rfl H) (fun a ha e2 => absurd ⟨t, a, ht, ha, e1, e2⟩ hn)))
/-! select -/
theorem sk_select124 {x1 x2 x3 : Int32} (h : sk_mk m a4 a5 a6 B i 6) (hi : i < 6) (HJ : ∀ m' b4 b5 b6, sk_mk m' b4 b5 b6 B (i + 1) 0 → J (nI (i + 1)) m' a1 a2 a3 b4 b5 b6 a7) : wX_select_124 post J x1 x2 x3 (nI i) m a1 a2 a3 a4 a5 a6 a7 := by
  unfold wX_select_124
  exact sk_endRow h hi (fun b4 h' => nm_r (nI_1 i) (HJ m b4 a5 a6 h'))
theorem sk_select66 {x1 x5 : Int32} (hR : sk_R a1 a2 a3 M) (ha : a < 5) (hi : i < 6) (hx0 : x5 = 0 → ((v >>> (nI i &&& 31)) &&& 1) = 0) (hx1 : ¬ x5 = 0 → ¬ ((v >>> (nI i &&& 31)) &&& 1) = 0) (HJ : ∀ m' b4 b5 b6, sk_mk m' b4 b5 b6 (sk_sel (M a) v) (i + 1) 0 → J (nI (i + 1)) m' a1 a2 a3 b4 b5 b6 a7) :
    ∀ (n d : Nat) (m : Int32) (b5 b6 : Nat → Int32), 6 < n + d → d ≤ 6 → sk_mk m a4 b5 b6 (sk_sel (M a) v) i d → wX_select_66 post J x1 (nI a) v (nI i) x5 n (nI (a * 36 + (sk_ps (M a) i + sk_rc (M a i) d))) m a1 a2 a3 a4 b5 b6 a7 := by
  have hz : ∀ x, M a i x = 0 → sk_sel (M a) v i x = 0 := by
    intro x hx
    unfold sk_sel
    rw [hx]
    split
    · rfl
    · split
      · rfl
      · rfl
  intro n
  induction n with
  | zero => intro d m b5 b6 h1 h2; omega
  | succ n ih =>
    intro d m b5 b6 h1 h2 h3
    unfold wX_select_66
    refine sk_upTo hR ha hi (sk_le (sk_bd _ ha hi (by omega)) (sk_bd _ ha hi h2) (fun z => sk_select124 (sk_mk_skip h3 h2 (fun x x1 x2 => ?_)) hi HJ) (fun z => br_c (fun g => sk_select124 (sk_mk_skip h3 h2 (fun x x1 x2 => ?_)) hi HJ) (fun g => ?_)))
    · exact hz x (sk_rc_end (a := M a i) (j := d) (n := 6) (by omega) x x1 x2)
    · exact if_pos (hx0 g)
    · obtain ⟨c, c1, c2, c3, c4, c5, c6, c7, c8, c9⟩ := sk_ent hR ha hi h2 (by omega)
      refine ⟨vp_in_nI c8 (by omega), ?_⟩
      rw [c9, c5, c6]
      refine br_c (fun w => nm_r (sk_s1 c7) (ih (c + 1) m b5 b6 (by omega) (by omega) (sk_mk_skip h3 (by omega) (fun x x1 x2 => ?_)))) (fun w => ⟨vp_in_nI c8 (by omega), vp_in_nI c8 (by omega), ?_⟩)
      · by_cases e : x = c
        · rw [e]
          unfold sk_sel
          rw [if_neg (hx1 g), if_pos w]
        · exact hz x (c4 x x1 (by omega))
      · refine sk_emit h3 hi c1 c2 (fun x x1 x2 => hz x (c4 x x1 x2)) rfl ?_ (fun m' d5 d6 h' => nm_r (sk_s1 c7) (ih (c + 1) m' d5 d6 (by omega) (by omega) h'))
        unfold sk_sel
        rw [if_neg (hx1 g), if_neg w]
theorem sk_select34 (hR : sk_R a1 a2 a3 M) (ht : t < 5) (ha : a < 5) (H : sk_po (sk_set M t (sk_sel (M a) v)) (post (nI (sk_ps (sk_sel (M a) v) 6)))) :
    ∀ (n r : Nat) (m : Int32) (b4 b5 b6 : Nat → Int32), 6 < n + r → r ≤ 6 → sk_mk m b4 b5 b6 (sk_sel (M a) v) r 0 → wX_select_34 post (nI t) (nI a) v n (nI r) m a1 a2 a3 b4 b5 b6 a7 := by
  intro n
  induction n with
  | zero => intro r m b4 b5 b6 h1 h2; omega
  | succ n ih =>
    intro r m b4 b5 b6 h1 h2 h3
    refine pk_le 6 r (fun z => ?_) (fun z => br_c (fun w => ?_) (fun w => ?_))
    · have e : r = 6 := by omega
      subst e
      exact sk_store h3 hR ht (fun c1 c2 c3 h' => H _ _ _ _ _ _ _ _ h')
    · unfold wX_select_55
      exact sk_from hR ha z ⟨7, sk_select66 hR ha z (fun _ => w) (fun g => absurd rfl g) (fun m' c4 c5 c6 h' => ih (r + 1) m' c4 c5 c6 (by omega) (by omega) h') 7 0 m b5 b6 (by omega) (by omega) h3⟩
    · unfold wX_select_55
      exact sk_from hR ha z ⟨7, sk_select66 hR ha z (fun g => absurd g (by decide)) (fun _ => w) (fun m' c4 c5 c6 h' => ih (r + 1) m' c4 c5 c6 (by omega) (by omega) h') 7 0 m b5 b6 (by omega) (by omega) h3⟩
theorem sk_selectW (hR : sk_R a1 a2 a3 M) (ht : t < 5) (ha : a < 5) (hv0 : ¬ v < 0) (hv1 : v ≤ 4095) (H : sk_po (sk_set M t (sk_sel (M a) v)) (post (nI (sk_ps (sk_sel (M a) v) 6)))) : wpX_select post (m, a1, a2, a3, a4, a5, a6, a7) (nI t) (nI a) v := by
  unfold wpX_select
  dsimp only
  refine sk_slot1 ht (br_f (by decide) (sk_slot1 ha (br_f (by decide) (br_f hv0 (br_t hv1 (sk_begin (sk_sel (M a) v) (fun b4 h => ⟨7, ?_⟩)))))))
  exact sk_select34 hR ht ha H 7 0 0 b4 a5 a6 (by omega) (by omega) h
theorem sk_selectN {p0 p1 : Int32} (hn : ¬ ∃ t a, t < 5 ∧ a < 5 ∧ p0 = nI t ∧ p1 = nI a ∧ ¬ v < 0 ∧ v ≤ 4095) (H : post (-1) (m, a1, a2, a3, a4, a5, a6, a7)) : wpX_select post (m, a1, a2, a3, a4, a5, a6, a7) p0 p1 v := by
  unfold wpX_select
  dsimp only
  exact sk_slot (fun _ => br_t rfl H) (fun t ht e1 => br_f (by decide) (sk_slot (fun _ => br_t rfl H) (fun a ha e2 => br_f (by decide) (br_c (fun _ => H) (fun h0 => br_c (fun h1 => absurd ⟨t, a, ht, ha, e1, e2, h0, h1⟩ hn) (fun _ => H))))))
end
end
section
/-! ===== operations of two and three matrices ===== -/
def sk_sum (A B : Nat → Nat → Int32) : Nat → Nat → Int32 := fun r c => A r c + B r c
def sk_had (A B : Nat → Nat → Int32) : Nat → Nat → Int32 := fun r c => A r c * B r c
def sk_prd (A B : Nat → Nat → Int32) : Nat → Nat → Int32 := fun r c => sk_dot (fun k => A r k * B k c) 6
def sk_msk (A B C : Nat → Nat → Int32) : Nat → Nat → Int32 := fun r c => if C r c = 0 then 0 else sk_prd A B r c
/-- the next entry from column j on, or 6 -/
theorem sk_ent6 {a1 a2 a3 : Nat → Int32} {M : Nat → Nat → Nat → Int32} {s i j : Nat} (hR : sk_R a1 a2 a3 M) (hs : s < 5) (hi : i < 6) (hj : j ≤ 6) :
    ∃ c, j ≤ c ∧ c ≤ 6 ∧ (∀ d, j ≤ d → d < c → M s i d = 0) ∧ ((c < 6 ∧ sk_rc (M s i) j < sk_rc (M s i) 6 ∧ a2 (s * 36 + (sk_ps (M s) i + sk_rc (M s i) j)) = nI c ∧ a3 (s * 36 + (sk_ps (M s) i + sk_rc (M s i) j)) = M s i c ∧ sk_rc (M s i) (c + 1) = sk_rc (M s i) j + 1 ∧ s * 36 + (sk_ps (M s) i + sk_rc (M s i) j) < 180 ∧ (nI (s * 36 + (sk_ps (M s) i + sk_rc (M s i) j))).toNatClampNeg = s * 36 + (sk_ps (M s) i + sk_rc (M s i) j)) ∨ (c = 6 ∧ sk_rc (M s i) 6 ≤ sk_rc (M s i) j)) := by
  by_cases h : sk_rc (M s i) j < sk_rc (M s i) 6
  · obtain ⟨c, c1, c2, c3, c4, c5, c6, c7, c8, c9⟩ := sk_ent hR hs hi hj h
    exact ⟨c, c1, by omega, c4, Or.inl ⟨c2, h, c5, c6, c7, c8, c9⟩⟩
  · exact ⟨6, hj, by omega, sk_rc_end (by omega), Or.inr ⟨rfl, by omega⟩⟩
section
variable {m : Int32} {a1 a2 a3 a4 a5 a6 a7 : Nat → Int32} {M : Nat → Nat → Nat → Int32} {a b i : Nat} {post : St1 → Prop}
/-! mergeRow -/
theorem sk_merge46 {J : Int32 → Int32 → Int32 → (Nat → Int32) → (Nat → Int32) → (Nat → Int32) → (Nat → Int32) → (Nat → Int32) → (Nat → Int32) → (Nat → Int32) → Prop} {c0 : Nat}
    (hR : sk_R a1 a2 a3 M) (ha : a < 5) (hb : b < 5) (hi : i < 6) (hc0 : c0 ≤ 6) (hex : sk_rc (M a i) c0 < sk_rc (M a i) 6 ∨ sk_rc (M b i) c0 < sk_rc (M b i) 6) (h : sk_mk m a4 a5 a6 (sk_sum (M a) (M b)) i c0)
    (HJ : ∀ (l : Nat) (m' : Int32) (b5 b6 : Nat → Int32), c0 ≤ l → l < 6 → sk_mk m' a4 b5 b6 (sk_sum (M a) (M b)) i (l + 1) → J (nI (a * 36 + (sk_ps (M a) i + sk_rc (M a i) (l + 1)))) (nI (b * 36 + (sk_ps (M b) i + sk_rc (M b i) (l + 1)))) m' a1 a2 a3 a4 b5 b6 a7) :
    wX_mergeRow_46 post J (nI (a * 36 + (sk_ps (M a) i + sk_rc (M a i) c0))) (nI (b * 36 + (sk_ps (M b) i + sk_rc (M b i) c0))) (nI (a * 36 + (sk_ps (M a) i + sk_rc (M a i) 6))) (nI (b * 36 + (sk_ps (M b) i + sk_rc (M b i) 6))) m a1 a2 a3 a4 a5 a6 a7 := by
  obtain ⟨ca, p1, p2, p3, p4⟩ := sk_ent6 hR ha hi hc0
  obtain ⟨cb, q1, q2, q3, q4⟩ := sk_ent6 hR hb hi hc0
  have S151 : ∀ l, c0 ≤ l → l < 6 → l ≤ ca → l ≤ cb → wX_mergeRow_151 post J (nI (a * 36 + (sk_ps (M a) i + sk_rc (M a i) (l + 1)))) (nI (b * 36 + (sk_ps (M b) i + sk_rc (M b i) (l + 1)))) (nI (a * 36 + (sk_ps (M a) i + sk_rc (M a i) 6))) (nI (b * 36 + (sk_ps (M b) i + sk_rc (M b i) 6))) (nI l) (M a i l + M b i l) m a1 a2 a3 a4 a5 a6 a7 := by
    intro l l1 l2 l3 l4
    unfold wX_mergeRow_151
    refine sk_emit h hi l1 l2 (fun d d1 d2 => ?_) rfl rfl (fun m' b5 b6 h' => HJ l m' b5 b6 l1 l2 h')
    show M a i d + M b i d = 0
    rw [p3 d d1 (by omega), q3 d d1 (by omega)]
    rfl
  have S129 : ∀ l, c0 ≤ l → l < 6 → l ≤ ca → l ≤ cb → wX_mergeRow_129 post J (nI (a * 36 + (sk_ps (M a) i + sk_rc (M a i) (l + 1)))) (nI (b * 36 + (sk_ps (M b) i + sk_rc (M b i) c0))) (nI (a * 36 + (sk_ps (M a) i + sk_rc (M a i) 6))) (nI (b * 36 + (sk_ps (M b) i + sk_rc (M b i) 6))) (nI cb) (nI l) (M a i l) m a1 a2 a3 a4 a5 a6 a7 := by
    intro l l1 l2 l3 l4
    have S := S151 l l1 l2 l3 l4
    unfold wX_mergeRow_129
    refine sk_eq (by omega) (by omega) (fun g => ?_) (fun g => ?_)
    · rcases q4 with ⟨g1, g2, g3, g4, g5, g6, g7⟩ | ⟨g1, g2⟩
      · rw [g7, g4, g]
        rw [g] at g5
        exact ⟨vp_in_nI g6 (by omega), nm_e (nm_r (sk_s1 g5) S)⟩
      · exact absurd g1 (by omega)
    · have e1 : M b i l = 0 := q3 l l1 (by omega)
      have e2 : sk_rc (M b i) (l + 1) = sk_rc (M b i) c0 := sk_rc_skip (by omega) (fun d d1 d2 => q3 d d1 (by omega))
      rw [e1, e2, Int32.add_zero] at S
      exact S
  have S102 : ∀ l, c0 ≤ l → l < 6 → l ≤ ca → l ≤ cb → wX_mergeRow_102 post J (nI (a * 36 + (sk_ps (M a) i + sk_rc (M a i) c0))) (nI (b * 36 + (sk_ps (M b) i + sk_rc (M b i) c0))) (nI (a * 36 + (sk_ps (M a) i + sk_rc (M a i) 6))) (nI (b * 36 + (sk_ps (M b) i + sk_rc (M b i) 6))) (nI ca) (nI cb) (nI l) m a1 a2 a3 a4 a5 a6 a7 := by
    intro l l1 l2 l3 l4
    have S := S129 l l1 l2 l3 l4
    unfold wX_mergeRow_102
    refine sk_eq (by omega) (by omega) (fun g => ?_) (fun g => ?_)
    · rcases p4 with ⟨g1, g2, g3, g4, g5, g6, g7⟩ | ⟨g1, g2⟩
      · rw [g7, g4, g, Int32.zero_add]
        rw [g] at g5
        exact ⟨vp_in_nI g6 (by omega), nm_e (nm_r (sk_s1 g5) S)⟩
      · exact absurd g1 (by omega)
    · have e1 : M a i l = 0 := p3 l l1 (by omega)
      have e2 : sk_rc (M a i) (l + 1) = sk_rc (M a i) c0 := sk_rc_skip (by omega) (fun d d1 d2 => p3 d d1 (by omega))
      rw [e1, e2] at S
      exact S
  have hl : ca < 6 ∨ cb < 6 := by
    rcases p4 with g | g
    · exact Or.inl g.1
    · rcases q4 with g' | g'
      · exact Or.inr g'.1
      · rcases hex with w | w
        · exact absurd w (by omega)
        · exact absurd w (by omega)
  have S86 : wX_mergeRow_86 post J (nI (a * 36 + (sk_ps (M a) i + sk_rc (M a i) c0))) (nI (b * 36 + (sk_ps (M b) i + sk_rc (M b i) c0))) (nI (a * 36 + (sk_ps (M a) i + sk_rc (M a i) 6))) (nI (b * 36 + (sk_ps (M b) i + sk_rc (M b i) 6))) (nI ca) (nI cb) m a1 a2 a3 a4 a5 a6 a7 := by
    unfold wX_mergeRow_86
    exact sk_le (by omega) (by omega) (fun g => S102 cb q1 (by omega) g (Nat.le_refl cb)) (fun g => S102 ca p1 (by omega) (Nat.le_refl ca) (by omega))
  have S65 : wX_mergeRow_65 post J (nI (a * 36 + (sk_ps (M a) i + sk_rc (M a i) c0))) (nI (b * 36 + (sk_ps (M b) i + sk_rc (M b i) c0))) (nI (a * 36 + (sk_ps (M a) i + sk_rc (M a i) 6))) (nI (b * 36 + (sk_ps (M b) i + sk_rc (M b i) 6))) (nI ca) m a1 a2 a3 a4 a5 a6 a7 := by
    unfold wX_mergeRow_65
    rcases q4 with ⟨g1, g2, g3, g4, g5, g6, g7⟩ | ⟨g1, g2⟩
    · rw [g7, g3]
      exact sk_le (sk_bd _ hb hi (by omega)) (sk_bd _ hb hi hc0) (fun z => absurd z (by omega)) (fun z => ⟨vp_in_nI g6 (by omega), S86⟩)
    · subst g1
      exact sk_le (sk_bd _ hb hi (by omega)) (sk_bd _ hb hi hc0) (fun z => S86) (fun z => absurd z (by omega))
  unfold wX_mergeRow_46
  rcases p4 with ⟨g1, g2, g3, g4, g5, g6, g7⟩ | ⟨g1, g2⟩
  · rw [g7, g3]
    exact sk_le (sk_bd _ ha hi (by omega)) (sk_bd _ ha hi hc0) (fun z => absurd z (by omega)) (fun z => ⟨vp_in_nI g6 (by omega), S65⟩)
  · subst g1
    exact sk_le (sk_bd _ ha hi (by omega)) (sk_bd _ ha hi hc0) (fun z => S65) (fun z => absurd z (by omega))
theorem sk_merge32 (hR : sk_R a1 a2 a3 M) (ha : a < 5) (hb : b < 5) (hi : i < 6) (H : ∀ m' b5 b6, sk_mk m' a4 b5 b6 (sk_sum (M a) (M b)) i 6 → post (m', a1, a2, a3, a4, b5, b6, a7)) :
    ∀ (n c0 : Nat) (m : Int32) (b5 b6 : Nat → Int32), 6 < n + c0 → c0 ≤ 6 → sk_mk m a4 b5 b6 (sk_sum (M a) (M b)) i c0 →
      wX_mergeRow_32 post (nI (a * 36 + (sk_ps (M a) i + sk_rc (M a i) 6))) (nI (b * 36 + (sk_ps (M b) i + sk_rc (M b i) 6))) n (nI (a * 36 + (sk_ps (M a) i + sk_rc (M a i) c0))) (nI (b * 36 + (sk_ps (M b) i + sk_rc (M b i) c0))) m a1 a2 a3 a4 b5 b6 a7 := by
  intro n
  induction n with
  | zero => intro c0 m b5 b6 h1 h2; omega
  | succ n ih =>
    intro c0 m b5 b6 h1 h2 h3
    have HJ : ∀ (l : Nat) (m' : Int32) (b5 b6 : Nat → Int32), c0 ≤ l → l < 6 → sk_mk m' a4 b5 b6 (sk_sum (M a) (M b)) i (l + 1) → wX_mergeRow_32 post (nI (a * 36 + (sk_ps (M a) i + sk_rc (M a i) 6))) (nI (b * 36 + (sk_ps (M b) i + sk_rc (M b i) 6))) n (nI (a * 36 + (sk_ps (M a) i + sk_rc (M a i) (l + 1)))) (nI (b * 36 + (sk_ps (M b) i + sk_rc (M b i) (l + 1)))) m' a1 a2 a3 a4 b5 b6 a7 :=
      fun l m' b5 b6 l1 l2 h' => ih (l + 1) m' b5 b6 (by omega) (by omega) h'
    unfold wX_mergeRow_32
    refine sk_lt (sk_bd _ ha hi h2) (sk_bd _ ha hi (by omega)) (fun z => ?_) (fun z => sk_le (sk_bd _ hb hi (by omega)) (sk_bd _ hb hi h2) (fun z2 => H _ _ _ (sk_mk_skip h3 h2 (fun d d1 d2 => ?_))) (fun z2 => ?_))
    · exact sk_merge46 hR ha hb hi h2 (Or.inl (by omega)) h3 HJ
    · show M a i d + M b i d = 0
      rw [sk_rc_end (a := M a i) (j := c0) (n := 6) (by omega) d d1 d2, sk_rc_end (a := M b i) (j := c0) (n := 6) (by omega) d d1 d2]
      rfl
    · exact sk_merge46 hR ha hb hi h2 (Or.inr (by omega)) h3 HJ
theorem sk_mergeRow (hR : sk_R a1 a2 a3 M) (ha : a < 5) (hb : b < 5) (hi : i < 6) (h : sk_mk m a4 a5 a6 (sk_sum (M a) (M b)) i 0) (H : ∀ m' b5 b6, sk_mk m' a4 b5 b6 (sk_sum (M a) (M b)) i 6 → post (m', a1, a2, a3, a4, b5, b6, a7)) : wpX_mergeRow post (m, a1, a2, a3, a4, a5, a6, a7) (nI a) (nI b) (nI i) := by
  unfold wpX_mergeRow
  dsimp only
  exact sk_from hR ha hi (sk_from hR hb hi (sk_upTo hR ha hi (sk_upTo hR hb hi ⟨7, sk_merge32 hR ha hb hi H 7 0 m a5 a6 (by omega) (by omega) h⟩)))
/-! crossRow -/
theorem sk_cross32 (hR : sk_R a1 a2 a3 M) (ha : a < 5) (hb : b < 5) (hi : i < 6) (H : ∀ m' b5 b6, sk_mk m' a4 b5 b6 (sk_had (M a) (M b)) i 6 → post (m', a1, a2, a3, a4, b5, b6, a7)) :
    ∀ (n c0 : Nat) (m : Int32) (b5 b6 : Nat → Int32), 6 < n + c0 → c0 ≤ 6 → sk_mk m a4 b5 b6 (sk_had (M a) (M b)) i c0 →
      wX_crossRow_32 post (nI (a * 36 + (sk_ps (M a) i + sk_rc (M a i) 6))) (nI (b * 36 + (sk_ps (M b) i + sk_rc (M b i) 6))) n (nI (a * 36 + (sk_ps (M a) i + sk_rc (M a i) c0))) (nI (b * 36 + (sk_ps (M b) i + sk_rc (M b i) c0))) m a1 a2 a3 a4 b5 b6 a7 := by
  have ea : ∀ d, M a i d = 0 → sk_had (M a) (M b) i d = 0 := by
    intro d hd
    show M a i d * M b i d = 0
    rw [hd, Int32.zero_mul]
  have eb : ∀ d, M b i d = 0 → sk_had (M a) (M b) i d = 0 := by
    intro d hd
    show M a i d * M b i d = 0
    rw [hd, Int32.mul_zero]
  intro n
  induction n with
  | zero => intro c0 m b5 b6 h1 h2; omega
  | succ n ih =>
    intro c0 m b5 b6 h1 h2 h3
    unfold wX_crossRow_32
    refine sk_le (sk_bd _ ha hi (by omega)) (sk_bd _ ha hi h2) (fun z => H _ _ _ (sk_mk_skip h3 h2 (fun d d1 d2 => ea d (sk_rc_end (a := M a i) (j := c0) (n := 6) (by omega) d d1 d2)))) (fun z => sk_le (sk_bd _ hb hi (by omega)) (sk_bd _ hb hi h2) (fun z2 => H _ _ _ (sk_mk_skip h3 h2 (fun d d1 d2 => eb d (sk_rc_end (a := M b i) (j := c0) (n := 6) (by omega) d d1 d2)))) (fun z2 => ?_))
    obtain ⟨c, c1, c2, c3, c4, c5, c6, c7, c8, c9⟩ := sk_ent hR ha hi h2 (by omega)
    obtain ⟨e, e1, e2, e3, e4, e5, e6, e7, e8, e9⟩ := sk_ent hR hb hi h2 (by omega)
    refine ⟨vp_in_nI c8 (by omega), vp_in_nI e8 (by omega), ?_⟩
    rw [c9, e9, c5, e5, c6, e6]
    refine sk_eq (by omega) (by omega) (fun g => ⟨vp_in_nI c8 (by omega), vp_in_nI c8 (by omega), vp_in_nI e8 (by omega), ?_⟩) (fun g => ⟨vp_in_nI c8 (by omega), vp_in_nI e8 (by omega), sk_le (by omega) (by omega) (fun g2 => ?_) (fun g2 => ?_)⟩)
    · subst g
      exact sk_emit h3 hi c1 c2 (fun d d1 d2 => ea d (c4 d d1 d2)) rfl rfl (fun m' d5 d6 h' => nm_r (sk_s1 c7) (nm_r (sk_s1 e7) (ih (c + 1) m' d5 d6 (by omega) (by omega) h')))
    · have w := ih (e + 1) m b5 b6 (by omega) (by omega) (sk_mk_skip h3 (by omega) (fun d d1 d2 => ea d (c4 d d1 (by omega))))
      have w2 : sk_rc (M a i) (e + 1) = sk_rc (M a i) c0 := sk_rc_skip (by omega) (fun d d1 d2 => c4 d d1 (by omega))
      rw [w2] at w
      exact nm_r (sk_s1 e7) w
    · have w := ih (c + 1) m b5 b6 (by omega) (by omega) (sk_mk_skip h3 (by omega) (fun d d1 d2 => eb d (e4 d d1 (by omega))))
      have w2 : sk_rc (M b i) (c + 1) = sk_rc (M b i) c0 := sk_rc_skip (by omega) (fun d d1 d2 => e4 d d1 (by omega))
      rw [w2] at w
      exact nm_r (sk_s1 c7) w
theorem sk_crossRow (hR : sk_R a1 a2 a3 M) (ha : a < 5) (hb : b < 5) (hi : i < 6) (h : sk_mk m a4 a5 a6 (sk_had (M a) (M b)) i 0) (H : ∀ m' b5 b6, sk_mk m' a4 b5 b6 (sk_had (M a) (M b)) i 6 → post (m', a1, a2, a3, a4, b5, b6, a7)) : wpX_crossRow post (m, a1, a2, a3, a4, a5, a6, a7) (nI a) (nI b) (nI i) := by
  unfold wpX_crossRow
  dsimp only
  exact sk_from hR ha hi (sk_from hR hb hi (sk_upTo hR ha hi (sk_upTo hR hb hi ⟨7, sk_cross32 hR ha hb hi H 7 0 m a5 a6 (by omega) (by omega) h⟩)))
/-! productRow -/
theorem sk_prow41 {J : Int32 → (Nat → Int32) → (Nat → Int32) → (Nat → Int32) → (Nat → Int32) → (Nat → Int32) → (Nat → Int32) → (Nat → Int32) → Prop} {k d : Nat} {v x1 x3 : Int32} {F : Nat → Int32} (hR : sk_R a1 a2 a3 M) (hb : b < 5) (hd : d < 6) (hk : k < 180) (e3 : a3 k = v)
    (HJ : ∀ b7, (∀ c, c < 6 → b7 c = F c + v * M b d c) → J (nI (k + 1)) a1 a2 a3 a4 a5 a6 b7) :
    ∀ (n c0 : Nat) (b7 : Nat → Int32), 6 < n + c0 → c0 ≤ 6 → (∀ c, c < c0 → b7 c = F c + v * M b d c) → (∀ c, c0 ≤ c → c < 6 → b7 c = F c) → wX_productRow_41 post J x1 (nI b) x3 (nI k) (nI d) m n (nI (b * 36 + (sk_ps (M b) d + sk_rc (M b d) c0))) a1 a2 a3 a4 a5 a6 b7 := by
  have hkc : (nI k).toNatClampNeg = k := nI_clamp (by omega)
  intro n
  induction n with
  | zero => intro c0 b7 h1 h2; omega
  | succ n ih =>
    intro c0 b7 h1 h2 h3 h4
    unfold wX_productRow_41
    refine sk_upTo hR hb hd (sk_le (sk_bd _ hb hd (by omega)) (sk_bd _ hb hd h2) (fun z => nm_r (nI_1 k) (HJ b7 (fun c hc => ?_))) (fun z => ?_))
    · by_cases w : c < c0
      · exact h3 c w
      · rw [h4 c (by omega) hc, sk_rc_end (a := M b d) (j := c0) (n := 6) (by omega) c (by omega) hc, Int32.mul_zero, Int32.add_zero]
    · obtain ⟨c, c1, c2, c3, c4, c5, c6, c7, c8, c9⟩ := sk_ent hR hb hd h2 (by omega)
      rw [c9, hkc, c5, c6, e3, nI_clamp (show c < 2 ^ 31 by omega)]
      refine ⟨vp_in_nI c8 (by omega), vp_in_nI c2 (by omega), vp_in_nI hk (by omega), vp_in_nI c8 (by omega), vp_in_nI c2 (by omega), nm_e (nm_r (sk_s1 c7) (ih (c + 1) _ (by omega) (by omega) (fun x hx => ?_) (fun x h5 h6 => ?_)))⟩
      · by_cases w : x = c
        · rw [w, pk_us, h4 c c1 c2]
        · rw [pk_un w]
          by_cases f : x < c0
          · exact h3 x f
          · rw [h4 x (by omega) (by omega), c4 x (by omega) (by omega), Int32.mul_zero, Int32.add_zero]
      · rw [pk_un (show x ≠ c by omega)]
        exact h4 x (by omega) h6
theorem sk_prow12 (hR : sk_R a1 a2 a3 M) (ha : a < 5) (hb : b < 5) (hi : i < 6) (H : ∀ b7, (∀ c, c < 6 → b7 c = sk_prd (M a) (M b) i c) → post (m, a1, a2, a3, a4, a5, a6, b7)) :
    ∀ (n c0 : Nat) (b7 : Nat → Int32), 6 < n + c0 → c0 ≤ 6 → (∀ c, c < 6 → b7 c = sk_dot (fun k => M a i k * M b k c) c0) → wX_productRow_12 post (nI a) (nI b) (nI i) m n (nI (a * 36 + (sk_ps (M a) i + sk_rc (M a i) c0))) a1 a2 a3 a4 a5 a6 b7 := by
  intro n
  induction n with
  | zero => intro c0 b7 h1 h2; omega
  | succ n ih =>
    intro c0 b7 h1 h2 h3
    unfold wX_productRow_12
    refine sk_upTo hR ha hi (sk_le (sk_bd _ ha hi (by omega)) (sk_bd _ ha hi h2) (fun z => H b7 (fun c hc => ?_)) (fun z => ?_))
    · rw [h3 c hc]
      refine (sk_dot_skip (f := fun k => M a i k * M b k c) h2 (fun d d1 d2 => ?_)).symm
      show M a i d * M b d c = 0
      rw [sk_rc_end (a := M a i) (j := c0) (n := 6) (by omega) d d1 d2, Int32.zero_mul]
    · obtain ⟨e, c1, c2, c3, c4, c5, c6, c7, c8, c9⟩ := sk_ent hR ha hi h2 (by omega)
      refine ⟨vp_in_nI c8 (by omega), nm_r (by rw [c9, c5]) (sk_from hR hb c2 ⟨7, ?_⟩)⟩
      refine sk_prow41 (F := fun c => sk_dot (fun k => M a i k * M b k c) c0) hR hb c2 c8 c6 (fun b7' h7 => ?_) 7 0 b7 (by omega) (by omega) (fun c hc => absurd hc (by omega)) (fun c _ hc => h3 c hc)
      have w := ih (e + 1) b7' (by omega) (by omega) (fun c hc => by
        rw [h7 c hc, sk_dot_s, sk_dot_skip (f := fun k => M a i k * M b k c) c1 (fun d d1 d2 => by
          show M a i d * M b d c = 0
          rw [c4 d d1 d2, Int32.zero_mul])])
      rw [c7] at w
      exact w
theorem sk_productRow (hR : sk_R a1 a2 a3 M) (ha : a < 5) (hb : b < 5) (hi : i < 6) (H : ∀ b7, (∀ c, c < 6 → b7 c = sk_prd (M a) (M b) i c) → post (m, a1, a2, a3, a4, a5, a6, b7)) : wpX_productRow post (m, a1, a2, a3, a4, a5, a6, a7) (nI a) (nI b) (nI i) := by
  unfold wpX_productRow
  dsimp only
  exact sk_clear (fun b7 h7 => sk_from hR ha hi ⟨7, sk_prow12 hR ha hb hi H 7 0 b7 (by omega) (by omega) h7⟩)
end
end
section
section
variable {m : Int32} {a1 a2 a3 a4 a5 a6 a7 : Nat → Int32} {M : Nat → Nat → Nat → Int32} {a b c t i : Nat} {post : Int32 → St1 → Prop}
/-! add -/
theorem sk_add30 (hR : sk_R a1 a2 a3 M) (ht : t < 5) (ha : a < 5) (hb : b < 5) (H : sk_po (sk_set M t (sk_sum (M a) (M b))) (post (nI (sk_ps (sk_sum (M a) (M b)) 6)))) :
    ∀ (n r : Nat) (m : Int32) (b4 b5 b6 : Nat → Int32), 6 < n + r → r ≤ 6 → sk_mk m b4 b5 b6 (sk_sum (M a) (M b)) r 0 → wX_add_30 post (nI t) (nI a) (nI b) n (nI r) m a1 a2 a3 b4 b5 b6 a7 := by
  intro n
  induction n with
  | zero => intro r m b4 b5 b6 h1 h2; omega
  | succ n ih =>
    intro r m b4 b5 b6 h1 h2 h3
    refine pk_le 6 r (fun z => ?_) (fun z => sk_mergeRow hR ha hb z h3 (fun m' c5 c6 h' => sk_endRow h' z (fun c4 h2 => nm_r (nI_1 r) (ih (r + 1) m' c4 c5 c6 (by omega) (by omega) h2))))
    have e : r = 6 := by omega
    subst e
    exact sk_store h3 hR ht (fun c1 c2 c3 h' => H _ _ _ _ _ _ _ _ h')
theorem sk_addW (hR : sk_R a1 a2 a3 M) (ht : t < 5) (ha : a < 5) (hb : b < 5) (H : sk_po (sk_set M t (sk_sum (M a) (M b))) (post (nI (sk_ps (sk_sum (M a) (M b)) 6)))) : wpX_add post (m, a1, a2, a3, a4, a5, a6, a7) (nI t) (nI a) (nI b) := by
  unfold wpX_add
  dsimp only
  refine sk_slot1 ht (br_f (by decide) (sk_slot1 ha (br_f (by decide) (sk_slot1 hb (br_f (by decide) (sk_begin (sk_sum (M a) (M b)) (fun b4 h => ⟨7, ?_⟩)))))))
  exact sk_add30 hR ht ha hb H 7 0 0 b4 a5 a6 (by omega) (by omega) h
theorem sk_addN {p0 p1 p2 : Int32} (hn : ¬ ∃ t a b, t < 5 ∧ a < 5 ∧ b < 5 ∧ p0 = nI t ∧ p1 = nI a ∧ p2 = nI b) (H : post (-1) (m, a1, a2, a3, a4, a5, a6, a7)) : wpX_add post (m, a1, a2, a3, a4, a5, a6, a7) p0 p1 p2 := by
  unfold wpX_add
  dsimp only
  exact sk_slot (fun _ => br_t rfl H) (fun t ht e1 => br_f (by decide) (sk_slot (fun _ => br_t rfl H) (fun a ha e2 => br_f (by decide) (sk_slot (fun _ => br_t rfl H) (fun b hb e3 => absurd ⟨t, a, b, ht, ha, hb, e1, e2, e3⟩ hn)))))
/-! entrywise -/
theorem sk_ent30 (hR : sk_R a1 a2 a3 M) (ht : t < 5) (ha : a < 5) (hb : b < 5) (H : sk_po (sk_set M t (sk_had (M a) (M b))) (post (nI (sk_ps (sk_had (M a) (M b)) 6)))) :
    ∀ (n r : Nat) (m : Int32) (b4 b5 b6 : Nat → Int32), 6 < n + r → r ≤ 6 → sk_mk m b4 b5 b6 (sk_had (M a) (M b)) r 0 → wX_entrywise_30 post (nI t) (nI a) (nI b) n (nI r) m a1 a2 a3 b4 b5 b6 a7 := by
  intro n
  induction n with
  | zero => intro r m b4 b5 b6 h1 h2; omega
  | succ n ih =>
    intro r m b4 b5 b6 h1 h2 h3
    refine pk_le 6 r (fun z => ?_) (fun z => sk_crossRow hR ha hb z h3 (fun m' c5 c6 h' => sk_endRow h' z (fun c4 h2 => nm_r (nI_1 r) (ih (r + 1) m' c4 c5 c6 (by omega) (by omega) h2))))
    have e : r = 6 := by omega
    subst e
    exact sk_store h3 hR ht (fun c1 c2 c3 h' => H _ _ _ _ _ _ _ _ h')
theorem sk_entW (hR : sk_R a1 a2 a3 M) (ht : t < 5) (ha : a < 5) (hb : b < 5) (H : sk_po (sk_set M t (sk_had (M a) (M b))) (post (nI (sk_ps (sk_had (M a) (M b)) 6)))) : wpX_entrywise post (m, a1, a2, a3, a4, a5, a6, a7) (nI t) (nI a) (nI b) := by
  unfold wpX_entrywise
  dsimp only
  refine sk_slot1 ht (br_f (by decide) (sk_slot1 ha (br_f (by decide) (sk_slot1 hb (br_f (by decide) (sk_begin (sk_had (M a) (M b)) (fun b4 h => ⟨7, ?_⟩)))))))
  exact sk_ent30 hR ht ha hb H 7 0 0 b4 a5 a6 (by omega) (by omega) h
theorem sk_entN {p0 p1 p2 : Int32} (hn : ¬ ∃ t a b, t < 5 ∧ a < 5 ∧ b < 5 ∧ p0 = nI t ∧ p1 = nI a ∧ p2 = nI b) (H : post (-1) (m, a1, a2, a3, a4, a5, a6, a7)) : wpX_entrywise post (m, a1, a2, a3, a4, a5, a6, a7) p0 p1 p2 := by
  unfold wpX_entrywise
  dsimp only
  exact sk_slot (fun _ => br_t rfl H) (fun t ht e1 => br_f (by decide) (sk_slot (fun _ => br_t rfl H) (fun a ha e2 => br_f (by decide) (sk_slot (fun _ => br_t rfl H) (fun b hb e3 => absurd ⟨t, a, b, ht, ha, hb, e1, e2, e3⟩ hn)))))
/-! product -/
theorem sk_product30 (hR : sk_R a1 a2 a3 M) (ht : t < 5) (ha : a < 5) (hb : b < 5) (H : sk_po (sk_set M t (sk_prd (M a) (M b))) (post (nI (sk_ps (sk_prd (M a) (M b)) 6)))) :
    ∀ (n r : Nat) (m : Int32) (b4 b5 b6 b7 : Nat → Int32), 6 < n + r → r ≤ 6 → sk_mk m b4 b5 b6 (sk_prd (M a) (M b)) r 0 → wX_product_30 post (nI t) (nI a) (nI b) n (nI r) m a1 a2 a3 b4 b5 b6 b7 := by
  intro n
  induction n with
  | zero => intro r m b4 b5 b6 b7 h1 h2; omega
  | succ n ih =>
    intro r m b4 b5 b6 b7 h1 h2 h3
    refine pk_le 6 r (fun z => ?_) (fun z => sk_productRow hR ha hb z (fun c7 h7 => sk_emitWork h3 z h7 (fun m' c5 c6 h' => sk_endRow h' z (fun c4 h2 => nm_r (nI_1 r) (ih (r + 1) m' c4 c5 c6 c7 (by omega) (by omega) h2)))))
    have e : r = 6 := by omega
    subst e
    exact sk_store h3 hR ht (fun c1 c2 c3 h' => H _ _ _ _ _ _ _ _ h')
theorem sk_productW (hR : sk_R a1 a2 a3 M) (ht : t < 5) (ha : a < 5) (hb : b < 5) (H : sk_po (sk_set M t (sk_prd (M a) (M b))) (post (nI (sk_ps (sk_prd (M a) (M b)) 6)))) : wpX_product post (m, a1, a2, a3, a4, a5, a6, a7) (nI t) (nI a) (nI b) := by
  unfold wpX_product
  dsimp only
  refine sk_slot1 ht (br_f (by decide) (sk_slot1 ha (br_f (by decide) (sk_slot1 hb (br_f (by decide) (sk_begin (sk_prd (M a) (M b)) (fun b4 h => ⟨7, ?_⟩)))))))
  exact sk_product30 hR ht ha hb H 7 0 0 b4 a5 a6 a7 (by omega) (by omega) h
theorem sk_productN {p0 p1 p2 : Int32} (hn : ¬ ∃ t a b, t < 5 ∧ a < 5 ∧ b < 5 ∧ p0 = nI t ∧ p1 = nI a ∧ p2 = nI b) (H : post (-1) (m, a1, a2, a3, a4, a5, a6, a7)) : wpX_product post (m, a1, a2, a3, a4, a5, a6, a7) p0 p1 p2 := by
  unfold wpX_product
  dsimp only
  exact sk_slot (fun _ => br_t rfl H) (fun t ht e1 => br_f (by decide) (sk_slot (fun _ => br_t rfl H) (fun a ha e2 => br_f (by decide) (sk_slot (fun _ => br_t rfl H) (fun b hb e3 => absurd ⟨t, a, b, ht, ha, hb, e1, e2, e3⟩ hn)))))
/-! masked -/
theorem sk_masked84 {J : Int32 → Int32 → (Nat → Int32) → (Nat → Int32) → (Nat → Int32) → (Nat → Int32) → (Nat → Int32) → (Nat → Int32) → (Nat → Int32) → Prop} {x1 x3 x4 : Int32} (hR : sk_R a1 a2 a3 M) (hc : c < 5) (hi : i < 6) (hw : ∀ d, d < 6 → a7 d = sk_prd (M a) (M b) i d)
    (HJ : ∀ m' b4 b5 b6, sk_mk m' b4 b5 b6 (sk_msk (M a) (M b) (M c)) (i + 1) 0 → J (nI (i + 1)) m' a1 a2 a3 b4 b5 b6 a7) :
    ∀ (n d : Nat) (m : Int32) (b5 b6 : Nat → Int32), 6 < n + d → d ≤ 6 → sk_mk m a4 b5 b6 (sk_msk (M a) (M b) (M c)) i d → wX_masked_84 post J x1 x3 x4 (nI c) (nI i) n (nI (c * 36 + (sk_ps (M c) i + sk_rc (M c i) d))) m a1 a2 a3 a4 b5 b6 a7 := by
  have hz : ∀ x, M c i x = 0 → sk_msk (M a) (M b) (M c) i x = 0 := fun x hx => if_pos hx
  intro n
  induction n with
  | zero => intro d m b5 b6 h1 h2; omega
  | succ n ih =>
    intro d m b5 b6 h1 h2 h3
    unfold wX_masked_84
    refine sk_upTo hR hc hi (sk_le (sk_bd _ hc hi (by omega)) (sk_bd _ hc hi h2) (fun z => sk_endRow (sk_mk_skip h3 h2 (fun x x1 x2 => ?_)) hi (fun b4 h' => nm_r (nI_1 i) (HJ m b4 b5 b6 h'))) (fun z => ?_))
    · exact hz x (sk_rc_end (a := M c i) (j := d) (n := 6) (by omega) x x1 x2)
    · obtain ⟨e, c1, c2, c3, c4, c5, c6, c7, c8, c9⟩ := sk_ent hR hc hi h2 (by omega)
      refine ⟨vp_in_nI c8 (by omega), nm_r (e' := nI e) (by rw [c9, c5]) ⟨vp_in_nI c2 (by omega), ?_⟩⟩
      rw [nI_clamp (show e < 2 ^ 31 by omega), hw e c2]
      exact sk_emit h3 hi c1 c2 (fun x x1 x2 => hz x (c4 x x1 x2)) rfl (if_neg c3).symm (fun m' d5 d6 h' => nm_r (sk_s1 c7) (ih (e + 1) m' d5 d6 (by omega) (by omega) h'))
theorem sk_masked58 (hR : sk_R a1 a2 a3 M) (ht : t < 5) (ha : a < 5) (hb : b < 5) (hc : c < 5) (H : sk_po (sk_set M t (sk_msk (M a) (M b) (M c))) (post (nI (sk_ps (sk_msk (M a) (M b) (M c)) 6)))) :
    ∀ (n r : Nat) (m : Int32) (b4 b5 b6 b7 : Nat → Int32), 6 < n + r → r ≤ 6 → sk_mk m b4 b5 b6 (sk_msk (M a) (M b) (M c)) r 0 → wX_masked_58 post (nI t) (nI a) (nI b) (nI c) n (nI r) m a1 a2 a3 b4 b5 b6 b7 := by
  intro n
  induction n with
  | zero => intro r m b4 b5 b6 b7 h1 h2; omega
  | succ n ih =>
    intro r m b4 b5 b6 b7 h1 h2 h3
    refine pk_le 6 r (fun z => ?_) (fun z => sk_productRow hR ha hb z (fun c7 h7 => sk_from hR hc z ⟨7, sk_masked84 hR hc z h7 (fun m' c4 c5 c6 h' => ih (r + 1) m' c4 c5 c6 c7 (by omega) (by omega) h') 7 0 m b5 b6 (by omega) (by omega) h3⟩))
    have e : r = 6 := by omega
    subst e
    exact sk_store h3 hR ht (fun c1 c2 c3 h' => H _ _ _ _ _ _ _ _ h')
theorem sk_maskedW {p1 : Int32} (hR : sk_R a1 a2 a3 M) (ht : t < 5) (ha : a < 5) (hb : b < 5) (hc : c < 5) (ea : p1 &&& 7 = nI a) (eb : (p1 >>> ((3 : Int32) &&& 31)) &&& 7 = nI b) (ec : p1 >>> ((6 : Int32) &&& 31) = nI c)
    (H : sk_po (sk_set M t (sk_msk (M a) (M b) (M c))) (post (nI (sk_ps (sk_msk (M a) (M b) (M c)) 6)))) : wpX_masked post (m, a1, a2, a3, a4, a5, a6, a7) (nI t) p1 := by
  unfold wpX_masked
  dsimp only
  refine nm_r ea (nm_r eb (nm_r ec (sk_slot1 ht (br_f (by decide) (sk_slot1 ha (br_f (by decide) (sk_slot1 hb (br_f (by decide) (sk_slot1 hc (br_f (by decide) (sk_begin (sk_msk (M a) (M b) (M c)) (fun b4 h => ⟨7, ?_⟩))))))))))))
  exact sk_masked58 hR ht ha hb hc H 7 0 0 b4 a5 a6 a7 (by omega) (by omega) h
theorem sk_maskedN {p0 p1 : Int32} (hn : ¬ ∃ t a b c, t < 5 ∧ a < 5 ∧ b < 5 ∧ c < 5 ∧ p0 = nI t ∧ p1 &&& 7 = nI a ∧ (p1 >>> ((3 : Int32) &&& 31)) &&& 7 = nI b ∧ p1 >>> ((6 : Int32) &&& 31) = nI c) (H : post (-1) (m, a1, a2, a3, a4, a5, a6, a7)) : wpX_masked post (m, a1, a2, a3, a4, a5, a6, a7) p0 p1 := by
  unfold wpX_masked
  dsimp only
  exact nm_e (nm_e (nm_e (sk_slot (fun _ => br_t rfl H) (fun t ht e1 => br_f (by decide) (sk_slot (fun _ => br_t rfl H) (fun a ha e2 => br_f (by decide) (sk_slot (fun _ => br_t rfl H) (fun b hb e3 => br_f (by decide) (sk_slot (fun _ => br_t rfl H) (fun c hc e4 => absurd ⟨t, a, b, c, ht, ha, hb, hc, e1, e2, e3, e4⟩ hn))))))))))
end
end
section
/-! ===== counting by rows is counting by columns ===== -/
def sk_cn (A : Nat → Nat → Int32) (k : Nat) : Nat → Nat
  | 0 => 0
  | n + 1 => sk_cn A k n + sk_rc (A n) k
theorem sk_cn_6 (A : Nat → Nat → Int32) (n : Nat) : sk_cn A 6 n = sk_ps A n := by
  induction n with
  | zero => rfl
  | succ n ih =>
    show sk_cn A 6 n + sk_rc (A n) 6 = sk_ps A n + sk_rc (A n) 6
    rw [ih]
theorem sk_cn_0 (A : Nat → Nat → Int32) (n : Nat) : sk_cn A 0 n = 0 := by
  induction n with
  | zero => rfl
  | succ n ih => exact ih
theorem sk_cn_s (A : Nat → Nat → Int32) (k n : Nat) : sk_cn A (k + 1) n = sk_cn A k n + sk_rc (sk_tr A k) n := by
  induction n with
  | zero => rfl
  | succ n ih =>
    show sk_cn A (k + 1) n + sk_rc (A n) (k + 1) = sk_cn A k n + sk_rc (A n) k + sk_rc (sk_tr A k) (n + 1)
    rw [ih]
    by_cases h : A n k = 0
    · rw [sk_rc_z (a := A n) h, sk_rc_z (a := sk_tr A k) (n := n) h]
      omega
    · rw [sk_rc_s (a := A n) h, sk_rc_s (a := sk_tr A k) (n := n) h]
      omega
theorem sk_cn_tr (A : Nat → Nat → Int32) (k n : Nat) : sk_cn A k n = sk_cn (sk_tr A) n k := by
  induction k with
  | zero =>
    rw [sk_cn_0]
    rfl
  | succ k ih =>
    rw [sk_cn_s, ih]
    rfl
theorem sk_ps_tr (A : Nat → Nat → Int32) : sk_ps (sk_tr A) 6 = sk_ps A 6 := by
  rw [← sk_cn_6, ← sk_cn_6]
  exact (sk_cn_tr A 6 6).symm
/-! ===== what there-and-back gives back ===== -/
theorem sk_set_s (M : Nat → Nat → Nat → Int32) (s : Nat) (B : Nat → Nat → Int32) : sk_set M s B s = B := if_pos rfl
theorem sk_set_n (M : Nat → Nat → Nat → Int32) (s : Nat) (B : Nat → Nat → Int32) {x : Nat} (h : x ≠ s) : sk_set M s B x = M x := if_neg h
theorem sk_sc_1 (A : Nat → Nat → Int32) : sk_sc A 1 = A := by
  funext r c
  exact Int32.mul_one (A r c)
theorem sk_bit1 : ∀ r, r < 6 → ¬ (((4095 : Int32) >>> (nI r &&& 31)) &&& 1) = 0 := by decide +kernel
theorem sk_bit2 : ∀ c, c < 6 → ¬ (((4095 : Int32) >>> ((6 + nI c) &&& 31)) &&& 1) = 0 := by decide +kernel
theorem sk_sel_all (A : Nat → Nat → Int32) {r c : Nat} (hr : r < 6) (hc : c < 6) : sk_sel A 4095 r c = A r c := by
  unfold sk_sel
  rw [if_neg (sk_bit1 r hr), if_neg (sk_bit2 c hc)]
theorem sk_ps_sel (A : Nat → Nat → Int32) : sk_ps (sk_sel A 4095) 6 = sk_ps A 6 := sk_ps_cg (fun i j hi hj => sk_sel_all A hi hj)
theorem sk_bk_put (M : Nat → Nat → Nat → Int32) (s i j : Nat) (y : Int32) (x r c : Nat) : sk_set (sk_set M s (sk_put (M s) i j y)) s (sk_put (sk_set M s (sk_put (M s) i j y) s) i j (M s i j)) x r c = M x r c := by
  by_cases e : x = s
  · subst e
    rw [sk_set_s, sk_set_s]
    show (if r = i ∧ c = j then M x i j else if r = i ∧ c = j then y else M x r c) = M x r c
    by_cases f : r = i ∧ c = j
    · rw [if_pos f, f.1, f.2]
    · rw [if_neg f, if_neg f]
  · rw [sk_set_n _ _ _ e, sk_set_n _ _ _ e]
theorem sk_bk_tr (M : Nat → Nat → Nat → Int32) (s x r c : Nat) : sk_set (sk_set M s (sk_tr (M s))) s (sk_tr (sk_set M s (sk_tr (M s)) s)) x r c = M x r c := by
  by_cases e : x = s
  · subst e
    rw [sk_set_s, sk_set_s]
    rfl
  · rw [sk_set_n _ _ _ e, sk_set_n _ _ _ e]
theorem sk_bk_sc (M : Nat → Nat → Nat → Int32) (s x r c : Nat) : sk_set M s (sk_sc (M s) 1) x r c = M x r c := by
  by_cases e : x = s
  · subst e
    rw [sk_set_s, sk_sc_1]
  · rw [sk_set_n _ _ _ e]
theorem sk_bk_sel (M : Nat → Nat → Nat → Int32) (s x : Nat) {r c : Nat} (hr : r < 6) (hc : c < 6) : sk_set M s (sk_sel (M s) 4095) x r c = M x r c := by
  by_cases e : x = s
  · subst e
    rw [sk_set_s]
    exact sk_sel_all (M x) hr hc
  · rw [sk_set_n _ _ _ e]
/-! ===== calls that are refused ===== -/
theorem sk_far {x : Int32} {k t d e : Nat} (hx : x = nI k) (hk : k < 1024) (hd : d < 2 ^ 30) (ht : t < e) (he : e ≤ d) : nI d + x ≠ nI t := by
  intro h
  rw [hx, nI_add] at h
  have q := (nI_eq (by omega) (by omega)).mp h
  omega
theorem sk_neg {x : Int32} {k t : Nat} (hx : x = nI k) (hk : k < 1024) (ht : t < 5) : (-1) - x ≠ nI t := by
  intro h
  have q : nI t + nI k + 1 = 0 := by
    rw [← h, hx]
    grind
  rw [nI_add, nI_1] at q
  exact nI_ne0 (by omega) (by omega) q
end
section
/-! ===== each call, valid or not: it takes M to some N that M and the call alone decide ===== -/
def sk_fx (M N : Nat → Nat → Nat → Int32) (W : (Int32 → St1 → Prop) → St1 → Prop) : Prop :=
  ∀ (post : Int32 → St1 → Prop) (m : Int32) (a1 a2 a3 a4 a5 a6 a7 : Nat → Int32), sk_R a1 a2 a3 M → (∀ r, sk_po N (post r)) → W post (m, a1, a2, a3, a4, a5, a6, a7)
theorem sk_putE (M : Nat → Nat → Nat → Int32) (p0 p1 p2 v : Int32) : ∃ N, sk_fx M N (fun post u => wpX_put post u p0 p1 p2 v) := by
  by_cases h : ∃ s i j, s < 5 ∧ i < 6 ∧ j < 6 ∧ p0 = nI s ∧ p1 = nI i ∧ p2 = nI j
  · obtain ⟨s, i, j, hs, hi, hj, e1, e2, e3⟩ := h
    subst e1 e2 e3
    exact ⟨_, fun post m a1 a2 a3 a4 a5 a6 a7 hR H => sk_putW hR hs hi hj (H 1)⟩
  · exact ⟨M, fun post m a1 a2 a3 a4 a5 a6 a7 hR H => sk_putN h (H 0 m a1 a2 a3 a4 a5 a6 a7 hR)⟩
theorem sk_addE (M : Nat → Nat → Nat → Int32) (p0 p1 p2 : Int32) : ∃ N, sk_fx M N (fun post u => wpX_add post u p0 p1 p2) := by
  by_cases h : ∃ t a b, t < 5 ∧ a < 5 ∧ b < 5 ∧ p0 = nI t ∧ p1 = nI a ∧ p2 = nI b
  · obtain ⟨t, a, b, ht, ha, hb, e1, e2, e3⟩ := h
    subst e1 e2 e3
    exact ⟨_, fun post m a1 a2 a3 a4 a5 a6 a7 hR H => sk_addW hR ht ha hb (H _)⟩
  · exact ⟨M, fun post m a1 a2 a3 a4 a5 a6 a7 hR H => sk_addN h (H _ m a1 a2 a3 a4 a5 a6 a7 hR)⟩
theorem sk_entE (M : Nat → Nat → Nat → Int32) (p0 p1 p2 : Int32) : ∃ N, sk_fx M N (fun post u => wpX_entrywise post u p0 p1 p2) := by
  by_cases h : ∃ t a b, t < 5 ∧ a < 5 ∧ b < 5 ∧ p0 = nI t ∧ p1 = nI a ∧ p2 = nI b
  · obtain ⟨t, a, b, ht, ha, hb, e1, e2, e3⟩ := h
    subst e1 e2 e3
    exact ⟨_, fun post m a1 a2 a3 a4 a5 a6 a7 hR H => sk_entW hR ht ha hb (H _)⟩
  · exact ⟨M, fun post m a1 a2 a3 a4 a5 a6 a7 hR H => sk_entN h (H _ m a1 a2 a3 a4 a5 a6 a7 hR)⟩
theorem sk_productE (M : Nat → Nat → Nat → Int32) (p0 p1 p2 : Int32) : ∃ N, sk_fx M N (fun post u => wpX_product post u p0 p1 p2) := by
  by_cases h : ∃ t a b, t < 5 ∧ a < 5 ∧ b < 5 ∧ p0 = nI t ∧ p1 = nI a ∧ p2 = nI b
  · obtain ⟨t, a, b, ht, ha, hb, e1, e2, e3⟩ := h
    subst e1 e2 e3
    exact ⟨_, fun post m a1 a2 a3 a4 a5 a6 a7 hR H => sk_productW hR ht ha hb (H _)⟩
  · exact ⟨M, fun post m a1 a2 a3 a4 a5 a6 a7 hR H => sk_productN h (H _ m a1 a2 a3 a4 a5 a6 a7 hR)⟩
theorem sk_maskedE (M : Nat → Nat → Nat → Int32) (p0 p1 : Int32) : ∃ N, sk_fx M N (fun post u => wpX_masked post u p0 p1) := by
  by_cases h : ∃ t a b c, t < 5 ∧ a < 5 ∧ b < 5 ∧ c < 5 ∧ p0 = nI t ∧ p1 &&& 7 = nI a ∧ (p1 >>> ((3 : Int32) &&& 31)) &&& 7 = nI b ∧ p1 >>> ((6 : Int32) &&& 31) = nI c
  · obtain ⟨t, a, b, c, ht, ha, hb, hc, e1, e2, e3, e4⟩ := h
    subst e1
    exact ⟨_, fun post m a1 a2 a3 a4 a5 a6 a7 hR H => sk_maskedW hR ht ha hb hc e2 e3 e4 (H _)⟩
  · exact ⟨M, fun post m a1 a2 a3 a4 a5 a6 a7 hR H => sk_maskedN h (H _ m a1 a2 a3 a4 a5 a6 a7 hR)⟩
theorem sk_transposeE (M : Nat → Nat → Nat → Int32) (p0 p1 : Int32) : ∃ N, sk_fx M N (fun post u => wpX_transpose post u p0 p1) := by
  by_cases h : ∃ t a, t < 5 ∧ a < 5 ∧ p0 = nI t ∧ p1 = nI a
  · obtain ⟨t, a, ht, ha, e1, e2⟩ := h
    subst e1 e2
    exact ⟨_, fun post m a1 a2 a3 a4 a5 a6 a7 hR H => sk_transposeW hR ht ha (H _)⟩
  · exact ⟨M, fun post m a1 a2 a3 a4 a5 a6 a7 hR H => sk_transposeN h (H _ m a1 a2 a3 a4 a5 a6 a7 hR)⟩
theorem sk_scaleE (M : Nat → Nat → Nat → Int32) (p0 p1 v : Int32) : ∃ N, sk_fx M N (fun post u => wpX_scale post u p0 p1 v) := by
  by_cases h : ∃ t a, t < 5 ∧ a < 5 ∧ p0 = nI t ∧ p1 = nI a
  · obtain ⟨t, a, ht, ha, e1, e2⟩ := h
    subst e1 e2
    exact ⟨_, fun post m a1 a2 a3 a4 a5 a6 a7 hR H => sk_scaleW hR ht ha (H _)⟩
  · exact ⟨M, fun post m a1 a2 a3 a4 a5 a6 a7 hR H => sk_scaleN h (H _ m a1 a2 a3 a4 a5 a6 a7 hR)⟩
theorem sk_selectE (M : Nat → Nat → Nat → Int32) (p0 p1 v : Int32) : ∃ N, sk_fx M N (fun post u => wpX_select post u p0 p1 v) := by
  by_cases h : ∃ t a, t < 5 ∧ a < 5 ∧ p0 = nI t ∧ p1 = nI a ∧ ¬ v < 0 ∧ v ≤ 4095
  · obtain ⟨t, a, ht, ha, e1, e2, e3, e4⟩ := h
    subst e1 e2
    exact ⟨_, fun post m a1 a2 a3 a4 a5 a6 a7 hR H => sk_selectW hR ht ha e3 e4 (H _)⟩
  · exact ⟨M, fun post m a1 a2 a3 a4 a5 a6 a7 hR H => sk_selectN h (H _ m a1 a2 a3 a4 a5 a6 a7 hR)⟩
/-! ===== turn ===== -/
theorem sk_turn (M : Nat → Nat → Nat → Int32) (p1 p2 p3 p4 p5 : Int32) : ∃ N, ∀ (post : St1 → Prop) (m : Int32) (a1 a2 a3 a4 a5 a6 a7 : Nat → Int32), sk_R a1 a2 a3 M → sk_po N post → wpL_turn post (m, a1, a2, a3, a4, a5, a6, a7) p1 p2 p3 p4 p5 := by
  by_cases c7 : 7 < p1 &&& 15
  · by_cases c8 : p1 &&& 15 = 8
    · obtain ⟨N, hN⟩ := sk_addE M p2 p3 p4
      exact ⟨N, fun post m a1 a2 a3 a4 a5 a6 a7 hR H => nm_e (br_t c7 (br_t c8 (hN _ m a1 a2 a3 a4 a5 a6 a7 hR (fun r => H))))⟩
    · by_cases c9 : p1 &&& 15 = 9
      · obtain ⟨N, hN⟩ := sk_entE M p2 p3 p4
        exact ⟨N, fun post m a1 a2 a3 a4 a5 a6 a7 hR H => nm_e (br_t c7 (br_f c8 (br_t c9 (hN _ m a1 a2 a3 a4 a5 a6 a7 hR (fun r => H)))))⟩
      · by_cases c10 : p1 &&& 15 = 10
        · obtain ⟨N, hN⟩ := sk_productE M p2 p3 p4
          exact ⟨N, fun post m a1 a2 a3 a4 a5 a6 a7 hR H => nm_e (br_t c7 (br_f c8 (br_f c9 (br_t c10 (hN _ m a1 a2 a3 a4 a5 a6 a7 hR (fun r => H))))))⟩
        · by_cases c11 : p1 &&& 15 = 11
          · obtain ⟨N, hN⟩ := sk_maskedE M p2 p3
            exact ⟨N, fun post m a1 a2 a3 a4 a5 a6 a7 hR H => nm_e (br_t c7 (br_f c8 (br_f c9 (br_f c10 (br_t c11 (hN _ m a1 a2 a3 a4 a5 a6 a7 hR (fun r => H)))))))⟩
          · by_cases c12 : p1 &&& 15 = 12
            · obtain ⟨N, hN⟩ := sk_transposeE M p2 p3
              exact ⟨N, fun post m a1 a2 a3 a4 a5 a6 a7 hR H => nm_e (br_t c7 (br_f c8 (br_f c9 (br_f c10 (br_f c11 (br_t c12 (hN _ m a1 a2 a3 a4 a5 a6 a7 hR (fun r => H))))))))⟩
            · by_cases c13 : p1 &&& 15 = 13
              · obtain ⟨N, hN⟩ := sk_scaleE M p2 p3 p4
                exact ⟨N, fun post m a1 a2 a3 a4 a5 a6 a7 hR H => nm_e (br_t c7 (br_f c8 (br_f c9 (br_f c10 (br_f c11 (br_f c12 (br_t c13 (hN _ m a1 a2 a3 a4 a5 a6 a7 hR (fun r => H)))))))))⟩
              · obtain ⟨N, hN⟩ := sk_selectE M p2 p3 p4
                exact ⟨N, fun post m a1 a2 a3 a4 a5 a6 a7 hR H => nm_e (br_t c7 (br_f c8 (br_f c9 (br_f c10 (br_f c11 (br_f c12 (br_f c13 (hN _ m a1 a2 a3 a4 a5 a6 a7 hR (fun r => H)))))))))⟩
  · obtain ⟨N, hN⟩ := sk_putE M p2 p3 p4 p5
    exact ⟨N, fun post m a1 a2 a3 a4 a5 a6 a7 hR H => nm_e (br_f c7 (hN _ m a1 a2 a3 a4 a5 a6 a7 hR (fun r => H)))⟩
/-! ===== there and back ===== -/
theorem sk_back {post : Int32 → St1 → Prop} {m : Int32} {a1 a2 a3 a4 a5 a6 a7 : Nat → Int32} {M : Nat → Nat → Nat → Int32} {p1 p2 : Int32} (hR : sk_R a1 a2 a3 M) (H : sk_po M (post 1)) : wpL_thereAndBack post (m, a1, a2, a3, a4, a5, a6, a7) p1 p2 := by
  obtain ⟨k1, hk1, e1⟩ := pk_andE p1 8 (m := 255) (by decide)
  obtain ⟨k2, hk2, e2⟩ := pk_andE (p1 >>> ((8 : Int32) &&& 31)) 8 (m := 255) (by decide)
  obtain ⟨k3, hk3, e3⟩ := pk_andE (p1 >>> ((16 : Int32) &&& 31)) 8 (m := 255) (by decide)
  obtain ⟨k4, hk4, e4⟩ := pk_andE p2 10 (m := 1023) (by decide)
  have hs : k1 % 5 < 5 := by omega
  have hi : k2 % 6 < 6 := by omega
  have hj : k3 % 6 < 6 := by omega
  unfold wpL_thereAndBack
  dsimp only
  refine ⟨by decide, nm_r (e' := nI (k1 % 5)) (by rw [e1]; exact pk_rem (d := 5) (by omega) (by omega) (by omega)) ⟨by decide, nm_r (e' := nI (k2 % 6)) (by rw [e2]; exact pk_rem (d := 6) (by omega) (by omega) (by omega)) ⟨by decide, nm_r (e' := nI (k3 % 6)) (by rw [e3]; exact pk_rem (d := 6) (by omega) (by omega) (by omega)) ?_⟩⟩⟩
  refine sk_at hR hs hi hj (sk_putW hR hs hi hj (fun m1 b1 b2 b3 b4 b5 b6 b7 h1 => sk_putW h1 hs hi hj (fun m2 c1 c2 c3 c4 c5 c6 c7 h2 => ?_)))
  have h2' : sk_R c1 c2 c3 M := sk_R_cg h2 (fun x r c _ _ _ => sk_bk_put M (k1 % 5) (k2 % 6) (k3 % 6) p2 x r c)
  refine sk_count h2' hs (sk_transposeW h2' hs hs (fun m3 d1 d2 d3 d4 d5 d6 d7 h3 => sk_transposeW h3 hs hs (fun m4 f1 f2 f3 f4 f5 f6 f7 h4 => ?_)))
  have h4' : sk_R f1 f2 f3 M := sk_R_cg h4 (fun x r c _ _ _ => sk_bk_tr M (k1 % 5) x r c)
  refine sk_scaleW h4' hs hs (fun m5 g1 g2 g3 g4 g5 g6 g7 h5 => ?_)
  have h5' : sk_R g1 g2 g3 M := sk_R_cg h5 (fun x r c _ _ _ => sk_bk_sc M (k1 % 5) x r c)
  refine sk_selectW h5' hs hs (by decide) (by decide) (fun m6 q1 q2 q3 q4 q5 q6 q7 h6 => ?_)
  have h6' : sk_R q1 q2 q3 M := sk_R_cg h6 (fun x r c _ hr hc => sk_bk_sel M (k1 % 5) x hr hc)
  refine sk_addN ?_ (sk_productN ?_ (sk_putN ?_ ?_))
  · intro ⟨t, a, b, ht, _, _, e, _⟩
    exact sk_far (d := 5) (e := 5) e4 hk4 (by omega) ht (by omega) e
  · intro ⟨t, a, b, _, _, hb, _, _, e⟩
    exact sk_neg e4 hk4 hb e
  · intro ⟨t, a, b, _, ha, _, _, e, _⟩
    exact sk_far (d := 6) (e := 6) e4 hk4 (by omega) ha (by omega) e
  · refine br_f (by decide) (br_f (by decide) (br_t ?_ (br_t ?_ (br_t ?_ (br_t ?_ (br_t rfl (br_t rfl (br_t rfl (H _ _ _ _ _ _ _ _ h6')))))))))
    · rw [sk_ps_tr]
    · rw [sk_set_s, sk_ps_tr, sk_ps_tr]
    · rw [sk_sc_1]
    · rw [sk_ps_sel]
/-! ===== alike ===== -/
theorem sk_nextE (M : Nat → Nat → Nat → Int32) {s i j : Nat} (hs : s < 5) (hi : i < 6) (hj : j < 6) : ∃ r : Int32, ∀ (post : Int32 → Prop) (m : Int32) (a1 a2 a3 a4 a5 a6 a7 : Nat → Int32), sk_R a1 a2 a3 M → post r → wpX_next post (m, a1, a2, a3, a4, a5, a6, a7) (nI s) (nI i) (nI j) := by
  by_cases h : ∃ c, j ≤ c ∧ c < 6 ∧ M s i c ≠ 0 ∧ ∀ d, j ≤ d → d < c → M s i d = 0
  · obtain ⟨c, h1, h2, h3, h4⟩ := h
    refine ⟨nI c, fun post m a1 a2 a3 a4 a5 a6 a7 hR H => sk_next hR hs hi hj (fun c' g1 g2 g3 g4 => ?_) (fun g => absurd (g c h1 h2) h3)⟩
    have e : c' = c := by
      rcases Nat.lt_trichotomy c' c with w | w | w
      · exact absurd (h4 c' g1 w) g3
      · exact w
      · exact absurd (g4 c h1 w) h3
    rw [e]
    exact H
  · exact ⟨-1, fun post m a1 a2 a3 a4 a5 a6 a7 hR H => sk_next hR hs hi hj (fun c' g1 g2 g3 g4 => absurd ⟨c', g1, g2, g3, g4⟩ h) (fun _ => H)⟩
theorem sk_symmetricE (M : Nat → Nat → Nat → Int32) {s : Nat} (hs : s < 5) : ∃ r : Int32, ∀ (post : Int32 → Prop) (m : Int32) (a1 a2 a3 a4 a5 a6 a7 : Nat → Int32), sk_R a1 a2 a3 M → post r → wpX_symmetric post (m, a1, a2, a3, a4, a5, a6, a7) (nI s) := by
  by_cases h : ∀ i j, i < 6 → j < 6 → M s i j ≠ 0 → M s j i = M s i j
  · exact ⟨1, fun post m a1 a2 a3 a4 a5 a6 a7 hR H => sk_symmetric hR hs (fun _ => H) (fun g => absurd h g)⟩
  · exact ⟨0, fun post m a1 a2 a3 a4 a5 a6 a7 hR H => sk_symmetric hR hs (fun g => absurd g h) (fun _ => H)⟩
theorem sk_sameE (M : Nat → Nat → Nat → Int32) {s t : Nat} (hs : s < 5) (ht : t < 5) : ∃ r : Int32, ∀ (post : Int32 → Prop) (m : Int32) (a1 a2 a3 a4 a5 a6 a7 : Nat → Int32), sk_R a1 a2 a3 M → post r → wpX_same post (m, a1, a2, a3, a4, a5, a6, a7) (nI s) (nI t) := by
  by_cases h : ∃ b1 b2 b3, sk_R b1 b2 b3 M ∧ sk_Q b2 b3 M s t
  · obtain ⟨b1, b2, b3, h1, h2⟩ := h
    exact ⟨1, fun post m a1 a2 a3 a4 a5 a6 a7 hR H => sk_same hR hs ht (fun _ => H) (fun g => absurd (sk_Q_cg h1 hR hs ht h2) g)⟩
  · exact ⟨0, fun post m a1 a2 a3 a4 a5 a6 a7 hR H => sk_same hR hs ht (fun g => absurd ⟨a1, a2, a3, hR, g⟩ h) (fun _ => H)⟩
section
variable {m m' : Int32} {a1 a2 a3 a4 a5 a6 a7 a9 a10 a11 a12 a13 a14 a15 : Nat → Int32} {M : Nat → Nat → Nat → Int32} {post : Int32 → Prop}
theorem sk_alike63 {J : Int32 → Int32 → Prop} {s : Nat} (hR : sk_R a1 a2 a3 M) (hR' : sk_R a9 a10 a11 M) (hs : s < 5) (HJ : J 1 (nI (s + 1))) :
    ∀ n c : Nat, 36 < n + c → c ≤ 36 → wL_alike_63 post J (nI s) m a1 a2 a3 a4 a5 a6 a7 m' a9 a10 a11 a12 a13 a14 a15 n 1 (nI c) := by
  intro n
  induction n with
  | zero => intro c h1 h2; omega
  | succ n ih =>
    intro c h1 h2
    refine pk_le 36 c (fun z => nm_r (nI_1 s) HJ) (fun z => ⟨by decide, nm_r (e' := nI (c / 6)) (pk_div (d := 6) (by omega) (by omega) (by omega)) ⟨by decide, nm_r (e' := nI (c % 6)) (pk_rem (d := 6) (by omega) (by omega) (by omega)) (br_f (by decide) ?_)⟩⟩)
    have hi : c / 6 < 6 := by omega
    have hj : c % 6 < 6 := by omega
    obtain ⟨r, hr⟩ := sk_nextE M hs hi hj
    refine sk_at hR hs hi hj (sk_at hR' hs hi hj (br_t rfl (hr _ _ _ _ _ _ _ _ _ hR (hr _ _ _ _ _ _ _ _ _ hR' (br_t rfl ?_)))))
    exact sk_rowsProduct (b := 0) hR hs hi (by omega) hj (sk_rowsProduct (b := 0) hR' hs hi (by omega) hj (br_t rfl (nm_r (nI_1 c) (ih (c + 1) (by omega) (by omega)))))
theorem sk_alike4 (hR : sk_R a1 a2 a3 M) (hR' : sk_R a9 a10 a11 M) (H : post 1) :
    ∀ n s : Nat, 5 < n + s → s ≤ 5 → wL_alike_4 post m a1 a2 a3 a4 a5 a6 a7 m' a9 a10 a11 a12 a13 a14 a15 n 1 (nI s) := by
  intro n
  induction n with
  | zero => intro s h1 h2; omega
  | succ n ih =>
    intro s h1 h2
    refine pk_le 5 s (fun z => ⟨rfl, H⟩) (fun z => br_f (by decide) ?_)
    obtain ⟨r, hr⟩ := sk_symmetricE M z
    obtain ⟨q, hq⟩ := sk_sameE M (t := 0) z (by omega)
    refine sk_count hR z (sk_count hR' z (br_t rfl (hr _ _ _ _ _ _ _ _ _ hR (hr _ _ _ _ _ _ _ _ _ hR' (br_t rfl (hq _ _ _ _ _ _ _ _ _ hR (hq _ _ _ _ _ _ _ _ _ hR' (br_t rfl ⟨37, ?_⟩))))))))
    exact sk_alike63 hR hR' z (ih (s + 1) (by omega) (by omega)) 37 0 (by omega) (by omega)
theorem sk_alike (hR : sk_R a1 a2 a3 M) (hR' : sk_R a9 a10 a11 M) (H : post 1) : wpL_alike post (m, a1, a2, a3, a4, a5, a6, a7, m', a9, a10, a11, a12, a13, a14, a15) :=
  ⟨6, sk_alike4 hR hR' H 6 0 (by omega) (by omega)⟩
end
/-! ===== the law ===== -/
theorem sk_law18 {xs : Nat → Int32} {L kc ks : Nat} (hL : L ≤ 260) : ∀ (n k : Nat) (M : Nat → Nat → Nat → Int32) (m m' : Int32) (a1 a2 a3 a4 a5 a6 a7 b1 b2 b3 b4 b5 b6 b7 : Nat → Int32), L < n + k → k ≤ L → sk_R a1 a2 a3 M → sk_R b1 b2 b3 M →
    wL_law_18 (fun r => r = 1) L xs kc ks n (nI k) m a1 a2 a3 a4 a5 a6 a7 m' b1 b2 b3 b4 b5 b6 b7 := by
  intro n
  induction n with
  | zero => intro k M m m' a1 a2 a3 a4 a5 a6 a7 b1 b2 b3 b4 b5 b6 b7 h1 h2; omega
  | succ n ih =>
    intro k M m m' a1 a2 a3 a4 a5 a6 a7 b1 b2 b3 b4 b5 b6 b7 h1 h2 hR hR'
    refine pk_le L (k + 4) (fun z => sk_alike hR hR' rfl) (fun z => ?_) rfl (nI_add k 4)
    have v0 : vp_in (nI k) L := vp_in_nI (by omega) (by omega)
    have v1 : vp_in (nI k + 1) L := pk_in (k + 1) L (by omega) (nI_add k 1)
    have v2 : vp_in (nI k + 2) L := pk_in (k + 2) L (by omega) (nI_add k 2)
    have v3 : vp_in (nI k + 3) L := pk_in (k + 3) L (by omega) (nI_add k 3)
    have v4 : vp_in (nI k + 4) L := pk_in (k + 4) L (by omega) (nI_add k 4)
    obtain ⟨N, hN⟩ := sk_turn M (xs (nI k).toNatClampNeg) (xs (nI k + 1).toNatClampNeg) (xs (nI k + 2).toNatClampNeg) (xs (nI k + 3).toNatClampNeg) (xs (nI k + 4).toNatClampNeg)
    refine ⟨v0, v1, v2, v3, v4, hN _ _ _ _ _ _ _ _ _ hR (fun m1 c1 c2 c3 c4 c5 c6 c7 h3 => ?_)⟩
    refine ⟨v0, v1, v2, v3, v4, hN _ _ _ _ _ _ _ _ _ hR' (fun m2 d1 d2 d3 d4 d5 d6 d7 h4 => ?_)⟩
    refine ⟨v0, v2, sk_back h4 (fun m3 e1 e2 e3 e4 e5 e6 e7 h5 => br_f (by decide) (nm_r (nI_add k 5) ?_))⟩
    exact ih (k + 5) N m1 m3 c1 c2 c3 c4 c5 c6 c7 e1 e2 e3 e4 e5 e6 e7 (by omega) (by omega) h3 h5
theorem sk_init {post : St1 → Prop} (H : post (0, (fun _ => 0), (fun _ => 0), (fun _ => 0), (fun _ => 0), (fun _ => 0), (fun _ => 0), (fun _ => 0))) : wpX_init post 7 480 0 :=
  ⟨by omega, by omega, by omega, by omega, by omega, by omega, by omega, by omega, by omega, by omega, by omega, by omega, by omega, by omega, H⟩
theorem i_vc (xs : Nat → Int32) (L : Nat) (hL : L ≤ 260) : wpL_law (fun r => r = 1) L xs := by
  unfold wpL_law
  refine ⟨7, 480, by omega, by omega, sk_init ⟨by omega, by omega, 7, 480, by omega, by omega, sk_init ⟨L + 1, ?_⟩⟩⟩
  exact sk_law18 hL (L + 1) 0 (fun _ _ _ => 0) 0 0 _ _ _ _ _ _ _ _ _ _ _ _ _ _ (by omega) (by omega) sk_R_0 sk_R_0
end
