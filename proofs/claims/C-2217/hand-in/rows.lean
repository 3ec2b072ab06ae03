section
theorem pk_us {f : Nat → Int32} {k : Nat} {x : Int32} : upd f k x k = x := if_pos rfl
theorem pk_un {f : Nat → Int32} {k j : Nat} {x : Int32} (h : j ≠ k) : upd f k x j = f j := if_neg h
theorem pk_sub {a b : Nat} (h : b ≤ a) : nI a - nI b = nI (a - b) := by
  obtain ⟨c, rfl⟩ : ∃ c, a = c + b := ⟨a - b, by omega⟩
  rw [← nI_add, Int32.add_sub_cancel, Nat.add_sub_cancel]
theorem pk_m1 (n : Nat) : nI (n + 1) + (-1) = nI n := by
  rw [← nI_1, Int32.add_assoc, show (1 : Int32) + (-1) = 0 from rfl, Int32.add_zero]
theorem pk_mul (a b : Nat) : nI a * nI b = nI (a * b) := (Int32.ofNat_mul a b).symm
theorem pk_sub_toInt {a b : Nat} (ha : a < 2 ^ 30) (hb : b < 2 ^ 30) : (nI a - nI b).toInt = (a : Int) - b := by
  rw [Int32.toInt_sub, nI_toInt (by omega), nI_toInt (by omega)]
  exact Int.bmod_eq_of_le (by omega) (by omega)
theorem pk_sneg {a b : Nat} (hb : b < 2 ^ 30) (h : a < b) : nI a - nI b < 0 := by
  rw [Int32.lt_iff_toInt_lt, pk_sub_toInt (by omega) hb, show (0 : Int32).toInt = 0 from by decide]
  omega
theorem pk_ix (x : Int32) {n : Nat} (hn : n < 2 ^ 31) : x < 0 ∨ nI n ≤ x ∨ ∃ j : Nat, j < n ∧ x = nI j := by
  by_cases h : x < 0
  · exact Or.inl h
  · obtain ⟨j, hj, rfl⟩ := nI_of h
    by_cases h2 : j < n
    · exact Or.inr (Or.inr ⟨j, h2, rfl⟩)
    · exact Or.inr (Or.inl (nI_le (by omega) hj))
theorem pk_le {x y : Int32} {A B : Prop} (a b : Nat) (f : a ≤ b → A) (g : b < a → B) (hx : x = nI a := by rfl) (hy : y = nI b := by rfl) (ha : a < 2 ^ 31 := by omega) (hb : b < 2 ^ 31 := by omega) : (x ≤ y → A) ∧ (¬ x ≤ y → B) := by
  subst hx hy
  rw [nI_leI ha hb]
  exact ⟨f, fun z => g (by omega)⟩
theorem pk_lt {x y : Int32} {A B : Prop} (a b : Nat) (f : a < b → A) (g : b ≤ a → B) (hx : x = nI a := by rfl) (hy : y = nI b := by rfl) (ha : a < 2 ^ 31 := by omega) (hb : b < 2 ^ 31 := by omega) : (x < y → A) ∧ (¬ x < y → B) := by
  subst hx hy
  rw [nI_ltI ha hb]
  exact ⟨f, fun z => g (by omega)⟩
theorem pk_eq {x y : Int32} {A B : Prop} (a b : Nat) (f : a = b → A) (g : a ≠ b → B) (hx : x = nI a := by rfl) (hy : y = nI b := by rfl) (ha : a < 2 ^ 31 := by omega) (hb : b < 2 ^ 31 := by omega) : (x = y → A) ∧ (¬ x = y → B) := by
  subst hx hy
  rw [nI_eq ha hb]
  exact ⟨f, g⟩
theorem pk_in {x : Int32} (n N : Nat) (h : n < N) (hx : x = nI n := by rfl) (hN : N < 2 ^ 31 := by omega) : vp_in x N := by
  subst hx
  exact vp_in_nI h hN
theorem pk_cl {x : Int32} (n : Nat) (hx : x = nI n := by rfl) (h : n < 2 ^ 31 := by omega) : x.toNatClampNeg = n := by
  subst hx
  exact nI_clamp h
/-! own rows from here: numbers, ranges written over -/
theorem qa_le0 {a : Nat} (h : a < 2 ^ 31) : nI a ≤ 0 ↔ a = 0 := by
  rw [← nI_0, nI_leI h (by omega)]; omega
theorem qa_eq0 {a : Nat} (h : a < 2 ^ 31) : nI a = 0 ↔ a = 0 := by
  rw [← nI_0, nI_eq h (by omega)]
theorem qa_n1lt : (-1 : Int32) < 0 := by decide
theorem qa_ne1 {a : Nat} (h : a < 2 ^ 31) : ¬ nI a = -1 := by
  intro e
  have := nI_pos (n := a) h
  rw [e] at this
  exact this qa_n1lt
theorem qa_n3lt : (-3 : Int32) < 0 := by decide
theorem qa_ne3 {a : Nat} (h : a < 2 ^ 31) : ¬ nI a = -3 := by
  intro e
  have := nI_pos (n := a) h
  rw [e] at this
  exact this qa_n3lt
theorem qa_ne {a b : Nat} (h : a ≠ b) (ha : a < 2 ^ 31) (hb : b < 2 ^ 31) : ¬ nI a = nI b := by
  rw [nI_eq ha hb]; exact h
theorem qa_m1 {n : Nat} (h : 0 < n) : nI n + (-1) = nI (n - 1) := by
  obtain ⟨m, rfl⟩ : ∃ m, n = m + 1 := ⟨n - 1, by omega⟩
  exact pk_m1 m
theorem qa_s1 {n : Nat} (h : 0 < n) : nI n - 1 = nI (n - 1) := by
  obtain ⟨m, rfl⟩ : ∃ m, n = m + 1 := ⟨n - 1, by omega⟩
  exact nI_pred m
theorem qa_0m1 : nI 0 - 1 = -1 := by decide
theorem qa_0p1 : nI 0 + (-1) = -1 := by decide
theorem qa_2 (a : Nat) : nI a + 2 = nI (a + 2) := nI_add a 2
theorem qa_sub7 {a : Nat} (h : 7 ≤ a) : nI a - 7 = nI (a - 7) := pk_sub (b := 7) h
theorem qa_b0 : vp_nar .boolean 0 = 0 := by decide
theorem qa_b1 : vp_nar .boolean 1 = 1 := by decide
theorem qa_b01 {x : Int32} (h : x = 0 ∨ x = 1) : vp_nar .boolean x = x := by
  rcases h with rfl | rfl
  · exact qa_b0
  · exact qa_b1
theorem qa_n01 {x : Int32} (h : x = 0 ∨ x = 1) : narrow .boolean (.int x) = .int x := by
  rcases h with rfl | rfl <;> rfl
/-- a branch by an equivalence -/
theorem qa_if {c d A B : Prop} (e : c ↔ d) (f : d → A) (g : ¬ d → B) : (c → A) ∧ (¬ c → B) :=
  ⟨fun h => f (e.mp h), fun h => g (fun x => h (e.mpr x))⟩
/-- k values of f written from b on -/
def qa_ow (b k : Nat) (f : Nat → Int32) (x : Nat → Int32) : Nat → Int32 := fun j => if b ≤ j ∧ j < b + k then f (j - b) else x j
theorem qa_ow0 {b : Nat} {f x : Nat → Int32} : qa_ow b 0 f x = x := by
  funext j; exact if_neg (by omega)
theorem qa_ow_i {b k j : Nat} {f x : Nat → Int32} (h : j < k) : qa_ow b k f x (b + j) = f j := by
  have e : b + j - b = j := by omega
  show (if b ≤ b + j ∧ b + j < b + k then f (b + j - b) else x (b + j)) = f j
  rw [if_pos (by omega), e]
theorem qa_ow_in {b k j : Nat} {f x : Nat → Int32} (h : b ≤ j) (h2 : j < b + k) : qa_ow b k f x j = f (j - b) := if_pos ⟨h, h2⟩
theorem qa_ow_lo {b k j : Nat} {f x : Nat → Int32} (h : j < b) : qa_ow b k f x j = x j := if_neg (by omega)
theorem qa_ow_hi {b k j : Nat} {f x : Nat → Int32} (h : b + k ≤ j) : qa_ow b k f x j = x j := if_neg (by omega)
theorem qa_ow_s {b k : Nat} {f x : Nat → Int32} : upd (qa_ow b k f x) (b + k) (f k) = qa_ow b (k + 1) f x := by
  funext j
  show (if j = b + k then f k else if b ≤ j ∧ j < b + k then f (j - b) else x j) = if b ≤ j ∧ j < b + (k + 1) then f (j - b) else x j
  by_cases h : j = b + k
  · subst h
    have e : b + k - b = k := by omega
    rw [if_pos rfl, if_pos (by omega), e]
  · rw [if_neg h]
    by_cases h2 : b ≤ j ∧ j < b + k
    · rw [if_pos h2, if_pos (by omega)]
    · rw [if_neg h2, if_neg (by omega)]
/-- one more at the front -/
theorem qa_ow_p {b k : Nat} {f x : Nat → Int32} : upd (qa_ow (b + 1) k (fun j => f (j + 1)) x) b (f 0) = qa_ow b (k + 1) f x := by
  funext j
  show (if j = b then f 0 else if b + 1 ≤ j ∧ j < b + 1 + k then f (j - (b + 1) + 1) else x j) = if b ≤ j ∧ j < b + (k + 1) then f (j - b) else x j
  by_cases h : j = b
  · subst h
    have e : j - j = 0 := by omega
    rw [if_pos rfl, if_pos (by omega), e]
  · rw [if_neg h]
    by_cases h2 : b + 1 ≤ j ∧ j < b + 1 + k
    · have e : j - (b + 1) + 1 = j - b := by omega
      rw [if_pos h2, if_pos (by omega), e]
    · rw [if_neg h2, if_neg (by omega)]
/-- a range of a moved from f to t -/
def qa_mv (f t k : Nat) (a : Nat → Int32) : Nat → Int32 := qa_ow t k (fun j => a (f + j)) a
theorem qa_mv_i {f t k j : Nat} {a : Nat → Int32} (h : j < k) : qa_mv f t k a (t + j) = a (f + j) := qa_ow_i h
theorem qa_mv_lo {f t k j : Nat} {a : Nat → Int32} (h : j < t) : qa_mv f t k a j = a j := qa_ow_lo h
theorem qa_mv_all {P : Int32 → Prop} {f t k : Nat} {a : Nat → Int32} (h : ∀ j, P (a j)) (j : Nat) : P (qa_mv f t k a j) := by
  show P (if t ≤ j ∧ j < t + k then a (f + (j - t)) else a j)
  split
  · exact h _
  · exact h _
theorem qa_upd_all {P : Int32 → Prop} {k : Nat} {x : Int32} {a : Nat → Int32} (h : ∀ j, P (a j)) (hx : P x) (j : Nat) : P (upd a k x j) := by
  show P (if j = k then x else a j)
  split
  · exact hx
  · exact h _
end
section
/-! tokens of a text: C its characters, L its length -/
def qb_At (C : Nat → Nat) (L s κ e : Nat) : Prop :=
  s < L ∧
  ((C s < 5 ∧ κ = 0 ∧ s < e ∧ e ≤ L ∧ (∀ q, s < q → q < e → C q < 10) ∧ (e < L → 10 ≤ C e)) ∨
   (5 ≤ C s ∧ C s < 10 ∧ κ = 1 ∧ s < e ∧ e ≤ L ∧ (∀ q, s < q → q < e → 5 ≤ C q ∧ C q < 10) ∧ (e < L → C e < 5 ∨ 10 ≤ C e)) ∨
   (C s = 10 ∧ κ = 3 ∧ e = s + 2 ∧ s + 1 < L ∧ C (s + 1) = 10) ∨
   (C s = 10 ∧ κ = 2 ∧ e = s + 1 ∧ (s + 1 < L → C (s + 1) ≠ 10)) ∨
   (11 ≤ C s ∧ C s ≤ 17 ∧ κ = C s - 7 ∧ e = s + 1))
theorem qb_At_f {C : Nat → Nat} {L s κ e : Nat} (h : qb_At C L s κ e) : s < e ∧ e ≤ L ∧ κ ≤ 10 ∧ C s ≠ 18 := by
  obtain ⟨h0, h⟩ := h
  rcases h with ⟨a, b, c, d, _, _⟩ | ⟨a, b, c, d, e, _, _⟩ | ⟨a, b, c, d, _⟩ | ⟨a, b, c, _⟩ | ⟨a, b, c, d⟩
  · exact ⟨by omega, by omega, by omega, by omega⟩
  · exact ⟨by omega, by omega, by omega, by omega⟩
  · exact ⟨by omega, by omega, by omega, by omega⟩
  · exact ⟨by omega, by omega, by omega, by omega⟩
  · exact ⟨by omega, by omega, by omega, by omega⟩
/-- where the text is read on behind k tokens -/
def qb_pe (p : Nat) (S Z : Nat → Nat) : Nat → Nat
  | 0 => p
  | k + 1 => S k + Z k
def qb_Ch (C : Nat → Nat) (L p m : Nat) (S Z K : Nat → Nat) : Prop :=
  ∀ k, k < m → qb_pe p S Z k ≤ S k ∧ (∀ q, qb_pe p S Z k ≤ q → q < S k → C q = 18) ∧ qb_At C L (S k) (K k) (S k + Z k)
def qb_Tok (C : Nat → Nat) (L n : Nat) (S Z K : Nat → Nat) : Prop :=
  qb_Ch C L 0 n S Z K ∧ S n = L ∧ qb_pe 0 S Z n ≤ L ∧ (∀ q, qb_pe 0 S Z n ≤ q → q < L → C q = 18)
section
variable {C C0 : Nat → Nat} {L L0 p m n : Nat} {S Z K : Nat → Nat}
theorem qb_pes (h : qb_Ch C L p m S Z K) {k : Nat} (hk : k < m) : qb_pe p S Z k + 1 ≤ qb_pe p S Z (k + 1) := by
  obtain ⟨a, _, c⟩ := h k hk
  have := (qb_At_f c).1
  show qb_pe p S Z k + 1 ≤ S k + Z k
  omega
theorem qb_pem (h : qb_Ch C L p m S Z K) (i : Nat) : ∀ d, i + d ≤ m → qb_pe p S Z i + d ≤ qb_pe p S Z (i + d) := by
  intro d
  induction d with
  | zero => intro _; exact Nat.le_refl _
  | succ d ih =>
    intro hd
    have a := ih (by omega)
    have b := qb_pes h (k := i + d) (by omega)
    have e : i + (d + 1) = i + d + 1 := rfl
    rw [e]
    omega
theorem qb_pel (h : qb_Ch C L p m S Z K) (hp : p ≤ L) {k : Nat} (hk : k ≤ m) : qb_pe p S Z k ≤ L := by
  cases k with
  | zero => exact hp
  | succ k => exact (qb_At_f (h k (by omega)).2.2).2.1
theorem qb_mL (h : qb_Ch C L p m S Z K) (hp : p ≤ L) : p + m ≤ L := by
  have a := qb_pem h 0 m (by omega)
  have b := qb_pel h hp (k := 0 + m) (by omega)
  have c : qb_pe p S Z 0 = p := rfl
  omega
theorem qb_nL (h : qb_Tok C L n S Z K) : n ≤ L := by
  have := qb_mL h.1 (Nat.zero_le L)
  omega
theorem qb_gap (h : qb_Tok C L n S Z K) {k : Nat} (hk : k ≤ n) : qb_pe 0 S Z k ≤ S k ∧ (∀ q, qb_pe 0 S Z k ≤ q → q < S k → C q = 18) := by
  by_cases e : k = n
  · subst e
    obtain ⟨_, e, a, b⟩ := h
    rw [e]
    exact ⟨a, b⟩
  · have := h.1 k (by omega)
    exact ⟨this.1, this.2.1⟩
theorem qb_SZ (h : qb_Tok C L n S Z K) {k : Nat} (hk : k < n) : S k < S k + Z k ∧ S k + Z k ≤ L ∧ K k ≤ 10 := by
  have a := qb_At_f (h.1 k hk).2.2
  exact ⟨a.1, a.2.1, a.2.2.1⟩
theorem qb_SS (h : qb_Tok C L n S Z K) {i j : Nat} (hi : i < j) (hj : j ≤ n) : S i + Z i ≤ S j := by
  have a := qb_pem h.1 (i + 1) (j - (i + 1)) (by omega)
  have e : i + 1 + (j - (i + 1)) = j := by omega
  rw [e] at a
  have b := (qb_gap h hj).1
  have c : qb_pe 0 S Z (i + 1) = S i + Z i := rfl
  omega
theorem qb_SL (h : qb_Tok C L n S Z K) {j : Nat} (hj : j ≤ n) : S j ≤ L := by
  by_cases e : j = n
  · subst e; exact Nat.le_of_eq h.2.1
  · have := qb_SZ h (k := j) (by omega); omega
theorem qb_kS (h : qb_Tok C L n S Z K) {j : Nat} (hj : j ≤ n) : j ≤ S j := by
  have a := qb_pem h.1 0 j (by omega)
  have b := (qb_gap h hj).1
  have c : qb_pe 0 S Z 0 = 0 := rfl
  rw [Nat.zero_add] at a
  omega
/-- an edit: came characters stand where gone stood -/
def qb_Ed (C0 : Nat → Nat) (L0 : Nat) (C : Nat → Nat) (L p came gone : Nat) : Prop :=
  p + came ≤ L ∧ p + gone ≤ L0 ∧ L + gone = L0 + came ∧ (∀ q, q < p → C q = C0 q) ∧ (∀ d, p + came + d < L → C (p + came + d) = C0 (p + gone + d))
theorem qb_At_pre {came gone s κ e : Nat} (hE : qb_Ed C0 L0 C L p came gone) (h : qb_At C0 L0 s κ e) (he : e < p) : qb_At C L s κ e := by
  obtain ⟨h1, h2, h3, h4, h5⟩ := hE
  have hf := qb_At_f h
  obtain ⟨hs, hc⟩ := h
  have c0 : C s = C0 s := h4 s (by omega)
  have ce : C e = C0 e := h4 e he
  refine ⟨by omega, ?_⟩
  rw [c0]
  rcases hc with ⟨a, b, c, d, f, g⟩ | ⟨a, a', b, c, d, f, g⟩ | ⟨a, b, c, d, f⟩ | ⟨a, b, c, f⟩ | ⟨a, b, c, d⟩
  · exact Or.inl ⟨a, b, c, by omega, fun q q1 q2 => by rw [h4 q (by omega)]; exact f q q1 q2, fun _ => by rw [ce]; exact g (by omega)⟩
  · exact Or.inr (Or.inl ⟨a, a', b, c, by omega, fun q q1 q2 => by rw [h4 q (by omega)]; exact f q q1 q2, fun _ => by rw [ce]; exact g (by omega)⟩)
  · exact Or.inr (Or.inr (Or.inl ⟨a, b, c, by omega, by rw [h4 (s + 1) (by omega)]; exact f⟩))
  · exact Or.inr (Or.inr (Or.inr (Or.inl ⟨a, b, c, fun _ => by rw [h4 (s + 1) (by omega)]; exact f (by omega)⟩)))
  · exact Or.inr (Or.inr (Or.inr (Or.inr ⟨a, b, c, d⟩)))
theorem qb_Ed_c {came gone s : Nat} (hE : qb_Ed C0 L0 C L p came gone) (h : p + gone ≤ s) (h2 : s < L0) : C (s + came - gone) = C0 s := by
  obtain ⟨h1, _, h3, h4, h5⟩ := hE
  have := h5 (s - (p + gone)) (by omega)
  have e1 : p + came + (s - (p + gone)) = s + came - gone := by omega
  have e2 : p + gone + (s - (p + gone)) = s := by omega
  rw [e1, e2] at this
  exact this
theorem qb_At_suf {came gone s κ e : Nat} (hE : qb_Ed C0 L0 C L p came gone) (h : qb_At C0 L0 s κ e) (hs0 : p + gone ≤ s) : qb_At C L (s + came - gone) κ (e + came - gone) := by
  have hf := qb_At_f h
  obtain ⟨hs, hc⟩ := h
  have hc0 := fun x => qb_Ed_c (s := x) hE
  have c0 : C (s + came - gone) = C0 s := hc0 s hs0 hs
  obtain ⟨h1, h2, h3, h4, h5⟩ := hE
  refine ⟨by omega, ?_⟩
  rw [c0]
  have hce : e + came - gone < L → e < L0 ∧ C (e + came - gone) = C0 e := fun x => ⟨by omega, hc0 e (by omega) (by omega)⟩
  have hcq : ∀ q, s + came - gone < q → q < e + came - gone → s < q + gone - came ∧ q + gone - came < e ∧ C q = C0 (q + gone - came) := by
    intro q a b
    have := hc0 (q + gone - came) (by omega) (by omega)
    have e1 : q + gone - came + came - gone = q := by omega
    rw [e1] at this
    exact ⟨by omega, by omega, this⟩
  have e1 : s + came - gone + 1 = s + 1 + came - gone := by omega
  rcases hc with ⟨a, b, c, d, f, g⟩ | ⟨a, a', b, c, d, f, g⟩ | ⟨a, b, c, d, f⟩ | ⟨a, b, c, f⟩ | ⟨a, b, c, d⟩
  · exact Or.inl ⟨a, b, by omega, by omega, fun q q1 q2 => by obtain ⟨u, v, w⟩ := hcq q q1 q2; rw [w]; exact f _ u v, fun x => by obtain ⟨u, v⟩ := hce x; rw [v]; exact g u⟩
  · exact Or.inr (Or.inl ⟨a, a', b, by omega, by omega, fun q q1 q2 => by obtain ⟨u, v, w⟩ := hcq q q1 q2; rw [w]; exact f _ u v, fun x => by obtain ⟨u, v⟩ := hce x; rw [v]; exact g u⟩)
  · exact Or.inr (Or.inr (Or.inl ⟨a, b, by omega, by omega, by rw [e1, hc0 (s + 1) (by omega) (by omega)]; exact f⟩))
  · exact Or.inr (Or.inr (Or.inr (Or.inl ⟨a, b, by omega, fun x => by rw [e1, hc0 (s + 1) (by omega) (by omega)]; exact f (by omega)⟩)))
  · exact Or.inr (Or.inr (Or.inr (Or.inr ⟨a, b, c, by omega⟩)))
end
/-- k of x, then m of y, then z from o on -/
def qb_gl {α : Type} (k m o : Nat) (x y z : Nat → α) : Nat → α := fun j => if j < k then x j else if j < k + m then y (j - k) else z (j - (k + m) + o)
theorem qb_gl_lo {α : Type} {k m o j : Nat} {x y z : Nat → α} (h : j < k) : qb_gl k m o x y z j = x j := if_pos h
theorem qb_gl_mid {α : Type} {k m o j : Nat} {x y z : Nat → α} (h : j < m) : qb_gl k m o x y z (k + j) = y j := by
  have e : k + j - k = j := by omega
  show (if k + j < k then x (k + j) else if k + j < k + m then y (k + j - k) else z (k + j - (k + m) + o)) = y j
  rw [if_neg (by omega), if_pos (by omega), e]
theorem qb_gl_hi {α : Type} {k m o j : Nat} {x y z : Nat → α} : qb_gl k m o x y z (k + m + j) = z (o + j) := by
  have e : k + m + j - (k + m) + o = o + j := by omega
  show (if k + m + j < k then x (k + m + j) else if k + m + j < k + m then y (k + m + j - k) else z (k + m + j - (k + m) + o)) = z (o + j)
  rw [if_neg (by omega), if_neg (by omega), e]
section
variable {C C0 : Nat → Nat} {L L0 p m n came gone k o : Nat} {S Z K fS fZ fK : Nat → Nat}
theorem qb_glue (hT : qb_Tok C0 L0 n S Z K) (hE : qb_Ed C0 L0 C L p came gone) (hk : k ≤ o) (ho : o ≤ n) (hkp : ∀ j, j < k → S j + Z j < p) (hC : qb_Ch C L (qb_pe 0 S Z k) m fS fZ fK) (hS : p + gone ≤ S o) (hq : qb_pe (qb_pe 0 S Z k) fS fZ m ≤ S o + came - gone) (hg : ∀ q, qb_pe (qb_pe 0 S Z k) fS fZ m ≤ q → q < S o + came - gone → C q = 18) :
    qb_Tok C L (k + m + (n - o)) (qb_gl k m o S fS (fun j => S j + came - gone)) (qb_gl k m o Z fZ Z) (qb_gl k m o K fK K) := by
  have p1 : ∀ i, i ≤ k → qb_pe 0 (qb_gl k m o S fS (fun j => S j + came - gone)) (qb_gl k m o Z fZ Z) i = qb_pe 0 S Z i := by
    intro i hi
    cases i with
    | zero => rfl
    | succ i =>
      show qb_gl k m o S fS (fun j => S j + came - gone) i + qb_gl k m o Z fZ Z i = S i + Z i
      rw [qb_gl_lo (by omega), qb_gl_lo (by omega)]
  have p2 : ∀ j, j ≤ m → qb_pe 0 (qb_gl k m o S fS (fun j => S j + came - gone)) (qb_gl k m o Z fZ Z) (k + j) = qb_pe (qb_pe 0 S Z k) fS fZ j := by
    intro j hj
    cases j with
    | zero => exact p1 k (Nat.le_refl k)
    | succ j =>
      show qb_gl k m o S fS (fun j => S j + came - gone) (k + j) + qb_gl k m o Z fZ Z (k + j) = fS j + fZ j
      rw [qb_gl_mid (by omega), qb_gl_mid (by omega)]
  have p3 : ∀ j, qb_pe 0 (qb_gl k m o S fS (fun j => S j + came - gone)) (qb_gl k m o Z fZ Z) (k + m + (j + 1)) = S (o + j) + came - gone + Z (o + j) := by
    intro j
    show qb_gl k m o S fS (fun j => S j + came - gone) (k + m + j) + qb_gl k m o Z fZ Z (k + m + j) = _
    rw [qb_gl_hi, qb_gl_hi]
  have hSo : ∀ j, o + j ≤ n → p + gone ≤ S (o + j) := by
    intro j hj
    cases j with
    | zero => exact hS
    | succ j =>
      have := qb_SS hT (i := o) (j := o + (j + 1)) (by omega) hj
      omega
  have g3 : ∀ j, o + j ≤ n → qb_pe 0 (qb_gl k m o S fS (fun j => S j + came - gone)) (qb_gl k m o Z fZ Z) (k + m + j) ≤ S (o + j) + came - gone ∧ (∀ q, qb_pe 0 (qb_gl k m o S fS (fun j => S j + came - gone)) (qb_gl k m o Z fZ Z) (k + m + j) ≤ q → q < S (o + j) + came - gone → C q = 18) := by
    intro j hj
    cases j with
    | zero =>
      have e := p2 m (Nat.le_refl m)
      rw [Nat.add_zero, Nat.add_zero, e]
      exact ⟨hq, hg⟩
    | succ j =>
      rw [p3 j]
      have a := hSo j (by omega)
      have b := hSo (j + 1) hj
      obtain ⟨c, d⟩ := qb_gap hT (k := o + (j + 1)) hj
      have c' : S (o + j) + Z (o + j) ≤ S (o + (j + 1)) := c
      refine ⟨by omega, fun q q1 q2 => ?_⟩
      have z1 := qb_SL hT (j := o + (j + 1)) hj
      have z2 := d (q + gone - came) (show S (o + j) + Z (o + j) ≤ q + gone - came by omega) (by omega)
      have z3 := qb_Ed_c (s := q + gone - came) hE (by omega) (by omega)
      have e : q + gone - came + came - gone = q := by omega
      rw [e] at z3
      rw [z3]; exact z2
  have f3 := g3 (n - o) (by omega)
  have e3 : o + (n - o) = n := by omega
  have eL : S n + came - gone = L := by
    have := hT.2.1; have := hE.2.2.1; have := hE.2.1; omega
  rw [e3, eL] at f3
  refine ⟨?_, ?_, f3.1, f3.2⟩
  · intro i hi
    by_cases h1 : i < k
    · rw [p1 i (by omega), qb_gl_lo h1, qb_gl_lo h1, qb_gl_lo h1]
      obtain ⟨a, b, c⟩ := hT.1 i (by omega)
      have hp := hkp i h1
      exact ⟨a, fun q q1 q2 => by rw [hE.2.2.2.1 q (by omega)]; exact b q q1 q2, qb_At_pre hE c hp⟩
    · by_cases h2 : i < k + m
      · obtain ⟨j, rfl⟩ : ∃ j, i = k + j := ⟨i - k, by omega⟩
        rw [p2 j (by omega), qb_gl_mid (by omega), qb_gl_mid (by omega), qb_gl_mid (by omega)]
        exact hC j (by omega)
      · obtain ⟨j, rfl⟩ : ∃ j, i = k + m + j := ⟨i - (k + m), by omega⟩
        have z := g3 j (by omega)
        rw [qb_gl_hi, qb_gl_hi, qb_gl_hi]
        refine ⟨z.1, z.2, ?_⟩
        have y := hSo j (by omega)
        have x := qb_At_suf hE (hT.1 (o + j) (by omega)).2.2 y
        have e : S (o + j) + Z (o + j) + came - gone = S (o + j) + came - gone + Z (o + j) := by omega
        rw [e] at x
        exact x
  · rw [qb_gl_hi, e3]; exact eL
end
end
section
/-! stretches: what stands between two ends -/
def qc_Str (n : Nat) (K : Nat → Nat) (G : Nat) (F Q : Nat → Nat) (E : Nat → Int32) : Prop :=
  0 < G ∧ F 0 = 0 ∧ (∀ g, g + 1 < G → F (g + 1) = F g + Q g + 1 ∧ F g + Q g < n ∧ 8 ≤ K (F g + Q g) ∧ E g = nI (K (F g + Q g))) ∧
  (∀ g, g + 1 = G → F g + Q g = n ∧ E g = -1) ∧ (∀ g t, g < G → F g ≤ t → t < F g + Q g → K t < 8)
section
variable {n G : Nat} {K F Q : Nat → Nat} {E : Nat → Int32}
theorem qc_mono (h : qc_Str n K G F Q E) (g : Nat) : ∀ d, g + d + 1 < G → F g + Q g < F (g + d + 1) := by
  intro d
  induction d with
  | zero => intro hd; have := (h.2.2.1 g (by omega)).1; rw [Nat.add_zero]; omega
  | succ d ih =>
    intro hd
    have a := ih (by omega)
    have b := (h.2.2.1 (g + d + 1) (by omega)).1
    have e : g + (d + 1) + 1 = g + d + 1 + 1 := rfl
    rw [e]; omega
theorem qc_lt (h : qc_Str n K G F Q E) {g g' : Nat} (h1 : g < g') (h2 : g' < G) : F g + Q g < F g' := by
  have := qc_mono h g (g' - g - 1) (by omega)
  have e : g + (g' - g - 1) + 1 = g' := by omega
  rw [e] at this; exact this
theorem qc_le (h : qc_Str n K G F Q E) {g : Nat} (hg : g < G) : F g + Q g ≤ n := by
  by_cases e : g + 1 = G
  · exact Nat.le_of_eq (h.2.2.2.1 g e).1
  · have := (h.2.2.1 g (by omega)).2.1; omega
theorem qc_gF (h : qc_Str n K G F Q E) : ∀ g, g < G → g ≤ F g := by
  intro g
  induction g with
  | zero => intro _; omega
  | succ g ih => intro hg; have := ih (by omega); have := (h.2.2.1 g hg).1; omega
theorem qc_G (h : qc_Str n K G F Q E) : G ≤ n + 1 := by
  have h0 := h.1
  have a := qc_gF h (G - 1) (by omega)
  have b := qc_le h (g := G - 1) (by omega)
  omega
theorem qc_E (h : qc_Str n K G F Q E) {g : Nat} (hg : g < G) : E g = -1 ∨ ∃ t, t < n ∧ E g = nI (K t) := by
  by_cases e : g + 1 = G
  · exact Or.inl (h.2.2.2.1 g e).2
  · have := h.2.2.1 g (by omega); exact Or.inr ⟨_, this.2.1, this.2.2.2⟩
end
/-- ends in d tokens from x on -/
def qc_ce (K : Nat → Nat) (x : Nat) : Nat → Nat
  | 0 => 0
  | d + 1 => qc_ce K x d + if 8 ≤ K (x + d) then 1 else 0
theorem qc_ce_add (K : Nat → Nat) (x d : Nat) : ∀ e, qc_ce K x (d + e) = qc_ce K x d + qc_ce K (x + d) e := by
  intro e
  induction e with
  | zero => rfl
  | succ e ih =>
    show qc_ce K x (d + e) + (if 8 ≤ K (x + (d + e)) then 1 else 0) = qc_ce K x d + (qc_ce K (x + d) e + if 8 ≤ K (x + d + e) then 1 else 0)
    rw [ih, Nat.add_assoc x d e, Nat.add_assoc]
theorem qc_ce_0 {K : Nat → Nat} {x : Nat} : ∀ d, (∀ t, x ≤ t → t < x + d → K t < 8) → qc_ce K x d = 0 := by
  intro d
  induction d with
  | zero => intro _; rfl
  | succ d ih =>
    intro h
    have a := ih (fun t h1 h2 => h t h1 (by omega))
    have b := h (x + d) (by omega) (by omega)
    show qc_ce K x d + (if 8 ≤ K (x + d) then 1 else 0) = 0
    rw [a, if_neg (by omega)]
theorem qc_0_ce {K : Nat → Nat} {x : Nat} : ∀ d, qc_ce K x d = 0 → ∀ t, x ≤ t → t < x + d → K t < 8 := by
  intro d
  induction d with
  | zero => intro _ t h1 h2; omega
  | succ d ih =>
    intro h t h1 h2
    have h' : qc_ce K x d + (if 8 ≤ K (x + d) then 1 else 0) = 0 := h
    have a : qc_ce K x d = 0 := by omega
    by_cases e : t = x + d
    · subst e
      by_cases z : 8 ≤ K (x + d)
      · rw [if_pos z] at h'; omega
      · omega
    · exact ih a t h1 (by omega)
theorem qc_ce_le {K : Nat → Nat} {x : Nat} : ∀ d, qc_ce K x d ≤ d := by
  intro d
  induction d with
  | zero => exact Nat.le_refl 0
  | succ d ih =>
    show qc_ce K x d + (if 8 ≤ K (x + d) then 1 else 0) ≤ d + 1
    by_cases z : 8 ≤ K (x + d)
    · rw [if_pos z]; omega
    · rw [if_neg z]; omega
/-- the first end from t on, or n -/
def qc_nx (K : Nat → Nat) (n : Nat) : Nat → Nat → Nat
  | 0, t => t
  | d + 1, t => if t < n ∧ K t < 8 then qc_nx K n d (t + 1) else t
theorem qc_nx_f {K : Nat → Nat} {n : Nat} : ∀ d t, t ≤ n → n ≤ t + d → t ≤ qc_nx K n d t ∧ qc_nx K n d t ≤ n ∧ (∀ s, t ≤ s → s < qc_nx K n d t → K s < 8) ∧ (qc_nx K n d t = n ∨ 8 ≤ K (qc_nx K n d t)) := by
  intro d
  induction d with
  | zero =>
    intro t h1 h2
    have e : qc_nx K n 0 t = t := rfl
    rw [e]
    exact ⟨Nat.le_refl _, h1, fun s a b => by omega, Or.inl (by omega)⟩
  | succ d ih =>
    intro t h1 h2
    by_cases h : t < n ∧ K t < 8
    · have e : qc_nx K n (d + 1) t = qc_nx K n d (t + 1) := if_pos h
      rw [e]
      obtain ⟨a, b, c, f⟩ := ih (t + 1) (by omega) (by omega)
      refine ⟨by omega, b, fun s s1 s2 => ?_, f⟩
      by_cases z : s = t
      · rw [z]; exact h.2
      · exact c s (by omega) s2
    · have e : qc_nx K n (d + 1) t = t := if_neg h
      rw [e]
      exact ⟨Nat.le_refl _, h1, fun s a b => by omega, by omega⟩
def qc_bg (K : Nat → Nat) (n f : Nat) : Nat → Nat
  | 0 => f
  | i + 1 => qc_nx K n n (qc_bg K n f i) + 1
section
variable {n G k m o a b : Nat} {K K' F Q : Nat → Nat} {E : Nat → Int32}
theorem qc_bgi (hk : k ≤ o) (ho : o ≤ n) (ha : F a ≤ k) : ∀ i, i ≤ qc_ce K' (F a) (k + m - F a) →
    F a ≤ qc_bg K' (k + m + (n - o)) (F a) i ∧ qc_bg K' (k + m + (n - o)) (F a) i ≤ k + m ∧ qc_ce K' (F a) (qc_bg K' (k + m + (n - o)) (F a) i - F a) = i ∧
    (i < qc_ce K' (F a) (k + m - F a) → qc_bg K' (k + m + (n - o)) (F a) i ≤ qc_nx K' (k + m + (n - o)) (k + m + (n - o)) (qc_bg K' (k + m + (n - o)) (F a) i) ∧ qc_nx K' (k + m + (n - o)) (k + m + (n - o)) (qc_bg K' (k + m + (n - o)) (F a) i) < k + m ∧ 8 ≤ K' (qc_nx K' (k + m + (n - o)) (k + m + (n - o)) (qc_bg K' (k + m + (n - o)) (F a) i)) ∧ (∀ s, qc_bg K' (k + m + (n - o)) (F a) i ≤ s → s < qc_nx K' (k + m + (n - o)) (k + m + (n - o)) (qc_bg K' (k + m + (n - o)) (F a) i) → K' s < 8)) := by
  have key : ∀ i B, B = qc_bg K' (k + m + (n - o)) (F a) i → F a ≤ B → B ≤ k + m → qc_ce K' (F a) (B - F a) = i → i < qc_ce K' (F a) (k + m - F a) → B ≤ qc_nx K' (k + m + (n - o)) (k + m + (n - o)) B ∧ qc_nx K' (k + m + (n - o)) (k + m + (n - o)) B < k + m ∧ 8 ≤ K' (qc_nx K' (k + m + (n - o)) (k + m + (n - o)) B) ∧ (∀ s, B ≤ s → s < qc_nx K' (k + m + (n - o)) (k + m + (n - o)) B → K' s < 8) := by
    intro i B _ h1 h2 h3 h4
    obtain ⟨z1, z2, z3, z4⟩ := qc_nx_f (K := K') (n := k + m + (n - o)) (k + m + (n - o)) B (by omega) (by omega)
    have hlt : qc_nx K' (k + m + (n - o)) (k + m + (n - o)) B < k + m := by
      refine Nat.lt_of_not_le (fun hge => ?_)
      have y := qc_ce_add K' (F a) (B - F a) (k + m - B)
      have e1 : B - F a + (k + m - B) = k + m - F a := by omega
      have e2 : F a + (B - F a) = B := by omega
      rw [e1, e2, h3, qc_ce_0 (K := K') (x := B) (k + m - B) (fun t t1 t2 => z3 t t1 (by omega))] at y
      omega
    refine ⟨z1, hlt, ?_, z3⟩
    rcases z4 with z4 | z4
    · omega
    · exact z4
  intro i
  induction i with
  | zero =>
    intro _
    have e : qc_bg K' (k + m + (n - o)) (F a) 0 = F a := rfl
    refine ⟨Nat.le_refl _, by rw [e]; omega, ?_, key 0 _ rfl (Nat.le_refl _) (by rw [e]; omega) ?_⟩
    · rw [e, Nat.sub_self]; rfl
    · rw [e, Nat.sub_self]; rfl
  | succ i ih =>
    intro hi
    obtain ⟨h1, h2, h3, h4⟩ := ih (by omega)
    obtain ⟨w1, w2, w3, w4⟩ := h4 (by omega)
    have e : qc_bg K' (k + m + (n - o)) (F a) (i + 1) = qc_nx K' (k + m + (n - o)) (k + m + (n - o)) (qc_bg K' (k + m + (n - o)) (F a) i) + 1 := rfl
    rw [e]
    generalize hB : qc_bg K' (k + m + (n - o)) (F a) i = B at *
    generalize hN : qc_nx K' (k + m + (n - o)) (k + m + (n - o)) B = N at *
    have c1 : qc_ce K' (F a) (N + 1 - F a) = i + 1 := by
      have y := qc_ce_add K' (F a) (B - F a) (N - B)
      have e1 : B - F a + (N - B) = N - F a := by omega
      have e2 : F a + (B - F a) = B := by omega
      rw [e1, e2, h3, qc_ce_0 (K := K') (x := B) (N - B) (fun t t1 t2 => w4 t t1 (by omega))] at y
      have e3 : N + 1 - F a = N - F a + 1 := by omega
      rw [e3]
      show qc_ce K' (F a) (N - F a) + (if 8 ≤ K' (F a + (N - F a)) then 1 else 0) = i + 1
      have e4 : F a + (N - F a) = N := by omega
      rw [e4, y, if_pos w3]
    exact ⟨by omega, by omega, c1, key (i + 1) (N + 1) (by rw [e]) (by omega) (by omega) c1⟩
/-- the last of the new stretches ends where the old one did -/
theorem qc_bgc (hS : qc_Str n K G F Q E) (hk : k ≤ o) (ho : o ≤ n) (ha : F a ≤ k) (hb : b < G) (hb1 : F b ≤ o) (hb2 : o ≤ F b + Q b) (hK : ∀ j, j < n - o → K' (k + m + j) = K (o + j)) :
    qc_bg K' (k + m + (n - o)) (F a) (qc_ce K' (F a) (k + m - F a)) ≤ k + m ∧
    qc_nx K' (k + m + (n - o)) (k + m + (n - o)) (qc_bg K' (k + m + (n - o)) (F a) (qc_ce K' (F a) (k + m - F a))) = F b + Q b + (k + m) - o ∧
    (∀ s, qc_bg K' (k + m + (n - o)) (F a) (qc_ce K' (F a) (k + m - F a)) ≤ s → s < F b + Q b + (k + m) - o → K' s < 8) := by
  obtain ⟨h1, h2, h3, _⟩ := qc_bgi (K' := K') (m := m) hk ho ha (qc_ce K' (F a) (k + m - F a)) (Nat.le_refl _)
  generalize hc : qc_ce K' (F a) (k + m - F a) = c at *
  generalize hB : qc_bg K' (k + m + (n - o)) (F a) c = B at *
  have hFn := qc_le hS hb
  have y := qc_ce_add K' (F a) (B - F a) (k + m - B)
  have e1 : B - F a + (k + m - B) = k + m - F a := by omega
  have e2 : F a + (B - F a) = B := by omega
  rw [e1, e2, h3, hc] at y
  have y0 : qc_ce K' B (k + m - B) = 0 := by omega
  have z := qc_0_ce _ y0
  have all : ∀ s, B ≤ s → s < F b + Q b + (k + m) - o → K' s < 8 := by
    intro s s1 s2
    by_cases hs : s < k + m
    · exact z s s1 (by omega)
    · obtain ⟨j, rfl⟩ : ∃ j, s = k + m + j := ⟨s - (k + m), by omega⟩
      rw [hK j (by omega)]
      exact hS.2.2.2.2 b (o + j) hb (by omega) (by omega)
  obtain ⟨z1, z2, z3, z4⟩ := qc_nx_f (K := K') (n := k + m + (n - o)) (k + m + (n - o)) B (by omega) (by omega)
  refine ⟨h2, ?_, all⟩
  generalize hN : qc_nx K' (k + m + (n - o)) (k + m + (n - o)) B = N at *
  by_cases h : N < F b + Q b + (k + m) - o
  · have := all N z1 h
    rcases z4 with z4 | z4
    · omega
    · omega
  · by_cases h' : F b + Q b + (k + m) - o < N
    · exfalso
      have w := z3 (F b + Q b + (k + m) - o) (by omega) h'
      by_cases e : b + 1 = G
      · have := (hS.2.2.2.1 b e).1; omega
      · obtain ⟨_, w1, w2, _⟩ := hS.2.2.1 b (by omega)
        have e5 : F b + Q b + (k + m) - o = k + m + (F b + Q b - o) := by omega
        have e6 : o + (F b + Q b - o) = F b + Q b := by omega
        rw [e5, hK _ (by omega), e6] at w
        omega
    · omega
theorem qc_glue (hS : qc_Str n K G F Q E) (hk : k ≤ o) (ho : o ≤ n) (ha0 : a < G) (ha : F a ≤ k) (hb : b < G) (hb1 : F b ≤ o) (hb2 : o ≤ F b + Q b) (hKl : ∀ t, t < k → K' t = K t) (hK : ∀ j, j < n - o → K' (k + m + j) = K (o + j)) :
    qc_Str (k + m + (n - o)) K' (a + (qc_ce K' (F a) (k + m - F a) + 1) + (G - (b + 1)))
      (qb_gl a (qc_ce K' (F a) (k + m - F a) + 1) (b + 1) F (qc_bg K' (k + m + (n - o)) (F a)) (fun g => F g + (k + m) - o))
      (qb_gl a (qc_ce K' (F a) (k + m - F a) + 1) (b + 1) Q (fun i => qc_nx K' (k + m + (n - o)) (k + m + (n - o)) (qc_bg K' (k + m + (n - o)) (F a) i) - qc_bg K' (k + m + (n - o)) (F a) i) Q)
      (qb_gl a (qc_ce K' (F a) (k + m - F a) + 1) (b + 1) E (fun i => if qc_nx K' (k + m + (n - o)) (k + m + (n - o)) (qc_bg K' (k + m + (n - o)) (F a) i) < k + m + (n - o) then nI (K' (qc_nx K' (k + m + (n - o)) (k + m + (n - o)) (qc_bg K' (k + m + (n - o)) (F a) i))) else -1) E) := by
  have hbi := qc_bgi (K' := K') (m := m) hk ho ha
  have hbc := qc_bgc (m := m) (a := a) hS hk ho ha hb hb1 hb2 hK
  generalize qc_ce K' (F a) (k + m - F a) = c at *
  have hb0 : qc_bg K' (k + m + (n - o)) (F a) 0 = F a := rfl
  have hbs : ∀ i, qc_bg K' (k + m + (n - o)) (F a) (i + 1) = qc_nx K' (k + m + (n - o)) (k + m + (n - o)) (qc_bg K' (k + m + (n - o)) (F a) i) + 1 := fun i => rfl
  generalize qc_bg K' (k + m + (n - o)) (F a) = B at *
  generalize hX : qc_nx K' (k + m + (n - o)) (k + m + (n - o)) = X at *
  have hBX : ∀ i, i ≤ c → B i ≤ X (B i) := by
    intro i hi
    by_cases e : i = c
    · subst e; have := hbc.2.1; have := hbc.1; omega
    · exact (hbi i hi).2.2.2 (by omega) |>.1
  have hFn := qc_le hS hb
  have hmo : ∀ j, b + 1 + j < G → o < F (b + 1 + j) := by
    intro j hj
    have := qc_mono hS b j (by omega)
    have e : b + j + 1 = b + 1 + j := by omega
    rw [e] at this; omega
  refine ⟨by omega, ?_, ?_, ?_, ?_⟩
  · by_cases e : a = 0
    · subst e
      have := qb_gl_mid (k := 0) (m := c + 1) (o := b + 1) (j := 0) (x := F) (y := B) (z := fun g => F g + (k + m) - o) (by omega)
      rw [Nat.zero_add] at this
      rw [this, hb0]; exact hS.2.1
    · rw [qb_gl_lo (by omega)]; exact hS.2.1
  · intro g hg
    by_cases g1 : g < a
    · have s1 := hS.2.2.1 g (by omega)
      have s2 := qc_lt hS g1 ha0
      have eN : qb_gl a (c + 1) (b + 1) F B (fun g => F g + (k + m) - o) (g + 1) = F (g + 1) := by
        by_cases e : g + 1 = a
        · have this : qb_gl a (c + 1) (b + 1) F B (fun g => F g + (k + m) - o) a = B 0 := qb_gl_mid (j := 0) (by omega)
          rw [e, this, hb0]
        · exact qb_gl_lo (by omega)
      rw [eN, qb_gl_lo g1, qb_gl_lo g1, qb_gl_lo g1, hKl _ (by omega)]
      exact ⟨s1.1, by omega, s1.2.2.1, s1.2.2.2⟩
    · by_cases g2 : g < a + (c + 1)
      · obtain ⟨i, rfl⟩ : ∃ i, g = a + i := ⟨g - a, by omega⟩
        have x := hBX i (by omega)
        rw [qb_gl_mid (by omega), qb_gl_mid (by omega), qb_gl_mid (by omega)]
        have e0 : B i + (X (B i) - B i) = X (B i) := by omega
        rw [e0]
        by_cases hi : i < c
        · obtain ⟨u1, u2, u3, u4⟩ := (hbi i (by omega)).2.2.2 hi
          have eN : qb_gl a (c + 1) (b + 1) F B (fun g => F g + (k + m) - o) (a + i + 1) = B (i + 1) := qb_gl_mid (j := i + 1) (by omega)
          rw [eN, hbs i]
          exact ⟨rfl, by omega, u3, if_pos (by omega)⟩
        · have ei : i = c := by omega
          subst ei
          have eN : qb_gl a (i + 1) (b + 1) F B (fun g => F g + (k + m) - o) (a + i + 1) = F (b + 1) + (k + m) - o := qb_gl_hi (k := a) (m := i + 1) (j := 0)
          obtain ⟨v1, v2, v3, v4⟩ := hS.2.2.1 b (by omega)
          have e5 : F b + Q b + (k + m) - o = k + m + (F b + Q b - o) := by omega
          have e6 : o + (F b + Q b - o) = F b + Q b := by omega
          have e7 : K' (F b + Q b + (k + m) - o) = K (F b + Q b) := by rw [e5, hK _ (by omega), e6]
          rw [eN, hbc.2.1]
          refine ⟨by omega, by omega, by rw [e7]; exact v3, if_pos (by omega)⟩
      · obtain ⟨j, rfl⟩ : ∃ j, g = a + (c + 1) + j := ⟨g - (a + (c + 1)), by omega⟩
        obtain ⟨v1, v2, v3, v4⟩ := hS.2.2.1 (b + 1 + j) (by omega)
        have w := hmo j (by omega)
        have eN : qb_gl a (c + 1) (b + 1) F B (fun g => F g + (k + m) - o) (a + (c + 1) + j + 1) = F (b + 1 + (j + 1)) + (k + m) - o := qb_gl_hi (j := j + 1)
        have e1 : b + 1 + (j + 1) = b + 1 + j + 1 := rfl
        rw [eN, qb_gl_hi, qb_gl_hi, qb_gl_hi, e1]
        have e0 : F (b + 1 + j) + (k + m) - o + Q (b + 1 + j) = k + m + (F (b + 1 + j) + Q (b + 1 + j) - o) := by omega
        have e6 : o + (F (b + 1 + j) + Q (b + 1 + j) - o) = F (b + 1 + j) + Q (b + 1 + j) := by omega
        rw [e0, hK _ (by omega), e6]
        exact ⟨by omega, by omega, v3, v4⟩
  · intro g hg
    by_cases e : b + 1 = G
    · obtain ⟨v1, v2⟩ := hS.2.2.2.1 b e
      obtain rfl : g = a + c := by omega
      have x := hBX c (by omega)
      rw [qb_gl_mid (by omega), qb_gl_mid (by omega), qb_gl_mid (by omega)]
      have e0 : B c + (X (B c) - B c) = X (B c) := by omega
      rw [e0, hbc.2.1]
      exact ⟨by omega, if_neg (by omega)⟩
    · obtain ⟨j, rfl⟩ : ∃ j, g = a + (c + 1) + j := ⟨g - (a + (c + 1)), by omega⟩
      obtain ⟨v1, v2⟩ := hS.2.2.2.1 (b + 1 + j) (by omega)
      have w := hmo j (by omega)
      rw [qb_gl_hi, qb_gl_hi, qb_gl_hi]
      exact ⟨by omega, v2⟩
  · intro g t hg t1 t2
    by_cases g1 : g < a
    · rw [qb_gl_lo g1] at t1 t2
      rw [qb_gl_lo g1] at t2
      have s2 := qc_lt hS g1 ha0
      rw [hKl t (by omega)]
      exact hS.2.2.2.2 g t (by omega) t1 t2
    · by_cases g2 : g < a + (c + 1)
      · obtain ⟨i, rfl⟩ : ∃ i, g = a + i := ⟨g - a, by omega⟩
        have x := hBX i (by omega)
        rw [qb_gl_mid (by omega)] at t1 t2
        rw [qb_gl_mid (by omega)] at t2
        have e0 : B i + (X (B i) - B i) = X (B i) := by omega
        rw [e0] at t2
        by_cases hi : i < c
        · exact ((hbi i (by omega)).2.2.2 hi).2.2.2 t t1 t2
        · have ei : i = c := by omega
          subst ei
          rw [hbc.2.1] at t2
          exact hbc.2.2 t t1 t2
      · obtain ⟨j, rfl⟩ : ∃ j, g = a + (c + 1) + j := ⟨g - (a + (c + 1)), by omega⟩
        rw [qb_gl_hi] at t1 t2
        rw [qb_gl_hi] at t2
        have w := hmo j (by omega)
        have hle := qc_le hS (g := b + 1 + j) (by omega)
        have e0 : t = k + m + (t - (k + m)) := by omega
        rw [e0, hK _ (by omega)]
        exact hS.2.2.2.2 (b + 1 + j) _ (by omega) (by omega) (by omega)
end
end
section
/-! reading an expression: a pile of operators, the code (its last part first); κ: kinds by places in the stretch -/
def qd_st (k : Nat) : Nat := if k = 3 then 1 else if k = 4 then 2 else if k = 5 then 3 else 0
def qd_pop (κ : Nat → Nat) (l : Nat) : List Nat → List Nat → List Nat × List Nat
  | [], r => ([], r)
  | o :: s, r => if l ≤ qd_st (κ o) then qd_pop κ l s (o :: r) else (o :: s, r)
abbrev qd_S : Type := Bool × List Nat × List Nat
def qd_rd (κ : Nat → Nat) (o : Nat) (x : qd_S) : Option qd_S :=
  if κ o ≤ 1 then (if x.1 = true then none else some (true, x.2.1, o :: x.2.2))
  else if κ o = 6 then (if x.1 = true then none else some (false, o :: x.2.1, x.2.2))
  else if x.1 = false then none
  else if κ o = 7 then (if (qd_pop κ 1 x.2.1 x.2.2).1 = [] then none else some (true, (qd_pop κ 1 x.2.1 x.2.2).1.tail, (qd_pop κ 1 x.2.1 x.2.2).2))
  else if κ o = 2 then none
  else if κ o = 3 then (if (qd_pop κ 2 x.2.1 x.2.2).1 ≠ [] ∧ κ ((qd_pop κ 2 x.2.1 x.2.2).1.headD 0) = 3 then none else some (false, o :: (qd_pop κ 2 x.2.1 x.2.2).1, (qd_pop κ 2 x.2.1 x.2.2).2))
  else some (false, o :: (qd_pop κ (qd_st (κ o)) x.2.1 x.2.2).1, (qd_pop κ (qd_st (κ o)) x.2.1 x.2.2).2)
def qd_run (κ : Nat → Nat) : Nat → Nat → qd_S → Option qd_S
  | 0, _, x => some x
  | c + 1, o, x => (qd_rd κ o x).bind (qd_run κ c (o + 1))
def qd_end (κ : Nat → Nat) (x : qd_S) : Option (List Nat) := if x.1 = true ∧ (qd_pop κ 1 x.2.1 x.2.2).1 = [] then some (qd_pop κ 1 x.2.1 x.2.2).2 else none
/-- the code, its last part first -/
def qd_fin (κ : Nat → Nat) (f q : Nat) : Option (List Nat) := (qd_run κ (q - f) f (false, [], [])).bind (qd_end κ)
def qd_df (κ : Nat → Nat) (q : Nat) : Prop := 1 < q ∧ κ 0 = 0 ∧ κ 1 = 2
theorem qd_dec {p : Prop} : p ∨ ¬ p := Classical.em p
noncomputable def qd_fr (κ : Nat → Nat) (q : Nat) : Nat := if 1 < q ∧ κ 0 = 0 ∧ κ 1 = 2 then 2 else 0
noncomputable def qd_srt (κ : Nat → Nat) (q : Nat) (e : Int32) : Nat :=
  if q = 0 then 3 else if e = 8 then (match qd_fin κ (qd_fr κ q) q with | none => 0 | some _ => if qd_fr κ q = 2 then 2 else 1) else 0
noncomputable def qd_cd (κ : Nat → Nat) (q : Nat) : List Nat := (qd_fin κ (qd_fr κ q) q).getD []
/-- how many values stand on the pile behind a code; none: an operator lacks one -/
def qd_wd (κ : Nat → Nat) : List Nat → Option Nat
  | [] => some 0
  | o :: r => (qd_wd κ r).bind fun d => if κ o ≤ 1 then some (d + 1) else if 2 ≤ d then some (d - 1) else none
def qd_ops (κ : Nat → Nat) : List Nat → Nat
  | [] => 0
  | o :: s => qd_ops κ s + if κ o = 6 then 0 else 1
def qd_In (κ : Nat → Nat) (f o : Nat) (x : qd_S) : Prop :=
  (∀ t, t ∈ x.2.1 → f ≤ t ∧ t < o ∧ 3 ≤ κ t ∧ κ t ≤ 6) ∧ (∀ t, t ∈ x.2.2 → f ≤ t ∧ t < o) ∧ x.2.1.length + x.2.2.length ≤ o - f ∧
  (∀ t, f ≤ t → t < o → κ t = 0 → t ∈ x.2.2) ∧ qd_wd κ x.2.2 = some (qd_ops κ x.2.1 + if x.1 = true then 1 else 0)
theorem qd_st_le (k : Nat) : qd_st k ≤ 3 := by
  unfold qd_st; split <;> (try split) <;> (try split) <;> omega
theorem qd_st_1 {k : Nat} (h : 1 ≤ qd_st k) : 3 ≤ k ∧ k ≤ 5 := by
  unfold qd_st at h
  by_cases a : k = 3
  · omega
  · rw [if_neg a] at h
    by_cases b : k = 4
    · omega
    · rw [if_neg b] at h
      by_cases c : k = 5
      · omega
      · rw [if_neg c] at h; omega
theorem qd_pop_nil {κ : Nat → Nat} {l : Nat} {r : List Nat} : qd_pop κ l [] r = ([], r) := rfl
theorem qd_pop_y {κ : Nat → Nat} {l o : Nat} {s r : List Nat} (h : l ≤ qd_st (κ o)) : qd_pop κ l (o :: s) r = qd_pop κ l s (o :: r) := if_pos h
theorem qd_pop_n {κ : Nat → Nat} {l o : Nat} {s r : List Nat} (h : ¬ l ≤ qd_st (κ o)) : qd_pop κ l (o :: s) r = (o :: s, r) := if_neg h
theorem qd_wd_v {κ : Nat → Nat} {o d : Nat} {r : List Nat} (h : qd_wd κ r = some d) (ho : κ o ≤ 1) : qd_wd κ (o :: r) = some (d + 1) := by
  show (qd_wd κ r).bind _ = _
  rw [h]
  exact if_pos ho
theorem qd_wd_o {κ : Nat → Nat} {o d : Nat} {r : List Nat} (h : qd_wd κ r = some d) (ho : ¬ κ o ≤ 1) (hd : 2 ≤ d) : qd_wd κ (o :: r) = some (d - 1) := by
  show (qd_wd κ r).bind _ = _
  rw [h]
  show (if κ o ≤ 1 then some (d + 1) else if 2 ≤ d then some (d - 1) else none) = _
  rw [if_neg ho, if_pos hd]
/-- what a pop keeps -/
theorem qd_pop_In {κ : Nat → Nat} {l : Nat} (hl : 1 ≤ l) : ∀ s r, qd_wd κ r = some (qd_ops κ s + 1) →
    qd_wd κ (qd_pop κ l s r).2 = some (qd_ops κ (qd_pop κ l s r).1 + 1) ∧ (qd_pop κ l s r).1.length + (qd_pop κ l s r).2.length = s.length + r.length ∧
    (∀ t, t ∈ (qd_pop κ l s r).1 → t ∈ s) ∧ (∀ t, t ∈ (qd_pop κ l s r).2 → t ∈ s ∨ t ∈ r) ∧ (∀ t, t ∈ r → t ∈ (qd_pop κ l s r).2) ∧ r.length ≤ (qd_pop κ l s r).2.length := by
  intro s
  induction s with
  | nil => intro r h; exact ⟨h, rfl, fun t ht => ht, fun t ht => Or.inr ht, fun t ht => ht, Nat.le_refl _⟩
  | cons o s ih =>
    intro r h
    by_cases c : l ≤ qd_st (κ o)
    · rw [qd_pop_y c]
      have ho := qd_st_1 (k := κ o) (by omega)
      have e : qd_ops κ (o :: s) = qd_ops κ s + 1 := by
        show qd_ops κ s + (if κ o = 6 then 0 else 1) = _
        rw [if_neg (by omega)]
      rw [e] at h
      have w := qd_wd_o h (o := o) (by omega) (by omega)
      obtain ⟨a, b, c, d, g, z⟩ := ih (o :: r) w
      refine ⟨a, ?_, fun t ht => List.mem_cons_of_mem _ (c t ht), fun t ht => ?_, fun t ht => g t (List.mem_cons_of_mem _ ht), ?_⟩
      · rw [b, List.length_cons, List.length_cons]; omega
      · rcases d t ht with h1 | h1
        · exact Or.inl (List.mem_cons_of_mem _ h1)
        · rcases List.mem_cons.mp h1 with h2 | h2
          · exact Or.inl (by rw [h2]; exact List.mem_cons_self)
          · exact Or.inr h2
      · rw [List.length_cons] at z; omega
    · rw [qd_pop_n c]
      exact ⟨h, rfl, fun t ht => ht, fun t ht => Or.inr ht, fun t ht => ht, Nat.le_refl _⟩
theorem qd_ops_tail {κ : Nat → Nat} {l : Nat} (hl : l = 1) : ∀ s r, (∀ t, t ∈ s → 3 ≤ κ t ∧ κ t ≤ 6) → ∀ o s', (qd_pop κ l s r).1 = o :: s' → κ o = 6 := by
  intro s
  induction s with
  | nil => intro r _ o s' h; exact absurd h (by simp [qd_pop])
  | cons x s ih =>
    intro r hk o s' h
    by_cases c : l ≤ qd_st (κ x)
    · rw [qd_pop_y c] at h
      exact ih _ (fun t ht => hk t (List.mem_cons_of_mem _ ht)) o s' h
    · rw [qd_pop_n c] at h
      have e : x = o := (List.cons.inj h).1
      subst e
      have := hk x List.mem_cons_self
      unfold qd_st at c
      by_cases a1 : κ x = 3
      · rw [if_pos a1] at c; omega
      · rw [if_neg a1] at c
        by_cases a2 : κ x = 4
        · rw [if_pos a2] at c; omega
        · rw [if_neg a2] at c
          by_cases a3 : κ x = 5
          · rw [if_pos a3] at c; omega
          · omega
theorem qd_rd_In {κ : Nat → Nat} {f o : Nat} {x y : qd_S} (hf : f ≤ o) (h8 : κ o < 8) (h : qd_In κ f o x) (hy : qd_rd κ o x = some y) : qd_In κ f (o + 1) y := by
  obtain ⟨h1, h2, h3, h4, h5⟩ := h
  unfold qd_rd at hy
  by_cases c1 : κ o ≤ 1
  · rw [if_pos c1] at hy
    by_cases b : x.1 = true
    · rw [if_pos b] at hy; exact absurd hy (by simp)
    · rw [if_neg b] at hy h5
      cases hy
      refine ⟨fun t ht => by have := h1 t ht; exact ⟨this.1, by omega, this.2.2⟩, fun t ht => ?_, ?_, fun t t1 t2 t3 => ?_, ?_⟩
      · rcases List.mem_cons.mp ht with e | e
        · omega
        · have := h2 t e; omega
      · show x.2.1.length + (x.2.2.length + 1) ≤ o + 1 - f; omega
      · by_cases e : t = o
        · rw [e]; exact List.mem_cons_self
        · exact List.mem_cons_of_mem _ (h4 t t1 (by omega) t3)
      · exact qd_wd_v h5 c1
  · rw [if_neg c1] at hy
    by_cases c6 : κ o = 6
    · rw [if_pos c6] at hy
      by_cases b : x.1 = true
      · rw [if_pos b] at hy; exact absurd hy (by simp)
      · rw [if_neg b] at hy h5
        cases hy
        refine ⟨fun t ht => ?_, fun t ht => by have := h2 t ht; omega, ?_, fun t t1 t2 t3 => ?_, ?_⟩
        · rcases List.mem_cons.mp ht with e | e
          · rw [e]; omega
          · have := h1 t e; omega
        · show (x.2.1.length + 1) + x.2.2.length ≤ o + 1 - f; omega
        · by_cases e : t = o
          · rw [e] at t3; omega
          · exact h4 t t1 (by omega) t3
        · show qd_wd κ x.2.2 = some (qd_ops κ x.2.1 + (if κ o = 6 then 0 else 1) + 0)
          rw [if_pos c6, h5]
    · rw [if_neg c6] at hy
      by_cases b : x.1 = false
      · rw [if_pos b] at hy; exact absurd hy (by simp)
      · rw [if_neg b] at hy
        have b' : x.1 = true := by cases hx : x.1 <;> simp_all
        rw [if_pos b'] at h5
        by_cases c7 : κ o = 7
        · rw [if_pos c7] at hy
          obtain ⟨p1, p2, p3, p4, p5, p6⟩ := qd_pop_In (κ := κ) (l := 1) (by omega) x.2.1 x.2.2 h5
          have p7 := qd_ops_tail (κ := κ) (l := 1) rfl x.2.1 x.2.2 (fun t ht => (h1 t ht).2.2)
          generalize qd_pop κ 1 x.2.1 x.2.2 = P at *
          by_cases z : P.1 = []
          · rw [if_pos z] at hy; exact absurd hy (by simp)
          · rw [if_neg z] at hy
            cases hy
            obtain ⟨u, s', e⟩ := List.exists_cons_of_ne_nil z
            have k6 := p7 u s' e
            refine ⟨fun t ht => ?_, fun t ht => ?_, ?_, fun t t1 t2 t3 => ?_, ?_⟩
            · have := h1 t (p3 t (List.mem_of_mem_tail ht)); omega
            · rcases p4 t ht with e | e
              · have := h1 t e; omega
              · have := h2 t e; omega
            · show P.1.tail.length + P.2.length ≤ o + 1 - f
              rw [List.length_tail]; omega
            · by_cases e : t = o
              · rw [e] at t3; omega
              · exact p5 t (h4 t t1 (by omega) t3)
            · show qd_wd κ P.2 = some (qd_ops κ P.1.tail + 1)
              rw [p1, e]
              show some (qd_ops κ s' + (if κ u = 6 then 0 else 1) + 1) = some (qd_ops κ s' + 1)
              rw [if_pos k6]
        · rw [if_neg c7] at hy
          by_cases c2 : κ o = 2
          · rw [if_pos c2] at hy; exact absurd hy (by simp)
          · rw [if_neg c2] at hy
            have fin : ∀ l, 1 ≤ l → qd_In κ f (o + 1) (false, o :: (qd_pop κ l x.2.1 x.2.2).1, (qd_pop κ l x.2.1 x.2.2).2) := by
              intro l hl
              obtain ⟨p1, p2, p3, p4, p5, p6⟩ := qd_pop_In (κ := κ) hl x.2.1 x.2.2 h5
              generalize qd_pop κ l x.2.1 x.2.2 = P at *
              refine ⟨fun t ht => ?_, fun t ht => ?_, ?_, fun t t1 t2 t3 => ?_, ?_⟩
              · rcases List.mem_cons.mp ht with e | e
                · rw [e]; omega
                · have := h1 t (p3 t e); omega
              · rcases p4 t ht with e | e
                · have := h1 t e; omega
                · have := h2 t e; omega
              · show (P.1.length + 1) + P.2.length ≤ o + 1 - f; omega
              · by_cases e : t = o
                · rw [e] at t3; omega
                · exact p5 t (h4 t t1 (by omega) t3)
              · show qd_wd κ P.2 = some (qd_ops κ P.1 + (if κ o = 6 then 0 else 1) + 0)
                rw [p1, if_neg c6]
            by_cases c3 : κ o = 3
            · rw [if_pos c3] at hy
              have ff := fin 2 (by omega)
              generalize qd_pop κ 2 x.2.1 x.2.2 = P at *
              by_cases z : P.1 ≠ [] ∧ κ (P.1.headD 0) = 3
              · rw [if_pos z] at hy; exact absurd hy (by simp)
              · rw [if_neg z] at hy
                cases hy
                exact ff
            · rw [if_neg c3] at hy
              cases hy
              refine fin _ ?_
              unfold qd_st
              rw [if_neg c3]
              by_cases c4 : κ o = 4
              · rw [if_pos c4]; omega
              · rw [if_neg c4, if_pos (by omega)]; omega
theorem qd_In0 {κ : Nat → Nat} {f : Nat} : qd_In κ f f (false, [], []) :=
  ⟨fun t ht => absurd ht (by simp), fun t ht => absurd ht (by simp), by simp, fun t t1 t2 => by omega, rfl⟩
theorem qd_run_In {κ : Nat → Nat} {f : Nat} : ∀ c o x y, f ≤ o → (∀ t, t < o + c → κ t < 8) → qd_In κ f o x → qd_run κ c o x = some y → qd_In κ f (o + c) y := by
  intro c
  induction c with
  | zero => intro o x y _ _ h hy; cases hy; exact h
  | succ c ih =>
    intro o x y hf h8 h hy
    have hy' : (qd_rd κ o x).bind (qd_run κ c (o + 1)) = some y := hy
    cases hr : qd_rd κ o x with
    | none => rw [hr] at hy'; exact absurd hy' (by simp)
    | some z =>
      rw [hr] at hy'
      have := ih (o + 1) z y (by omega) (fun t ht => h8 t (by omega)) (qd_rd_In hf (h8 o (by omega)) h hr) hy'
      have e : o + 1 + c = o + (c + 1) := by omega
      rw [e] at this
      exact this
/-- what a code is -/
theorem qd_fin_f {κ : Nat → Nat} {f q : Nat} {r : List Nat} (hf : f ≤ q) (h8 : ∀ t, t < q → κ t < 8) (h : qd_fin κ f q = some r) :
    qd_wd κ r = some 1 ∧ r.length ≤ q - f ∧ (∀ t, t ∈ r → f ≤ t ∧ t < q) ∧ (∀ t, f ≤ t → t < q → κ t = 0 → t ∈ r) := by
  have h' : (qd_run κ (q - f) f (false, [], [])).bind (qd_end κ) = some r := h
  cases hr : qd_run κ (q - f) f (false, [], []) with
  | none => rw [hr] at h'; exact absurd h' (by simp)
  | some y =>
    rw [hr] at h'
    have hI := qd_run_In (κ := κ) (f := f) (q - f) f _ y (Nat.le_refl _) (fun t ht => h8 t (by omega)) qd_In0 hr
    have e : f + (q - f) = q := by omega
    rw [e] at hI
    have h2 : qd_end κ y = some r := h'
    unfold qd_end at h2
    by_cases c : y.1 = true ∧ (qd_pop κ 1 y.2.1 y.2.2).1 = []
    · rw [if_pos c] at h2
      obtain ⟨i1, i2, i3, i4, i5⟩ := hI
      rw [if_pos c.1] at i5
      obtain ⟨p1, p2, p3, p4, p5, p6⟩ := qd_pop_In (κ := κ) (l := 1) (by omega) y.2.1 y.2.2 i5
      have c2 := c.2
      generalize qd_pop κ 1 y.2.1 y.2.2 = P at *
      cases h2
      rw [c2] at p1 p2
      refine ⟨p1, ?_, fun t ht => ?_, fun t t1 t2 t3 => p5 t (i4 t t1 t2 t3)⟩
      · rw [List.length_nil] at p2; omega
      · rcases p4 t ht with e | e
        · have := i1 t e; omega
        · exact i2 t e
    · rw [if_neg c] at h2; exact absurd h2 (by simp)
theorem qd_fr_le {κ : Nat → Nat} {q : Nat} : qd_fr κ q ≤ q := by
  unfold qd_fr
  split
  · omega
  · omega
theorem qd_srt_le {κ : Nat → Nat} {q : Nat} {e : Int32} : qd_srt κ q e ≤ 3 := by
  unfold qd_srt
  split
  · omega
  · split
    · split
      · omega
      · split <;> omega
    · omega
theorem qd_srt3 {κ : Nat → Nat} {q : Nat} {e : Int32} : qd_srt κ q e = 3 ↔ q = 0 := by
  unfold qd_srt
  constructor
  · intro h
    by_cases c : q = 0
    · exact c
    · rw [if_neg c] at h
      split at h
      · split at h
        · omega
        · split at h <;> omega
      · omega
  · intro h; rw [if_pos h]
theorem qd_srt12 {κ : Nat → Nat} {q : Nat} {e : Int32} (h : qd_srt κ q e = 1 ∨ qd_srt κ q e = 2) : q ≠ 0 ∧ e = 8 ∧ qd_fin κ (qd_fr κ q) q = some (qd_cd κ q) ∧ (qd_srt κ q e = 2 ↔ qd_fr κ q = 2) := by
  have h3 : ¬ q = 0 := fun z => by have := (qd_srt3 (κ := κ) (e := e)).mpr z; omega
  by_cases c : e = 8
  · refine ⟨h3, c, ?_⟩
    have e1 : qd_srt κ q e = (match qd_fin κ (qd_fr κ q) q with | none => 0 | some _ => if qd_fr κ q = 2 then 2 else 1) := by
      unfold qd_srt; rw [if_neg h3, if_pos c]
    cases hr : qd_fin κ (qd_fr κ q) q with
    | none => rw [hr] at e1; have e2 : qd_srt κ q e = 0 := e1; omega
    | some r =>
      rw [hr] at e1
      have e2 : qd_srt κ q e = if qd_fr κ q = 2 then 2 else 1 := e1
      refine ⟨?_, ?_⟩
      · unfold qd_cd; rw [hr]; rfl
      · rw [e2]
        by_cases z : qd_fr κ q = 2
        · rw [if_pos z]; exact ⟨fun _ => z, fun _ => rfl⟩
        · rw [if_neg z]; exact ⟨fun y => by omega, fun y => absurd y z⟩
  · have e1 : qd_srt κ q e = 0 := by unfold qd_srt; rw [if_neg h3, if_neg c]
    omega
/-! working out -/
def qd_jn (k : Nat) (x y : Int32) : Int32 := if k = 4 then x + y else if k = 5 then x * y else if x = y then 1 else 0
def qd_sp (κ : Nat → Nat) (nf : Nat → Int32) (env : Nat → Int32 × Int32) (o : Nat) (x : Int32 × List Int32) : Int32 × List Int32 :=
  if κ o = 1 then (x.1, nf o :: x.2)
  else if κ o = 0 then ((if x.1 = 0 then 0 else if (env o).1 = 0 then 0 else 1), (env o).2 :: x.2)
  else (x.1, qd_jn (κ o) (x.2.tail.headD 0) (x.2.headD 0) :: x.2.tail.tail)
def qd_ev (κ : Nat → Nat) (nf : Nat → Int32) (env : Nat → Int32 × Int32) : List Nat → Int32 × List Int32
  | [] => (1, [])
  | o :: r => qd_sp κ nf env o (qd_ev κ nf env r)
/-- known, value -/
def qd_evs (κ : Nat → Nat) (nf : Nat → Int32) (env : Nat → Int32 × Int32) (r : List Nat) : Int32 × Int32 :=
  ((qd_ev κ nf env r).1, if (qd_ev κ nf env r).1 = 0 then 0 else (qd_ev κ nf env r).2.headD 0)
theorem qd_ev_len {κ : Nat → Nat} {nf : Nat → Int32} {env : Nat → Int32 × Int32} : ∀ r d, qd_wd κ r = some d → (qd_ev κ nf env r).2.length = d := by
  intro r
  induction r with
  | nil => intro d h; cases h; rfl
  | cons o r ih =>
    intro d h
    have h' : ((qd_wd κ r).bind fun d => if κ o ≤ 1 then some (d + 1) else if 2 ≤ d then some (d - 1) else none) = some d := h
    cases hr : qd_wd κ r with
    | none => rw [hr] at h'; exact absurd h' (by simp)
    | some c =>
      rw [hr] at h'
      have h2 : (if κ o ≤ 1 then some (c + 1) else if 2 ≤ c then some (c - 1) else none) = some d := h'
      have il := ih c hr
      show (qd_sp κ nf env o (qd_ev κ nf env r)).2.length = d
      unfold qd_sp
      by_cases c1 : κ o = 1
      · rw [if_pos (by omega)] at h2
        rw [if_pos c1]
        show (qd_ev κ nf env r).2.length + 1 = d
        injection h2 with h2
        omega
      · rw [if_neg c1]
        by_cases c0 : κ o = 0
        · rw [if_pos (by omega)] at h2
          rw [if_pos c0]
          show (qd_ev κ nf env r).2.length + 1 = d
          injection h2 with h2
          omega
        · rw [if_neg (by omega)] at h2
          rw [if_neg c0]
          by_cases c2 : 2 ≤ c
          · rw [if_pos c2] at h2
            injection h2 with h2
            show (qd_ev κ nf env r).2.tail.tail.length + 1 = d
            rw [List.length_tail, List.length_tail]
            omega
          · rw [if_neg c2] at h2; exact absurd h2 (by simp)
theorem qd_ev_01 {κ : Nat → Nat} {nf : Nat → Int32} {env : Nat → Int32 × Int32} : ∀ r, (qd_ev κ nf env r).1 = 0 ∨ (qd_ev κ nf env r).1 = 1 := by
  intro r
  induction r with
  | nil => exact Or.inr rfl
  | cons o r ih =>
    show (qd_sp κ nf env o (qd_ev κ nf env r)).1 = 0 ∨ (qd_sp κ nf env o (qd_ev κ nf env r)).1 = 1
    unfold qd_sp
    split
    · exact ih
    · split
      · show (if _ then _ else _) = _ ∨ (if _ then _ else _) = _
        split
        · exact Or.inl rfl
        · split
          · exact Or.inl rfl
          · exact Or.inr rfl
      · exact ih
/-- only what the code names counts -/
theorem qd_ev_congr {κ : Nat → Nat} {nf nf' : Nat → Int32} {env env' : Nat → Int32 × Int32} : ∀ r, (∀ o, o ∈ r → nf o = nf' o) → (∀ o, o ∈ r → κ o = 0 → env o = env' o) → qd_ev κ nf env r = qd_ev κ nf' env' r := by
  intro r
  induction r with
  | nil => intro _ _; rfl
  | cons o r ih =>
    intro h1 h2
    have a := ih (fun t ht => h1 t (List.mem_cons_of_mem _ ht)) (fun t ht => h2 t (List.mem_cons_of_mem _ ht))
    show qd_sp κ nf env o (qd_ev κ nf env r) = qd_sp κ nf' env' o (qd_ev κ nf' env' r)
    rw [a]
    unfold qd_sp
    rw [h1 o List.mem_cons_self]
    by_cases c1 : κ o = 1
    · rw [if_pos c1, if_pos c1]
    · rw [if_neg c1, if_neg c1]
      by_cases c0 : κ o = 0
      · rw [if_pos c0, if_pos c0, h2 o List.mem_cons_self c0]
      · rw [if_neg c0, if_neg c0]
theorem qd_evs_congr {κ : Nat → Nat} {nf nf' : Nat → Int32} {env env' : Nat → Int32 × Int32} {r : List Nat} (h1 : ∀ o, o ∈ r → nf o = nf' o) (h2 : ∀ o, o ∈ r → κ o = 0 → env o = env' o) : qd_evs κ nf env r = qd_evs κ nf' env' r := by
  unfold qd_evs
  rw [qd_ev_congr r h1 h2]
end
section
/-! X: characters, one token read -/
def qb_ch (T : Nat → Int32) : Nat → Nat := fun i => (T i).toNatClampNeg
def qb_Tx (T : Nat → Int32) (L : Nat) : Prop := ∀ i, i < L → T i = nI (qb_ch T i) ∧ qb_ch T i ≤ 18
section
variable {f_length f_tokens f_fresh f_stretches f_marks f_blocks f_loose f_isStudied f_height f_chosen : Int32} {a_text a_tokenKind a_tokenStart a_tokenSize a_code a_meant a_meantMark a_freshKind a_freshStart a_freshSize a_first a_size a_endKind a_sort a_codeSize a_isRead a_block a_hasValue a_isKnown a_value a_mark a_around a_nesting a_pile a_chosenStart a_chosenSize : Nat → Int32}
variable {L m : Nat}
theorem xa_isLetter {post : Int32 → Prop} {c : Nat} (hc : c ≤ 18) (h1 : c < 5 → post 1) (h0 : 5 ≤ c → post 0) : wpX_isLetter post (f_length, f_tokens, f_fresh, f_stretches, f_marks, f_blocks, f_loose, f_isStudied, f_height, f_chosen, a_text, a_tokenKind, a_tokenStart, a_tokenSize, a_code, a_meant, a_meantMark, a_freshKind, a_freshStart, a_freshSize, a_first, a_size, a_endKind, a_sort, a_codeSize, a_isRead, a_block, a_hasValue, a_isKnown, a_value, a_mark, a_around, a_nesting, a_pile, a_chosenStart, a_chosenSize) (nI c) :=
  br_f (nI_pos (by omega)) (pk_lt 4 c (fun h => h0 (by omega)) (fun h => h1 (by omega)))
theorem xa_isLetterN {post : Int32 → Prop} (h0 : post 0) : wpX_isLetter post (f_length, f_tokens, f_fresh, f_stretches, f_marks, f_blocks, f_loose, f_isStudied, f_height, f_chosen, a_text, a_tokenKind, a_tokenStart, a_tokenSize, a_code, a_meant, a_meantMark, a_freshKind, a_freshStart, a_freshSize, a_first, a_size, a_endKind, a_sort, a_codeSize, a_isRead, a_block, a_hasValue, a_isKnown, a_value, a_mark, a_around, a_nesting, a_pile, a_chosenStart, a_chosenSize) (-1) := br_t (by decide) h0
theorem xa_isDigit {post : Int32 → Prop} {c : Nat} (hc : c ≤ 18) (h1 : 5 ≤ c → c < 10 → post 1) (h0 : c < 5 ∨ 10 ≤ c → post 0) : wpX_isDigit post (f_length, f_tokens, f_fresh, f_stretches, f_marks, f_blocks, f_loose, f_isStudied, f_height, f_chosen, a_text, a_tokenKind, a_tokenStart, a_tokenSize, a_code, a_meant, a_meantMark, a_freshKind, a_freshStart, a_freshSize, a_first, a_size, a_endKind, a_sort, a_codeSize, a_isRead, a_block, a_hasValue, a_isKnown, a_value, a_mark, a_around, a_nesting, a_pile, a_chosenStart, a_chosenSize) (nI c) :=
  pk_lt c 5 (fun h => h0 (by omega)) (fun h => pk_lt 9 c (fun h2 => h0 (by omega)) (fun h2 => h1 (by omega) (by omega)))
theorem xa_isDigitN {post : Int32 → Prop} (h0 : post 0) : wpX_isDigit post (f_length, f_tokens, f_fresh, f_stretches, f_marks, f_blocks, f_loose, f_isStudied, f_height, f_chosen, a_text, a_tokenKind, a_tokenStart, a_tokenSize, a_code, a_meant, a_meantMark, a_freshKind, a_freshStart, a_freshSize, a_first, a_size, a_endKind, a_sort, a_codeSize, a_isRead, a_block, a_hasValue, a_isKnown, a_value, a_mark, a_around, a_nesting, a_pile, a_chosenStart, a_chosenSize) (-1) := br_t (by decide) h0
theorem xa_at {post : Int32 → Prop} {q : Nat} (hL : L ≤ 80) (hq : q ≤ 200) (hT : qb_Tx a_text L) (h1 : q < L → post (nI (qb_ch a_text q))) (h0 : L ≤ q → post (-1)) : wpX_at post (nI L, f_tokens, f_fresh, f_stretches, f_marks, f_blocks, f_loose, f_isStudied, f_height, f_chosen, a_text, a_tokenKind, a_tokenStart, a_tokenSize, a_code, a_meant, a_meantMark, a_freshKind, a_freshStart, a_freshSize, a_first, a_size, a_endKind, a_sort, a_codeSize, a_isRead, a_block, a_hasValue, a_isKnown, a_value, a_mark, a_around, a_nesting, a_pile, a_chosenStart, a_chosenSize) (nI q) :=
  pk_le L q h0 (fun h => ⟨pk_in q 80 (by omega), by rw [nI_clamp (by omega), (hT q h).1]; exact h1 h⟩)
theorem xa_eon {post : Int32 → Prop} (hL : L ≤ 80) (hT : qb_Tx a_text L) : ∀ n q i, i ≤ q → q ≤ L → L - q < n → (∀ e, q ≤ e → e ≤ L → (∀ x, q ≤ x → x < e → qb_ch a_text x < 10) → (e < L → 10 ≤ qb_ch a_text e) → post (nI e)) → wX_endOfName_4 post (nI L) f_tokens f_fresh f_stretches f_marks f_blocks f_loose f_isStudied f_height f_chosen a_text a_tokenKind a_tokenStart a_tokenSize a_code a_meant a_meantMark a_freshKind a_freshStart a_freshSize a_first a_size a_endKind a_sort a_codeSize a_isRead a_block a_hasValue a_isKnown a_value a_mark a_around a_nesting a_pile a_chosenStart a_chosenSize n (nI q) (nI i) := by
  intro n
  induction n with
  | zero => intro q i _ _ h; omega
  | succ n ih =>
    intro q i hi hq hn h
    rw [wX_endOfName_4]
    refine pk_le 80 i (fun h8 => h q (Nat.le_refl _) hq (fun x a b => by omega) (fun z => by omega)) (fun h8 => ?_)
    have stop : (q < L → 10 ≤ qb_ch a_text q) → post (nI q) := fun z => h q (Nat.le_refl _) hq (fun x a b => by omega) z
    have go : q < L → qb_ch a_text q < 10 → wX_endOfName_4 post (nI L) f_tokens f_fresh f_stretches f_marks f_blocks f_loose f_isStudied f_height f_chosen a_text a_tokenKind a_tokenStart a_tokenSize a_code a_meant a_meantMark a_freshKind a_freshStart a_freshSize a_first a_size a_endKind a_sort a_codeSize a_isRead a_block a_hasValue a_isKnown a_value a_mark a_around a_nesting a_pile a_chosenStart a_chosenSize n (nI (q + 1)) (nI (i + 1)) := fun hL2 hc =>
      ih (q + 1) (i + 1) (by omega) (by omega) (by omega) (fun e e1 e2 e3 e4 => h e (by omega) e2 (fun x x1 x2 => by
        by_cases z : x = q
        · rw [z]; exact hc
        · exact e3 x (by omega) x2) e4)
    refine xa_at hL (by omega) hT (fun hqL => ?_) (fun hqL => ?_)
    · refine xa_isLetter (hT q hqL).2 (fun hc => ?_) (fun hc => ?_)
      · exact br_f (by decide) (nm_r (nI_1 q) (nm_r (nI_1 i) (go hqL (by omega))))
      · refine br_t rfl ?_
        refine xa_at hL (by omega) hT (fun hqL => ?_) (fun hqL => by omega)
        refine xa_isDigit (hT q hqL).2 (fun c1 c2 => ?_) (fun c1 => ?_)
        · exact br_f (by decide) (nm_r (nI_1 q) (nm_r (nI_1 i) (go hqL (by omega))))
        · exact br_t rfl (stop (fun _ => by omega))
    · refine xa_isLetterN (br_t rfl ?_)
      refine xa_at hL (by omega) hT (fun hqL => by omega) (fun hqL => ?_)
      exact xa_isDigitN (br_t rfl (stop (fun _ => by omega)))
theorem xa_endOfName {post : Int32 → Prop} {p : Nat} (hL : L ≤ 80) (hT : qb_Tx a_text L) (hp : p ≤ L) (h : ∀ e, p ≤ e → e ≤ L → (∀ x, p ≤ x → x < e → qb_ch a_text x < 10) → (e < L → 10 ≤ qb_ch a_text e) → post (nI e)) : wpX_endOfName post (nI L, f_tokens, f_fresh, f_stretches, f_marks, f_blocks, f_loose, f_isStudied, f_height, f_chosen, a_text, a_tokenKind, a_tokenStart, a_tokenSize, a_code, a_meant, a_meantMark, a_freshKind, a_freshStart, a_freshSize, a_first, a_size, a_endKind, a_sort, a_codeSize, a_isRead, a_block, a_hasValue, a_isKnown, a_value, a_mark, a_around, a_nesting, a_pile, a_chosenStart, a_chosenSize) (nI p) :=
  ⟨L - p + 1, xa_eon hL hT (L - p + 1) p 0 (by omega) hp (by omega) h⟩
theorem xa_eod {post : Int32 → Prop} (hL : L ≤ 80) (hT : qb_Tx a_text L) : ∀ n q i, i ≤ q → q ≤ L → L - q < n → (∀ e, q ≤ e → e ≤ L → (∀ x, q ≤ x → x < e → 5 ≤ qb_ch a_text x ∧ qb_ch a_text x < 10) → (e < L → qb_ch a_text e < 5 ∨ 10 ≤ qb_ch a_text e) → post (nI e)) → wX_endOfNumber_4 post (nI L) f_tokens f_fresh f_stretches f_marks f_blocks f_loose f_isStudied f_height f_chosen a_text a_tokenKind a_tokenStart a_tokenSize a_code a_meant a_meantMark a_freshKind a_freshStart a_freshSize a_first a_size a_endKind a_sort a_codeSize a_isRead a_block a_hasValue a_isKnown a_value a_mark a_around a_nesting a_pile a_chosenStart a_chosenSize n (nI q) (nI i) := by
  intro n
  induction n with
  | zero => intro q i _ _ h; omega
  | succ n ih =>
    intro q i hi hq hn h
    rw [wX_endOfNumber_4]
    refine pk_le 80 i (fun h8 => h q (Nat.le_refl _) hq (fun x a b => by omega) (fun z => by omega)) (fun h8 => ?_)
    have stop : (q < L → qb_ch a_text q < 5 ∨ 10 ≤ qb_ch a_text q) → post (nI q) := fun z => h q (Nat.le_refl _) hq (fun x a b => by omega) z
    refine xa_at hL (by omega) hT (fun hqL => ?_) (fun hqL => ?_)
    · refine xa_isDigit (hT q hqL).2 (fun c1 c2 => ?_) (fun c1 => ?_)
      · exact br_f (by decide) (nm_r (nI_1 q) (nm_r (nI_1 i) (ih (q + 1) (i + 1) (by omega) (by omega) (by omega) (fun e e1 e2 e3 e4 => h e (by omega) e2 (fun x x1 x2 => by
          by_cases z : x = q
          · rw [z]; exact ⟨c1, c2⟩
          · exact e3 x (by omega) x2) e4))))
      · exact br_t rfl (stop (fun _ => c1))
    · exact xa_isDigitN (br_t rfl (stop (fun _ => by omega)))
theorem xa_endOfNumber {post : Int32 → Prop} {p : Nat} (hL : L ≤ 80) (hT : qb_Tx a_text L) (hp : p ≤ L) (h : ∀ e, p ≤ e → e ≤ L → (∀ x, p ≤ x → x < e → 5 ≤ qb_ch a_text x ∧ qb_ch a_text x < 10) → (e < L → qb_ch a_text e < 5 ∨ 10 ≤ qb_ch a_text e) → post (nI e)) : wpX_endOfNumber post (nI L, f_tokens, f_fresh, f_stretches, f_marks, f_blocks, f_loose, f_isStudied, f_height, f_chosen, a_text, a_tokenKind, a_tokenStart, a_tokenSize, a_code, a_meant, a_meantMark, a_freshKind, a_freshStart, a_freshSize, a_first, a_size, a_endKind, a_sort, a_codeSize, a_isRead, a_block, a_hasValue, a_isKnown, a_value, a_mark, a_around, a_nesting, a_pile, a_chosenStart, a_chosenSize) (nI p) :=
  ⟨L - p + 1, xa_eod hL hT (L - p + 1) p 0 (by omega) hp (by omega) h⟩
theorem xa_rt98 {post : Int32 → SX → Prop} {p e κ : Nat} (hm : m < 81) (he : p ≤ e) (h : post (nI e) (f_length, f_tokens, nI (m + 1), f_stretches, f_marks, f_blocks, f_loose, f_isStudied, f_height, f_chosen, a_text, a_tokenKind, a_tokenStart, a_tokenSize, a_code, a_meant, a_meantMark, upd a_freshKind m (nI κ), upd a_freshStart m (nI p), upd a_freshSize m (nI (e - p)), a_first, a_size, a_endKind, a_sort, a_codeSize, a_isRead, a_block, a_hasValue, a_isKnown, a_value, a_mark, a_around, a_nesting, a_pile, a_chosenStart, a_chosenSize)) : wX_readToken_98 post (nI p) (nI e) (nI κ) f_length f_tokens (nI m) f_stretches f_marks f_blocks f_loose f_isStudied f_height f_chosen a_text a_tokenKind a_tokenStart a_tokenSize a_code a_meant a_meantMark a_freshKind a_freshStart a_freshSize a_first a_size a_endKind a_sort a_codeSize a_isRead a_block a_hasValue a_isKnown a_value a_mark a_around a_nesting a_pile a_chosenStart a_chosenSize := by
  have v : vp_in (nI m) 81 := pk_in m 81 hm
  have c : (nI m).toNatClampNeg = m := nI_clamp (by omega)
  unfold wX_readToken_98
  rw [c]
  exact ⟨v, nm_e ⟨v, nm_e ⟨v, nm_r (by rw [pk_sub he]) (nm_r (nI_1 m) h)⟩⟩⟩
theorem xa_readToken {post : Int32 → SX → Prop} {p : Nat} (hL : L ≤ 80) (hT : qb_Tx a_text L) (hm : m < 81) (hp : p < L) (h18 : qb_ch a_text p ≠ 18) (h : ∀ κ e, qb_At (qb_ch a_text) L p κ e → post (nI e) (nI L, f_tokens, nI (m + 1), f_stretches, f_marks, f_blocks, f_loose, f_isStudied, f_height, f_chosen, a_text, a_tokenKind, a_tokenStart, a_tokenSize, a_code, a_meant, a_meantMark, upd a_freshKind m (nI κ), upd a_freshStart m (nI p), upd a_freshSize m (nI (e - p)), a_first, a_size, a_endKind, a_sort, a_codeSize, a_isRead, a_block, a_hasValue, a_isKnown, a_value, a_mark, a_around, a_nesting, a_pile, a_chosenStart, a_chosenSize)) : wpX_readToken post (nI L, f_tokens, nI m, f_stretches, f_marks, f_blocks, f_loose, f_isStudied, f_height, f_chosen, a_text, a_tokenKind, a_tokenStart, a_tokenSize, a_code, a_meant, a_meantMark, a_freshKind, a_freshStart, a_freshSize, a_first, a_size, a_endKind, a_sort, a_codeSize, a_isRead, a_block, a_hasValue, a_isKnown, a_value, a_mark, a_around, a_nesting, a_pile, a_chosenStart, a_chosenSize) (nI p) := by
  have hc := hT p hp
  have cp : (nI p).toNatClampNeg = p := nI_clamp (by omega)
  refine ⟨pk_in p 80 (by omega), nm_r (e' := nI (qb_ch a_text p)) (by rw [cp]; exact hc.1) (nm_r (nI_1 p) (nm_e ?_))⟩
  refine xa_isLetter hc.2 (fun c1 => ?_) (fun c1 => ?_)
  · refine br_f (by decide) ?_
    refine xa_endOfName hL hT (by omega) (fun e e1 e2 e3 e4 => ?_)
    have hpe : p < e := by
      by_cases z : p = e
      · have := e4 (by omega); rw [← z] at this; omega
      · omega
    exact xa_rt98 (κ := 0) hm e1 (h 0 e ⟨hp, Or.inl ⟨c1, rfl, hpe, e2, fun q q1 q2 => e3 q (by omega) q2, e4⟩⟩)
  · refine br_t rfl ?_
    refine xa_isDigit hc.2 (fun d1 d2 => ?_) (fun d1 => ?_)
    · refine br_f (by decide) ?_
      refine xa_endOfNumber hL hT (by omega) (fun e e1 e2 e3 e4 => ?_)
      have hpe : p < e := by
        by_cases z : p = e
        · have := e4 (by omega); rw [← z] at this; omega
        · omega
      exact xa_rt98 (κ := 1) hm e1 (h 1 e ⟨hp, Or.inr (Or.inl ⟨d1, d2, rfl, hpe, e2, fun q q1 q2 => e3 q (by omega) q2, e4⟩)⟩)
    · refine br_t rfl ?_
      refine pk_eq (qb_ch a_text p) 10 (fun z => ?_) (fun z => ?_)
      · rw [nI_1]
        have fin3 : p + 1 < L → qb_ch a_text (p + 1) = 10 → wX_readToken_80 post (nI p) 3 (nI L) f_tokens (nI m) f_stretches f_marks f_blocks f_loose f_isStudied f_height f_chosen a_text a_tokenKind a_tokenStart a_tokenSize a_code a_meant a_meantMark a_freshKind a_freshStart a_freshSize a_first a_size a_endKind a_sort a_codeSize a_isRead a_block a_hasValue a_isKnown a_value a_mark a_around a_nesting a_pile a_chosenStart a_chosenSize := fun a b =>
          br_t rfl (by rw [qa_2]; exact xa_rt98 (κ := 3) (e := p + 2) hm (by omega) (h 3 (p + 2) ⟨hp, Or.inr (Or.inr (Or.inl ⟨z, rfl, rfl, a, b⟩))⟩))
        have fin2 : (p + 1 < L → qb_ch a_text (p + 1) ≠ 10) → wX_readToken_80 post (nI p) 2 (nI L) f_tokens (nI m) f_stretches f_marks f_blocks f_loose f_isStudied f_height f_chosen a_text a_tokenKind a_tokenStart a_tokenSize a_code a_meant a_meantMark a_freshKind a_freshStart a_freshSize a_first a_size a_endKind a_sort a_codeSize a_isRead a_block a_hasValue a_isKnown a_value a_mark a_around a_nesting a_pile a_chosenStart a_chosenSize := fun b =>
          br_f (by decide) (by rw [nI_1]; exact xa_rt98 (κ := 2) (e := p + 1) hm (by omega) (h 2 (p + 1) ⟨hp, Or.inr (Or.inr (Or.inr (Or.inl ⟨z, rfl, rfl, b⟩)))⟩))
        refine xa_at hL (by omega) hT (fun hq => ?_) (fun hq => ?_)
        · exact pk_eq (qb_ch a_text (p + 1)) 10 (fun y => fin3 hq y) (fun y => fin2 (fun _ => y)) rfl rfl (by have := (hT (p + 1) hq).2; omega)
        · exact br_f (by decide) (fin2 (fun y => by omega))
      · rw [qa_sub7 (by omega)]
        exact xa_rt98 (κ := qb_ch a_text p - 7) (e := p + 1) hm (by omega) (h (qb_ch a_text p - 7) (p + 1) ⟨hp, Or.inr (Or.inr (Or.inr (Or.inr ⟨by omega, by omega, rfl, rfl⟩)))⟩)
theorem xa_tokenFrom {post : Int32 → Prop} {n : Nat} {x : Int32} (hn : n ≤ 80) : ∀ d k i, k ≤ n → n - k < d → (∀ r, k ≤ r → r ≤ n → post (nI r)) → wX_tokenFrom_5 post x f_length (nI n) f_fresh f_stretches f_marks f_blocks f_loose f_isStudied f_height f_chosen a_text a_tokenKind a_tokenStart a_tokenSize a_code a_meant a_meantMark a_freshKind a_freshStart a_freshSize a_first a_size a_endKind a_sort a_codeSize a_isRead a_block a_hasValue a_isKnown a_value a_mark a_around a_nesting a_pile a_chosenStart a_chosenSize d (nI k) i := by
  intro d
  induction d with
  | zero => intro k i _ h; omega
  | succ d ih =>
    intro k i hk hd h
    rw [wX_tokenFrom_5]
    refine br_c (fun _ => h k (Nat.le_refl _) hk) (fun _ => ?_)
    refine pk_le n k (fun z => h k (Nat.le_refl _) hk) (fun z => ⟨pk_in k 81 (by omega), ?_⟩)
    exact br_c (fun _ => h k (Nat.le_refl _) hk) (fun _ => nm_r (nI_1 k) (nm_e (ih (k + 1) _ (by omega) (by omega) (fun r r1 r2 => h r (by omega) r2))))
end
end
section
/-! X: tokens read anew after an edit, up to the call of replaceTokens -/
def xb_Fr (C : Nat → Nat) (L p came gone n k : Nat) (S Z : Nat → Nat) (m o : Nat) (fS fZ fK : Nat → Nat) : Prop :=
  k ≤ o ∧ o ≤ n ∧ qb_Ch C L (qb_pe 0 S Z k) m fS fZ fK ∧ p + gone ≤ S o ∧ qb_pe (qb_pe 0 S Z k) fS fZ m ≤ S o + came - gone ∧ (∀ q, qb_pe (qb_pe 0 S Z k) fS fZ m ≤ q → q < S o + came - gone → C q = 18)
def xb_rep (m : Nat) (a b c : Nat → Int32) (K S Z : Nat → Nat) : Prop := ∀ j, j < m → a j = nI (K j) ∧ b j = nI (S j) ∧ c j = nI (Z j)
theorem xb_rep_s {m κ s z : Nat} {a b c : Nat → Int32} {K S Z : Nat → Nat} (h : xb_rep m a b c K S Z) : xb_rep (m + 1) (upd a m (nI κ)) (upd b m (nI s)) (upd c m (nI z)) (fun j => if j = m then κ else K j) (fun j => if j = m then s else S j) (fun j => if j = m then z else Z j) := by
  intro j hj
  by_cases e : j = m
  · subst e
    rw [pk_us, pk_us, pk_us]
    dsimp only
    rw [if_pos rfl, if_pos rfl, if_pos rfl]
    exact ⟨rfl, rfl, rfl⟩
  · rw [pk_un e, pk_un e, pk_un e]
    have := h j (by omega)
    dsimp only
    rw [if_neg e, if_neg e, if_neg e]
    exact this
/-- one more token in a chain -/
theorem xb_Ch_s {C : Nat → Nat} {L p0 m κ s e : Nat} {K S Z : Nat → Nat} (h : qb_Ch C L p0 m S Z K) (h1 : qb_pe p0 S Z m ≤ s) (h2 : ∀ q, qb_pe p0 S Z m ≤ q → q < s → C q = 18) (hA : qb_At C L s κ e) :
    qb_Ch C L p0 (m + 1) (fun j => if j = m then s else S j) (fun j => if j = m then e - s else Z j) (fun j => if j = m then κ else K j) ∧
    qb_pe p0 (fun j => if j = m then s else S j) (fun j => if j = m then e - s else Z j) (m + 1) = e := by
  have ee : s + (e - s) = e := by have := (qb_At_f hA).1; omega
  have pp : ∀ i, i ≤ m → qb_pe p0 (fun j => if j = m then s else S j) (fun j => if j = m then e - s else Z j) i = qb_pe p0 S Z i := by
    intro i hi
    cases i with
    | zero => rfl
    | succ i =>
      show (if i = m then s else S i) + (if i = m then e - s else Z i) = S i + Z i
      rw [if_neg (by omega), if_neg (by omega)]
  refine ⟨fun i hi => ?_, ?_⟩
  · rw [pp i (by omega)]
    by_cases z : i = m
    · subst z
      dsimp only
      rw [if_pos rfl, if_pos rfl, if_pos rfl, ee]
      exact ⟨h1, h2, hA⟩
    · dsimp only
      rw [if_neg z, if_neg z, if_neg z]
      exact h i (by omega)
  · show (if m = m then s else S m) + (if m = m then e - s else Z m) = e
    rw [if_pos rfl, if_pos rfl, ee]
theorem xb_sh {q came gone : Nat} (h : came ≤ q) : nI q - (nI came - nI gone) = nI (q + gone - came) := by
  have e : q + gone - came = (q - came) + gone := by omega
  have e2 : nI q = nI (q - came) + nI came := by rw [nI_add]; exact congrArg nI (by omega)
  rw [e, ← nI_add, e2]
  generalize nI (q - came) = a
  generalize nI came = b
  generalize nI gone = c
  grind
section
variable {f_length f_tokens f_fresh f_stretches f_marks f_blocks f_loose f_isStudied f_height f_chosen : Int32} {a_text a_tokenKind a_tokenStart a_tokenSize a_code a_meant a_meantMark a_freshKind a_freshStart a_freshSize a_first a_size a_endKind a_sort a_codeSize a_isRead a_block a_hasValue a_isKnown a_value a_mark a_around a_nesting a_pile a_chosenStart a_chosenSize : Nat → Int32}
variable {L L0 n p came gone k m : Nat} {S Z K : Nat → Nat} {sh : Int32} {post : SX → Prop}
theorem xb_117 {J : Int32 → Int32 → Int32 → Int32 → Int32 → Int32 → Int32 → Int32 → Int32 → Int32 → Int32 → Int32 → Int32 → Int32 → (Nat → Int32) → (Nat → Int32) → (Nat → Int32) → (Nat → Int32) → (Nat → Int32) → (Nat → Int32) → (Nat → Int32) → (Nat → Int32) → (Nat → Int32) → (Nat → Int32) → (Nat → Int32) → (Nat → Int32) → (Nat → Int32) → (Nat → Int32) → (Nat → Int32) → (Nat → Int32) → (Nat → Int32) → (Nat → Int32) → (Nat → Int32) → (Nat → Int32) → (Nat → Int32) → (Nat → Int32) → (Nat → Int32) → (Nat → Int32) → (Nat → Int32) → (Nat → Int32) → Prop} {x1 x2 x3 x4 x6 x9 : Int32} (hL : L ≤ 80) (hT : qb_Tx a_text L) : ∀ d q j, j ≤ q → q ≤ L → L - q < d → (∀ q', q ≤ q' → q' ≤ L → (∀ x, q ≤ x → x < q' → qb_ch a_text x = 18) → (q' < L → qb_ch a_text q' ≠ 18) → wX_readTokens_144 post J x1 x2 x3 x4 x6 (nI q') x9 (nI L) f_tokens f_fresh f_stretches f_marks f_blocks f_loose f_isStudied f_height f_chosen a_text a_tokenKind a_tokenStart a_tokenSize a_code a_meant a_meantMark a_freshKind a_freshStart a_freshSize a_first a_size a_endKind a_sort a_codeSize a_isRead a_block a_hasValue a_isKnown a_value a_mark a_around a_nesting a_pile a_chosenStart a_chosenSize) → wX_readTokens_117 post J x1 x2 x3 x4 x6 x9 (nI L) f_tokens f_fresh f_stretches f_marks f_blocks f_loose f_isStudied f_height f_chosen a_text a_tokenKind a_tokenStart a_tokenSize a_code a_meant a_meantMark a_freshKind a_freshStart a_freshSize a_first a_size a_endKind a_sort a_codeSize a_isRead a_block a_hasValue a_isKnown a_value a_mark a_around a_nesting a_pile a_chosenStart a_chosenSize d (nI q) (nI j) := by
  intro d
  induction d with
  | zero => intro q j _ _ h; omega
  | succ d ih =>
    intro q j hj hq hd h
    rw [wX_readTokens_117]
    refine pk_le 80 j (fun h8 => h q (Nat.le_refl _) hq (fun x a b => by omega) (fun z => by omega)) (fun h8 => ?_)
    refine xa_at hL (by omega) hT (fun hqL => ?_) (fun hqL => ?_)
    · have h19 := (hT q hqL).2
      refine pk_eq (qb_ch a_text q) 18 (fun z => ?_) (fun z => h q (Nat.le_refl _) hq (fun x a b => by omega) (fun _ => z))
      refine nm_r (nI_1 q) (nm_r (nI_1 j) (ih (q + 1) (j + 1) (by omega) (by omega) (by omega) (fun q' q1 q2 q3 q4 => h q' (by omega) q2 (fun x x1 x2 => ?_) q4)))
      by_cases y : x = q
      · rw [y]; exact z
      · exact q3 x (by omega) x2
    · exact br_f (by decide) (h q (Nat.le_refl _) hq (fun x a b => by omega) (fun z => by omega))
theorem xb_192_0 {J : Int32 → Int32 → Int32 → Int32 → Int32 → Int32 → Int32 → Int32 → Int32 → Int32 → Int32 → Int32 → Int32 → Int32 → (Nat → Int32) → (Nat → Int32) → (Nat → Int32) → (Nat → Int32) → (Nat → Int32) → (Nat → Int32) → (Nat → Int32) → (Nat → Int32) → (Nat → Int32) → (Nat → Int32) → (Nat → Int32) → (Nat → Int32) → (Nat → Int32) → (Nat → Int32) → (Nat → Int32) → (Nat → Int32) → (Nat → Int32) → (Nat → Int32) → (Nat → Int32) → (Nat → Int32) → (Nat → Int32) → (Nat → Int32) → (Nat → Int32) → (Nat → Int32) → (Nat → Int32) → (Nat → Int32) → Prop} {x1 x2 x3 x4 : Int32} {r q i : Nat} (hL : L ≤ 80) (hT : qb_Tx a_text L) (hq : q ≤ L) (h18 : q < L → qb_ch a_text q ≠ 18) (hm : m < 81)
    (hA : L ≤ q → J (nI n) (nI q) 0 (nI (i + 1)) (nI L) (nI n) (nI m) f_stretches f_marks f_blocks f_loose f_isStudied f_height f_chosen a_text a_tokenKind a_tokenStart a_tokenSize a_code a_meant a_meantMark a_freshKind a_freshStart a_freshSize a_first a_size a_endKind a_sort a_codeSize a_isRead a_block a_hasValue a_isKnown a_value a_mark a_around a_nesting a_pile a_chosenStart a_chosenSize)
    (hC : q < L → ∀ κ e, qb_At (qb_ch a_text) L q κ e → J (nI r) (nI e) 1 (nI (i + 1)) (nI L) (nI n) (nI (m + 1)) f_stretches f_marks f_blocks f_loose f_isStudied f_height f_chosen a_text a_tokenKind a_tokenStart a_tokenSize a_code a_meant a_meantMark (upd a_freshKind m (nI κ)) (upd a_freshStart m (nI q)) (upd a_freshSize m (nI (e - q))) a_first a_size a_endKind a_sort a_codeSize a_isRead a_block a_hasValue a_isKnown a_value a_mark a_around a_nesting a_pile a_chosenStart a_chosenSize) :
    wX_readTokens_192 post J x1 x2 x3 x4 (nI r) (nI q) (nI i) 0 (nI L) (nI n) (nI m) f_stretches f_marks f_blocks f_loose f_isStudied f_height f_chosen a_text a_tokenKind a_tokenStart a_tokenSize a_code a_meant a_meantMark a_freshKind a_freshStart a_freshSize a_first a_size a_endKind a_sort a_codeSize a_isRead a_block a_hasValue a_isKnown a_value a_mark a_around a_nesting a_pile a_chosenStart a_chosenSize := by
  refine pk_le L q (fun h => ?_) (fun h => ?_)
  · exact br_t (nI_le h (by omega)) (br_t rfl (nm_r (nI_1 i) (hA h)))
  · refine br_t rfl (br_f (nI_ge h (by omega)) (br_f (by decide) ?_))
    exact xa_readToken hL hT hm h (h18 h) (fun κ e hAt => nm_r (nI_1 i) (hC h κ e hAt))
theorem xb_192_1 {J : Int32 → Int32 → Int32 → Int32 → Int32 → Int32 → Int32 → Int32 → Int32 → Int32 → Int32 → Int32 → Int32 → Int32 → (Nat → Int32) → (Nat → Int32) → (Nat → Int32) → (Nat → Int32) → (Nat → Int32) → (Nat → Int32) → (Nat → Int32) → (Nat → Int32) → (Nat → Int32) → (Nat → Int32) → (Nat → Int32) → (Nat → Int32) → (Nat → Int32) → (Nat → Int32) → (Nat → Int32) → (Nat → Int32) → (Nat → Int32) → (Nat → Int32) → (Nat → Int32) → (Nat → Int32) → (Nat → Int32) → (Nat → Int32) → (Nat → Int32) → (Nat → Int32) → (Nat → Int32) → (Nat → Int32) → Prop} {x1 x2 x3 x4 : Int32} {r q i : Nat} (hL : L ≤ 80) (hq : q ≤ L)
    (hA : L ≤ q → J (nI n) (nI q) 0 (nI (i + 1)) (nI L) (nI n) (nI m) f_stretches f_marks f_blocks f_loose f_isStudied f_height f_chosen a_text a_tokenKind a_tokenStart a_tokenSize a_code a_meant a_meantMark a_freshKind a_freshStart a_freshSize a_first a_size a_endKind a_sort a_codeSize a_isRead a_block a_hasValue a_isKnown a_value a_mark a_around a_nesting a_pile a_chosenStart a_chosenSize)
    (hB : q < L → J (nI r) (nI q) 0 (nI (i + 1)) (nI L) (nI n) (nI m) f_stretches f_marks f_blocks f_loose f_isStudied f_height f_chosen a_text a_tokenKind a_tokenStart a_tokenSize a_code a_meant a_meantMark a_freshKind a_freshStart a_freshSize a_first a_size a_endKind a_sort a_codeSize a_isRead a_block a_hasValue a_isKnown a_value a_mark a_around a_nesting a_pile a_chosenStart a_chosenSize) :
    wX_readTokens_192 post J x1 x2 x3 x4 (nI r) (nI q) (nI i) 1 (nI L) (nI n) (nI m) f_stretches f_marks f_blocks f_loose f_isStudied f_height f_chosen a_text a_tokenKind a_tokenStart a_tokenSize a_code a_meant a_meantMark a_freshKind a_freshStart a_freshSize a_first a_size a_endKind a_sort a_codeSize a_isRead a_block a_hasValue a_isKnown a_value a_mark a_around a_nesting a_pile a_chosenStart a_chosenSize := by
  refine pk_le L q (fun h => ?_) (fun h => ?_)
  · exact br_t (nI_le h (by omega)) (br_t rfl (nm_r (nI_1 i) (hA h)))
  · exact br_f (by decide) (br_f (nI_ge h (by omega)) (br_t rfl (nm_r (nI_1 i) (hB h))))
theorem xb_144 {J : Int32 → Int32 → Int32 → Int32 → Int32 → Int32 → Int32 → Int32 → Int32 → Int32 → Int32 → Int32 → Int32 → Int32 → (Nat → Int32) → (Nat → Int32) → (Nat → Int32) → (Nat → Int32) → (Nat → Int32) → (Nat → Int32) → (Nat → Int32) → (Nat → Int32) → (Nat → Int32) → (Nat → Int32) → (Nat → Int32) → (Nat → Int32) → (Nat → Int32) → (Nat → Int32) → (Nat → Int32) → (Nat → Int32) → (Nat → Int32) → (Nat → Int32) → (Nat → Int32) → (Nat → Int32) → (Nat → Int32) → (Nat → Int32) → (Nat → Int32) → (Nat → Int32) → (Nat → Int32) → (Nat → Int32) → Prop} {x4 : Int32} {o q i : Nat} (hL : L ≤ 80) (hT : qb_Tx a_text L) (hn : n ≤ 80) (ho : o ≤ n) (hq : q ≤ L) (h18 : q < L → qb_ch a_text q ≠ 18) (hm : m < 81) (hpc : p + came ≤ 200) (hg : gone ≤ 80) (hS : ∀ j, j < n → a_tokenStart j = nI (S j) ∧ S j < 1000)
    (hA : L ≤ q → J (nI n) (nI q) 0 (nI (i + 1)) (nI L) (nI n) (nI m) f_stretches f_marks f_blocks f_loose f_isStudied f_height f_chosen a_text a_tokenKind a_tokenStart a_tokenSize a_code a_meant a_meantMark a_freshKind a_freshStart a_freshSize a_first a_size a_endKind a_sort a_codeSize a_isRead a_block a_hasValue a_isKnown a_value a_mark a_around a_nesting a_pile a_chosenStart a_chosenSize)
    (hB : ∀ r, o ≤ r → r < n → p + came ≤ q → S r = q + gone - came → J (nI r) (nI q) 0 (nI (i + 1)) (nI L) (nI n) (nI m) f_stretches f_marks f_blocks f_loose f_isStudied f_height f_chosen a_text a_tokenKind a_tokenStart a_tokenSize a_code a_meant a_meantMark a_freshKind a_freshStart a_freshSize a_first a_size a_endKind a_sort a_codeSize a_isRead a_block a_hasValue a_isKnown a_value a_mark a_around a_nesting a_pile a_chosenStart a_chosenSize)
    (hC : ∀ r, o ≤ r → r ≤ n → q < L → ∀ κ e, qb_At (qb_ch a_text) L q κ e → J (nI r) (nI e) 1 (nI (i + 1)) (nI L) (nI n) (nI (m + 1)) f_stretches f_marks f_blocks f_loose f_isStudied f_height f_chosen a_text a_tokenKind a_tokenStart a_tokenSize a_code a_meant a_meantMark (upd a_freshKind m (nI κ)) (upd a_freshStart m (nI q)) (upd a_freshSize m (nI (e - q))) a_first a_size a_endKind a_sort a_codeSize a_isRead a_block a_hasValue a_isKnown a_value a_mark a_around a_nesting a_pile a_chosenStart a_chosenSize) :
    wX_readTokens_144 post J (nI p) (nI came) (nI came - nI gone) x4 (nI o) (nI q) (nI i) (nI L) (nI n) (nI m) f_stretches f_marks f_blocks f_loose f_isStudied f_height f_chosen a_text a_tokenKind a_tokenStart a_tokenSize a_code a_meant a_meantMark a_freshKind a_freshStart a_freshSize a_first a_size a_endKind a_sort a_codeSize a_isRead a_block a_hasValue a_isKnown a_value a_mark a_around a_nesting a_pile a_chosenStart a_chosenSize := by
  refine ⟨n - o + 1, xa_tokenFrom hn (n - o + 1) o 0 ho (by omega) (fun r r1 r2 => ?_)⟩
  refine pk_lt q (p + came) (fun h => ?_) (fun h => ?_) rfl (nI_add p came)
  · exact xb_192_0 hL hT hq h18 hm hA (hC r r1 r2)
  · refine pk_le n r (fun h2 => xb_192_0 hL hT hq h18 hm hA (hC r r1 r2)) (fun h2 => ⟨pk_in r 81 (by omega), ?_⟩)
    refine pk_eq (S r) (q + gone - came) (fun h3 => ?_) (fun h3 => xb_192_0 hL hT hq h18 hm hA (hC r r1 r2)) (by rw [nI_clamp (by omega)]; exact (hS r h2).1) (xb_sh (by omega)) (by have := (hS r h2).2; omega)
    exact xb_192_1 hL hq hA (fun _ => hB r r1 h2 h h3)
theorem xb_102 (hL : L ≤ 80) (hT : qb_Tx a_text L) (hn : n ≤ 80) (hk : k ≤ n) (hS : ∀ j, j < n → a_tokenStart j = nI (S j) ∧ S j < 1000) (hSn : S n = L0) (hE : p + came ≤ L ∧ p + gone ≤ L0 ∧ L + gone = L0 + came) (hL0 : L0 ≤ 80) (hpk : qb_pe 0 S Z k ≤ L)
    (hK : ∀ m o a_freshKind a_freshStart a_freshSize fS fZ fK, xb_Fr (qb_ch a_text) L p came gone n k S Z m o fS fZ fK → xb_rep m a_freshKind a_freshStart a_freshSize fK fS fZ → wX_readTokens_254 post (nI came - nI gone) (nI k) (nI o) (nI L) (nI n) (nI m) f_stretches f_marks f_blocks f_loose f_isStudied f_height f_chosen a_text a_tokenKind a_tokenStart a_tokenSize a_code a_meant a_meantMark a_freshKind a_freshStart a_freshSize a_first a_size a_endKind a_sort a_codeSize a_isRead a_block a_hasValue a_isKnown a_value a_mark a_around a_nesting a_pile a_chosenStart a_chosenSize) :
    ∀ d m o q a_freshKind a_freshStart a_freshSize fS fZ fK, k ≤ o → o ≤ n → qb_Ch (qb_ch a_text) L (qb_pe 0 S Z k) m fS fZ fK → xb_rep m a_freshKind a_freshStart a_freshSize fK fS fZ → qb_pe (qb_pe 0 S Z k) fS fZ m ≤ q → q ≤ L → (∀ x, qb_pe (qb_pe 0 S Z k) fS fZ m ≤ x → x < q → qb_ch a_text x = 18) → L - q + 1 < d →
    wX_readTokens_102 post (nI p) (nI came) (nI came - nI gone) (nI k) d (nI o) (nI q) 1 (nI m) (nI L) (nI n) (nI m) f_stretches f_marks f_blocks f_loose f_isStudied f_height f_chosen a_text a_tokenKind a_tokenStart a_tokenSize a_code a_meant a_meantMark a_freshKind a_freshStart a_freshSize a_first a_size a_endKind a_sort a_codeSize a_isRead a_block a_hasValue a_isKnown a_value a_mark a_around a_nesting a_pile a_chosenStart a_chosenSize := by
  have hfin : ∀ d m o q a_freshKind a_freshStart a_freshSize fS fZ fK, 0 < d → xb_Fr (qb_ch a_text) L p came gone n k S Z m o fS fZ fK → xb_rep m a_freshKind a_freshStart a_freshSize fK fS fZ → wX_readTokens_102 post (nI p) (nI came) (nI came - nI gone) (nI k) d (nI o) (nI q) 0 (nI (m + 1)) (nI L) (nI n) (nI m) f_stretches f_marks f_blocks f_loose f_isStudied f_height f_chosen a_text a_tokenKind a_tokenStart a_tokenSize a_code a_meant a_meantMark a_freshKind a_freshStart a_freshSize a_first a_size a_endKind a_sort a_codeSize a_isRead a_block a_hasValue a_isKnown a_value a_mark a_around a_nesting a_pile a_chosenStart a_chosenSize := by
    intro d m o q a_freshKind a_freshStart a_freshSize fS fZ fK hd h1 h2
    obtain ⟨d, rfl⟩ : ∃ d', d = d' + 1 := ⟨d - 1, by omega⟩
    rw [wX_readTokens_102]
    have := hK m o a_freshKind a_freshStart a_freshSize fS fZ fK h1 h2
    exact br_c (fun _ => this) (fun _ => br_t rfl this)
  intro d
  induction d with
  | zero => intro m o q _ _ _ _ _ _ _ _ _ _ _ _ _ h; omega
  | succ d ih =>
    intro m o q a_freshKind a_freshStart a_freshSize fS fZ fK hko ho hC hR hpq hq hgap hd
    have hmL := qb_mL hC hpk
    rw [wX_readTokens_102]
    refine pk_lt 80 m (fun h => by omega) (fun h => ?_)
    refine br_f (by decide) ⟨L - q + 1, ?_⟩
    refine xb_117 hL hT (L - q + 1) q 0 (by omega) hq (by omega) (fun q' q1 q2 q3 q4 => ?_)
    have hgap' : ∀ x, qb_pe (qb_pe 0 S Z k) fS fZ m ≤ x → x < q' → qb_ch a_text x = 18 := by
      intro x x1 x2
      by_cases z : x < q
      · exact hgap x x1 z
      · exact q3 x (by omega) x2
    refine xb_144 hL hT hn ho q2 q4 (by omega) (by omega) (by omega) hS (fun h => ?_) (fun r r1 r2 r3 r4 => ?_) (fun r r1 r2 r3 κ e hA => ?_)
    · refine hfin d m n q' _ _ _ fS fZ fK (by omega) ⟨hk, Nat.le_refl _, hC, by omega, ?_, ?_⟩ hR
      · have e : S n + came - gone = q' := by omega
        rw [e]; omega
      · have e : S n + came - gone = q' := by omega
        rw [e]; exact hgap'
    · refine hfin d m r q' _ _ _ fS fZ fK (by omega) ⟨by omega, by omega, hC, by omega, ?_, ?_⟩ hR
      · have e : S r + came - gone = q' := by omega
        rw [e]; omega
      · have e : S r + came - gone = q' := by omega
        rw [e]; exact hgap'
    · obtain ⟨c1, c2⟩ := xb_Ch_s hC (by omega : qb_pe (qb_pe 0 S Z k) fS fZ m ≤ q') hgap' hA
      have hf := qb_At_f hA
      exact ih (m + 1) r e _ _ _ _ _ _ (by omega) r2 c1 (xb_rep_s hR) (by rw [c2]; exact Nat.le_refl _) hf.2.1 (fun x x1 x2 => by rw [c2] at x1; omega) (by omega)
theorem xb_6 {x2 x3 : Int32} (hn : n ≤ 80) (hp : p ≤ 200) (hS : ∀ j, j < n → a_tokenStart j = nI (S j) ∧ a_tokenSize j = nI (Z j) ∧ S j + Z j < 1000)
    (hK : ∀ k, k ≤ n → (∀ j, j < k → S j + Z j < p) → wX_readTokens_50 post (nI p) x2 x3 (nI k) f_length (nI n) f_fresh f_stretches f_marks f_blocks f_loose f_isStudied f_height f_chosen a_text a_tokenKind a_tokenStart a_tokenSize a_code a_meant a_meantMark a_freshKind a_freshStart a_freshSize a_first a_size a_endKind a_sort a_codeSize a_isRead a_block a_hasValue a_isKnown a_value a_mark a_around a_nesting a_pile a_chosenStart a_chosenSize) :
    ∀ d k i, k ≤ n → n - k < d → (∀ j, j < k → S j + Z j < p) → wX_readTokens_6 post (nI p) x2 x3 f_length (nI n) f_fresh f_stretches f_marks f_blocks f_loose f_isStudied f_height f_chosen a_text a_tokenKind a_tokenStart a_tokenSize a_code a_meant a_meantMark a_freshKind a_freshStart a_freshSize a_first a_size a_endKind a_sort a_codeSize a_isRead a_block a_hasValue a_isKnown a_value a_mark a_around a_nesting a_pile a_chosenStart a_chosenSize d (nI k) i := by
  intro d
  induction d with
  | zero => intro k i _ h; omega
  | succ d ih =>
    intro k i hk hd hj
    rw [wX_readTokens_6]
    have st := hK k hk hj
    refine br_c (fun _ => st) (fun _ => pk_le n k (fun _ => st) (fun h => ?_))
    have hs := hS k h
    have ck : (nI k).toNatClampNeg = k := nI_clamp (by omega)
    have v : vp_in (nI k) 81 := pk_in k 81 (by omega)
    refine ⟨v, v, ?_⟩
    refine pk_le p (S k + Z k) (fun _ => st) (fun h2 => ?_) rfl (by rw [ck, hs.1, hs.2.1, nI_add])
    refine nm_r (nI_1 k) (nm_e (ih (k + 1) _ (by omega) (by omega) (fun j h3 => ?_)))
    by_cases z : j = k
    · rw [z]; exact h2
    · exact hj j (by omega)
theorem xb_readTokens (hL : L ≤ 80) (hT : qb_Tx a_text L) {C0 : Nat → Nat} (hL0 : L0 ≤ 80) (hTok : qb_Tok C0 L0 n S Z K) (hE : qb_Ed C0 L0 (qb_ch a_text) L p came gone) (hS : ∀ j, j < n → a_tokenStart j = nI (S j) ∧ a_tokenSize j = nI (Z j)) (hsh : sh = nI came - nI gone)
    (hK : ∀ k m o a_freshKind a_freshStart a_freshSize fS fZ fK, (∀ j, j < k → S j + Z j < p) → xb_Fr (qb_ch a_text) L p came gone n k S Z m o fS fZ fK → xb_rep m a_freshKind a_freshStart a_freshSize fK fS fZ → wX_readTokens_254 post sh (nI k) (nI o) (nI L) (nI n) (nI m) f_stretches f_marks f_blocks f_loose f_isStudied f_height f_chosen a_text a_tokenKind a_tokenStart a_tokenSize a_code a_meant a_meantMark a_freshKind a_freshStart a_freshSize a_first a_size a_endKind a_sort a_codeSize a_isRead a_block a_hasValue a_isKnown a_value a_mark a_around a_nesting a_pile a_chosenStart a_chosenSize) :
    wpX_readTokens post (nI L, nI n, f_fresh, f_stretches, f_marks, f_blocks, f_loose, f_isStudied, f_height, f_chosen, a_text, a_tokenKind, a_tokenStart, a_tokenSize, a_code, a_meant, a_meantMark, a_freshKind, a_freshStart, a_freshSize, a_first, a_size, a_endKind, a_sort, a_codeSize, a_isRead, a_block, a_hasValue, a_isKnown, a_value, a_mark, a_around, a_nesting, a_pile, a_chosenStart, a_chosenSize) (nI p) (nI came) sh := by
  subst hsh
  have hn : n ≤ 80 := Nat.le_trans (qb_nL hTok) hL0
  have hE' := hE
  obtain ⟨e1, e2, e3, e4, e5⟩ := hE
  have hSZ : ∀ j, j < n → S j + Z j < 1000 := fun j hj => by have := qb_SZ hTok hj; omega
  refine ⟨n + 1, xb_6 hn (by omega) (fun j hj => ⟨(hS j hj).1, (hS j hj).2, hSZ j hj⟩) (fun k hk hj => ?_) (n + 1) 0 0 (by omega) (by omega) (fun j hj => by omega)⟩
  have hpk : qb_pe 0 S Z k ≤ p := by
    cases k with
    | zero => exact Nat.zero_le _
    | succ k => have := hj k (by omega); exact Nat.le_of_lt this
  have hg := qb_gap hTok hk
  have go : ∀ q, qb_pe 0 S Z k ≤ q → q ≤ L → (∀ x, qb_pe 0 S Z k ≤ x → x < q → qb_ch a_text x = 18) → wX_readTokens_81 post (nI p) (nI came) (nI came - nI gone) (nI k) (nI q) (nI L) (nI n) f_fresh f_stretches f_marks f_blocks f_loose f_isStudied f_height f_chosen a_text a_tokenKind a_tokenStart a_tokenSize a_code a_meant a_meantMark a_freshKind a_freshStart a_freshSize a_first a_size a_endKind a_sort a_codeSize a_isRead a_block a_hasValue a_isKnown a_value a_mark a_around a_nesting a_pile a_chosenStart a_chosenSize := by
    intro q q1 q2 q3
    refine ⟨L - q + 2, xb_102 hL hT hn hk (fun j hj => ⟨(hS j hj).1, by have := hSZ j hj; omega⟩) hTok.2.1 ⟨e1, e2, e3⟩ hL0 (by omega) (fun m o fk fs fz fS fZ fK h1 h2 => hK k m o fk fs fz fS fZ fK hj h1 h2) (L - q + 2) 0 k q _ _ _ S S S (Nat.le_refl _) hk (fun j hj => by omega) (fun j hj => by omega) q1 q2 q3 (by omega)⟩
  have goP : p ≤ S k → wX_readTokens_80 post (nI p) (nI came) (nI came - nI gone) (nI k) (nI L) (nI n) f_fresh f_stretches f_marks f_blocks f_loose f_isStudied f_height f_chosen a_text a_tokenKind a_tokenStart a_tokenSize a_code a_meant a_meantMark a_freshKind a_freshStart a_freshSize a_first a_size a_endKind a_sort a_codeSize a_isRead a_block a_hasValue a_isKnown a_value a_mark a_around a_nesting a_pile a_chosenStart a_chosenSize := fun h =>
    go p hpk (by omega) (fun x x1 x2 => by rw [e4 x x2]; exact hg.2 x x1 (by omega))
  refine pk_le n k (fun h => goP ?_) (fun h => ⟨pk_in k 81 (by omega), ?_⟩)
  · obtain rfl : k = n := by omega
    rw [hTok.2.1]; omega
  · have ck : (nI k).toNatClampNeg = k := nI_clamp (by omega)
    have hs := (hS k h).1
    have hz := hSZ k h
    refine pk_le p (S k) goP (fun h2 => ⟨pk_in k 81 (by omega), ?_⟩) rfl (by rw [ck]; exact hs)
    rw [ck, hs]
    exact go (S k) hg.1 (by omega) (fun x x1 x2 => by rw [e4 x (by omega)]; exact hg.2 x x1 x2)
end
end
section
/-! X: entries of tokens and stretches moved -/
theorem xc_pm (x : Int32) : x + (-1) = x - 1 := (Int32.sub_eq_add_neg x 1).symm
theorem xc_mf {t f k : Nat} {a : Nat → Int32} (h : t ≤ f) : upd (qa_ow t k (fun j => a (f + j)) a) (t + k) (qa_ow t k (fun j => a (f + j)) a (f + k)) = qa_ow t (k + 1) (fun j => a (f + j)) a := by
  rw [qa_ow_hi (by omega)]
  exact qa_ow_s (f := fun j => a (f + j))
theorem xc_mfb {t f k : Nat} {a : Nat → Int32} (h : t ≤ f) (hb : ∀ j, vp_nar .boolean (a j) = a j) : upd (qa_ow t k (fun j => a (f + j)) a) (t + k) (vp_nar .boolean (qa_ow t k (fun j => a (f + j)) a (f + k))) = qa_ow t (k + 1) (fun j => a (f + j)) a := by
  rw [qa_ow_hi (by omega), hb]
  exact qa_ow_s (f := fun j => a (f + j))
theorem xc_mb0 {t f k c : Nat} {a : Nat → Int32} (hk : k < c) : upd (qa_ow (t + (k + 1)) (c - (k + 1)) (fun j => a (f + (k + 1) + j)) a) (t + k) (a (f + k)) = qa_ow (t + k) (c - k) (fun j => a (f + k + j)) a := by
  have e : (fun j => a (f + (k + 1) + j)) = (fun j => (fun j => a (f + k + j)) (j + 1)) := funext fun j => congrArg a (by omega)
  have e2 : c - k = c - (k + 1) + 1 := by omega
  rw [e, e2]
  exact qa_ow_p (f := fun j => a (f + k + j))
theorem xc_mb {t f k c : Nat} {a : Nat → Int32} (h : f < t) (hk : k < c) : upd (qa_ow (t + (k + 1)) (c - (k + 1)) (fun j => a (f + (k + 1) + j)) a) (t + k) (qa_ow (t + (k + 1)) (c - (k + 1)) (fun j => a (f + (k + 1) + j)) a (f + k)) = qa_ow (t + k) (c - k) (fun j => a (f + k + j)) a := by
  rw [qa_ow_lo (by omega)]
  exact xc_mb0 hk
theorem xc_mbb {t f k c : Nat} {a : Nat → Int32} (h : f < t) (hk : k < c) (hb : ∀ j, vp_nar .boolean (a j) = a j) : upd (qa_ow (t + (k + 1)) (c - (k + 1)) (fun j => a (f + (k + 1) + j)) a) (t + k) (vp_nar .boolean (qa_ow (t + (k + 1)) (c - (k + 1)) (fun j => a (f + (k + 1) + j)) a (f + k))) = qa_ow (t + k) (c - k) (fun j => a (f + k + j)) a := by
  rw [qa_ow_lo (by omega), hb]
  exact xc_mb0 hk
theorem xc_mv_id {f c : Nat} {a : Nat → Int32} : qa_mv f f c a = a := by
  funext j
  show (if f ≤ j ∧ j < f + c then a (f + (j - f)) else a j) = a j
  split
  · exact congrArg a (by omega)
  · rfl
theorem xc_mvc {f t c : Nat} {a : Nat → Int32} : qa_ow (t + c) (c - c) (fun j => a (f + c + j)) a = a := by
  rw [Nat.sub_self, qa_ow0]
section
variable {f_length f_tokens f_fresh f_stretches f_marks f_blocks f_loose f_isStudied f_height f_chosen : Int32} {a_text a_tokenKind a_tokenStart a_tokenSize a_code a_meant a_meantMark a_freshKind a_freshStart a_freshSize a_first a_size a_endKind a_sort a_codeSize a_isRead a_block a_hasValue a_isKnown a_value a_mark a_around a_nesting a_pile a_chosenStart a_chosenSize : Nat → Int32}
variable {post : SX → Prop} {f t c n : Nat}
theorem xc_moveToken (hf : f < 81) (ht : t < 81) (h : post (f_length, f_tokens, f_fresh, f_stretches, f_marks, f_blocks, f_loose, f_isStudied, f_height, f_chosen, a_text, upd a_tokenKind t (a_tokenKind f), upd a_tokenStart t (a_tokenStart f), upd a_tokenSize t (a_tokenSize f), upd a_code t (a_code f), upd a_meant t (a_meant f), upd a_meantMark t (a_meantMark f), a_freshKind, a_freshStart, a_freshSize, a_first, a_size, a_endKind, a_sort, a_codeSize, a_isRead, a_block, a_hasValue, a_isKnown, a_value, a_mark, a_around, a_nesting, a_pile, a_chosenStart, a_chosenSize)) : wpX_moveToken post (f_length, f_tokens, f_fresh, f_stretches, f_marks, f_blocks, f_loose, f_isStudied, f_height, f_chosen, a_text, a_tokenKind, a_tokenStart, a_tokenSize, a_code, a_meant, a_meantMark, a_freshKind, a_freshStart, a_freshSize, a_first, a_size, a_endKind, a_sort, a_codeSize, a_isRead, a_block, a_hasValue, a_isKnown, a_value, a_mark, a_around, a_nesting, a_pile, a_chosenStart, a_chosenSize) (nI f) (nI t) := by
  have vf : vp_in (nI f) 81 := pk_in f 81 hf
  have vt : vp_in (nI t) 81 := pk_in t 81 ht
  have cf : (nI f).toNatClampNeg = f := nI_clamp (by omega)
  have ct : (nI t).toNatClampNeg = t := nI_clamp (by omega)
  unfold wpX_moveToken
  dsimp only
  rw [cf, ct]
  exact ⟨vf, vt, nm_e ⟨vf, vt, nm_e ⟨vf, vt, nm_e ⟨vf, vt, nm_e ⟨vf, vt, nm_e ⟨vf, vt, nm_e h⟩⟩⟩⟩⟩⟩
theorem xc_mt15 (htf : t ≤ f) (hb : f + c ≤ 81) (h : post (f_length, nI (t + c), f_fresh, f_stretches, f_marks, f_blocks, f_loose, f_isStudied, f_height, f_chosen, a_text, qa_mv f t c a_tokenKind, qa_mv f t c a_tokenStart, qa_mv f t c a_tokenSize, qa_mv f t c a_code, qa_mv f t c a_meant, qa_mv f t c a_meantMark, a_freshKind, a_freshStart, a_freshSize, a_first, a_size, a_endKind, a_sort, a_codeSize, a_isRead, a_block, a_hasValue, a_isKnown, a_value, a_mark, a_around, a_nesting, a_pile, a_chosenStart, a_chosenSize)) :
    ∀ d k, k ≤ c → c - k < d → wX_moveTokens_15 post (nI f) (nI t) (nI c) d (nI k) f_length f_tokens f_fresh f_stretches f_marks f_blocks f_loose f_isStudied f_height f_chosen a_text (qa_ow t k (fun j => a_tokenKind (f + j)) a_tokenKind) (qa_ow t k (fun j => a_tokenStart (f + j)) a_tokenStart) (qa_ow t k (fun j => a_tokenSize (f + j)) a_tokenSize) (qa_ow t k (fun j => a_code (f + j)) a_code) (qa_ow t k (fun j => a_meant (f + j)) a_meant) (qa_ow t k (fun j => a_meantMark (f + j)) a_meantMark) a_freshKind a_freshStart a_freshSize a_first a_size a_endKind a_sort a_codeSize a_isRead a_block a_hasValue a_isKnown a_value a_mark a_around a_nesting a_pile a_chosenStart a_chosenSize := by
  intro d
  induction d with
  | zero => intro k _ h; omega
  | succ d ih =>
    intro k hk hd
    rw [wX_moveTokens_15]
    refine pk_le c k (fun h1 => ?_) (fun h1 => ?_)
    · obtain rfl : k = c := by omega
      exact nm_r (nI_add t k) h
    · rw [nI_add, nI_add]
      refine xc_moveToken (by omega) (by omega) (nm_r (nI_1 k) ?_)
      have := ih (k + 1) (by omega) (by omega)
      rw [xc_mf htf, xc_mf htf, xc_mf htf, xc_mf htf, xc_mf htf, xc_mf htf]
      exact this
theorem xc_mt52 (htf : f < t) (hb : t + c ≤ 81) (h : post (f_length, nI (t + c), f_fresh, f_stretches, f_marks, f_blocks, f_loose, f_isStudied, f_height, f_chosen, a_text, qa_mv f t c a_tokenKind, qa_mv f t c a_tokenStart, qa_mv f t c a_tokenSize, qa_mv f t c a_code, qa_mv f t c a_meant, qa_mv f t c a_meantMark, a_freshKind, a_freshStart, a_freshSize, a_first, a_size, a_endKind, a_sort, a_codeSize, a_isRead, a_block, a_hasValue, a_isKnown, a_value, a_mark, a_around, a_nesting, a_pile, a_chosenStart, a_chosenSize)) :
    ∀ k d, k ≤ c → k < d → wX_moveTokens_52 post (nI f) (nI t) (nI c) d (nI k - 1) f_length f_tokens f_fresh f_stretches f_marks f_blocks f_loose f_isStudied f_height f_chosen a_text (qa_ow (t + k) (c - k) (fun j => a_tokenKind (f + k + j)) a_tokenKind) (qa_ow (t + k) (c - k) (fun j => a_tokenStart (f + k + j)) a_tokenStart) (qa_ow (t + k) (c - k) (fun j => a_tokenSize (f + k + j)) a_tokenSize) (qa_ow (t + k) (c - k) (fun j => a_code (f + k + j)) a_code) (qa_ow (t + k) (c - k) (fun j => a_meant (f + k + j)) a_meant) (qa_ow (t + k) (c - k) (fun j => a_meantMark (f + k + j)) a_meantMark) a_freshKind a_freshStart a_freshSize a_first a_size a_endKind a_sort a_codeSize a_isRead a_block a_hasValue a_isKnown a_value a_mark a_around a_nesting a_pile a_chosenStart a_chosenSize := by
  intro k
  induction k with
  | zero =>
    intro d _ hd
    obtain ⟨d, rfl⟩ : ∃ d', d = d' + 1 := ⟨d - 1, by omega⟩
    rw [wX_moveTokens_52]
    exact br_t (by decide) (nm_r (nI_add t c) h)
  | succ k ih =>
    intro d hk hd
    obtain ⟨d, rfl⟩ : ∃ d', d = d' + 1 := ⟨d - 1, by omega⟩
    rw [wX_moveTokens_52, nI_pred]
    refine br_f (nI_pos (by omega)) ?_
    rw [nI_add, nI_add]
    refine xc_moveToken (by omega) (by omega) (nm_r (xc_pm _) ?_)
    have := ih d (by omega) (by omega)
    rw [xc_mb htf (by omega), xc_mb htf (by omega), xc_mb htf (by omega), xc_mb htf (by omega), xc_mb htf (by omega), xc_mb htf (by omega)]
    exact this
theorem xc_moveTokens (hn : n = f + c) (hb : f + c ≤ 81) (hb2 : t + c ≤ 81) (h : post (f_length, nI (t + c), f_fresh, f_stretches, f_marks, f_blocks, f_loose, f_isStudied, f_height, f_chosen, a_text, qa_mv f t c a_tokenKind, qa_mv f t c a_tokenStart, qa_mv f t c a_tokenSize, qa_mv f t c a_code, qa_mv f t c a_meant, qa_mv f t c a_meantMark, a_freshKind, a_freshStart, a_freshSize, a_first, a_size, a_endKind, a_sort, a_codeSize, a_isRead, a_block, a_hasValue, a_isKnown, a_value, a_mark, a_around, a_nesting, a_pile, a_chosenStart, a_chosenSize)) : wpX_moveTokens post (f_length, nI n, f_fresh, f_stretches, f_marks, f_blocks, f_loose, f_isStudied, f_height, f_chosen, a_text, a_tokenKind, a_tokenStart, a_tokenSize, a_code, a_meant, a_meantMark, a_freshKind, a_freshStart, a_freshSize, a_first, a_size, a_endKind, a_sort, a_codeSize, a_isRead, a_block, a_hasValue, a_isKnown, a_value, a_mark, a_around, a_nesting, a_pile, a_chosenStart, a_chosenSize) (nI f) (nI t) := by
  refine nm_r (e' := nI c) (by rw [pk_sub (by omega)]; exact congrArg nI (by omega)) ?_
  refine pk_le f t (fun h1 => pk_le t f (fun h2 => ?_) (fun h2 => ?_)) (fun h1 => ?_)
  · obtain rfl : f = t := by omega
    rw [xc_mv_id, xc_mv_id, xc_mv_id, xc_mv_id, xc_mv_id, xc_mv_id] at h
    exact nm_r (nI_add f c) h
  · refine nm_e ⟨c + 1, ?_⟩
    have := xc_mt52 (post := post) (f_tokens := nI n) h2 hb2 h c (c + 1) (Nat.le_refl _) (by omega)
    rw [xc_mvc, xc_mvc, xc_mvc, xc_mvc, xc_mvc, xc_mvc] at this
    exact this
  · refine ⟨c + 1, ?_⟩
    have := xc_mt15 (post := post) (f_tokens := nI n) (by omega) hb h (c + 1) 0 (by omega) (by omega)
    rw [qa_ow0, qa_ow0, qa_ow0, qa_ow0, qa_ow0, qa_ow0] at this
    exact this
theorem xc_moveStretch (hf : f < 82) (ht : t < 82) (h : post (f_length, f_tokens, f_fresh, f_stretches, f_marks, f_blocks, f_loose, f_isStudied, f_height, f_chosen, a_text, a_tokenKind, a_tokenStart, a_tokenSize, a_code, a_meant, a_meantMark, a_freshKind, a_freshStart, a_freshSize, upd a_first t (a_first f), upd a_size t (a_size f), upd a_endKind t (a_endKind f), upd a_sort t (a_sort f), upd a_codeSize t (a_codeSize f), upd a_isRead t (vp_nar .boolean (a_isRead f)), a_block, upd a_hasValue t (vp_nar .boolean (a_hasValue f)), upd a_isKnown t (vp_nar .boolean (a_isKnown f)), upd a_value t (a_value f), upd a_mark t (a_mark f), a_around, a_nesting, a_pile, a_chosenStart, a_chosenSize)) : wpX_moveStretch post (f_length, f_tokens, f_fresh, f_stretches, f_marks, f_blocks, f_loose, f_isStudied, f_height, f_chosen, a_text, a_tokenKind, a_tokenStart, a_tokenSize, a_code, a_meant, a_meantMark, a_freshKind, a_freshStart, a_freshSize, a_first, a_size, a_endKind, a_sort, a_codeSize, a_isRead, a_block, a_hasValue, a_isKnown, a_value, a_mark, a_around, a_nesting, a_pile, a_chosenStart, a_chosenSize) (nI f) (nI t) := by
  have vf : vp_in (nI f) 82 := pk_in f 82 hf
  have vt : vp_in (nI t) 82 := pk_in t 82 ht
  have cf : (nI f).toNatClampNeg = f := nI_clamp (by omega)
  have ct : (nI t).toNatClampNeg = t := nI_clamp (by omega)
  unfold wpX_moveStretch
  dsimp only
  rw [cf, ct]
  exact ⟨vf, vt, nm_e ⟨vf, vt, nm_e ⟨vf, vt, nm_e ⟨vf, vt, nm_e ⟨vf, vt, nm_e ⟨vf, vt, nm_e ⟨vf, vt, nm_e ⟨vf, vt, nm_e ⟨vf, vt, nm_e ⟨vf, vt, nm_e h⟩⟩⟩⟩⟩⟩⟩⟩⟩⟩
theorem xc_ms15 (htf : t ≤ f) (hb : f + c ≤ 82) (b1 : ∀ j, vp_nar .boolean (a_isRead j) = a_isRead j) (b2 : ∀ j, vp_nar .boolean (a_hasValue j) = a_hasValue j) (b3 : ∀ j, vp_nar .boolean (a_isKnown j) = a_isKnown j) (h : post (f_length, f_tokens, f_fresh, nI (t + c), f_marks, f_blocks, f_loose, f_isStudied, f_height, f_chosen, a_text, a_tokenKind, a_tokenStart, a_tokenSize, a_code, a_meant, a_meantMark, a_freshKind, a_freshStart, a_freshSize, qa_mv f t c a_first, qa_mv f t c a_size, qa_mv f t c a_endKind, qa_mv f t c a_sort, qa_mv f t c a_codeSize, qa_mv f t c a_isRead, a_block, qa_mv f t c a_hasValue, qa_mv f t c a_isKnown, qa_mv f t c a_value, qa_mv f t c a_mark, a_around, a_nesting, a_pile, a_chosenStart, a_chosenSize)) :
    ∀ d k, k ≤ c → c - k < d → wX_moveStretches_15 post (nI f) (nI t) (nI c) d (nI k) f_length f_tokens f_fresh f_stretches f_marks f_blocks f_loose f_isStudied f_height f_chosen a_text a_tokenKind a_tokenStart a_tokenSize a_code a_meant a_meantMark a_freshKind a_freshStart a_freshSize (qa_ow t k (fun j => a_first (f + j)) a_first) (qa_ow t k (fun j => a_size (f + j)) a_size) (qa_ow t k (fun j => a_endKind (f + j)) a_endKind) (qa_ow t k (fun j => a_sort (f + j)) a_sort) (qa_ow t k (fun j => a_codeSize (f + j)) a_codeSize) (qa_ow t k (fun j => a_isRead (f + j)) a_isRead) a_block (qa_ow t k (fun j => a_hasValue (f + j)) a_hasValue) (qa_ow t k (fun j => a_isKnown (f + j)) a_isKnown) (qa_ow t k (fun j => a_value (f + j)) a_value) (qa_ow t k (fun j => a_mark (f + j)) a_mark) a_around a_nesting a_pile a_chosenStart a_chosenSize := by
  intro d
  induction d with
  | zero => intro k _ h; omega
  | succ d ih =>
    intro k hk hd
    rw [wX_moveStretches_15]
    refine pk_le c k (fun h1 => ?_) (fun h1 => ?_)
    · obtain rfl : k = c := by omega
      exact nm_r (nI_add t k) h
    · rw [nI_add, nI_add]
      refine xc_moveStretch (by omega) (by omega) (nm_r (nI_1 k) ?_)
      have := ih (k + 1) (by omega) (by omega)
      rw [xc_mf htf, xc_mf htf, xc_mf htf, xc_mf htf, xc_mf htf, xc_mfb htf b1, xc_mfb htf b2, xc_mfb htf b3, xc_mf htf, xc_mf htf]
      exact this
theorem xc_ms52 (htf : f < t) (hb : t + c ≤ 82) (b1 : ∀ j, vp_nar .boolean (a_isRead j) = a_isRead j) (b2 : ∀ j, vp_nar .boolean (a_hasValue j) = a_hasValue j) (b3 : ∀ j, vp_nar .boolean (a_isKnown j) = a_isKnown j) (h : post (f_length, f_tokens, f_fresh, nI (t + c), f_marks, f_blocks, f_loose, f_isStudied, f_height, f_chosen, a_text, a_tokenKind, a_tokenStart, a_tokenSize, a_code, a_meant, a_meantMark, a_freshKind, a_freshStart, a_freshSize, qa_mv f t c a_first, qa_mv f t c a_size, qa_mv f t c a_endKind, qa_mv f t c a_sort, qa_mv f t c a_codeSize, qa_mv f t c a_isRead, a_block, qa_mv f t c a_hasValue, qa_mv f t c a_isKnown, qa_mv f t c a_value, qa_mv f t c a_mark, a_around, a_nesting, a_pile, a_chosenStart, a_chosenSize)) :
    ∀ k d, k ≤ c → k < d → wX_moveStretches_52 post (nI f) (nI t) (nI c) d (nI k - 1) f_length f_tokens f_fresh f_stretches f_marks f_blocks f_loose f_isStudied f_height f_chosen a_text a_tokenKind a_tokenStart a_tokenSize a_code a_meant a_meantMark a_freshKind a_freshStart a_freshSize (qa_ow (t + k) (c - k) (fun j => a_first (f + k + j)) a_first) (qa_ow (t + k) (c - k) (fun j => a_size (f + k + j)) a_size) (qa_ow (t + k) (c - k) (fun j => a_endKind (f + k + j)) a_endKind) (qa_ow (t + k) (c - k) (fun j => a_sort (f + k + j)) a_sort) (qa_ow (t + k) (c - k) (fun j => a_codeSize (f + k + j)) a_codeSize) (qa_ow (t + k) (c - k) (fun j => a_isRead (f + k + j)) a_isRead) a_block (qa_ow (t + k) (c - k) (fun j => a_hasValue (f + k + j)) a_hasValue) (qa_ow (t + k) (c - k) (fun j => a_isKnown (f + k + j)) a_isKnown) (qa_ow (t + k) (c - k) (fun j => a_value (f + k + j)) a_value) (qa_ow (t + k) (c - k) (fun j => a_mark (f + k + j)) a_mark) a_around a_nesting a_pile a_chosenStart a_chosenSize := by
  intro k
  induction k with
  | zero =>
    intro d _ hd
    obtain ⟨d, rfl⟩ : ∃ d', d = d' + 1 := ⟨d - 1, by omega⟩
    rw [wX_moveStretches_52]
    exact br_t (by decide) (nm_r (nI_add t c) h)
  | succ k ih =>
    intro d hk hd
    obtain ⟨d, rfl⟩ : ∃ d', d = d' + 1 := ⟨d - 1, by omega⟩
    rw [wX_moveStretches_52, nI_pred]
    refine br_f (nI_pos (by omega)) ?_
    rw [nI_add, nI_add]
    refine xc_moveStretch (by omega) (by omega) (nm_r (xc_pm _) ?_)
    have := ih d (by omega) (by omega)
    have hkc : k < c := by omega
    rw [xc_mb htf hkc, xc_mb htf hkc, xc_mb htf hkc, xc_mb htf hkc, xc_mb htf hkc, xc_mbb htf hkc b1, xc_mbb htf hkc b2, xc_mbb htf hkc b3, xc_mb htf hkc, xc_mb htf hkc]
    exact this
theorem xc_moveStretches (hn : n = f + c) (hb : f + c ≤ 82) (hb2 : t + c ≤ 82) (b1 : ∀ j, vp_nar .boolean (a_isRead j) = a_isRead j) (b2 : ∀ j, vp_nar .boolean (a_hasValue j) = a_hasValue j) (b3 : ∀ j, vp_nar .boolean (a_isKnown j) = a_isKnown j) (h : post (f_length, f_tokens, f_fresh, nI (t + c), f_marks, f_blocks, f_loose, f_isStudied, f_height, f_chosen, a_text, a_tokenKind, a_tokenStart, a_tokenSize, a_code, a_meant, a_meantMark, a_freshKind, a_freshStart, a_freshSize, qa_mv f t c a_first, qa_mv f t c a_size, qa_mv f t c a_endKind, qa_mv f t c a_sort, qa_mv f t c a_codeSize, qa_mv f t c a_isRead, a_block, qa_mv f t c a_hasValue, qa_mv f t c a_isKnown, qa_mv f t c a_value, qa_mv f t c a_mark, a_around, a_nesting, a_pile, a_chosenStart, a_chosenSize)) : wpX_moveStretches post (f_length, f_tokens, f_fresh, nI n, f_marks, f_blocks, f_loose, f_isStudied, f_height, f_chosen, a_text, a_tokenKind, a_tokenStart, a_tokenSize, a_code, a_meant, a_meantMark, a_freshKind, a_freshStart, a_freshSize, a_first, a_size, a_endKind, a_sort, a_codeSize, a_isRead, a_block, a_hasValue, a_isKnown, a_value, a_mark, a_around, a_nesting, a_pile, a_chosenStart, a_chosenSize) (nI f) (nI t) := by
  refine nm_r (e' := nI c) (by rw [pk_sub (by omega)]; exact congrArg nI (by omega)) ?_
  refine pk_le f t (fun h1 => pk_le t f (fun h2 => ?_) (fun h2 => ?_)) (fun h1 => ?_)
  · obtain rfl : f = t := by omega
    rw [xc_mv_id, xc_mv_id, xc_mv_id, xc_mv_id, xc_mv_id, xc_mv_id, xc_mv_id, xc_mv_id, xc_mv_id, xc_mv_id] at h
    exact nm_r (nI_add f c) h
  · refine nm_e ⟨c + 1, ?_⟩
    have := xc_ms52 (post := post) (f_stretches := nI n) h2 hb2 b1 b2 b3 h c (c + 1) (Nat.le_refl _) (by omega)
    rw [xc_mvc, xc_mvc, xc_mvc, xc_mvc, xc_mvc, xc_mvc, xc_mvc, xc_mvc, xc_mvc, xc_mvc] at this
    exact this
  · refine ⟨c + 1, ?_⟩
    have := xc_ms15 (post := post) (f_stretches := nI n) (by omega) hb b1 b2 b3 h (c + 1) 0 (by omega) (by omega)
    rw [qa_ow0, qa_ow0, qa_ow0, qa_ow0, qa_ow0, qa_ow0, qa_ow0, qa_ow0, qa_ow0, qa_ow0] at this
    exact this
end
end
section
/-! X: stretches made anew -/
section
variable {f_length f_tokens f_fresh f_stretches f_marks f_blocks f_loose f_isStudied f_height f_chosen : Int32} {a_text a_tokenKind a_tokenStart a_tokenSize a_code a_meant a_meantMark a_freshKind a_freshStart a_freshSize a_first a_size a_endKind a_sort a_codeSize a_isRead a_block a_hasValue a_isKnown a_value a_mark a_around a_nesting a_pile a_chosenStart a_chosenSize : Nat → Int32}
variable {G n m k : Nat} {K F Q : Nat → Nat} {E : Nat → Int32}
theorem xd_stretchWith {post : Int32 → Prop} {t : Nat} (hS : qc_Str n K G F Q E) (hn : n ≤ 80) (ht : t ≤ n) (hr : ∀ g, g < G → a_first g = nI (F g) ∧ a_size g = nI (Q g)) (h : ∀ a, a < G → F a ≤ t → t ≤ F a + Q a → post (nI a)) : wpX_stretchWith post (f_length, f_tokens, f_fresh, nI G, f_marks, f_blocks, f_loose, f_isStudied, f_height, f_chosen, a_text, a_tokenKind, a_tokenStart, a_tokenSize, a_code, a_meant, a_meantMark, a_freshKind, a_freshStart, a_freshSize, a_first, a_size, a_endKind, a_sort, a_codeSize, a_isRead, a_block, a_hasValue, a_isKnown, a_value, a_mark, a_around, a_nesting, a_pile, a_chosenStart, a_chosenSize) (nI t) := by
  have hG := qc_G hS
  have key : ∀ d g, g < G → F g ≤ t → G - g ≤ d → wX_stretchWith_4 post (nI t) f_length f_tokens f_fresh (nI G) f_marks f_blocks f_loose f_isStudied f_height f_chosen a_text a_tokenKind a_tokenStart a_tokenSize a_code a_meant a_meantMark a_freshKind a_freshStart a_freshSize a_first a_size a_endKind a_sort a_codeSize a_isRead a_block a_hasValue a_isKnown a_value a_mark a_around a_nesting a_pile a_chosenStart a_chosenSize d (nI g) (nI g) := by
    intro d
    induction d with
    | zero => intro g h1 _ h2; omega
    | succ d ih =>
      intro g hg hF hd
      have hle := qc_le hS hg
      have hre := hr g hg
      have cg : (nI g).toNatClampNeg = g := nI_clamp (by omega)
      have vg : vp_in (nI g) 82 := pk_in g 82 (by omega)
      rw [wX_stretchWith_4]
      refine pk_le 81 g (fun h8 => by omega) (fun h8 => ?_)
      refine pk_le G (g + 1) (fun h1 => h g hg hF ?_) (fun h1 => ⟨vg, vg, ?_⟩) rfl (nI_1 g)
      · have := (hS.2.2.2.1 g (by omega)).1; omega
      · refine pk_le t (F g + Q g) (fun h2 => h g hg hF h2) (fun h2 => ?_) rfl (by rw [cg, hre.1, hre.2, nI_add])
        have := (hS.2.2.1 g h1).1
        exact nm_r (nI_1 g) (nm_r (nI_1 g) (ih (g + 1) h1 (by omega) (by omega)))
  exact ⟨G, key G 0 hS.1 (by rw [hS.2.1]; omega) (by omega)⟩
theorem xd_ends {post : Int32 → Prop} {t κ : Nat} (ht : t < 81) (hk : a_tokenKind t = nI κ) (hκ : κ ≤ 10) (h0 : κ < 8 → post 0) (h1 : 8 ≤ κ → post 1) : wpX_ends post (f_length, f_tokens, f_fresh, f_stretches, f_marks, f_blocks, f_loose, f_isStudied, f_height, f_chosen, a_text, a_tokenKind, a_tokenStart, a_tokenSize, a_code, a_meant, a_meantMark, a_freshKind, a_freshStart, a_freshSize, a_first, a_size, a_endKind, a_sort, a_codeSize, a_isRead, a_block, a_hasValue, a_isKnown, a_value, a_mark, a_around, a_nesting, a_pile, a_chosenStart, a_chosenSize) (nI t) :=
  ⟨pk_in t 81 ht, pk_lt κ 8 h0 h1 (by rw [nI_clamp (by omega)]; exact hk)⟩
theorem xd_newStretch {post : SX → Prop} {g : Nat} {x y z : Int32} {mk : Nat} (hg : g < 82) (h : post (f_length, f_tokens, f_fresh, f_stretches, nI (mk + 1), f_blocks, f_loose, f_isStudied, f_height, f_chosen, a_text, a_tokenKind, a_tokenStart, a_tokenSize, a_code, a_meant, a_meantMark, a_freshKind, a_freshStart, a_freshSize, upd a_first g x, upd a_size g y, upd a_endKind g z, a_sort, a_codeSize, upd a_isRead g 0, a_block, upd a_hasValue g 0, a_isKnown, a_value, upd a_mark g (nI (mk + 1)), a_around, a_nesting, a_pile, a_chosenStart, a_chosenSize)) : wpX_newStretch post (f_length, f_tokens, f_fresh, f_stretches, nI mk, f_blocks, f_loose, f_isStudied, f_height, f_chosen, a_text, a_tokenKind, a_tokenStart, a_tokenSize, a_code, a_meant, a_meantMark, a_freshKind, a_freshStart, a_freshSize, a_first, a_size, a_endKind, a_sort, a_codeSize, a_isRead, a_block, a_hasValue, a_isKnown, a_value, a_mark, a_around, a_nesting, a_pile, a_chosenStart, a_chosenSize) (nI g) x y z := by
  have v : vp_in (nI g) 82 := pk_in g 82 hg
  have c : (nI g).toNatClampNeg = g := nI_clamp (by omega)
  unfold wpX_newStretch
  dsimp only
  rw [c, qa_b0]
  exact ⟨v, nm_e ⟨v, nm_e ⟨v, nm_e ⟨v, nm_e ⟨v, nm_e (nm_r (nI_1 mk) ⟨v, nm_e h⟩)⟩⟩⟩⟩⟩
theorem xd_151 {post : SX → Prop} {J : Int32 → Int32 → Int32 → Int32 → Int32 → Int32 → Int32 → Int32 → Int32 → Int32 → Int32 → Int32 → Int32 → (Nat → Int32) → (Nat → Int32) → (Nat → Int32) → (Nat → Int32) → (Nat → Int32) → (Nat → Int32) → (Nat → Int32) → (Nat → Int32) → (Nat → Int32) → (Nat → Int32) → (Nat → Int32) → (Nat → Int32) → (Nat → Int32) → (Nat → Int32) → (Nat → Int32) → (Nat → Int32) → (Nat → Int32) → (Nat → Int32) → (Nat → Int32) → (Nat → Int32) → (Nat → Int32) → (Nat → Int32) → (Nat → Int32) → (Nat → Int32) → (Nat → Int32) → (Nat → Int32) → Prop} {x7 x8 x9 x10 : Int32} (hn : n ≤ 80) (hK : ∀ t, t < n → a_tokenKind t = nI (K t) ∧ K t ≤ 10) :
    ∀ d t i, i ≤ t → t ≤ n → n - t ≤ d → wX_replaceStretches_185 post J x7 x8 x9 x10 (nI (qc_nx K n d t)) f_length (nI n) f_fresh f_stretches f_marks f_blocks f_loose f_isStudied f_height f_chosen a_text a_tokenKind a_tokenStart a_tokenSize a_code a_meant a_meantMark a_freshKind a_freshStart a_freshSize a_first a_size a_endKind a_sort a_codeSize a_isRead a_block a_hasValue a_isKnown a_value a_mark a_around a_nesting a_pile a_chosenStart a_chosenSize → wX_replaceStretches_151 post J x7 x8 x9 x10 f_length (nI n) f_fresh f_stretches f_marks f_blocks f_loose f_isStudied f_height f_chosen a_text a_tokenKind a_tokenStart a_tokenSize a_code a_meant a_meantMark a_freshKind a_freshStart a_freshSize a_first a_size a_endKind a_sort a_codeSize a_isRead a_block a_hasValue a_isKnown a_value a_mark a_around a_nesting a_pile a_chosenStart a_chosenSize (d + 1) (nI t) (nI i) := by
  intro d
  induction d with
  | zero =>
    intro t i hi ht hd h
    rw [wX_replaceStretches_151]
    refine pk_le 81 i (fun h8 => by omega) (fun h8 => pk_le n t (fun _ => h) (fun h1 => by omega))
  | succ d ih =>
    intro t i hi ht hd h
    rw [wX_replaceStretches_151]
    refine pk_le 81 i (fun h8 => by omega) (fun h8 => pk_le n t (fun h1 => ?_) (fun h1 => ?_))
    · have e : qc_nx K n (d + 1) t = t := if_neg (by omega)
      rw [e] at h; exact h
    · have hk := hK t h1
      refine xd_ends (by omega) hk.1 hk.2 (fun h2 => br_t rfl ?_) (fun h2 => br_f (by decide) ?_)
      · have e : qc_nx K n (d + 1) t = qc_nx K n d (t + 1) := if_pos ⟨h1, h2⟩
        rw [e] at h
        exact nm_r (nI_1 t) (nm_r (nI_1 i) (ih (t + 1) (i + 1) (by omega) (by omega) (by omega) h))
      · have e : qc_nx K n (d + 1) t = t := if_neg (by omega)
        rw [e] at h; exact h
/-- i new stretches written, from a on -/
theorem xd_137 {post : SX → Prop} {a f c mk : Nat} (hn : n ≤ 80) (hK : ∀ t, t < n → a_tokenKind t = nI (K t) ∧ K t ≤ 10) (hc : a + c < 82) (hbg : ∀ i, i ≤ c → qc_bg K n f i ≤ n)
    (h : post (f_length, nI n, f_fresh, f_stretches, nI (mk + (c + 1)), f_blocks, f_loose, 0, f_height, f_chosen, a_text, a_tokenKind, a_tokenStart, a_tokenSize, a_code, a_meant, a_meantMark, a_freshKind, a_freshStart, a_freshSize, qa_ow a (c + 1) (fun i => nI (qc_bg K n f i)) a_first, qa_ow a (c + 1) (fun i => nI (qc_nx K n n (qc_bg K n f i) - qc_bg K n f i)) a_size, qa_ow a (c + 1) (fun i => if qc_nx K n n (qc_bg K n f i) < n then nI (K (qc_nx K n n (qc_bg K n f i))) else -1) a_endKind, a_sort, a_codeSize, qa_ow a (c + 1) (fun _ => 0) a_isRead, a_block, qa_ow a (c + 1) (fun _ => 0) a_hasValue, a_isKnown, a_value, qa_ow a (c + 1) (fun i => nI (mk + i + 1)) a_mark, a_around, a_nesting, a_pile, a_chosenStart, a_chosenSize)) :
    ∀ d i, i ≤ c + 1 → c + 1 - i < d → wX_replaceStretches_137 post (nI c) d (nI (a + i)) (nI (qc_bg K n f i)) (nI i) f_length (nI n) f_fresh f_stretches (nI (mk + i)) f_blocks f_loose f_isStudied f_height f_chosen a_text a_tokenKind a_tokenStart a_tokenSize a_code a_meant a_meantMark a_freshKind a_freshStart a_freshSize (qa_ow a i (fun i => nI (qc_bg K n f i)) a_first) (qa_ow a i (fun i => nI (qc_nx K n n (qc_bg K n f i) - qc_bg K n f i)) a_size) (qa_ow a i (fun i => if qc_nx K n n (qc_bg K n f i) < n then nI (K (qc_nx K n n (qc_bg K n f i))) else -1) a_endKind) a_sort a_codeSize (qa_ow a i (fun _ => 0) a_isRead) a_block (qa_ow a i (fun _ => 0) a_hasValue) a_isKnown a_value (qa_ow a i (fun i => nI (mk + i + 1)) a_mark) a_around a_nesting a_pile a_chosenStart a_chosenSize := by
  intro d
  induction d with
  | zero => intro i _ h; omega
  | succ d ih =>
    intro i hi hd
    rw [wX_replaceStretches_137]
    refine pk_lt c i (fun h1 => ?_) (fun h1 => ⟨n + 1, ?_⟩)
    · obtain rfl : i = c + 1 := by omega
      exact h
    · have hb := hbg i h1
      refine xd_151 hn hK n (qc_bg K n f i) 0 (by omega) hb (by omega) ?_
      obtain ⟨z1, z2, z3, z4⟩ := qc_nx_f (K := K) (n := n) n (qc_bg K n f i) hb (by omega)
      have e := ih (i + 1) (by omega) (by omega)
      have s1 := qa_ow_s (b := a) (k := i) (f := fun i => nI (qc_bg K n f i)) (x := a_first)
      have s2 := qa_ow_s (b := a) (k := i) (f := fun i => nI (qc_nx K n n (qc_bg K n f i) - qc_bg K n f i)) (x := a_size)
      have s3 := qa_ow_s (b := a) (k := i) (f := fun i => if qc_nx K n n (qc_bg K n f i) < n then nI (K (qc_nx K n n (qc_bg K n f i))) else -1) (x := a_endKind)
      have s4 := qa_ow_s (b := a) (k := i) (f := fun _ => 0) (x := a_isRead)
      have s5 := qa_ow_s (b := a) (k := i) (f := fun _ => 0) (x := a_hasValue)
      have s6 := qa_ow_s (b := a) (k := i) (f := fun i => nI (mk + i + 1)) (x := a_mark)
      rw [← s1, ← s2, ← s3, ← s4, ← s5, ← s6] at e
      refine pk_le n (qc_nx K n n (qc_bg K n f i)) (fun h2 => ?_) (fun h2 => ⟨pk_in (qc_nx K n n (qc_bg K n f i)) 81 (by omega), ?_⟩)
      · unfold wX_replaceStretches_215
        rw [pk_sub z1]
        rw [if_neg (by omega)] at e
        exact xd_newStretch (by omega) (nm_r (nI_1 _) (nm_r (nI_1 _) (nm_r (nI_1 i) e)))
      · unfold wX_replaceStretches_215
        rw [pk_sub z1, nI_clamp (by omega), (hK _ h2).1]
        rw [if_pos h2] at e
        exact xd_newStretch (by omega) (nm_r (nI_1 _) (nm_r (nI_1 _) (nm_r (nI_1 i) e)))
/-- the starts behind are shifted -/
theorem xd_81 {post : SX → Prop} {x3 x4 x5 x6 x7 : Int32} {b : Nat} (hG : G ≤ 82) :
    ∀ c i, b + i + c = G → wpX_moveStretches (fun u => match u with | (f_length1, f_tokens1, f_fresh1, f_stretches1, f_marks1, f_blocks1, f_loose1, f_isStudied1, f_height1, f_chosen1, a_text1, a_tokenKind1, a_tokenStart1, a_tokenSize1, a_code1, a_meant1, a_meantMark1, a_freshKind1, a_freshStart1, a_freshSize1, a_first1, a_size1, a_endKind1, a_sort1, a_codeSize1, a_isRead1, a_block1, a_hasValue1, a_isKnown1, a_value1, a_mark1, a_around1, a_nesting1, a_pile1, a_chosenStart1, a_chosenSize1) => ∃ n137 : Nat, wX_replaceStretches_137 post x7 n137 x3 x5 0 f_length1 f_tokens1 f_fresh1 f_stretches1 f_marks1 f_blocks1 f_loose1 f_isStudied1 f_height1 f_chosen1 a_text1 a_tokenKind1 a_tokenStart1 a_tokenSize1 a_code1 a_meant1 a_meantMark1 a_freshKind1 a_freshStart1 a_freshSize1 a_first1 a_size1 a_endKind1 a_sort1 a_codeSize1 a_isRead1 a_block1 a_hasValue1 a_isKnown1 a_value1 a_mark1 a_around1 a_nesting1 a_pile1 a_chosenStart1 a_chosenSize1) (f_length, f_tokens, f_fresh, nI G, f_marks, f_blocks, f_loose, f_isStudied, f_height, f_chosen, a_text, a_tokenKind, a_tokenStart, a_tokenSize, a_code, a_meant, a_meantMark, a_freshKind, a_freshStart, a_freshSize, qa_ow b (i + c) (fun j => a_first (b + j) + x6) a_first, a_size, a_endKind, a_sort, a_codeSize, a_isRead, a_block, a_hasValue, a_isKnown, a_value, a_mark, a_around, a_nesting, a_pile, a_chosenStart, a_chosenSize) (x4 + 1) ((x3 + x7) + 1) → wX_replaceStretches_81 post x3 x4 x5 x6 x7 f_length f_tokens f_fresh (nI G) f_marks f_blocks f_loose f_isStudied f_height f_chosen (c + 1) (nI (b + i)) a_text a_tokenKind a_tokenStart a_tokenSize a_code a_meant a_meantMark a_freshKind a_freshStart a_freshSize (qa_ow b i (fun j => a_first (b + j) + x6) a_first) a_size a_endKind a_sort a_codeSize a_isRead a_block a_hasValue a_isKnown a_value a_mark a_around a_nesting a_pile a_chosenStart a_chosenSize := by
  intro c
  induction c with
  | zero =>
    intro i hc h
    rw [wX_replaceStretches_81]
    exact pk_le G (b + i) (fun _ => h) (fun h1 => by omega)
  | succ c ih =>
    intro i hc h
    rw [wX_replaceStretches_81]
    have v : vp_in (nI (b + i)) 82 := pk_in (b + i) 82 (by omega)
    refine pk_le G (b + i) (fun h1 => by omega) (fun h1 => ⟨v, v, ?_⟩)
    rw [nI_clamp (by omega), qa_ow_hi (Nat.le_refl _)]
    refine nm_r (qa_ow_s (b := b) (k := i) (f := fun j => a_first (b + j) + x6) (x := a_first)) (nm_r (nI_1 (b + i)) ?_)
    refine ih (i + 1) (by omega) ?_
    have e : i + 1 + c = i + (c + 1) := by omega
    rw [e]; exact h
theorem xd_38 {post : SX → Prop} {x3 x4 x5 x6 : Int32} {f : Nat} (hn : k + m ≤ 80) (hK : ∀ t, t < k + m → a_tokenKind t = nI (K t) ∧ K t ≤ 10) :
    ∀ d i, f + i + d = k + m → (∀ y, y = x4 + 1 → ∃ n81 : Nat, wX_replaceStretches_81 post x3 x4 x5 x6 (nI (qc_ce K f (i + d))) f_length f_tokens (nI m) f_stretches f_marks f_blocks f_loose f_isStudied f_height f_chosen n81 y a_text a_tokenKind a_tokenStart a_tokenSize a_code a_meant a_meantMark a_freshKind a_freshStart a_freshSize a_first a_size a_endKind a_sort a_codeSize a_isRead a_block a_hasValue a_isKnown a_value a_mark a_around a_nesting a_pile a_chosenStart a_chosenSize) → wX_replaceStretches_38 post (nI k) x3 x4 x5 x6 f_length f_tokens (nI m) f_stretches f_marks f_blocks f_loose f_isStudied f_height f_chosen a_text a_tokenKind a_tokenStart a_tokenSize a_code a_meant a_meantMark a_freshKind a_freshStart a_freshSize a_first a_size a_endKind a_sort a_codeSize a_isRead a_block a_hasValue a_isKnown a_value a_mark a_around a_nesting a_pile a_chosenStart a_chosenSize (d + 1) (nI (qc_ce K f i)) (nI (f + i)) := by
  intro d
  induction d with
  | zero =>
    intro i hi h
    rw [wX_replaceStretches_38]
    exact pk_le (k + m) (f + i) (fun _ => h) (fun h1 => by omega) (nI_add k m)
  | succ d ih =>
    intro i hi h
    rw [wX_replaceStretches_38]
    refine pk_le (k + m) (f + i) (fun h1 => by omega) (fun h1 => ?_) (nI_add k m)
    have hk := hK (f + i) (by omega)
    have e : i + 1 + d = i + (d + 1) := by omega
    have h' := ih (i + 1) (by omega) (by rw [e]; exact h)
    have es : qc_ce K f (i + 1) = qc_ce K f i + if 8 ≤ K (f + i) then 1 else 0 := rfl
    refine xd_ends (by omega) hk.1 hk.2 (fun h2 => br_t rfl ?_) (fun h2 => br_f (by decide) ?_)
    · rw [es, if_neg (by omega)] at h'
      exact nm_r (nI_1 (f + i)) h'
    · rw [es, if_pos h2] at h'
      exact nm_r (nI_1 _) (nm_r (nI_1 (f + i)) h')
end
section
variable {f_length f_tokens f_fresh f_stretches f_marks f_blocks f_loose f_isStudied f_height f_chosen : Int32} {a_text a_tokenKind a_tokenStart a_tokenSize a_code a_meant a_meantMark a_freshKind a_freshStart a_freshSize a_first a_size a_endKind a_sort a_codeSize a_isRead a_block a_hasValue a_isKnown a_value a_mark a_around a_nesting a_pile a_chosenStart a_chosenSize : Nat → Int32}
variable {G n m k o : Nat} {K K' F Q : Nat → Nat} {E : Nat → Int32}
/-- replaceStretches: what it leaves, for some a, b -/
theorem xd_replaceStretches {post : SX → Prop} {mk : Nat} (hS : qc_Str n K G F Q E) (hn : n ≤ 80) (hk : k ≤ o) (ho : o ≤ n) (hn' : k + m + (n - o) ≤ 80) (hKl : ∀ t, t < k → K' t = K t) (hKh : ∀ j, j < n - o → K' (k + m + j) = K (o + j))
    (hK : ∀ t, t < k + m + (n - o) → a_tokenKind t = nI (K' t) ∧ K' t ≤ 10) (hr : ∀ g, g < G → a_first g = nI (F g) ∧ a_size g = nI (Q g))
    (b1 : ∀ j, vp_nar .boolean (a_isRead j) = a_isRead j) (b2 : ∀ j, vp_nar .boolean (a_hasValue j) = a_hasValue j) (b3 : ∀ j, vp_nar .boolean (a_isKnown j) = a_isKnown j)
    (h : ∀ a b, a ≤ b → a < G → b < G → F a ≤ k → k ≤ F a + Q a → F b ≤ o → o ≤ F b + Q b → post (f_length, nI (k + m + (n - o)), nI m, nI (a + (qc_ce K' (F a) (k + m - F a) + 1) + (G - (b + 1))), nI (mk + (qc_ce K' (F a) (k + m - F a) + 1)), f_blocks, f_loose, 0, f_height, f_chosen, a_text, a_tokenKind, a_tokenStart, a_tokenSize, a_code, a_meant, a_meantMark, a_freshKind, a_freshStart, a_freshSize, qa_ow a (qc_ce K' (F a) (k + m - F a) + 1) (fun i => nI (qc_bg K' (k + m + (n - o)) (F a) i)) (qa_mv (b + 1) (a + (qc_ce K' (F a) (k + m - F a) + 1)) (G - (b + 1)) (qa_ow (b + 1) (G - (b + 1)) (fun j => a_first (b + 1 + j) + (nI m - nI (o - k))) a_first)), qa_ow a (qc_ce K' (F a) (k + m - F a) + 1) (fun i => nI (qc_nx K' (k + m + (n - o)) (k + m + (n - o)) (qc_bg K' (k + m + (n - o)) (F a) i) - qc_bg K' (k + m + (n - o)) (F a) i)) (qa_mv (b + 1) (a + (qc_ce K' (F a) (k + m - F a) + 1)) (G - (b + 1)) a_size), qa_ow a (qc_ce K' (F a) (k + m - F a) + 1) (fun i => if qc_nx K' (k + m + (n - o)) (k + m + (n - o)) (qc_bg K' (k + m + (n - o)) (F a) i) < k + m + (n - o) then nI (K' (qc_nx K' (k + m + (n - o)) (k + m + (n - o)) (qc_bg K' (k + m + (n - o)) (F a) i))) else -1) (qa_mv (b + 1) (a + (qc_ce K' (F a) (k + m - F a) + 1)) (G - (b + 1)) a_endKind), qa_mv (b + 1) (a + (qc_ce K' (F a) (k + m - F a) + 1)) (G - (b + 1)) a_sort, qa_mv (b + 1) (a + (qc_ce K' (F a) (k + m - F a) + 1)) (G - (b + 1)) a_codeSize, qa_ow a (qc_ce K' (F a) (k + m - F a) + 1) (fun _ => 0) (qa_mv (b + 1) (a + (qc_ce K' (F a) (k + m - F a) + 1)) (G - (b + 1)) a_isRead), a_block, qa_ow a (qc_ce K' (F a) (k + m - F a) + 1) (fun _ => 0) (qa_mv (b + 1) (a + (qc_ce K' (F a) (k + m - F a) + 1)) (G - (b + 1)) a_hasValue), qa_mv (b + 1) (a + (qc_ce K' (F a) (k + m - F a) + 1)) (G - (b + 1)) a_isKnown, qa_mv (b + 1) (a + (qc_ce K' (F a) (k + m - F a) + 1)) (G - (b + 1)) a_value, qa_ow a (qc_ce K' (F a) (k + m - F a) + 1) (fun i => nI (mk + i + 1)) (qa_mv (b + 1) (a + (qc_ce K' (F a) (k + m - F a) + 1)) (G - (b + 1)) a_mark), a_around, a_nesting, a_pile, a_chosenStart, a_chosenSize)) :
    wpX_replaceStretches post (f_length, nI (k + m + (n - o)), nI m, nI G, nI mk, f_blocks, f_loose, f_isStudied, f_height, f_chosen, a_text, a_tokenKind, a_tokenStart, a_tokenSize, a_code, a_meant, a_meantMark, a_freshKind, a_freshStart, a_freshSize, a_first, a_size, a_endKind, a_sort, a_codeSize, a_isRead, a_block, a_hasValue, a_isKnown, a_value, a_mark, a_around, a_nesting, a_pile, a_chosenStart, a_chosenSize) (nI k) (nI (o - k)) := by
  have hG := qc_G hS
  refine xd_stretchWith hS hn (by omega) hr (fun a ha a1 a2 => ?_)
  have eko : nI k + nI (o - k) = nI o := by rw [nI_add]; exact congrArg nI (by omega)
  rw [eko]
  refine xd_stretchWith hS hn ho hr (fun b hb b1' b2' => ⟨pk_in a 82 (by omega), ?_⟩)
  have hab : a ≤ b := by
    refine Nat.le_of_not_lt (fun z => ?_)
    have := qc_lt hS z ha
    omega
  have hh := h a b hab ha hb a1 a2 b1' b2'
  have hgl := qc_glue (m := m) hS hk ho ha a1 hb b1' b2' hKl hKh
  have hG' := qc_G hgl
  have hbi := qc_bgi (K' := K') (m := m) hk ho a1
  refine nm_r (e' := nI (F a)) (by rw [nI_clamp (by omega)]; exact (hr a ha).1) (nm_e ?_)
  refine ⟨k + m - F a + 1, ?_⟩
  have h38 := xd_38 (f_length := f_length) (f_tokens := (nI (k + m + (n - o)))) (f_stretches := (nI G)) (f_marks := (nI mk)) (f_blocks := f_blocks) (f_loose := f_loose) (f_isStudied := f_isStudied) (f_height := f_height) (f_chosen := f_chosen) (a_text := a_text) (a_tokenKind := a_tokenKind) (a_tokenStart := a_tokenStart) (a_tokenSize := a_tokenSize) (a_code := a_code) (a_meant := a_meant) (a_meantMark := a_meantMark) (a_freshKind := a_freshKind) (a_freshStart := a_freshStart) (a_freshSize := a_freshSize) (a_first := a_first) (a_size := a_size) (a_endKind := a_endKind) (a_sort := a_sort) (a_codeSize := a_codeSize) (a_isRead := a_isRead) (a_block := a_block) (a_hasValue := a_hasValue) (a_isKnown := a_isKnown) (a_value := a_value) (a_mark := a_mark) (a_around := a_around) (a_nesting := a_nesting) (a_pile := a_pile) (a_chosenStart := a_chosenStart) (a_chosenSize := a_chosenSize) (f := F a) (k := k) (m := m) (x3 := nI a) (x4 := nI b) (x5 := nI (F a)) (x6 := nI m - nI (o - k)) (post := post) (by omega) (fun t ht => hK t (by omega)) (k + m - F a) 0 (by omega)
  generalize hcc : qc_ce K' (F a) (k + m - F a) = c at *
  refine h38 ?_
  rw [Nat.zero_add, hcc]
  refine nm_r (nI_1 b) ⟨G - (b + 1) + 1, ?_⟩
  have h81 := xd_81 (f_length := f_length) (f_tokens := (nI (k + m + (n - o)))) (f_fresh := (nI m)) (f_marks := (nI mk)) (f_blocks := f_blocks) (f_loose := f_loose) (f_isStudied := f_isStudied) (f_height := f_height) (f_chosen := f_chosen) (a_text := a_text) (a_tokenKind := a_tokenKind) (a_tokenStart := a_tokenStart) (a_tokenSize := a_tokenSize) (a_code := a_code) (a_meant := a_meant) (a_meantMark := a_meantMark) (a_freshKind := a_freshKind) (a_freshStart := a_freshStart) (a_freshSize := a_freshSize) (a_first := a_first) (a_size := a_size) (a_endKind := a_endKind) (a_sort := a_sort) (a_codeSize := a_codeSize) (a_isRead := a_isRead) (a_block := a_block) (a_hasValue := a_hasValue) (a_isKnown := a_isKnown) (a_value := a_value) (a_mark := a_mark) (a_around := a_around) (a_nesting := a_nesting) (a_pile := a_pile) (a_chosenStart := a_chosenStart) (a_chosenSize := a_chosenSize) (b := b + 1) (G := G) (x3 := nI a) (x4 := nI b) (x5 := nI (F a)) (x6 := nI m - nI (o - k)) (x7 := nI c) (post := post) (by omega) (G - (b + 1)) 0 (by omega)
  refine (fun z => by have y := h81 z; rw [qa_ow0] at y; exact y) ?_
  rw [Nat.zero_add, nI_1, nI_add, nI_1]
  refine xc_moveStretches (c := G - (b + 1)) (by omega) (by omega) (by omega) b1 b2 b3 ?_
  refine ⟨c + 2, ?_⟩
  have h137 := xd_137 (f_stretches := nI (a + (c + 1) + (G - (b + 1)))) (f_isStudied := f_isStudied) (post := post) (a := a) (f := F a) (c := c) (mk := mk) hn' hK (by omega) (fun i hi => by have := (hbi i hi).2.1; omega) hh (c + 2) 0 (by omega) (by omega)
  rw [qa_ow0, qa_ow0, qa_ow0, qa_ow0, qa_ow0, qa_ow0] at h137
  exact h137
end
end
section
/-! X: the old tokens from k to o become the m fresh ones -/
section
variable {f_length f_tokens f_fresh f_stretches f_marks f_blocks f_loose f_isStudied f_height f_chosen : Int32} {a_text a_tokenKind a_tokenStart a_tokenSize a_code a_meant a_meantMark a_freshKind a_freshStart a_freshSize a_first a_size a_endKind a_sort a_codeSize a_isRead a_block a_hasValue a_isKnown a_value a_mark a_around a_nesting a_pile a_chosenStart a_chosenSize : Nat → Int32}
variable {n m k o : Nat} {post : SX → Prop}
theorem xe_53 {x4 : Int32} (hm : k + m ≤ 81) :
    ∀ d i, i + d = m → wpX_replaceStretches (fun u => match u with | (f_length1, f_tokens1, f_fresh1, f_stretches1, f_marks1, f_blocks1, f_loose1, f_isStudied1, f_height1, f_chosen1, a_text1, a_tokenKind1, a_tokenStart1, a_tokenSize1, a_code1, a_meant1, a_meantMark1, a_freshKind1, a_freshStart1, a_freshSize1, a_first1, a_size1, a_endKind1, a_sort1, a_codeSize1, a_isRead1, a_block1, a_hasValue1, a_isKnown1, a_value1, a_mark1, a_around1, a_nesting1, a_pile1, a_chosenStart1, a_chosenSize1) => post (f_length1, f_tokens1, f_fresh1, f_stretches1, f_marks1, f_blocks1, f_loose1, f_isStudied1, f_height1, f_chosen1, a_text1, a_tokenKind1, a_tokenStart1, a_tokenSize1, a_code1, a_meant1, a_meantMark1, a_freshKind1, a_freshStart1, a_freshSize1, a_first1, a_size1, a_endKind1, a_sort1, a_codeSize1, a_isRead1, a_block1, a_hasValue1, a_isKnown1, a_value1, a_mark1, a_around1, a_nesting1, a_pile1, a_chosenStart1, a_chosenSize1)) (f_length, f_tokens, nI m, f_stretches, f_marks, f_blocks, f_loose, f_isStudied, f_height, f_chosen, a_text, qa_ow k m a_freshKind a_tokenKind, qa_ow k m a_freshStart a_tokenStart, qa_ow k m a_freshSize a_tokenSize, a_code, qa_ow k m (fun _ => -1) a_meant, a_meantMark, a_freshKind, a_freshStart, a_freshSize, a_first, a_size, a_endKind, a_sort, a_codeSize, a_isRead, a_block, a_hasValue, a_isKnown, a_value, a_mark, a_around, a_nesting, a_pile, a_chosenStart, a_chosenSize) (nI k) x4 →
    wX_replaceTokens_53 post (nI k) x4 f_length f_tokens (nI m) f_stretches f_marks f_blocks f_loose f_isStudied f_height f_chosen (d + 1) (nI i) a_text (qa_ow k i a_freshKind a_tokenKind) (qa_ow k i a_freshStart a_tokenStart) (qa_ow k i a_freshSize a_tokenSize) a_code (qa_ow k i (fun _ => -1) a_meant) a_meantMark a_freshKind a_freshStart a_freshSize a_first a_size a_endKind a_sort a_codeSize a_isRead a_block a_hasValue a_isKnown a_value a_mark a_around a_nesting a_pile a_chosenStart a_chosenSize := by
  intro d
  induction d with
  | zero =>
    intro i hi h
    obtain rfl : i = m := by omega
    rw [wX_replaceTokens_53]
    exact pk_le i i (fun _ => h) (fun h1 => by omega)
  | succ d ih =>
    intro i hi h
    rw [wX_replaceTokens_53]
    refine pk_le m i (fun h1 => by omega) (fun h1 => ?_)
    have v : vp_in (nI i) 81 := pk_in i 81 (by omega)
    have w : vp_in (nI k + nI i) 81 := pk_in (k + i) 81 (by omega) (nI_add k i)
    have c1 : (nI i).toNatClampNeg = i := nI_clamp (by omega)
    have c2 : (nI k + nI i).toNatClampNeg = k + i := by rw [nI_add]; exact nI_clamp (by omega)
    rw [c1, c2]
    exact ⟨v, w, nm_r qa_ow_s ⟨v, w, nm_r qa_ow_s ⟨v, w, nm_r qa_ow_s ⟨w, nm_r (qa_ow_s (f := fun _ => -1)) (nm_r (nI_1 i) (ih (i + 1) (by omega) h))⟩⟩⟩⟩
theorem xe_8 {x4 sh : Int32} (hn : n ≤ 80) (ho : o ≤ n) :
    ∀ d i, o + i + d = n → wpX_moveTokens (fun u => match u with | (f_length1, f_tokens1, f_fresh1, f_stretches1, f_marks1, f_blocks1, f_loose1, f_isStudied1, f_height1, f_chosen1, a_text1, a_tokenKind1, a_tokenStart1, a_tokenSize1, a_code1, a_meant1, a_meantMark1, a_freshKind1, a_freshStart1, a_freshSize1, a_first1, a_size1, a_endKind1, a_sort1, a_codeSize1, a_isRead1, a_block1, a_hasValue1, a_isKnown1, a_value1, a_mark1, a_around1, a_nesting1, a_pile1, a_chosenStart1, a_chosenSize1) => ∃ n53 : Nat, wX_replaceTokens_53 post (nI k) x4 f_length1 f_tokens1 f_fresh1 f_stretches1 f_marks1 f_blocks1 f_loose1 f_isStudied1 f_height1 f_chosen1 n53 0 a_text1 a_tokenKind1 a_tokenStart1 a_tokenSize1 a_code1 a_meant1 a_meantMark1 a_freshKind1 a_freshStart1 a_freshSize1 a_first1 a_size1 a_endKind1 a_sort1 a_codeSize1 a_isRead1 a_block1 a_hasValue1 a_isKnown1 a_value1 a_mark1 a_around1 a_nesting1 a_pile1 a_chosenStart1 a_chosenSize1) (f_length, nI n, f_fresh, f_stretches, f_marks, f_blocks, f_loose, f_isStudied, f_height, f_chosen, a_text, a_tokenKind, qa_ow o (i + d) (fun j => a_tokenStart (o + j) + sh) a_tokenStart, a_tokenSize, a_code, a_meant, a_meantMark, a_freshKind, a_freshStart, a_freshSize, a_first, a_size, a_endKind, a_sort, a_codeSize, a_isRead, a_block, a_hasValue, a_isKnown, a_value, a_mark, a_around, a_nesting, a_pile, a_chosenStart, a_chosenSize) (nI o) (nI k + f_fresh) →
    wX_replaceTokens_8 post (nI k) (nI o) sh x4 f_length (nI n) f_fresh f_stretches f_marks f_blocks f_loose f_isStudied f_height f_chosen (d + 1) (nI (o + i)) a_text a_tokenKind (qa_ow o i (fun j => a_tokenStart (o + j) + sh) a_tokenStart) a_tokenSize a_code a_meant a_meantMark a_freshKind a_freshStart a_freshSize a_first a_size a_endKind a_sort a_codeSize a_isRead a_block a_hasValue a_isKnown a_value a_mark a_around a_nesting a_pile a_chosenStart a_chosenSize := by
  intro d
  induction d with
  | zero =>
    intro i hi h
    rw [wX_replaceTokens_8]
    exact pk_le n (o + i) (fun _ => h) (fun h1 => by omega)
  | succ d ih =>
    intro i hi h
    rw [wX_replaceTokens_8]
    have v : vp_in (nI (o + i)) 81 := pk_in (o + i) 81 (by omega)
    refine pk_le n (o + i) (fun h1 => by omega) (fun h1 => ⟨v, v, ?_⟩)
    rw [nI_clamp (by omega), qa_ow_hi (Nat.le_refl _)]
    refine nm_r (qa_ow_s (b := o) (k := i) (f := fun j => a_tokenStart (o + j) + sh) (x := a_tokenStart)) (nm_r (nI_1 (o + i)) ?_)
    refine ih (i + 1) (by omega) ?_
    have e : i + 1 + d = i + (d + 1) := by omega
    rw [e]; exact h
theorem xe_replaceTokens {sh : Int32} (hn : n ≤ 80) (hk : k ≤ o) (ho : o ≤ n) (hn' : k + m + (n - o) ≤ 80)
    (h : wpX_replaceStretches (fun u => match u with | (f_length1, f_tokens1, f_fresh1, f_stretches1, f_marks1, f_blocks1, f_loose1, f_isStudied1, f_height1, f_chosen1, a_text1, a_tokenKind1, a_tokenStart1, a_tokenSize1, a_code1, a_meant1, a_meantMark1, a_freshKind1, a_freshStart1, a_freshSize1, a_first1, a_size1, a_endKind1, a_sort1, a_codeSize1, a_isRead1, a_block1, a_hasValue1, a_isKnown1, a_value1, a_mark1, a_around1, a_nesting1, a_pile1, a_chosenStart1, a_chosenSize1) => post (f_length1, f_tokens1, f_fresh1, f_stretches1, f_marks1, f_blocks1, f_loose1, f_isStudied1, f_height1, f_chosen1, a_text1, a_tokenKind1, a_tokenStart1, a_tokenSize1, a_code1, a_meant1, a_meantMark1, a_freshKind1, a_freshStart1, a_freshSize1, a_first1, a_size1, a_endKind1, a_sort1, a_codeSize1, a_isRead1, a_block1, a_hasValue1, a_isKnown1, a_value1, a_mark1, a_around1, a_nesting1, a_pile1, a_chosenStart1, a_chosenSize1)) (f_length, nI (k + m + (n - o)), nI m, f_stretches, f_marks, f_blocks, f_loose, f_isStudied, f_height, f_chosen, a_text, qa_ow k m a_freshKind (qa_mv o (k + m) (n - o) a_tokenKind), qa_ow k m a_freshStart (qa_mv o (k + m) (n - o) (qa_ow o (n - o) (fun j => a_tokenStart (o + j) + sh) a_tokenStart)), qa_ow k m a_freshSize (qa_mv o (k + m) (n - o) a_tokenSize), qa_mv o (k + m) (n - o) a_code, qa_ow k m (fun _ => -1) (qa_mv o (k + m) (n - o) a_meant), qa_mv o (k + m) (n - o) a_meantMark, a_freshKind, a_freshStart, a_freshSize, a_first, a_size, a_endKind, a_sort, a_codeSize, a_isRead, a_block, a_hasValue, a_isKnown, a_value, a_mark, a_around, a_nesting, a_pile, a_chosenStart, a_chosenSize) (nI k) (nI (o - k))) :
    wpX_replaceTokens post (f_length, nI n, nI m, f_stretches, f_marks, f_blocks, f_loose, f_isStudied, f_height, f_chosen, a_text, a_tokenKind, a_tokenStart, a_tokenSize, a_code, a_meant, a_meantMark, a_freshKind, a_freshStart, a_freshSize, a_first, a_size, a_endKind, a_sort, a_codeSize, a_isRead, a_block, a_hasValue, a_isKnown, a_value, a_mark, a_around, a_nesting, a_pile, a_chosenStart, a_chosenSize) (nI k) (nI o) sh := by
  refine nm_r (pk_sub hk) ⟨n - o + 1, ?_⟩
  have h8 := xe_8 (f_length := f_length) (f_fresh := (nI m)) (f_stretches := f_stretches) (f_marks := f_marks) (f_blocks := f_blocks) (f_loose := f_loose) (f_isStudied := f_isStudied) (f_height := f_height) (f_chosen := f_chosen) (a_text := a_text) (a_tokenKind := a_tokenKind) (a_tokenStart := a_tokenStart) (a_tokenSize := a_tokenSize) (a_code := a_code) (a_meant := a_meant) (a_meantMark := a_meantMark) (a_freshKind := a_freshKind) (a_freshStart := a_freshStart) (a_freshSize := a_freshSize) (a_first := a_first) (a_size := a_size) (a_endKind := a_endKind) (a_sort := a_sort) (a_codeSize := a_codeSize) (a_isRead := a_isRead) (a_block := a_block) (a_hasValue := a_hasValue) (a_isKnown := a_isKnown) (a_value := a_value) (a_mark := a_mark) (a_around := a_around) (a_nesting := a_nesting) (a_pile := a_pile) (a_chosenStart := a_chosenStart) (a_chosenSize := a_chosenSize) (k := k) (sh := sh) (x4 := nI (o - k)) (post := post) hn ho (n - o) 0 (by omega)
  refine (fun z => by have y := h8 z; rw [qa_ow0] at y; exact y) ?_
  rw [Nat.zero_add, nI_add]
  refine xc_moveTokens (c := n - o) (by omega) (by omega) (by omega) ⟨m + 1, ?_⟩
  have h53 := xe_53 (k := k) (m := m) (x4 := nI (o - k)) (post := post) (by omega) m 0 (by omega) h
  rw [qa_ow0, qa_ow0, qa_ow0, qa_ow0] at h53
  exact h53
end
end
section
/-! what X's arrays say of the text -/
/-- a stretch's own part of an array -/
def qe_rl (f q : Nat) (a : Nat → Int32) : Nat → Int32 := fun o => if o < q then a (f + o) else 0
def qe_kf (K : Nat → Nat) (f q : Nat) : Nat → Nat := fun o => if o < q then K (f + o) else 0
def qe_num (T : Nat → Int32) (s : Nat) : Nat → Int32
  | 0 => 0
  | z + 1 => qe_num T s z * 10 + T (s + z) - 5
def qe_nf (T : Nat → Int32) (S Z : Nat → Nat) (f q : Nat) : Nat → Int32 := fun o => if o < q then qe_num T (S (f + o)) (Z (f + o)) else 0
/-- a pile: its top first -/
def qe_rp (a : Nat → Int32) : List Int32 → Prop
  | [] => True
  | x :: s => a s.length = x ∧ qe_rp a s
/-- what is kept of a stretch: its sort and code once read; its value, worked out of the marks H that its names had -/
def qe_CI (H : Int32 → Int32 × Int32) (κ : Nat → Nat) (nf cd mm : Nat → Int32) (q : Nat) (e srt cs rd hv kn vl mk : Int32) : Prop :=
  (rd = 1 → srt = nI (qd_srt κ q e) ∧ ((qd_srt κ q e = 1 ∨ qd_srt κ q e = 2) → cs = nI (qd_cd κ q).length ∧ qe_rp cd ((qd_cd κ q).map nI))) ∧
  (hv = 1 → rd = 1 ∧ (qd_srt κ q e = 1 ∨ qd_srt κ q e = 2) ∧ (kn, vl) = qd_evs κ nf (fun o => H (mm o)) (qd_cd κ q) ∧ H mk = (kn, vl))
def qe_B (a : Nat → Int32) : Prop := ∀ j, a j = 0 ∨ a j = 1
def qe_MK (m : Nat) (x : Int32) : Prop := x = -1 ∨ ∃ j, j ≤ m ∧ x = nI j
def qe_XI (L n G mk : Nat) (S Z K F Q : Nat → Nat) (H : Int32 → Int32 × Int32) (a_text a_tokenKind a_tokenStart a_tokenSize a_code a_meantMark a_first a_size a_endKind a_sort a_codeSize a_isRead a_hasValue a_isKnown a_value a_mark : Nat → Int32) : Prop :=
  L ≤ 80 ∧ qb_Tx a_text L ∧ qb_Tok (qb_ch a_text) L n S Z K ∧ xb_rep n a_tokenKind a_tokenStart a_tokenSize K S Z ∧ qc_Str n K G F Q a_endKind ∧
  (∀ g, g < G → a_first g = nI (F g) ∧ a_size g = nI (Q g)) ∧ (qe_B a_isRead ∧ qe_B a_hasValue ∧ qe_B a_isKnown) ∧ (∀ j, qe_MK mk (a_mark j)) ∧ (∀ j, qe_MK mk (a_meantMark j)) ∧ H (-1) = (0, 0) ∧
  (∀ g, g < G → qe_CI H (qe_kf K (F g) (Q g)) (qe_nf a_text S Z (F g) (Q g)) (qe_rl (F g) (Q g) a_code) (qe_rl (F g) (Q g) a_meantMark) (Q g) (a_endKind g) (a_sort g) (a_codeSize g) (a_isRead g) (a_hasValue g) (a_isKnown g) (a_value g) (a_mark g))
theorem qe_kf_eq {K K' : Nat → Nat} {f f' q : Nat} (h : ∀ o, o < q → K' (f' + o) = K (f + o)) : qe_kf K' f' q = qe_kf K f q := by
  funext o
  show (if o < q then K' (f' + o) else 0) = if o < q then K (f + o) else 0
  by_cases c : o < q
  · rw [if_pos c, if_pos c, h o c]
  · rw [if_neg c, if_neg c]
theorem qe_rl_eq {a a' : Nat → Int32} {f f' q : Nat} (h : ∀ o, o < q → a' (f' + o) = a (f + o)) : qe_rl f' q a' = qe_rl f q a := by
  funext o
  show (if o < q then a' (f' + o) else 0) = if o < q then a (f + o) else 0
  by_cases c : o < q
  · rw [if_pos c, if_pos c, h o c]
  · rw [if_neg c, if_neg c]
theorem qe_num_eq {T T' : Nat → Int32} {s s' : Nat} : ∀ z, (∀ i, i < z → T' (s' + i) = T (s + i)) → qe_num T' s' z = qe_num T s z := by
  intro z
  induction z with
  | zero => intro _; rfl
  | succ z ih =>
    intro h
    show qe_num T' s' z * 10 + T' (s' + z) - 5 = qe_num T s z * 10 + T (s + z) - 5
    rw [ih (fun i hi => h i (by omega)), h z (by omega)]
theorem qe_nf_eq {T T' : Nat → Int32} {S S' Z Z' : Nat → Nat} {f f' q : Nat} (h : ∀ o, o < q → Z' (f' + o) = Z (f + o) ∧ ∀ i, i < Z (f + o) → T' (S' (f' + o) + i) = T (S (f + o) + i)) : qe_nf T' S' Z' f' q = qe_nf T S Z f q := by
  funext o
  show (if o < q then qe_num T' (S' (f' + o)) (Z' (f' + o)) else 0) = if o < q then qe_num T (S (f + o)) (Z (f + o)) else 0
  by_cases c : o < q
  · rw [if_pos c, if_pos c, (h o c).1, qe_num_eq _ (h o c).2]
  · rw [if_neg c, if_neg c]
theorem qe_Bn {a : Nat → Int32} (h : qe_B a) : ∀ j, vp_nar .boolean (a j) = a j := fun j => qa_b01 (h j)
theorem qe_MK_le {m m' : Nat} {x : Int32} (h : qe_MK m x) (hm : m ≤ m') : qe_MK m' x := by
  rcases h with h | ⟨j, h1, h2⟩
  · exact Or.inl h
  · exact Or.inr ⟨j, by omega, h2⟩
theorem qe_ow_all {P : Int32 → Prop} {b k : Nat} {f x : Nat → Int32} (h : ∀ j, P (x j)) (hf : ∀ j, j < k → P (f j)) (j : Nat) : P (qa_ow b k f x j) := by
  show P (if b ≤ j ∧ j < b + k then f (j - b) else x j)
  by_cases c : b ≤ j ∧ j < b + k
  · rw [if_pos c]; exact hf _ (by omega)
  · rw [if_neg c]; exact h j
theorem qe_Str_E {n G : Nat} {K F Q : Nat → Nat} {E E' : Nat → Int32} (h : qc_Str n K G F Q E) (he : ∀ g, g < G → E' g = E g) : qc_Str n K G F Q E' := by
  obtain ⟨h1, h2, h3, h4, h5⟩ := h
  exact ⟨h1, h2, fun g hg => by rw [he g (by omega)]; exact h3 g hg, fun g hg => by rw [he g (by omega)]; exact h4 g hg, h5⟩
/-- the written and moved array on its range -/
theorem qe_owmv {a c b d g : Nat} {f x : Nat → Int32} (h : g < a + c + d) : qa_ow a c f (qa_mv b (a + c) d x) g = qb_gl a c b x f x g := by
  by_cases h1 : g < a
  · rw [qa_ow_lo h1, qb_gl_lo h1, qa_mv_lo (by omega)]
  · by_cases h2 : g < a + c
    · obtain ⟨j, rfl⟩ : ∃ j, g = a + j := ⟨g - a, by omega⟩
      rw [qa_ow_i (by omega), qb_gl_mid (by omega)]
    · obtain ⟨j, rfl⟩ : ∃ j, g = a + c + j := ⟨g - (a + c), by omega⟩
      rw [qa_ow_hi (by omega), qa_mv_i (by omega), qb_gl_hi]
theorem qe_sh2 {s came gone : Nat} (h : gone ≤ s + came) : nI s + (nI came - nI gone) = nI (s + came - gone) := by
  rw [← pk_sub h, ← nI_add]
  generalize nI s = a
  generalize nI came = b
  generalize nI gone = c
  grind
end
section
/-! an edit keeps what the arrays say -/
section
variable {L L0 n G mk p came gone k m o a b : Nat} {S Z K F Q fS fZ fK : Nat → Nat} {H : Int32 → Int32 × Int32} {T a_freshKind a_freshStart a_freshSize : Nat → Int32} {a_text a_tokenKind a_tokenStart a_tokenSize a_code a_meantMark a_first a_size a_endKind a_sort a_codeSize a_isRead a_hasValue a_isKnown a_value a_mark : Nat → Int32}
theorem qe_TT1 {T T0 : Nat → Int32} (hT : qb_Tx T L) (hT0 : qb_Tx T0 L0) (hE : qb_Ed (qb_ch T0) L0 (qb_ch T) L p came gone) {q : Nat} (hq : q < p) : T q = T0 q := by
  have h1 := (hT q (by have := hE.1; omega)).1
  have h2 := (hT0 q (by have := hE.2.1; omega)).1
  rw [h1, h2, hE.2.2.2.1 q hq]
theorem qe_TT2 {T T0 : Nat → Int32} (hT : qb_Tx T L) (hT0 : qb_Tx T0 L0) (hE : qb_Ed (qb_ch T0) L0 (qb_ch T) L p came gone) {s : Nat} (h1 : p + gone ≤ s) (h2 : s < L0) : T (s + came - gone) = T0 s := by
  have e1 := (hT (s + came - gone) (by have := hE.2.2.1; omega)).1
  have e2 := (hT0 s h2).1
  rw [e1, e2, qb_Ed_c hE h1 h2]
theorem qe_edit (hX : qe_XI L0 n G mk S Z K F Q H a_text a_tokenKind a_tokenStart a_tokenSize a_code a_meantMark a_first a_size a_endKind a_sort a_codeSize a_isRead a_hasValue a_isKnown a_value a_mark) (hL : L ≤ 80) (hT : qb_Tx T L) (hE : qb_Ed (qb_ch a_text) L0 (qb_ch T) L p came gone) (hkp : ∀ j, j < k → S j + Z j < p) (hF : xb_Fr (qb_ch T) L p came gone n k S Z m o fS fZ fK) (hR : xb_rep m a_freshKind a_freshStart a_freshSize fK fS fZ)
    (hTok : qb_Tok (qb_ch T) L (k + m + (n - o)) (qb_gl k m o S fS (fun j => S j + came - gone)) (qb_gl k m o Z fZ Z) (qb_gl k m o K fK K))
    (hab : a ≤ b) (ha0 : a < G) (hb : b < G) (ha : F a ≤ k) (hb1 : F b ≤ o) (hb2 : o ≤ F b + Q b) {K' : Nat → Nat} (hK' : K' = qb_gl k m o K fK K) {c n' : Nat} (hn' : n' = k + m + (n - o)) (hc : c = qc_ce K' (F a) (k + m - F a)) :
    qe_XI L n' (a + (c + 1) + (G - (b + 1))) (mk + (c + 1)) (qb_gl k m o S fS (fun j => S j + came - gone)) (qb_gl k m o Z fZ Z) K'
      (qb_gl a (c + 1) (b + 1) F (qc_bg K' n' (F a)) (fun g => F g + (k + m) - o))
      (qb_gl a (c + 1) (b + 1) Q (fun i => qc_nx K' n' n' (qc_bg K' n' (F a) i) - qc_bg K' n' (F a) i) Q) H
      T (qa_ow k m a_freshKind (qa_mv o (k + m) (n - o) a_tokenKind)) (qa_ow k m a_freshStart (qa_mv o (k + m) (n - o) (qa_ow o (n - o) (fun j => a_tokenStart (o + j) + (nI came - nI gone)) a_tokenStart))) (qa_ow k m a_freshSize (qa_mv o (k + m) (n - o) a_tokenSize)) (qa_mv o (k + m) (n - o) a_code) (qa_mv o (k + m) (n - o) a_meantMark) (qa_ow a (c + 1) (fun i => nI (qc_bg K' n' (F a) i)) (qa_mv (b + 1) (a + (c + 1)) (G - (b + 1)) (qa_ow (b + 1) (G - (b + 1)) (fun j => a_first (b + 1 + j) + (nI m - nI (o - k))) a_first))) (qa_ow a (c + 1) (fun i => nI (qc_nx K' n' n' (qc_bg K' n' (F a) i) - qc_bg K' n' (F a) i)) (qa_mv (b + 1) (a + (c + 1)) (G - (b + 1)) a_size)) (qa_ow a (c + 1) (fun i => if qc_nx K' n' n' (qc_bg K' n' (F a) i) < n' then nI (K' (qc_nx K' n' n' (qc_bg K' n' (F a) i))) else -1) (qa_mv (b + 1) (a + (c + 1)) (G - (b + 1)) a_endKind)) (qa_mv (b + 1) (a + (c + 1)) (G - (b + 1)) a_sort) (qa_mv (b + 1) (a + (c + 1)) (G - (b + 1)) a_codeSize) (qa_ow a (c + 1) (fun _ => 0) (qa_mv (b + 1) (a + (c + 1)) (G - (b + 1)) a_isRead)) (qa_ow a (c + 1) (fun _ => 0) (qa_mv (b + 1) (a + (c + 1)) (G - (b + 1)) a_hasValue)) (qa_mv (b + 1) (a + (c + 1)) (G - (b + 1)) a_isKnown) (qa_mv (b + 1) (a + (c + 1)) (G - (b + 1)) a_value) (qa_ow a (c + 1) (fun i => nI (mk + i + 1)) (qa_mv (b + 1) (a + (c + 1)) (G - (b + 1)) a_mark)) := by
  obtain ⟨x1, x2, x3, x4, x5, x6, ⟨x7, x7b, x7c⟩, x8, x9, x10, x11⟩ := hX
  obtain ⟨f1, f2, f3, f4, f5, f6⟩ := hF
  have hKl : ∀ t, t < k → K' t = K t := fun t ht => by rw [hK']; exact qb_gl_lo ht
  have hKh : ∀ j, j < n - o → K' (k + m + j) = K (o + j) := fun j _ => by rw [hK']; exact qb_gl_hi
  have hgl := qc_glue (m := m) x5 f1 f2 ha0 ha hb hb1 hb2 hKl hKh
  rw [← hn', ← hc] at hgl
  have hmo : ∀ j, b + 1 + j < G → o < F (b + 1 + j) := by
    intro j hj
    have := qc_mono x5 b j (by omega)
    have e : b + j + 1 = b + 1 + j := by omega
    rw [e] at this; omega
  have hgo : ∀ t, o ≤ t → t < n → p + gone ≤ S t := by
    intro t t1 t2
    by_cases e : t = o
    · rw [e]; exact f4
    · have := qb_SS x3 (i := o) (j := t) (by omega) (by omega); omega
  rw [← hn', ← hK'] at hTok
  refine ⟨hL, hT, hTok, ?_, ?_, ?_, ⟨?_, ?_, ?_⟩, ?_, ?_, x10, ?_⟩
  · intro j hj
    rw [qe_owmv (by omega), qe_owmv (by omega), qe_owmv (by omega), hK']
    by_cases h1 : j < k
    · rw [qb_gl_lo h1, qb_gl_lo h1, qb_gl_lo h1, qb_gl_lo h1, qb_gl_lo h1, qb_gl_lo h1]
      rw [qa_ow_lo (by omega)]
      exact x4 j (by omega)
    · by_cases h2 : j < k + m
      · obtain ⟨i, rfl⟩ : ∃ i, j = k + i := ⟨j - k, by omega⟩
        rw [qb_gl_mid (by omega), qb_gl_mid (by omega), qb_gl_mid (by omega), qb_gl_mid (by omega), qb_gl_mid (by omega), qb_gl_mid (by omega)]
        exact hR i (by omega)
      · obtain ⟨i, rfl⟩ : ∃ i, j = k + m + i := ⟨j - (k + m), by omega⟩
        rw [qb_gl_hi, qb_gl_hi, qb_gl_hi, qb_gl_hi, qb_gl_hi, qb_gl_hi]
        have y := x4 (o + i) (by omega)
        rw [qa_ow_i (by omega), y.2.1, qe_sh2 (by have := hgo (o + i) (by omega) (by omega); omega)]
        exact ⟨y.1, rfl, y.2.2⟩
  · exact qe_Str_E hgl (fun g hg => by rw [qe_owmv hg])
  · intro g hg
    rw [qe_owmv hg, qe_owmv hg]
    by_cases h1 : g < a
    · rw [qb_gl_lo h1, qb_gl_lo h1, qb_gl_lo h1, qb_gl_lo h1, qa_ow_lo (by omega)]
      exact x6 g (by omega)
    · by_cases h2 : g < a + (c + 1)
      · obtain ⟨i, rfl⟩ : ∃ i, g = a + i := ⟨g - a, by omega⟩
        rw [qb_gl_mid (by omega), qb_gl_mid (by omega), qb_gl_mid (by omega), qb_gl_mid (by omega)]
        exact ⟨rfl, rfl⟩
      · obtain ⟨i, rfl⟩ : ∃ i, g = a + (c + 1) + i := ⟨g - (a + (c + 1)), by omega⟩
        rw [qb_gl_hi, qb_gl_hi, qb_gl_hi, qb_gl_hi]
        have y := x6 (b + 1 + i) (by omega)
        have w := hmo i (by omega)
        rw [qa_ow_i (by omega), y.1, qe_sh2 (by omega)]
        exact ⟨congrArg nI (by omega), y.2⟩
  · exact qe_ow_all (P := fun x => x = 0 ∨ x = 1) (qa_mv_all (P := fun x => x = 0 ∨ x = 1) x7) (fun _ _ => Or.inl rfl)
  · exact qe_ow_all (P := fun x => x = 0 ∨ x = 1) (qa_mv_all (P := fun x => x = 0 ∨ x = 1) x7b) (fun _ _ => Or.inl rfl)
  · exact qa_mv_all (P := fun x => x = 0 ∨ x = 1) x7c
  · exact qe_ow_all (qa_mv_all (fun j => qe_MK_le (x8 j) (by omega))) (fun j hj => Or.inr ⟨mk + j + 1, by omega, rfl⟩)
  · exact qa_mv_all (fun j => qe_MK_le (x9 j) (by omega))
  · intro g hg
    by_cases h1 : g < a
    · have hlt := qc_lt x5 h1 ha0
      have y := x11 g (by omega)
      rw [qe_owmv hg, qe_owmv hg, qe_owmv hg, qe_owmv hg, qb_gl_lo h1, qb_gl_lo h1, qb_gl_lo h1, qb_gl_lo h1, qb_gl_lo h1, qb_gl_lo h1, qa_mv_lo (by omega), qa_mv_lo (by omega), qa_mv_lo (by omega), qa_mv_lo (by omega)]
      rw [qe_kf_eq (K := K) (f := F g) (fun o ho => hKl _ (by omega)), qe_rl_eq (a := a_code) (a' := qa_mv o (k + m) (n - o) a_code) (f := F g) (fun o ho => qa_mv_lo (by omega)), qe_rl_eq (a := a_meantMark) (a' := qa_mv o (k + m) (n - o) a_meantMark) (f := F g) (fun o ho => qa_mv_lo (by omega))]
      rw [qe_nf_eq (T := a_text) (S := S) (Z := Z) (f := F g) (fun o ho => ⟨qb_gl_lo (by omega), fun i hi => ?_⟩)]
      · exact y
      · rw [qb_gl_lo (by omega)]
        have := hkp (F g + o) (by omega)
        exact qe_TT1 hT x2 hE (by omega)
    · by_cases h2 : g < a + (c + 1)
      · obtain ⟨i, rfl⟩ : ∃ i, g = a + i := ⟨g - a, by omega⟩
        refine ⟨fun z => ?_, fun z => ?_⟩
        · rw [qe_owmv hg, qb_gl_mid (by omega)] at z; exact absurd z (by decide)
        · rw [qe_owmv hg, qb_gl_mid (by omega)] at z; exact absurd z (by decide)
      · obtain ⟨j, rfl⟩ : ∃ j, g = a + (c + 1) + j := ⟨g - (a + (c + 1)), by omega⟩
        have w := hmo j (by omega)
        have y := x11 (b + 1 + j) (by omega)
        have le := qc_le x5 (g := b + 1 + j) (by omega)
        rw [qe_owmv hg, qe_owmv hg, qe_owmv hg, qe_owmv hg, qb_gl_hi, qb_gl_hi, qb_gl_hi, qb_gl_hi, qb_gl_hi, qb_gl_hi, qa_mv_i (by omega), qa_mv_i (by omega), qa_mv_i (by omega), qa_mv_i (by omega)]
        have ee : ∀ x, F (b + 1 + j) + (k + m) - o + x = k + m + (F (b + 1 + j) - o + x) := fun x => by omega
        have ef : ∀ x, o + (F (b + 1 + j) - o + x) = F (b + 1 + j) + x := fun x => by omega
        rw [qe_kf_eq (K := K) (f := F (b + 1 + j)) (fun x hx => by rw [ee, hKh _ (by omega), ef]), qe_rl_eq (a := a_code) (a' := qa_mv o (k + m) (n - o) a_code) (f := F (b + 1 + j)) (fun x hx => by rw [ee, qa_mv_i (by omega), ef]), qe_rl_eq (a := a_meantMark) (a' := qa_mv o (k + m) (n - o) a_meantMark) (f := F (b + 1 + j)) (fun x hx => by rw [ee, qa_mv_i (by omega), ef])]
        rw [qe_nf_eq (T := a_text) (S := S) (Z := Z) (f := F (b + 1 + j)) (fun x hx => ⟨by rw [ee, qb_gl_hi, ef], fun i hi => ?_⟩)]
        · exact y
        · rw [ee, qb_gl_hi, ef]
          have y1 := hgo (F (b + 1 + j) + x) (by omega) (by omega)
          have y2 := (qb_SZ x3 (k := F (b + 1 + j) + x) (by omega)).2.1
          have e3 : S (F (b + 1 + j) + x) + came - gone + i = S (F (b + 1 + j) + x) + i + came - gone := by omega
          rw [e3]
          exact qe_TT2 hT x2 hE (by omega) (by omega)
end
end
section
/-! X: the edits, each from the invariant to the invariant -/
def xf_J (L n G mk : Nat) (a_text a_tokenKind a_tokenStart a_tokenSize a_code a_meantMark a_first a_size a_endKind a_sort a_codeSize a_isRead a_hasValue a_isKnown a_value a_mark : Nat → Int32) : Prop := ∃ S Z K F Q H, qe_XI L n G mk S Z K F Q H a_text a_tokenKind a_tokenStart a_tokenSize a_code a_meantMark a_first a_size a_endKind a_sort a_codeSize a_isRead a_hasValue a_isKnown a_value a_mark
/-- a character put in, w taken out -/
def xf_ins (T : Nat → Int32) (p : Nat) (c : Int32) (L : Nat) : Nat → Int32 := upd (qa_ow (p + 1) (L - p) (fun j => T (p + j)) T) p c
def xf_del (T : Nat → Int32) (p w L : Nat) : Nat → Int32 := qa_ow p (L - (p + w)) (fun j => T (p + w + j)) T
theorem xf_ins_lo {T : Nat → Int32} {p L q : Nat} {c : Int32} (h : q < p) : xf_ins T p c L q = T q := by
  unfold xf_ins; rw [pk_un (by omega), qa_ow_lo (by omega)]
theorem xf_ins_at {T : Nat → Int32} {p L : Nat} {c : Int32} : xf_ins T p c L p = c := pk_us
theorem xf_ins_hi {T : Nat → Int32} {p L d : Nat} {c : Int32} (h : d < L - p) : xf_ins T p c L (p + 1 + d) = T (p + d) := by
  unfold xf_ins; rw [pk_un (by omega), qa_ow_i h]
theorem xf_ins_Tx {T : Nat → Int32} {p L c : Nat} (hT : qb_Tx T L) (hp : p ≤ L) (hc : c ≤ 18) : qb_Tx (xf_ins T p (nI c) L) (L + 1) := by
  intro i hi
  unfold qb_ch
  by_cases h1 : i < p
  · rw [xf_ins_lo h1]; exact hT i (by omega)
  · by_cases h2 : i = p
    · subst h2
      rw [xf_ins_at, nI_clamp (by omega)]; exact ⟨rfl, hc⟩
    · obtain ⟨d, rfl⟩ : ∃ d, i = p + 1 + d := ⟨i - (p + 1), by omega⟩
      rw [xf_ins_hi (by omega)]; exact hT (p + d) (by omega)
theorem xf_ins_Ed {T : Nat → Int32} {p L : Nat} {c : Int32} (hp : p ≤ L) : qb_Ed (qb_ch T) L (qb_ch (xf_ins T p c L)) (L + 1) p 1 0 := by
  refine ⟨by omega, by omega, by omega, fun q hq => ?_, fun d hd => ?_⟩
  · unfold qb_ch; rw [xf_ins_lo hq]
  · unfold qb_ch; rw [xf_ins_hi (by omega), Nat.add_zero]
theorem xf_del_lo {T : Nat → Int32} {p w L q : Nat} (h : q < p) : xf_del T p w L q = T q := qa_ow_lo h
theorem xf_del_hi {T : Nat → Int32} {p w L d : Nat} (h : d < L - (p + w)) : xf_del T p w L (p + d) = T (p + w + d) := qa_ow_i h
theorem xf_del_Tx {T : Nat → Int32} {p w L : Nat} (hT : qb_Tx T L) (hp : p + w ≤ L) : qb_Tx (xf_del T p w L) (L - w) := by
  intro i hi
  unfold qb_ch
  by_cases h1 : i < p
  · rw [xf_del_lo h1]; exact hT i (by omega)
  · obtain ⟨d, rfl⟩ : ∃ d, i = p + d := ⟨i - p, by omega⟩
    rw [xf_del_hi (by omega)]; exact hT _ (by omega)
theorem xf_del_Ed {T : Nat → Int32} {p w L : Nat} (hp : p + w ≤ L) : qb_Ed (qb_ch T) L (qb_ch (xf_del T p w L)) (L - w) p 0 w := by
  refine ⟨by omega, by omega, by omega, fun q hq => ?_, fun d hd => ?_⟩
  · unfold qb_ch; rw [xf_del_lo hq]
  · unfold qb_ch; rw [Nat.add_zero, xf_del_hi (by omega)]
theorem xf_set_Tx {T : Nat → Int32} {p L c : Nat} (hT : qb_Tx T L) (hc : c ≤ 18) : qb_Tx (upd T p (nI c)) L := by
  intro i hi
  unfold qb_ch
  by_cases h : i = p
  · subst h; rw [pk_us, nI_clamp (by omega)]; exact ⟨rfl, hc⟩
  · rw [pk_un h]; exact hT i hi
theorem xf_set_Ed {T : Nat → Int32} {p L : Nat} {c : Int32} (hp : p < L) : qb_Ed (qb_ch T) L (qb_ch (upd T p c)) L p 1 1 := by
  refine ⟨by omega, by omega, by omega, fun q hq => ?_, fun d hd => ?_⟩
  · unfold qb_ch; rw [pk_un (by omega)]
  · unfold qb_ch; rw [pk_un (by omega)]
section
variable {f_length f_tokens f_fresh f_stretches f_marks f_blocks f_loose f_isStudied f_height f_chosen : Int32} {a_text a_tokenKind a_tokenStart a_tokenSize a_code a_meant a_meantMark a_freshKind a_freshStart a_freshSize a_first a_size a_endKind a_sort a_codeSize a_isRead a_block a_hasValue a_isKnown a_value a_mark a_around a_nesting a_pile a_chosenStart a_chosenSize : Nat → Int32}
variable {L L0 n G mk p came gone : Nat} {T : Nat → Int32} {sh : Int32} {post : SX → Prop}
theorem xf_readTokens (hX : xf_J L0 n G mk T a_tokenKind a_tokenStart a_tokenSize a_code a_meantMark a_first a_size a_endKind a_sort a_codeSize a_isRead a_hasValue a_isKnown a_value a_mark) (hL : L ≤ 80) (hT : qb_Tx a_text L) (hE : qb_Ed (qb_ch T) L0 (qb_ch a_text) L p came gone) (hsh : sh = nI came - nI gone)
    (h : ∀ (n' G' mk' : Nat) (f_fresh : Int32) (a_tokenKind a_tokenStart a_tokenSize a_code a_meant a_meantMark a_freshKind a_freshStart a_freshSize a_first a_size a_endKind a_sort a_codeSize a_isRead a_hasValue a_isKnown a_value a_mark : Nat → Int32), mk' ≤ mk + 81 → xf_J L n' G' mk' a_text a_tokenKind a_tokenStart a_tokenSize a_code a_meantMark a_first a_size a_endKind a_sort a_codeSize a_isRead a_hasValue a_isKnown a_value a_mark → post (nI L, nI n', f_fresh, nI G', nI mk', f_blocks, f_loose, 0, f_height, f_chosen, a_text, a_tokenKind, a_tokenStart, a_tokenSize, a_code, a_meant, a_meantMark, a_freshKind, a_freshStart, a_freshSize, a_first, a_size, a_endKind, a_sort, a_codeSize, a_isRead, a_block, a_hasValue, a_isKnown, a_value, a_mark, a_around, a_nesting, a_pile, a_chosenStart, a_chosenSize)) :
    wpX_readTokens post (nI L, nI n, f_fresh, nI G, nI mk, f_blocks, f_loose, f_isStudied, f_height, f_chosen, a_text, a_tokenKind, a_tokenStart, a_tokenSize, a_code, a_meant, a_meantMark, a_freshKind, a_freshStart, a_freshSize, a_first, a_size, a_endKind, a_sort, a_codeSize, a_isRead, a_block, a_hasValue, a_isKnown, a_value, a_mark, a_around, a_nesting, a_pile, a_chosenStart, a_chosenSize) (nI p) (nI came) sh := by
  obtain ⟨S, Z, K, F, Q, H, hX⟩ := hX
  have hX' := hX
  obtain ⟨x1, x2, x3, x4, x5, x6, ⟨x7, x7b, x7c⟩, x8, x9, x10, x11⟩ := hX
  have hn : n ≤ 80 := Nat.le_trans (qb_nL x3) x1
  refine xb_readTokens hL hT x1 x3 hE (fun j hj => ⟨(x4 j hj).2.1, (x4 j hj).2.2⟩) hsh (fun k m o fk fs fz fS fZ fK hkp hF hR => ?_)
  have hF' := hF
  obtain ⟨f1, f2, f3, f4, f5, f6⟩ := hF
  have hTok := qb_glue x3 hE f1 f2 hkp f3 f4 f5 f6
  have hn' : k + m + (n - o) ≤ 80 := Nat.le_trans (qb_nL hTok) hL
  refine xe_replaceTokens hn f1 f2 hn' ?_
  refine xd_replaceStretches (K' := qb_gl k m o K fK K) x5 hn f1 f2 hn' (fun t ht => qb_gl_lo ht) (fun j _ => qb_gl_hi) (fun t ht => ?_) x6 (qe_Bn x7) (qe_Bn x7b) (qe_Bn x7c) (fun a b hab ha hb a1 a2 b1 b2 => ?_)
  · refine ⟨?_, (qb_SZ hTok ht).2.2⟩
    rw [qe_owmv (by omega)]
    by_cases h1 : t < k
    · rw [qb_gl_lo h1, qb_gl_lo h1]; exact (x4 t (by omega)).1
    · by_cases h2 : t < k + m
      · obtain ⟨i, rfl⟩ : ∃ i, t = k + i := ⟨t - k, by omega⟩
        rw [qb_gl_mid (by omega), qb_gl_mid (by omega)]; exact (hR i (by omega)).1
      · obtain ⟨i, rfl⟩ : ∃ i, t = k + m + i := ⟨t - (k + m), by omega⟩
        rw [qb_gl_hi, qb_gl_hi]; exact (x4 (o + i) (by omega)).1
  · have hed := qe_edit hX' hL hT hE hkp hF' hR hTok hab ha hb a1 b1 b2 rfl rfl rfl
    have hcl := qc_ce_le (K := qb_gl k m o K fK K) (x := F a) (k + m - F a)
    subst hsh
    exact h _ _ _ _ _ _ _ _ _ _ _ _ _ _ _ _ _ _ _ _ _ _ _ (by omega) ⟨_, _, _, _, _, _, hed⟩
end
section
variable {f_length f_tokens f_fresh f_stretches f_marks f_blocks f_loose f_isStudied f_height f_chosen : Int32} {a_text a_tokenKind a_tokenStart a_tokenSize a_code a_meant a_meantMark a_freshKind a_freshStart a_freshSize a_first a_size a_endKind a_sort a_codeSize a_isRead a_block a_hasValue a_isKnown a_value a_mark a_around a_nesting a_pile a_chosenStart a_chosenSize : Nat → Int32}
variable {L n G mk p w c : Nat}
theorem xf_insert {post : Int32 → SX → Prop} (hX : xf_J L n G mk a_text a_tokenKind a_tokenStart a_tokenSize a_code a_meantMark a_first a_size a_endKind a_sort a_codeSize a_isRead a_hasValue a_isKnown a_value a_mark) (hL : L < 80) (hp : p ≤ L) (hc : c ≤ 18)
    (h : ∀ (n' G' mk' : Nat) (f_fresh : Int32) (a_tokenKind a_tokenStart a_tokenSize a_code a_meant a_meantMark a_freshKind a_freshStart a_freshSize a_first a_size a_endKind a_sort a_codeSize a_isRead a_hasValue a_isKnown a_value a_mark : Nat → Int32), mk' ≤ mk + 81 → xf_J (L + 1) n' G' mk' (xf_ins a_text p (nI c) L) a_tokenKind a_tokenStart a_tokenSize a_code a_meantMark a_first a_size a_endKind a_sort a_codeSize a_isRead a_hasValue a_isKnown a_value a_mark → post (nI (L + 1)) (nI (L + 1), nI n', f_fresh, nI G', nI mk', f_blocks, f_loose, 0, f_height, f_chosen, xf_ins a_text p (nI c) L, a_tokenKind, a_tokenStart, a_tokenSize, a_code, a_meant, a_meantMark, a_freshKind, a_freshStart, a_freshSize, a_first, a_size, a_endKind, a_sort, a_codeSize, a_isRead, a_block, a_hasValue, a_isKnown, a_value, a_mark, a_around, a_nesting, a_pile, a_chosenStart, a_chosenSize)) :
    wpX_insert post (nI L, nI n, f_fresh, nI G, nI mk, f_blocks, f_loose, f_isStudied, f_height, f_chosen, a_text, a_tokenKind, a_tokenStart, a_tokenSize, a_code, a_meant, a_meantMark, a_freshKind, a_freshStart, a_freshSize, a_first, a_size, a_endKind, a_sort, a_codeSize, a_isRead, a_block, a_hasValue, a_isKnown, a_value, a_mark, a_around, a_nesting, a_pile, a_chosenStart, a_chosenSize) (nI p) (nI c) := by
  have hT : qb_Tx a_text L := by obtain ⟨S, Z, K, F, Q, H, x1, x2, _⟩ := hX; exact x2
  have key : ∀ i d, p + i ≤ L → i < d → wX_insert_39 post (nI p) (nI c) (nI L) (nI n) f_fresh (nI G) (nI mk) f_blocks f_loose f_isStudied f_height f_chosen d (nI (p + i)) (qa_ow (p + i + 1) (L - (p + i)) (fun j => a_text (p + i + j)) a_text) a_tokenKind a_tokenStart a_tokenSize a_code a_meant a_meantMark a_freshKind a_freshStart a_freshSize a_first a_size a_endKind a_sort a_codeSize a_isRead a_block a_hasValue a_isKnown a_value a_mark a_around a_nesting a_pile a_chosenStart a_chosenSize := by
    intro i
    induction i with
    | zero =>
      intro d hi hd
      obtain ⟨d, rfl⟩ : ∃ d', d = d' + 1 := ⟨d - 1, by omega⟩
      rw [wX_insert_39]
      refine br_t (nI_le (Nat.le_refl _) (by omega)) ⟨pk_in p 80 (by omega), ?_⟩
      rw [nI_clamp (by omega)]
      refine nm_e (nm_r (nI_1 L) ?_)
      exact xf_readTokens (T := a_text) (p := p) (came := 1) (gone := 0) hX (by omega) (xf_ins_Tx hT hp hc) (xf_ins_Ed hp) (by decide) h
    | succ i ih =>
      intro d hi hd
      obtain ⟨d, rfl⟩ : ∃ d', d = d' + 1 := ⟨d - 1, by omega⟩
      rw [wX_insert_39]
      have e1 : nI (p + (i + 1)) - 1 = nI (p + i) := nI_pred (p + i)
      have e2 : nI (p + (i + 1)) + (-1) = nI (p + i) := pk_m1 (p + i)
      refine br_f (nI_ge (by omega) (by omega)) ?_
      rw [e1]
      refine ⟨pk_in (p + i) 80 (by omega), pk_in (p + (i + 1)) 80 (by omega), ?_⟩
      rw [nI_clamp (by omega), nI_clamp (by omega), qa_ow_lo (by omega)]
      have e3 : upd (qa_ow (p + (i + 1) + 1) (L - (p + (i + 1))) (fun j => a_text (p + (i + 1) + j)) a_text) (p + (i + 1)) (a_text (p + i)) = qa_ow (p + i + 1) (L - (p + i)) (fun j => a_text (p + i + j)) a_text := by
        have e4 : (fun j => a_text (p + (i + 1) + j)) = (fun j => (fun j => a_text (p + i + j)) (j + 1)) := funext fun j => congrArg a_text (by omega)
        have e5 : L - (p + i) = L - (p + (i + 1)) + 1 := by omega
        rw [e4, e5]
        exact qa_ow_p (b := p + i + 1) (f := fun j => a_text (p + i + j))
      exact nm_r e3 (nm_r e2 (ih d (by omega) (by omega)))
  have k0 := key (L - p) (L - p + 1) (by omega) (by omega)
  have e : p + (L - p) = L := by omega
  rw [e, Nat.sub_self, qa_ow0] at k0
  refine br_f (nI_pos (by omega)) (br_t (nI_le (b := 18) hc (by decide)) ?_)
  refine br_t rfl (br_f (nI_pos (by omega)) (br_t (nI_le hp (by omega)) (br_f (qa_ne (b := 80) (by omega) (by omega) (by decide)) ?_)))
  exact ⟨_, k0⟩
theorem xf_cut {post : SX → Prop} (hX : xf_J L n G mk a_text a_tokenKind a_tokenStart a_tokenSize a_code a_meantMark a_first a_size a_endKind a_sort a_codeSize a_isRead a_hasValue a_isKnown a_value a_mark) (hp : p + w ≤ L)
    (h : ∀ (n' G' mk' : Nat) (f_fresh : Int32) (a_tokenKind a_tokenStart a_tokenSize a_code a_meant a_meantMark a_freshKind a_freshStart a_freshSize a_first a_size a_endKind a_sort a_codeSize a_isRead a_hasValue a_isKnown a_value a_mark : Nat → Int32), mk' ≤ mk + 81 → xf_J (L - w) n' G' mk' (xf_del a_text p w L) a_tokenKind a_tokenStart a_tokenSize a_code a_meantMark a_first a_size a_endKind a_sort a_codeSize a_isRead a_hasValue a_isKnown a_value a_mark → post (nI (L - w), nI n', f_fresh, nI G', nI mk', f_blocks, f_loose, 0, f_height, f_chosen, xf_del a_text p w L, a_tokenKind, a_tokenStart, a_tokenSize, a_code, a_meant, a_meantMark, a_freshKind, a_freshStart, a_freshSize, a_first, a_size, a_endKind, a_sort, a_codeSize, a_isRead, a_block, a_hasValue, a_isKnown, a_value, a_mark, a_around, a_nesting, a_pile, a_chosenStart, a_chosenSize)) :
    wpX_cut post (nI L, nI n, f_fresh, nI G, nI mk, f_blocks, f_loose, f_isStudied, f_height, f_chosen, a_text, a_tokenKind, a_tokenStart, a_tokenSize, a_code, a_meant, a_meantMark, a_freshKind, a_freshStart, a_freshSize, a_first, a_size, a_endKind, a_sort, a_codeSize, a_isRead, a_block, a_hasValue, a_isKnown, a_value, a_mark, a_around, a_nesting, a_pile, a_chosenStart, a_chosenSize) (nI p) (nI w) := by
  have hTL : L ≤ 80 ∧ qb_Tx a_text L := by obtain ⟨S, Z, K, F, Q, H, x1, x2, _⟩ := hX; exact ⟨x1, x2⟩
  obtain ⟨hL, hT⟩ := hTL
  have key : ∀ d i, p + w + i + d = L → wX_cut_2 post (nI p) (nI w) (nI L) (nI n) f_fresh (nI G) (nI mk) f_blocks f_loose f_isStudied f_height f_chosen (d + 1) (nI (p + i)) (qa_ow p i (fun j => a_text (p + w + j)) a_text) a_tokenKind a_tokenStart a_tokenSize a_code a_meant a_meantMark a_freshKind a_freshStart a_freshSize a_first a_size a_endKind a_sort a_codeSize a_isRead a_block a_hasValue a_isKnown a_value a_mark a_around a_nesting a_pile a_chosenStart a_chosenSize := by
    intro d
    induction d with
    | zero =>
      intro i hi
      rw [wX_cut_2]
      dsimp only
      rw [nI_add]
      refine br_t (nI_le (by omega) (by omega)) (nm_r (pk_sub (by omega)) ?_)
      have e : i = L - (p + w) := by omega
      subst e
      exact xf_readTokens (T := a_text) (p := p) (came := 0) (gone := w) hX (by omega) (xf_del_Tx hT hp) (xf_del_Ed hp) (by rw [nI_0, Int32.zero_sub]) h
    | succ d ih =>
      intro i hi
      rw [wX_cut_2]
      dsimp only
      rw [nI_add]
      refine br_f (nI_ge (by omega) (by omega)) ⟨pk_in (p + i + w) 80 (by omega), pk_in (p + i) 80 (by omega), ?_⟩
      rw [nI_clamp (by omega), nI_clamp (by omega), qa_ow_hi (by omega)]
      have e4 : p + i + w = p + w + i := by omega
      rw [e4]
      exact nm_r (qa_ow_s (f := fun j => a_text (p + w + j))) (nm_r (nI_1 (p + i)) (ih (i + 1) (by omega)))
  have k0 := key (L - (p + w)) 0 (by omega)
  rw [qa_ow0] at k0
  exact ⟨_, k0⟩
end
end
section
/-! X: a stretch read -/
theorem qe_rp_congr {a a' : Nat → Int32} : ∀ l, (∀ i, i < l.length → a' i = a i) → qe_rp a l → qe_rp a' l := by
  intro l
  induction l with
  | nil => intro _ _; trivial
  | cons x s ih =>
    intro h hr
    refine ⟨?_, ih (fun i hi => h i (by rw [List.length_cons]; omega)) hr.2⟩
    rw [h s.length (by rw [List.length_cons]; omega)]
    exact hr.1
theorem qe_rp_push {a : Nat → Int32} {l : List Int32} {x : Int32} (h : qe_rp a l) : qe_rp (upd a l.length x) (x :: l) :=
  ⟨pk_us, qe_rp_congr l (fun i hi => pk_un (by omega)) h⟩
theorem qe_upd2 {a : Nat → Int32} {g : Nat} {x y : Int32} : upd (upd a g x) g y = upd a g y := by
  funext j
  show (if j = g then y else if j = g then x else a j) = if j = g then y else a j
  by_cases h : j = g
  · rw [if_pos h, if_pos h]
  · rw [if_neg h, if_neg h, if_neg h]
def xg_fr (f q : Nat) (c0 c : Nat → Int32) : Prop := ∀ j, (j < f ∨ f + q ≤ j) → c j = c0 j
/-- a token's place put at the end of a code -/
theorem xg_code {f q o : Nat} {c0 c : Nat → Int32} {r : List Nat} (hl : r.length < q) (hf : xg_fr f q c0 c) (hr : qe_rp (qe_rl f q c) (r.map nI)) :
    xg_fr f q c0 (upd c (f + r.length) (nI o)) ∧ qe_rp (qe_rl f q (upd c (f + r.length) (nI o))) ((o :: r).map nI) := by
  refine ⟨fun j hj => by rw [pk_un (by omega)]; exact hf j hj, ?_⟩
  show qe_rp _ (nI o :: r.map nI)
  refine ⟨?_, qe_rp_congr _ (fun i hi => ?_) hr⟩
  · rw [List.length_map]
    show (if r.length < q then upd c (f + r.length) (nI o) (f + r.length) else 0) = nI o
    rw [if_pos hl, pk_us]
  · rw [List.length_map] at hi
    show (if i < q then upd c (f + r.length) (nI o) (f + i) else 0) = if i < q then c (f + i) else 0
    rw [pk_un (by omega)]
def xg_b (b : Bool) : Int32 := if b = true then 1 else 0
theorem xg_bt : ¬ xg_b true = 0 := by decide
section
variable {f_length f_tokens f_fresh f_stretches f_marks f_blocks f_loose f_isStudied f_height f_chosen : Int32} {a_text a_tokenKind a_tokenStart a_tokenSize a_code a_meant a_meantMark a_freshKind a_freshStart a_freshSize a_first a_size a_endKind a_sort a_codeSize a_isRead a_block a_hasValue a_isKnown a_value a_mark a_around a_nesting a_pile a_chosenStart a_chosenSize : Nat → Int32}
variable {f q g : Nat} {κ : Nat → Nat}
theorem xg_emit {post : SX → Prop} {c o : Nat} (hg : g < 82) (hf : a_first g = nI f) (hb : f + c < 81) (h : post (f_length, f_tokens, f_fresh, f_stretches, f_marks, f_blocks, f_loose, f_isStudied, f_height, f_chosen, a_text, a_tokenKind, a_tokenStart, a_tokenSize, upd a_code (f + c) (nI o), a_meant, a_meantMark, a_freshKind, a_freshStart, a_freshSize, a_first, a_size, a_endKind, a_sort, upd a_codeSize g (nI (c + 1)), a_isRead, a_block, a_hasValue, a_isKnown, a_value, a_mark, a_around, a_nesting, a_pile, a_chosenStart, a_chosenSize)) : wpX_emit post (f_length, f_tokens, f_fresh, f_stretches, f_marks, f_blocks, f_loose, f_isStudied, f_height, f_chosen, a_text, a_tokenKind, a_tokenStart, a_tokenSize, a_code, a_meant, a_meantMark, a_freshKind, a_freshStart, a_freshSize, a_first, a_size, a_endKind, a_sort, upd a_codeSize g (nI c), a_isRead, a_block, a_hasValue, a_isKnown, a_value, a_mark, a_around, a_nesting, a_pile, a_chosenStart, a_chosenSize) (nI g) (nI (f + o)) := by
  have v : vp_in (nI g) 82 := pk_in g 82 hg
  have cg : (nI g).toNatClampNeg = g := nI_clamp (by omega)
  unfold wpX_emit
  dsimp only
  rw [cg, hf, pk_us, nI_add, nI_clamp (by omega), pk_sub (by omega), nI_1, qe_upd2, Nat.add_sub_cancel_left]
  exact ⟨v, v, v, pk_in (f + c) 81 hb, nm_e ⟨v, v, nm_e h⟩⟩
theorem xg_strength {post : Int32 → Prop} {k : Nat} (hk : k ≤ 10) (h : post (nI (qd_st k))) : wpX_strength post (f_length, f_tokens, f_fresh, f_stretches, f_marks, f_blocks, f_loose, f_isStudied, f_height, f_chosen, a_text, a_tokenKind, a_tokenStart, a_tokenSize, a_code, a_meant, a_meantMark, a_freshKind, a_freshStart, a_freshSize, a_first, a_size, a_endKind, a_sort, a_codeSize, a_isRead, a_block, a_hasValue, a_isKnown, a_value, a_mark, a_around, a_nesting, a_pile, a_chosenStart, a_chosenSize) (nI k) := by
  refine pk_eq k 3 (fun e => by subst e; exact h) (fun e3 => pk_eq k 4 (fun e => by subst e; exact h) (fun e4 => pk_eq k 5 (fun e => by subst e; exact h) (fun e5 => ?_)))
  have e : qd_st k = 0 := by unfold qd_st; rw [if_neg e3, if_neg e4, if_neg e5]
  rw [e] at h
  exact h
theorem xg_pd {post : SX → Prop} {l : Nat} {c0 : Nat → Int32} (hg : g < 82) (hf : a_first g = nI f) (hq : f + q ≤ 80) (hl : l ≤ 4) (hκ : ∀ o, o < q → a_tokenKind (f + o) = nI (κ o) ∧ κ o < 8) :
    ∀ s r i d cd, s.length < d → i + s.length ≤ 80 → s.length + r.length ≤ q → (∀ o, o ∈ s → o < q) → qe_rp a_pile (s.map fun o => nI (f + o)) → xg_fr f q c0 cd → qe_rp (qe_rl f q cd) (r.map nI) →
    (∀ cd', xg_fr f q c0 cd' → qe_rp (qe_rl f q cd') ((qd_pop κ l s r).2.map nI) → qe_rp a_pile ((qd_pop κ l s r).1.map fun o => nI (f + o)) → post (f_length, f_tokens, f_fresh, f_stretches, f_marks, f_blocks, f_loose, f_isStudied, nI (qd_pop κ l s r).1.length, f_chosen, a_text, a_tokenKind, a_tokenStart, a_tokenSize, cd', a_meant, a_meantMark, a_freshKind, a_freshStart, a_freshSize, a_first, a_size, a_endKind, a_sort, upd a_codeSize g (nI (qd_pop κ l s r).2.length), a_isRead, a_block, a_hasValue, a_isKnown, a_value, a_mark, a_around, a_nesting, a_pile, a_chosenStart, a_chosenSize)) →
    wX_popDown_2 post (nI g) (nI l) d (nI i) f_length f_tokens f_fresh f_stretches f_marks f_blocks f_loose f_isStudied (nI s.length) f_chosen a_text a_tokenKind a_tokenStart a_tokenSize cd a_meant a_meantMark a_freshKind a_freshStart a_freshSize a_first a_size a_endKind a_sort (upd a_codeSize g (nI r.length)) a_isRead a_block a_hasValue a_isKnown a_value a_mark a_around a_nesting a_pile a_chosenStart a_chosenSize := by
  intro s
  induction s with
  | nil =>
    intro r i d cd hd hi hsr hs hp hfr hc h
    obtain ⟨d, rfl⟩ : ∃ d', d = d' + 1 := ⟨d - 1, by omega⟩
    rw [wX_popDown_2]
    have := h cd hfr hc hp
    exact br_c (fun _ => this) (fun _ => br_t (by decide) this)
  | cons o s ih =>
    intro r i d cd hd hi hsr hs hp hfr hc h
    rw [List.length_cons] at hd hi hsr
    obtain ⟨d, rfl⟩ : ∃ d', d = d' + 1 := ⟨d - 1, by omega⟩
    rw [wX_popDown_2]
    dsimp only
    have ho := hs o List.mem_cons_self
    have hk := hκ o ho
    have hp1 : a_pile s.length = nI (f + o) := by have := hp.1; rw [List.length_map] at this; exact this
    refine pk_le 80 i (fun h8 => by omega) (fun h8 => ?_)
    refine br_f (nI_nle (by rw [List.length_cons]; omega) (by rw [List.length_cons]; omega)) ?_
    rw [List.length_cons, nI_pred, nI_clamp (by omega), hp1, nI_clamp (by omega), hk.1]
    refine ⟨pk_in s.length 82 (by omega), pk_in (f + o) 81 (by omega), ?_⟩
    refine xg_strength (by omega) ?_
    have hst := qd_st_le (κ o)
    refine pk_lt (qd_st (κ o)) l (fun hlt => ?_) (fun hge => ?_)
    · rw [qd_pop_n (by omega)] at h
      have := h cd hfr hc hp
      rw [List.length_cons] at this
      exact this
    · rw [qd_pop_y hge] at h
      refine nm_e ⟨pk_in s.length 82 (by omega), ?_⟩
      rw [nI_clamp (by omega), hp1]
      have hx := xg_code (o := o) (by omega : r.length < q) hfr hc
      refine xg_emit hg hf (by omega) (nm_r (nI_1 i) ?_)
      exact ih (o :: r) (i + 1) d _ (by omega) (by omega) (by rw [List.length_cons]; omega) (fun t ht => hs t (List.mem_cons_of_mem _ ht)) hp.2 hx.1 hx.2 h
theorem xg_popDown {post : SX → Prop} {l : Nat} {c0 cd : Nat → Int32} {s r : List Nat} (hg : g < 82) (hf : a_first g = nI f) (hq : f + q ≤ 80) (hl : l ≤ 4) (hκ : ∀ o, o < q → a_tokenKind (f + o) = nI (κ o) ∧ κ o < 8)
    (hsr : s.length + r.length ≤ q) (hs : ∀ o, o ∈ s → o < q) (hp : qe_rp a_pile (s.map fun o => nI (f + o))) (hfr : xg_fr f q c0 cd) (hc : qe_rp (qe_rl f q cd) (r.map nI))
    (h : ∀ cd', xg_fr f q c0 cd' → qe_rp (qe_rl f q cd') ((qd_pop κ l s r).2.map nI) → qe_rp a_pile ((qd_pop κ l s r).1.map fun o => nI (f + o)) → post (f_length, f_tokens, f_fresh, f_stretches, f_marks, f_blocks, f_loose, f_isStudied, nI (qd_pop κ l s r).1.length, f_chosen, a_text, a_tokenKind, a_tokenStart, a_tokenSize, cd', a_meant, a_meantMark, a_freshKind, a_freshStart, a_freshSize, a_first, a_size, a_endKind, a_sort, upd a_codeSize g (nI (qd_pop κ l s r).2.length), a_isRead, a_block, a_hasValue, a_isKnown, a_value, a_mark, a_around, a_nesting, a_pile, a_chosenStart, a_chosenSize)) :
    wpX_popDown post (f_length, f_tokens, f_fresh, f_stretches, f_marks, f_blocks, f_loose, f_isStudied, nI s.length, f_chosen, a_text, a_tokenKind, a_tokenStart, a_tokenSize, cd, a_meant, a_meantMark, a_freshKind, a_freshStart, a_freshSize, a_first, a_size, a_endKind, a_sort, upd a_codeSize g (nI r.length), a_isRead, a_block, a_hasValue, a_isKnown, a_value, a_mark, a_around, a_nesting, a_pile, a_chosenStart, a_chosenSize) (nI g) (nI l) :=
  ⟨s.length + 1, xg_pd hg hf hq hl hκ s r 0 (s.length + 1) cd (by omega) (by omega) hsr hs hp hfr hc h⟩
theorem xg_readClose {post : Int32 → SX → Prop} {c0 cd : Nat → Int32} {s r : List Nat} (hg : g < 82) (hf : a_first g = nI f) (hq : f + q ≤ 80) (hκ : ∀ o, o < q → a_tokenKind (f + o) = nI (κ o) ∧ κ o < 8)
    (hsr : s.length + r.length ≤ q) (hs : ∀ o, o ∈ s → o < q) (hp : qe_rp a_pile (s.map fun o => nI (f + o))) (hfr : xg_fr f q c0 cd) (hc : qe_rp (qe_rl f q cd) (r.map nI)) (hw : (qd_pop κ 1 s r).1.length ≤ s.length)
    (h0 : (qd_pop κ 1 s r).1 = [] → ∀ hh cs cd', xg_fr f q c0 cd' → post 0 (f_length, f_tokens, f_fresh, f_stretches, f_marks, f_blocks, f_loose, f_isStudied, hh, f_chosen, a_text, a_tokenKind, a_tokenStart, a_tokenSize, cd', a_meant, a_meantMark, a_freshKind, a_freshStart, a_freshSize, a_first, a_size, a_endKind, a_sort, upd a_codeSize g cs, a_isRead, a_block, a_hasValue, a_isKnown, a_value, a_mark, a_around, a_nesting, a_pile, a_chosenStart, a_chosenSize))
    (h1 : (qd_pop κ 1 s r).1 ≠ [] → ∀ cd', xg_fr f q c0 cd' → qe_rp (qe_rl f q cd') ((qd_pop κ 1 s r).2.map nI) → qe_rp a_pile ((qd_pop κ 1 s r).1.tail.map fun o => nI (f + o)) → post 1 (f_length, f_tokens, f_fresh, f_stretches, f_marks, f_blocks, f_loose, f_isStudied, nI (qd_pop κ 1 s r).1.tail.length, f_chosen, a_text, a_tokenKind, a_tokenStart, a_tokenSize, cd', a_meant, a_meantMark, a_freshKind, a_freshStart, a_freshSize, a_first, a_size, a_endKind, a_sort, upd a_codeSize g (nI (qd_pop κ 1 s r).2.length), a_isRead, a_block, a_hasValue, a_isKnown, a_value, a_mark, a_around, a_nesting, a_pile, a_chosenStart, a_chosenSize)) :
    wpX_readClose post (f_length, f_tokens, f_fresh, f_stretches, f_marks, f_blocks, f_loose, f_isStudied, nI s.length, f_chosen, a_text, a_tokenKind, a_tokenStart, a_tokenSize, cd, a_meant, a_meantMark, a_freshKind, a_freshStart, a_freshSize, a_first, a_size, a_endKind, a_sort, upd a_codeSize g (nI r.length), a_isRead, a_block, a_hasValue, a_isKnown, a_value, a_mark, a_around, a_nesting, a_pile, a_chosenStart, a_chosenSize) (nI g) := by
  refine xg_popDown (l := 1) hg hf hq (by omega) hκ hsr hs hp hfr hc (fun cd' c1 c2 c3 => ?_)
  generalize qd_pop κ 1 s r = P at *
  obtain ⟨P1, P2⟩ := P
  cases P1 with
  | nil => exact br_t (show nI 0 ≤ 0 by decide) (br_t rfl ⟨rfl, h0 rfl _ _ cd' c1⟩)
  | cons u P1 =>
    have hlen : P1.length + 1 ≤ 80 := by have : (u :: P1).length ≤ s.length := hw; rw [List.length_cons] at this; omega
    refine br_f (nI_nle (by rw [List.length_cons]; omega) (by rw [List.length_cons]; omega)) (br_f (by decide) (nm_r (nI_pred P1.length) ⟨rfl, ?_⟩))
    exact h1 (by simp) cd' c1 c2 c3.2
theorem xg_readOperator {post : Int32 → SX → Prop} {c0 cd : Nat → Int32} {s r : List Nat} {o l : Nat} (hg : g < 82) (hf : a_first g = nI f) (hq : f + q ≤ 80) (hκ : ∀ o, o < q → a_tokenKind (f + o) = nI (κ o) ∧ κ o < 8) (ho : o < q) (hl : l = qd_st (κ o) + if κ o = 3 then 1 else 0)
    (hsr : s.length + r.length ≤ q) (hs : ∀ o, o ∈ s → o < q) (hp : qe_rp a_pile (s.map fun o => nI (f + o))) (hfr : xg_fr f q c0 cd) (hc : qe_rp (qe_rl f q cd) (r.map nI)) (hw : (qd_pop κ l s r).1.length ≤ s.length ∧ ∀ t, t ∈ (qd_pop κ l s r).1 → t ∈ s)
    (h0 : κ o = 3 → (qd_pop κ l s r).1 ≠ [] → κ ((qd_pop κ l s r).1.headD 0) = 3 → ∀ hh cs cd' pl', xg_fr f q c0 cd' → post 0 (f_length, f_tokens, f_fresh, f_stretches, f_marks, f_blocks, f_loose, f_isStudied, hh, f_chosen, a_text, a_tokenKind, a_tokenStart, a_tokenSize, cd', a_meant, a_meantMark, a_freshKind, a_freshStart, a_freshSize, a_first, a_size, a_endKind, a_sort, upd a_codeSize g cs, a_isRead, a_block, a_hasValue, a_isKnown, a_value, a_mark, a_around, a_nesting, pl', a_chosenStart, a_chosenSize))
    (h1 : ¬ (κ o = 3 ∧ (qd_pop κ l s r).1 ≠ [] ∧ κ ((qd_pop κ l s r).1.headD 0) = 3) → ∀ cd' pl', xg_fr f q c0 cd' → qe_rp (qe_rl f q cd') ((qd_pop κ l s r).2.map nI) → qe_rp pl' ((o :: (qd_pop κ l s r).1).map fun o => nI (f + o)) → post 1 (f_length, f_tokens, f_fresh, f_stretches, f_marks, f_blocks, f_loose, f_isStudied, nI (o :: (qd_pop κ l s r).1).length, f_chosen, a_text, a_tokenKind, a_tokenStart, a_tokenSize, cd', a_meant, a_meantMark, a_freshKind, a_freshStart, a_freshSize, a_first, a_size, a_endKind, a_sort, upd a_codeSize g (nI (qd_pop κ l s r).2.length), a_isRead, a_block, a_hasValue, a_isKnown, a_value, a_mark, a_around, a_nesting, pl', a_chosenStart, a_chosenSize)) :
    wpX_readOperator post (f_length, f_tokens, f_fresh, f_stretches, f_marks, f_blocks, f_loose, f_isStudied, nI s.length, f_chosen, a_text, a_tokenKind, a_tokenStart, a_tokenSize, cd, a_meant, a_meantMark, a_freshKind, a_freshStart, a_freshSize, a_first, a_size, a_endKind, a_sort, upd a_codeSize g (nI r.length), a_isRead, a_block, a_hasValue, a_isKnown, a_value, a_mark, a_around, a_nesting, a_pile, a_chosenStart, a_chosenSize) (nI g) (nI (f + o)) := by
  have hk := hκ o ho
  refine ⟨pk_in (f + o) 81 (by omega), nm_r (e' := nI (κ o)) (by rw [nI_clamp (by omega)]; exact hk.1) ?_⟩
  refine xg_strength (by omega) ?_
  have hst := qd_st_le (κ o)
  have go : ∀ z, nI (qd_st (κ o)) + z = nI l → wX_readOperator_24 post (nI (f + o)) (nI (κ o)) z (nI (qd_st (κ o))) (nI g) f_length f_tokens f_fresh f_stretches f_marks f_blocks f_loose f_isStudied (nI s.length) f_chosen a_text a_tokenKind a_tokenStart a_tokenSize cd a_meant a_meantMark a_freshKind a_freshStart a_freshSize a_first a_size a_endKind a_sort (upd a_codeSize g (nI r.length)) a_isRead a_block a_hasValue a_isKnown a_value a_mark a_around a_nesting a_pile a_chosenStart a_chosenSize := by
    intro z hz
    unfold wX_readOperator_24
    rw [hz]
    refine xg_popDown (l := l) hg hf hq (by rw [hl]; split <;> omega) hκ hsr hs hp hfr hc (fun cd' c1 c2 c3 => ?_)
    generalize qd_pop κ l s r = P at *
    obtain ⟨P1, P2⟩ := P
    obtain ⟨hw1, hw2⟩ := hw
    have hw1' : P1.length ≤ s.length := hw1
    have fin1 : ¬ (κ o = 3 ∧ P1 ≠ [] ∧ κ (P1.headD 0) = 3) → wX_readOperator_65 post (nI (f + o)) 0 f_length f_tokens f_fresh f_stretches f_marks f_blocks f_loose f_isStudied (nI P1.length) f_chosen a_text a_tokenKind a_tokenStart a_tokenSize cd' a_meant a_meantMark a_freshKind a_freshStart a_freshSize a_first a_size a_endKind a_sort (upd a_codeSize g (nI P2.length)) a_isRead a_block a_hasValue a_isKnown a_value a_mark a_around a_nesting a_pile a_chosenStart a_chosenSize := by
      intro hn
      refine ⟨pk_in P1.length 82 (by omega), ?_⟩
      rw [nI_clamp (by omega)]
      refine nm_e (nm_r (nI_1 P1.length) (br_t rfl ?_))
      have hpp : qe_rp (upd a_pile P1.length (nI (f + o))) ((o :: P1).map fun o => nI (f + o)) := by
        have := qe_rp_push (x := nI (f + o)) c3
        rw [List.length_map] at this
        exact this
      exact h1 hn cd' _ c1 c2 hpp
    refine pk_eq (κ o) 3 (fun e3 => ?_) (fun e3 => fin1 (fun z => e3 z.1))
    cases P1 with
    | nil => exact br_t (show nI 0 ≤ 0 by decide) (fin1 (fun z => z.2.1 rfl))
    | cons u P1 =>
      have hlen : P1.length + 1 ≤ 80 := by have : (u :: P1).length ≤ s.length := hw1; rw [List.length_cons] at this; omega
      have hu := hs u (hw2 u List.mem_cons_self)
      have hku := hκ u hu
      have hp1 : a_pile P1.length = nI (f + u) := by have := c3.1; rw [List.length_map] at this; exact this
      refine br_f (nI_nle (by rw [List.length_cons]; omega) (by rw [List.length_cons]; omega)) ?_
      rw [List.length_cons, nI_pred, nI_clamp (by omega), hp1, nI_clamp (by omega), hku.1]
      refine ⟨pk_in P1.length 82 (by omega), pk_in (f + u) 81 (by omega), ?_⟩
      refine pk_eq (κ u) 3 (fun eu => ?_) (fun eu => fin1 (fun z => eu z.2.2))
      refine ⟨pk_in (P1.length + 1) 82 (by omega), ?_⟩
      refine nm_e (nm_e (br_f (by decide) ?_))
      exact h0 e3 (by simp) eu _ _ cd' _ c1
  refine pk_eq (κ o) 3 (fun e3 => go 1 ?_) (fun e3 => go 0 ?_)
  · rw [hl, if_pos e3]; exact nI_1 _
  · rw [hl, if_neg e3]; exact nI_add _ 0
end
end
section
/-! X: an expression, a stretch -/
section
variable {f_length f_tokens f_fresh f_stretches f_marks f_blocks f_loose f_isStudied f_height f_chosen : Int32} {a_text a_tokenKind a_tokenStart a_tokenSize a_code a_meant a_meantMark a_freshKind a_freshStart a_freshSize a_first a_size a_endKind a_sort a_codeSize a_isRead a_block a_hasValue a_isKnown a_value a_mark a_around a_nesting a_pile a_chosenStart a_chosenSize : Nat → Int32}
variable {f q g f0 : Nat} {κ : Nat → Nat} {c0 : Nat → Int32} {post : Int32 → SX → Prop}
theorem xh_bad {x1 x4 x5 x6 : Int32} {n : Nat} (h : post 0 (f_length, f_tokens, f_fresh, f_stretches, f_marks, f_blocks, f_loose, f_isStudied, f_height, f_chosen, a_text, a_tokenKind, a_tokenStart, a_tokenSize, a_code, a_meant, a_meantMark, a_freshKind, a_freshStart, a_freshSize, a_first, a_size, a_endKind, a_sort, a_codeSize, a_isRead, a_block, a_hasValue, a_isKnown, a_value, a_mark, a_around, a_nesting, a_pile, a_chosenStart, a_chosenSize)) : wX_readExpression_35 post x1 x5 (n + 1) 0 x4 x6 f_length f_tokens f_fresh f_stretches f_marks f_blocks f_loose f_isStudied f_height f_chosen a_text a_tokenKind a_tokenStart a_tokenSize a_code a_meant a_meantMark a_freshKind a_freshStart a_freshSize a_first a_size a_endKind a_sort a_codeSize a_isRead a_block a_hasValue a_isKnown a_value a_mark a_around a_nesting a_pile a_chosenStart a_chosenSize := by
  rw [wX_readExpression_35]
  have b : wX_readExpression_197 post x1 0 x4 f_length f_tokens f_fresh f_stretches f_marks f_blocks f_loose f_isStudied f_height f_chosen a_text a_tokenKind a_tokenStart a_tokenSize a_code a_meant a_meantMark a_freshKind a_freshStart a_freshSize a_first a_size a_endKind a_sort a_codeSize a_isRead a_block a_hasValue a_isKnown a_value a_mark a_around a_nesting a_pile a_chosenStart a_chosenSize := br_t rfl (br_t rfl h)
  exact br_c (fun _ => b) (fun _ => br_t rfl b)
theorem qd_pop_len {κ : Nat → Nat} {l : Nat} : ∀ s r, (qd_pop κ l s r).1.length ≤ s.length ∧ ∀ t, t ∈ (qd_pop κ l s r).1 → t ∈ s := by
  intro s
  induction s with
  | nil => intro r; exact ⟨Nat.le_refl _, fun t ht => ht⟩
  | cons o s ih =>
    intro r
    by_cases c : l ≤ qd_st (κ o)
    · rw [qd_pop_y c]
      have := ih (o :: r)
      exact ⟨by rw [List.length_cons]; omega, fun t ht => List.mem_cons_of_mem _ (this.2 t ht)⟩
    · rw [qd_pop_n c]; exact ⟨Nat.le_refl _, fun t ht => ht⟩
theorem xh_35 (hg : g < 82) (hf : a_first g = nI f) (hq : f + q ≤ 80) (hκ : ∀ o, o < q → a_tokenKind (f + o) = nI (κ o) ∧ κ o < 8) :
    ∀ c o x d cd pl, o + c = q → f0 ≤ o → c < d → qd_In κ f0 o x → qe_rp pl (x.2.1.map fun o => nI (f + o)) → xg_fr f q c0 cd → qe_rp (qe_rl f q cd) (x.2.2.map nI) →
    ((qd_run κ c o x).bind (qd_end κ) = none → ∀ hh cs cd' pl', xg_fr f q c0 cd' → post 0 (f_length, f_tokens, f_fresh, f_stretches, f_marks, f_blocks, f_loose, f_isStudied, hh, f_chosen, a_text, a_tokenKind, a_tokenStart, a_tokenSize, cd', a_meant, a_meantMark, a_freshKind, a_freshStart, a_freshSize, a_first, a_size, a_endKind, a_sort, upd a_codeSize g cs, a_isRead, a_block, a_hasValue, a_isKnown, a_value, a_mark, a_around, a_nesting, pl', a_chosenStart, a_chosenSize)) →
    (∀ r, (qd_run κ c o x).bind (qd_end κ) = some r → ∀ hh cd' pl', xg_fr f q c0 cd' → qe_rp (qe_rl f q cd') (r.map nI) → post 1 (f_length, f_tokens, f_fresh, f_stretches, f_marks, f_blocks, f_loose, f_isStudied, hh, f_chosen, a_text, a_tokenKind, a_tokenStart, a_tokenSize, cd', a_meant, a_meantMark, a_freshKind, a_freshStart, a_freshSize, a_first, a_size, a_endKind, a_sort, upd a_codeSize g (nI r.length), a_isRead, a_block, a_hasValue, a_isKnown, a_value, a_mark, a_around, a_nesting, pl', a_chosenStart, a_chosenSize)) →
    wX_readExpression_35 post (nI g) (nI (f + q)) (d + 1) 1 (xg_b x.1) (nI (f + o)) f_length f_tokens f_fresh f_stretches f_marks f_blocks f_loose f_isStudied (nI x.2.1.length) f_chosen a_text a_tokenKind a_tokenStart a_tokenSize cd a_meant a_meantMark a_freshKind a_freshStart a_freshSize a_first a_size a_endKind a_sort (upd a_codeSize g (nI x.2.2.length)) a_isRead a_block a_hasValue a_isKnown a_value a_mark a_around a_nesting pl a_chosenStart a_chosenSize := by
  intro c
  induction c with
  | zero =>
    intro o x d cd pl hc ho hd hI hpl hfr hcd hN hS
    rw [wX_readExpression_35]
    refine br_t (nI_le (by omega) (by omega)) ?_
    obtain ⟨i1, i2, i3, i4, i5⟩ := hI
    have hN' : qd_end κ x = none → ∀ hh cs cd' pl', xg_fr f q c0 cd' → post 0 (f_length, f_tokens, f_fresh, f_stretches, f_marks, f_blocks, f_loose, f_isStudied, hh, f_chosen, a_text, a_tokenKind, a_tokenStart, a_tokenSize, cd', a_meant, a_meantMark, a_freshKind, a_freshStart, a_freshSize, a_first, a_size, a_endKind, a_sort, upd a_codeSize g cs, a_isRead, a_block, a_hasValue, a_isKnown, a_value, a_mark, a_around, a_nesting, pl', a_chosenStart, a_chosenSize) := hN
    have hS' : ∀ r, qd_end κ x = some r → ∀ hh cd' pl', xg_fr f q c0 cd' → qe_rp (qe_rl f q cd') (r.map nI) → post 1 (f_length, f_tokens, f_fresh, f_stretches, f_marks, f_blocks, f_loose, f_isStudied, hh, f_chosen, a_text, a_tokenKind, a_tokenStart, a_tokenSize, cd', a_meant, a_meantMark, a_freshKind, a_freshStart, a_freshSize, a_first, a_size, a_endKind, a_sort, upd a_codeSize g (nI r.length), a_isRead, a_block, a_hasValue, a_isKnown, a_value, a_mark, a_around, a_nesting, pl', a_chosenStart, a_chosenSize) := hS
    obtain ⟨b, s, r⟩ := x
    cases b with
    | false =>
      have e : qd_end κ (false, s, r) = none := if_neg (fun z => absurd z.1 (by simp))
      exact br_f (by decide) (br_t rfl (br_f (by decide) (br_t rfl (hN' e _ _ cd pl hfr))))
    | true =>
      refine br_f (by decide) (br_f xg_bt ?_)
      have i3' : s.length + r.length ≤ o - f0 := i3
      refine xg_popDown (l := 1) (s := s) (r := r) hg hf hq (by omega) hκ (by omega) (fun t ht => by have := i1 t ht; omega) hpl hfr hcd (fun cd' c1 c2 c3 => ?_)
      have hlen := (qd_pop_len (κ := κ) (l := 1) s r).1
      have e1 : qd_end κ (true, s, r) = if (qd_pop κ 1 s r).1 = [] then some (qd_pop κ 1 s r).2 else none := by
        unfold qd_end
        by_cases z : (qd_pop κ 1 s r).1 = []
        · rw [if_pos ⟨rfl, z⟩, if_pos z]
        · rw [if_neg (fun y => z y.2), if_neg z]
      rw [e1] at hN' hS'
      generalize qd_pop κ 1 s r = P at *
      obtain ⟨P1, P2⟩ := P
      have hlen' : P1.length ≤ s.length := hlen
      refine br_f (by decide) (br_f xg_bt ?_)
      cases P1 with
      | nil => exact br_t (show nI 0 = 0 by decide) (hS' P2 rfl _ cd' pl c1 c2)
      | cons u P1 =>
        rw [List.length_cons] at hlen'
        refine br_f (nI_ne0 (by show 0 < (u :: P1).length; rw [List.length_cons]; omega) (by show (u :: P1).length < _; rw [List.length_cons]; omega)) ?_
        exact hN' rfl _ _ cd' pl c1
  | succ c ih =>
    intro o x d cd pl hc ho hd hI hpl hfr hcd hN hS
    obtain ⟨d, rfl⟩ : ∃ d', d = d' + 1 := ⟨d - 1, by omega⟩
    have hk := hκ o (by omega)
    have hIn := fun y (hy : qd_rd κ o x = some y) => qd_rd_In ho hk.2 hI hy
    obtain ⟨i1, i2, i3, i4, i5⟩ := hI
    have hs : ∀ t, t ∈ x.2.1 → t < q := fun t ht => by have := i1 t ht; omega
    have eo : f + o + 1 = f + (o + 1) := by omega
    -- the next head, by what qd_rd says
    have hNx : qd_rd κ o x = none → ∀ hh cs cd' pl', xg_fr f q c0 cd' → ∀ x4 x6, wX_readExpression_35 post (nI g) (nI (f + q)) (d + 1) 0 x4 x6 f_length f_tokens f_fresh f_stretches f_marks f_blocks f_loose f_isStudied hh f_chosen a_text a_tokenKind a_tokenStart a_tokenSize cd' a_meant a_meantMark a_freshKind a_freshStart a_freshSize a_first a_size a_endKind a_sort (upd a_codeSize g cs) a_isRead a_block a_hasValue a_isKnown a_value a_mark a_around a_nesting pl' a_chosenStart a_chosenSize := by
      intro hr hh cs cd' pl' hfr' x4 x6
      refine xh_bad (hN ?_ hh cs cd' pl' hfr')
      show ((qd_rd κ o x).bind (qd_run κ c (o + 1))).bind (qd_end κ) = none
      rw [hr]; rfl
    have hSx : ∀ y, qd_rd κ o x = some y → ∀ cd' pl', qe_rp pl' (y.2.1.map fun o => nI (f + o)) → xg_fr f q c0 cd' → qe_rp (qe_rl f q cd') (y.2.2.map nI) → wX_readExpression_35 post (nI g) (nI (f + q)) (d + 1) 1 (xg_b y.1) (nI (f + (o + 1))) f_length f_tokens f_fresh f_stretches f_marks f_blocks f_loose f_isStudied (nI y.2.1.length) f_chosen a_text a_tokenKind a_tokenStart a_tokenSize cd' a_meant a_meantMark a_freshKind a_freshStart a_freshSize a_first a_size a_endKind a_sort (upd a_codeSize g (nI y.2.2.length)) a_isRead a_block a_hasValue a_isKnown a_value a_mark a_around a_nesting pl' a_chosenStart a_chosenSize := by
      intro y hy cd' pl' p1 p2 p3
      have e : qd_run κ (c + 1) o x = qd_run κ c (o + 1) y := by
        show (qd_rd κ o x).bind (qd_run κ c (o + 1)) = _
        rw [hy]; rfl
      rw [e] at hN hS
      exact ih (o + 1) y d cd' pl' (by omega) (by omega) (by omega) (hIn y hy) p1 p2 p3 hN hS
    rw [wX_readExpression_35]
    refine br_f (nI_ge (by omega) (by omega)) (br_f (by decide) ⟨pk_in (f + o) 81 (by omega), nm_r (e' := nI (κ o)) (by rw [nI_clamp (by omega)]; exact hk.1) ?_⟩)
    obtain ⟨b, s, r⟩ := x
    have i3' : s.length + r.length ≤ o - f0 := i3
    have hval : κ o ≤ 1 → wX_readExpression_66 post (wX_readExpression_35 post (nI g) (nI (f + q)) (d + 1)) (nI g) (xg_b b) (nI (f + q)) (nI (f + o)) f_length f_tokens f_fresh f_stretches f_marks f_blocks f_loose f_isStudied (nI s.length) f_chosen a_text a_tokenKind a_tokenStart a_tokenSize cd a_meant a_meantMark a_freshKind a_freshStart a_freshSize a_first a_size a_endKind a_sort (upd a_codeSize g (nI r.length)) a_isRead a_block a_hasValue a_isKnown a_value a_mark a_around a_nesting pl a_chosenStart a_chosenSize := by
      intro h1
      have e : qd_rd κ o (b, s, r) = if b = true then none else some (true, s, o :: r) := by unfold qd_rd; rw [if_pos h1]
      have hx := xg_code (o := o) (by omega : r.length < q) hfr hcd
      cases b with
      | true =>
        refine br_f (by decide) ?_
        exact xg_emit hg hf (by omega) (nm_r (nI_1 (f + o)) (hNx (e.trans (if_pos rfl)) _ _ _ pl hx.1 _ _))
      | false =>
        refine br_t rfl ?_
        exact xg_emit hg hf (by omega) (nm_r (nI_1 (f + o)) (hSx _ (e.trans (if_neg (by simp))) _ pl hpl hx.1 hx.2))
    refine pk_eq (κ o) 0 (fun k0 => hval (by omega)) (fun k0 => pk_eq (κ o) 1 (fun k1 => hval (by omega)) (fun k1 => ?_))
    have n1 : ¬ κ o ≤ 1 := by omega
    refine pk_eq (κ o) 6 (fun k6 => ?_) (fun k6 => ?_)
    · have e : qd_rd κ o (b, s, r) = if b = true then none else some (false, o :: s, r) := by unfold qd_rd; rw [if_neg n1, if_pos k6]
      cases b with
      | true =>
        refine br_f xg_bt ⟨pk_in s.length 82 (by omega), ?_⟩
        exact nm_e (nm_e (nm_e (hNx (e.trans (if_pos rfl)) _ _ _ _ hfr _ _)))
      | false =>
        refine br_t rfl ⟨pk_in s.length 82 (by omega), ?_⟩
        rw [nI_clamp (by omega)]
        have hpp : qe_rp (upd pl s.length (nI (f + o))) ((o :: s).map fun o => nI (f + o)) := by
          have := qe_rp_push (x := nI (f + o)) hpl
          rw [List.length_map] at this
          exact this
        exact nm_e (nm_r (nI_1 s.length) (nm_r (nI_1 (f + o)) (hSx _ (e.trans (if_neg (by simp))) cd _ hpp hfr hcd)))
    · refine pk_eq (κ o) 7 (fun k7 => ?_) (fun k7 => ?_)
      · cases b with
        | false =>
          have e : qd_rd κ o (false, s, r) = none := by unfold qd_rd; rw [if_neg n1, if_neg k6, if_pos rfl]
          exact br_t rfl (nm_e (hNx e _ _ _ _ hfr _ _))
        | true =>
          refine br_f xg_bt ?_
          have e : qd_rd κ o (true, s, r) = if (qd_pop κ 1 s r).1 = [] then none else some (true, (qd_pop κ 1 s r).1.tail, (qd_pop κ 1 s r).2) := by
            unfold qd_rd; rw [if_neg n1, if_neg k6, if_neg (by simp), if_pos k7]
          refine xg_readClose (s := s) (r := r) hg hf hq hκ (by omega) hs hpl hfr hcd (qd_pop_len s r).1 (fun z hh cs cd' c1 => ?_) (fun z cd' c1 c2 c3 => ?_)
          · exact br_t rfl (nm_e (hNx (e.trans (if_pos z)) _ _ _ _ c1 _ _))
          · exact br_f (by decide) (nm_r (nI_1 (f + o)) (hSx _ (e.trans (if_neg z)) cd' pl c3 c1 c2))
      · cases b with
        | false =>
          have e : qd_rd κ o (false, s, r) = none := by unfold qd_rd; rw [if_neg n1, if_neg k6, if_pos rfl]
          exact br_t rfl (nm_e (hNx e _ _ _ _ hfr _ _))
        | true =>
          refine br_f xg_bt (pk_eq (κ o) 2 (fun k2 => ?_) (fun k2 => ?_))
          · have e : qd_rd κ o (true, s, r) = none := by unfold qd_rd; rw [if_neg n1, if_neg k6, if_neg (by simp), if_neg k7, if_pos k2]
            exact nm_e (hNx e _ _ _ _ hfr _ _)
          · by_cases k3 : κ o = 3
            · have e : qd_rd κ o (true, s, r) = if (qd_pop κ 2 s r).1 ≠ [] ∧ κ ((qd_pop κ 2 s r).1.headD 0) = 3 then none else some (false, o :: (qd_pop κ 2 s r).1, (qd_pop κ 2 s r).2) := by
                unfold qd_rd; rw [if_neg n1, if_neg k6, if_neg (by simp), if_neg k7, if_neg k2, if_pos k3]
              refine xg_readOperator (s := s) (r := r) (l := 2) hg hf hq hκ (by omega) (by rw [if_pos k3, k3]; rfl) (by omega) hs hpl hfr hcd (qd_pop_len s r) (fun _ z1 z2 hh cs cd' pl' c1 => ?_) (fun z cd' pl' c1 c2 c3 => ?_)
              · exact br_t rfl (nm_e (hNx (e.trans (if_pos ⟨z1, z2⟩)) _ _ _ _ c1 _ _))
              · exact br_f (by decide) (nm_r (nI_1 (f + o)) (hSx _ (e.trans (if_neg (fun y => z ⟨k3, y⟩))) cd' pl' c3 c1 c2))
            · have e : qd_rd κ o (true, s, r) = some (false, o :: (qd_pop κ (qd_st (κ o)) s r).1, (qd_pop κ (qd_st (κ o)) s r).2) := by
                unfold qd_rd; rw [if_neg n1, if_neg k6, if_neg (by simp), if_neg k7, if_neg k2, if_neg k3]
              refine xg_readOperator (s := s) (r := r) (l := qd_st (κ o)) hg hf hq hκ (by omega) (by rw [if_neg k3]; rfl) (by omega) hs hpl hfr hcd (qd_pop_len s r) (fun z => absurd z k3) (fun z cd' pl' c1 c2 c3 => ?_)
              exact br_f (by decide) (nm_r (nI_1 (f + o)) (hSx _ e cd' pl' c3 c1 c2))
theorem xh_readExpression (hg : g < 82) (hf : a_first g = nI f) (hz : a_size g = nI q) (hq : f + q ≤ 80) (hf0 : f0 ≤ q) (hκ : ∀ o, o < q → a_tokenKind (f + o) = nI (κ o) ∧ κ o < 8)
    (hN : qd_fin κ f0 q = none → ∀ hh cs cd' pl', xg_fr f q a_code cd' → post 0 (f_length, f_tokens, f_fresh, f_stretches, f_marks, f_blocks, f_loose, f_isStudied, hh, f_chosen, a_text, a_tokenKind, a_tokenStart, a_tokenSize, cd', a_meant, a_meantMark, a_freshKind, a_freshStart, a_freshSize, a_first, a_size, a_endKind, a_sort, upd a_codeSize g cs, a_isRead, a_block, a_hasValue, a_isKnown, a_value, a_mark, a_around, a_nesting, pl', a_chosenStart, a_chosenSize))
    (hS : ∀ r, qd_fin κ f0 q = some r → ∀ hh cd' pl', xg_fr f q a_code cd' → qe_rp (qe_rl f q cd') (r.map nI) → post 1 (f_length, f_tokens, f_fresh, f_stretches, f_marks, f_blocks, f_loose, f_isStudied, hh, f_chosen, a_text, a_tokenKind, a_tokenStart, a_tokenSize, cd', a_meant, a_meantMark, a_freshKind, a_freshStart, a_freshSize, a_first, a_size, a_endKind, a_sort, upd a_codeSize g (nI r.length), a_isRead, a_block, a_hasValue, a_isKnown, a_value, a_mark, a_around, a_nesting, pl', a_chosenStart, a_chosenSize)) :
    wpX_readExpression post (f_length, f_tokens, f_fresh, f_stretches, f_marks, f_blocks, f_loose, f_isStudied, f_height, f_chosen, a_text, a_tokenKind, a_tokenStart, a_tokenSize, a_code, a_meant, a_meantMark, a_freshKind, a_freshStart, a_freshSize, a_first, a_size, a_endKind, a_sort, a_codeSize, a_isRead, a_block, a_hasValue, a_isKnown, a_value, a_mark, a_around, a_nesting, a_pile, a_chosenStart, a_chosenSize) (nI g) (nI (f + f0)) := by
  have v : vp_in (nI g) 82 := pk_in g 82 hg
  have cg : (nI g).toNatClampNeg = g := nI_clamp (by omega)
  unfold wpX_readExpression
  dsimp only
  rw [cg, hf, hz, nI_add]
  refine ⟨v, nm_e ⟨v, v, nm_e ⟨q - f0 + 1 + 1, ?_⟩⟩⟩
  exact xh_35 (f0 := f0) hg hf hq hκ (q - f0) f0 (false, [], []) (q - f0 + 1) a_code a_pile (by omega) (Nat.le_refl _) (by omega) qd_In0 trivial (fun j _ => rfl) trivial hN hS
end
section
variable {f_length f_tokens f_fresh f_stretches f_marks f_blocks f_loose f_isStudied f_height f_chosen : Int32} {a_text a_tokenKind a_tokenStart a_tokenSize a_code a_meant a_meantMark a_freshKind a_freshStart a_freshSize a_first a_size a_endKind a_sort a_codeSize a_isRead a_block a_hasValue a_isKnown a_value a_mark a_around a_nesting a_pile a_chosenStart a_chosenSize : Nat → Int32}
variable {f q g : Nat} {κ : Nat → Nat} {post : SX → Prop}
theorem xh_readStretch (hg : g < 82) (hf : a_first g = nI f) (hz : a_size g = nI q) (hq : f + q ≤ 80) (hκ : ∀ o, o < q → a_tokenKind (f + o) = nI (κ o) ∧ κ o < 8)
    (h : ∀ hh cs' cd' pl', xg_fr f q a_code cd' → (∀ j, j ≠ g → cs' j = a_codeSize j) → ((qd_srt κ q (a_endKind g) = 1 ∨ qd_srt κ q (a_endKind g) = 2) → cs' g = nI (qd_cd κ q).length ∧ qe_rp (qe_rl f q cd') ((qd_cd κ q).map nI)) →
      post (f_length, f_tokens, f_fresh, f_stretches, f_marks, f_blocks, f_loose, f_isStudied, hh, f_chosen, a_text, a_tokenKind, a_tokenStart, a_tokenSize, cd', a_meant, a_meantMark, a_freshKind, a_freshStart, a_freshSize, a_first, a_size, a_endKind, upd a_sort g (nI (qd_srt κ q (a_endKind g))), cs', upd a_isRead g 1, a_block, a_hasValue, a_isKnown, a_value, a_mark, a_around, a_nesting, pl', a_chosenStart, a_chosenSize)) :
    wpX_readStretch post (f_length, f_tokens, f_fresh, f_stretches, f_marks, f_blocks, f_loose, f_isStudied, f_height, f_chosen, a_text, a_tokenKind, a_tokenStart, a_tokenSize, a_code, a_meant, a_meantMark, a_freshKind, a_freshStart, a_freshSize, a_first, a_size, a_endKind, a_sort, a_codeSize, a_isRead, a_block, a_hasValue, a_isKnown, a_value, a_mark, a_around, a_nesting, a_pile, a_chosenStart, a_chosenSize) (nI g) := by
  have v : vp_in (nI g) 82 := pk_in g 82 hg
  have cg : (nI g).toNatClampNeg = g := nI_clamp (by omega)
  have e1 : ∀ z : Int32, (if qd_fr κ q = 2 then z = 1 else z = 0) → q ≠ 0 → wX_readStretch_70 post (nI g) z f_length f_tokens f_fresh f_stretches f_marks f_blocks f_loose f_isStudied f_height f_chosen a_text a_tokenKind a_tokenStart a_tokenSize a_code a_meant a_meantMark a_freshKind a_freshStart a_freshSize a_first a_size a_endKind a_sort a_codeSize (upd a_isRead g 1) a_block a_hasValue a_isKnown a_value a_mark a_around a_nesting a_pile a_chosenStart a_chosenSize := by
    intro z hz2 hq0
    unfold wX_readStretch_70
    rw [cg]
    refine ⟨v, br_c (fun h8 => ?_) (fun h8 => ?_)⟩
    · have es : qd_srt κ q (a_endKind g) = (match qd_fin κ (qd_fr κ q) q with | none => 0 | some _ => if qd_fr κ q = 2 then 2 else 1) := by
        unfold qd_srt; rw [if_neg hq0, if_pos h8]; rfl
      have go : wX_readStretch_105 post (nI g) z (nI (f + qd_fr κ q)) (nI g) f_length f_tokens f_fresh f_stretches f_marks f_blocks f_loose f_isStudied f_height f_chosen a_text a_tokenKind a_tokenStart a_tokenSize a_code a_meant a_meantMark a_freshKind a_freshStart a_freshSize a_first a_size a_endKind a_sort a_codeSize (upd a_isRead g 1) a_block a_hasValue a_isKnown a_value a_mark a_around a_nesting a_pile a_chosenStart a_chosenSize := by
        refine xh_readExpression (κ := κ) hg hf hz hq qd_fr_le hκ (fun hr hh cs cd' pl' c1 => ?_) (fun r hr hh cd' pl' c1 c2 => ?_)
        · rw [hr] at es
          have es' : qd_srt κ q (a_endKind g) = 0 := es
          refine br_t rfl (br_t rfl ⟨v, ?_⟩)
          rw [cg]
          refine nm_e ?_
          have := h hh (upd a_codeSize g cs) cd' pl' c1 (fun j hj => pk_un hj) (fun y => by omega)
          rw [es'] at this
          exact this
        · rw [hr] at es
          have es' : qd_srt κ q (a_endKind g) = if qd_fr κ q = 2 then 2 else 1 := es
          have ec : qd_cd κ q = r := by unfold qd_cd; rw [hr]; rfl
          have hh' := h hh (upd a_codeSize g (nI r.length)) cd' pl' c1 (fun j hj => pk_un hj) (fun _ => by rw [ec, pk_us]; exact ⟨rfl, c2⟩)
          refine br_f (by decide) (br_f (by decide) ?_)
          by_cases k2 : qd_fr κ q = 2
          · rw [if_pos k2] at hz2 es'
            subst hz2
            rw [es'] at hh'
            refine br_f (by decide) ⟨v, ?_⟩
            rw [cg]
            exact nm_e hh'
          · rw [if_neg k2] at hz2 es'
            subst hz2
            rw [es'] at hh'
            refine br_t rfl ⟨v, ?_⟩
            rw [cg]
            exact nm_e hh'
      by_cases k2 : qd_fr κ q = 2
      · rw [if_pos k2] at hz2
        subst hz2
        rw [k2] at go
        refine br_f (by decide) ⟨v, ?_⟩
        rw [hf, qa_2]; exact go
      · rw [if_neg k2] at hz2
        subst hz2
        have k0 : qd_fr κ q = 0 := by unfold qd_fr at k2 ⊢; split at k2 <;> simp_all
        rw [k0] at go
        refine br_t rfl ⟨v, ?_⟩
        rw [hf]; exact go
    · have es : qd_srt κ q (a_endKind g) = 0 := by unfold qd_srt; rw [if_neg hq0, if_neg h8]
      refine br_t rfl ⟨v, ?_⟩
      rw [cg]
      refine nm_e ?_
      have := h f_height a_codeSize a_code a_pile (fun j _ => rfl) (fun j _ => rfl) (fun y => by omega)
      rw [es] at this
      exact this
  unfold wpX_readStretch
  dsimp only
  rw [cg, hz, hf, qa_b1]
  refine ⟨v, nm_e ⟨v, ?_⟩⟩
  refine pk_eq q 0 (fun q0 => ⟨v, nm_e ?_⟩) (fun q0 => ⟨v, ?_⟩)
  · have es : qd_srt κ q (a_endKind g) = 3 := qd_srt3.mpr q0
    have := h f_height a_codeSize a_code a_pile (fun j _ => rfl) (fun j _ => rfl) (fun y => by omega)
    rw [es] at this
    exact this
  · have nd : ¬ (1 < q ∧ κ 0 = 0 ∧ κ 1 = 2) → wX_readStretch_69 post (nI g) f_length f_tokens f_fresh f_stretches f_marks f_blocks f_loose f_isStudied f_height f_chosen a_text a_tokenKind a_tokenStart a_tokenSize a_code a_meant a_meantMark a_freshKind a_freshStart a_freshSize a_first a_size a_endKind a_sort a_codeSize (upd a_isRead g 1) a_block a_hasValue a_isKnown a_value a_mark a_around a_nesting a_pile a_chosenStart a_chosenSize := fun y => by
      refine e1 0 ?_ q0
      have : qd_fr κ q = 0 := by unfold qd_fr; rw [if_neg y]
      rw [this]; exact rfl
    refine pk_le q 1 (fun q1 => nd (fun y => by omega)) (fun q1 => ⟨v, pk_in f 81 (by omega), ?_⟩)
    have h0 := hκ 0 (by omega)
    have h1 := hκ 1 (by omega)
    rw [nI_1, nI_clamp (by omega), nI_clamp (by omega)]
    refine pk_eq (κ 0) 0 (fun k0 => ⟨v, pk_in (f + 1) 81 (by omega), ?_⟩) (fun k0 => nd (fun y => k0 y.2.1)) h0.1
    refine pk_eq (κ 1) 2 (fun k2 => e1 1 ?_ q0) (fun k2 => nd (fun y => k2 y.2.2)) h1.1
    have : qd_fr κ q = 2 := by unfold qd_fr; rw [if_pos ⟨q1, k0, k2⟩]
    rw [this]; exact rfl
end
end
section
/-! blocks, names -/
def qf_un (a : Nat → Nat) (k x : Nat) : Nat → Nat := fun j => if j = k then x else a j
theorem qf_us {a : Nat → Nat} {k x : Nat} : qf_un a k x k = x := if_pos rfl
theorem qf_ne {a : Nat → Nat} {k x j : Nat} (h : j ≠ k) : qf_un a k x j = a j := if_neg h
/-- block now, number of blocks, around, nesting, loose -/
abbrev qf_S : Type := Nat × Nat × (Nat → Nat) × (Nat → Nat) × Nat
def qf_bs (e : Int32) (s : qf_S) : qf_S :=
  if e = 9 then (s.2.1, s.2.1 + 1, qf_un s.2.2.1 s.2.1 s.1, qf_un s.2.2.2.1 s.2.1 (s.2.2.2.1 s.1 + 1), s.2.2.2.2)
  else if e = 10 then (if s.1 = 0 then (0, s.2.1, s.2.2.1, s.2.2.2.1, s.2.2.2.2 + 1) else (s.2.2.1 s.1, s.2.1, s.2.2.1, s.2.2.2.1, s.2.2.2.2))
  else s
def qf_bl (E : Nat → Int32) : Nat → qf_S
  | 0 => (0, 1, fun _ => 0, fun _ => 0, 0)
  | g + 1 => qf_bs (E g) (qf_bl E g)
def qf_Bf (s : qf_S) (g : Nat) : Prop :=
  s.1 < s.2.1 ∧ s.2.1 ≤ g + 1 ∧ s.2.2.1 0 = 0 ∧ s.2.2.2.1 0 = 0 ∧ (∀ b, 0 < b → b < s.2.1 → s.2.2.1 b < b ∧ s.2.2.2.1 b = s.2.2.2.1 (s.2.2.1 b) + 1) ∧ s.2.2.2.2 ≤ g ∧ (∀ b, b < s.2.1 → s.2.2.2.1 b ≤ b)
theorem qf_bs_f {e : Int32} {s : qf_S} {g : Nat} (h : qf_Bf s g) : qf_Bf (qf_bs e s) (g + 1) ∧ s.2.1 ≤ (qf_bs e s).2.1 := by
  obtain ⟨now, cnt, A, N, lo⟩ := s
  obtain ⟨h1, h2, h3, h4, h5, h6, h7⟩ := h
  have h1 : now < cnt := h1
  have h2 : cnt ≤ g + 1 := h2
  have h3 : A 0 = 0 := h3
  have h4 : N 0 = 0 := h4
  have h5 : ∀ b, 0 < b → b < cnt → A b < b ∧ N b = N (A b) + 1 := h5
  have h6 : lo ≤ g := h6
  have h7 : ∀ b, b < cnt → N b ≤ b := h7
  unfold qf_bs
  by_cases e9 : e = 9
  · rw [if_pos e9]
    refine ⟨⟨Nat.lt_succ_self cnt, Nat.succ_le_succ h2, ?_, ?_, ?_, ?_, ?_⟩, Nat.le_succ cnt⟩
    · show qf_un A cnt now 0 = 0; rw [qf_ne (by omega)]; exact h3
    · show qf_un N cnt (N now + 1) 0 = 0; rw [qf_ne (by omega)]; exact h4
    · intro b b1 b2
      have b2 : b < cnt + 1 := b2
      show qf_un A cnt now b < b ∧ qf_un N cnt (N now + 1) b = qf_un N cnt (N now + 1) (qf_un A cnt now b) + 1
      by_cases eb : b = cnt
      · rw [eb, qf_us, qf_us, qf_ne (by omega)]
        exact ⟨h1, rfl⟩
      · have := h5 b b1 (by omega)
        rw [qf_ne eb, qf_ne eb, qf_ne (by omega)]
        exact this
    · show lo ≤ g + 1; omega
    · intro b b2
      have b2 : b < cnt + 1 := b2
      show qf_un N cnt (N now + 1) b ≤ b
      by_cases eb : b = cnt
      · rw [eb, qf_us]; have := h7 now h1; omega
      · rw [qf_ne eb]; exact h7 b (by omega)
  · rw [if_neg e9]
    by_cases e10 : e = 10
    · rw [if_pos e10]
      by_cases n0 : now = 0
      · rw [if_pos n0]
        exact ⟨⟨show 0 < cnt by omega, show cnt ≤ g + 1 + 1 by omega, h3, h4, h5, Nat.succ_le_succ h6, h7⟩, Nat.le_refl cnt⟩
      · rw [if_neg n0]
        have := h5 now (by omega) h1
        exact ⟨⟨show A now < cnt by omega, show cnt ≤ g + 1 + 1 by omega, h3, h4, h5, Nat.le_succ_of_le h6, h7⟩, Nat.le_refl cnt⟩
    · rw [if_neg e10]
      exact ⟨⟨h1, show cnt ≤ g + 1 + 1 by omega, h3, h4, h5, Nat.le_succ_of_le h6, h7⟩, Nat.le_refl cnt⟩
theorem qf_bl_f (E : Nat → Int32) : ∀ g, qf_Bf (qf_bl E g) g := by
  intro g
  induction g with
  | zero => exact ⟨Nat.zero_lt_one, Nat.le_refl 1, rfl, rfl, fun b b1 b2 => by have b2 : b < 1 := b2; omega, Nat.le_refl 0, fun b _ => Nat.zero_le b⟩
  | succ g ih => exact (qf_bs_f ih).1
theorem qf_bl_c (E : Nat → Int32) (g : Nat) : ∀ d, (qf_bl E g).2.1 ≤ (qf_bl E (g + d)).2.1 := by
  intro d
  induction d with
  | zero => exact Nat.le_refl _
  | succ d ih => exact Nat.le_trans ih (qf_bs_f (qf_bl_f E (g + d))).2
theorem qf_bl_lt {E : Nat → Int32} {g G : Nat} (h : g ≤ G) : (qf_bl E g).1 < (qf_bl E G).2.1 := by
  have := qf_bl_c E g (G - g)
  have e : g + (G - g) = G := by omega
  rw [e] at this
  exact Nat.lt_of_lt_of_le (qf_bl_f E g).1 this
theorem qf_bl_congr {E E' : Nat → Int32} : ∀ g, (∀ j, j < g → E' j = E j) → qf_bl E' g = qf_bl E g := by
  intro g
  induction g with
  | zero => intro _; rfl
  | succ g ih =>
    intro h
    show qf_bs (E' g) (qf_bl E' g) = qf_bs (E g) (qf_bl E g)
    rw [ih (fun j hj => h j (by omega)), h g (by omega)]
def qf_it (A : Nat → Nat) : Nat → Nat → Nat
  | 0, b => b
  | i + 1, b => qf_it A i (A b)
def qf_anc (A : Nat → Nat) (b o : Nat) : Prop := ∃ i, qf_it A i b = o
theorem qf_anc_s {A : Nat → Nat} {b o : Nat} (h : b ≠ o) : qf_anc A b o ↔ qf_anc A (A b) o := by
  constructor
  · intro ⟨i, hi⟩
    cases i with
    | zero => exact absurd hi h
    | succ i => exact ⟨i, hi⟩
  · intro ⟨i, hi⟩; exact ⟨i + 1, hi⟩
theorem qf_anc_0 {A : Nat → Nat} (h0 : A 0 = 0) {o : Nat} : qf_anc A 0 o ↔ 0 = o := by
  constructor
  · intro ⟨i, hi⟩
    induction i with
    | zero => exact hi
    | succ i ih =>
      have hi' : qf_it A i (A 0) = o := hi
      rw [h0] at hi'
      exact ih hi'
  · intro h; exact ⟨0, h⟩
theorem qf_anc_n {s : qf_S} {g o : Nat} (h : qf_Bf s g) : ∀ i b, b < s.2.1 → qf_it s.2.2.1 i b = o → s.2.2.2.1 o ≤ s.2.2.2.1 b ∧ (b = o ∨ s.2.2.2.1 o < s.2.2.2.1 b) := by
  obtain ⟨h1, h2, h3, h4, h5, h6, h7⟩ := h
  intro i
  induction i with
  | zero => intro b hb e; have e : b = o := e; rw [e]; exact ⟨Nat.le_refl _, Or.inl rfl⟩
  | succ i ih =>
    intro b hb e
    have e : qf_it s.2.2.1 i (s.2.2.1 b) = o := e
    by_cases b0 : b = 0
    · rw [b0, h3] at e; rw [b0]; exact ih 0 (by omega) e
    · have := h5 b (by omega) hb
      have := ih (s.2.2.1 b) (by omega) e
      exact ⟨by omega, Or.inr (by omega)⟩
def qf_same (T : Nat → Int32) (S Z : Nat → Nat) (t u : Nat) : Prop := Z t = Z u ∧ ∀ k, k < Z t → T (S t + k) = T (S u + k)
/-- the last k below g with P, or -1 -/
def qf_lk (P : Nat → Prop) (g : Nat) (x : Int32) : Prop := (x = -1 ∧ ∀ k, k < g → ¬ P k) ∨ ∃ k, k < g ∧ x = nI k ∧ P k ∧ ∀ j, k < j → j < g → ¬ P j
section
variable {f_length f_tokens f_fresh f_stretches f_marks f_blocks f_loose f_isStudied f_height f_chosen : Int32} {a_text a_tokenKind a_tokenStart a_tokenSize a_code a_meant a_meantMark a_freshKind a_freshStart a_freshSize a_first a_size a_endKind a_sort a_codeSize a_isRead a_block a_hasValue a_isKnown a_value a_mark a_around a_nesting a_pile a_chosenStart a_chosenSize : Nat → Int32}
variable {G n : Nat} {S Z F : Nat → Nat}
theorem xi_findBlocks {post : SX → Prop} (hG : G ≤ 81)
    (h : ∀ blk ar ne, (∀ g, g < G → blk g = nI (qf_bl a_endKind g).1) → (∀ b, 0 < b → b < (qf_bl a_endKind G).2.1 → ar b = nI ((qf_bl a_endKind G).2.2.1 b)) → (∀ b, b < (qf_bl a_endKind G).2.1 → ne b = nI ((qf_bl a_endKind G).2.2.2.1 b)) →
      post (f_length, f_tokens, f_fresh, nI G, f_marks, nI (qf_bl a_endKind G).2.1, nI ((qf_bl a_endKind G).2.2.2.2 + (qf_bl a_endKind G).2.2.2.1 (qf_bl a_endKind G).1), f_isStudied, f_height, f_chosen, a_text, a_tokenKind, a_tokenStart, a_tokenSize, a_code, a_meant, a_meantMark, a_freshKind, a_freshStart, a_freshSize, a_first, a_size, a_endKind, a_sort, a_codeSize, a_isRead, blk, a_hasValue, a_isKnown, a_value, a_mark, ar, ne, a_pile, a_chosenStart, a_chosenSize)) :
    wpX_findBlocks post (f_length, f_tokens, f_fresh, nI G, f_marks, f_blocks, f_loose, f_isStudied, f_height, f_chosen, a_text, a_tokenKind, a_tokenStart, a_tokenSize, a_code, a_meant, a_meantMark, a_freshKind, a_freshStart, a_freshSize, a_first, a_size, a_endKind, a_sort, a_codeSize, a_isRead, a_block, a_hasValue, a_isKnown, a_value, a_mark, a_around, a_nesting, a_pile, a_chosenStart, a_chosenSize) := by
  have key : ∀ d g blk ar ne, g + d = G → (∀ j, j < g → blk j = nI (qf_bl a_endKind j).1) → (∀ b, 0 < b → b < (qf_bl a_endKind g).2.1 → ar b = nI ((qf_bl a_endKind g).2.2.1 b)) → (∀ b, b < (qf_bl a_endKind g).2.1 → ne b = nI ((qf_bl a_endKind g).2.2.2.1 b)) →
      wX_findBlocks_28 post f_length f_tokens f_fresh (nI G) f_marks f_isStudied f_height f_chosen (d + 1) (nI (qf_bl a_endKind g).1) (nI g) (nI (qf_bl a_endKind g).2.1) (nI (qf_bl a_endKind g).2.2.2.2) a_text a_tokenKind a_tokenStart a_tokenSize a_code a_meant a_meantMark a_freshKind a_freshStart a_freshSize a_first a_size a_endKind a_sort a_codeSize a_isRead blk a_hasValue a_isKnown a_value a_mark ar ne a_pile a_chosenStart a_chosenSize := by
    intro d
    induction d with
    | zero =>
      intro g blk ar ne hg hb ha hn
      obtain rfl : g = G := by omega
      rw [wX_findBlocks_28]
      obtain ⟨b1, b2, b3, b4, b5, b6, b7⟩ := qf_bl_f a_endKind g
      refine br_t (nI_le (Nat.le_refl _) (by omega)) ⟨pk_in (qf_bl a_endKind g).1 82 (by omega), ?_⟩
      refine nm_r ?_ (h blk ar ne hb ha hn)
      rw [nI_clamp (by omega), hn _ b1, nI_add]
    | succ d ih =>
      intro g blk ar ne hg hb ha hn
      rw [wX_findBlocks_28]
      dsimp only
      have hbf := qf_bl_f a_endKind g
      have ihg := fun blk ar ne => ih (g + 1) blk ar ne (by omega)
      have es : qf_bl a_endKind (g + 1) = qf_bs (a_endKind g) (qf_bl a_endKind g) := rfl
      rw [es] at ihg
      generalize hs : qf_bl a_endKind g = s at *
      obtain ⟨now, cnt, A, N, lo⟩ := s
      obtain ⟨b1, b2, b3, b4, b5, b6, b7⟩ := hbf
      have b1 : now < cnt := b1
      have b2 : cnt ≤ g + 1 := b2
      have b6 : lo ≤ g := b6
      have ha : ∀ b, 0 < b → b < cnt → ar b = nI (A b) := ha
      have hn : ∀ b, b < cnt → ne b = nI (N b) := hn
      have cg : (nI g).toNatClampNeg = g := nI_clamp (by omega)
      have vg : vp_in (nI g) 82 := pk_in g 82 (by omega)
      have cn : (nI now).toNatClampNeg = now := nI_clamp (by omega)
      have vn : vp_in (nI now) 82 := pk_in now 82 (by omega)
      have cc : (nI cnt).toNatClampNeg = cnt := nI_clamp (by omega)
      have vc : vp_in (nI cnt) 82 := pk_in cnt 82 (by omega)
      have hblk : ∀ j, j < g + 1 → upd blk g (nI now) j = nI (qf_bl a_endKind j).1 := by
        intro j hj
        by_cases e : j = g
        · rw [e, pk_us, hs]
        · rw [pk_un e]; exact hb j (by omega)
      rw [cg, cn, cc]
      refine br_f (nI_ge (by omega) (by omega)) ⟨vg, nm_e ⟨vg, ?_⟩⟩
      by_cases e9 : a_endKind g = 9
      · refine br_t e9 ⟨vc, nm_e ⟨vn, vc, ?_⟩⟩
        rw [hn now b1, nI_1]
        refine nm_e (nm_r (nI_1 cnt) (nm_r (nI_1 g) ?_))
        have z := ihg (upd blk g (nI now)) (upd ar cnt (nI now)) (upd ne cnt (nI (N now + 1))) hblk
        unfold qf_bs at z
        rw [if_pos e9] at z
        refine z (fun b h1 h2 => ?_) (fun b h2 => ?_)
        · have h2 : b < cnt + 1 := h2
          show upd ar cnt (nI now) b = nI (qf_un A cnt now b)
          by_cases eb : b = cnt
          · rw [eb, pk_us, qf_us]
          · rw [pk_un eb, qf_ne eb]; exact ha b h1 (by omega)
        · have h2 : b < cnt + 1 := h2
          show upd ne cnt (nI (N now + 1)) b = nI (qf_un N cnt (N now + 1) b)
          by_cases eb : b = cnt
          · rw [eb, pk_us, qf_us]
          · rw [pk_un eb, qf_ne eb]; exact hn b (by omega)
      · refine br_f e9 ⟨vg, ?_⟩
        by_cases e10 : a_endKind g = 10
        · refine br_t e10 (pk_eq now 0 (fun n0 => ?_) (fun n0 => ?_))
          · subst n0
            have z := ihg (upd blk g (nI 0)) ar ne hblk
            unfold qf_bs at z
            rw [if_neg e9, if_pos e10, if_pos rfl] at z
            exact nm_r (nI_1 lo) (nm_r (nI_1 g) (z ha hn))
          · have z := ihg (upd blk g (nI now)) ar ne hblk
            unfold qf_bs at z
            rw [if_neg e9, if_pos e10, if_neg n0] at z
            refine ⟨vg, br_t (by rw [cg]; exact e10) ⟨vn, nm_r (e' := nI (A now)) (by rw [cn]; exact ha now (by omega) b1) (nm_r (nI_1 g) (z ha hn))⟩⟩
        · have z := ihg (upd blk g (nI now)) ar ne hblk
          unfold qf_bs at z
          rw [if_neg e9, if_neg e10] at z
          exact br_f e10 ⟨vg, br_f (by rw [cg]; exact e10) (nm_r (nI_1 g) (z ha hn))⟩
  have z := key G 0 a_block (upd a_around 0 (-1)) (upd a_nesting 0 0) (by omega) (fun j hj => by omega) (fun b h1 h2 => by have h2 : b < 1 := h2; omega) (fun b h2 => by have h2 : b < 1 := h2; obtain rfl : b = 0 := (by omega); exact pk_us)
  exact nm_e (nm_e ⟨G + 1, z⟩)
/-- isAround asks whether the inner block stands in the outer one -/
theorem xi_isAround {post : Int32 → Prop} {s : qf_S} {o b W : Nat} (hs : qf_Bf s W) (hG : W ≤ 80) (ho : o < s.2.1) (hb : b < s.2.1) (ha : ∀ b, 0 < b → b < s.2.1 → a_around b = nI (s.2.2.1 b)) (hn : ∀ b, b < s.2.1 → a_nesting b = nI (s.2.2.2.1 b))
    (h1 : qf_anc s.2.2.1 b o → post 1) (h0 : ¬ qf_anc s.2.2.1 b o → post 0) : wpX_isAround post (f_length, f_tokens, f_fresh, f_stretches, f_marks, f_blocks, f_loose, f_isStudied, f_height, f_chosen, a_text, a_tokenKind, a_tokenStart, a_tokenSize, a_code, a_meant, a_meantMark, a_freshKind, a_freshStart, a_freshSize, a_first, a_size, a_endKind, a_sort, a_codeSize, a_isRead, a_block, a_hasValue, a_isKnown, a_value, a_mark, a_around, a_nesting, a_pile, a_chosenStart, a_chosenSize) (nI o) (nI b) := by
  have hs' := hs
  obtain ⟨s1, s2, s3, s4, s5, s6, s7⟩ := hs
  have key : ∀ d b' i, b' < s.2.1 → s.2.2.2.1 b' < d → i + s.2.2.2.1 b' ≤ 80 → (qf_anc s.2.2.1 b' o ↔ qf_anc s.2.2.1 b o) → wX_isAround_5 post (nI o) f_length f_tokens f_fresh f_stretches f_marks f_blocks f_loose f_isStudied f_height f_chosen a_text a_tokenKind a_tokenStart a_tokenSize a_code a_meant a_meantMark a_freshKind a_freshStart a_freshSize a_first a_size a_endKind a_sort a_codeSize a_isRead a_block a_hasValue a_isKnown a_value a_mark a_around a_nesting a_pile a_chosenStart a_chosenSize d (nI b') (nI i) := by
    intro d
    induction d with
    | zero => intro b' i _ h; omega
    | succ d ih =>
      intro b' i hb' hd hi hiff
      rw [wX_isAround_5]
      dsimp only
      have hN := s7 b' hb'
      have hNo := s7 o ho
      have c1 : (nI b').toNatClampNeg = b' := nI_clamp (by omega)
      have c2 : (nI o).toNatClampNeg = o := nI_clamp (by omega)
      have v1 : vp_in (nI b') 82 := pk_in b' 82 (by omega)
      have v2 : vp_in (nI o) 82 := pk_in o 82 (by omega)
      rw [c1, c2, hn b' hb', hn o ho]
      refine pk_le 81 i (fun h8 => by omega) (fun h8 => ⟨v1, v2, ?_⟩)
      refine pk_le (s.2.2.2.1 b') (s.2.2.2.1 o) (fun hle => ?_) (fun hgt => ⟨v1, ?_⟩)
      · have : qf_anc s.2.2.1 b' o ↔ b' = o := by
          constructor
          · intro ⟨j, hj⟩
            rcases (qf_anc_n hs' j b' hb' hj).2 with z | z
            · exact z
            · omega
          · intro z; exact ⟨0, z⟩
        exact pk_eq b' o (fun e => h1 (hiff.mp (this.mpr e))) (fun e => h0 (fun z => e (this.mp (hiff.mpr z))))
      · have hne : b' ≠ o := fun e => by rw [e] at hgt; omega
        have hb0 : 0 < b' := by
          refine Nat.pos_of_ne_zero (fun e => ?_)
          rw [e, s4] at hgt; omega
        have := s5 b' hb0 hb'
        refine nm_r (ha b' hb0 hb') (nm_r (nI_1 i) (ih (s.2.2.1 b') (i + 1) (by omega) (by omega) (by omega) ?_))
        rw [← qf_anc_s hne]; exact hiff
  have hN := s7 b hb
  exact ⟨s.2.2.2.1 b + 1, key _ b 0 hb (by omega) (by omega) Iff.rfl⟩
theorem xi_sameName {post : Int32 → Prop} {t u L : Nat} (hn : n ≤ 80) (hL : L ≤ 80) (ht : t < n) (hu : u < n) (hr : ∀ j, j < n → a_tokenStart j = nI (S j) ∧ a_tokenSize j = nI (Z j) ∧ S j + Z j ≤ L)
    (h1 : qf_same a_text S Z t u → post 1) (h0 : ¬ qf_same a_text S Z t u → post 0) : wpX_sameName post (f_length, f_tokens, f_fresh, f_stretches, f_marks, f_blocks, f_loose, f_isStudied, f_height, f_chosen, a_text, a_tokenKind, a_tokenStart, a_tokenSize, a_code, a_meant, a_meantMark, a_freshKind, a_freshStart, a_freshSize, a_first, a_size, a_endKind, a_sort, a_codeSize, a_isRead, a_block, a_hasValue, a_isKnown, a_value, a_mark, a_around, a_nesting, a_pile, a_chosenStart, a_chosenSize) (nI t) (nI u) := by
  have ct : (nI t).toNatClampNeg = t := nI_clamp (by omega)
  have cu : (nI u).toNatClampNeg = u := nI_clamp (by omega)
  have vt : vp_in (nI t) 81 := pk_in t 81 (by omega)
  have vu : vp_in (nI u) 81 := pk_in u 81 (by omega)
  have rt := hr t ht
  have ru := hr u hu
  have no : ¬ qf_same a_text S Z t u → ∀ d i, 0 < d → wX_sameName_24 post (nI t) (nI u) f_length f_tokens f_fresh f_stretches f_marks f_blocks f_loose f_isStudied f_height f_chosen a_text a_tokenKind a_tokenStart a_tokenSize a_code a_meant a_meantMark a_freshKind a_freshStart a_freshSize a_first a_size a_endKind a_sort a_codeSize a_isRead a_block a_hasValue a_isKnown a_value a_mark a_around a_nesting a_pile a_chosenStart a_chosenSize d 0 i := by
    intro hne d i hd
    obtain ⟨d, rfl⟩ : ∃ d', d = d' + 1 := ⟨d - 1, by omega⟩
    rw [wX_sameName_24]
    exact ⟨vt, br_c (fun _ => ⟨rfl, h0 hne⟩) (fun _ => br_t rfl ⟨rfl, h0 hne⟩)⟩
  have key : Z t = Z u → ∀ d i, i ≤ Z t → Z t - i < d → (∀ k, k < i → a_text (S t + k) = a_text (S u + k)) → wX_sameName_24 post (nI t) (nI u) f_length f_tokens f_fresh f_stretches f_marks f_blocks f_loose f_isStudied f_height f_chosen a_text a_tokenKind a_tokenStart a_tokenSize a_code a_meant a_meantMark a_freshKind a_freshStart a_freshSize a_first a_size a_endKind a_sort a_codeSize a_isRead a_block a_hasValue a_isKnown a_value a_mark a_around a_nesting a_pile a_chosenStart a_chosenSize (d + 1) 1 (nI i) := by
    intro hz d
    induction d with
    | zero => intro i _ h; omega
    | succ d ih =>
      intro i hi hd hk
      rw [wX_sameName_24]
      dsimp only
      rw [ct, cu, rt.1, rt.2.1, ru.1, nI_add, nI_add]
      refine ⟨vt, pk_le (Z t) i (fun h2 => ⟨rfl, h1 ⟨hz, fun k hk' => hk k (by omega)⟩⟩) (fun h2 => br_f (by decide) ⟨vt, pk_in (S t + i) 80 (by omega), vu, pk_in (S u + i) 80 (by omega), ?_⟩)⟩
      rw [nI_clamp (by omega), nI_clamp (by omega)]
      refine br_c (fun e => nm_r (nI_1 i) (ih (i + 1) (by omega) (by omega) (fun k hk' => ?_))) (fun e => nm_e (no (fun z => e (z.2 i h2)) _ _ (by omega)))
      by_cases z : k = i
      · rw [z]; exact e
      · exact hk k (by omega)
  refine ⟨vt, vu, ?_⟩
  rw [ct, cu, rt.2.1, ru.2.1]
  exact pk_eq (Z t) (Z u) (fun hz => ⟨Z t + 1 + 1, key hz (Z t + 1) 0 (by omega) (by omega) (fun k hk => by omega)⟩) (fun hz => ⟨1, no (fun z => hz z.1) 1 0 (by omega)⟩)
/-- lookUp finds the last definition before, in a block around, of that name -/
theorem xi_lookUp {post : Int32 → Prop} {s : qf_S} {g t L W : Nat} {sr B : Nat → Nat} {P : Nat → Prop} (hs : qf_Bf s W) (hW : W ≤ 80) (hG : G ≤ 81) (hg : g < G) (hn : n ≤ 80) (hL : L ≤ 80) (ht : t < n)
    (hB : ∀ k, k < G → a_block k = nI (B k) ∧ B k < s.2.1) (hsr : ∀ k, k < g → a_sort k = nI (sr k) ∧ sr k ≤ 3) (hF : ∀ k, k < G → a_first k = nI (F k)) (hFn : ∀ k, k < g → sr k = 2 → F k < n)
    (ha : ∀ b, 0 < b → b < s.2.1 → a_around b = nI (s.2.2.1 b)) (hne : ∀ b, b < s.2.1 → a_nesting b = nI (s.2.2.2.1 b)) (hr : ∀ j, j < n → a_tokenStart j = nI (S j) ∧ a_tokenSize j = nI (Z j) ∧ S j + Z j ≤ L)
    (hP : ∀ k, P k ↔ (sr k = 2 ∧ qf_anc s.2.2.1 (B g) (B k) ∧ qf_same a_text S Z (F k) t))
    (h : ∀ x, qf_lk P g x → post x) : wpX_lookUp post (f_length, f_tokens, f_fresh, f_stretches, f_marks, f_blocks, f_loose, f_isStudied, f_height, f_chosen, a_text, a_tokenKind, a_tokenStart, a_tokenSize, a_code, a_meant, a_meantMark, a_freshKind, a_freshStart, a_freshSize, a_first, a_size, a_endKind, a_sort, a_codeSize, a_isRead, a_block, a_hasValue, a_isKnown, a_value, a_mark, a_around, a_nesting, a_pile, a_chosenStart, a_chosenSize) (nI g) (nI t) := by
  have cg : (nI g).toNatClampNeg = g := nI_clamp (by omega)
  have key : ∀ k d, k ≤ g → k < d → (∀ j, k ≤ j → j < g → ¬ P j) → wX_lookUp_4 post (nI g) (nI t) f_length f_tokens f_fresh f_stretches f_marks f_blocks f_loose f_isStudied f_height f_chosen a_text a_tokenKind a_tokenStart a_tokenSize a_code a_meant a_meantMark a_freshKind a_freshStart a_freshSize a_first a_size a_endKind a_sort a_codeSize a_isRead a_block a_hasValue a_isKnown a_value a_mark a_around a_nesting a_pile a_chosenStart a_chosenSize d (nI k - 1) := by
    intro k
    induction k with
    | zero =>
      intro d _ hd hno
      obtain ⟨d, rfl⟩ : ∃ d', d = d' + 1 := ⟨d - 1, by omega⟩
      rw [wX_lookUp_4]
      exact br_t (by decide) (h _ (Or.inl ⟨rfl, fun k hk => hno k (by omega) hk⟩))
    | succ k ih =>
      intro d hk hd hno
      obtain ⟨d, rfl⟩ : ∃ d', d = d' + 1 := ⟨d - 1, by omega⟩
      rw [wX_lookUp_4]
      dsimp only
      have ck : (nI k).toNatClampNeg = k := nI_clamp (by omega)
      have vk : vp_in (nI k) 82 := pk_in k 82 (by omega)
      have rs := hsr k (by omega)
      rw [nI_pred, ck, cg, (hB k (by omega)).1, (hB g hg).1, hF k (by omega), xc_pm]
      have go : ¬ P k → wX_lookUp_4 post (nI g) (nI t) f_length f_tokens f_fresh f_stretches f_marks f_blocks f_loose f_isStudied f_height f_chosen a_text a_tokenKind a_tokenStart a_tokenSize a_code a_meant a_meantMark a_freshKind a_freshStart a_freshSize a_first a_size a_endKind a_sort a_codeSize a_isRead a_block a_hasValue a_isKnown a_value a_mark a_around a_nesting a_pile a_chosenStart a_chosenSize d (nI k - 1) := fun hp => ih d (by omega) (by omega) (fun j h1 h2 => by
        by_cases z : j = k
        · rw [z]; exact hp
        · exact hno j (by omega) h2)
      refine br_f (nI_pos (by omega)) ⟨vk, ?_⟩
      refine pk_eq (sr k) 2 (fun e2 => ⟨vk, pk_in g 82 (by omega), ?_⟩) (fun e2 => nm_e (go (fun z => e2 ((hP k).mp z).1))) rs.1
      refine xi_isAround hs hW (hB k (by omega)).2 (hB g hg).2 ha hne (fun hanc => br_f (by decide) ⟨vk, ?_⟩) (fun hanc => br_t rfl (nm_e (go (fun z => hanc ((hP k).mp z).2.1))))
      refine xi_sameName hn hL (hFn k (by omega) e2) ht hr (fun hsm => br_f (by decide) ?_) (fun hsm => br_t rfl (nm_e (go (fun z => hsm ((hP k).mp z).2.2))))
      exact h _ (Or.inr ⟨k, by omega, rfl, (hP k).mpr ⟨e2, hanc, hsm⟩, fun j h1 h2 => hno j (by omega) h2⟩)
  exact nm_e ⟨g + 1, key g (g + 1) (Nat.le_refl _) (by omega) (fun j h1 h2 => by omega)⟩
end
end
section
/-! X: meanings, values -/
def qd_ra : List Nat → List Nat → List Nat
  | [], a => a
  | x :: c, a => qd_ra c (x :: a)
theorem qd_ra_eq : ∀ c a, qd_ra c a = c.reverse ++ a := by
  intro c
  induction c with
  | nil => intro a; rfl
  | cons x c ih => intro a; show qd_ra c (x :: a) = _; rw [ih]; simp
theorem qd_ra_rev (r : List Nat) : qd_ra r.reverse [] = r := by rw [qd_ra_eq]; simp
theorem qd_ra_len : ∀ c a, (qd_ra c a).length = c.length + a.length := by intro c a; rw [qd_ra_eq]; simp
theorem qd_ra_mem : ∀ c a t, t ∈ c ∨ t ∈ a → t ∈ qd_ra c a := by intro c a t h; rw [qd_ra_eq]; simpa using h
theorem qe_rp_suf {a : Nat → Int32} : ∀ c l, qe_rp a ((qd_ra c l).map nI) → qe_rp a (l.map nI) := by
  intro c
  induction c with
  | nil => intro l h; exact h
  | cons x c ih => intro l h; exact (ih (x :: l) h).2
theorem qd_wd_suf {κ : Nat → Nat} : ∀ c l d, qd_wd κ (qd_ra c l) = some d → ∃ d', qd_wd κ l = some d' := by
  intro c
  induction c with
  | nil => intro l d h; exact ⟨d, h⟩
  | cons x c ih =>
    intro l d h
    obtain ⟨d', hd⟩ := ih (x :: l) d h
    have hd' : ((qd_wd κ l).bind fun d => if κ x ≤ 1 then some (d + 1) else if 2 ≤ d then some (d - 1) else none) = some d' := hd
    cases hw : qd_wd κ l with
    | none => rw [hw] at hd'; exact absurd hd' (by simp)
    | some e => exact ⟨e, rfl⟩
theorem qd_wd_2 {κ : Nat → Nat} {o d : Nat} {l : List Nat} (h : qd_wd κ (o :: l) = some d) (ho : ¬ κ o ≤ 1) : ∃ d', qd_wd κ l = some d' ∧ 2 ≤ d' := by
  have hd' : ((qd_wd κ l).bind fun d => if κ o ≤ 1 then some (d + 1) else if 2 ≤ d then some (d - 1) else none) = some d := h
  cases hw : qd_wd κ l with
  | none => rw [hw] at hd'; exact absurd hd' (by simp)
  | some e =>
    rw [hw] at hd'
    have h2 : (if κ o ≤ 1 then some (e + 1) else if 2 ≤ e then some (e - 1) else none) = some d := hd'
    rw [if_neg ho] at h2
    by_cases c : 2 ≤ e
    · exact ⟨e, rfl, c⟩
    · rw [if_neg c] at h2; exact absurd h2 (by simp)
theorem qd_ev_le {κ : Nat → Nat} {nf : Nat → Int32} {env : Nat → Int32 × Int32} : ∀ r, (qd_ev κ nf env r).2.length ≤ r.length + 1 := by
  intro r
  induction r with
  | nil => exact Nat.zero_le _
  | cons o r ih =>
    show (qd_sp κ nf env o (qd_ev κ nf env r)).2.length ≤ r.length + 1 + 1
    unfold qd_sp
    split
    · show (qd_ev κ nf env r).2.length + 1 ≤ _; omega
    · split
      · show (qd_ev κ nf env r).2.length + 1 ≤ _; omega
      · show (qd_ev κ nf env r).2.tail.tail.length + 1 ≤ _
        rw [List.length_tail, List.length_tail]; omega
def qf_env (kn vl : Nat → Int32) (m : Int32) : Int32 × Int32 := if m = -1 then (0, 0) else (kn m.toNatClampNeg, vl m.toNatClampNeg)
def qf_mkv (mk : Nat → Int32) (m : Int32) : Int32 := if m = -1 then -1 else mk m.toNatClampNeg
theorem qf_lk_b {P : Nat → Prop} {g : Nat} {x : Int32} (h : qf_lk P g x) : x = -1 ∨ ∃ k, k < g ∧ x = nI k := by
  rcases h with ⟨h, _⟩ | ⟨k, h1, h2, _⟩
  · exact Or.inl h
  · exact Or.inr ⟨k, h1, h2⟩
section
variable {f_length f_tokens f_fresh f_stretches f_marks f_blocks f_loose f_isStudied f_height f_chosen : Int32} {a_text a_tokenKind a_tokenStart a_tokenSize a_code a_meant a_meantMark a_freshKind a_freshStart a_freshSize a_first a_size a_endKind a_sort a_codeSize a_isRead a_block a_hasValue a_isKnown a_value a_mark a_around a_nesting a_pile a_chosenStart a_chosenSize : Nat → Int32}
variable {g f q n L : Nat} {κ S Z : Nat → Nat}
theorem xj_numberOf {post : Int32 → Prop} {t s z : Nat} (ht : t < 81) (hs : a_tokenStart t = nI s) (hz : a_tokenSize t = nI z) (hb : s + z ≤ 80) (h : post (qe_num a_text s z)) : wpX_numberOf post (f_length, f_tokens, f_fresh, f_stretches, f_marks, f_blocks, f_loose, f_isStudied, f_height, f_chosen, a_text, a_tokenKind, a_tokenStart, a_tokenSize, a_code, a_meant, a_meantMark, a_freshKind, a_freshStart, a_freshSize, a_first, a_size, a_endKind, a_sort, a_codeSize, a_isRead, a_block, a_hasValue, a_isKnown, a_value, a_mark, a_around, a_nesting, a_pile, a_chosenStart, a_chosenSize) (nI t) := by
  have ct : (nI t).toNatClampNeg = t := nI_clamp (by omega)
  have vt : vp_in (nI t) 81 := pk_in t 81 (by omega)
  have key : ∀ d i, i + d = z → wX_numberOf_4 post (nI t) f_length f_tokens f_fresh f_stretches f_marks f_blocks f_loose f_isStudied f_height f_chosen a_text a_tokenKind a_tokenStart a_tokenSize a_code a_meant a_meantMark a_freshKind a_freshStart a_freshSize a_first a_size a_endKind a_sort a_codeSize a_isRead a_block a_hasValue a_isKnown a_value a_mark a_around a_nesting a_pile a_chosenStart a_chosenSize (d + 1) (qe_num a_text s i) (nI i) := by
    intro d
    induction d with
    | zero =>
      intro i hi
      obtain rfl : i = z := by omega
      rw [wX_numberOf_4]
      refine ⟨vt, ?_⟩
      rw [ct, hz]
      exact br_t (nI_le (Nat.le_refl _) (by omega)) h
    | succ d ih =>
      intro i hi
      rw [wX_numberOf_4]
      refine ⟨vt, ?_⟩
      rw [ct, hz, hs, nI_add]
      refine br_f (nI_ge (by omega) (by omega)) ⟨vt, pk_in (s + i) 80 (by omega), ?_⟩
      rw [nI_clamp (by omega)]
      exact nm_e (nm_r (nI_1 i) (ih (i + 1) (by omega)))
  exact ⟨z + 1, key z 0 (by omega)⟩
theorem xj_joined {post : Int32 → Prop} {k : Nat} {x y : Int32} (hk : k ≤ 10) (h : post (qd_jn k x y)) : wpX_joined post (f_length, f_tokens, f_fresh, f_stretches, f_marks, f_blocks, f_loose, f_isStudied, f_height, f_chosen, a_text, a_tokenKind, a_tokenStart, a_tokenSize, a_code, a_meant, a_meantMark, a_freshKind, a_freshStart, a_freshSize, a_first, a_size, a_endKind, a_sort, a_codeSize, a_isRead, a_block, a_hasValue, a_isKnown, a_value, a_mark, a_around, a_nesting, a_pile, a_chosenStart, a_chosenSize) (nI k) x y := by
  unfold qd_jn at h
  refine pk_eq k 4 (fun e => ?_) (fun e => pk_eq k 5 (fun e5 => ?_) (fun e5 => ?_))
  · rw [if_pos e] at h; exact h
  · rw [if_neg e, if_pos e5] at h; exact h
  · rw [if_neg e, if_neg e5] at h
    refine br_c (fun z => ?_) (fun z => ?_)
    · rw [if_pos z] at h; exact h
    · rw [if_neg z] at h; exact h
/-- what sameMeanings leaves, for the names of the code r -/
def xj_M (κ : Nat → Nat) (f q g : Nat) (P : Nat → Nat → Prop) (mk me0 mm0 : Nat → Int32) (r : List Nat) (x : Int32) (me mm : Nat → Int32) : Prop :=
  (x = 0 ∨ (x = 1 ∧ mm = mm0)) ∧ (∀ j, (j < f ∨ f + q ≤ j) → me j = me0 j ∧ mm j = mm0 j) ∧ (∀ o, o ∈ r → κ o = 0 → qf_lk (P (f + o)) g (me (f + o)) ∧ mm (f + o) = qf_mkv mk (me (f + o)))
theorem xj_sameMeanings {post : Int32 → SX → Prop} {P : Nat → Nat → Prop} {r : List Nat} {m0 : Nat} (hg : g < 81) (hf : a_first g = nI f) (hq : f + q ≤ 80) (hκ : ∀ o, o < q → a_tokenKind (f + o) = nI (κ o) ∧ κ o < 8) (hcs : a_codeSize g = nI r.length) (hcd : qe_rp (qe_rl f q a_code) (r.map nI)) (hr : r.length ≤ q) (hro : ∀ o, o ∈ r → o < q) (hMK : ∀ j, qe_MK m0 (a_meantMark j)) (hmk : ∀ j, qe_MK m0 (a_mark j))
    (hlk : ∀ (q : Int32 → Prop) (me mm : Nat → Int32) o, o ∈ r → κ o = 0 → (∀ x, qf_lk (P (f + o)) g x → q x) → wpX_lookUp q (f_length, f_tokens, f_fresh, f_stretches, f_marks, f_blocks, f_loose, f_isStudied, f_height, f_chosen, a_text, a_tokenKind, a_tokenStart, a_tokenSize, a_code, me, mm, a_freshKind, a_freshStart, a_freshSize, a_first, a_size, a_endKind, a_sort, a_codeSize, a_isRead, a_block, a_hasValue, a_isKnown, a_value, a_mark, a_around, a_nesting, a_pile, a_chosenStart, a_chosenSize) (nI g) (nI (f + o)))
    (h : ∀ x me mm, xj_M κ f q g P a_mark a_meant a_meantMark r x me mm → (∀ j, qe_MK m0 (mm j)) → post x (f_length, f_tokens, f_fresh, f_stretches, f_marks, f_blocks, f_loose, f_isStudied, f_height, f_chosen, a_text, a_tokenKind, a_tokenStart, a_tokenSize, a_code, me, mm, a_freshKind, a_freshStart, a_freshSize, a_first, a_size, a_endKind, a_sort, a_codeSize, a_isRead, a_block, a_hasValue, a_isKnown, a_value, a_mark, a_around, a_nesting, a_pile, a_chosenStart, a_chosenSize)) :
    wpX_sameMeanings post (f_length, f_tokens, f_fresh, f_stretches, f_marks, f_blocks, f_loose, f_isStudied, f_height, f_chosen, a_text, a_tokenKind, a_tokenStart, a_tokenSize, a_code, a_meant, a_meantMark, a_freshKind, a_freshStart, a_freshSize, a_first, a_size, a_endKind, a_sort, a_codeSize, a_isRead, a_block, a_hasValue, a_isKnown, a_value, a_mark, a_around, a_nesting, a_pile, a_chosenStart, a_chosenSize) (nI g) := by
  have cg : (nI g).toNatClampNeg = g := nI_clamp (by omega)
  have vg : vp_in (nI g) 82 := pk_in g 82 (by omega)
  have key : ∀ c acc x me mm, qd_ra c acc = r → xj_M κ f q g P a_mark a_meant a_meantMark acc x me mm → (∀ j, qe_MK m0 (mm j)) → wX_sameMeanings_4 post (nI g) f_length f_tokens f_fresh f_stretches f_marks f_blocks f_loose f_isStudied f_height f_chosen (c.length + 1) x (nI acc.length) a_text a_tokenKind a_tokenStart a_tokenSize a_code me mm a_freshKind a_freshStart a_freshSize a_first a_size a_endKind a_sort a_codeSize a_isRead a_block a_hasValue a_isKnown a_value a_mark a_around a_nesting a_pile a_chosenStart a_chosenSize := by
    intro c
    induction c with
    | nil =>
      intro acc x me mm hra hM hmm
      have e : acc = r := hra
      subst e
      rw [wX_sameMeanings_4]
      refine ⟨vg, ?_⟩
      rw [cg, hcs]
      have hx : x = 0 ∨ x = 1 := by
        rcases hM.1 with z | z
        · exact Or.inl z
        · exact Or.inr z.1
      exact br_t (nI_le (Nat.le_refl _) (by omega)) ⟨qa_n01 hx, h x me mm hM hmm⟩
    | cons o c ih =>
      intro acc x me mm hra hM hmm
      have hra' : qd_ra c (o :: acc) = r := hra
      have hl : c.length + (acc.length + 1) = r.length := by rw [← hra', qd_ra_len, List.length_cons]
      have hor : o ∈ r := by rw [← hra']; exact qd_ra_mem _ _ _ (Or.inr List.mem_cons_self)
      have ho := hro o hor
      have hco : a_code (f + acc.length) = nI o := by
        rw [← hra'] at hcd
        have z := (qe_rp_suf c (o :: acc) hcd).1
        rw [List.length_map] at z
        have z : (if acc.length < q then a_code (f + acc.length) else 0) = nI o := z
        rw [if_pos (by omega)] at z
        exact z
      have hk := hκ o ho
      rw [List.length_cons, wX_sameMeanings_4]
      refine ⟨vg, ?_⟩
      rw [cg, hcs, hf, nI_add, nI_clamp (by omega), hco, nI_add]
      refine br_f (nI_ge (by omega) (by omega)) ⟨vg, vg, pk_in (f + acc.length) 81 (by omega), nm_e ⟨pk_in (f + o) 81 (by omega), ?_⟩⟩
      rw [nI_clamp (by omega)]
      have vo : vp_in (nI (f + o)) 81 := pk_in (f + o) 81 (by omega)
      refine pk_eq (κ o) 0 (fun k0 => ?_) (fun k0 => ?_) hk.1
      · refine hlk _ me mm o hor k0 (fun y hy => ?_)
        have fin : ∀ z, (z = 0 ∨ (z = 1 ∧ upd mm (f + o) (qf_mkv a_mark y) = a_meantMark)) → wX_sameMeanings_95 post (wX_sameMeanings_4 post (nI g) f_length f_tokens f_fresh f_stretches f_marks f_blocks f_loose f_isStudied f_height f_chosen (c.length + 1)) (nI g) (nI acc.length) (nI (f + o)) y (qf_mkv a_mark y) z f_length f_tokens f_fresh f_stretches f_marks f_blocks f_loose f_isStudied f_height f_chosen a_text a_tokenKind a_tokenStart a_tokenSize a_code me mm a_freshKind a_freshStart a_freshSize a_first a_size a_endKind a_sort a_codeSize a_isRead a_block a_hasValue a_isKnown a_value a_mark a_around a_nesting a_pile a_chosenStart a_chosenSize := by
          intro z hz
          unfold wX_sameMeanings_95
          rw [nI_clamp (by omega)]
          refine ⟨vo, nm_e ⟨vo, nm_e (nm_r (nI_1 acc.length) ?_)⟩⟩
          refine ih (o :: acc) z _ _ hra' ⟨hz, fun j hj => ?_, fun t ht kt => ?_⟩ (fun j => ?_)
          · rw [pk_un (by omega), pk_un (by omega)]; exact hM.2.1 j hj
          · by_cases e : t = o
            · rw [e, pk_us, pk_us]; exact ⟨hy, rfl⟩
            · rw [pk_un (by omega), pk_un (by omega)]
              rcases List.mem_cons.mp ht with z | z
              · exact absurd z e
              · exact hM.2.2 t z kt
          · refine qa_upd_all hmm ?_ j
            unfold qf_mkv
            split
            · exact Or.inl rfl
            · exact hmk _
        have s72 : wX_sameMeanings_72 post (wX_sameMeanings_4 post (nI g) f_length f_tokens f_fresh f_stretches f_marks f_blocks f_loose f_isStudied f_height f_chosen (c.length + 1)) (nI g) x (nI acc.length) (nI (f + o)) y (qf_mkv a_mark y) f_length f_tokens f_fresh f_stretches f_marks f_blocks f_loose f_isStudied f_height f_chosen a_text a_tokenKind a_tokenStart a_tokenSize a_code me mm a_freshKind a_freshStart a_freshSize a_first a_size a_endKind a_sort a_codeSize a_isRead a_block a_hasValue a_isKnown a_value a_mark a_around a_nesting a_pile a_chosenStart a_chosenSize := by
          rcases hM.1 with x0 | ⟨x1, x2⟩
          · rw [x0]
            exact br_t rfl (fin 0 (Or.inl rfl))
          · rw [x1]
            refine br_f (by decide) ⟨vo, ?_⟩
            rw [nI_clamp (by omega)]
            refine br_c (fun e => fin 1 (Or.inr ⟨rfl, ?_⟩)) (fun e => fin 0 (Or.inl rfl))
            rw [← e, ← x2]
            funext j
            show (if j = f + o then mm (f + o) else mm j) = mm j
            by_cases z : j = f + o
            · rw [if_pos z, z]
            · rw [if_neg z]
        rcases qf_lk_b hy with e | ⟨k, hk1, e⟩
        · have em : qf_mkv a_mark y = -1 := by unfold qf_mkv; rw [if_pos e]
          rw [em] at s72
          exact br_t e s72
        · have em : qf_mkv a_mark y = a_mark y.toNatClampNeg := by
            unfold qf_mkv; rw [if_neg (by rw [e]; exact qa_ne1 (by omega))]
          rw [em] at s72
          exact br_f (by rw [e]; exact qa_ne1 (by omega)) ⟨by rw [e]; exact pk_in k 82 (by omega), s72⟩
      · refine nm_r (nI_1 acc.length) (ih (o :: acc) x me mm hra' ⟨hM.1, hM.2.1, fun t ht kt => ?_⟩ hmm)
        rcases List.mem_cons.mp ht with z | z
        · rw [z] at kt; exact absurd kt k0
        · exact hM.2.2 t z kt
  exact ⟨_, key r.reverse [] 1 a_meant a_meantMark (qd_ra_rev r) ⟨Or.inr ⟨rfl, rfl⟩, fun j _ => ⟨rfl, rfl⟩, fun o ho => absurd ho (by simp)⟩ hMK⟩
end
end
section
/-! X: a stretch worked out -/
section
variable {f_length f_tokens f_fresh f_stretches f_marks f_blocks f_loose f_isStudied f_height f_chosen : Int32} {a_text a_tokenKind a_tokenStart a_tokenSize a_code a_meant a_meantMark a_freshKind a_freshStart a_freshSize a_first a_size a_endKind a_sort a_codeSize a_isRead a_block a_hasValue a_isKnown a_value a_mark a_around a_nesting a_pile a_chosenStart a_chosenSize : Nat → Int32}
variable {g f q n : Nat} {κ : Nat → Nat} {nf : Nat → Int32}
theorem xk_workOut {post : SX → Prop} {r : List Nat} (hg : g < 81) (hf : a_first g = nI f) (hq : f + q ≤ 80) (hκ : ∀ o, o < q → a_tokenKind (f + o) = nI (κ o) ∧ κ o < 8) (hcs : a_codeSize g = nI r.length) (hcd : qe_rp (qe_rl f q a_code) (r.map nI)) (hr : r.length ≤ q) (hro : ∀ o, o ∈ r → o < q) (hw : qd_wd κ r = some 1)
    (hnum : ∀ (p : Int32 → Prop) (hh : Int32) (pl : Nat → Int32) o, o < q → κ o = 1 → p (nf o) → wpX_numberOf p (f_length, f_tokens, f_fresh, f_stretches, f_marks, f_blocks, f_loose, f_isStudied, hh, f_chosen, a_text, a_tokenKind, a_tokenStart, a_tokenSize, a_code, a_meant, a_meantMark, a_freshKind, a_freshStart, a_freshSize, a_first, a_size, a_endKind, a_sort, a_codeSize, a_isRead, a_block, a_hasValue, a_isKnown, a_value, a_mark, a_around, a_nesting, pl, a_chosenStart, a_chosenSize) (nI (f + o)))
    (hme : ∀ o, o ∈ r → κ o = 0 → a_meant (f + o) = -1 ∨ ∃ k, k < g ∧ a_meant (f + o) = nI k)
    (h : ∀ hh pl, post (f_length, f_tokens, f_fresh, f_stretches, f_marks, f_blocks, f_loose, f_isStudied, hh, f_chosen, a_text, a_tokenKind, a_tokenStart, a_tokenSize, a_code, a_meant, a_meantMark, a_freshKind, a_freshStart, a_freshSize, a_first, a_size, a_endKind, a_sort, a_codeSize, a_isRead, a_block, a_hasValue, upd a_isKnown g (qd_evs κ nf (fun o => qf_env a_isKnown a_value (a_meant (f + o))) r).1, upd a_value g (qd_evs κ nf (fun o => qf_env a_isKnown a_value (a_meant (f + o))) r).2, a_mark, a_around, a_nesting, pl, a_chosenStart, a_chosenSize)) :
    wpX_workOut post (f_length, f_tokens, f_fresh, f_stretches, f_marks, f_blocks, f_loose, f_isStudied, f_height, f_chosen, a_text, a_tokenKind, a_tokenStart, a_tokenSize, a_code, a_meant, a_meantMark, a_freshKind, a_freshStart, a_freshSize, a_first, a_size, a_endKind, a_sort, a_codeSize, a_isRead, a_block, a_hasValue, a_isKnown, a_value, a_mark, a_around, a_nesting, a_pile, a_chosenStart, a_chosenSize) (nI g) := by
  have cg : (nI g).toNatClampNeg = g := nI_clamp (by omega)
  have vg : vp_in (nI g) 82 := pk_in g 82 (by omega)
  have key : ∀ c acc pl, qd_ra c acc = r → qe_rp pl (qd_ev κ nf (fun o => qf_env a_isKnown a_value (a_meant (f + o))) acc).2 → wX_workOut_9 post (nI g) f_length f_tokens f_fresh f_stretches f_marks f_blocks f_loose f_isStudied f_chosen (c.length + 1) (qd_ev κ nf (fun o => qf_env a_isKnown a_value (a_meant (f + o))) acc).1 (nI acc.length) (nI (qd_ev κ nf (fun o => qf_env a_isKnown a_value (a_meant (f + o))) acc).2.length) a_text a_tokenKind a_tokenStart a_tokenSize a_code a_meant a_meantMark a_freshKind a_freshStart a_freshSize a_first a_size a_endKind a_sort a_codeSize a_isRead a_block a_hasValue a_isKnown a_value a_mark a_around a_nesting pl a_chosenStart a_chosenSize := by
    intro c
    induction c with
    | nil =>
      intro acc pl hra hpl
      have e : acc = r := hra
      subst e
      rw [wX_workOut_9]
      refine ⟨vg, ?_⟩
      rw [cg, hcs]
      refine br_t (nI_le (Nat.le_refl _) (by omega)) ⟨vg, ?_⟩
      have hlen := qd_ev_len (nf := nf) (env := fun o => qf_env a_isKnown a_value (a_meant (f + o))) acc 1 hw
      have h01 := qd_ev_01 (κ := κ) (nf := nf) (env := fun o => qf_env a_isKnown a_value (a_meant (f + o))) acc
      rw [qa_b01 h01]
      have hfin := fun hh => h hh pl
      unfold qd_evs at hfin
      generalize qd_ev κ nf (fun o => qf_env a_isKnown a_value (a_meant (f + o))) acc = ev at *
      obtain ⟨a, s⟩ := ev
      refine nm_e (br_c (fun z => ⟨vg, nm_e ?_⟩) (fun z => ⟨vg, nm_e ?_⟩))
      · have z : a = 0 := z
        have y := hfin (nI s.length)
        have e : (if a = 0 then (0 : Int32) else s.headD 0) = 0 := if_pos z
        dsimp only at y
        rw [e] at y
        exact y
      · have z : ¬ a = 0 := z
        have y := hfin (nI s.length)
        have e : (if a = 0 then (0 : Int32) else s.headD 0) = s.headD 0 := if_neg z
        dsimp only at y
        rw [e] at y
        cases s with
        | nil => exact absurd hlen (by simp)
        | cons v s =>
          cases s with
          | cons w s => exact absurd hlen (by simp)
          | nil =>
            have e2 : pl 0 = v := hpl.1
            rw [e2]
            exact y
    | cons o c ih =>
      intro acc pl hra hpl
      have hra' : qd_ra c (o :: acc) = r := hra
      have hl : c.length + (acc.length + 1) = r.length := by rw [← hra', qd_ra_len, List.length_cons]
      have hor : o ∈ r := by rw [← hra']; exact qd_ra_mem _ _ _ (Or.inr List.mem_cons_self)
      have ho := hro o hor
      have hco : a_code (f + acc.length) = nI o := by
        rw [← hra'] at hcd
        have z := (qe_rp_suf c (o :: acc) hcd).1
        rw [List.length_map] at z
        have z : (if acc.length < q then a_code (f + acc.length) else 0) = nI o := z
        rw [if_pos (by omega)] at z
        exact z
      have hk := hκ o ho
      have hle := qd_ev_le (κ := κ) (nf := nf) (env := fun o => qf_env a_isKnown a_value (a_meant (f + o))) acc
      have es : qd_ev κ nf (fun o => qf_env a_isKnown a_value (a_meant (f + o))) (o :: acc) = qd_sp κ nf (fun o => qf_env a_isKnown a_value (a_meant (f + o))) o (qd_ev κ nf (fun o => qf_env a_isKnown a_value (a_meant (f + o))) acc) := rfl
      have ihn := ih (o :: acc)
      rw [es] at ihn
      rw [List.length_cons, wX_workOut_9]
      refine ⟨vg, ?_⟩
      rw [cg, hcs, hf, nI_add, nI_clamp (by omega), hco, nI_add]
      refine br_f (nI_ge (by omega) (by omega)) ⟨vg, vg, pk_in (f + acc.length) 81 (by omega), nm_e ⟨pk_in (f + o) 81 (by omega), ?_⟩⟩
      rw [nI_clamp (by omega), hk.1]
      refine nm_e ?_
      have hop : ¬ κ o ≤ 1 → 2 ≤ (qd_ev κ nf (fun o => qf_env a_isKnown a_value (a_meant (f + o))) acc).2.length := by
        intro hn
        obtain ⟨d, hd⟩ := qd_wd_suf (κ := κ) c (o :: acc) 1 (by rw [hra']; exact hw)
        obtain ⟨d', hd', h2⟩ := qd_wd_2 hd hn
        rw [qd_ev_len acc d' hd']; exact h2
      generalize qd_ev κ nf (fun o => qf_env a_isKnown a_value (a_meant (f + o))) acc = ev at *
      obtain ⟨a, s⟩ := ev
      have hle : s.length ≤ acc.length + 1 := hle
      have hpl : qe_rp pl s := hpl
      have vh : vp_in (nI s.length) 82 := pk_in s.length 82 (by omega)
      refine pk_eq (κ o) 1 (fun k1 => ?_) (fun k1 => pk_eq (κ o) 0 (fun k0 => ⟨pk_in (f + o) 81 (by omega), nm_e ?_⟩) (fun k0 => ?_))
      · have e : qd_sp κ nf (fun o => qf_env a_isKnown a_value (a_meant (f + o))) o (a, s) = (a, nf o :: s) := if_pos k1
        rw [e] at ihn
        refine hnum _ _ pl o ho k1 ⟨vh, ?_⟩
        rw [nI_clamp (by omega)]
        exact nm_e (nm_r (nI_1 s.length) (nm_r (nI_1 acc.length) (ihn _ hra' (qe_rp_push hpl))))
      · have e : qd_sp κ nf (fun o => qf_env a_isKnown a_value (a_meant (f + o))) o (a, s) = ((if a = 0 then 0 else if (qf_env a_isKnown a_value (a_meant (f + o))).1 = 0 then 0 else 1), (qf_env a_isKnown a_value (a_meant (f + o))).2 :: s) := by
          unfold qd_sp; rw [if_neg k1, if_pos k0]
        rw [e] at ihn
        have hm := hme o hor k0
        generalize a_meant (f + o) = m at *
        have fin : ∀ z, z = (if a = 0 then 0 else if (qf_env a_isKnown a_value m).1 = 0 then 0 else 1) → wX_workOut_123 post (wX_workOut_9 post (nI g) f_length f_tokens f_fresh f_stretches f_marks f_blocks f_loose f_isStudied f_chosen (c.length + 1)) (nI g) (nI acc.length) m z f_length f_tokens f_fresh f_stretches f_marks f_blocks f_loose f_isStudied (nI s.length) f_chosen a_text a_tokenKind a_tokenStart a_tokenSize a_code a_meant a_meantMark a_freshKind a_freshStart a_freshSize a_first a_size a_endKind a_sort a_codeSize a_isRead a_block a_hasValue a_isKnown a_value a_mark a_around a_nesting pl a_chosenStart a_chosenSize := by
          intro z hz
          subst hz
          have go : ∀ v, v = (qf_env a_isKnown a_value m).2 → wX_workOut_149 post (wX_workOut_9 post (nI g) f_length f_tokens f_fresh f_stretches f_marks f_blocks f_loose f_isStudied f_chosen (c.length + 1)) (nI g) (if a = 0 then 0 else if (qf_env a_isKnown a_value m).1 = 0 then 0 else 1) (nI acc.length) v (nI s.length) f_length f_tokens f_fresh f_stretches f_marks f_blocks f_loose f_isStudied (nI s.length) f_chosen a_text a_tokenKind a_tokenStart a_tokenSize a_code a_meant a_meantMark a_freshKind a_freshStart a_freshSize a_first a_size a_endKind a_sort a_codeSize a_isRead a_block a_hasValue a_isKnown a_value a_mark a_around a_nesting pl a_chosenStart a_chosenSize := by
            intro v hv
            subst hv
            refine ⟨vh, ?_⟩
            rw [nI_clamp (by omega)]
            exact nm_e (nm_r (nI_1 s.length) (nm_r (nI_1 acc.length) (ihn _ hra' (qe_rp_push hpl))))
          rcases hm with hm | ⟨k, hk1, hm⟩
          · exact br_t hm (go 0 (by unfold qf_env; rw [if_pos hm]))
          · have hne : ¬ m = -1 := by rw [hm]; exact qa_ne1 (by omega)
            exact br_f hne ⟨by rw [hm]; exact pk_in k 82 (by omega), go _ (by unfold qf_env; rw [if_neg hne])⟩
        by_cases a0 : a = 0
        · exact br_t a0 (fin 0 (by rw [if_pos a0]))
        · refine br_f a0 ?_
          rcases hm with hm | ⟨k, hk1, hm⟩
          · refine br_t hm (fin 0 ?_)
            rw [if_neg a0]; unfold qf_env; rw [if_pos hm]; rfl
          · have hne : ¬ m = -1 := by rw [hm]; exact qa_ne1 (by omega)
            refine br_f hne ⟨by rw [hm]; exact pk_in k 82 (by omega), ?_⟩
            refine br_c (fun z => fin 0 ?_) (fun z => fin 1 ?_)
            · rw [if_neg a0]; unfold qf_env; rw [if_neg hne, if_pos z]
            · rw [if_neg a0]; unfold qf_env; rw [if_neg hne, if_neg z]
      · have hop' : 2 ≤ s.length := hop (by omega)
        have e : qd_sp κ nf (fun o => qf_env a_isKnown a_value (a_meant (f + o))) o (a, s) = (a, qd_jn (κ o) (s.tail.headD 0) (s.headD 0) :: s.tail.tail) := by
          unfold qd_sp; rw [if_neg k1, if_neg k0]
        rw [e] at ihn
        cases s with
        | nil => exact absurd hop' (by simp)
        | cons y s =>
          cases s with
          | nil => exact absurd hop' (by simp)
          | cons x s =>
            have hp1 : pl (s.length + 1) = y := by have := hpl.1; rw [List.length_cons] at this; exact this
            have hp2 : pl s.length = x := hpl.2.1
            rw [List.length_cons, List.length_cons] at hle
            refine nm_r (e' := nI (s.length + 1)) (nI_pred (s.length + 1)) ?_
            rw [nI_pred, nI_clamp (by omega), nI_clamp (by omega), hp1, hp2]
            have v1 : vp_in (nI s.length) 82 := pk_in s.length 82 (by omega)
            refine ⟨v1, pk_in (s.length + 1) 82 (by omega), xj_joined (by omega) ⟨v1, ?_⟩⟩
            refine nm_e (nm_r (nI_1 acc.length) ?_)
            exact ihn _ hra' (qe_rp_push hpl.2.2)
  exact ⟨_, key r.reverse [] a_pile (qd_ra_rev r) trivial⟩
end
end
section
/-! X: a stretch brought up to date -/
noncomputable def qg_sr (K F Q : Nat → Nat) (E : Nat → Int32) (g : Nat) : Nat := qd_srt (qe_kf K (F g) (Q g)) (Q g) (E g)
/-- k is a definition that token t of stretch g may mean -/
def qg_P (T : Nat → Int32) (S Z K F Q : Nat → Nat) (E : Nat → Int32) (G g t k : Nat) : Prop :=
  qg_sr K F Q E k = 2 ∧ qf_anc (qf_bl E G).2.2.1 (qf_bl E g).1 (qf_bl E k).1 ∧ qf_same T S Z (F k) t
/-- stretch g is up to date -/
def qg_Dn (T : Nat → Int32) (S Z K F Q : Nat → Nat) (E : Nat → Int32) (G : Nat) (me so kn vl : Nat → Int32) (g : Nat) : Prop :=
  so g = nI (qg_sr K F Q E g) ∧
  ((qg_sr K F Q E g = 1 ∨ qg_sr K F Q E g = 2) → (∀ o, o ∈ qd_cd (qe_kf K (F g) (Q g)) (Q g) → qe_kf K (F g) (Q g) o = 0 → qf_lk (qg_P T S Z K F Q E G g (F g + o)) g (me (F g + o))) ∧ (kn g, vl g) = qd_evs (qe_kf K (F g) (Q g)) (qe_nf T S Z (F g) (Q g)) (fun o => qf_env kn vl (me (F g + o))) (qd_cd (qe_kf K (F g) (Q g)) (Q g))) ∧
  (¬ (qg_sr K F Q E g = 1 ∨ qg_sr K F Q E g = 2) → kn g = 0 ∧ vl g = 0)
def qg_Bl (G : Nat) (E blk ar ne : Nat → Int32) : Prop :=
  (∀ g, g < G → blk g = nI (qf_bl E g).1) ∧ (∀ b, 0 < b → b < (qf_bl E G).2.1 → ar b = nI ((qf_bl E G).2.2.1 b)) ∧ (∀ b, b < (qf_bl E G).2.1 → ne b = nI ((qf_bl E G).2.2.2.1 b))
theorem qg_kf8 {n G g : Nat} {K F Q : Nat → Nat} {E : Nat → Int32} (h : qc_Str n K G F Q E) (hg : g < G) : ∀ o, qe_kf K (F g) (Q g) o < 8 := by
  intro o
  show (if o < Q g then K (F g + o) else 0) < 8
  by_cases c : o < Q g
  · rw [if_pos c]; exact h.2.2.2.2 g _ hg (by omega) (by omega)
  · rw [if_neg c]; omega
theorem qg_cdf {n G g : Nat} {K F Q : Nat → Nat} {E : Nat → Int32} (h : qc_Str n K G F Q E) (hg : g < G) (hs : qg_sr K F Q E g = 1 ∨ qg_sr K F Q E g = 2) :
    qd_wd (qe_kf K (F g) (Q g)) (qd_cd (qe_kf K (F g) (Q g)) (Q g)) = some 1 ∧ (qd_cd (qe_kf K (F g) (Q g)) (Q g)).length ≤ Q g ∧ (∀ t, t ∈ qd_cd (qe_kf K (F g) (Q g)) (Q g) → t < Q g) ∧ (∀ t, qd_fr (qe_kf K (F g) (Q g)) (Q g) ≤ t → t < Q g → qe_kf K (F g) (Q g) t = 0 → t ∈ qd_cd (qe_kf K (F g) (Q g)) (Q g)) := by
  obtain ⟨a, b, c, d⟩ := qd_srt12 hs
  have := qd_fin_f (κ := qe_kf K (F g) (Q g)) qd_fr_le (fun t _ => qg_kf8 h hg t) c
  exact ⟨this.1, by omega, fun t ht => (this.2.2.1 t ht).2, this.2.2.2⟩
theorem qg_Bf {n G : Nat} {K F Q : Nat → Nat} {E : Nat → Int32} (h : qc_Str n K G F Q E) (hn : n ≤ 80) : ∃ W, W ≤ 80 ∧ qf_Bf (qf_bl E G) W := by
  have hG := qc_G h
  have h0 := h.1
  obtain ⟨G', rfl⟩ : ∃ G', G = G' + 1 := ⟨G - 1, by omega⟩
  refine ⟨G', by omega, ?_⟩
  have e := (h.2.2.2.1 G' rfl).2
  have : qf_bl E (G' + 1) = qf_bl E G' := by
    show qf_bs (E G') (qf_bl E G') = _
    unfold qf_bs
    rw [e, if_neg (by decide), if_neg (by decide)]
  rw [this]
  exact qf_bl_f E G'
theorem qg_CI_H {H H' : Int32 → Int32 × Int32} {κ : Nat → Nat} {nf cd mm : Nat → Int32} {q : Nat} {e srt cs rd hv kn vl mk : Int32} (h : qe_CI H κ nf cd mm q e srt cs rd hv kn vl mk) (h1 : ∀ o, H' (mm o) = H (mm o)) (h2 : H' mk = H mk) : qe_CI H' κ nf cd mm q e srt cs rd hv kn vl mk := by
  obtain ⟨a, b⟩ := h
  refine ⟨a, fun z => ?_⟩
  obtain ⟨b1, b2, b3, b4⟩ := b z
  refine ⟨b1, b2, ?_, by rw [h2]; exact b4⟩
  rw [b3]
  exact congrArg (fun w => qd_evs κ nf w (qd_cd κ q)) (funext fun o => (h1 o).symm)
section
variable {L n G mk mk' g : Nat} {S Z K F Q : Nat → Nat} {H H' : Int32 → Int32 × Int32} {a_text a_tokenKind a_tokenStart a_tokenSize a_code a_meantMark a_first a_size a_endKind a_sort a_codeSize a_isRead a_hasValue a_isKnown a_value a_mark : Nat → Int32}
theorem qg_XI_g {cd' mm' so' cs' rd' hv' kn' vl' mr' : Nat → Int32} (hX : qe_XI L n G mk S Z K F Q H a_text a_tokenKind a_tokenStart a_tokenSize a_code a_meantMark a_first a_size a_endKind a_sort a_codeSize a_isRead a_hasValue a_isKnown a_value a_mark) (hg : g < G) (hmk : mk ≤ mk') (hH : ∀ x, qe_MK mk x → H' x = H x) (hfc : xg_fr (F g) (Q g) a_code cd') (hfm : xg_fr (F g) (Q g) a_meantMark mm')
    (h1 : ∀ j, j ≠ g → so' j = a_sort j) (h2 : ∀ j, j ≠ g → cs' j = a_codeSize j) (h3 : ∀ j, j ≠ g → rd' j = a_isRead j) (h4 : ∀ j, j ≠ g → hv' j = a_hasValue j) (h5 : ∀ j, j ≠ g → kn' j = a_isKnown j) (h6 : ∀ j, j ≠ g → vl' j = a_value j) (h7 : ∀ j, j ≠ g → mr' j = a_mark j)
    (b1 : rd' g = 0 ∨ rd' g = 1) (b2 : hv' g = 0 ∨ hv' g = 1) (b3 : kn' g = 0 ∨ kn' g = 1) (b4 : qe_MK mk' (mr' g)) (b5 : ∀ j, qe_MK mk' (mm' j))
    (hci : qe_CI H' (qe_kf K (F g) (Q g)) (qe_nf a_text S Z (F g) (Q g)) (qe_rl (F g) (Q g) cd') (qe_rl (F g) (Q g) mm') (Q g) (a_endKind g) (so' g) (cs' g) (rd' g) (hv' g) (kn' g) (vl' g) (mr' g)) :
    qe_XI L n G mk' S Z K F Q H' a_text a_tokenKind a_tokenStart a_tokenSize cd' mm' a_first a_size a_endKind so' cs' rd' hv' kn' vl' mr' := by
  obtain ⟨x1, x2, x3, x4, x5, x6, ⟨x7, x7b, x7c⟩, x8, x9, x10, x11⟩ := hX
  refine ⟨x1, x2, x3, x4, x5, x6, ⟨fun j => ?_, fun j => ?_, fun j => ?_⟩, fun j => ?_, b5, ?_, fun j hj => ?_⟩
  · by_cases e : j = g
    · rw [e]; exact b1
    · rw [h3 j e]; exact x7 j
  · by_cases e : j = g
    · rw [e]; exact b2
    · rw [h4 j e]; exact x7b j
  · by_cases e : j = g
    · rw [e]; exact b3
    · rw [h5 j e]; exact x7c j
  · by_cases e : j = g
    · rw [e]; exact b4
    · rw [h7 j e]; exact qe_MK_le (x8 j) hmk
  · rw [hH _ (Or.inl rfl)]; exact x10
  · by_cases e : j = g
    · rw [e]; exact hci
    · rw [h1 j e, h2 j e, h3 j e, h4 j e, h5 j e, h6 j e, h7 j e]
      have hdis : ∀ o, o < Q j → F j + o < F g ∨ F g + Q g ≤ F j + o := by
        intro o ho
        by_cases c : j < g
        · have := qc_lt x5 c hg; omega
        · have := qc_lt x5 (show g < j by omega) hj; omega
      rw [qe_rl_eq (a := a_code) (a' := cd') (f := F j) (f' := F j) (fun o ho => hfc _ (hdis o ho)), qe_rl_eq (a := a_meantMark) (a' := mm') (f := F j) (f' := F j) (fun o ho => hfm _ (hdis o ho))]
      refine qg_CI_H (x11 j hj) (fun o => ?_) (hH _ (x8 j))
      refine hH _ ?_
      show qe_MK mk (if o < Q j then a_meantMark (F j + o) else 0)
      split
      · exact x9 _
      · exact Or.inr ⟨0, by omega, rfl⟩
end
theorem qg_Dn_c {T : Nat → Int32} {S Z K F Q : Nat → Nat} {E : Nat → Int32} {G g n : Nat} {me so kn vl me' so' kn' vl' : Nat → Int32} (hS : qc_Str n K G F Q E) (hG : G ≤ 81) (hg : g < G) (h : qg_Dn T S Z K F Q E G me so kn vl g) (h1 : ∀ o, o < Q g → me' (F g + o) = me (F g + o)) (h2 : so' g = so g) (h3 : ∀ j, j ≤ g → kn' j = kn j ∧ vl' j = vl j) : qg_Dn T S Z K F Q E G me' so' kn' vl' g := by
  obtain ⟨a, b, c⟩ := h
  refine ⟨by rw [h2]; exact a, fun z => ?_, fun z => ?_⟩
  · obtain ⟨b1, b2⟩ := b z
    obtain ⟨_, _, c3, _⟩ := qg_cdf hS hg z
    refine ⟨fun o ho k0 => ?_, ?_⟩
    · rw [h1 o (c3 o ho)]; exact b1 o ho k0
    · rw [(h3 g (Nat.le_refl _)).1, (h3 g (Nat.le_refl _)).2, b2]
      refine qd_evs_congr (fun _ _ => rfl) (fun o ho k0 => ?_)
      rw [h1 o (c3 o ho)]
      rcases qf_lk_b (b1 o ho k0) with e | ⟨k, hk, e⟩
      · unfold qf_env; rw [if_pos e, if_pos e]
      · rw [e]
        unfold qf_env
        rw [nI_clamp (by omega), (h3 k (by omega)).1, (h3 k (by omega)).2]
  · rw [(h3 g (Nat.le_refl _)).1, (h3 g (Nat.le_refl _)).2]; exact c z
end
section
/-! X: update, study -/
section
variable {f_length f_tokens f_fresh f_stretches f_marks f_blocks f_loose f_isStudied f_height f_chosen : Int32} {a_text a_tokenKind a_tokenStart a_tokenSize a_code a_meant a_meantMark a_freshKind a_freshStart a_freshSize a_first a_size a_endKind a_sort a_codeSize a_isRead a_block a_hasValue a_isKnown a_value a_mark a_around a_nesting a_pile a_chosenStart a_chosenSize : Nat → Int32}
variable {L n G mk g W : Nat} {S Z K F Q : Nat → Nat} {H : Int32 → Int32 × Int32}
/-- all stretches below g are up to date -/
def xl_Up (T : Nat → Int32) (S Z K F Q : Nat → Nat) (E : Nat → Int32) (G : Nat) (me so hv kn vl : Nat → Int32) (g : Nat) : Prop :=
  ∀ j, j < g → qg_Dn T S Z K F Q E G me so kn vl j ∧ ((qg_sr K F Q E j = 1 ∨ qg_sr K F Q E j = 2) → hv j = 1)
theorem xl_update {post : SX → Prop} (hmk : mk < 1000000000) (hX : qe_XI L n G mk S Z K F Q H a_text a_tokenKind a_tokenStart a_tokenSize a_code a_meantMark a_first a_size a_endKind a_sort a_codeSize a_isRead a_hasValue a_isKnown a_value a_mark) (hg : g < G) (hrd : a_isRead g = 1) (hB : qg_Bl G a_endKind a_block a_around a_nesting) (hU : xl_Up a_text S Z K F Q a_endKind G a_meant a_sort a_hasValue a_isKnown a_value g)
    (h : ∀ (mk' : Nat) (H' : Int32 → Int32 × Int32) (hh : Int32) me mm hv kn vl mr pl, mk' ≤ mk + 1 → qe_XI L n G mk' S Z K F Q H' a_text a_tokenKind a_tokenStart a_tokenSize a_code mm a_first a_size a_endKind a_sort a_codeSize a_isRead hv kn vl mr → xl_Up a_text S Z K F Q a_endKind G me a_sort hv kn vl (g + 1) →
      post (f_length, f_tokens, f_fresh, f_stretches, nI mk', f_blocks, f_loose, f_isStudied, hh, f_chosen, a_text, a_tokenKind, a_tokenStart, a_tokenSize, a_code, me, mm, a_freshKind, a_freshStart, a_freshSize, a_first, a_size, a_endKind, a_sort, a_codeSize, a_isRead, a_block, hv, kn, vl, mr, a_around, a_nesting, pl, a_chosenStart, a_chosenSize)) :
    wpX_update post (f_length, f_tokens, f_fresh, f_stretches, nI mk, f_blocks, f_loose, f_isStudied, f_height, f_chosen, a_text, a_tokenKind, a_tokenStart, a_tokenSize, a_code, a_meant, a_meantMark, a_freshKind, a_freshStart, a_freshSize, a_first, a_size, a_endKind, a_sort, a_codeSize, a_isRead, a_block, a_hasValue, a_isKnown, a_value, a_mark, a_around, a_nesting, a_pile, a_chosenStart, a_chosenSize) (nI g) := by
  have hX' := hX
  obtain ⟨x1, x2, x3, x4, x5, x6, ⟨x7, x7b, x7c⟩, x8, x9, x10, x11⟩ := hX
  have hn : n ≤ 80 := Nat.le_trans (qb_nL x3) x1
  have hG := qc_G x5
  have cg : (nI g).toNatClampNeg = g := nI_clamp (by omega)
  have vg : vp_in (nI g) 82 := pk_in g 82 (by omega)
  have ci := x11 g hg
  have hFQ := qc_le x5 hg
  have hsr : a_sort g = nI (qg_sr K F Q a_endKind g) := (ci.1 hrd).1
  have hsle : qg_sr K F Q a_endKind g ≤ 3 := qd_srt_le
  have k8 := qg_kf8 x5 hg
  have hκ : ∀ o, o < Q g → a_tokenKind (F g + o) = nI (qe_kf K (F g) (Q g) o) ∧ qe_kf K (F g) (Q g) o < 8 := by
    intro o ho
    refine ⟨?_, k8 o⟩
    have e : qe_kf K (F g) (Q g) o = K (F g + o) := if_pos ho
    rw [e]; exact (x4 _ (by omega)).1
  -- the stretches before are as they were
  have hUp : ∀ me kn vl hv, (∀ j, (j < F g ∨ F g + Q g ≤ j) → me j = a_meant j) → (∀ j, j ≠ g → kn j = a_isKnown j ∧ vl j = a_value j) → (∀ j, j ≠ g → hv j = a_hasValue j) → qg_Dn a_text S Z K F Q a_endKind G me a_sort kn vl g → ((qg_sr K F Q a_endKind g = 1 ∨ qg_sr K F Q a_endKind g = 2) → hv g = 1) → xl_Up a_text S Z K F Q a_endKind G me a_sort hv kn vl (g + 1) := by
    intro me kn vl hv h1 h2 h3 h4 h5 j hj
    by_cases e : j = g
    · rw [e]; exact ⟨h4, h5⟩
    · have hj' : j < g := by omega
      refine ⟨qg_Dn_c x5 (by omega) (by omega) (hU j hj').1 (fun o ho => h1 _ ?_) rfl (fun i hi => h2 i (by omega)), fun z => by rw [h3 j e]; exact (hU j hj').2 z⟩
      have := qc_lt x5 hj' hg; omega
  have h35 : (qg_sr K F Q a_endKind g = 1 ∨ qg_sr K F Q a_endKind g = 2) → wX_update_35 post (nI g) f_length f_tokens f_fresh f_stretches (nI mk) f_blocks f_loose f_isStudied f_height f_chosen a_text a_tokenKind a_tokenStart a_tokenSize a_code a_meant a_meantMark a_freshKind a_freshStart a_freshSize a_first a_size a_endKind a_sort a_codeSize a_isRead a_block a_hasValue a_isKnown a_value a_mark a_around a_nesting a_pile a_chosenStart a_chosenSize := by
    intro hs
    obtain ⟨hcs, hcd⟩ := (ci.1 hrd).2 hs
    obtain ⟨c1, c2, c3, c4⟩ := qg_cdf x5 hg hs
    obtain ⟨W, hW, hBf⟩ := qg_Bf x5 hn
    obtain ⟨B1, B2, B3⟩ := hB
    have hr : ∀ j, j < n → a_tokenStart j = nI (S j) ∧ a_tokenSize j = nI (Z j) ∧ S j + Z j ≤ L := fun j hj => ⟨(x4 j hj).2.1, (x4 j hj).2.2, (qb_SZ x3 hj).2.1⟩
    refine xj_sameMeanings (κ := qe_kf K (F g) (Q g)) (q := Q g) (P := qg_P a_text S Z K F Q a_endKind G g) (m0 := mk) (by omega) (x6 g hg).1 (by omega) hκ hcs hcd c2 c3 x9 x8 (fun p me mm o ho k0 hp => ?_) (fun x me mm hM hmm => ?_)
    · refine xi_lookUp (P := qg_P a_text S Z K F Q a_endKind G g (F g + o)) (sr := qg_sr K F Q a_endKind) (B := fun k => (qf_bl a_endKind k).1) (n := n) (L := L) hBf hW (by omega) hg hn x1 (by have := c3 o ho; omega) (fun k hk => ⟨B1 k hk, qf_bl_lt (by omega)⟩) (fun k hk => ⟨(hU k hk).1.1, qd_srt_le⟩) (fun k hk => (x6 k hk).1) (fun k hk hs2 => ?_) B2 B3 hr (fun k => Iff.rfl) hp
      have := qc_le x5 (show k < G by omega)
      have hq0 := (qd_srt12 (Or.inr hs2)).1
      omega
    · obtain ⟨m1, m2, m3⟩ := hM
      -- what the marks say is what the meanings say
      have hHv : ∀ o, o ∈ qd_cd (qe_kf K (F g) (Q g)) (Q g) → qe_kf K (F g) (Q g) o = 0 → H (qe_rl (F g) (Q g) mm o) = qf_env a_isKnown a_value (me (F g + o)) := by
        intro o ho k0
        have e : qe_rl (F g) (Q g) mm o = mm (F g + o) := if_pos (c3 o ho)
        obtain ⟨l1, l2⟩ := m3 o ho k0
        rw [e, l2]
        rcases l1 with ⟨l, _⟩ | ⟨k, hk, l, hP, _⟩
        · unfold qf_mkv qf_env
          rw [if_pos l, if_pos l]; exact x10
        · have hne : ¬ me (F g + o) = -1 := by rw [l]; exact qa_ne1 (by omega)
          unfold qf_mkv qf_env
          rw [if_neg hne, if_neg hne, l, nI_clamp (by omega)]
          have hv := (hU k hk).2 (Or.inr hP.1)
          exact ((x11 k (by omega)).2 hv).2.2.2
      have hmf : xg_fr (F g) (Q g) a_meantMark mm := fun j hj => (m2 j hj).2
      have h55 : wX_update_55 post (nI g) f_length f_tokens f_fresh f_stretches (nI mk) f_blocks f_loose f_isStudied f_height f_chosen a_text a_tokenKind a_tokenStart a_tokenSize a_code me mm a_freshKind a_freshStart a_freshSize a_first a_size a_endKind a_sort a_codeSize a_isRead a_block a_hasValue a_isKnown a_value a_mark a_around a_nesting a_pile a_chosenStart a_chosenSize := by
        refine ⟨vg, nm_e ⟨vg, nm_e ⟨vg, nm_e ?_⟩⟩⟩
        rw [cg]
        refine xk_workOut (κ := qe_kf K (F g) (Q g)) (nf := qe_nf a_text S Z (F g) (Q g)) (q := Q g) (by omega) (x6 g hg).1 (by omega) hκ hcs hcd c2 c3 c1 (fun p hh pl o ho k1 hp => ?_) (fun o ho k0 => qf_lk_b (m3 o ho k0).1) (fun hh pl => ⟨vg, ?_⟩)
        · have e : qe_nf a_text S Z (F g) (Q g) o = qe_num a_text (S (F g + o)) (Z (F g + o)) := if_pos ho
          rw [e] at hp
          have hr' := hr (F g + o) (by omega)
          exact xj_numberOf (by omega) hr'.1 hr'.2.1 (by omega) hp
        · rw [qa_b1]
          refine nm_e ?_
          have h01 : (qd_evs (qe_kf K (F g) (Q g)) (qe_nf a_text S Z (F g) (Q g)) (fun o => qf_env a_isKnown a_value (me (F g + o))) (qd_cd (qe_kf K (F g) (Q g)) (Q g))).1 = 0 ∨ (qd_evs (qe_kf K (F g) (Q g)) (qe_nf a_text S Z (F g) (Q g)) (fun o => qf_env a_isKnown a_value (me (F g + o))) (qd_cd (qe_kf K (F g) (Q g)) (Q g))).1 = 1 := qd_ev_01 _
          have hEH : ∀ H' : Int32 → Int32 × Int32, (∀ x, qe_MK mk x → H' x = H x) → qd_evs (qe_kf K (F g) (Q g)) (qe_nf a_text S Z (F g) (Q g)) (fun o => qf_env a_isKnown a_value (me (F g + o))) (qd_cd (qe_kf K (F g) (Q g)) (Q g)) = qd_evs (qe_kf K (F g) (Q g)) (qe_nf a_text S Z (F g) (Q g)) (fun o => H' (qe_rl (F g) (Q g) mm o)) (qd_cd (qe_kf K (F g) (Q g)) (Q g)) := by
            intro H' hH'
            refine qd_evs_congr (fun _ _ => rfl) (fun o ho k0 => ?_)
            rw [← hHv o ho k0]
            refine (hH' _ ?_).symm
            have e : qe_rl (F g) (Q g) mm o = mm (F g + o) := if_pos (c3 o ho)
            rw [e]; exact hmm _
          have hlk : ∀ o, o ∈ qd_cd (qe_kf K (F g) (Q g)) (Q g) → qe_kf K (F g) (Q g) o = 0 → qf_lk (qg_P a_text S Z K F Q a_endKind G g (F g + o)) g (me (F g + o)) := fun o ho k0 => (m3 o ho k0).1
          have hEnv : ∀ kn vl, (∀ j, j ≠ g → kn j = a_isKnown j ∧ vl j = a_value j) → qd_evs (qe_kf K (F g) (Q g)) (qe_nf a_text S Z (F g) (Q g)) (fun o => qf_env kn vl (me (F g + o))) (qd_cd (qe_kf K (F g) (Q g)) (Q g)) = qd_evs (qe_kf K (F g) (Q g)) (qe_nf a_text S Z (F g) (Q g)) (fun o => qf_env a_isKnown a_value (me (F g + o))) (qd_cd (qe_kf K (F g) (Q g)) (Q g)) := by
            intro kn vl hkv
            refine qd_evs_congr (fun _ _ => rfl) (fun o ho k0 => ?_)
            rcases qf_lk_b (hlk o ho k0) with e | ⟨k, hk, e⟩
            · unfold qf_env; rw [if_pos e, if_pos e]
            · unfold qf_env; rw [e, nI_clamp (by omega), (hkv k (by omega)).1, (hkv k (by omega)).2]
          generalize hev : qd_evs (qe_kf K (F g) (Q g)) (qe_nf a_text S Z (F g) (Q g)) (fun o => qf_env a_isKnown a_value (me (F g + o))) (qd_cd (qe_kf K (F g) (Q g)) (Q g)) = ev at *
          obtain ⟨kv, vv⟩ := ev
          have h01 : kv = 0 ∨ kv = 1 := h01
          have hkv : ∀ j, j ≠ g → upd a_isKnown g kv j = a_isKnown j ∧ upd a_value g vv j = a_value j := fun j hj => ⟨pk_un hj, pk_un hj⟩
          have hDn : qg_Dn a_text S Z K F Q a_endKind G me a_sort (upd a_isKnown g kv) (upd a_value g vv) g := by
            refine ⟨hsr, fun _ => ⟨hlk, ?_⟩, fun z => absurd hs z⟩
            rw [hEnv _ _ hkv, pk_us, pk_us]
          have hup := hUp me (upd a_isKnown g kv) (upd a_value g vv) (upd a_hasValue g 1) (fun j hj => (m2 j hj).1) hkv (fun j hj => pk_un hj) hDn (fun _ => pk_us)
          have hnew : wX_update_116 post (nI g) f_length f_tokens f_fresh f_stretches (nI mk) f_blocks f_loose f_isStudied hh f_chosen a_text a_tokenKind a_tokenStart a_tokenSize a_code me mm a_freshKind a_freshStart a_freshSize a_first a_size a_endKind a_sort a_codeSize a_isRead a_block (upd a_hasValue g 1) (upd a_isKnown g kv) (upd a_value g vv) a_mark a_around a_nesting pl a_chosenStart a_chosenSize := by
            refine nm_r (nI_1 mk) ⟨vg, ?_⟩
            rw [cg]
            refine nm_e (h (mk + 1) (fun x => if x = nI (mk + 1) then (kv, vv) else H x) hh me mm _ _ _ _ pl (Nat.le_refl _) ?_ hup)
            have hH' : ∀ x, qe_MK mk x → (fun x => if x = nI (mk + 1) then (kv, vv) else H x) x = H x := by
              intro x hx
              refine if_neg ?_
              rcases hx with e | ⟨j, hj, e⟩
              · rw [e]; exact fun z => qa_ne1 (a := mk + 1) (by omega) z.symm
              · rw [e]; exact qa_ne (by omega) (by omega) (by omega)
            refine qg_XI_g hX' hg (Nat.le_succ mk) hH' (fun j _ => rfl) hmf (fun j _ => rfl) (fun j _ => rfl) (fun j _ => rfl) (fun j hj => pk_un hj) (fun j hj => pk_un hj) (fun j hj => pk_un hj) (fun j hj => pk_un hj) (x7 g) (Or.inr pk_us) (by rw [pk_us]; exact h01) (by rw [pk_us]; exact Or.inr ⟨mk + 1, Nat.le_refl _, rfl⟩) (fun j => qe_MK_le (hmm j) (by omega)) ⟨ci.1, fun _ => ⟨hrd, hs, ?_, ?_⟩⟩
            · rw [pk_us, pk_us]; exact hEH _ hH'
            · rw [pk_us, pk_us, pk_us]; exact if_pos rfl
          rw [pk_us, pk_us]
          refine br_c (fun _ => hnew) (fun z => ⟨vg, br_c (fun e1 => ⟨vg, br_c (fun e2 => ?_) (fun _ => hnew)⟩) (fun _ => hnew)⟩)
          have hv1 : a_hasValue g = 1 := (x7b g).resolve_left z
          refine h mk H hh me mm _ _ _ _ pl (by omega) ?_ hup
          refine qg_XI_g hX' hg (Nat.le_refl mk) (fun _ _ => rfl) (fun j _ => rfl) hmf (fun j _ => rfl) (fun j _ => rfl) (fun j _ => rfl) (fun j hj => pk_un hj) (fun j hj => pk_un hj) (fun j hj => pk_un hj) (fun j _ => rfl) (x7 g) (Or.inr pk_us) (by rw [pk_us]; exact h01) (x8 g) hmm ⟨ci.1, fun _ => ⟨hrd, hs, ?_, ?_⟩⟩
          · rw [pk_us, pk_us]; exact hEH _ (fun _ _ => rfl)
          · rw [pk_us, pk_us, ← e1, ← e2]; exact (ci.2 hv1).2.2.2
      refine ⟨vg, ?_⟩
      rw [cg]
      refine br_c (fun _ => h55) (fun hv => br_c (fun _ => h55) (fun hx => ?_))
      have hv1 : a_hasValue g = 1 := (x7b g).resolve_left hv
      obtain ⟨_, hmm0⟩ := m1.resolve_left hx
      subst hmm0
      refine h mk H f_height me mm a_hasValue a_isKnown a_value a_mark a_pile (by omega) hX' (hUp me a_isKnown a_value a_hasValue (fun j hj => (m2 j hj).1) (fun _ _ => ⟨rfl, rfl⟩) (fun _ _ => rfl) ⟨hsr, fun _ => ⟨fun o ho k0 => (m3 o ho k0).1, ?_⟩, fun z => absurd hs z⟩ (fun _ => hv1))
      rw [(ci.2 hv1).2.2.1]
      exact qd_evs_congr (fun _ _ => rfl) hHv
  refine ⟨vg, ?_⟩
  rw [cg, hsr]
  refine pk_eq (qg_sr K F Q a_endKind g) 1 (fun e => h35 (Or.inl e)) (fun e1 => ⟨vg, pk_eq (qg_sr K F Q a_endKind g) 2 (fun e => h35 (Or.inr e)) (fun e2 => ⟨vg, ?_⟩)⟩)
  have hns : ¬ (qg_sr K F Q a_endKind g = 1 ∨ qg_sr K F Q a_endKind g = 2) := fun z => z.elim e1 e2
  rw [qa_b0]
  refine nm_e ⟨vg, nm_e ?_⟩
  refine h mk H f_height a_meant a_meantMark a_hasValue (upd a_isKnown g 0) (upd a_value g 0) a_mark a_pile (by omega) ?_ (hUp a_meant _ _ a_hasValue (fun _ _ => rfl) (fun j hj => ⟨pk_un hj, pk_un hj⟩) (fun _ _ => rfl) ⟨hsr, fun z => absurd z hns, fun _ => ⟨pk_us, pk_us⟩⟩ (fun z => absurd z hns))
  exact qg_XI_g hX' hg (Nat.le_refl mk) (fun _ _ => rfl) (fun j _ => rfl) (fun j _ => rfl) (fun j _ => rfl) (fun j _ => rfl) (fun j _ => rfl) (fun j _ => rfl) (fun j hj => pk_un hj) (fun j hj => pk_un hj) (fun j _ => rfl) (x7 g) (x7b g) (Or.inl pk_us) (x8 g) x9 ⟨ci.1, fun hv => absurd (ci.2 hv).2.1 hns⟩
end
end
section
/-! X: study -/
/-- all is up to date -/
def xm_St (G : Nat) (S Z K F Q : Nat → Nat) (f_loose : Int32) (a_text a_endKind a_meant a_sort a_block a_isKnown a_value a_around a_nesting : Nat → Int32) : Prop :=
  qg_Bl G a_endKind a_block a_around a_nesting ∧ f_loose = nI ((qf_bl a_endKind G).2.2.2.2 + (qf_bl a_endKind G).2.2.2.1 (qf_bl a_endKind G).1) ∧ ∀ g, g < G → qg_Dn a_text S Z K F Q a_endKind G a_meant a_sort a_isKnown a_value g
section
variable {f_length f_tokens f_fresh f_stretches f_marks f_blocks f_loose f_isStudied f_height f_chosen : Int32} {a_text a_tokenKind a_tokenStart a_tokenSize a_code a_meant a_meantMark a_freshKind a_freshStart a_freshSize a_first a_size a_endKind a_sort a_codeSize a_isRead a_block a_hasValue a_isKnown a_value a_mark a_around a_nesting a_pile a_chosenStart a_chosenSize : Nat → Int32}
variable {L n G mk mk0 : Nat} {S Z K F Q : Nat → Nat} {H : Int32 → Int32 × Int32} {post : SX → Prop}
theorem xm_loop (hm0 : mk0 < 900000000)
    (h : ∀ (mk' : Nat) (H' : Int32 → Int32 × Int32) (f_blocks f_loose f_height : Int32) (a_code a_meant a_meantMark a_sort a_codeSize a_isRead a_block a_hasValue a_isKnown a_value a_mark a_around a_nesting a_pile : Nat → Int32), mk' ≤ mk0 + 81 → qe_XI L n G mk' S Z K F Q H' a_text a_tokenKind a_tokenStart a_tokenSize a_code a_meantMark a_first a_size a_endKind a_sort a_codeSize a_isRead a_hasValue a_isKnown a_value a_mark → qg_Bl G a_endKind a_block a_around a_nesting → (∀ g, g < G → qg_Dn a_text S Z K F Q a_endKind G a_meant a_sort a_isKnown a_value g) → f_loose = nI ((qf_bl a_endKind G).2.2.2.2 + (qf_bl a_endKind G).2.2.2.1 (qf_bl a_endKind G).1) → post (f_length, f_tokens, f_fresh, nI G, nI mk', f_blocks, f_loose, 1, f_height, f_chosen, a_text, a_tokenKind, a_tokenStart, a_tokenSize, a_code, a_meant, a_meantMark, a_freshKind, a_freshStart, a_freshSize, a_first, a_size, a_endKind, a_sort, a_codeSize, a_isRead, a_block, a_hasValue, a_isKnown, a_value, a_mark, a_around, a_nesting, a_pile, a_chosenStart, a_chosenSize)) :
    ∀ d g mk H (f_blocks f_loose f_height : Int32) (a_code a_meant a_meantMark a_sort a_codeSize a_isRead a_block a_hasValue a_isKnown a_value a_mark a_around a_nesting a_pile : Nat → Int32), g ≤ G → G - g < d → mk ≤ mk0 + g → qe_XI L n G mk S Z K F Q H a_text a_tokenKind a_tokenStart a_tokenSize a_code a_meantMark a_first a_size a_endKind a_sort a_codeSize a_isRead a_hasValue a_isKnown a_value a_mark → qg_Bl G a_endKind a_block a_around a_nesting → xl_Up a_text S Z K F Q a_endKind G a_meant a_sort a_hasValue a_isKnown a_value g → f_loose = nI ((qf_bl a_endKind G).2.2.2.2 + (qf_bl a_endKind G).2.2.2.1 (qf_bl a_endKind G).1) → wX_study_14 post d (nI g) f_length f_tokens f_fresh (nI G) (nI mk) f_blocks f_loose f_isStudied f_height f_chosen a_text a_tokenKind a_tokenStart a_tokenSize a_code a_meant a_meantMark a_freshKind a_freshStart a_freshSize a_first a_size a_endKind a_sort a_codeSize a_isRead a_block a_hasValue a_isKnown a_value a_mark a_around a_nesting a_pile a_chosenStart a_chosenSize := by
  intro d
  induction d with
  | zero => intro g mk H f_blocks f_loose f_height a_code a_meant a_meantMark a_sort a_codeSize a_isRead a_block a_hasValue a_isKnown a_value a_mark a_around a_nesting a_pile _ hd; omega
  | succ d ih =>
    intro g mk H f_blocks f_loose f_height a_code a_meant a_meantMark a_sort a_codeSize a_isRead a_block a_hasValue a_isKnown a_value a_mark a_around a_nesting a_pile hg hd hmk hX hB hU hlo
    have hX' := hX
    obtain ⟨x1, x2, x3, x4, x5, x6, ⟨x7, x7b, x7c⟩, x8, x9, x10, x11⟩ := hX
    have hn : n ≤ 80 := Nat.le_trans (qb_nL x3) x1
    have hG := qc_G x5
    rw [wX_study_14]
    refine pk_le G g (fun h1 => h mk H f_blocks f_loose f_height a_code a_meant a_meantMark a_sort a_codeSize a_isRead a_block a_hasValue a_isKnown a_value a_mark a_around a_nesting a_pile (by omega) hX' hB (fun j hj => (hU j (by omega)).1) hlo) (fun h1 => ?_)
    have cg : (nI g).toNatClampNeg = g := nI_clamp (by omega)
    have vg : vp_in (nI g) 82 := pk_in g 82 (by omega)
    refine ⟨vg, ?_⟩
    rw [cg]
    refine br_c (fun r0 => ?_) (fun r0 => ?_)
    · have k8 := qg_kf8 x5 h1
      have hFQ := qc_le x5 h1
      have ci := x11 g h1
      refine xh_readStretch (κ := qe_kf K (F g) (Q g)) (f := F g) (q := Q g) (by omega) (x6 g h1).1 (x6 g h1).2 (by omega) (fun o ho => ⟨?_, k8 o⟩) (fun hh cs' cd' pl' c1 c2 c3 => ?_)
      · have e : qe_kf K (F g) (Q g) o = K (F g + o) := if_pos ho
        rw [e]; exact (x4 _ (by omega)).1
      · have hXn := qg_XI_g (cd' := cd') (mm' := a_meantMark) (so' := upd a_sort g (nI (qg_sr K F Q a_endKind g))) (cs' := cs') (rd' := upd a_isRead g 1) (hv' := a_hasValue) (kn' := a_isKnown) (vl' := a_value) (mr' := a_mark) (H' := H) (mk' := mk) hX' h1 (Nat.le_refl mk) (fun _ _ => rfl) c1 (fun j _ => rfl) (fun j hj => pk_un hj) c2 (fun j hj => pk_un hj) (fun j _ => rfl) (fun j _ => rfl) (fun j _ => rfl) (fun j _ => rfl) (Or.inr pk_us) (x7b g) (x7c g) (x8 g) x9 ⟨fun _ => ⟨pk_us, c3⟩, fun hv => by have z := (ci.2 hv).1; rw [r0] at z; exact absurd z (by decide)⟩
        refine xl_update (by omega) hXn h1 pk_us hB (fun j hj => ⟨qg_Dn_c x5 (by omega) (by omega) (hU j hj).1 (fun _ _ => rfl) (pk_un (by omega)) (fun _ _ => ⟨rfl, rfl⟩), (hU j hj).2⟩) (fun mk' H' hh' me mm hv kn vl mr pl z1 z2 z3 => nm_r (nI_1 g) ?_)
        exact ih (g + 1) mk' H' _ _ _ _ _ _ _ _ _ _ _ _ _ _ _ _ _ h1 (by omega) (by omega) z2 hB z3 hlo
    · have r1 : a_isRead g = 1 := (x7 g).resolve_left r0
      refine xl_update (by omega) hX' h1 r1 hB hU (fun mk' H' hh' me mm hv kn vl mr pl z1 z2 z3 => nm_r (nI_1 g) ?_)
      exact ih (g + 1) mk' H' _ _ _ _ _ _ _ _ _ _ _ _ _ _ _ _ _ h1 (by omega) (by omega) z2 hB z3 hlo
theorem xm_study (hmk : mk < 900000000) (hX : qe_XI L n G mk S Z K F Q H a_text a_tokenKind a_tokenStart a_tokenSize a_code a_meantMark a_first a_size a_endKind a_sort a_codeSize a_isRead a_hasValue a_isKnown a_value a_mark) (hS : f_isStudied = 0 ∨ (f_isStudied = 1 ∧ xm_St G S Z K F Q f_loose a_text a_endKind a_meant a_sort a_block a_isKnown a_value a_around a_nesting))
    (h : ∀ (mk' : Nat) (H' : Int32 → Int32 × Int32) (f_blocks f_loose f_height : Int32) (a_code a_meant a_meantMark a_sort a_codeSize a_isRead a_block a_hasValue a_isKnown a_value a_mark a_around a_nesting a_pile : Nat → Int32), mk' ≤ mk + 81 → qe_XI L n G mk' S Z K F Q H' a_text a_tokenKind a_tokenStart a_tokenSize a_code a_meantMark a_first a_size a_endKind a_sort a_codeSize a_isRead a_hasValue a_isKnown a_value a_mark → xm_St G S Z K F Q f_loose a_text a_endKind a_meant a_sort a_block a_isKnown a_value a_around a_nesting → post (f_length, f_tokens, f_fresh, nI G, nI mk', f_blocks, f_loose, 1, f_height, f_chosen, a_text, a_tokenKind, a_tokenStart, a_tokenSize, a_code, a_meant, a_meantMark, a_freshKind, a_freshStart, a_freshSize, a_first, a_size, a_endKind, a_sort, a_codeSize, a_isRead, a_block, a_hasValue, a_isKnown, a_value, a_mark, a_around, a_nesting, a_pile, a_chosenStart, a_chosenSize)) :
    wpX_study post (f_length, f_tokens, f_fresh, nI G, nI mk, f_blocks, f_loose, f_isStudied, f_height, f_chosen, a_text, a_tokenKind, a_tokenStart, a_tokenSize, a_code, a_meant, a_meantMark, a_freshKind, a_freshStart, a_freshSize, a_first, a_size, a_endKind, a_sort, a_codeSize, a_isRead, a_block, a_hasValue, a_isKnown, a_value, a_mark, a_around, a_nesting, a_pile, a_chosenStart, a_chosenSize) := by
  have hn : n ≤ 80 := Nat.le_trans (qb_nL hX.2.2.1) hX.1
  have hG := qc_G hX.2.2.2.2.1
  rcases hS with s0 | ⟨s1, hs⟩
  · refine br_t s0 (xi_findBlocks (by omega) (fun blk ar ne b1 b2 b3 => ⟨G + 1, ?_⟩))
    exact xm_loop (mk0 := mk) hmk (fun mk' H' f_blocks f_loose f_height a_code a_meant a_meantMark a_sort a_codeSize a_isRead a_block a_hasValue a_isKnown a_value a_mark a_around a_nesting a_pile z1 z2 z3 z4 z5 => h mk' H' f_blocks f_loose f_height a_code a_meant a_meantMark a_sort a_codeSize a_isRead a_block a_hasValue a_isKnown a_value a_mark a_around a_nesting a_pile z1 z2 ⟨z3, z5, z4⟩) (G + 1) 0 mk H _ _ _ _ _ _ _ _ _ _ _ _ _ _ _ _ _ (by omega) (by omega) (by omega) hX ⟨b1, b2, b3⟩ (fun j hj => by omega) rfl
  · subst s1
    exact br_f (by decide) (h mk H f_blocks f_loose f_height a_code a_meant a_meantMark a_sort a_codeSize a_isRead a_block a_hasValue a_isKnown a_value a_mark a_around a_nesting a_pile (by omega) hX hs)
end
end
section
/-! Y: tokens, against a description of the text -/
section
variable {g_length g_tokenCount g_itemCount g_blockCount g_looseCount g_numberCount g_operatorCount : Int32} {b_text b_kinds b_starts b_ends b_owners b_meant b_firsts b_lasts b_sorts b_blocks b_knowns b_values b_around b_depths b_compared b_numbers b_operators : Nat → Int32}
variable {L n : Nat} {S Z K : Nat → Nat}
theorem ya_isAt {post : Int32 → Prop} {p lo hi : Nat} (hL : L ≤ 80) (hp : p ≤ 200) (hlo : lo ≤ 20) (hhi : hi ≤ 20) (hT : qb_Tx b_text L) (h1 : p < L → lo ≤ qb_ch b_text p → qb_ch b_text p ≤ hi → post 1) (h0 : (p < L → qb_ch b_text p < lo ∨ hi < qb_ch b_text p) → post 0) : wpY_isAt post (nI L, g_tokenCount, g_itemCount, g_blockCount, g_looseCount, g_numberCount, g_operatorCount, b_text, b_kinds, b_starts, b_ends, b_owners, b_meant, b_firsts, b_lasts, b_sorts, b_blocks, b_knowns, b_values, b_around, b_depths, b_compared, b_numbers, b_operators) (nI p) (nI lo) (nI hi) := by
  refine pk_le L p (fun h => h0 (fun z => by omega)) (fun h => ⟨pk_in p 81 (by omega), ?_⟩)
  have ht := hT p h
  have e : b_text (nI p).toNatClampNeg = nI (qb_ch b_text p) := by rw [nI_clamp (by omega)]; exact ht.1
  rw [e]
  refine pk_lt (qb_ch b_text p) lo (fun z => h0 (fun _ => Or.inl z)) (fun z => ⟨pk_in p 81 (by omega), ?_⟩)
  exact pk_lt hi (qb_ch b_text p) (fun y => h0 (fun _ => Or.inr y)) (fun y => h1 h z y)
theorem ya_kindAt {post : Int32 → Prop} {p κ e : Nat} (hL : L ≤ 80) (hT : qb_Tx b_text L) (hA : qb_At (qb_ch b_text) L p κ e) (h : post (nI κ)) : wpY_kindAt post (nI L, g_tokenCount, g_itemCount, g_blockCount, g_looseCount, g_numberCount, g_operatorCount, b_text, b_kinds, b_starts, b_ends, b_owners, b_meant, b_firsts, b_lasts, b_sorts, b_blocks, b_knowns, b_values, b_around, b_depths, b_compared, b_numbers, b_operators) (nI p) := by
  obtain ⟨hp, hc⟩ := hA
  have ht := hT p hp
  refine ⟨pk_in p 81 (by omega), nm_r (e' := nI (qb_ch b_text p)) (by rw [nI_clamp (by omega)]; exact ht.1) ?_⟩
  refine pk_le 10 (qb_ch b_text p) (fun z => pk_eq (qb_ch b_text p) 10 (fun y => ?_) (fun y => ?_)) (fun z => pk_le 5 (qb_ch b_text p) (fun y => ?_) (fun y => ?_))
  · rw [nI_1]
    rcases hc with hc | hc | ⟨_, k, _, c1, c2⟩ | ⟨_, k, _, c1⟩ | hc
    · omega
    · omega
    · subst k
      refine ya_isAt (lo := 10) (hi := 10) hL (by omega) (by omega) (by omega) hT (fun _ _ _ => br_f (by decide) h) (fun w => ?_)
      have := w c1; omega
    · subst k
      refine ya_isAt (lo := 10) (hi := 10) hL (by omega) (by omega) (by omega) hT (fun w1 w2 w3 => ?_) (fun w => br_t rfl h)
      have := c1 w1; omega
    · omega
  · rcases hc with hc | hc | hc | hc | ⟨c1, c2, c3, c4⟩
    · omega
    · omega
    · omega
    · omega
    · rw [qa_sub7 (by omega), ← c3]; exact h
  · rcases hc with hc | ⟨_, _, k, _⟩ | hc | hc | hc
    · omega
    · subst k; exact h
    · omega
    · omega
    · omega
  · rcases hc with ⟨_, k, _⟩ | hc | hc | hc | hc
    · subst k; exact h
    · omega
    · omega
    · omega
    · omega
theorem ya_73 {post : SY → Prop} {J : Int32 → Int32 → (Nat → Int32) → (Nat → Int32) → (Nat → Int32) → (Nat → Int32) → (Nat → Int32) → (Nat → Int32) → (Nat → Int32) → (Nat → Int32) → (Nat → Int32) → (Nat → Int32) → (Nat → Int32) → (Nat → Int32) → (Nat → Int32) → (Nat → Int32) → (Nat → Int32) → (Nat → Int32) → (Nat → Int32) → Prop} {s κ e : Nat} (hL : L ≤ 80) (hT : qb_Tx b_text L) (hA : qb_At (qb_ch b_text) L s κ e) (h : wY_readTokens_103 post J (nI e) (nI L) g_tokenCount g_itemCount g_blockCount g_looseCount g_numberCount g_operatorCount b_text b_kinds b_starts b_ends b_owners b_meant b_firsts b_lasts b_sorts b_blocks b_knowns b_values b_around b_depths b_compared b_numbers b_operators) :
    ∀ d x, s < x → x ≤ e → (2 ≤ κ → x = e) → e - x < d → wY_readTokens_73 post J (nI κ) (nI L) g_tokenCount g_itemCount g_blockCount g_looseCount g_numberCount g_operatorCount b_text b_kinds b_starts b_ends b_owners b_meant b_firsts b_lasts b_sorts b_blocks b_knowns b_values b_around b_depths b_compared b_numbers b_operators d (nI x) := by
  have hf := qb_At_f hA
  obtain ⟨hs, hc⟩ := hA
  intro d
  induction d with
  | zero => intro x _ _ _ h; omega
  | succ d ih =>
    intro x h1 h2 h3 h4
    rw [wY_readTokens_73]
    refine pk_le 2 κ (fun z => ?_) (fun z => pk_eq κ 0 (fun k0 => ?_) (fun k0 => ?_))
    · have := h3 z; subst this; exact h
    · rcases hc with ⟨_, _, _, _, c1, c2⟩ | hc | hc | hc | hc
      · refine ya_isAt (lo := 0) (hi := 9) hL (by omega) (by omega) (by omega) hT (fun w1 w2 w3 => br_f (by decide) (nm_r (nI_1 x) (ih (x + 1) (by omega) ?_ (by omega) ?_))) (fun w => br_t rfl ?_)
        · by_cases y : x = e
          · have := c2 (by omega); rw [← y] at this; omega
          · omega
        · by_cases y : x = e
          · have := c2 (by omega); rw [← y] at this; omega
          · omega
        · by_cases y : x = e
          · subst y; exact h
          · have := w (by omega); have := c1 x h1 (by omega); omega
      · omega
      · omega
      · omega
      · omega
    · rcases hc with hc | ⟨_, _, _, _, _, c1, c2⟩ | hc | hc | hc
      · omega
      · refine ya_isAt (lo := 5) (hi := 9) hL (by omega) (by omega) (by omega) hT (fun w1 w2 w3 => br_f (by decide) (nm_r (nI_1 x) (ih (x + 1) (by omega) ?_ (by omega) ?_))) (fun w => br_t rfl ?_)
        · by_cases y : x = e
          · have := c2 (by omega); rw [← y] at this; omega
          · omega
        · by_cases y : x = e
          · have := c2 (by omega); rw [← y] at this; omega
          · omega
        · by_cases y : x = e
          · subst y; exact h
          · have := w (by omega); have := c1 x h1 (by omega); omega
      · omega
      · omega
      · omega
def ya_R (k : Nat) (K S Z : Nat → Nat) (ki st en me ow : Nat → Int32) : Prop := ∀ j, j < k → ki j = nI (K j) ∧ st j = nI (S j) ∧ en j = nI (S j + Z j) ∧ me j = -3 ∧ ow j = -3
theorem ya_R_s {k : Nat} {ki st en me ow : Nat → Int32} (h : ya_R k K S Z ki st en me ow) : ya_R (k + 1) K S Z (upd ki k (nI (K k))) (upd st k (nI (S k))) (upd en k (nI (S k + Z k))) (upd me k (-3)) (upd ow k (-3)) := by
  intro j hj
  by_cases e : j = k
  · rw [e, pk_us, pk_us, pk_us, pk_us, pk_us]; exact ⟨rfl, rfl, rfl, rfl, rfl⟩
  · rw [pk_un e, pk_un e, pk_un e, pk_un e, pk_un e]; exact h j (by omega)
theorem ya_readTokens {post : SY → Prop} (hL : L ≤ 80) (hT : qb_Tx b_text L) (hTok : qb_Tok (qb_ch b_text) L n S Z K)
    (h : ∀ b_kinds b_starts b_ends b_meant b_owners, ya_R n K S Z b_kinds b_starts b_ends b_meant b_owners → post (nI L, nI n, g_itemCount, g_blockCount, g_looseCount, g_numberCount, g_operatorCount, b_text, b_kinds, b_starts, b_ends, b_owners, b_meant, b_firsts, b_lasts, b_sorts, b_blocks, b_knowns, b_values, b_around, b_depths, b_compared, b_numbers, b_operators)) : wpY_readTokens post (nI L, g_tokenCount, g_itemCount, g_blockCount, g_looseCount, g_numberCount, g_operatorCount, b_text, b_kinds, b_starts, b_ends, b_owners, b_meant, b_firsts, b_lasts, b_sorts, b_blocks, b_knowns, b_values, b_around, b_depths, b_compared, b_numbers, b_operators) := by
  have hn := qb_nL hTok
  have key : ∀ d p k b_kinds b_starts b_ends b_meant b_owners, k ≤ n → qb_pe 0 S Z k ≤ p → p ≤ S k → L - p < d → ya_R k K S Z b_kinds b_starts b_ends b_meant b_owners → wY_readTokens_7 post (nI L) g_itemCount g_blockCount g_looseCount g_numberCount g_operatorCount d (nI p) (nI k) b_text b_kinds b_starts b_ends b_owners b_meant b_firsts b_lasts b_sorts b_blocks b_knowns b_values b_around b_depths b_compared b_numbers b_operators := by
    intro d
    induction d with
    | zero => intro p k _ _ _ _ _ _ _ _ h; omega
    | succ d ih =>
      intro p k b_kinds b_starts b_ends b_meant b_owners hk hp1 hp2 hd hR
      have hSL := qb_SL hTok hk
      have hgap := qb_gap hTok hk
      rw [wY_readTokens_7]
      dsimp only
      refine pk_le L p (fun h1 => ?_) (fun h1 => ⟨pk_in p 81 (by omega), ?_⟩)
      · obtain rfl : k = n := by
          by_cases z : k = n
          · exact z
          · have := qb_SZ hTok (k := k) (by omega); omega
        exact h _ _ _ _ _ hR
      · have ht := hT p h1
        rw [nI_clamp (by omega), ht.1]
        refine pk_eq (qb_ch b_text p) 18 (fun z => ?_) (fun z => ?_)
        · have hne : p ≠ S k := by
            intro e
            by_cases y : k = n
            · rw [y, hTok.2.1] at e; omega
            · have := (qb_At_f (hTok.1 k (by omega)).2.2).2.2.2
              rw [← e] at this; omega
          exact nm_r (nI_1 p) (ih (p + 1) k _ _ _ _ _ hk (by omega) (by omega) (by omega) hR)
        · have hpS : p = S k := by
            by_cases y : p = S k
            · exact y
            · exact absurd (hgap.2 p hp1 (by omega)) z
          have hkn : k < n := by
            by_cases y : k = n
            · rw [y, hTok.2.1] at hpS; omega
            · omega
          subst hpS
          have hA := (hTok.1 k hkn).2.2
          have hf := qb_At_f hA
          have vk : vp_in (nI k) 80 := pk_in k 80 (by omega)
          have ck : (nI k).toNatClampNeg = k := nI_clamp (by omega)
          refine ya_kindAt hL hT hA ⟨vk, ?_⟩
          rw [ck]
          refine nm_e ⟨vk, nm_e ?_⟩
          have hend : wY_readTokens_103 post (wY_readTokens_7 post (nI L) g_itemCount g_blockCount g_looseCount g_numberCount g_operatorCount d) (nI (S k + Z k)) (nI L) (nI k) g_itemCount g_blockCount g_looseCount g_numberCount g_operatorCount b_text (upd b_kinds k (nI (K k))) (upd b_starts k (nI (S k))) b_ends b_owners b_meant b_firsts b_lasts b_sorts b_blocks b_knowns b_values b_around b_depths b_compared b_numbers b_operators := by
            refine ⟨vk, ?_⟩
            rw [ck]
            refine nm_e ⟨vk, nm_e ⟨vk, nm_e (nm_r (nI_1 k) ?_)⟩⟩
            exact ih (S k + Z k) (k + 1) _ _ _ _ _ (by omega) (Nat.le_refl _) (qb_gap hTok (k := k + 1) (by omega)).1 (by omega) (ya_R_s hR)
          have hc := hA.2
          refine pk_eq (K k) 3 (fun k3 => ?_) (fun k3 => ?_)
          · have e2 : S k + Z k = S k + 2 := by
              rcases hc with hc | hc | hc | hc | hc <;> omega
            refine nm_r (qa_2 (S k)) ⟨1, ?_⟩
            exact ya_73 hL hT hA hend 1 (S k + 2) (by omega) (by omega) (by omega) (by omega)
          · refine nm_r (nI_1 (S k)) ⟨Z k + 1, ?_⟩
            refine ya_73 hL hT hA hend (Z k + 1) (S k + 1) (by omega) (by omega) (fun y => ?_) (by omega)
            rcases hc with hc | hc | hc | hc | hc <;> omega
  exact ⟨L + 1, key (L + 1) 0 0 _ _ _ _ _ (Nat.zero_le _) (Nat.le_refl _) (Nat.zero_le _) (by omega) (fun j hj => by omega)⟩
end
end
section
/-! Y: whether tokens are an expression -/
def yb_fl (κ : Nat → Nat) : List Nat → List Bool
  | [] => [false]
  | o :: s => if κ o = 6 then false :: yb_fl κ s else if κ o = 3 then true :: (yb_fl κ s).tail else yb_fl κ s
theorem yb_fl_len {κ : Nat → Nat} : ∀ s, 1 ≤ (yb_fl κ s).length ∧ (yb_fl κ s).length ≤ s.length + 1 := by
  intro s
  induction s with
  | nil => exact ⟨Nat.le_refl 1, Nat.le_refl 1⟩
  | cons o s ih =>
    unfold yb_fl
    split
    · rw [List.length_cons, List.length_cons]; omega
    · split
      · rw [List.length_cons, List.length_tail, List.length_cons]; omega
      · rw [List.length_cons]; omega
theorem yb_fl6 {κ : Nat → Nat} {o : Nat} {s : List Nat} (h : κ o = 6) : yb_fl κ (o :: s) = false :: yb_fl κ s := if_pos h
theorem yb_fl3 {κ : Nat → Nat} {o : Nat} {s : List Nat} (h : κ o = 3) : yb_fl κ (o :: s) = true :: (yb_fl κ s).tail := by
  show (if κ o = 6 then false :: yb_fl κ s else if κ o = 3 then true :: (yb_fl κ s).tail else yb_fl κ s) = _
  rw [if_neg (by omega), if_pos h]
theorem yb_fl4 {κ : Nat → Nat} {o : Nat} {s : List Nat} (h : κ o ≠ 6) (h3 : κ o ≠ 3) : yb_fl κ (o :: s) = yb_fl κ s := by
  show (if κ o = 6 then false :: yb_fl κ s else if κ o = 3 then true :: (yb_fl κ s).tail else yb_fl κ s) = _
  rw [if_neg h, if_neg h3]
theorem yb_pop1 {κ : Nat → Nat} : ∀ s r, (∀ t, t ∈ s → 3 ≤ κ t ∧ κ t ≤ 6) → ((qd_pop κ 1 s r).1 = [] → (yb_fl κ s).length = 1) ∧ ((qd_pop κ 1 s r).1 ≠ [] → (yb_fl κ s).length ≠ 1 ∧ (yb_fl κ s).tail = yb_fl κ (qd_pop κ 1 s r).1.tail) := by
  intro s
  induction s with
  | nil => intro r _; exact ⟨fun _ => rfl, fun h => absurd rfl h⟩
  | cons o s ih =>
    intro r hk
    have ho := hk o List.mem_cons_self
    have hs : ∀ t, t ∈ s → 3 ≤ κ t ∧ κ t ≤ 6 := fun t ht => hk t (List.mem_cons_of_mem _ ht)
    by_cases c : 1 ≤ qd_st (κ o)
    · rw [qd_pop_y c]
      have hko := qd_st_1 c
      have hl := yb_fl_len (κ := κ) s
      by_cases c3 : κ o = 3
      · rw [yb_fl3 c3]
        have := ih (o :: r) hs
        have el : (true :: (yb_fl κ s).tail).length = (yb_fl κ s).length := by rw [List.length_cons, List.length_tail]; omega
        rw [el]
        exact this
      · rw [yb_fl4 (by omega) c3]
        exact ih (o :: r) hs
    · rw [qd_pop_n c]
      have h6 : κ o = 6 := qd_ops_tail (κ := κ) (l := 1) rfl (o :: s) r hk o s (by rw [qd_pop_n c])
      have hl := yb_fl_len (κ := κ) s
      rw [yb_fl6 h6]
      refine ⟨fun z => absurd z (by simp), fun _ => ⟨?_, rfl⟩⟩
      rw [List.length_cons]; omega
theorem yb_pop2 {κ : Nat → Nat} {l : Nat} (hl : 2 ≤ l) : ∀ s r, (∀ t, t ∈ s → 3 ≤ κ t ∧ κ t ≤ 6) → yb_fl κ (qd_pop κ l s r).1 = yb_fl κ s := by
  intro s
  induction s with
  | nil => intro r _; rfl
  | cons o s ih =>
    intro r hk
    have hs : ∀ t, t ∈ s → 3 ≤ κ t ∧ κ t ≤ 6 := fun t ht => hk t (List.mem_cons_of_mem _ ht)
    by_cases c : l ≤ qd_st (κ o)
    · rw [qd_pop_y c, ih (o :: r) hs]
      have hko := qd_st_1 (k := κ o) (by omega)
      refine (yb_fl4 (by omega) (fun z => ?_)).symm
      rw [z] at c
      have : qd_st 3 = 1 := rfl
      omega
    · rw [qd_pop_n c]
theorem yb_top2 {κ : Nat → Nat} : ∀ s r, (∀ t, t ∈ s → 3 ≤ κ t ∧ κ t ≤ 6) → ∀ u s', (qd_pop κ 2 s r).1 = u :: s' → κ u = 3 ∨ κ u = 6 := by
  intro s
  induction s with
  | nil => intro r _ u s' h; exact absurd h (by simp [qd_pop])
  | cons o s ih =>
    intro r hk u s' h
    have hs : ∀ t, t ∈ s → 3 ≤ κ t ∧ κ t ≤ 6 := fun t ht => hk t (List.mem_cons_of_mem _ ht)
    by_cases c : 2 ≤ qd_st (κ o)
    · rw [qd_pop_y c] at h; exact ih _ hs u s' h
    · rw [qd_pop_n c] at h
      have e : o = u := (List.cons.inj h).1
      subst e
      have := hk o List.mem_cons_self
      have z4 : κ o ≠ 4 := fun z => c (by rw [z]; decide)
      have z5 : κ o ≠ 5 := fun z => c (by rw [z]; decide)
      omega
/-- a second == in the same brackets, seen by both -/
theorem yb_again {κ : Nat → Nat} {s r : List Nat} (hk : ∀ t, t ∈ s → 3 ≤ κ t ∧ κ t ≤ 6) : ((qd_pop κ 2 s r).1 ≠ [] ∧ κ ((qd_pop κ 2 s r).1.headD 0) = 3) ↔ (yb_fl κ s).headD false = true := by
  have e := yb_pop2 (κ := κ) (l := 2) (by omega) s r hk
  have t2 := yb_top2 (κ := κ) s r hk
  rw [← e]
  generalize (qd_pop κ 2 s r).1 = P at *
  cases P with
  | nil => exact ⟨fun z => absurd rfl z.1, fun z => absurd z (by simp [yb_fl])⟩
  | cons u P =>
    have e1 : (u :: P).headD 0 = u := rfl
    rw [e1]
    rcases t2 u P rfl with k | k
    · rw [yb_fl3 k]; exact ⟨fun _ => rfl, fun _ => ⟨by simp, k⟩⟩
    · rw [yb_fl6 k]; exact ⟨fun z => by omega, fun z => absurd z (by simp)⟩
theorem qe_rp_set {a : Nat → Int32} {x y : Int32} {l : List Int32} (h : qe_rp a (x :: l)) : qe_rp (upd a l.length y) (y :: l) := qe_rp_push h.2
section
variable {g_length g_tokenCount g_itemCount g_blockCount g_looseCount g_numberCount g_operatorCount : Int32} {b_text b_kinds b_starts b_ends b_owners b_meant b_firsts b_lasts b_sorts b_blocks b_knowns b_values b_around b_depths b_compared b_numbers b_operators : Nat → Int32}
variable {f q f0 : Nat} {κ : Nat → Nat} {post : Int32 → SY → Prop}
theorem yb_15 (hq : f + q ≤ 80) (hκ : ∀ o, o < q → b_kinds (f + o) = nI (κ o) ∧ κ o < 8) :
    ∀ c o x d cm, o + c = q → f0 ≤ o → c < d → qd_In κ f0 o x → qe_rp cm ((yb_fl κ x.2.1).map xg_b) →
    ((qd_run κ c o x).bind (qd_end κ) = none → ∀ cm', post 0 (g_length, g_tokenCount, g_itemCount, g_blockCount, g_looseCount, g_numberCount, g_operatorCount, b_text, b_kinds, b_starts, b_ends, b_owners, b_meant, b_firsts, b_lasts, b_sorts, b_blocks, b_knowns, b_values, b_around, b_depths, cm', b_numbers, b_operators)) →
    (∀ r, (qd_run κ c o x).bind (qd_end κ) = some r → ∀ cm', post 1 (g_length, g_tokenCount, g_itemCount, g_blockCount, g_looseCount, g_numberCount, g_operatorCount, b_text, b_kinds, b_starts, b_ends, b_owners, b_meant, b_firsts, b_lasts, b_sorts, b_blocks, b_knowns, b_values, b_around, b_depths, cm', b_numbers, b_operators)) →
    wY_isExpression_15 post (nI (f + q)) g_length g_tokenCount g_itemCount g_blockCount g_looseCount g_numberCount g_operatorCount d (nI ((yb_fl κ x.2.1).length - 1)) (xg_b (!x.1)) (nI (f + o)) b_text b_kinds b_starts b_ends b_owners b_meant b_firsts b_lasts b_sorts b_blocks b_knowns b_values b_around b_depths cm b_numbers b_operators := by
  intro c
  induction c with
  | zero =>
    intro o x d cm hc ho hd hI hcm hN hS
    obtain ⟨d, rfl⟩ : ∃ d', d = d' + 1 := ⟨d - 1, by omega⟩
    rw [wY_isExpression_15]
    refine br_t (nI_le (by omega) (by omega)) ?_
    obtain ⟨i1, i2, i3, i4, i5⟩ := hI
    have hN' : qd_end κ x = none → ∀ cm', post 0 (g_length, g_tokenCount, g_itemCount, g_blockCount, g_looseCount, g_numberCount, g_operatorCount, b_text, b_kinds, b_starts, b_ends, b_owners, b_meant, b_firsts, b_lasts, b_sorts, b_blocks, b_knowns, b_values, b_around, b_depths, cm', b_numbers, b_operators) := hN
    have hS' : ∀ r, qd_end κ x = some r → ∀ cm', post 1 (g_length, g_tokenCount, g_itemCount, g_blockCount, g_looseCount, g_numberCount, g_operatorCount, b_text, b_kinds, b_starts, b_ends, b_owners, b_meant, b_firsts, b_lasts, b_sorts, b_blocks, b_knowns, b_values, b_around, b_depths, cm', b_numbers, b_operators) := hS
    obtain ⟨b, s, r⟩ := x
    have i3' : s.length + r.length ≤ o - f0 := i3
    have hp := yb_pop1 (κ := κ) s r (fun t ht => (i1 t ht).2.2)
    have hfl := yb_fl_len (κ := κ) s
    cases b with
    | false =>
      have e : qd_end κ (false, s, r) = none := if_neg (fun z => absurd z.1 (by simp))
      exact br_f xg_bt (hN' e cm)
    | true =>
      refine br_t rfl (pk_eq ((yb_fl κ s).length - 1) 0 (fun z => ?_) (fun z => ?_))
      · by_cases y : (qd_pop κ 1 s r).1 = []
        · exact hS' _ (if_pos ⟨rfl, y⟩) cm
        · have := (hp.2 y).1; omega
      · by_cases y : (qd_pop κ 1 s r).1 = []
        · have := hp.1 y; omega
        · exact hN' (if_neg (fun w => y w.2)) cm
  | succ c ih =>
    intro o x d cm hc ho hd hI hcm hN hS
    obtain ⟨d, rfl⟩ : ∃ d', d = d' + 1 := ⟨d - 1, by omega⟩
    have hk := hκ o (by omega)
    have hIn := fun y (hy : qd_rd κ o x = some y) => qd_rd_In ho hk.2 hI hy
    obtain ⟨i1, i2, i3, i4, i5⟩ := hI
    have hNx : qd_rd κ o x = none → ∀ cm', post 0 (g_length, g_tokenCount, g_itemCount, g_blockCount, g_looseCount, g_numberCount, g_operatorCount, b_text, b_kinds, b_starts, b_ends, b_owners, b_meant, b_firsts, b_lasts, b_sorts, b_blocks, b_knowns, b_values, b_around, b_depths, cm', b_numbers, b_operators) := by
      intro hr cm'
      refine hN ?_ cm'
      show ((qd_rd κ o x).bind (qd_run κ c (o + 1))).bind (qd_end κ) = none
      rw [hr]; rfl
    have hSx : ∀ y, qd_rd κ o x = some y → ∀ cm', qe_rp cm' ((yb_fl κ y.2.1).map xg_b) → wY_isExpression_15 post (nI (f + q)) g_length g_tokenCount g_itemCount g_blockCount g_looseCount g_numberCount g_operatorCount d (nI ((yb_fl κ y.2.1).length - 1)) (xg_b (!y.1)) (nI (f + (o + 1))) b_text b_kinds b_starts b_ends b_owners b_meant b_firsts b_lasts b_sorts b_blocks b_knowns b_values b_around b_depths cm' b_numbers b_operators := by
      intro y hy cm' p1
      have e : qd_run κ (c + 1) o x = qd_run κ c (o + 1) y := by
        show (qd_rd κ o x).bind (qd_run κ c (o + 1)) = _
        rw [hy]; rfl
      rw [e] at hN hS
      exact ih (o + 1) y d cm' (by omega) (by omega) (by omega) (hIn y hy) p1 hN hS
    rw [wY_isExpression_15]
    refine br_f (nI_ge (by omega) (by omega)) ⟨pk_in (f + o) 80 (by omega), nm_r (e' := nI (κ o)) (by rw [nI_clamp (by omega)]; exact hk.1) ?_⟩
    obtain ⟨b, s, r⟩ := x
    have i3' : s.length + r.length ≤ o - f0 := i3
    have hks : ∀ t, t ∈ s → 3 ≤ κ t ∧ κ t ≤ 6 := fun t ht => (i1 t ht).2.2
    have hfl := yb_fl_len (κ := κ) s
    have hcm : qe_rp cm ((yb_fl κ s).map xg_b) := hcm
    cases b with
    | false =>
      refine br_f xg_bt ?_
      refine pk_le (κ o) 1 (fun k1 => ?_) (fun k1 => ?_)
      · have e : qd_rd κ o (false, s, r) = some (true, s, o :: r) := by unfold qd_rd; rw [if_pos k1]; exact if_neg (by simp)
        exact br_f (qa_ne (b := 6) (by omega) (by omega) (by decide)) (br_t (nI_le (b := 1) k1 (by decide)) (nm_r (nI_1 (f + o)) (hSx _ e cm hcm)))
      · refine pk_eq (κ o) 6 (fun k6 => ?_) (fun k6 => ?_)
        · have e : qd_rd κ o (false, s, r) = some (false, o :: s, r) := by unfold qd_rd; rw [if_neg (by omega), if_pos k6]; exact if_neg (by simp)
          have e2 : (yb_fl κ s).length - 1 + 1 = (yb_fl κ s).length := by omega
          refine nm_r (e' := nI (yb_fl κ s).length) (by rw [nI_1, e2]) ⟨pk_in (yb_fl κ s).length 81 (by omega), ?_⟩
          rw [nI_clamp (by omega), qa_b0]
          refine nm_e (nm_r (nI_1 (f + o)) ?_)
          have z := hSx _ e (upd cm (yb_fl κ s).length 0)
          have ef : yb_fl κ (o :: s) = false :: yb_fl κ s := yb_fl6 k6
          dsimp only at z
          rw [ef, List.length_cons, Nat.add_sub_cancel] at z
          refine z ?_
          have y := qe_rp_push (x := xg_b false) hcm
          rw [List.length_map] at y
          exact y
        · have e : qd_rd κ o (false, s, r) = none := by unfold qd_rd; rw [if_neg (by omega), if_neg k6, if_pos rfl]
          exact br_f (nI_ge (b := κ o) (a := 1) k1 (by omega)) (hNx e cm)
    | true =>
      refine br_t rfl ?_
      -- the flags at the top
      obtain ⟨c0, fl', efl⟩ : ∃ c0 fl', yb_fl κ s = c0 :: fl' := by
        cases hh : yb_fl κ s with
        | nil => rw [hh] at hfl; exact absurd hfl.1 (by simp)
        | cons a l => exact ⟨a, l, rfl⟩
      have hdp : (yb_fl κ s).length - 1 = fl'.length := by rw [efl, List.length_cons]; omega
      rw [efl] at hcm
      have hcm : qe_rp cm (xg_b c0 :: fl'.map xg_b) := hcm
      have hc0 : cm fl'.length = xg_b c0 := by have := hcm.1; rw [List.length_map] at this; exact this
      have hl81 : fl'.length < 81 := by rw [efl, List.length_cons] at hfl; omega
      have h93 : ∀ x6, x6 = nI (κ o) → κ o ≠ 4 → κ o ≠ 5 → κ o ≠ 3 → qd_rd κ o (true, s, r) = none → wY_isExpression_93 post (wY_isExpression_15 post (nI (f + q)) g_length g_tokenCount g_itemCount g_blockCount g_looseCount g_numberCount g_operatorCount d) (nI (f + q)) (nI ((yb_fl κ s).length - 1)) (nI (f + o)) x6 g_length g_tokenCount g_itemCount g_blockCount g_looseCount g_numberCount g_operatorCount b_text b_kinds b_starts b_ends b_owners b_meant b_firsts b_lasts b_sorts b_blocks b_knowns b_values b_around b_depths cm b_numbers b_operators := by
        intro x6 hx n4 n5 n3 e
        subst hx
        exact br_f (qa_ne (b := 4) n4 (by omega) (by decide)) (br_f (qa_ne (b := 5) n5 (by omega) (by decide)) (br_f (qa_ne (b := 3) n3 (by omega) (by decide)) (hNx e cm)))
      refine pk_eq (κ o) 7 (fun k7 => ?_) (fun k7 => ?_)
      · have hp := yb_pop1 (κ := κ) s r hks
        have e : qd_rd κ o (true, s, r) = if (qd_pop κ 1 s r).1 = [] then none else some (true, (qd_pop κ 1 s r).1.tail, (qd_pop κ 1 s r).2) := by
          unfold qd_rd; rw [if_neg (by omega), if_neg (by omega), if_neg (by simp), if_pos k7]
        refine br_c (fun z => ?_) (fun z => ?_)
        · have z0 : (yb_fl κ s).length - 1 = 0 := (qa_le0 (by omega)).mp z
          refine h93 _ rfl (by omega) (by omega) (by omega) ?_
          by_cases y : (qd_pop κ 1 s r).1 = []
          · exact e.trans (if_pos y)
          · have := (hp.2 y).1; omega
        · have z0 : (yb_fl κ s).length - 1 ≠ 0 := fun w => z ((qa_le0 (a := (yb_fl κ s).length - 1) (by omega)).mpr w)
          have y : (qd_pop κ 1 s r).1 ≠ [] := fun w => by have := hp.1 w; omega
          have z2 := hSx _ (e.trans (if_neg y)) cm
          have et := (hp.2 y).2
          dsimp only at z2
          rw [← et, efl] at z2
          refine nm_r (e' := nI (fl'.length - 1)) (by rw [hdp, qa_m1 (by omega)]) (nm_r (nI_1 (f + o)) (z2 hcm.2))
      · by_cases k45 : κ o = 4 ∨ κ o = 5
        · have e : qd_rd κ o (true, s, r) = some (false, o :: (qd_pop κ (qd_st (κ o)) s r).1, (qd_pop κ (qd_st (κ o)) s r).2) := by
            unfold qd_rd; rw [if_neg (by omega), if_neg (by omega), if_neg (by simp), if_neg k7, if_neg (by omega), if_neg (by omega)]
          have hst : 2 ≤ qd_st (κ o) := by
            rcases k45 with k | k <;> rw [k] <;> decide
          have ef : yb_fl κ (o :: (qd_pop κ (qd_st (κ o)) s r).1) = c0 :: fl' := by
            rw [yb_fl4 (by omega) (by omega), yb_pop2 hst s r hks, efl]
          have h120 : wY_isExpression_120 post (wY_isExpression_15 post (nI (f + q)) g_length g_tokenCount g_itemCount g_blockCount g_looseCount g_numberCount g_operatorCount d) (nI (f + q)) (nI ((yb_fl κ s).length - 1)) (nI (f + o)) (nI (κ o)) g_length g_tokenCount g_itemCount g_blockCount g_looseCount g_numberCount g_operatorCount b_text b_kinds b_starts b_ends b_owners b_meant b_firsts b_lasts b_sorts b_blocks b_knowns b_values b_around b_depths cm b_numbers b_operators := by
            have vl : vp_in (nI fl'.length) 81 := pk_in fl'.length 81 hl81
            have fin : ∀ y, y = xg_b c0 → wY_isExpression_15 post (nI (f + q)) g_length g_tokenCount g_itemCount g_blockCount g_looseCount g_numberCount g_operatorCount d (nI fl'.length) 1 (nI (f + (o + 1))) b_text b_kinds b_starts b_ends b_owners b_meant b_firsts b_lasts b_sorts b_blocks b_knowns b_values b_around b_depths (upd cm fl'.length y) b_numbers b_operators := by
              intro y hy
              have z := hSx _ e (upd cm fl'.length y)
              dsimp only at z
              rw [ef, List.length_cons, Nat.add_sub_cancel] at z
              refine z ?_
              have w := qe_rp_set (y := xg_b c0) hcm
              rw [List.length_map] at w
              rw [hy]; exact w
            unfold wY_isExpression_120
            rw [hdp, nI_clamp (by omega), hc0]
            cases c0 with
            | false =>
              refine ⟨vl, br_t rfl (br_f (qa_ne (b := 3) (by omega) (by omega) (by decide)) ⟨vl, ?_⟩)⟩
              rw [qa_b0]
              exact nm_e (nm_r (nI_1 (f + o)) (fin 0 rfl))
            | true =>
              refine ⟨vl, br_f xg_bt ⟨vl, ?_⟩⟩
              rw [nI_clamp (by omega), qa_b1]
              exact nm_e (nm_r (nI_1 (f + o)) (fin 1 rfl))
          refine pk_eq (κ o) 4 (fun _ => h120) (fun k4 => br_t ?_ h120)
          have : κ o = 5 := by omega
          rw [this]; rfl
        · by_cases k3 : κ o = 3
          · have e : qd_rd κ o (true, s, r) = if (qd_pop κ 2 s r).1 ≠ [] ∧ κ ((qd_pop κ 2 s r).1.headD 0) = 3 then none else some (false, o :: (qd_pop κ 2 s r).1, (qd_pop κ 2 s r).2) := by
              unfold qd_rd; rw [if_neg (by omega), if_neg (by omega), if_neg (by simp), if_neg k7, if_neg (by omega), if_pos k3]
            have hag := yb_again (κ := κ) (s := s) (r := r) hks
            rw [efl] at hag
            have vl : vp_in (nI fl'.length) 81 := pk_in fl'.length 81 hl81
            refine br_f (qa_ne (b := 4) (by omega) (by omega) (by decide)) (br_f (qa_ne (b := 5) (by omega) (by omega) (by decide)) (br_t (by rw [k3]; rfl) ?_))
            rw [hdp, nI_clamp (by omega), hc0]
            cases c0 with
            | true => exact ⟨vl, br_f xg_bt (hNx (e.trans (if_pos (hag.mpr rfl))) cm)⟩
            | false =>
              refine ⟨vl, br_t rfl ?_⟩
              unfold wY_isExpression_120
              rw [nI_clamp (by omega), hc0]
              refine ⟨vl, br_t rfl (br_t (by rw [k3]; rfl) ⟨vl, ?_⟩)⟩
              rw [nI_clamp (by omega), qa_b1]
              refine nm_e (nm_r (nI_1 (f + o)) ?_)
              have z := hSx _ (e.trans (if_neg (fun w => absurd (hag.mp w) (by simp)))) (upd cm fl'.length 1)
              have ef : yb_fl κ (o :: (qd_pop κ 2 s r).1) = true :: fl' := by
                rw [yb_fl3 k3, yb_pop2 (Nat.le_refl 2) s r hks, efl]; rfl
              dsimp only at z
              rw [ef, List.length_cons, Nat.add_sub_cancel] at z
              refine z ?_
              have w := qe_rp_set (y := xg_b true) hcm
              rw [List.length_map] at w
              exact w
          · refine h93 _ rfl (by omega) (by omega) k3 ?_
            unfold qd_rd
            by_cases k1 : κ o ≤ 1
            · rw [if_pos k1]; exact if_pos rfl
            · rw [if_neg k1]
              by_cases k6 : κ o = 6
              · rw [if_pos k6]; exact if_pos rfl
              · rw [if_neg k6, if_neg (by simp), if_neg k7, if_pos (by omega)]
theorem yb_isExpression (hq : f + q ≤ 80) (hf0 : f0 ≤ q) (hκ : ∀ o, o < q → b_kinds (f + o) = nI (κ o) ∧ κ o < 8)
    (hN : qd_fin κ f0 q = none → ∀ cm', post 0 (g_length, g_tokenCount, g_itemCount, g_blockCount, g_looseCount, g_numberCount, g_operatorCount, b_text, b_kinds, b_starts, b_ends, b_owners, b_meant, b_firsts, b_lasts, b_sorts, b_blocks, b_knowns, b_values, b_around, b_depths, cm', b_numbers, b_operators)) (hS : ∀ r, qd_fin κ f0 q = some r → ∀ cm', post 1 (g_length, g_tokenCount, g_itemCount, g_blockCount, g_looseCount, g_numberCount, g_operatorCount, b_text, b_kinds, b_starts, b_ends, b_owners, b_meant, b_firsts, b_lasts, b_sorts, b_blocks, b_knowns, b_values, b_around, b_depths, cm', b_numbers, b_operators)) : wpY_isExpression post (g_length, g_tokenCount, g_itemCount, g_blockCount, g_looseCount, g_numberCount, g_operatorCount, b_text, b_kinds, b_starts, b_ends, b_owners, b_meant, b_firsts, b_lasts, b_sorts, b_blocks, b_knowns, b_values, b_around, b_depths, b_compared, b_numbers, b_operators) (nI (f + f0)) (nI (f + q)) := by
  refine nm_e ⟨q - f0 + 1, ?_⟩
  exact yb_15 (f0 := f0) hq hκ (q - f0) f0 (false, [], []) (q - f0 + 1) (upd b_compared 0 (vp_nar .boolean 0)) (by omega) (Nat.le_refl _) (by omega) qd_In0 ⟨by rw [qa_b0]; exact pk_us, trivial⟩ hN hS
theorem yb_sortOf {e e' : Int32} (hq : f + q ≤ 80) (hq0 : 0 < q) (hκ : ∀ o, o < q → b_kinds (f + o) = nI (κ o) ∧ κ o < 8) (he : e' = 8 ↔ e = 8)
    (h : ∀ cm', post (nI (qd_srt κ q e)) (g_length, g_tokenCount, g_itemCount, g_blockCount, g_looseCount, g_numberCount, g_operatorCount, b_text, b_kinds, b_starts, b_ends, b_owners, b_meant, b_firsts, b_lasts, b_sorts, b_blocks, b_knowns, b_values, b_around, b_depths, cm', b_numbers, b_operators)) : wpY_sortOf post (g_length, g_tokenCount, g_itemCount, g_blockCount, g_looseCount, g_numberCount, g_operatorCount, b_text, b_kinds, b_starts, b_ends, b_owners, b_meant, b_firsts, b_lasts, b_sorts, b_blocks, b_knowns, b_values, b_around, b_depths, b_compared, b_numbers, b_operators) (nI f) (nI (f + q)) e' := by
  refine qa_if he (fun e8 => ⟨pk_in f 80 (by omega), ?_⟩) (fun e8 => ?_)
  · have es : qd_srt κ q e = (match qd_fin κ (qd_fr κ q) q with | none => 0 | some _ => if qd_fr κ q = 2 then 2 else 1) := by
      unfold qd_srt; rw [if_neg (by omega), if_pos e8]; rfl
    have h53 : qd_fr κ q = 0 → wY_sortOf_53 post (nI f) (nI (f + q)) g_length g_tokenCount g_itemCount g_blockCount g_looseCount g_numberCount g_operatorCount b_text b_kinds b_starts b_ends b_owners b_meant b_firsts b_lasts b_sorts b_blocks b_knowns b_values b_around b_depths b_compared b_numbers b_operators := by
      intro k0
      rw [k0] at es
      refine yb_isExpression (f := f) (f0 := 0) hq (by omega) hκ (fun hr cm' => br_t rfl ?_) (fun r hr cm' => br_f (by decide) ?_)
      · rw [hr] at es
        have es' : qd_srt κ q e = 0 := es
        have := h cm'; rw [es'] at this; exact this
      · rw [hr] at es
        have es' : qd_srt κ q e = 1 := es
        have := h cm'; rw [es'] at this; exact this
    have nd : ¬ (1 < q ∧ κ 0 = 0 ∧ κ 1 = 2) → wY_sortOf_53 post (nI f) (nI (f + q)) g_length g_tokenCount g_itemCount g_blockCount g_looseCount g_numberCount g_operatorCount b_text b_kinds b_starts b_ends b_owners b_meant b_firsts b_lasts b_sorts b_blocks b_knowns b_values b_around b_depths b_compared b_numbers b_operators := fun y => h53 (if_neg y)
    have h0 := hκ 0 hq0
    rw [nI_clamp (by omega), nI_1]
    refine pk_eq (κ 0) 0 (fun k0 => ?_) (fun k0 => nd (fun y => k0 y.2.1)) h0.1
    rw [pk_sub (by omega), Nat.add_sub_cancel_left]
    refine pk_le q 1 (fun q1 => nd (fun y => by omega)) (fun q1 => ⟨pk_in (f + 1) 80 (by omega), ?_⟩)
    have h1 := hκ 1 (by omega)
    rw [nI_clamp (by omega)]
    refine pk_eq (κ 1) 2 (fun k2 => ?_) (fun k2 => nd (fun y => k2 y.2.2)) h1.1
    have kf : qd_fr κ q = 2 := if_pos ⟨q1, k0, k2⟩
    rw [kf] at es
    rw [qa_2]
    refine yb_isExpression (f := f) (f0 := 2) hq (by omega) hκ (fun hr cm' => br_t rfl ?_) (fun r hr cm' => br_f (by decide) ?_)
    · rw [hr] at es
      have es' : qd_srt κ q e = 0 := es
      have := h cm'; rw [es'] at this; exact this
    · rw [hr] at es
      have es' : qd_srt κ q e = 2 := es
      have := h cm'; rw [es'] at this; exact this
  · have es : qd_srt κ q e = 0 := by unfold qd_srt; rw [if_neg (by omega), if_neg e8]
    have := h b_compared; rw [es] at this; exact this
end
end
section
/-! Y: items and blocks, against the stretches -/
def yc_it (Q : Nat → Nat) : Nat → Nat
  | 0 => 0
  | g + 1 => yc_it Q g + if Q g = 0 then 0 else 1
theorem yc_it0 {Q : Nat → Nat} {g : Nat} (h : Q g = 0) : yc_it Q (g + 1) = yc_it Q g := by
  show yc_it Q g + (if Q g = 0 then 0 else 1) = _; rw [if_pos h]; rfl
theorem yc_it1 {Q : Nat → Nat} {g : Nat} (h : Q g ≠ 0) : yc_it Q (g + 1) = yc_it Q g + 1 := by
  show yc_it Q g + (if Q g = 0 then 0 else 1) = _; rw [if_neg h]
theorem yc_it_le {Q : Nat → Nat} : ∀ g, yc_it Q g ≤ g := by
  intro g
  induction g with
  | zero => exact Nat.le_refl 0
  | succ g ih =>
    show yc_it Q g + (if Q g = 0 then 0 else 1) ≤ g + 1
    split <;> omega
theorem yc_it_mono {Q : Nat → Nat} (g : Nat) : ∀ d, yc_it Q g ≤ yc_it Q (g + d) := by
  intro d
  induction d with
  | zero => exact Nat.le_refl _
  | succ d ih => exact Nat.le_trans ih (Nat.le_add_right _ _)
theorem yc_it_lt {Q : Nat → Nat} {g j : Nat} (h : g < j) (hq : Q g ≠ 0) : yc_it Q g < yc_it Q j := by
  have a := yc_it1 hq
  have b := yc_it_mono (Q := Q) (g + 1) (j - (g + 1))
  have e : g + 1 + (j - (g + 1)) = j := by omega
  rw [e] at b
  omega
theorem yc_it_inj {Q : Nat → Nat} {g j : Nat} (h1 : Q g ≠ 0) (h2 : Q j ≠ 0) (h : yc_it Q g = yc_it Q j) : g = j := by
  by_cases a : g < j
  · have := yc_it_lt a h1; omega
  · by_cases b : j < g
    · have := yc_it_lt b h2; omega
    · omega
/-- every item is a stretch -/
theorem yc_it_ex {Q : Nat → Nat} : ∀ G i, i < yc_it Q G → ∃ g, g < G ∧ Q g ≠ 0 ∧ yc_it Q g = i := by
  intro G
  induction G with
  | zero => intro i hi; exact absurd hi (Nat.not_lt_zero _)
  | succ G ih =>
    intro i hi
    by_cases c : Q G = 0
    · rw [yc_it0 c] at hi
      obtain ⟨g, a, b⟩ := ih i hi
      exact ⟨g, by omega, b⟩
    · rw [yc_it1 c] at hi
      by_cases e : i = yc_it Q G
      · exact ⟨G, by omega, c, e.symm⟩
      · obtain ⟨g, a, b⟩ := ih i (by omega)
        exact ⟨g, by omega, b⟩
def yc_V (n : Nat) (K F Q : Nat → Nat) (E : Nat → Int32) (g p : Nat) (fi la so bk ow ar de : Nat → Int32) : Prop :=
  (∀ j, j < g → Q j ≠ 0 → fi (yc_it Q j) = nI (F j) ∧ la (yc_it Q j) = nI (F j + Q j) ∧ so (yc_it Q j) = nI (qg_sr K F Q E j) ∧ bk (yc_it Q j) = nI (qf_bl E j).1 - 1 ∧ ∀ t, F j ≤ t → t < F j + Q j → ow t = nI (yc_it Q j)) ∧
  (∀ t, t < n → (8 ≤ K t ∨ p ≤ t) → ow t = -3) ∧
  (∀ b, 0 < b → b < (qf_bl E g).2.1 → ar (b - 1) = nI ((qf_bl E g).2.2.1 b) - 1 ∧ de (b - 1) = nI ((qf_bl E g).2.2.2.1 b))
section
variable {g_length g_tokenCount g_itemCount g_blockCount g_looseCount g_numberCount g_operatorCount : Int32} {b_text b_kinds b_starts b_ends b_owners b_meant b_firsts b_lasts b_sorts b_blocks b_knowns b_values b_around b_depths b_compared b_numbers b_operators : Nat → Int32}
variable {f q n G : Nat} {K F Q : Nat → Nat} {E : Nat → Int32}
theorem yc_addItem {post : SY → Prop} {κ : Nat → Nat} {i : Nat} {e e' x : Int32} (hi : i < 80) (hq : f + q ≤ 80) (hq0 : 0 < q) (hκ : ∀ o, o < q → b_kinds (f + o) = nI (κ o) ∧ κ o < 8) (he : e' = 8 ↔ e = 8)
    (h : ∀ cm', post (g_length, g_tokenCount, nI (i + 1), g_blockCount, g_looseCount, g_numberCount, g_operatorCount, b_text, b_kinds, b_starts, b_ends, qa_ow f q (fun _ => nI i) b_owners, b_meant, upd b_firsts i (nI f), upd b_lasts i (nI (f + q)), upd b_sorts i (nI (qd_srt κ q e)), upd b_blocks i x, b_knowns, b_values, b_around, b_depths, cm', b_numbers, b_operators)) :
    wpY_addItem post (g_length, g_tokenCount, nI i, g_blockCount, g_looseCount, g_numberCount, g_operatorCount, b_text, b_kinds, b_starts, b_ends, b_owners, b_meant, b_firsts, b_lasts, b_sorts, b_blocks, b_knowns, b_values, b_around, b_depths, b_compared, b_numbers, b_operators) (nI f) (nI (f + q)) e' x := by
  have vi : vp_in (nI i) 80 := pk_in i 80 hi
  have c : (nI i).toNatClampNeg = i := nI_clamp (by omega)
  unfold wpY_addItem
  dsimp only
  rw [c]
  refine ⟨vi, nm_e ⟨vi, nm_e ?_⟩⟩
  refine yb_sortOf (e := e) hq hq0 hκ he (fun cm' => ⟨vi, nm_e ⟨vi, ?_⟩⟩)
  rw [c]
  refine nm_e ⟨q + 1, ?_⟩
  have key : ∀ d k, k + d = q → wY_addItem_50 post (nI (f + q)) g_length g_tokenCount (nI i) g_blockCount g_looseCount g_numberCount g_operatorCount (d + 1) (nI (f + k)) b_text b_kinds b_starts b_ends (qa_ow f k (fun _ => nI i) b_owners) b_meant (upd b_firsts i (nI f)) (upd b_lasts i (nI (f + q))) (upd b_sorts i (nI (qd_srt κ q e))) (upd b_blocks i x) b_knowns b_values b_around b_depths cm' b_numbers b_operators := by
    intro d
    induction d with
    | zero =>
      intro k hk
      obtain rfl : k = q := by omega
      rw [wY_addItem_50]
      exact br_t (nI_le (Nat.le_refl _) (by omega)) (nm_r (nI_1 i) (h cm'))
    | succ d ih =>
      intro k hk
      rw [wY_addItem_50]
      refine br_f (nI_ge (by omega) (by omega)) ⟨pk_in (f + k) 80 (by omega), ?_⟩
      rw [nI_clamp (by omega)]
      exact nm_r (qa_ow_s (f := fun _ => nI i)) (nm_r (nI_1 (f + k)) (ih (k + 1) (by omega)))
  have z := key q 0 (by omega)
  rw [qa_ow0] at z
  exact z
theorem yc_scan {post : SY → Prop} {x1 x2 : Int32} {e : Nat} (hn : n ≤ 80) (he : e ≤ n) (hK : ∀ t, t < n → b_kinds t = nI (K t) ∧ K t ≤ 10) :
    ∀ c t m, t + c = e → (∀ s, t ≤ s → s < e → K s < 8) → wY_readItems_21 post m x1 x2 (nI e) g_length (nI n) g_itemCount g_blockCount g_looseCount g_numberCount g_operatorCount b_text b_kinds b_starts b_ends b_owners b_meant b_firsts b_lasts b_sorts b_blocks b_knowns b_values b_around b_depths b_compared b_numbers b_operators → wY_readItems_21 post (m + c) x1 x2 (nI t) g_length (nI n) g_itemCount g_blockCount g_looseCount g_numberCount g_operatorCount b_text b_kinds b_starts b_ends b_owners b_meant b_firsts b_lasts b_sorts b_blocks b_knowns b_values b_around b_depths b_compared b_numbers b_operators := by
  intro c
  induction c with
  | zero => intro t m ht _ h; obtain rfl : t = e := (by omega); exact h
  | succ c ih =>
    intro t m ht hs h
    have e1 : m + (c + 1) = (m + c) + 1 := rfl
    rw [e1, wY_readItems_21]
    refine br_f (nI_nlt (by omega) (by omega)) (br_f (nI_ge (by omega) (by omega)) ⟨pk_in t 80 (by omega), ?_⟩)
    have hk := hK t (by omega)
    have h8 := hs t (Nat.le_refl _) (by omega)
    rw [nI_clamp (by omega), hk.1]
    exact br_t (nI_le (b := 7) (by omega) (by decide)) (nm_r (nI_1 t) (ih (t + 1) m (by omega) (fun s s1 s2 => hs s (by omega) s2) h))
end
end
section
/-! Y: readItems -/
theorem yd_op {x : Nat} (h : 0 < x) (hx : x < 2 ^ 31) : nI x - 1 = nI (x - 1) ∧ 0 ≤ nI x - 1 := by
  rw [qa_s1 h]; exact ⟨rfl, nI_pos' (by omega)⟩
theorem yd_op0 : ¬ (0 : Int32) ≤ nI 0 - 1 := by decide
section
variable {g_length g_tokenCount g_itemCount g_blockCount g_looseCount g_numberCount g_operatorCount : Int32} {b_text b_kinds b_starts b_ends b_owners b_meant b_firsts b_lasts b_sorts b_blocks b_knowns b_values b_around b_depths b_compared b_numbers b_operators : Nat → Int32}
variable {n G : Nat} {K F Q : Nat → Nat} {E : Nat → Int32}
theorem yd_71 {post : SY → Prop} {J : Int32 → Int32 → Int32 → Int32 → Int32 → Int32 → Int32 → Int32 → Int32 → Int32 → (Nat → Int32) → (Nat → Int32) → (Nat → Int32) → (Nat → Int32) → (Nat → Int32) → (Nat → Int32) → (Nat → Int32) → (Nat → Int32) → (Nat → Int32) → (Nat → Int32) → (Nat → Int32) → (Nat → Int32) → (Nat → Int32) → (Nat → Int32) → (Nat → Int32) → (Nat → Int32) → (Nat → Int32) → Prop} {g e : Nat} {z : Int32} {s : qf_S} (hs : qf_Bf s g) (hg : g < 80 ∨ (g = 80 ∧ E g ≠ 9)) (h9 : z = 9 ↔ E g = 9) (h10 : z = 10 ↔ E g = 10)
    (hb : ∀ b, 0 < b → b < s.2.1 → b_around (b - 1) = nI (s.2.2.1 b) - 1 ∧ b_depths (b - 1) = nI (s.2.2.2.1 b))
    (h : ∀ ar de, (∀ b, 0 < b → b < (qf_bs (E g) s).2.1 → ar (b - 1) = nI ((qf_bs (E g) s).2.2.1 b) - 1 ∧ de (b - 1) = nI ((qf_bs (E g) s).2.2.2.1 b)) → J (nI (qf_bs (E g) s).1 - 1) (nI (e + 1)) (nI (e + 1)) g_length g_tokenCount g_itemCount (nI ((qf_bs (E g) s).2.1 - 1)) (nI (qf_bs (E g) s).2.2.2.2) g_numberCount g_operatorCount b_text b_kinds b_starts b_ends b_owners b_meant b_firsts b_lasts b_sorts b_blocks b_knowns b_values ar de b_compared b_numbers b_operators) :
    wY_readItems_71 post J (nI s.1 - 1) (nI e) z g_length g_tokenCount g_itemCount (nI (s.2.1 - 1)) (nI s.2.2.2.2) g_numberCount g_operatorCount b_text b_kinds b_starts b_ends b_owners b_meant b_firsts b_lasts b_sorts b_blocks b_knowns b_values b_around b_depths b_compared b_numbers b_operators := by
  obtain ⟨now, cnt, A, N, lo⟩ := s
  obtain ⟨b1, b2, b3, b4, b5, b6, b7⟩ := hs
  have b1 : now < cnt := b1
  have b2 : cnt ≤ g + 1 := b2
  have b3 : A 0 = 0 := b3
  have b4 : N 0 = 0 := b4
  have b5 : ∀ b, 0 < b → b < cnt → A b < b ∧ N b = N (A b) + 1 := b5
  have b6 : lo ≤ g := b6
  have hb : ∀ b, 0 < b → b < cnt → b_around (b - 1) = nI (A b) - 1 ∧ b_depths (b - 1) = nI (N b) := hb
  refine nm_r (nI_1 e) (qa_if h9 (fun e9 => ?_) (fun e9 => qa_if h10 (fun e10 => ?_) (fun e10 => ?_)))
  · have hg' : g < 80 := by
      rcases hg with z | z
      · exact z
      · exact absurd e9 z.2
    have vc : vp_in (nI (cnt - 1)) 80 := pk_in (cnt - 1) 80 (by omega)
    have cc : (nI (cnt - 1)).toNatClampNeg = cnt - 1 := nI_clamp (by omega)
    have es : qf_bs (E g) (now, cnt, A, N, lo) = (cnt, cnt + 1, qf_un A cnt now, qf_un N cnt (N now + 1), lo) := if_pos e9
    rw [es] at h
    have ec : nI cnt - 1 = nI (cnt - 1) := qa_s1 (by omega)
    have ec2 : cnt - 1 + 1 = cnt + 1 - 1 := by omega
    have fin : wY_readItems_116 post J (nI (e + 1)) (nI e) (nI (N now + 1)) (nI (cnt - 1)) g_length g_tokenCount g_itemCount (nI (cnt - 1)) (nI lo) g_numberCount g_operatorCount b_text b_kinds b_starts b_ends b_owners b_meant b_firsts b_lasts b_sorts b_blocks b_knowns b_values (upd b_around (cnt - 1) (nI now - 1)) b_depths b_compared b_numbers b_operators := by
      refine ⟨vc, ?_⟩
      rw [cc]
      refine nm_e (nm_r (e' := nI (cnt + 1 - 1)) (by rw [nI_1, ec2]) (nm_r (nI_1 e) ?_))
      have y := h (upd b_around (cnt - 1) (nI now - 1)) (upd b_depths (cnt - 1) (nI (N now + 1))) (fun b h1 h2 => ?_)
      · dsimp only at y
        rw [ec] at y
        exact y
      · have h2 : b < cnt + 1 := h2
        show upd b_around (cnt - 1) (nI now - 1) (b - 1) = nI (qf_un A cnt now b) - 1 ∧ upd b_depths (cnt - 1) (nI (N now + 1)) (b - 1) = nI (qf_un N cnt (N now + 1) b)
        by_cases eb : b = cnt
        · rw [eb, pk_us, pk_us, qf_us, qf_us]; exact ⟨rfl, rfl⟩
        · rw [pk_un (by omega), pk_un (by omega), qf_ne eb, qf_ne eb]; exact hb b h1 (by omega)
    refine ⟨vc, ?_⟩
    rw [cc]
    refine nm_e ?_
    by_cases n0 : now = 0
    · subst n0
      have e4 : N 0 = 0 := b4
      rw [e4] at fin
      exact br_f yd_op0 fin
    · obtain ⟨o1, o2⟩ := yd_op (x := now) (by omega) (by omega)
      refine br_t o2 ⟨by rw [o1]; exact pk_in (now - 1) 80 (by omega), ?_⟩
      have e1 : b_depths (nI now - 1).toNatClampNeg + 1 = nI (N now + 1) := by
        rw [o1, nI_clamp (by omega), (hb now (by omega) b1).2, nI_1]
      show wY_readItems_116 post J (nI (e + 1)) (nI e) (b_depths (nI now - 1).toNatClampNeg + 1) (nI (cnt - 1)) _ _ _ _ _ _ _ _ _ _ _ _ _ _ _ _ _ _ _ _ _ _ _ _
      rw [e1]
      exact fin
  · by_cases n0 : now = 0
    · subst n0
      have es : qf_bs (E g) (0, cnt, A, N, lo) = (0, cnt, A, N, lo + 1) := by
        unfold qf_bs; rw [if_neg e9, if_pos e10]; exact if_pos rfl
      rw [es] at h
      refine br_f yd_op0 (br_f yd_op0 (nm_r (nI_1 e) ?_))
      rw [nI_1]
      exact h b_around b_depths hb
    · have es : qf_bs (E g) (now, cnt, A, N, lo) = (A now, cnt, A, N, lo) := by
        unfold qf_bs; rw [if_neg e9, if_pos e10]; exact if_neg n0
      rw [es] at h
      obtain ⟨o1, o2⟩ := yd_op (x := now) (by omega) (by omega)
      refine br_t o2 (br_t o2 ⟨by rw [o1]; exact pk_in (now - 1) 80 (by omega), nm_r (e' := nI (A now) - 1) ?_ (nm_r (nI_1 e) ?_)⟩)
      · rw [o1, nI_clamp (by omega)]; exact (hb now (by omega) b1).1
      · exact h b_around b_depths hb
  · have es : qf_bs (E g) (now, cnt, A, N, lo) = (now, cnt, A, N, lo) := by
      unfold qf_bs; rw [if_neg e9, if_neg e10]
    rw [es] at h
    exact nm_r (nI_1 e) (h b_around b_depths hb)
theorem yd_readItems {post : SY → Prop} (hn : n ≤ 80) (hS : qc_Str n K G F Q E) (hK : ∀ t, t < n → b_kinds t = nI (K t) ∧ K t ≤ 10) (how : ∀ t, t < n → b_owners t = -3)
    (h : ∀ b_firsts b_lasts b_sorts b_blocks b_owners b_around b_depths b_compared, yc_V n K F Q E G (n + 1) b_firsts b_lasts b_sorts b_blocks b_owners b_around b_depths → post (g_length, nI n, nI (yc_it Q G), nI ((qf_bl E G).2.1 - 1), nI ((qf_bl E G).2.2.2.2 + (qf_bl E G).2.2.2.1 (qf_bl E G).1), g_numberCount, g_operatorCount, b_text, b_kinds, b_starts, b_ends, b_owners, b_meant, b_firsts, b_lasts, b_sorts, b_blocks, b_knowns, b_values, b_around, b_depths, b_compared, b_numbers, b_operators)) :
    wpY_readItems post (g_length, nI n, g_itemCount, g_blockCount, g_looseCount, g_numberCount, g_operatorCount, b_text, b_kinds, b_starts, b_ends, b_owners, b_meant, b_firsts, b_lasts, b_sorts, b_blocks, b_knowns, b_values, b_around, b_depths, b_compared, b_numbers, b_operators) := by
  have hG := qc_G hS
  have key : ∀ d g p m b_firsts b_lasts b_sorts b_blocks b_owners b_around b_depths b_compared, g + d = G → (g < G → p = F g) → (g = G → p = n + 1) → n + 1 - p < m → yc_V n K F Q E g p b_firsts b_lasts b_sorts b_blocks b_owners b_around b_depths → wY_readItems_21 post m (nI (qf_bl E g).1 - 1) (nI p) (nI p) g_length (nI n) (nI (yc_it Q g)) (nI ((qf_bl E g).2.1 - 1)) (nI (qf_bl E g).2.2.2.2) g_numberCount g_operatorCount b_text b_kinds b_starts b_ends b_owners b_meant b_firsts b_lasts b_sorts b_blocks b_knowns b_values b_around b_depths b_compared b_numbers b_operators := by
    intro d
    induction d with
    | zero =>
      intro g p m b_firsts b_lasts b_sorts b_blocks b_owners b_around b_depths b_compared hg hp1 hp2 hm hV
      obtain rfl : g = G := by omega
      obtain rfl : p = n + 1 := hp2 rfl
      obtain ⟨m, rfl⟩ : ∃ m', m = m' + 1 := ⟨m - 1, by omega⟩
      rw [wY_readItems_21]
      refine br_t (nI_lt (by omega) (by omega)) ?_
      have hh := h b_firsts b_lasts b_sorts b_blocks b_owners b_around b_depths b_compared hV
      obtain ⟨W, hW, hBf⟩ := qg_Bf hS hn
      obtain ⟨v1, v2, v3⟩ := hV
      generalize qf_bl E g = s at *
      obtain ⟨now, cnt, A, N, lo⟩ := s
      obtain ⟨c1, c2, c3, c4, c5, c6, c7⟩ := hBf
      have c1 : now < cnt := c1
      have c2 : cnt ≤ W + 1 := c2
      have c4 : N 0 = 0 := c4
      by_cases n0 : now = 0
      · subst n0
        have e4 : N 0 = 0 := c4
        dsimp only at hh
        rw [e4, Nat.add_zero] at hh
        exact br_f yd_op0 hh
      · obtain ⟨o1, o2⟩ := yd_op (x := now) (by omega) (by omega)
        refine br_t o2 ⟨by rw [o1]; exact pk_in (now - 1) 80 (by omega), nm_r ?_ hh⟩
        have e1 : b_depths (nI now - 1).toNatClampNeg = nI (N now) := by
          rw [o1, nI_clamp (by omega)]; exact (v3 now (by omega) c1).2
        rw [e1]; exact nI_add lo (N now)
    | succ d ih =>
      intro g p m b_firsts b_lasts b_sorts b_blocks b_owners b_around b_depths b_compared hg hp1 hp2 hm hV
      have hgG : g < G := by omega
      have hp := hp1 hgG
      subst hp
      have hle := qc_le hS hgG
      have hgF := qc_gF hS g hgG
      obtain ⟨v1, v2, v3⟩ := hV
      have hbf := qf_bl_f E g
      have h8 := hS.2.2.2.2 g
      obtain ⟨m', rfl⟩ : ∃ m', m = m' + Q g := ⟨m - Q g, by omega⟩
      refine yc_scan hn hle hK (Q g) (F g) m' rfl (fun s s1 s2 => h8 s hgG s1 s2) ?_
      obtain ⟨m', rfl⟩ : ∃ m'', m' = m'' + 1 := ⟨m' - 1, by omega⟩
      rw [wY_readItems_21]
      refine br_f (nI_nlt (by omega) (by omega)) ?_
      -- the end of the stretch, whatever it is
      have fin : ∀ z : Int32, ¬ z ≤ 7 → (z = 8 ↔ E g = 8) → (z = 9 ↔ E g = 9) → (z = 10 ↔ E g = 10) → (g < 80 ∨ (g = 80 ∧ E g ≠ 9)) → wY_readItems_48 post (wY_readItems_21 post m') (nI (qf_bl E g).1 - 1) (nI (F g)) (nI (F g + Q g)) z g_length (nI n) (nI (yc_it Q g)) (nI ((qf_bl E g).2.1 - 1)) (nI (qf_bl E g).2.2.2.2) g_numberCount g_operatorCount b_text b_kinds b_starts b_ends b_owners b_meant b_firsts b_lasts b_sorts b_blocks b_knowns b_values b_around b_depths b_compared b_numbers b_operators := by
        intro z z7 z8 z9 z10 hg80
        have hgo : ∀ b_firsts b_lasts b_sorts b_blocks b_owners b_around b_depths b_compared, yc_V n K F Q E (g + 1) (F g + Q g + 1) b_firsts b_lasts b_sorts b_blocks b_owners b_around b_depths → wY_readItems_21 post m' (nI (qf_bl E (g + 1)).1 - 1) (nI (F g + Q g + 1)) (nI (F g + Q g + 1)) g_length (nI n) (nI (yc_it Q (g + 1))) (nI ((qf_bl E (g + 1)).2.1 - 1)) (nI (qf_bl E (g + 1)).2.2.2.2) g_numberCount g_operatorCount b_text b_kinds b_starts b_ends b_owners b_meant b_firsts b_lasts b_sorts b_blocks b_knowns b_values b_around b_depths b_compared b_numbers b_operators := by
          intro b_firsts b_lasts b_sorts b_blocks b_owners b_around b_depths b_compared hv
          refine ih (g + 1) (F g + Q g + 1) m' _ _ _ _ _ _ _ _ (by omega) (fun y => (hS.2.2.1 g y).1.symm) (fun y => ?_) (by omega) hv
          have := (hS.2.2.2.1 g y).1; omega
        refine br_f z7 ?_
        by_cases q0 : Q g = 0
        · refine br_t (nI_le (by omega) (by omega)) ?_
          refine yd_71 (E := E) (g := g) (s := qf_bl E g) hbf hg80 z9 z10 v3 (fun ar de hb => ?_)
          have y := hgo b_firsts b_lasts b_sorts b_blocks b_owners ar de b_compared ⟨fun j hj hq => v1 j (by
            by_cases e : j = g
            · rw [e] at hq; exact absurd q0 hq
            · omega) hq, fun t t1 t2 => v2 t t1 (by omega), hb⟩
          rw [yc_it0 q0] at y
          exact y
        · refine br_f (nI_ge (by omega) (by omega)) ?_
          have hitle := yc_it_le (Q := Q) g
          refine yc_addItem (κ := qe_kf K (F g) (Q g)) (e := E g) (by omega) (by omega) (by omega) (fun o ho => ?_) z8 (fun cm' => ?_)
          · have e : qe_kf K (F g) (Q g) o = K (F g + o) := if_pos ho
            rw [e]
            exact ⟨(hK (F g + o) (by omega)).1, h8 _ hgG (by omega) (by omega)⟩
          · refine yd_71 (E := E) (g := g) (s := qf_bl E g) hbf hg80 z9 z10 v3 (fun ar de hb => ?_)
            have y := hgo (upd b_firsts (yc_it Q g) (nI (F g))) (upd b_lasts (yc_it Q g) (nI (F g + Q g))) (upd b_sorts (yc_it Q g) (nI (qd_srt (qe_kf K (F g) (Q g)) (Q g) (E g)))) (upd b_blocks (yc_it Q g) (nI (qf_bl E g).1 - 1)) (qa_ow (F g) (Q g) (fun _ => nI (yc_it Q g)) b_owners) ar de cm' ⟨fun j hj hq => ?_, fun t t1 t2 => ?_, hb⟩
            · rw [yc_it1 q0] at y
              exact y
            · by_cases e : j = g
              · subst e
                rw [pk_us, pk_us, pk_us, pk_us]
                exact ⟨rfl, rfl, rfl, rfl, fun t t1 t2 => qa_ow_in t1 t2⟩
              · have hj' : j < g := by omega
                have hne : yc_it Q j ≠ yc_it Q g := fun w => e (yc_it_inj hq q0 w)
                obtain ⟨w1, w2, w3, w4, w5⟩ := v1 j hj' hq
                rw [pk_un hne, pk_un hne, pk_un hne, pk_un hne]
                refine ⟨w1, w2, w3, w4, fun t t1 t2 => ?_⟩
                have := qc_lt hS hj' hgG
                rw [qa_ow_lo (by omega)]
                exact w5 t t1 t2
            · by_cases c1 : F g ≤ t ∧ t < F g + Q g
              · exfalso
                have := h8 t hgG c1.1 c1.2
                omega
              · by_cases c2 : t < F g
                · rw [qa_ow_lo c2]; exact v2 t t1 (by omega)
                · rw [qa_ow_hi (by omega)]; exact v2 t t1 (by omega)
      by_cases last : g + 1 = G
      · obtain ⟨l1, l2⟩ := hS.2.2.2.1 g last
        refine br_t (nI_le (by omega) (by omega)) (fin 11 (by decide) ?_ ?_ ?_ ?_)
        · rw [l2]; decide
        · rw [l2]; decide
        · rw [l2]; decide
        · by_cases z : g < 80
          · exact Or.inl z
          · exact Or.inr ⟨by omega, by rw [l2]; decide⟩
      · obtain ⟨l1, l2, l3, l4⟩ := hS.2.2.1 g (by omega)
        have hk := hK (F g + Q g) l2
        refine br_f (nI_ge (by omega) (by omega)) ⟨pk_in (F g + Q g) 80 (by omega), ?_⟩
        rw [nI_clamp (by omega), hk.1]
        refine fin _ (nI_ge (b := K (F g + Q g)) (a := 7) (by omega) (by omega)) (by rw [l4]) (by rw [l4]) (by rw [l4]) (Or.inl (by omega))
  have h0 := key G 0 0 (n + 2) b_firsts b_lasts b_sorts b_blocks b_owners b_around b_depths b_compared (by omega) (fun _ => hS.2.1.symm) (fun e => by have := hS.1; omega) (by omega) ⟨fun j hj => by omega, fun t t1 _ => how t t1, fun b h1 h2 => by have h2 : b < 1 := h2; omega⟩
  exact ⟨n + 2, h0⟩
end
end
section
/-! Y: names looked up, numbers -/
theorem qf_same_c {T : Nat → Int32} {S Z : Nat → Nat} {t u : Nat} : qf_same T S Z t u ↔ qf_same T S Z u t := by
  constructor
  · intro ⟨a, b⟩; exact ⟨a.symm, fun k hk => (b k (by omega)).symm⟩
  · intro ⟨a, b⟩; exact ⟨a.symm, fun k hk => (b k (by omega)).symm⟩
theorem ye_opeq {b o : Nat} (hb : b < 1000) (ho : o < 1000) : nI b - 1 = nI o - 1 ↔ b = o := by
  constructor
  · intro h
    have h2 : nI b = nI o := by
      have e : ∀ x : Int32, x - 1 + 1 = x := fun x => by grind
      rw [← e (nI b), h, e]
    exact (nI_eq (by omega) (by omega)).mp h2
  · intro h; rw [h]
/-- a stretch as Y names it -/
def ye_v (Q : Nat → Nat) (x : Int32) : Int32 := if x = -1 then -3 else nI (yc_it Q x.toNatClampNeg)
section
variable {g_length g_tokenCount g_itemCount g_blockCount g_looseCount g_numberCount g_operatorCount : Int32} {b_text b_kinds b_starts b_ends b_owners b_meant b_firsts b_lasts b_sorts b_blocks b_knowns b_values b_around b_depths b_compared b_numbers b_operators : Nat → Int32}
variable {n L G W : Nat} {S Z K F Q : Nat → Nat} {E : Nat → Int32}
theorem ye_isSameName {post : Int32 → Prop} {t u : Nat} (hn : n ≤ 80) (hL : L ≤ 80) (ht : t < n) (hu : u < n) (hr : ∀ j, j < n → b_starts j = nI (S j) ∧ b_ends j = nI (S j + Z j) ∧ S j + Z j ≤ L)
    (h1 : qf_same b_text S Z t u → post 1) (h0 : ¬ qf_same b_text S Z t u → post 0) : wpY_isSameName post (g_length, g_tokenCount, g_itemCount, g_blockCount, g_looseCount, g_numberCount, g_operatorCount, b_text, b_kinds, b_starts, b_ends, b_owners, b_meant, b_firsts, b_lasts, b_sorts, b_blocks, b_knowns, b_values, b_around, b_depths, b_compared, b_numbers, b_operators) (nI t) (nI u) := by
  have ct : (nI t).toNatClampNeg = t := nI_clamp (by omega)
  have cu : (nI u).toNatClampNeg = u := nI_clamp (by omega)
  have vt : vp_in (nI t) 80 := pk_in t 80 (by omega)
  have vu : vp_in (nI u) 80 := pk_in u 80 (by omega)
  have rt := hr t ht
  have ru := hr u hu
  have key : Z t = Z u → ∀ d i, i + d = Z t → (∀ k, k < i → b_text (S t + k) = b_text (S u + k)) → wY_isSameName_33 post (nI t) (nI u) g_length g_tokenCount g_itemCount g_blockCount g_looseCount g_numberCount g_operatorCount b_text b_kinds b_starts b_ends b_owners b_meant b_firsts b_lasts b_sorts b_blocks b_knowns b_values b_around b_depths b_compared b_numbers b_operators (d + 1) (nI i) := by
    intro hz d
    induction d with
    | zero =>
      intro i hi hk
      rw [wY_isSameName_33]
      refine ⟨vt, vt, ?_⟩
      rw [ct, rt.1, rt.2.1, pk_sub (by omega), Nat.add_sub_cancel_left]
      exact br_t (nI_le (by omega) (by omega)) (h1 ⟨hz, fun k hk' => hk k (by omega)⟩)
    | succ d ih =>
      intro i hi hk
      rw [wY_isSameName_33]
      refine ⟨vt, vt, ?_⟩
      rw [ct, cu, rt.1, rt.2.1, ru.1, pk_sub (by omega), Nat.add_sub_cancel_left, nI_add, nI_add]
      refine br_f (nI_ge (by omega) (by omega)) ⟨vt, pk_in (S t + i) 81 (by omega), vu, pk_in (S u + i) 81 (by omega), ?_⟩
      rw [nI_clamp (by omega), nI_clamp (by omega)]
      refine br_c (fun e => nm_r (nI_1 i) (ih (i + 1) (by omega) (fun k hk' => ?_))) (fun e => h0 (fun z => e (z.2 i (by omega))))
      by_cases z : k = i
      · rw [z]; exact e
      · exact hk k (by omega)
  refine ⟨vt, vt, vu, vu, ?_⟩
  rw [ct, cu, rt.1, rt.2.1, ru.1, ru.2.1, pk_sub (by omega), pk_sub (by omega), Nat.add_sub_cancel_left, Nat.add_sub_cancel_left]
  exact pk_eq (Z t) (Z u) (fun hz => ⟨Z t + 1, key hz (Z t) 0 (by omega) (fun k hk => by omega)⟩) (fun hz => h0 (fun z => hz z.1))
theorem ye_isWithin {post : Int32 → Prop} {s : qf_S} {o b : Nat} (hs : qf_Bf s W) (hW : W ≤ 80) (ho : o < s.2.1) (hb : b < s.2.1) (ha : ∀ b, 0 < b → b < s.2.1 → b_around (b - 1) = nI (s.2.2.1 b) - 1)
    (h1 : qf_anc s.2.2.1 b o → post 1) (h0 : ¬ qf_anc s.2.2.1 b o → post 0) : wpY_isWithin post (g_length, g_tokenCount, g_itemCount, g_blockCount, g_looseCount, g_numberCount, g_operatorCount, b_text, b_kinds, b_starts, b_ends, b_owners, b_meant, b_firsts, b_lasts, b_sorts, b_blocks, b_knowns, b_values, b_around, b_depths, b_compared, b_numbers, b_operators) (nI b - 1) (nI o - 1) := by
  obtain ⟨s1, s2, s3, s4, s5, s6, s7⟩ := hs
  have key : ∀ d b', b' < s.2.1 → b' < d → (qf_anc s.2.2.1 b' o ↔ qf_anc s.2.2.1 b o) → wY_isWithin_2 post (nI o - 1) g_length g_tokenCount g_itemCount g_blockCount g_looseCount g_numberCount g_operatorCount b_text b_kinds b_starts b_ends b_owners b_meant b_firsts b_lasts b_sorts b_blocks b_knowns b_values b_around b_depths b_compared b_numbers b_operators d (nI b' - 1) := by
    intro d
    induction d with
    | zero => intro b' _ h; omega
    | succ d ih =>
      intro b' hb' hd hiff
      rw [wY_isWithin_2]
      have fin : (qf_anc s.2.2.1 b' o ↔ b' = o) → wY_isWithin_21 post (nI o - 1) (nI b' - 1) g_length g_tokenCount g_itemCount g_blockCount g_looseCount g_numberCount g_operatorCount b_text b_kinds b_starts b_ends b_owners b_meant b_firsts b_lasts b_sorts b_blocks b_knowns b_values b_around b_depths b_compared b_numbers b_operators := by
        intro hh
        exact qa_if (ye_opeq (by omega) (by omega)) (fun e => h1 (hiff.mp (hh.mpr e))) (fun e => h0 (fun z => e (hh.mp (hiff.mpr z))))
      by_cases b0 : b' = 0
      · subst b0
        exact br_t (by decide) (fin (qf_anc_0 s3))
      · have e1 : nI b' - 1 = nI (b' - 1) := qa_s1 (by omega)
        refine br_f (by rw [e1]; exact nI_pos (by omega)) ?_
        by_cases bo : b' = o
        · refine br_t (by rw [bo]) (fin ⟨fun _ => bo, fun _ => ⟨0, bo⟩⟩)
        · refine br_f (fun z => bo ((ye_opeq (by omega) (by omega)).mp z)) ?_
          have := s5 b' (by omega) hb'
          refine ⟨by rw [e1]; exact pk_in (b' - 1) 80 (by omega), nm_r (e' := nI (s.2.2.1 b') - 1) ?_ (ih (s.2.2.1 b') (by omega) (by omega) ?_)⟩
          · rw [e1, nI_clamp (by omega)]; exact ha b' (by omega) hb'
          · rw [← qf_anc_s bo]; exact hiff
  exact ⟨b + 1, key (b + 1) b hb (by omega) Iff.rfl⟩
theorem ye_find {post : Int32 → Prop} {s : qf_S} {g t : Nat} {sr B : Nat → Nat} {P : Nat → Prop} {x : Int32} (hs : qf_Bf s W) (hW : W ≤ 80) (hG : g < 81) (hig : yc_it Q g < 80) (hqg : Q g ≠ 0) (hn : n ≤ 80) (hL : L ≤ 80) (ht : t < n)
    (hI : ∀ k, k ≤ g → Q k ≠ 0 → b_blocks (yc_it Q k) = nI (B k) - 1 ∧ B k < s.2.1 ∧ b_sorts (yc_it Q k) = nI (sr k) ∧ sr k ≤ 3 ∧ b_firsts (yc_it Q k) = nI (F k) ∧ F k < n) (hq2 : ∀ k, sr k = 2 → Q k ≠ 0)
    (ha : ∀ b, 0 < b → b < s.2.1 → b_around (b - 1) = nI (s.2.2.1 b) - 1) (hr : ∀ j, j < n → b_starts j = nI (S j) ∧ b_ends j = nI (S j + Z j) ∧ S j + Z j ≤ L)
    (hP : ∀ k, P k ↔ (sr k = 2 ∧ qf_anc s.2.2.1 (B g) (B k) ∧ qf_same b_text S Z (F k) t)) (hx : qf_lk P g x)
    (h : post (ye_v Q x)) : wpY_find post (g_length, g_tokenCount, g_itemCount, g_blockCount, g_looseCount, g_numberCount, g_operatorCount, b_text, b_kinds, b_starts, b_ends, b_owners, b_meant, b_firsts, b_lasts, b_sorts, b_blocks, b_knowns, b_values, b_around, b_depths, b_compared, b_numbers, b_operators) (nI t) (nI (yc_it Q g)) := by
  have hgi := hI g (Nat.le_refl _) hqg
  have key : ∀ k d, k ≤ g → yc_it Q k < d → (∀ j, k ≤ j → j < g → ¬ P j) → wY_find_4 post (nI t) (nI (yc_it Q g)) g_length g_tokenCount g_itemCount g_blockCount g_looseCount g_numberCount g_operatorCount b_text b_kinds b_starts b_ends b_owners b_meant b_firsts b_lasts b_sorts b_blocks b_knowns b_values b_around b_depths b_compared b_numbers b_operators d (nI (yc_it Q k) - 1) := by
    intro k
    induction k with
    | zero =>
      intro d _ hd hno
      obtain ⟨d, rfl⟩ : ∃ d', d = d' + 1 := ⟨d - 1, by omega⟩
      rw [wY_find_4]
      refine br_t (show nI 0 - 1 < 0 by decide) ?_
      rcases hx with ⟨e, _⟩ | ⟨k, h1, _, h3, _⟩
      · unfold ye_v at h; rw [if_pos e] at h; exact h
      · exact absurd h3 (hno k (by omega) h1)
    | succ k ih =>
      intro d hk hd hno
      have go : ¬ P k → ∀ d, yc_it Q k < d → wY_find_4 post (nI t) (nI (yc_it Q g)) g_length g_tokenCount g_itemCount g_blockCount g_looseCount g_numberCount g_operatorCount b_text b_kinds b_starts b_ends b_owners b_meant b_firsts b_lasts b_sorts b_blocks b_knowns b_values b_around b_depths b_compared b_numbers b_operators d (nI (yc_it Q k) - 1) := fun hp d hd => ih d (by omega) hd (fun j h1 h2 => by
        by_cases z : j = k
        · rw [z]; exact hp
        · exact hno j (by omega) h2)
      by_cases q0 : Q k = 0
      · rw [yc_it0 q0] at hd ⊢
        exact go (fun z => hq2 k ((hP k).mp z).1 q0) d hd
      · rw [yc_it1 q0] at hd ⊢
        obtain ⟨d, rfl⟩ : ∃ d', d = d' + 1 := ⟨d - 1, by omega⟩
        have hile : yc_it Q k < 80 := by
          have := yc_it_lt (Q := Q) (g := k) (j := g) (by omega) q0
          omega
        obtain ⟨i1, i2, i3, i4, i5, i6⟩ := hI k (by omega) q0
        have ck : (nI (yc_it Q k)).toNatClampNeg = yc_it Q k := nI_clamp (by omega)
        have vk : vp_in (nI (yc_it Q k)) 80 := pk_in _ 80 hile
        rw [wY_find_4]
        dsimp only
        rw [nI_pred, ck, i3, i5, xc_pm]
        have go' : ¬ P k → wY_find_4 post (nI t) (nI (yc_it Q g)) g_length g_tokenCount g_itemCount g_blockCount g_looseCount g_numberCount g_operatorCount b_text b_kinds b_starts b_ends b_owners b_meant b_firsts b_lasts b_sorts b_blocks b_knowns b_values b_around b_depths b_compared b_numbers b_operators d (nI (yc_it Q k) - 1) := fun hp => go hp d (by omega)
        refine br_f (nI_pos (by omega)) ⟨vk, ?_⟩
        refine pk_eq (sr k) 2 (fun e2 => ⟨vk, ?_⟩) (fun e2 => nm_e (go' (fun z => e2 ((hP k).mp z).1)))
        refine ye_isSameName hn hL ht i6 hr (fun hsm => br_f (by decide) ⟨pk_in _ 80 hig, vk, ?_⟩) (fun hsm => br_t rfl (nm_e (go' (fun z => hsm (qf_same_c.mp ((hP k).mp z).2.2)))))
        rw [nI_clamp (by omega), i1, hgi.1]
        refine ye_isWithin hs hW i2 hgi.2.1 ha (fun hanc => br_f (by decide) ?_) (fun hanc => br_t rfl (nm_e (go' (fun z => hanc ((hP k).mp z).2.1))))
        have hpk : P k := (hP k).mpr ⟨e2, hanc, qf_same_c.mp hsm⟩
        rcases hx with ⟨_, e⟩ | ⟨k', h1, e, h3, h4⟩
        · exact absurd hpk (e k (by omega))
        · have ek : k' = k := by
            by_cases z1 : k' < k
            · exact absurd hpk (h4 k z1 (by omega))
            · by_cases z2 : k < k'
              · exact absurd h3 (hno k' (by omega) h1)
              · omega
          subst ek
          unfold ye_v at h
          rw [e, if_neg (qa_ne1 (by omega)), nI_clamp (by omega)] at h
          exact h
  exact nm_e ⟨yc_it Q g + 1, key g (yc_it Q g + 1) (Nat.le_refl _) (by omega) (fun j h1 h2 => by omega)⟩
theorem ye_numberAt {post : Int32 → Prop} {t s z : Nat} (ht : t < 80) (hs : b_starts t = nI s) (he : b_ends t = nI (s + z)) (hb : s + z ≤ 80) (h : post (qe_num b_text s z)) : wpY_numberAt post (g_length, g_tokenCount, g_itemCount, g_blockCount, g_looseCount, g_numberCount, g_operatorCount, b_text, b_kinds, b_starts, b_ends, b_owners, b_meant, b_firsts, b_lasts, b_sorts, b_blocks, b_knowns, b_values, b_around, b_depths, b_compared, b_numbers, b_operators) (nI t) := by
  have ct : (nI t).toNatClampNeg = t := nI_clamp (by omega)
  have vt : vp_in (nI t) 80 := pk_in t 80 (by omega)
  have key : ∀ d i, i + d = z → wY_numberAt_9 post (nI t) g_length g_tokenCount g_itemCount g_blockCount g_looseCount g_numberCount g_operatorCount b_text b_kinds b_starts b_ends b_owners b_meant b_firsts b_lasts b_sorts b_blocks b_knowns b_values b_around b_depths b_compared b_numbers b_operators (d + 1) (qe_num b_text s i) (nI (s + i)) := by
    intro d
    induction d with
    | zero =>
      intro i hi
      obtain rfl : i = z := by omega
      rw [wY_numberAt_9]
      refine ⟨vt, ?_⟩
      rw [ct, he]
      exact br_t (nI_le (Nat.le_refl _) (by omega)) h
    | succ d ih =>
      intro i hi
      rw [wY_numberAt_9]
      refine ⟨vt, ?_⟩
      rw [ct, he]
      refine br_f (nI_ge (by omega) (by omega)) ⟨pk_in (s + i) 81 (by omega), ?_⟩
      rw [nI_clamp (by omega), Int32.mul_comm]
      exact nm_e (nm_r (nI_1 (s + i)) (ih (i + 1) (by omega)))
  exact ⟨vt, nm_r (e' := nI s) (by rw [ct]; exact hs) ⟨z + 1, key z 0 (by omega)⟩⟩
end
end
section
/-! Y: an item worked out -/
def yf_op (κ : Nat → Nat) (o : Nat) : Int32 := nI (if κ o = 6 then 0 else κ o)
theorem yf_st {k : Nat} (h3 : 3 ≤ k) (h5 : k ≤ 5) : qd_st k = k - 2 := by
  unfold qd_st
  by_cases a : k = 3
  · rw [if_pos a, a]
  · rw [if_neg a]
    by_cases b : k = 4
    · rw [if_pos b, b]
    · rw [if_neg b, if_pos (by omega)]; omega
theorem yf_st6 : qd_st 6 = 0 := rfl
theorem yf_pop12 {κ : Nat → Nat} : ∀ s r, (∀ t, t ∈ s → 3 ≤ κ t ∧ κ t ≤ 6) → ¬ ((qd_pop κ 2 s r).1 ≠ [] ∧ κ ((qd_pop κ 2 s r).1.headD 0) = 3) → qd_pop κ 1 s r = qd_pop κ 2 s r := by
  intro s
  induction s with
  | nil => intro r _ _; rfl
  | cons o s ih =>
    intro r hk hn
    have ho := hk o List.mem_cons_self
    by_cases c : 2 ≤ qd_st (κ o)
    · rw [qd_pop_y c] at hn ⊢
      rw [qd_pop_y (by omega)]
      exact ih (o :: r) (fun t ht => hk t (List.mem_cons_of_mem _ ht)) hn
    · rw [qd_pop_n c] at hn ⊢
      have k3 : κ o ≠ 3 := fun z => hn ⟨by simp, z⟩
      have z4 : κ o ≠ 4 := fun z => c (by rw [z]; decide)
      have z5 : κ o ≠ 5 := fun z => c (by rw [z]; decide)
      have k6 : κ o = 6 := by omega
      exact qd_pop_n (by rw [k6]; decide)
section
variable {g_length g_tokenCount g_itemCount g_blockCount g_looseCount g_numberCount g_operatorCount : Int32} {b_text b_kinds b_starts b_ends b_owners b_meant b_firsts b_lasts b_sorts b_blocks b_knowns b_values b_around b_depths b_compared b_numbers b_operators : Nat → Int32}
variable {f q f0 i : Nat} {κ : Nat → Nat} {nf : Nat → Int32} {env : Nat → Int32 × Int32}
theorem yf_close {post : SY → Prop} {l : Nat} (hl : 1 ≤ l) (hl3 : l ≤ 3) :
    ∀ s r d nums, s.length < d → s.length ≤ 80 → r.length + s.length ≤ 80 → (∀ t, t ∈ s → 3 ≤ κ t ∧ κ t ≤ 6) → qd_wd κ r = some (qd_ops κ s + 1) → qe_rp b_operators (s.map (yf_op κ)) → qe_rp nums (qd_ev κ nf env r).2 →
    (∀ nums', qe_rp nums' (qd_ev κ nf env (qd_pop κ l s r).2).2 → qe_rp b_operators ((qd_pop κ l s r).1.map (yf_op κ)) → post (g_length, g_tokenCount, g_itemCount, g_blockCount, g_looseCount, nI (qd_ev κ nf env (qd_pop κ l s r).2).2.length, nI (qd_pop κ l s r).1.length, b_text, b_kinds, b_starts, b_ends, b_owners, b_meant, b_firsts, b_lasts, b_sorts, b_blocks, b_knowns, b_values, b_around, b_depths, b_compared, nums', b_operators)) →
    wY_close_0 post (nI (l + 2)) g_length g_tokenCount g_itemCount g_blockCount g_looseCount d (nI (qd_ev κ nf env r).2.length) (nI s.length) b_text b_kinds b_starts b_ends b_owners b_meant b_firsts b_lasts b_sorts b_blocks b_knowns b_values b_around b_depths b_compared nums b_operators := by
  intro s
  induction s with
  | nil =>
    intro r d nums hd _ _ _ _ hop hnum h
    obtain ⟨d, rfl⟩ : ∃ d', d = d' + 1 := ⟨d - 1, by omega⟩
    rw [wY_close_0]
    exact br_t (show nI 0 ≤ 0 by decide) (h nums hnum hop)
  | cons o s ih =>
    intro r d nums hd hs80 hrs hk hw hop hnum h
    rw [List.length_cons] at hd hs80 hrs
    obtain ⟨d, rfl⟩ : ∃ d', d = d' + 1 := ⟨d - 1, by omega⟩
    have ho := hk o List.mem_cons_self
    have hop1 : b_operators s.length = yf_op κ o := by have := hop.1; rw [List.length_map] at this; exact this
    have hle := qd_ev_le (κ := κ) (nf := nf) (env := env) r
    rw [wY_close_0]
    dsimp only
    refine br_f (nI_nle (by rw [List.length_cons]; omega) (by rw [List.length_cons]; omega)) ?_
    rw [List.length_cons, nI_pred, nI_clamp (by omega), hop1]
    refine ⟨pk_in s.length 81 (by omega), ?_⟩
    by_cases c : l ≤ qd_st (κ o)
    · rw [qd_pop_y c] at h
      have hko := qd_st_1 (k := κ o) (by omega)
      have hst := yf_st hko.1 hko.2
      have eop : yf_op κ o = nI (κ o) := by unfold yf_op; rw [if_neg (by omega)]
      rw [eop]
      have eops : qd_ops κ (o :: s) = qd_ops κ s + 1 := by
        show qd_ops κ s + (if κ o = 6 then 0 else 1) = _
        rw [if_neg (by omega)]
      rw [eops] at hw
      have hw' := qd_wd_o hw (o := o) (by omega) (by omega)
      have hlen := qd_ev_len (nf := nf) (env := env) r _ hw
      have hev : qd_ev κ nf env (o :: r) = ((qd_ev κ nf env r).1, qd_jn (κ o) ((qd_ev κ nf env r).2.tail.headD 0) ((qd_ev κ nf env r).2.headD 0) :: (qd_ev κ nf env r).2.tail.tail) := by
        show qd_sp κ nf env o (qd_ev κ nf env r) = _
        unfold qd_sp; rw [if_neg (by omega), if_neg (by omega)]
      have ihn := fun nums => ih (o :: r) d nums (by omega) (by omega) (by rw [List.length_cons]; omega) (fun t ht => hk t (List.mem_cons_of_mem _ ht)) hw' hop.2
      rw [hev] at ihn
      generalize qd_ev κ nf env r = ev at *
      obtain ⟨a, st⟩ := ev
      have hlen : st.length = qd_ops κ s + 1 + 1 := hlen
      have hle : st.length ≤ r.length + 1 := hle
      cases st with
      | nil => exact absurd hlen (by simp)
      | cons y st =>
        cases st with
        | nil => exact absurd hlen (by simp)
        | cons x st =>
          rw [List.length_cons, List.length_cons] at hle
          have hp1 : nums (st.length + 1) = y := by have := hnum.1; rw [List.length_cons] at this; exact this
          have hp2 : nums st.length = x := hnum.2.1
          have v1 : vp_in (nI st.length) 81 := pk_in st.length 81 (by omega)
          have v2 : vp_in (nI (st.length + 1)) 81 := pk_in (st.length + 1) 81 (by omega)
          have go : ∀ v, v = qd_jn (κ o) x y → wY_close_0 post (nI (l + 2)) g_length g_tokenCount g_itemCount g_blockCount g_looseCount d (nI (st.length + 1)) (nI s.length) b_text b_kinds b_starts b_ends b_owners b_meant b_firsts b_lasts b_sorts b_blocks b_knowns b_values b_around b_depths b_compared (upd nums st.length v) b_operators := by
            intro v hv
            subst hv
            exact ihn _ (qe_rp_push hnum.2.2) h
          refine br_f (nI_nlt (by omega) (by omega)) (nm_e (nm_r (nI_pred (st.length + 1)) ⟨v2, nm_r (e' := y) (by rw [nI_clamp (by omega)]; exact hp1) ?_⟩))
          rw [nI_pred, nI_clamp (by omega)]
          refine ⟨v1, nm_r hp2 ⟨pk_in s.length 81 (by omega), nm_r (e' := nI (κ o)) (by rw [nI_clamp (by omega), hop1]; exact eop) ?_⟩⟩
          refine pk_eq (κ o) 4 (fun e4 => ⟨v1, nm_e (go _ ?_)⟩) (fun e4 => pk_eq (κ o) 5 (fun e5 => ⟨v1, nm_e (go _ ?_)⟩) (fun e5 => br_c (fun z => ⟨v1, nm_e (go _ ?_)⟩) (fun z => ⟨v1, nm_e (go _ ?_)⟩)))
          · unfold qd_jn; rw [if_pos e4]
          · unfold qd_jn; rw [if_neg e4, if_pos e5]
          · unfold qd_jn; rw [if_neg e4, if_neg e5, if_pos z]
          · unfold qd_jn; rw [if_neg e4, if_neg e5, if_neg z]
    · rw [qd_pop_n c] at h
      have hlt : (if κ o = 6 then 0 else κ o) < l + 2 := by
        by_cases k6 : κ o = 6
        · rw [if_pos k6]; omega
        · rw [if_neg k6]
          have hst := yf_st (k := κ o) ho.1 (by omega)
          omega
      have := h nums hnum hop
      rw [List.length_cons] at this
      exact br_t (nI_lt hlt (by omega)) this
end
end
section
/-! Y: an item worked out, token by token -/
/-- meanings written for the names below o -/
def yg_Me (κ : Nat → Nat) (Q : Nat → Nat) (f f0 o : Nat) (me b0 mea : Nat → Int32) : Prop :=
  (∀ t, f0 ≤ t → t < o → κ t = 0 → mea (f + t) = ye_v Q (me (f + t))) ∧ (∀ j, (∀ t, f0 ≤ t → t < o → κ t = 0 → j ≠ f + t) → mea j = b0 j)
theorem yg_Me_0 {κ Q : Nat → Nat} {f f0 o : Nat} {me b0 mea : Nat → Int32} (h : yg_Me κ Q f f0 o me b0 mea) (ho : f0 ≤ o) (hk : κ o = 0) : yg_Me κ Q f f0 (o + 1) me b0 (upd mea (f + o) (ye_v Q (me (f + o)))) := by
  refine ⟨fun t t1 t2 t3 => ?_, fun j hj => ?_⟩
  · by_cases e : t = o
    · rw [e, pk_us]
    · rw [pk_un (by omega)]; exact h.1 t t1 (by omega) t3
  · rw [pk_un (hj o ho (by omega) hk)]
    exact h.2 j (fun t t1 t2 t3 => hj t t1 (by omega) t3)
theorem yg_Me_1 {κ Q : Nat → Nat} {f f0 o : Nat} {me b0 mea : Nat → Int32} (h : yg_Me κ Q f f0 o me b0 mea) (hk : κ o ≠ 0) : yg_Me κ Q f f0 (o + 1) me b0 mea := by
  refine ⟨fun t t1 t2 t3 => ?_, fun j hj => ?_⟩
  · by_cases e : t = o
    · rw [e] at t3; exact absurd t3 hk
    · exact h.1 t t1 (by omega) t3
  · exact h.2 j (fun t t1 t2 t3 => hj t t1 (by omega) t3)
section
variable {g_length g_tokenCount g_itemCount g_blockCount g_looseCount g_numberCount g_operatorCount : Int32} {b_text b_kinds b_starts b_ends b_owners b_meant b_firsts b_lasts b_sorts b_blocks b_knowns b_values b_around b_depths b_compared b_numbers b_operators : Nat → Int32}
variable {f q f0 i : Nat} {κ Q : Nat → Nat} {nf : Nat → Int32} {me kn vl : Nat → Int32} {post : SY → Prop}
theorem yg_60 (hi : i < 80) (hq : f + q ≤ 80) (hκ : ∀ o, o < q → b_kinds (f + o) = nI (κ o) ∧ κ o < 8) (hla : b_lasts i = nI (f + q)) {so : Nat} (hso : b_sorts i = nI so) (hso1 : 0 < so) (hso3 : so ≤ 3)
    (hfind : ∀ (p : Int32 → Prop) nc oc nums ops knw mea o, o < q → f0 ≤ o → κ o = 0 → p (ye_v Q (me (f + o))) → wpY_find p (g_length, g_tokenCount, g_itemCount, g_blockCount, g_looseCount, nc, oc, b_text, b_kinds, b_starts, b_ends, b_owners, mea, b_firsts, b_lasts, b_sorts, b_blocks, knw, b_values, b_around, b_depths, b_compared, nums, ops) (nI (f + o)) (nI i))
    (hnum : ∀ (p : Int32 → Prop) nc oc nums ops knw mea o, o < q → κ o = 1 → p (nf o) → wpY_numberAt p (g_length, g_tokenCount, g_itemCount, g_blockCount, g_looseCount, nc, oc, b_text, b_kinds, b_starts, b_ends, b_owners, mea, b_firsts, b_lasts, b_sorts, b_blocks, knw, b_values, b_around, b_depths, b_compared, nums, ops) (nI (f + o)))
    (hme : ∀ o, o < q → f0 ≤ o → κ o = 0 → me (f + o) = -1 ∨ ∃ k, k < 1000 ∧ me (f + o) = nI k ∧ yc_it Q k < 80 ∧ yc_it Q k ≠ i ∧ b_knowns (yc_it Q k) = kn k ∧ b_values (yc_it Q k) = vl k)
    (hb3 : ∀ o, o < q → b_meant (f + o) = -3)
    (h : ∀ rr, qd_fin κ f0 q = some rr → ∀ nc oc nums ops mea, yg_Me κ Q f f0 q me b_meant mea → post (g_length, g_tokenCount, g_itemCount, g_blockCount, g_looseCount, nc, oc, b_text, b_kinds, b_starts, b_ends, b_owners, mea, b_firsts, b_lasts, b_sorts, b_blocks, upd b_knowns i (qd_evs κ nf (fun o => qf_env kn vl (me (f + o))) rr).1, upd b_values i (qd_evs κ nf (fun o => qf_env kn vl (me (f + o))) rr).2, b_around, b_depths, b_compared, nums, ops)) :
    ∀ c o x d nums ops mea rr, o + c = q → f0 ≤ o → c < d → qd_In κ f0 o x → (qd_run κ c o x).bind (qd_end κ) = some rr → qd_fin κ f0 q = some rr → qe_rp ops (x.2.1.map (yf_op κ)) → qe_rp nums (qd_ev κ nf (fun o => qf_env kn vl (me (f + o))) x.2.2).2 → yg_Me κ Q f f0 o me b_meant mea →
    wY_work_60 post (nI i) d (nI (f + o)) g_length g_tokenCount g_itemCount g_blockCount g_looseCount (nI (qd_ev κ nf (fun o => qf_env kn vl (me (f + o))) x.2.2).2.length) (nI x.2.1.length) b_text b_kinds b_starts b_ends b_owners mea b_firsts b_lasts b_sorts b_blocks (upd b_knowns i (qd_ev κ nf (fun o => qf_env kn vl (me (f + o))) x.2.2).1) b_values b_around b_depths b_compared nums ops := by
  have ci : (nI i).toNatClampNeg = i := nI_clamp (by omega)
  have vi : vp_in (nI i) 80 := pk_in i 80 hi
  intro c
  induction c with
  | zero =>
    intro o x d nums ops mea rr hc ho hd hI hrun hfin hops hnums hMe
    obtain ⟨d, rfl⟩ : ∃ d', d = d' + 1 := ⟨d - 1, by omega⟩
    have hrun : qd_end κ x = some rr := hrun
    obtain ⟨b, s, r⟩ := x
    obtain ⟨i1, i2, i3, i4, i5⟩ := hI
    have i3' : s.length + r.length ≤ o - f0 := i3
    rw [wY_work_60]
    refine ⟨vi, ?_⟩
    rw [ci, hla]
    refine br_t (nI_le (by omega) (by omega)) ?_
    unfold qd_end at hrun
    by_cases cc : (b, s, r).1 = true ∧ (qd_pop κ 1 s r).1 = []
    · rw [if_pos cc] at hrun
      have hb : b = true := cc.1
      subst hb
      have hw : qd_wd κ r = some (qd_ops κ s + 1) := i5
      have hp := (qd_pop_In (κ := κ) (l := 1) (Nat.le_refl 1) s r hw).1
      injection hrun with hrun
      have hrun : (qd_pop κ 1 s r).2 = rr := hrun
      refine ⟨s.length + 1, yf_close (l := 1) (Nat.le_refl 1) (by omega) s r (s.length + 1) nums (by omega) (by omega) (by omega) (fun t ht => (i1 t ht).2.2) hw hops hnums (fun nums' n1 n2 => ?_)⟩
      rw [cc.2] at hp
      rw [hrun] at n1 hp ⊢
      have hlen := qd_ev_len (nf := nf) (env := fun o => qf_env kn vl (me (f + o))) rr _ hp
      obtain rfl : o = q := by omega
      refine ⟨vi, ?_⟩
      rw [ci, pk_us]
      have hh := fun nc oc => h rr hfin nc oc nums' ops mea hMe
      -- the flag is not touched by the last operators
      have hfl : (qd_ev κ nf (fun o => qf_env kn vl (me (f + o))) rr).1 = (qd_ev κ nf (fun o => qf_env kn vl (me (f + o))) r).1 := by
        have : ∀ s r, (∀ t, t ∈ s → 3 ≤ κ t ∧ κ t ≤ 6) → (qd_ev κ nf (fun o => qf_env kn vl (me (f + o))) (qd_pop κ 1 s r).2).1 = (qd_ev κ nf (fun o => qf_env kn vl (me (f + o))) r).1 := by
          intro s
          induction s with
          | nil => intro r _; rfl
          | cons u s ihs =>
            intro r hk
            by_cases c1 : 1 ≤ qd_st (κ u)
            · rw [qd_pop_y c1, ihs (u :: r) (fun t ht => hk t (List.mem_cons_of_mem _ ht))]
              have := qd_st_1 c1
              show (qd_sp κ nf (fun o => qf_env kn vl (me (f + o))) u (qd_ev κ nf (fun o => qf_env kn vl (me (f + o))) r)).1 = _
              unfold qd_sp; rw [if_neg (by omega), if_neg (by omega)]
            · rw [qd_pop_n c1]
        rw [← hrun]
        exact this s r (fun t ht => (i1 t ht).2.2)
      unfold qd_evs at hh
      dsimp only
      rw [← hfl]
      generalize qd_ev κ nf (fun o => qf_env kn vl (me (f + o))) rr = ev at *
      obtain ⟨a, st⟩ := ev
      refine br_c (fun z => ⟨vi, nm_e ?_⟩) (fun z => ⟨vi, nm_e ?_⟩)
      · have z : a = 0 := z
        have y := hh (nI st.length) (nI (qd_pop κ 1 s r).1.length)
        have e : (if a = 0 then (0 : Int32) else st.headD 0) = 0 := if_pos z
        dsimp only at y
        rw [e] at y
        exact y
      · have z : ¬ a = 0 := z
        have y := hh (nI st.length) (nI (qd_pop κ 1 s r).1.length)
        have e : (if a = 0 then (0 : Int32) else st.headD 0) = st.headD 0 := if_neg z
        dsimp only at y
        rw [e] at y
        cases st with
        | nil => exact absurd hlen (by simp [qd_ops])
        | cons v st =>
          cases st with
          | cons w st => exact absurd hlen (by simp [qd_ops])
          | nil =>
            have e2 : nums' 0 = v := n1.1
            rw [e2]
            exact y
    · rw [if_neg cc] at hrun; exact absurd hrun (by simp)
  | succ c ih =>
    intro o x d nums ops mea rr hc ho hd hI hrun hfin hops hnums hMe
    obtain ⟨d, rfl⟩ : ∃ d', d = d' + 1 := ⟨d - 1, by omega⟩
    have hk := hκ o (by omega)
    have hrun : ((qd_rd κ o x).bind (qd_run κ c (o + 1))).bind (qd_end κ) = some rr := hrun
    cases hrd : qd_rd κ o x with
    | none => rw [hrd] at hrun; exact absurd hrun (by simp)
    | some y =>
      rw [hrd] at hrun
      have hrun : (qd_run κ c (o + 1) y).bind (qd_end κ) = some rr := hrun
      have hIn := qd_rd_In ho hk.2 hI hrd
      obtain ⟨i1, i2, i3, i4, i5⟩ := hI
      have go := fun nums ops mea h1 h2 h3 => ih (o + 1) y d nums ops mea rr (by omega) (by omega) (by omega) hIn hrun hfin h1 h2 h3
      rw [wY_work_60]
      dsimp only
      rw [ci, hla, hso, nI_clamp (by omega), hk.1]
      refine ⟨vi, br_f (nI_ge (by omega) (by omega)) ⟨vi, br_f (nI_nle hso1 (by omega)) ⟨pk_in (f + o) 80 (by omega), nm_e ?_⟩⟩⟩
      obtain ⟨b, s, r⟩ := x
      have i3' : s.length + r.length ≤ o - f0 := i3
      have hks : ∀ t, t ∈ s → 3 ≤ κ t ∧ κ t ≤ 6 := fun t ht => (i1 t ht).2.2
      have hops : qe_rp ops (s.map (yf_op κ)) := hops
      unfold qd_rd at hrd
      by_cases k1 : κ o ≤ 1
      · -- a name or a number
        rw [if_pos k1] at hrd
        have hy : y = (true, s, o :: r) := by
          cases b with
          | true => exact absurd hrd (by simp)
          | false => exact (Option.some.inj ((if_neg (by simp)).symm.trans hrd)).symm
        subst hy
        have hle := qd_ev_le (κ := κ) (nf := nf) (env := fun o => qf_env kn vl (me (f + o))) r
        have h01 := qd_ev_01 (κ := κ) (nf := nf) (env := fun o => qf_env kn vl (me (f + o))) r
        have es : qd_ev κ nf (fun o => qf_env kn vl (me (f + o))) (o :: r) = qd_sp κ nf (fun o => qf_env kn vl (me (f + o))) o (qd_ev κ nf (fun o => qf_env kn vl (me (f + o))) r) := rfl
        dsimp only at go hnums ⊢
        rw [es] at go
        generalize qd_ev κ nf (fun o => qf_env kn vl (me (f + o))) r = ev at *
        obtain ⟨a, st⟩ := ev
        have hle : st.length ≤ r.length + 1 := hle
        have h01 : a = 0 ∨ a = 1 := h01
        have hnums : qe_rp nums st := hnums
        have vn : vp_in (nI st.length) 81 := pk_in st.length 81 (by omega)
        have cn : (nI st.length).toNatClampNeg = st.length := nI_clamp (by omega)
        have vo : vp_in (nI (f + o)) 80 := pk_in (f + o) 80 (by omega)
        have co : (nI (f + o)).toNatClampNeg = f + o := nI_clamp (by omega)
        refine br_f (nI_ge (b := 2) (by omega) (by decide)) ?_
        have h202 : ∀ v a' mea', qd_sp κ nf (fun o => qf_env kn vl (me (f + o))) o (a, st) = (a', v :: st) → yg_Me κ Q f f0 (o + 1) me b_meant mea' → wY_work_202 post (wY_work_60 post (nI i) d) (nI i) (nI (f + o)) v (nI st.length) g_length g_tokenCount g_itemCount g_blockCount g_looseCount (nI st.length) (nI s.length) b_text b_kinds b_starts b_ends b_owners mea' b_firsts b_lasts b_sorts b_blocks (upd b_knowns i a') b_values b_around b_depths b_compared nums ops := by
          intro v a' mea' e1 hMe'
          rw [e1] at go
          refine ⟨vn, ?_⟩
          rw [cn]
          exact nm_e (nm_r (nI_1 st.length) (nm_r (nI_1 (f + o)) (go _ ops mea' hops (qe_rp_push hnums) hMe')))
        refine pk_eq (κ o) 0 (fun k0 => ?_) (fun k0 => ?_)
        · refine hfind _ _ _ nums ops _ mea o (by omega) ho k0 ⟨vo, ?_⟩
          rw [co]
          refine nm_e ⟨vo, nm_r (e' := ye_v Q (me (f + o))) pk_us ⟨vi, ?_⟩⟩
          rw [ci, pk_us]
          have hMe' := yg_Me_0 hMe ho k0
          have esp : qd_sp κ nf (fun o => qf_env kn vl (me (f + o))) o (a, st) = ((if a = 0 then 0 else if (qf_env kn vl (me (f + o))).1 = 0 then 0 else 1), (qf_env kn vl (me (f + o))).2 :: st) := by
            unfold qd_sp; rw [if_neg (by omega), if_pos k0]
          have hm := hme o (by omega) ho k0
          generalize hmv : me (f + o) = m at *
          have h163 : ∀ z, (z = 0 ∨ z = 1) → z = (if a = 0 then 0 else if (qf_env kn vl m).1 = 0 then 0 else 1) → wY_work_163 post (wY_work_60 post (nI i) d) (nI i) (nI (f + o)) (nI (κ o)) (ye_v Q m) z (nI i) g_length g_tokenCount g_itemCount g_blockCount g_looseCount (nI st.length) (nI s.length) b_text b_kinds b_starts b_ends b_owners (upd mea (f + o) (ye_v Q m)) b_firsts b_lasts b_sorts b_blocks (upd b_knowns i a) b_values b_around b_depths b_compared nums ops := by
            intro z hz01 hz
            refine ⟨vi, ?_⟩
            rw [ci, qa_b01 hz01, qe_upd2]
            refine nm_e (br_f (qa_ne (b := 1) (by omega) (by omega) (by decide)) ?_)
            rcases hm with hm | ⟨k, hk1, hm, hk2, hk3, hk4, hk5⟩
            · have e1 : ye_v Q m = -3 := by unfold ye_v; rw [if_pos hm]
              refine br_t (by rw [e1]; decide) (h202 0 z _ ?_ hMe')
              rw [esp, ← hz]; unfold qf_env; rw [if_pos hm]
            · have hne : ¬ m = -1 := by rw [hm]; exact qa_ne1 (by omega)
              have e1 : ye_v Q m = nI (yc_it Q k) := by unfold ye_v; rw [if_neg hne, hm, nI_clamp (by omega)]
              refine br_f (by rw [e1]; exact nI_pos (by omega)) ⟨by rw [e1]; exact pk_in _ 80 hk2, ?_⟩
              have e2 : b_values (ye_v Q m).toNatClampNeg = vl k := by rw [e1, nI_clamp (by omega)]; exact hk5
              show wY_work_202 post (wY_work_60 post (nI i) d) (nI i) (nI (f + o)) (b_values (ye_v Q m).toNatClampNeg) (nI st.length) _ _ _ _ _ _ _ _ _ _ _ _ _ _ _ _ _ _ _ _ _ _ _ _
              rw [e2]
              refine h202 (vl k) z _ ?_ hMe'
              rw [esp, ← hz]; unfold qf_env; rw [if_neg hne, hm, nI_clamp (by omega)]
          by_cases a0 : a = 0
          · exact br_t a0 (h163 0 (Or.inl rfl) (by rw [if_pos a0]))
          · refine br_f a0 (br_f (qa_ne (b := 1) (by omega) (by omega) (by decide)) ?_)
            rcases hm with hm | ⟨k, hk1, hm, hk2, hk3, hk4, hk5⟩
            · have e1 : ye_v Q m = -3 := by unfold ye_v; rw [if_pos hm]
              refine br_t (by rw [e1]; decide) (h163 0 (Or.inl rfl) ?_)
              rw [if_neg a0]; unfold qf_env; rw [if_pos hm]; rfl
            · have hne : ¬ m = -1 := by rw [hm]; exact qa_ne1 (by omega)
              have e1 : ye_v Q m = nI (yc_it Q k) := by unfold ye_v; rw [if_neg hne, hm, nI_clamp (by omega)]
              refine br_f (by rw [e1]; exact nI_pos (by omega)) ⟨by rw [e1]; exact pk_in _ 80 hk2, ?_⟩
              have e3 : (qf_env kn vl m).1 = kn k := by unfold qf_env; rw [if_neg hne, hm, nI_clamp (by omega)]
              have e2 : upd b_knowns i a (ye_v Q m).toNatClampNeg = kn k := by rw [e1, nI_clamp (by omega), pk_un hk3]; exact hk4
              rw [e2]
              refine br_c (fun z => h163 0 (Or.inl rfl) ?_) (fun z => h163 1 (Or.inr rfl) ?_)
              · rw [if_neg a0, e3, if_pos z]
              · rw [if_neg a0, e3, if_neg z]
        · have k1' : κ o = 1 := by omega
          refine ⟨vo, ?_⟩
          rw [co]
          refine nm_e ⟨vo, nm_r (e' := -3) pk_us ⟨vi, ?_⟩⟩
          rw [ci, pk_us]
          have hMe' : yg_Me κ Q f f0 (o + 1) me b_meant (upd mea (f + o) (-3)) := by
            have h1 := yg_Me_1 hMe k0
            have e : upd mea (f + o) (-3) = mea := by
              funext j
              by_cases z : j = f + o
              · rw [z, pk_us, hMe.2 (f + o) (fun t t1 t2 t3 => by omega)]
                exact (hb3 o (by omega)).symm
              · exact pk_un z
            rw [e]; exact h1
          have h163 : wY_work_163 post (wY_work_60 post (nI i) d) (nI i) (nI (f + o)) (nI (κ o)) (-3) a (nI i) g_length g_tokenCount g_itemCount g_blockCount g_looseCount (nI st.length) (nI s.length) b_text b_kinds b_starts b_ends b_owners (upd mea (f + o) (-3)) b_firsts b_lasts b_sorts b_blocks (upd b_knowns i a) b_values b_around b_depths b_compared nums ops := by
            refine ⟨vi, ?_⟩
            rw [ci, qa_b01 h01, qe_upd2]
            refine nm_e (br_t (by rw [k1']; rfl) ?_)
            refine hnum _ _ _ nums ops _ _ o (by omega) k1' (h202 (nf o) a _ ?_ hMe')
            unfold qd_sp; rw [if_pos k1']
          rcases h01 with a0 | a1
          · rw [a0] at h163 ⊢
            exact br_t rfl h163
          · rw [a1] at h163 ⊢
            exact br_f (show ¬ (1 : Int32) = 0 by decide) (br_t (by rw [k1']; rfl) h163)
      · rw [if_neg k1] at hrd
        refine br_t (nI_le (a := 2) (by omega) (by omega)) ?_
        have hMe' := yg_Me_1 hMe (show κ o ≠ 0 by omega)
        -- pushing an operator
        have push : ∀ s' r' nums' z, y = (false, o :: s', r') → s'.length ≤ 80 → z = yf_op κ o → qe_rp ops (s'.map (yf_op κ)) → qe_rp nums' (qd_ev κ nf (fun o => qf_env kn vl (me (f + o))) r').2 → (qd_ev κ nf (fun o => qf_env kn vl (me (f + o))) r').1 = (qd_ev κ nf (fun o => qf_env kn vl (me (f + o))) r).1 → wY_work_275 post (wY_work_60 post (nI i) d) (nI i) (nI (f + o)) z (nI s'.length) g_length g_tokenCount g_itemCount g_blockCount g_looseCount (nI (qd_ev κ nf (fun o => qf_env kn vl (me (f + o))) r').2.length) (nI s'.length) b_text b_kinds b_starts b_ends b_owners mea b_firsts b_lasts b_sorts b_blocks (upd b_knowns i (qd_ev κ nf (fun o => qf_env kn vl (me (f + o))) r).1) b_values b_around b_depths b_compared nums' ops := by
          intro s' r' nums' z hy hl hz h1 h2 h3
          subst hy hz
          refine ⟨pk_in s'.length 81 (by omega), ?_⟩
          rw [nI_clamp (by omega), ← h3]
          refine nm_e (nm_r (nI_1 s'.length) (nm_r (nI_1 (f + o)) ?_))
          have w := qe_rp_push (x := yf_op κ o) h1
          rw [List.length_map] at w
          exact go nums' _ mea w h2 hMe'
        have hflag : ∀ l, 1 ≤ l → ∀ s r, (∀ t, t ∈ s → 3 ≤ κ t ∧ κ t ≤ 6) → (qd_ev κ nf (fun o => qf_env kn vl (me (f + o))) (qd_pop κ l s r).2).1 = (qd_ev κ nf (fun o => qf_env kn vl (me (f + o))) r).1 := by
          intro l hl s
          induction s with
          | nil => intro r _; rfl
          | cons u s ihs =>
            intro r hk'
            by_cases c1 : l ≤ qd_st (κ u)
            · rw [qd_pop_y c1, ihs (u :: r) (fun t ht => hk' t (List.mem_cons_of_mem _ ht))]
              have := qd_st_1 (k := κ u) (by omega)
              show (qd_sp κ nf (fun o => qf_env kn vl (me (f + o))) u (qd_ev κ nf (fun o => qf_env kn vl (me (f + o))) r)).1 = _
              unfold qd_sp; rw [if_neg (by omega), if_neg (by omega)]
            · rw [qd_pop_n c1]
        by_cases k6 : κ o = 6
        · rw [if_pos k6] at hrd
          have hy : y = (false, o :: s, r) := by
            cases b with
            | true => exact absurd hrd (by simp)
            | false => exact (Option.some.inj ((if_neg (by simp)).symm.trans hrd)).symm
          refine br_f (qa_ne (b := 7) (by omega) (by omega) (by decide)) (br_t (by rw [k6]; rfl) (br_t (by rw [k6]; rfl) ?_))
          exact push s r nums 0 hy (by omega) (by unfold yf_op; rw [if_pos k6]; rfl) hops hnums rfl
        · rw [if_neg k6] at hrd
          cases b with
          | false => exact absurd hrd (by simp)
          | true =>
            rw [if_neg (by simp)] at hrd
            have hw : qd_wd κ r = some (qd_ops κ s + 1) := i5
            by_cases k7 : κ o = 7
            · rw [if_pos k7] at hrd
              refine br_t (by rw [k7]; rfl) ⟨s.length + 1, yf_close (l := 1) (Nat.le_refl 1) (by omega) s r (s.length + 1) nums (by omega) (by omega) (by omega) hks hw hops hnums (fun nums' n1 n2 => ?_)⟩
              dsimp only at hrd
              have hf1 := hflag 1 (Nat.le_refl 1) s r hks
              by_cases z : (qd_pop κ 1 s r).1 = []
              · rw [if_pos z] at hrd; exact absurd hrd (by simp)
              · rw [if_neg z] at hrd
                have hy := (Option.some.inj hrd).symm
                subst hy
                have hpl := (qd_pop_len (κ := κ) (l := 1) s r).1
                dsimp only at go
                rw [hf1] at go
                generalize qd_pop κ 1 s r = P at *
                obtain ⟨P1, P2⟩ := P
                cases P1 with
                | nil => exact absurd rfl z
                | cons u P1 => exact nm_r (nI_pred P1.length) (nm_r (nI_1 (f + o)) (go nums' ops mea n2.2 n1 hMe'))
            · rw [if_neg k7] at hrd
              refine br_f (qa_ne (b := 7) k7 (by omega) (by decide)) (br_f (qa_ne (b := 6) k6 (by omega) (by decide)) ?_)
              by_cases k2 : κ o = 2
              · rw [if_pos k2] at hrd; exact absurd hrd (by simp)
              · rw [if_neg k2] at hrd
                have eop : nI (κ o) = yf_op κ o := by unfold yf_op; rw [if_neg k6]
                by_cases k3 : κ o = 3
                · rw [if_pos k3] at hrd
                  dsimp only at hrd
                  by_cases z : (qd_pop κ 2 s r).1 ≠ [] ∧ κ ((qd_pop κ 2 s r).1.headD 0) = 3
                  · rw [if_pos z] at hrd; exact absurd hrd (by simp)
                  · rw [if_neg z, ← yf_pop12 s r hks z] at hrd
                    have hy := (Option.some.inj hrd).symm
                    have hpl := (qd_pop_len (κ := κ) (l := 1) s r).1
                    have e3 : nI (κ o) = nI (1 + 2) := by rw [k3]
                    rw [e3]
                    refine ⟨s.length + 1, yf_close (l := 1) (Nat.le_refl 1) (by omega) s r (s.length + 1) nums (by omega) (by omega) (by omega) hks hw hops hnums (fun nums' n1 n2 => ?_)⟩
                    refine br_f (by decide) ?_
                    rw [← e3, eop]
                    exact push _ _ nums' _ hy (by omega) rfl n2 n1 (hflag 1 (Nat.le_refl 1) s r hks)
                · rw [if_neg k3] at hrd
                  have hy := (Option.some.inj hrd).symm
                  have hst := yf_st (k := κ o) (by omega) (by omega)
                  have hpl := (qd_pop_len (κ := κ) (l := qd_st (κ o)) s r).1
                  have e3 : nI (κ o) = nI (qd_st (κ o) + 2) := by rw [hst]; exact congrArg nI (by omega)
                  rw [e3]
                  refine ⟨s.length + 1, yf_close (l := qd_st (κ o)) (by omega) (by omega) s r (s.length + 1) nums (by omega) (by omega) (by omega) hks hw hops hnums (fun nums' n1 n2 => ?_)⟩
                  rw [← e3]
                  refine br_f (qa_ne (b := 6) k6 (by omega) (by decide)) ?_
                  rw [eop]
                  exact push _ _ nums' _ hy (by omega) rfl n2 n1 (hflag (qd_st (κ o)) (by omega) s r hks)
end
end
section
/-! Y: read -/
/-- what token o of a stretch means, as Y writes it -/
def yh_M (K F Q : Nat → Nat) (E me : Nat → Int32) (k : Nat) (mea : Nat → Int32) : Prop :=
  ∀ o, o < Q k → (((qg_sr K F Q E k = 1 ∨ qg_sr K F Q E k = 2) ∧ qd_fr (qe_kf K (F k) (Q k)) (Q k) ≤ o ∧ qe_kf K (F k) (Q k) o = 0) → mea (F k + o) = ye_v Q (me (F k + o))) ∧ (¬ ((qg_sr K F Q E k = 1 ∨ qg_sr K F Q E k = 2) ∧ qd_fr (qe_kf K (F k) (Q k)) (Q k) ≤ o ∧ qe_kf K (F k) (Q k) o = 0) → mea (F k + o) = -3)
def yh_R (n G : Nat) (S Z K F Q : Nat → Nat) (E me kn vl : Nat → Int32) (b_kinds b_starts b_ends b_owners b_meant b_firsts b_lasts b_sorts b_blocks b_knowns b_values b_around b_depths : Nat → Int32) : Prop :=
  (∀ j, j < n → b_kinds j = nI (K j) ∧ b_starts j = nI (S j) ∧ b_ends j = nI (S j + Z j)) ∧ yc_V n K F Q E G (n + 1) b_firsts b_lasts b_sorts b_blocks b_owners b_around b_depths ∧
  (∀ k, k < G → Q k ≠ 0 → b_knowns (yc_it Q k) = kn k ∧ b_values (yc_it Q k) = vl k) ∧ (∀ k, k < G → yh_M K F Q E me k b_meant) ∧ (∀ t, t < n → 8 ≤ K t → b_meant t = -3)
section
variable {g_length g_tokenCount g_itemCount g_blockCount g_looseCount g_numberCount g_operatorCount : Int32} {b_text b_kinds b_starts b_ends b_owners b_meant b_firsts b_lasts b_sorts b_blocks b_knowns b_values b_around b_depths b_compared b_numbers b_operators : Nat → Int32}
variable {L n G : Nat} {S Z K F Q : Nat → Nat} {E me so kn vl : Nat → Int32} {post : SY → Prop}
theorem yh_close0 {x : Int32} (h : post (g_length, g_tokenCount, g_itemCount, g_blockCount, g_looseCount, g_numberCount, 0, b_text, b_kinds, b_starts, b_ends, b_owners, b_meant, b_firsts, b_lasts, b_sorts, b_blocks, b_knowns, b_values, b_around, b_depths, b_compared, b_numbers, b_operators)) : wpY_close post (g_length, g_tokenCount, g_itemCount, g_blockCount, g_looseCount, g_numberCount, 0, b_text, b_kinds, b_starts, b_ends, b_owners, b_meant, b_firsts, b_lasts, b_sorts, b_blocks, b_knowns, b_values, b_around, b_depths, b_compared, b_numbers, b_operators) x := ⟨1, br_t (by decide) h⟩
theorem yh_work {g : Nat} (hL : L ≤ 80) (hTok : qb_Tok (qb_ch b_text) L n S Z K) (hS : qc_Str n K G F Q E) (hg : g < G) (hq0 : Q g ≠ 0)
    (hD : qg_Dn b_text S Z K F Q E G me so kn vl g)
    (hr : ∀ j, j < n → b_kinds j = nI (K j) ∧ b_starts j = nI (S j) ∧ b_ends j = nI (S j + Z j)) (hV : yc_V n K F Q E G (n + 1) b_firsts b_lasts b_sorts b_blocks b_owners b_around b_depths)
    (hkv : ∀ k, k < g → Q k ≠ 0 → b_knowns (yc_it Q k) = kn k ∧ b_values (yc_it Q k) = vl k) (hb3 : ∀ o, o < Q g → b_meant (F g + o) = -3)
    (h : ∀ nc oc nums ops mea, yh_M K F Q E me g mea → (∀ j, (j < F g ∨ F g + Q g ≤ j) → mea j = b_meant j) → post (g_length, g_tokenCount, g_itemCount, g_blockCount, g_looseCount, nc, oc, b_text, b_kinds, b_starts, b_ends, b_owners, mea, b_firsts, b_lasts, b_sorts, b_blocks, upd b_knowns (yc_it Q g) (kn g), upd b_values (yc_it Q g) (vl g), b_around, b_depths, b_compared, nums, ops)) :
    wpY_work post (g_length, g_tokenCount, g_itemCount, g_blockCount, g_looseCount, g_numberCount, g_operatorCount, b_text, b_kinds, b_starts, b_ends, b_owners, b_meant, b_firsts, b_lasts, b_sorts, b_blocks, b_knowns, b_values, b_around, b_depths, b_compared, b_numbers, b_operators) (nI (yc_it Q g)) := by
  have hn : n ≤ 80 := Nat.le_trans (qb_nL hTok) hL
  have hG := qc_G hS
  have hle := qc_le hS hg
  have hgF := qc_gF hS g hg
  have hitle := yc_it_le (Q := Q) g
  obtain ⟨V1, V2, V3⟩ := hV
  obtain ⟨v1, v2, v3, v4, v5⟩ := V1 g hg hq0
  have hi : yc_it Q g < 80 := by omega
  have ci : (nI (yc_it Q g)).toNatClampNeg = yc_it Q g := nI_clamp (by omega)
  have vi : vp_in (nI (yc_it Q g)) 80 := pk_in _ 80 hi
  have k8 := qg_kf8 hS hg
  have hsle : qg_sr K F Q E g ≤ 3 := qd_srt_le
  have hn3 : qg_sr K F Q E g ≠ 3 := fun z => hq0 (qd_srt3.mp z)
  obtain ⟨d1, d2, d3⟩ := hD
  unfold wpY_work
  dsimp only
  rw [ci, v3]
  refine ⟨vi, ?_⟩
  by_cases hs : qg_sr K F Q E g = 1 ∨ qg_sr K F Q E g = 2
  · obtain ⟨l1, l2⟩ := d2 hs
    obtain ⟨c1, c2, c3, c4⟩ := qg_cdf hS hg hs
    obtain ⟨_, e8, hfin, hfr⟩ := qd_srt12 hs
    obtain ⟨W, hW, hBf⟩ := qg_Bf hS hn
    have hlk : ∀ o, o < Q g → qd_fr (qe_kf K (F g) (Q g)) (Q g) ≤ o → qe_kf K (F g) (Q g) o = 0 → qf_lk (qg_P b_text S Z K F Q E G g (F g + o)) g (me (F g + o)) := fun o h1 h2 h3 => l1 o (c4 o h2 h1 h3) h3
    have hκ : ∀ o, o < Q g → b_kinds (F g + o) = nI (qe_kf K (F g) (Q g) o) ∧ qe_kf K (F g) (Q g) o < 8 := by
      intro o ho
      have e : qe_kf K (F g) (Q g) o = K (F g + o) := if_pos ho
      refine ⟨?_, k8 o⟩
      rw [e]; exact (hr _ (by omega)).1
    refine br_f (nI_nle (by omega) (by omega)) ⟨vi, ?_⟩
    rw [ci, qa_b1]
    refine nm_e ⟨vi, ?_⟩
    have h60 := yg_60 (g_length := g_length) (g_tokenCount := g_tokenCount) (g_itemCount := g_itemCount) (g_blockCount := g_blockCount) (g_looseCount := g_looseCount) (b_text := b_text) (b_kinds := b_kinds) (b_starts := b_starts) (b_ends := b_ends) (b_owners := b_owners) (b_meant := b_meant) (b_firsts := b_firsts) (b_lasts := b_lasts) (b_sorts := b_sorts) (b_blocks := b_blocks) (b_knowns := b_knowns) (b_values := b_values) (b_around := b_around) (b_depths := b_depths) (b_compared := b_compared)
      (f := F g) (q := Q g) (f0 := qd_fr (qe_kf K (F g) (Q g)) (Q g)) (i := yc_it Q g) (κ := qe_kf K (F g) (Q g)) (Q := Q) (nf := qe_nf b_text S Z (F g) (Q g)) (me := me) (kn := kn) (vl := vl) (post := post) hi (by omega) hκ v2 v3 (by omega) hsle
      (fun p nc oc nums ops knw mea o o1 o2 o3 hp => by
        refine ye_find (P := qg_P b_text S Z K F Q E G g (F g + o)) (sr := qg_sr K F Q E) (B := fun k => (qf_bl E k).1) (s := qf_bl E G) (x := me (F g + o)) (n := n) (L := L) (F := F) (S := S) (Z := Z) hBf hW (by omega) hi hq0 hn hL (by omega) (fun k hk hqk => ?_) (fun k hk => (qd_srt12 (Or.inr hk)).1) (fun b b1 b2 => (V3 b b1 b2).1) (fun j hj => ⟨(hr j hj).2.1, (hr j hj).2.2, (qb_SZ hTok hj).2.1⟩) (fun k => Iff.rfl) (hlk o o1 o2 o3) hp
        obtain ⟨w1, w2, w3, w4, w5⟩ := V1 k (by omega) hqk
        have := qc_le hS (show k < G by omega)
        exact ⟨w4, qf_bl_lt (by omega), w3, qd_srt_le, w1, by omega⟩)
      (fun p nc oc nums ops knw mea o o1 o2 hp => by
        have e : qe_nf b_text S Z (F g) (Q g) o = qe_num b_text (S (F g + o)) (Z (F g + o)) := if_pos o1
        rw [e] at hp
        have hr' := hr (F g + o) (by omega)
        have := (qb_SZ hTok (k := F g + o) (by omega)).2.1
        exact ye_numberAt (by omega) hr'.2.1 hr'.2.2 (by omega) hp)
      (fun o o1 o2 o3 => by
        rcases hlk o o1 o2 o3 with ⟨e, _⟩ | ⟨k, hk, e, hP, _⟩
        · exact Or.inl e
        · have hqk := (qd_srt12 (Or.inr hP.1)).1
          have := yc_it_lt hk hqk
          obtain ⟨w1, w2⟩ := hkv k hk hqk
          exact Or.inr ⟨k, by omega, e, by omega, by omega, w1, w2⟩)
      hb3
      (fun rr hrr nc oc nums ops mea hMe => by
        have er : rr = qd_cd (qe_kf K (F g) (Q g)) (Q g) := Option.some.inj (hrr.symm.trans hfin)
        subst er
        rw [← l2]
        refine h nc oc nums ops mea (fun o o1 => ⟨fun z => hMe.1 o z.2.1 o1 z.2.2, fun z => ?_⟩) (fun j hj => ?_)
        · rw [hMe.2 (F g + o) (fun t t1 t2 t3 => ?_)]
          · exact hb3 o o1
          · intro e
            have e' : t = o := by omega
            subst e'
            exact z ⟨hs, t1, t3⟩
        · exact hMe.2 j (fun t t1 t2 t3 => by omega))
      (Q g - qd_fr (qe_kf K (F g) (Q g)) (Q g)) (qd_fr (qe_kf K (F g) (Q g)) (Q g)) (false, [], []) (Q g - qd_fr (qe_kf K (F g) (Q g)) (Q g) + 1) b_numbers b_operators b_meant (qd_cd (qe_kf K (F g) (Q g)) (Q g)) (by have := qd_fr_le (κ := qe_kf K (F g) (Q g)) (q := Q g); omega) (Nat.le_refl _) (by omega) qd_In0 hfin hfin trivial trivial ⟨fun t t1 t2 => by omega, fun j _ => rfl⟩
    rw [v3]
    refine pk_eq (qg_sr K F Q E g) 2 (fun e2 => ⟨vi, ?_⟩) (fun e2 => ⟨vi, ?_⟩)
    · rw [hfr.mp e2] at h60
      rw [v1, qa_2]
      exact nm_e ⟨_, h60⟩
    · have e0 : qd_fr (qe_kf K (F g) (Q g)) (Q g) = 0 := by
        have hne : qd_fr (qe_kf K (F g) (Q g)) (Q g) ≠ 2 := fun z => e2 (hfr.mpr z)
        unfold qd_fr at hne ⊢
        split at hne <;> simp_all
      rw [e0] at h60
      rw [v1]
      exact nm_e ⟨_, h60⟩
  · obtain ⟨k0, w0⟩ := d3 hs
    have hs0 : qg_sr K F Q E g = 0 := by omega
    rw [hs0] at v3 ⊢
    refine br_t (by decide) ⟨vi, ?_⟩
    rw [ci, qa_b0, v3, v1]
    refine nm_e ⟨vi, br_f (by decide) ⟨vi, nm_e ⟨1, ?_⟩⟩⟩
    rw [wY_work_60]
    refine ⟨vi, ?_⟩
    rw [ci, v2, v3]
    refine br_f (nI_ge (by omega) (by omega)) ⟨vi, br_t (by decide) ?_⟩
    refine yh_close0 ⟨vi, ?_⟩
    rw [ci, pk_us]
    refine br_t rfl ⟨vi, nm_e ?_⟩
    have y := h 0 0 b_numbers b_operators b_meant (fun o o1 => ⟨fun z => absurd z.1 hs, fun _ => hb3 o o1⟩) (fun _ _ => rfl)
    rw [k0, w0] at y
    exact y
theorem yh_read (hL : L ≤ 80) (hT : qb_Tx b_text L) (hTok : qb_Tok (qb_ch b_text) L n S Z K) (hS : qc_Str n K G F Q E) (hD : ∀ g, g < G → qg_Dn b_text S Z K F Q E G me so kn vl g)
    (h : ∀ nc oc b_kinds b_starts b_ends b_owners b_meant b_firsts b_lasts b_sorts b_blocks b_knowns b_values b_around b_depths b_compared b_numbers b_operators, yh_R n G S Z K F Q E me kn vl b_kinds b_starts b_ends b_owners b_meant b_firsts b_lasts b_sorts b_blocks b_knowns b_values b_around b_depths →
      post (nI L, nI n, nI (yc_it Q G), nI ((qf_bl E G).2.1 - 1), nI ((qf_bl E G).2.2.2.2 + (qf_bl E G).2.2.2.1 (qf_bl E G).1), nc, oc, b_text, b_kinds, b_starts, b_ends, b_owners, b_meant, b_firsts, b_lasts, b_sorts, b_blocks, b_knowns, b_values, b_around, b_depths, b_compared, b_numbers, b_operators)) :
    wpY_read post (nI L, g_tokenCount, g_itemCount, g_blockCount, g_looseCount, g_numberCount, g_operatorCount, b_text, b_kinds, b_starts, b_ends, b_owners, b_meant, b_firsts, b_lasts, b_sorts, b_blocks, b_knowns, b_values, b_around, b_depths, b_compared, b_numbers, b_operators) := by
  have hn : n ≤ 80 := Nat.le_trans (qb_nL hTok) hL
  have hG := qc_G hS
  unfold wpY_read
  dsimp only
  refine ya_readTokens hL hT hTok (fun b_kinds b_starts b_ends b_meant b_owners hR => ?_)
  refine yd_readItems hn hS (fun t ht => ⟨(hR t ht).1, (qb_SZ hTok ht).2.2⟩) (fun t ht => (hR t ht).2.2.2.2) (fun b_firsts b_lasts b_sorts b_blocks b_owners b_around b_depths b_compared hV => ⟨G + 1, ?_⟩)
  have hr : ∀ j, j < n → b_kinds j = nI (K j) ∧ b_starts j = nI (S j) ∧ b_ends j = nI (S j + Z j) := fun j hj => ⟨(hR j hj).1, (hR j hj).2.1, (hR j hj).2.2.1⟩
  have key : ∀ d g m nc oc b_meant b_knowns b_values b_numbers b_operators, g + d = G → yc_it Q G - yc_it Q g < m → (∀ k, k < g → Q k ≠ 0 → b_knowns (yc_it Q k) = kn k ∧ b_values (yc_it Q k) = vl k) → (∀ k, k < g → yh_M K F Q E me k b_meant) → (∀ k o, g ≤ k → k < G → o < Q k → b_meant (F k + o) = -3) → (∀ t, t < n → 8 ≤ K t → b_meant t = -3) →
      wY_read_10 post m (nI (yc_it Q g)) (nI L) (nI n) (nI (yc_it Q G)) (nI ((qf_bl E G).2.1 - 1)) (nI ((qf_bl E G).2.2.2.2 + (qf_bl E G).2.2.2.1 (qf_bl E G).1)) nc oc b_text b_kinds b_starts b_ends b_owners b_meant b_firsts b_lasts b_sorts b_blocks b_knowns b_values b_around b_depths b_compared b_numbers b_operators := by
    have hit := yc_it_le (Q := Q) G
    intro d
    induction d with
    | zero =>
      intro g m nc oc b_meant b_knowns b_values b_numbers b_operators hg hm h1 h2 h3 h4
      obtain rfl : g = G := by omega
      obtain ⟨m, rfl⟩ : ∃ m', m = m' + 1 := ⟨m - 1, by omega⟩
      rw [wY_read_10]
      exact br_t (nI_le (Nat.le_refl _) (by omega)) (h nc oc _ _ _ _ _ _ _ _ _ _ _ _ _ _ _ _ ⟨hr, hV, h1, h2, h4⟩)
    | succ d ih =>
      intro g m nc oc b_meant b_knowns b_values b_numbers b_operators hg hm h1 h2 h3 h4
      by_cases q0 : Q g = 0
      · have e := yc_it0 (Q := Q) q0
        rw [← e] at hm ⊢
        refine ih (g + 1) m nc oc _ _ _ _ _ (by omega) hm (fun k hk hq => ?_) (fun k hk => ?_) (fun k o k1 => h3 k o (by omega)) h4
        · by_cases z : k = g
          · rw [z] at hq; exact absurd q0 hq
          · exact h1 k (by omega) hq
        · by_cases z : k = g
          · intro o ho; rw [z, q0] at ho; omega
          · exact h2 k (by omega)
      · have e := yc_it1 (Q := Q) q0
        have hlt := yc_it_lt (Q := Q) (g := g) (j := G) (by omega) q0
        obtain ⟨m, rfl⟩ : ∃ m', m = m' + 1 := ⟨m - 1, by omega⟩
        rw [wY_read_10]
        refine br_f (nI_ge hlt (by omega)) ?_
        refine yh_work (g := g) (so := so) hL hTok hS (by omega) q0 (hD g (by omega)) hr hV h1 (fun o ho => h3 g o (Nat.le_refl _) (by omega) ho) (fun nc oc nums ops mea m1 m2 => nm_r (nI_1 _) ?_)
        rw [← e]
        have hgG : g < G := by omega
        have hdis : ∀ k o, k < G → k ≠ g → o < Q k → (F k + o < F g ∨ F g + Q g ≤ F k + o) := by
          intro k o hk hne ho
          by_cases c : k < g
          · have := qc_lt hS c hgG; omega
          · have := qc_lt hS (show g < k by omega) hk; omega
        refine ih (g + 1) m nc oc _ _ _ _ _ (by omega) (by omega) (fun k hk hq => ?_) (fun k hk => ?_) (fun k o k1 k2 k3 => ?_) (fun t t1 t2 => ?_)
        · by_cases z : k = g
          · rw [z, pk_us, pk_us]; exact ⟨rfl, rfl⟩
          · have hne : yc_it Q k ≠ yc_it Q g := fun w => z (yc_it_inj hq q0 w)
            rw [pk_un hne, pk_un hne]; exact h1 k (by omega) hq
        · by_cases z : k = g
          · rw [z]; exact m1
          · intro o ho
            rw [m2 _ (hdis k o (by omega) z ho)]
            exact h2 k (by omega) o ho
        · rw [m2 _ (hdis k o k2 (by omega) k3)]
          exact h3 k o (by omega) k2 k3
        · have h8 := hS.2.2.2.2 g t hgG
          rw [m2 t (by
            by_cases c : t < F g
            · exact Or.inl c
            · by_cases c2 : t < F g + Q g
              · have := h8 (by omega) c2; omega
              · exact Or.inr (by omega))]
          exact h4 t t1 t2
  refine key G 0 (G + 1) _ _ b_meant b_knowns b_values b_numbers b_operators (by omega) (by have := yc_it_le (Q := Q) G; omega) (fun k hk => by omega) (fun k hk => by omega) (fun k o _ k1 k2 => ?_) (fun t t1 _ => (hR t t1).2.2.2.1)
  have := qc_le hS k1
  exact (hR (F k + o) (by omega)).2.2.2.1
end
end
section
/-! the relation; a description of the values always exists -/
theorem zz_lk (P : Nat → Prop) : ∀ g, ∃ x, qf_lk P g x := by
  intro g
  induction g with
  | zero => exact ⟨-1, Or.inl ⟨rfl, fun k hk => absurd hk (Nat.not_lt_zero _)⟩⟩
  | succ g ih =>
    by_cases c : P g
    · exact ⟨nI g, Or.inr ⟨g, Nat.lt_succ_self g, rfl, c, fun j h1 h2 => by omega⟩⟩
    · obtain ⟨x, hx⟩ := ih
      refine ⟨x, ?_⟩
      rcases hx with ⟨e, h⟩ | ⟨k, h1, h2, h3, h4⟩
      · refine Or.inl ⟨e, fun k hk => ?_⟩
        by_cases z : k = g
        · rw [z]; exact c
        · exact h k (by omega)
      · refine Or.inr ⟨k, by omega, h2, h3, fun j j1 j2 => ?_⟩
        by_cases z : j = g
        · rw [z]; exact c
        · exact h4 j j1 (by omega)
theorem zz_Dn {T : Nat → Int32} {S Z K F Q : Nat → Nat} {E : Nat → Int32} {G n : Nat} (hS : qc_Str n K G F Q E) (hG : G ≤ 81) : ∀ g, g ≤ G → ∃ me so kn vl, ∀ j, j < g → qg_Dn T S Z K F Q E G me so kn vl j := by
  intro g
  induction g with
  | zero => intro _; exact ⟨fun _ => 0, fun _ => 0, fun _ => 0, fun _ => 0, fun j hj => absurd hj (Nat.not_lt_zero _)⟩
  | succ g ih =>
    intro hg
    obtain ⟨me, so, kn, vl, h⟩ := ih (by omega)
    -- the names of g
    obtain ⟨me', hm1, hm2⟩ : ∃ me' : Nat → Int32, (∀ j, (j < F g ∨ F g + Q g ≤ j) → me' j = me j) ∧ (∀ o, o < Q g → qf_lk (qg_P T S Z K F Q E G g (F g + o)) g (me' (F g + o))) := by
      have ch : ∀ j, ∃ x, ((F g ≤ j ∧ j < F g + Q g) → qf_lk (qg_P T S Z K F Q E G g j) g x) ∧ (¬ (F g ≤ j ∧ j < F g + Q g) → x = me j) := by
        intro j
        by_cases c : F g ≤ j ∧ j < F g + Q g
        · obtain ⟨x, hx⟩ := zz_lk (qg_P T S Z K F Q E G g j) g
          exact ⟨x, fun _ => hx, fun z => absurd c z⟩
        · exact ⟨me j, fun z => absurd z c, fun _ => rfl⟩
      exact ⟨fun j => Classical.choose (ch j), fun j hj => (Classical.choose_spec (ch j)).2 (by omega), fun o ho => (Classical.choose_spec (ch (F g + o))).1 (by omega)⟩
    have hdn : ∀ kv vv, ∀ j, j < g → qg_Dn T S Z K F Q E G me' (upd so g (nI (qg_sr K F Q E g))) (upd kn g kv) (upd vl g vv) j := by
      intro kv vv j hj
      have hlt := qc_lt hS hj (show g < G by omega)
      exact qg_Dn_c hS hG (by omega) (h j hj) (fun o ho => hm1 _ (by omega)) (pk_un (by omega)) (fun i hi => ⟨pk_un (by omega), pk_un (by omega)⟩)
    by_cases hs : qg_sr K F Q E g = 1 ∨ qg_sr K F Q E g = 2
    · obtain ⟨_, _, c3, _⟩ := qg_cdf hS (show g < G by omega) hs
      generalize hev : qd_evs (qe_kf K (F g) (Q g)) (qe_nf T S Z (F g) (Q g)) (fun o => qf_env kn vl (me' (F g + o))) (qd_cd (qe_kf K (F g) (Q g)) (Q g)) = ev
      refine ⟨me', upd so g (nI (qg_sr K F Q E g)), upd kn g ev.1, upd vl g ev.2, fun j hj => ?_⟩
      by_cases e : j = g
      · subst e
        refine ⟨pk_us, fun _ => ⟨fun o ho _ => hm2 o (c3 o ho), ?_⟩, fun z => absurd hs z⟩
        rw [pk_us, pk_us]
        show ev = _
        rw [← hev]
        refine qd_evs_congr (fun _ _ => rfl) (fun o ho k0 => ?_)
        rcases qf_lk_b (hm2 o (c3 o ho)) with e | ⟨k, hk, e⟩
        · unfold qf_env; rw [if_pos e, if_pos e]
        · unfold qf_env; rw [e, nI_clamp (by omega), pk_un (by omega), pk_un (by omega)]
      · exact hdn _ _ j (by omega)
    · refine ⟨me', upd so g (nI (qg_sr K F Q E g)), upd kn g 0, upd vl g 0, fun j hj => ?_⟩
      by_cases e : j = g
      · subst e
        exact ⟨pk_us, fun z => absurd z hs, fun _ => ⟨pk_us, pk_us⟩⟩
      · exact hdn _ _ j (by omega)
def zz_I (k : Nat) (f_length f_tokens f_fresh f_stretches f_marks f_blocks f_loose f_isStudied f_height f_chosen : Int32) (a_text a_tokenKind a_tokenStart a_tokenSize a_code a_meant a_meantMark a_freshKind a_freshStart a_freshSize a_first a_size a_endKind a_sort a_codeSize a_isRead a_block a_hasValue a_isKnown a_value a_mark a_around a_nesting a_pile a_chosenStart a_chosenSize : Nat → Int32) (g_length g_tokenCount g_itemCount g_blockCount g_looseCount g_numberCount g_operatorCount : Int32) (b_text b_kinds b_starts b_ends b_owners b_meant b_firsts b_lasts b_sorts b_blocks b_knowns b_values b_around b_depths b_compared b_numbers b_operators : Nat → Int32) : Prop :=
  ∃ L n G mk S Z K F Q H, f_length = nI L ∧ f_tokens = nI n ∧ f_stretches = nI G ∧ f_marks = nI mk ∧ g_length = nI L ∧ b_text = a_text ∧ mk ≤ 2700 * k ∧ qe_XI L n G mk S Z K F Q H a_text a_tokenKind a_tokenStart a_tokenSize a_code a_meantMark a_first a_size a_endKind a_sort a_codeSize a_isRead a_hasValue a_isKnown a_value a_mark ∧ (f_isStudied = 0 ∨ (f_isStudied = 1 ∧ xm_St G S Z K F Q f_loose a_text a_endKind a_meant a_sort a_block a_isKnown a_value a_around a_nesting))
/-- the relation at the head of a turn whose first cell is k: the same text; X's tables say what the text is, and what is kept of values is right -/
def i_Rel (k : Nat) (u : SX) (v : SY) : Prop := match u, v with
  | (f_length, f_tokens, f_fresh, f_stretches, f_marks, f_blocks, f_loose, f_isStudied, f_height, f_chosen, a_text, a_tokenKind, a_tokenStart, a_tokenSize, a_code, a_meant, a_meantMark, a_freshKind, a_freshStart, a_freshSize, a_first, a_size, a_endKind, a_sort, a_codeSize, a_isRead, a_block, a_hasValue, a_isKnown, a_value, a_mark, a_around, a_nesting, a_pile, a_chosenStart, a_chosenSize), (g_length, g_tokenCount, g_itemCount, g_blockCount, g_looseCount, g_numberCount, g_operatorCount, b_text, b_kinds, b_starts, b_ends, b_owners, b_meant, b_firsts, b_lasts, b_sorts, b_blocks, b_knowns, b_values, b_around, b_depths, b_compared, b_numbers, b_operators) => zz_I k f_length f_tokens f_fresh f_stretches f_marks f_blocks f_loose f_isStudied f_height f_chosen a_text a_tokenKind a_tokenStart a_tokenSize a_code a_meant a_meantMark a_freshKind a_freshStart a_freshSize a_first a_size a_endKind a_sort a_codeSize a_isRead a_block a_hasValue a_isKnown a_value a_mark a_around a_nesting a_pile a_chosenStart a_chosenSize g_length g_tokenCount g_itemCount g_blockCount g_looseCount g_numberCount g_operatorCount b_text b_kinds b_starts b_ends b_owners b_meant b_firsts b_lasts b_sorts b_blocks b_knowns b_values b_around b_depths b_compared b_numbers b_operators
theorem zz_mk {k L n G mk : Nat} {S Z K F Q : Nat → Nat} {H : Int32 → Int32 × Int32} {f_fresh f_blocks f_loose f_isStudied f_height f_chosen : Int32} {a_text a_tokenKind a_tokenStart a_tokenSize a_code a_meant a_meantMark a_freshKind a_freshStart a_freshSize a_first a_size a_endKind a_sort a_codeSize a_isRead a_block a_hasValue a_isKnown a_value a_mark a_around a_nesting a_pile a_chosenStart a_chosenSize : Nat → Int32} {g_tokenCount g_itemCount g_blockCount g_looseCount g_numberCount g_operatorCount : Int32} {b_kinds b_starts b_ends b_owners b_meant b_firsts b_lasts b_sorts b_blocks b_knowns b_values b_around b_depths b_compared b_numbers b_operators : Nat → Int32} (h1 : mk ≤ 2700 * k) (h2 : qe_XI L n G mk S Z K F Q H a_text a_tokenKind a_tokenStart a_tokenSize a_code a_meantMark a_first a_size a_endKind a_sort a_codeSize a_isRead a_hasValue a_isKnown a_value a_mark) (h3 : f_isStudied = 0 ∨ (f_isStudied = 1 ∧ xm_St G S Z K F Q f_loose a_text a_endKind a_meant a_sort a_block a_isKnown a_value a_around a_nesting)) :
    i_Rel k (nI L, nI n, f_fresh, nI G, nI mk, f_blocks, f_loose, f_isStudied, f_height, f_chosen, a_text, a_tokenKind, a_tokenStart, a_tokenSize, a_code, a_meant, a_meantMark, a_freshKind, a_freshStart, a_freshSize, a_first, a_size, a_endKind, a_sort, a_codeSize, a_isRead, a_block, a_hasValue, a_isKnown, a_value, a_mark, a_around, a_nesting, a_pile, a_chosenStart, a_chosenSize) (nI L, g_tokenCount, g_itemCount, g_blockCount, g_looseCount, g_numberCount, g_operatorCount, a_text, b_kinds, b_starts, b_ends, b_owners, b_meant, b_firsts, b_lasts, b_sorts, b_blocks, b_knowns, b_values, b_around, b_depths, b_compared, b_numbers, b_operators) :=
  ⟨L, n, G, mk, S, Z, K, F, Q, H, rfl, rfl, rfl, rfl, rfl, rfl, h1, h2, h3⟩
theorem zz_el {P : SX → SY → Prop} {k : Nat} {u : SX} {v : SY}
    (h : ∀ L n G mk S Z K F Q H (f_fresh f_blocks f_loose f_isStudied f_height f_chosen : Int32) (a_text a_tokenKind a_tokenStart a_tokenSize a_code a_meant a_meantMark a_freshKind a_freshStart a_freshSize a_first a_size a_endKind a_sort a_codeSize a_isRead a_block a_hasValue a_isKnown a_value a_mark a_around a_nesting a_pile a_chosenStart a_chosenSize : Nat → Int32) (g_tokenCount g_itemCount g_blockCount g_looseCount g_numberCount g_operatorCount : Int32) (b_kinds b_starts b_ends b_owners b_meant b_firsts b_lasts b_sorts b_blocks b_knowns b_values b_around b_depths b_compared b_numbers b_operators : Nat → Int32), mk ≤ 2700 * k → qe_XI L n G mk S Z K F Q H a_text a_tokenKind a_tokenStart a_tokenSize a_code a_meantMark a_first a_size a_endKind a_sort a_codeSize a_isRead a_hasValue a_isKnown a_value a_mark → (f_isStudied = 0 ∨ (f_isStudied = 1 ∧ xm_St G S Z K F Q f_loose a_text a_endKind a_meant a_sort a_block a_isKnown a_value a_around a_nesting)) → P (nI L, nI n, f_fresh, nI G, nI mk, f_blocks, f_loose, f_isStudied, f_height, f_chosen, a_text, a_tokenKind, a_tokenStart, a_tokenSize, a_code, a_meant, a_meantMark, a_freshKind, a_freshStart, a_freshSize, a_first, a_size, a_endKind, a_sort, a_codeSize, a_isRead, a_block, a_hasValue, a_isKnown, a_value, a_mark, a_around, a_nesting, a_pile, a_chosenStart, a_chosenSize) (nI L, g_tokenCount, g_itemCount, g_blockCount, g_looseCount, g_numberCount, g_operatorCount, a_text, b_kinds, b_starts, b_ends, b_owners, b_meant, b_firsts, b_lasts, b_sorts, b_blocks, b_knowns, b_values, b_around, b_depths, b_compared, b_numbers, b_operators))
    (I : i_Rel k u v) : P u v := by
  obtain ⟨f_length, f_tokens, f_fresh, f_stretches, f_marks, f_blocks, f_loose, f_isStudied, f_height, f_chosen, a_text, a_tokenKind, a_tokenStart, a_tokenSize, a_code, a_meant, a_meantMark, a_freshKind, a_freshStart, a_freshSize, a_first, a_size, a_endKind, a_sort, a_codeSize, a_isRead, a_block, a_hasValue, a_isKnown, a_value, a_mark, a_around, a_nesting, a_pile, a_chosenStart, a_chosenSize⟩ := u
  obtain ⟨g_length, g_tokenCount, g_itemCount, g_blockCount, g_looseCount, g_numberCount, g_operatorCount, b_text, b_kinds, b_starts, b_ends, b_owners, b_meant, b_firsts, b_lasts, b_sorts, b_blocks, b_knowns, b_values, b_around, b_depths, b_compared, b_numbers, b_operators⟩ := v
  obtain ⟨L, n, G, mk, S, Z, K, F, Q, H, rfl, rfl, rfl, rfl, rfl, rfl, h1, h2, h3⟩ := I
  exact h L n G mk S Z K F Q H f_fresh f_blocks f_loose f_isStudied f_height f_chosen b_text a_tokenKind a_tokenStart a_tokenSize a_code a_meant a_meantMark a_freshKind a_freshStart a_freshSize a_first a_size a_endKind a_sort a_codeSize a_isRead a_block a_hasValue a_isKnown a_value a_mark a_around a_nesting a_pile a_chosenStart a_chosenSize g_tokenCount g_itemCount g_blockCount g_looseCount g_numberCount g_operatorCount b_kinds b_starts b_ends b_owners b_meant b_firsts b_lasts b_sorts b_blocks b_knowns b_values b_around b_depths b_compared b_numbers b_operators h1 h2 h3
theorem i_up {k : Nat} {u : SX} {v : SY} (h : i_Rel k u v) : i_Rel (k + 5) u v :=
  zz_el (P := fun u v => i_Rel (k + 5) u v) (fun L n G mk S Z K F Q H f_fresh f_blocks f_loose f_isStudied f_height f_chosen a_text a_tokenKind a_tokenStart a_tokenSize a_code a_meant a_meantMark a_freshKind a_freshStart a_freshSize a_first a_size a_endKind a_sort a_codeSize a_isRead a_block a_hasValue a_isKnown a_value a_mark a_around a_nesting a_pile a_chosenStart a_chosenSize g_tokenCount g_itemCount g_blockCount g_looseCount g_numberCount g_operatorCount b_kinds b_starts b_ends b_owners b_meant b_firsts b_lasts b_sorts b_blocks b_knowns b_values b_around b_depths b_compared b_numbers b_operators h1 h2 h3 => zz_mk (by omega) h2 h3) h
end
section
/-! the owed rows: the constructors, edits, the text -/
theorem xf_del0 {T : Nat → Int32} {p L : Nat} : xf_del T p 0 L = T := by
  funext j
  show (if p ≤ j ∧ j < p + (L - (p + 0)) then T (p + 0 + (j - p)) else T j) = T j
  split
  · exact congrArg T (by omega)
  · rfl
theorem xf_delL {T : Nat → Int32} {L : Nat} : xf_del T 0 L L = T := by
  unfold xf_del
  rw [show L - (0 + L) = 0 by omega, qa_ow0]
section
variable {g_length g_tokenCount g_itemCount g_blockCount g_looseCount g_numberCount g_operatorCount : Int32} {b_text b_kinds b_starts b_ends b_owners b_meant b_firsts b_lasts b_sorts b_blocks b_knowns b_values b_around b_depths b_compared b_numbers b_operators : Nat → Int32}
variable {L p w : Nat} {c : Int32} {post : SY → Prop}
theorem yi_putIn (hL : L < 80) (hp : p ≤ L) (h : post (nI (L + 1), g_tokenCount, g_itemCount, g_blockCount, g_looseCount, g_numberCount, g_operatorCount, xf_ins b_text p c L, b_kinds, b_starts, b_ends, b_owners, b_meant, b_firsts, b_lasts, b_sorts, b_blocks, b_knowns, b_values, b_around, b_depths, b_compared, b_numbers, b_operators)) : wpY_putIn post (nI L, g_tokenCount, g_itemCount, g_blockCount, g_looseCount, g_numberCount, g_operatorCount, b_text, b_kinds, b_starts, b_ends, b_owners, b_meant, b_firsts, b_lasts, b_sorts, b_blocks, b_knowns, b_values, b_around, b_depths, b_compared, b_numbers, b_operators) (nI p) c := by
  have key : ∀ i d, p + i ≤ L → i < d → wY_putIn_5 post (nI p) c (nI L) g_tokenCount g_itemCount g_blockCount g_looseCount g_numberCount g_operatorCount d (nI (p + i)) (qa_ow (p + i + 1) (L - (p + i)) (fun j => b_text (p + i + j)) b_text) b_kinds b_starts b_ends b_owners b_meant b_firsts b_lasts b_sorts b_blocks b_knowns b_values b_around b_depths b_compared b_numbers b_operators := by
    intro i
    induction i with
    | zero =>
      intro d hi hd
      obtain ⟨d, rfl⟩ : ∃ d', d = d' + 1 := ⟨d - 1, by omega⟩
      rw [wY_putIn_5]
      refine br_t (nI_le (Nat.le_refl _) (by omega)) ⟨pk_in p 81 (by omega), ?_⟩
      rw [nI_clamp (by omega)]
      exact nm_e (nm_r (nI_1 L) h)
    | succ i ih =>
      intro d hi hd
      obtain ⟨d, rfl⟩ : ∃ d', d = d' + 1 := ⟨d - 1, by omega⟩
      rw [wY_putIn_5]
      have e1 : nI (p + (i + 1)) - 1 = nI (p + i) := nI_pred (p + i)
      have e2 : nI (p + (i + 1)) + (-1) = nI (p + i) := pk_m1 (p + i)
      refine br_f (nI_ge (by omega) (by omega)) ?_
      rw [e1]
      refine ⟨pk_in (p + i) 81 (by omega), pk_in (p + (i + 1)) 81 (by omega), ?_⟩
      rw [nI_clamp (by omega), nI_clamp (by omega), qa_ow_lo (by omega)]
      have e3 : upd (qa_ow (p + (i + 1) + 1) (L - (p + (i + 1))) (fun j => b_text (p + (i + 1) + j)) b_text) (p + (i + 1)) (b_text (p + i)) = qa_ow (p + i + 1) (L - (p + i)) (fun j => b_text (p + i + j)) b_text := by
        have e4 : (fun j => b_text (p + (i + 1) + j)) = (fun j => (fun j => b_text (p + i + j)) (j + 1)) := funext fun j => congrArg b_text (by omega)
        have e5 : L - (p + i) = L - (p + (i + 1)) + 1 := by omega
        rw [e4, e5]
        exact qa_ow_p (b := p + i + 1) (f := fun j => b_text (p + i + j))
      exact nm_r e3 (nm_r e2 (ih d (by omega) (by omega)))
  have k0 := key (L - p) (L - p + 1) (by omega) (by omega)
  have e : p + (L - p) = L := by omega
  rw [e, Nat.sub_self, qa_ow0] at k0
  exact ⟨_, k0⟩
theorem yi_takeOut (hL : L ≤ 80) (hp : p + w ≤ L) (h : post (nI (L - w), g_tokenCount, g_itemCount, g_blockCount, g_looseCount, g_numberCount, g_operatorCount, xf_del b_text p w L, b_kinds, b_starts, b_ends, b_owners, b_meant, b_firsts, b_lasts, b_sorts, b_blocks, b_knowns, b_values, b_around, b_depths, b_compared, b_numbers, b_operators)) : wpY_takeOut post (nI L, g_tokenCount, g_itemCount, g_blockCount, g_looseCount, g_numberCount, g_operatorCount, b_text, b_kinds, b_starts, b_ends, b_owners, b_meant, b_firsts, b_lasts, b_sorts, b_blocks, b_knowns, b_values, b_around, b_depths, b_compared, b_numbers, b_operators) (nI p) (nI w) := by
  have key : ∀ d i, p + w + i + d = L → wY_takeOut_12 post (nI w) (nI (L - w)) g_tokenCount g_itemCount g_blockCount g_looseCount g_numberCount g_operatorCount (d + 1) (nI (p + i)) (qa_ow p i (fun j => b_text (p + w + j)) b_text) b_kinds b_starts b_ends b_owners b_meant b_firsts b_lasts b_sorts b_blocks b_knowns b_values b_around b_depths b_compared b_numbers b_operators := by
    intro d
    induction d with
    | zero =>
      intro i hi
      rw [wY_takeOut_12]
      have e : i = L - (p + w) := by omega
      subst e
      exact br_t (nI_le (by omega) (by omega)) h
    | succ d ih =>
      intro i hi
      rw [wY_takeOut_12]
      dsimp only
      rw [nI_add]
      refine br_f (nI_ge (by omega) (by omega)) ⟨pk_in (p + i + w) 81 (by omega), pk_in (p + i) 81 (by omega), ?_⟩
      rw [nI_clamp (by omega), nI_clamp (by omega), qa_ow_hi (by omega)]
      have e4 : p + i + w = p + w + i := by omega
      rw [e4]
      exact nm_r (qa_ow_s (f := fun j => b_text (p + w + j))) (nm_r (nI_1 (p + i)) (ih (i + 1) (by omega)))
  have k0 := key (L - (p + w)) 0 (by omega)
  rw [qa_ow0] at k0
  exact nm_r (pk_sub (by omega)) ⟨_, k0⟩
end
theorem i_vc0 : wpX_init (fun u => wpY_init (fun v => i_Rel 0 u v)) := by
  unfold wpX_init
  intro e he
  subst he
  unfold wpY_init
  refine ⟨0, 0, 1, 0, fun _ => 0, fun _ => 0, fun _ => 0, fun _ => 0, fun _ => 0, fun _ => (0, 0), rfl, rfl, rfl, rfl, rfl, rfl, Nat.le_refl 0, ?_, Or.inl rfl⟩
  have hz : ∀ j : Nat, (0 : Int32) = 0 ∨ (0 : Int32) = 1 := fun _ => Or.inl rfl
  refine ⟨by omega, fun i hi => by omega, ⟨fun k hk => by omega, rfl, Nat.le_refl 0, fun q _ hq => by omega⟩, fun j hj => by omega, ⟨by omega, rfl, fun g hg => by omega, fun g hg => ?_, fun g t _ h1 h2 => absurd h2 (Nat.not_lt_zero t)⟩, fun g _ => ⟨rfl, rfl⟩, ⟨hz, hz, hz⟩, fun j => Or.inr ⟨0, Nat.le_refl 0, rfl⟩, fun j => Or.inr ⟨0, Nat.le_refl 0, rfl⟩, rfl, fun g _ => ⟨fun z => absurd (show (0 : Int32) = 1 from z) (by decide), fun z => absurd (show (0 : Int32) = 1 from z) (by decide)⟩⟩
  obtain rfl : g = 0 := by omega
  exact ⟨rfl, pk_us⟩
theorem i_vc_insert {k : Nat} {u : SX} {v : SY} (I : i_Rel k u v) (hk : k + 5 ≤ 2560) (v1 : Int32) (v2 : Int32) : wpX_insert (fun r u' => wpY_insert (fun r' v' => r' = r ∧ i_Rel (k + 5) u' v') v v1 v2) u v1 v2 := by
  refine zz_el (P := fun u v => wpX_insert (fun r u' => wpY_insert (fun r' v' => r' = r ∧ i_Rel (k + 5) u' v') v v1 v2) u v1 v2) ?_ I
  intro L n G mk S Z K F Q H f_fresh f_blocks f_loose f_isStudied f_height f_chosen a_text a_tokenKind a_tokenStart a_tokenSize a_code a_meant a_meantMark a_freshKind a_freshStart a_freshSize a_first a_size a_endKind a_sort a_codeSize a_isRead a_block a_hasValue a_isKnown a_value a_mark a_around a_nesting a_pile a_chosenStart a_chosenSize g_tokenCount g_itemCount g_blockCount g_looseCount g_numberCount g_operatorCount b_kinds b_starts b_ends b_owners b_meant b_firsts b_lasts b_sorts b_blocks b_knowns b_values b_around b_depths b_compared b_numbers b_operators h1 h2 h3
  have hL : L ≤ 80 := h2.1
  have same : i_Rel (k + 5) (nI L, nI n, f_fresh, nI G, nI mk, f_blocks, f_loose, f_isStudied, f_height, f_chosen, a_text, a_tokenKind, a_tokenStart, a_tokenSize, a_code, a_meant, a_meantMark, a_freshKind, a_freshStart, a_freshSize, a_first, a_size, a_endKind, a_sort, a_codeSize, a_isRead, a_block, a_hasValue, a_isKnown, a_value, a_mark, a_around, a_nesting, a_pile, a_chosenStart, a_chosenSize) (nI L, g_tokenCount, g_itemCount, g_blockCount, g_looseCount, g_numberCount, g_operatorCount, a_text, b_kinds, b_starts, b_ends, b_owners, b_meant, b_firsts, b_lasts, b_sorts, b_blocks, b_knowns, b_values, b_around, b_depths, b_compared, b_numbers, b_operators) := zz_mk (by omega) h2 h3
  by_cases c0 : v2 < 0
  · exact br_t c0 (br_f (by decide) (br_t c0 (br_t rfl ⟨rfl, same⟩)))
  · obtain ⟨c, hc, rfl⟩ := nI_of c0
    by_cases c18 : c ≤ 18
    · have x18 : nI c ≤ 18 := nI_le (b := 18) c18 (by decide)
      have y18 : ¬ 18 < nI c := nI_nlt (a := 18) c18 (by decide)
      by_cases p0 : v1 < 0
      · exact br_f c0 (br_t x18 (br_t rfl (br_t p0 (br_f c0 (br_f y18 (br_f (by decide) (br_t p0 ⟨rfl, same⟩)))))))
      · obtain ⟨p, hp, rfl⟩ := nI_of p0
        by_cases pL : p ≤ L
        · have xL : nI p ≤ nI L := nI_le pL (by omega)
          by_cases L80 : L = 80
          · subst L80
            exact br_f c0 (br_t x18 (br_t rfl (br_f p0 (br_t xL (br_t rfl (br_f c0 (br_f y18 (br_f (by decide) (br_f p0 (br_t xL (br_t rfl ⟨rfl, same⟩)))))))))))
          · have n80 : ¬ nI L = 80 := qa_ne (b := 80) L80 (by omega) (by decide)
            refine xf_insert ⟨S, Z, K, F, Q, H, h2⟩ (by omega) pL c18 (fun n' G' mk' f_fresh a_tokenKind a_tokenStart a_tokenSize a_code a_meant a_meantMark a_freshKind a_freshStart a_freshSize a_first a_size a_endKind a_sort a_codeSize a_isRead a_hasValue a_isKnown a_value a_mark m1 m2 => ?_)
            obtain ⟨S', Z', K', F', Q', H', hX⟩ := m2
            refine br_f c0 (br_f y18 (br_f (by decide) (br_f p0 (br_t xL (br_f n80 ?_)))))
            exact yi_putIn (by omega) pL ⟨rfl, zz_mk (by omega) hX (Or.inl rfl)⟩
        · have xL : ¬ nI p ≤ nI L := nI_ge (by omega) (by omega)
          exact br_f c0 (br_t x18 (br_t rfl (br_f p0 (br_f xL (br_f c0 (br_f y18 (br_f (by decide) (br_f p0 (br_f xL ⟨rfl, same⟩)))))))))
    · have x18 : ¬ nI c ≤ 18 := nI_ge (a := 18) (by omega) (by omega)
      have y18 : 18 < nI c := nI_lt (a := 18) (by omega) (by omega)
      exact br_f c0 (br_f x18 (br_f (by decide) (br_f c0 (br_t y18 (br_t rfl ⟨rfl, same⟩)))))
theorem i_vc_remove {k : Nat} {u : SX} {v : SY} (I : i_Rel k u v) (hk : k + 5 ≤ 2560) (v1 : Int32) (v2 : Int32) : wpX_remove (fun r u' => wpY_remove (fun r' v' => r' = r ∧ i_Rel (k + 5) u' v') v v1 v2) u v1 v2 := by
  refine zz_el (P := fun u v => wpX_remove (fun r u' => wpY_remove (fun r' v' => r' = r ∧ i_Rel (k + 5) u' v') v v1 v2) u v1 v2) ?_ I
  intro L n G mk S Z K F Q H f_fresh f_blocks f_loose f_isStudied f_height f_chosen a_text a_tokenKind a_tokenStart a_tokenSize a_code a_meant a_meantMark a_freshKind a_freshStart a_freshSize a_first a_size a_endKind a_sort a_codeSize a_isRead a_block a_hasValue a_isKnown a_value a_mark a_around a_nesting a_pile a_chosenStart a_chosenSize g_tokenCount g_itemCount g_blockCount g_looseCount g_numberCount g_operatorCount b_kinds b_starts b_ends b_owners b_meant b_firsts b_lasts b_sorts b_blocks b_knowns b_values b_around b_depths b_compared b_numbers b_operators h1 h2 h3
  have hL : L ≤ 80 := h2.1
  have same : i_Rel (k + 5) (nI L, nI n, f_fresh, nI G, nI mk, f_blocks, f_loose, f_isStudied, f_height, f_chosen, a_text, a_tokenKind, a_tokenStart, a_tokenSize, a_code, a_meant, a_meantMark, a_freshKind, a_freshStart, a_freshSize, a_first, a_size, a_endKind, a_sort, a_codeSize, a_isRead, a_block, a_hasValue, a_isKnown, a_value, a_mark, a_around, a_nesting, a_pile, a_chosenStart, a_chosenSize) (nI L, g_tokenCount, g_itemCount, g_blockCount, g_looseCount, g_numberCount, g_operatorCount, a_text, b_kinds, b_starts, b_ends, b_owners, b_meant, b_firsts, b_lasts, b_sorts, b_blocks, b_knowns, b_values, b_around, b_depths, b_compared, b_numbers, b_operators) := zz_mk (by omega) h2 h3
  by_cases p0 : v1 < 0
  · exact br_t p0 (br_t p0 ⟨rfl, same⟩)
  · obtain ⟨p, hp, rfl⟩ := nI_of p0
    by_cases pL : L < p
    · have xL : nI L < nI p := nI_lt pL (by omega)
      exact br_f p0 (br_t xL (br_f p0 (br_t xL ⟨rfl, same⟩)))
    · have xL : ¬ nI L < nI p := nI_nlt (by omega) (by omega)
      by_cases w0 : v2 < 0
      · exact br_f p0 (br_f xL (br_t w0 (br_f p0 (br_f xL (br_t w0 ⟨rfl, same⟩)))))
      · obtain ⟨w, hw, rfl⟩ := nI_of w0
        by_cases wL : w ≤ L - p
        · have yL : nI w ≤ nI L - nI p := by rw [pk_sub (by omega)]; exact nI_le wL (by omega)
          by_cases wz : w = 0
          · subst wz
            refine br_f p0 (br_f xL (br_f w0 (br_t yL (br_t (by decide) (br_f p0 (br_f xL (br_f w0 (br_t yL ?_))))))))
            refine yi_takeOut hL (by omega) ?_
            rw [xf_del0]
            exact ⟨rfl, same⟩
          · have yz : ¬ nI w ≤ 0 := nI_nle (by omega) (by omega)
            refine br_f p0 (br_f xL (br_f w0 (br_t yL (br_f yz ?_))))
            refine xf_cut ⟨S, Z, K, F, Q, H, h2⟩ (by omega) (fun n' G' mk' f_fresh a_tokenKind a_tokenStart a_tokenSize a_code a_meant a_meantMark a_freshKind a_freshStart a_freshSize a_first a_size a_endKind a_sort a_codeSize a_isRead a_hasValue a_isKnown a_value a_mark m1 m2 => ?_)
            obtain ⟨S', Z', K', F', Q', H', hX⟩ := m2
            refine br_f p0 (br_f xL (br_f w0 (br_t yL ?_)))
            exact yi_takeOut hL (by omega) ⟨rfl, zz_mk (by omega) hX (Or.inl rfl)⟩
        · have yL : ¬ nI w ≤ nI L - nI p := by rw [pk_sub (by omega)]; exact nI_ge (by omega) (by omega)
          exact br_f p0 (br_f xL (br_f w0 (br_f yL (br_f p0 (br_f xL (br_f w0 (br_f yL ⟨rfl, same⟩)))))))
theorem i_vc_clear {k : Nat} {u : SX} {v : SY} (I : i_Rel k u v) (hk : k + 5 ≤ 2560) : wpX_clear (fun u' => wpY_clear (fun v' => i_Rel (k + 5) u' v') v) u := by
  refine zz_el (P := fun u v => wpX_clear (fun u' => wpY_clear (fun v' => i_Rel (k + 5) u' v') v) u) ?_ I
  intro L n G mk S Z K F Q H f_fresh f_blocks f_loose f_isStudied f_height f_chosen a_text a_tokenKind a_tokenStart a_tokenSize a_code a_meant a_meantMark a_freshKind a_freshStart a_freshSize a_first a_size a_endKind a_sort a_codeSize a_isRead a_block a_hasValue a_isKnown a_value a_mark a_around a_nesting a_pile a_chosenStart a_chosenSize g_tokenCount g_itemCount g_blockCount g_looseCount g_numberCount g_operatorCount b_kinds b_starts b_ends b_owners b_meant b_firsts b_lasts b_sorts b_blocks b_knowns b_values b_around b_depths b_compared b_numbers b_operators h1 h2 h3
  have hL : L ≤ 80 := h2.1
  by_cases l0 : L = 0
  · subst l0
    have same : i_Rel (k + 5) (nI 0, nI n, f_fresh, nI G, nI mk, f_blocks, f_loose, f_isStudied, f_height, f_chosen, a_text, a_tokenKind, a_tokenStart, a_tokenSize, a_code, a_meant, a_meantMark, a_freshKind, a_freshStart, a_freshSize, a_first, a_size, a_endKind, a_sort, a_codeSize, a_isRead, a_block, a_hasValue, a_isKnown, a_value, a_mark, a_around, a_nesting, a_pile, a_chosenStart, a_chosenSize) (nI 0, g_tokenCount, g_itemCount, g_blockCount, g_looseCount, g_numberCount, g_operatorCount, a_text, b_kinds, b_starts, b_ends, b_owners, b_meant, b_firsts, b_lasts, b_sorts, b_blocks, b_knowns, b_values, b_around, b_depths, b_compared, b_numbers, b_operators) := zz_mk (by omega) h2 h3
    exact br_t (by decide) same
  · refine br_f (nI_nle (by omega) (by omega)) ?_
    refine xf_cut (p := 0) (w := L) ⟨S, Z, K, F, Q, H, h2⟩ (by omega) (fun n' G' mk' f_fresh a_tokenKind a_tokenStart a_tokenSize a_code a_meant a_meantMark a_freshKind a_freshStart a_freshSize a_first a_size a_endKind a_sort a_codeSize a_isRead a_hasValue a_isKnown a_value a_mark m1 m2 => ?_)
    obtain ⟨S', Z', K', F', Q', H', hX⟩ := m2
    rw [xf_delL, Nat.sub_self] at hX
    rw [xf_delL, Nat.sub_self]
    have same : i_Rel (k + 5) (nI 0, nI n', f_fresh, nI G', nI mk', f_blocks, f_loose, 0, f_height, f_chosen, a_text, a_tokenKind, a_tokenStart, a_tokenSize, a_code, a_meant, a_meantMark, a_freshKind, a_freshStart, a_freshSize, a_first, a_size, a_endKind, a_sort, a_codeSize, a_isRead, a_block, a_hasValue, a_isKnown, a_value, a_mark, a_around, a_nesting, a_pile, a_chosenStart, a_chosenSize) (nI 0, g_tokenCount, g_itemCount, g_blockCount, g_looseCount, g_numberCount, g_operatorCount, a_text, b_kinds, b_starts, b_ends, b_owners, b_meant, b_firsts, b_lasts, b_sorts, b_blocks, b_knowns, b_values, b_around, b_depths, b_compared, b_numbers, b_operators) := zz_mk (by omega) hX (Or.inl rfl)
    exact same
theorem i_vc_length {k : Nat} {u : SX} {v : SY} (I : i_Rel k u v) (hk : k + 5 ≤ 2560) : wpX_length (fun r => wpY_length (fun r' => r' = r ∧ i_Rel (k + 5) u v) v) u := by
  refine zz_el (P := fun u v => wpX_length (fun r => wpY_length (fun r' => r' = r ∧ i_Rel (k + 5) u v) v) u) ?_ I
  intro L n G mk S Z K F Q H f_fresh f_blocks f_loose f_isStudied f_height f_chosen a_text a_tokenKind a_tokenStart a_tokenSize a_code a_meant a_meantMark a_freshKind a_freshStart a_freshSize a_first a_size a_endKind a_sort a_codeSize a_isRead a_block a_hasValue a_isKnown a_value a_mark a_around a_nesting a_pile a_chosenStart a_chosenSize g_tokenCount g_itemCount g_blockCount g_looseCount g_numberCount g_operatorCount b_kinds b_starts b_ends b_owners b_meant b_firsts b_lasts b_sorts b_blocks b_knowns b_values b_around b_depths b_compared b_numbers b_operators h1 h2 h3
  exact ⟨rfl, zz_mk (by omega) h2 h3⟩
theorem i_vc_character {k : Nat} {u : SX} {v : SY} (I : i_Rel k u v) (hk : k + 5 ≤ 2560) (v1 : Int32) : wpX_character (fun r => wpY_character (fun r' => r' = r ∧ i_Rel (k + 5) u v) v v1) u v1 := by
  refine zz_el (P := fun u v => wpX_character (fun r => wpY_character (fun r' => r' = r ∧ i_Rel (k + 5) u v) v v1) u v1) ?_ I
  intro L n G mk S Z K F Q H f_fresh f_blocks f_loose f_isStudied f_height f_chosen a_text a_tokenKind a_tokenStart a_tokenSize a_code a_meant a_meantMark a_freshKind a_freshStart a_freshSize a_first a_size a_endKind a_sort a_codeSize a_isRead a_block a_hasValue a_isKnown a_value a_mark a_around a_nesting a_pile a_chosenStart a_chosenSize g_tokenCount g_itemCount g_blockCount g_looseCount g_numberCount g_operatorCount b_kinds b_starts b_ends b_owners b_meant b_firsts b_lasts b_sorts b_blocks b_knowns b_values b_around b_depths b_compared b_numbers b_operators h1 h2 h3
  have hL : L ≤ 80 := h2.1
  by_cases p0 : v1 < 0
  · exact br_t p0 (br_t p0 ⟨rfl, zz_mk (by omega) h2 h3⟩)
  · obtain ⟨p, hp, rfl⟩ := nI_of p0
    by_cases pL : p < L
    · exact br_f p0 (br_t (nI_lt pL (by omega)) ⟨pk_in p 80 (by omega), br_f p0 (br_f (nI_ge pL (by omega)) ⟨pk_in p 81 (by omega), rfl, zz_mk (by omega) h2 h3⟩)⟩)
    · exact br_f p0 (br_f (nI_nlt (by omega) (by omega)) (br_f p0 (br_t (nI_le (by omega) (by omega)) ⟨rfl, zz_mk (by omega) h2 h3⟩)))
end
section
/-! the owed row: append -/
def zz_gd (v : Int32) : Prop := v = -1 ∨ ∃ c, c ≤ 18 ∧ v = nI c
def zz_ni (v : Int32) : Nat := if v = -1 then 0 else 1
def zz_tx (T : Nat → Int32) (L : Nat) (v : Int32) : Nat → Int32 := if v = -1 then T else xf_ins T L v L
def zz_sel (v1 v2 v3 v4 : Int32) (i : Nat) : Int32 := if i = 0 then v1 else if i = 1 then v2 else if i = 2 then v3 else v4
theorem zz_ni1 (v : Int32) : zz_ni v ≤ 1 := by unfold zz_ni; split <;> omega
theorem zz_br {A : Int32 → Prop} (v : Int32) (h : A (nI (zz_ni v))) : (v = -1 → A 0) ∧ (¬ v = -1 → A 1) := by
  unfold zz_ni at h
  refine br_c (fun e => ?_) (fun e => ?_)
  · rw [if_pos e] at h; exact h
  · rw [if_neg e] at h; exact h
section
variable {f_length f_tokens f_fresh f_stretches f_marks f_blocks f_loose f_isStudied f_height f_chosen : Int32} {a_text a_tokenKind a_tokenStart a_tokenSize a_code a_meant a_meantMark a_freshKind a_freshStart a_freshSize a_first a_size a_endKind a_sort a_codeSize a_isRead a_block a_hasValue a_isKnown a_value a_mark a_around a_nesting a_pile a_chosenStart a_chosenSize : Nat → Int32}
variable {L n G mk : Nat} {S Z K F Q : Nat → Nat} {H : Int32 → Int32 × Int32} {v : Int32}
theorem zx_badPart {post : Int32 → Prop} (h0 : zz_gd v → post 0) (h1 : ¬ zz_gd v → post 1) : wpX_badPart post (f_length, f_tokens, f_fresh, f_stretches, f_marks, f_blocks, f_loose, f_isStudied, f_height, f_chosen, a_text, a_tokenKind, a_tokenStart, a_tokenSize, a_code, a_meant, a_meantMark, a_freshKind, a_freshStart, a_freshSize, a_first, a_size, a_endKind, a_sort, a_codeSize, a_isRead, a_block, a_hasValue, a_isKnown, a_value, a_mark, a_around, a_nesting, a_pile, a_chosenStart, a_chosenSize) v := by
  by_cases e : v = -1
  · exact br_t e (h0 (Or.inl e))
  · refine br_f e ?_
    by_cases c0 : v < 0
    · refine br_t c0 (br_f (by decide) (h1 (fun z => ?_)))
      rcases z with z | ⟨c, hc, z⟩
      · exact e z
      · rw [z] at c0; exact nI_pos (by omega) c0
    · obtain ⟨c, hc, rfl⟩ := nI_of c0
      by_cases c18 : c ≤ 18
      · exact br_f c0 (br_t (nI_le (b := 18) c18 (by decide)) (br_t rfl (h0 (Or.inr ⟨c, c18, rfl⟩))))
      · refine br_f c0 (br_f (nI_ge (a := 18) (by omega) (by omega)) (br_f (by decide) (h1 (fun z => ?_))))
        rcases z with z | ⟨c', hc', z⟩
        · exact e z
        · have := (nI_eq hc (by omega)).mp z; omega
theorem zx_appendOne {post : SX → Prop} (h2 : qe_XI L n G mk S Z K F Q H a_text a_tokenKind a_tokenStart a_tokenSize a_code a_meantMark a_first a_size a_endKind a_sort a_codeSize a_isRead a_hasValue a_isKnown a_value a_mark) (h3 : f_isStudied = 0 ∨ (f_isStudied = 1 ∧ xm_St G S Z K F Q f_loose a_text a_endKind a_meant a_sort a_block a_isKnown a_value a_around a_nesting)) (hv : zz_gd v) (hl : L + zz_ni v ≤ 80)
    (h : ∀ (n' G' mk' : Nat) (S' Z' K' F' Q' : Nat → Nat) (H' : Int32 → Int32 × Int32) (f_fresh f_blocks f_loose f_isStudied f_height f_chosen : Int32) (a_tokenKind a_tokenStart a_tokenSize a_code a_meant a_meantMark a_freshKind a_freshStart a_freshSize a_first a_size a_endKind a_sort a_codeSize a_isRead a_block a_hasValue a_isKnown a_value a_mark a_around a_nesting a_pile a_chosenStart a_chosenSize : Nat → Int32), mk' ≤ mk + 81 → qe_XI (L + zz_ni v) n' G' mk' S' Z' K' F' Q' H' (zz_tx a_text L v) a_tokenKind a_tokenStart a_tokenSize a_code a_meantMark a_first a_size a_endKind a_sort a_codeSize a_isRead a_hasValue a_isKnown a_value a_mark → (f_isStudied = 0 ∨ (f_isStudied = 1 ∧ xm_St G' S' Z' K' F' Q' f_loose (zz_tx a_text L v) a_endKind a_meant a_sort a_block a_isKnown a_value a_around a_nesting)) → post (nI (L + zz_ni v), nI n', f_fresh, nI G', nI mk', f_blocks, f_loose, f_isStudied, f_height, f_chosen, zz_tx a_text L v, a_tokenKind, a_tokenStart, a_tokenSize, a_code, a_meant, a_meantMark, a_freshKind, a_freshStart, a_freshSize, a_first, a_size, a_endKind, a_sort, a_codeSize, a_isRead, a_block, a_hasValue, a_isKnown, a_value, a_mark, a_around, a_nesting, a_pile, a_chosenStart, a_chosenSize)) :
    wpX_appendOne post (nI L, nI n, f_fresh, nI G, nI mk, f_blocks, f_loose, f_isStudied, f_height, f_chosen, a_text, a_tokenKind, a_tokenStart, a_tokenSize, a_code, a_meant, a_meantMark, a_freshKind, a_freshStart, a_freshSize, a_first, a_size, a_endKind, a_sort, a_codeSize, a_isRead, a_block, a_hasValue, a_isKnown, a_value, a_mark, a_around, a_nesting, a_pile, a_chosenStart, a_chosenSize) v := by
  by_cases e : v = -1
  · have e1 : zz_ni v = 0 := if_pos e
    have e2 : zz_tx a_text L v = a_text := if_pos e
    rw [e1, e2] at h
    exact br_t e (h n G mk S Z K F Q H f_fresh f_blocks f_loose f_isStudied f_height f_chosen a_tokenKind a_tokenStart a_tokenSize a_code a_meant a_meantMark a_freshKind a_freshStart a_freshSize a_first a_size a_endKind a_sort a_codeSize a_isRead a_block a_hasValue a_isKnown a_value a_mark a_around a_nesting a_pile a_chosenStart a_chosenSize (by omega) h2 h3)
  · have e1 : zz_ni v = 1 := if_neg e
    have e2 : zz_tx a_text L v = xf_ins a_text L v L := if_neg e
    rw [e1] at hl
    rw [e1, e2] at h
    refine br_f e ?_
    rcases hv with z | ⟨c, hc, rfl⟩
    · exact absurd z e
    · refine xf_insert ⟨S, Z, K, F, Q, H, h2⟩ (by omega) (Nat.le_refl L) hc (fun n' G' mk' f_fresh a_tokenKind a_tokenStart a_tokenSize a_code a_meant a_meantMark a_freshKind a_freshStart a_freshSize a_first a_size a_endKind a_sort a_codeSize a_isRead a_hasValue a_isKnown a_value a_mark m1 m2 => ?_)
      obtain ⟨S', Z', K', F', Q', H', hX⟩ := m2
      exact h n' G' mk' S' Z' K' F' Q' H' f_fresh f_blocks f_loose 0 f_height f_chosen a_tokenKind a_tokenStart a_tokenSize a_code a_meant a_meantMark a_freshKind a_freshStart a_freshSize a_first a_size a_endKind a_sort a_codeSize a_isRead a_block a_hasValue a_isKnown a_value a_mark a_around a_nesting a_pile a_chosenStart a_chosenSize m1 hX (Or.inl rfl)
end
section
variable {g_length g_tokenCount g_itemCount g_blockCount g_looseCount g_numberCount g_operatorCount : Int32} {b_text b_kinds b_starts b_ends b_owners b_meant b_firsts b_lasts b_sorts b_blocks b_knowns b_values b_around b_depths b_compared b_numbers b_operators : Nat → Int32}
variable {L m i d : Nat} {v v1 v2 v3 v4 : Int32} {post : Int32 → SY → Prop}
theorem zy_oneOf {p : Int32 → Prop} (hi : i < 4) (h : p (zz_sel v1 v2 v3 v4 i)) : wpY_oneOf p (g_length, g_tokenCount, g_itemCount, g_blockCount, g_looseCount, g_numberCount, g_operatorCount, b_text, b_kinds, b_starts, b_ends, b_owners, b_meant, b_firsts, b_lasts, b_sorts, b_blocks, b_knowns, b_values, b_around, b_depths, b_compared, b_numbers, b_operators) (nI i) v1 v2 v3 v4 := by
  unfold zz_sel at h
  refine pk_eq i 0 (fun e => ?_) (fun e0 => pk_eq i 1 (fun e => ?_) (fun e1 => pk_eq i 2 (fun e => ?_) (fun e2 => ?_)))
  · rw [if_pos e] at h; exact h
  · rw [if_neg e0, if_pos e] at h; exact h
  · rw [if_neg e0, if_neg e1, if_pos e] at h; exact h
  · rw [if_neg e0, if_neg e1, if_neg e2] at h; exact h
theorem zy_6 (hi : i < 4) (hv : zz_gd (zz_sel v1 v2 v3 v4 i)) (h : wY_append_6 post v1 v2 v3 v4 g_length g_tokenCount g_itemCount g_blockCount g_looseCount g_numberCount g_operatorCount b_text b_kinds b_starts b_ends b_owners b_meant b_firsts b_lasts b_sorts b_blocks b_knowns b_values b_around b_depths b_compared b_numbers b_operators d (nI (m + zz_ni (zz_sel v1 v2 v3 v4 i))) (nI (i + 1))) : wY_append_6 post v1 v2 v3 v4 g_length g_tokenCount g_itemCount g_blockCount g_looseCount g_numberCount g_operatorCount b_text b_kinds b_starts b_ends b_owners b_meant b_firsts b_lasts b_sorts b_blocks b_knowns b_values b_around b_depths b_compared b_numbers b_operators (d + 1) (nI m) (nI i) := by
  rw [wY_append_6]
  refine br_f (nI_ge (b := 4) hi (by decide)) (zy_oneOf hi ?_)
  generalize zz_sel v1 v2 v3 v4 i = v at *
  unfold zz_ni at h
  by_cases e : v = -1
  · rw [if_pos e] at h
    exact br_t e (br_t e (nm_r (nI_1 i) h))
  · rw [if_neg e] at h
    rcases hv with z | ⟨c, hc, rfl⟩
    · exact absurd z e
    · exact br_f e (br_f (nI_pos (by omega)) (br_f (nI_nlt (a := 18) hc (by decide)) (br_f (by decide) (br_f e (nm_r (nI_1 m) (nm_r (nI_1 i) h))))))
theorem zy_6b {x5 : Int32} (hi : i < 4) (hv : ¬ zz_gd (zz_sel v1 v2 v3 v4 i)) (h : post (-1) (g_length, g_tokenCount, g_itemCount, g_blockCount, g_looseCount, g_numberCount, g_operatorCount, b_text, b_kinds, b_starts, b_ends, b_owners, b_meant, b_firsts, b_lasts, b_sorts, b_blocks, b_knowns, b_values, b_around, b_depths, b_compared, b_numbers, b_operators)) : wY_append_6 post v1 v2 v3 v4 g_length g_tokenCount g_itemCount g_blockCount g_looseCount g_numberCount g_operatorCount b_text b_kinds b_starts b_ends b_owners b_meant b_firsts b_lasts b_sorts b_blocks b_knowns b_values b_around b_depths b_compared b_numbers b_operators (d + 1) x5 (nI i) := by
  rw [wY_append_6]
  refine br_f (nI_ge (b := 4) hi (by decide)) (zy_oneOf hi ?_)
  generalize zz_sel v1 v2 v3 v4 i = v at *
  refine br_f (fun z => hv (Or.inl z)) ?_
  by_cases c0 : v < 0
  · exact br_t c0 (br_t rfl h)
  · obtain ⟨c, hc, rfl⟩ := nI_of c0
    by_cases c18 : c ≤ 18
    · exact absurd (Or.inr ⟨c, c18, rfl⟩) hv
    · exact br_f c0 (br_t (nI_lt (a := 18) (by omega) (by omega)) (br_t rfl h))
theorem zy_83 (hi : i < 4) (hl : L + zz_ni (zz_sel v1 v2 v3 v4 i) ≤ 80) (h : wY_append_83 post v1 v2 v3 v4 d (nI (i + 1)) (nI (L + zz_ni (zz_sel v1 v2 v3 v4 i))) g_tokenCount g_itemCount g_blockCount g_looseCount g_numberCount g_operatorCount (zz_tx b_text L (zz_sel v1 v2 v3 v4 i)) b_kinds b_starts b_ends b_owners b_meant b_firsts b_lasts b_sorts b_blocks b_knowns b_values b_around b_depths b_compared b_numbers b_operators) : wY_append_83 post v1 v2 v3 v4 (d + 1) (nI i) (nI L) g_tokenCount g_itemCount g_blockCount g_looseCount g_numberCount g_operatorCount b_text b_kinds b_starts b_ends b_owners b_meant b_firsts b_lasts b_sorts b_blocks b_knowns b_values b_around b_depths b_compared b_numbers b_operators := by
  rw [wY_append_83]
  refine br_f (nI_ge (b := 4) hi (by decide)) (zy_oneOf hi ?_)
  generalize zz_sel v1 v2 v3 v4 i = v at *
  unfold zz_ni at h hl
  unfold zz_tx at h
  by_cases e : v = -1
  · rw [if_pos e, if_pos e] at h
    exact br_t e (nm_r (nI_1 i) h)
  · rw [if_neg e] at hl
    rw [if_neg e, if_neg e] at h
    exact br_f e (yi_putIn (by omega) (Nat.le_refl L) (nm_r (nI_1 i) h))
end
theorem zz_add4 (a b c d : Nat) : nI a + nI b + nI c + nI d = nI (a + b + c + d) := by rw [nI_add, nI_add, nI_add]
theorem i_vc_append {k : Nat} {u : SX} {v : SY} (I : i_Rel k u v) (hk : k + 5 ≤ 2560) (v1 : Int32) (v2 : Int32) (v3 : Int32) (v4 : Int32) : wpX_append (fun r u' => wpY_append (fun r' v' => r' = r ∧ i_Rel (k + 5) u' v') v v1 v2 v3 v4) u v1 v2 v3 v4 := by
  refine zz_el (P := fun u v => wpX_append (fun r u' => wpY_append (fun r' v' => r' = r ∧ i_Rel (k + 5) u' v') v v1 v2 v3 v4) u v1 v2 v3 v4) ?_ I
  intro L n G mk S Z K F Q H f_fresh f_blocks f_loose f_isStudied f_height f_chosen a_text a_tokenKind a_tokenStart a_tokenSize a_code a_meant a_meantMark a_freshKind a_freshStart a_freshSize a_first a_size a_endKind a_sort a_codeSize a_isRead a_block a_hasValue a_isKnown a_value a_mark a_around a_nesting a_pile a_chosenStart a_chosenSize g_tokenCount g_itemCount g_blockCount g_looseCount g_numberCount g_operatorCount b_kinds b_starts b_ends b_owners b_meant b_firsts b_lasts b_sorts b_blocks b_knowns b_values b_around b_depths b_compared b_numbers b_operators h1 h2 h3
  have hL : L ≤ 80 := h2.1
  have n1 := zz_ni1 v1
  have n2 := zz_ni1 v2
  have n3 := zz_ni1 v3
  have n4 := zz_ni1 v4
  have same : i_Rel (k + 5) (nI L, nI n, f_fresh, nI G, nI mk, f_blocks, f_loose, f_isStudied, f_height, f_chosen, a_text, a_tokenKind, a_tokenStart, a_tokenSize, a_code, a_meant, a_meantMark, a_freshKind, a_freshStart, a_freshSize, a_first, a_size, a_endKind, a_sort, a_codeSize, a_isRead, a_block, a_hasValue, a_isKnown, a_value, a_mark, a_around, a_nesting, a_pile, a_chosenStart, a_chosenSize) (nI L, g_tokenCount, g_itemCount, g_blockCount, g_looseCount, g_numberCount, g_operatorCount, a_text, b_kinds, b_starts, b_ends, b_owners, b_meant, b_firsts, b_lasts, b_sorts, b_blocks, b_knowns, b_values, b_around, b_depths, b_compared, b_numbers, b_operators) := zz_mk (by omega) h2 h3
  unfold wpX_append
  dsimp only
  -- Y's first loop, one step each
  have y1 : ∀ {p : Int32 → SY → Prop}, zz_gd v1 → ∀ d, wY_append_6 p v1 v2 v3 v4 (nI L) g_tokenCount g_itemCount g_blockCount g_looseCount g_numberCount g_operatorCount a_text b_kinds b_starts b_ends b_owners b_meant b_firsts b_lasts b_sorts b_blocks b_knowns b_values b_around b_depths b_compared b_numbers b_operators d (nI (0 + zz_ni v1)) (nI 1) → wY_append_6 p v1 v2 v3 v4 (nI L) g_tokenCount g_itemCount g_blockCount g_looseCount g_numberCount g_operatorCount a_text b_kinds b_starts b_ends b_owners b_meant b_firsts b_lasts b_sorts b_blocks b_knowns b_values b_around b_depths b_compared b_numbers b_operators (d + 1) 0 0 := fun g d z => zy_6 (i := 0) (m := 0) (by omega) g z
  have y2 : ∀ {p : Int32 → SY → Prop}, zz_gd v2 → ∀ d m, wY_append_6 p v1 v2 v3 v4 (nI L) g_tokenCount g_itemCount g_blockCount g_looseCount g_numberCount g_operatorCount a_text b_kinds b_starts b_ends b_owners b_meant b_firsts b_lasts b_sorts b_blocks b_knowns b_values b_around b_depths b_compared b_numbers b_operators d (nI (m + zz_ni v2)) (nI 2) → wY_append_6 p v1 v2 v3 v4 (nI L) g_tokenCount g_itemCount g_blockCount g_looseCount g_numberCount g_operatorCount a_text b_kinds b_starts b_ends b_owners b_meant b_firsts b_lasts b_sorts b_blocks b_knowns b_values b_around b_depths b_compared b_numbers b_operators (d + 1) (nI m) (nI 1) := fun g d m z => zy_6 (i := 1) (m := m) (by omega) g z
  have y3 : ∀ {p : Int32 → SY → Prop}, zz_gd v3 → ∀ d m, wY_append_6 p v1 v2 v3 v4 (nI L) g_tokenCount g_itemCount g_blockCount g_looseCount g_numberCount g_operatorCount a_text b_kinds b_starts b_ends b_owners b_meant b_firsts b_lasts b_sorts b_blocks b_knowns b_values b_around b_depths b_compared b_numbers b_operators d (nI (m + zz_ni v3)) (nI 3) → wY_append_6 p v1 v2 v3 v4 (nI L) g_tokenCount g_itemCount g_blockCount g_looseCount g_numberCount g_operatorCount a_text b_kinds b_starts b_ends b_owners b_meant b_firsts b_lasts b_sorts b_blocks b_knowns b_values b_around b_depths b_compared b_numbers b_operators (d + 1) (nI m) (nI 2) := fun g d m z => zy_6 (i := 2) (m := m) (by omega) g z
  have y4 : ∀ {p : Int32 → SY → Prop}, zz_gd v4 → ∀ d m, wY_append_6 p v1 v2 v3 v4 (nI L) g_tokenCount g_itemCount g_blockCount g_looseCount g_numberCount g_operatorCount a_text b_kinds b_starts b_ends b_owners b_meant b_firsts b_lasts b_sorts b_blocks b_knowns b_values b_around b_depths b_compared b_numbers b_operators d (nI (m + zz_ni v4)) (nI 4) → wY_append_6 p v1 v2 v3 v4 (nI L) g_tokenCount g_itemCount g_blockCount g_looseCount g_numberCount g_operatorCount a_text b_kinds b_starts b_ends b_owners b_meant b_firsts b_lasts b_sorts b_blocks b_knowns b_values b_around b_depths b_compared b_numbers b_operators (d + 1) (nI m) (nI 3) := fun g d m z => zy_6 (i := 3) (m := m) (by omega) g z
  refine zx_badPart (fun g1 => br_t rfl ?_) (fun b1 => br_f (by decide) ?_)
  · refine zx_badPart (fun g2 => br_t rfl ?_) (fun b2 => br_f (by decide) ?_)
    · refine zx_badPart (fun g3 => br_t rfl ?_) (fun b3 => br_f (by decide) ?_)
      · refine zx_badPart (fun g4 => br_t rfl ?_) (fun b4 => br_f (by decide) ?_)
        · refine zz_br (A := fun z => wX_append_45 _ v1 v2 v3 v4 z (nI L) (nI n) f_fresh (nI G) (nI mk) f_blocks f_loose f_isStudied f_height f_chosen a_text a_tokenKind a_tokenStart a_tokenSize a_code a_meant a_meantMark a_freshKind a_freshStart a_freshSize a_first a_size a_endKind a_sort a_codeSize a_isRead a_block a_hasValue a_isKnown a_value a_mark a_around a_nesting a_pile a_chosenStart a_chosenSize) v1 ?_
          refine zz_br (A := fun z => wX_append_55 _ v1 v2 v3 v4 z (nI (zz_ni v1)) (nI L) (nI n) f_fresh (nI G) (nI mk) f_blocks f_loose f_isStudied f_height f_chosen a_text a_tokenKind a_tokenStart a_tokenSize a_code a_meant a_meantMark a_freshKind a_freshStart a_freshSize a_first a_size a_endKind a_sort a_codeSize a_isRead a_block a_hasValue a_isKnown a_value a_mark a_around a_nesting a_pile a_chosenStart a_chosenSize) v2 ?_
          refine zz_br (A := fun z => wX_append_66 _ v1 v2 v3 v4 z (nI (zz_ni v1) + nI (zz_ni v2)) (nI L) (nI n) f_fresh (nI G) (nI mk) f_blocks f_loose f_isStudied f_height f_chosen a_text a_tokenKind a_tokenStart a_tokenSize a_code a_meant a_meantMark a_freshKind a_freshStart a_freshSize a_first a_size a_endKind a_sort a_codeSize a_isRead a_block a_hasValue a_isKnown a_value a_mark a_around a_nesting a_pile a_chosenStart a_chosenSize) v3 ?_
          refine zz_br (A := fun z => wX_append_78 _ v1 v2 v3 v4 z (nI (zz_ni v1) + nI (zz_ni v2) + nI (zz_ni v3)) (nI L) (nI n) f_fresh (nI G) (nI mk) f_blocks f_loose f_isStudied f_height f_chosen a_text a_tokenKind a_tokenStart a_tokenSize a_code a_meant a_meantMark a_freshKind a_freshStart a_freshSize a_first a_size a_endKind a_sort a_codeSize a_isRead a_block a_hasValue a_isKnown a_value a_mark a_around a_nesting a_pile a_chosenStart a_chosenSize) v4 ?_
          refine nm_r (zz_add4 _ _ _ _) ?_
          -- Y, up to its check of the room
          have yroom : ∀ {p : Int32 → SY → Prop}, wY_append_6 p v1 v2 v3 v4 (nI L) g_tokenCount g_itemCount g_blockCount g_looseCount g_numberCount g_operatorCount a_text b_kinds b_starts b_ends b_owners b_meant b_firsts b_lasts b_sorts b_blocks b_knowns b_values b_around b_depths b_compared b_numbers b_operators 1 (nI (0 + zz_ni v1 + zz_ni v2 + zz_ni v3 + zz_ni v4)) (nI 4) → wpY_append p (nI L, g_tokenCount, g_itemCount, g_blockCount, g_looseCount, g_numberCount, g_operatorCount, a_text, b_kinds, b_starts, b_ends, b_owners, b_meant, b_firsts, b_lasts, b_sorts, b_blocks, b_knowns, b_values, b_around, b_depths, b_compared, b_numbers, b_operators) v1 v2 v3 v4 := fun z => ⟨5, y1 g1 4 (y2 g2 3 _ (y3 g3 2 _ (y4 g4 1 _ z)))⟩
          rw [Nat.zero_add] at yroom
          refine pk_le (L + (zz_ni v1 + zz_ni v2 + zz_ni v3 + zz_ni v4)) 80 (fun room => ?_) (fun room => ?_) (nI_add _ _)
          · have go := fun {p : Int32 → SY → Prop} (z : ∃ n83 : Nat, wY_append_83 p v1 v2 v3 v4 n83 0 (nI L) g_tokenCount g_itemCount g_blockCount g_looseCount g_numberCount g_operatorCount a_text b_kinds b_starts b_ends b_owners b_meant b_firsts b_lasts b_sorts b_blocks b_knowns b_values b_around b_depths b_compared b_numbers b_operators) => yroom (p := p) (by rw [wY_append_6]; exact br_t (by decide) (br_t (by rw [nI_add]; exact nI_le (b := 80) room (by decide)) z))
            refine zx_appendOne h2 h3 g1 (by omega) (fun n1' G1 mk1 S1 Z1 K1 F1 Q1 H1 f_fresh f_blocks f_loose f_isStudied f_height f_chosen a_tokenKind a_tokenStart a_tokenSize a_code a_meant a_meantMark a_freshKind a_freshStart a_freshSize a_first a_size a_endKind a_sort a_codeSize a_isRead a_block a_hasValue a_isKnown a_value a_mark a_around a_nesting a_pile a_chosenStart a_chosenSize m1 x1 s1 => ?_)
            refine zx_appendOne x1 s1 g2 (by omega) (fun n2' G2 mk2 S2 Z2 K2 F2 Q2 H2 f_fresh f_blocks f_loose f_isStudied f_height f_chosen a_tokenKind a_tokenStart a_tokenSize a_code a_meant a_meantMark a_freshKind a_freshStart a_freshSize a_first a_size a_endKind a_sort a_codeSize a_isRead a_block a_hasValue a_isKnown a_value a_mark a_around a_nesting a_pile a_chosenStart a_chosenSize m2 x2 s2 => ?_)
            refine zx_appendOne x2 s2 g3 (by omega) (fun n3' G3 mk3 S3 Z3 K3 F3 Q3 H3 f_fresh f_blocks f_loose f_isStudied f_height f_chosen a_tokenKind a_tokenStart a_tokenSize a_code a_meant a_meantMark a_freshKind a_freshStart a_freshSize a_first a_size a_endKind a_sort a_codeSize a_isRead a_block a_hasValue a_isKnown a_value a_mark a_around a_nesting a_pile a_chosenStart a_chosenSize m3 x3 s3 => ?_)
            refine zx_appendOne x3 s3 g4 (by omega) (fun n4' G4 mk4 S4 Z4 K4 F4 Q4 H4 f_fresh f_blocks f_loose f_isStudied f_height f_chosen a_tokenKind a_tokenStart a_tokenSize a_code a_meant a_meantMark a_freshKind a_freshStart a_freshSize a_first a_size a_endKind a_sort a_codeSize a_isRead a_block a_hasValue a_isKnown a_value a_mark a_around a_nesting a_pile a_chosenStart a_chosenSize m4 x4 s4 => ?_)
            refine go ⟨5, ?_⟩
            refine zy_83 (i := 0) (by omega) (show L + zz_ni v1 ≤ 80 by omega) ?_
            refine zy_83 (i := 1) (by omega) (show L + zz_ni v1 + zz_ni v2 ≤ 80 by omega) ?_
            refine zy_83 (i := 2) (by omega) (show L + zz_ni v1 + zz_ni v2 + zz_ni v3 ≤ 80 by omega) ?_
            refine zy_83 (i := 3) (by omega) (show L + zz_ni v1 + zz_ni v2 + zz_ni v3 + zz_ni v4 ≤ 80 by omega) ?_
            rw [wY_append_83]
            refine br_t (by decide) ⟨rfl, ?_⟩
            have fin : i_Rel (k + 5) (nI (L + zz_ni v1 + zz_ni v2 + zz_ni v3 + zz_ni v4), nI n4', f_fresh, nI G4, nI mk4, f_blocks, f_loose, f_isStudied, f_height, f_chosen, zz_tx (zz_tx (zz_tx (zz_tx a_text L v1) (L + zz_ni v1) v2) (L + zz_ni v1 + zz_ni v2) v3) (L + zz_ni v1 + zz_ni v2 + zz_ni v3) v4, a_tokenKind, a_tokenStart, a_tokenSize, a_code, a_meant, a_meantMark, a_freshKind, a_freshStart, a_freshSize, a_first, a_size, a_endKind, a_sort, a_codeSize, a_isRead, a_block, a_hasValue, a_isKnown, a_value, a_mark, a_around, a_nesting, a_pile, a_chosenStart, a_chosenSize) (nI (L + zz_ni v1 + zz_ni v2 + zz_ni v3 + zz_ni v4), g_tokenCount, g_itemCount, g_blockCount, g_looseCount, g_numberCount, g_operatorCount, zz_tx (zz_tx (zz_tx (zz_tx a_text L v1) (L + zz_ni v1) v2) (L + zz_ni v1 + zz_ni v2) v3) (L + zz_ni v1 + zz_ni v2 + zz_ni v3) v4, b_kinds, b_starts, b_ends, b_owners, b_meant, b_firsts, b_lasts, b_sorts, b_blocks, b_knowns, b_values, b_around, b_depths, b_compared, b_numbers, b_operators) := zz_mk (by omega) x4 s4
            exact fin
          · refine yroom ?_
            rw [wY_append_6]
            refine br_t (by decide) (br_f (by rw [nI_add]; exact nI_ge (a := 80) room (by omega)) ⟨rfl, same⟩)
        · exact ⟨5, y1 g1 4 (y2 g2 3 _ (y3 g3 2 _ (zy_6b (i := 3) (by omega) b4 ⟨rfl, same⟩)))⟩
      · exact ⟨4, y1 g1 3 (y2 g2 2 _ (zy_6b (i := 2) (by omega) b3 ⟨rfl, same⟩))⟩
    · exact ⟨3, y1 g1 2 (zy_6b (i := 1) (by omega) b2 ⟨rfl, same⟩)⟩
  · exact ⟨2, zy_6b (i := 0) (by omega) b1 ⟨rfl, same⟩⟩
end
section
/-! what questions ask: X's and Y's side -/
section
variable {f_length f_tokens f_fresh f_stretches f_marks f_blocks f_loose f_isStudied f_height f_chosen : Int32} {a_text a_tokenKind a_tokenStart a_tokenSize a_code a_meant a_meantMark a_freshKind a_freshStart a_freshSize a_first a_size a_endKind a_sort a_codeSize a_isRead a_block a_hasValue a_isKnown a_value a_mark a_around a_nesting a_pile a_chosenStart a_chosenSize : Nat → Int32} {g_tokenCount g_itemCount g_blockCount g_looseCount g_numberCount g_operatorCount : Int32} {b_kinds b_starts b_ends b_owners b_meant b_firsts b_lasts b_sorts b_blocks b_knowns b_values b_around b_depths b_compared b_numbers b_operators : Nat → Int32}
variable {L n G mk : Nat} {S Z K F Q : Nat → Nat} {H : Int32 → Int32 × Int32}
theorem zy_readE {post : SY → Prop} (h2 : qe_XI L n G mk S Z K F Q H a_text a_tokenKind a_tokenStart a_tokenSize a_code a_meantMark a_first a_size a_endKind a_sort a_codeSize a_isRead a_hasValue a_isKnown a_value a_mark) (h : ∀ nc oc (b_kinds b_starts b_ends b_owners b_meant b_firsts b_lasts b_sorts b_blocks b_knowns b_values b_around b_depths b_compared b_numbers b_operators : Nat → Int32) (me kn vl : Nat → Int32), yh_R n G S Z K F Q a_endKind me kn vl b_kinds b_starts b_ends b_owners b_meant b_firsts b_lasts b_sorts b_blocks b_knowns b_values b_around b_depths → post (nI L, nI n, nI (yc_it Q G), nI ((qf_bl a_endKind G).2.1 - 1), nI ((qf_bl a_endKind G).2.2.2.2 + (qf_bl a_endKind G).2.2.2.1 (qf_bl a_endKind G).1), nc, oc, a_text, b_kinds, b_starts, b_ends, b_owners, b_meant, b_firsts, b_lasts, b_sorts, b_blocks, b_knowns, b_values, b_around, b_depths, b_compared, b_numbers, b_operators)) : wpY_read post (nI L, g_tokenCount, g_itemCount, g_blockCount, g_looseCount, g_numberCount, g_operatorCount, a_text, b_kinds, b_starts, b_ends, b_owners, b_meant, b_firsts, b_lasts, b_sorts, b_blocks, b_knowns, b_values, b_around, b_depths, b_compared, b_numbers, b_operators) := by
  obtain ⟨x1, x2, x3, x4, x5, x6, x7, x8, x9, x10, x11⟩ := h2
  have hn : n ≤ 80 := Nat.le_trans (qb_nL x3) x1
  have hG := qc_G x5
  obtain ⟨me, so, kn, vl, hD⟩ := zz_Dn (T := a_text) (S := S) (Z := Z) x5 (by omega) G (Nat.le_refl G)
  exact yh_read (so := so) x1 x2 x3 x5 hD (fun nc oc b_kinds b_starts b_ends b_owners b_meant b_firsts b_lasts b_sorts b_blocks b_knowns b_values b_around b_depths b_compared b_numbers b_operators hR => h nc oc b_kinds b_starts b_ends b_owners b_meant b_firsts b_lasts b_sorts b_blocks b_knowns b_values b_around b_depths b_compared b_numbers b_operators me kn vl hR)
theorem zy_readS {post : SY → Prop} (h2 : qe_XI L n G mk S Z K F Q H a_text a_tokenKind a_tokenStart a_tokenSize a_code a_meantMark a_first a_size a_endKind a_sort a_codeSize a_isRead a_hasValue a_isKnown a_value a_mark) (hs : xm_St G S Z K F Q f_loose a_text a_endKind a_meant a_sort a_block a_isKnown a_value a_around a_nesting) (h : ∀ nc oc (b_kinds b_starts b_ends b_owners b_meant b_firsts b_lasts b_sorts b_blocks b_knowns b_values b_around b_depths b_compared b_numbers b_operators : Nat → Int32), yh_R n G S Z K F Q a_endKind a_meant a_isKnown a_value b_kinds b_starts b_ends b_owners b_meant b_firsts b_lasts b_sorts b_blocks b_knowns b_values b_around b_depths → post (nI L, nI n, nI (yc_it Q G), nI ((qf_bl a_endKind G).2.1 - 1), nI ((qf_bl a_endKind G).2.2.2.2 + (qf_bl a_endKind G).2.2.2.1 (qf_bl a_endKind G).1), nc, oc, a_text, b_kinds, b_starts, b_ends, b_owners, b_meant, b_firsts, b_lasts, b_sorts, b_blocks, b_knowns, b_values, b_around, b_depths, b_compared, b_numbers, b_operators)) : wpY_read post (nI L, g_tokenCount, g_itemCount, g_blockCount, g_looseCount, g_numberCount, g_operatorCount, a_text, b_kinds, b_starts, b_ends, b_owners, b_meant, b_firsts, b_lasts, b_sorts, b_blocks, b_knowns, b_values, b_around, b_depths, b_compared, b_numbers, b_operators) := by
  obtain ⟨x1, x2, x3, x4, x5, x6, x7, x8, x9, x10, x11⟩ := h2
  exact yh_read (so := a_sort) x1 x2 x3 x5 hs.2.2 (fun nc oc b_kinds b_starts b_ends b_owners b_meant b_firsts b_lasts b_sorts b_blocks b_knowns b_values b_around b_depths b_compared b_numbers b_operators hR => h nc oc b_kinds b_starts b_ends b_owners b_meant b_firsts b_lasts b_sorts b_blocks b_knowns b_values b_around b_depths b_compared b_numbers b_operators hR)
theorem zy_item1 {post : Int32 → SY → Prop} {g : Nat} {i : Int32} (h2 : qe_XI L n G mk S Z K F Q H a_text a_tokenKind a_tokenStart a_tokenSize a_code a_meantMark a_first a_size a_endKind a_sort a_codeSize a_isRead a_hasValue a_isKnown a_value a_mark) (hs : xm_St G S Z K F Q f_loose a_text a_endKind a_meant a_sort a_block a_isKnown a_value a_around a_nesting) (hg : g < G) (hq : Q g ≠ 0) (hi : i = nI (yc_it Q g))
    (h : ∀ nc oc (b_kinds b_starts b_ends b_owners b_meant b_firsts b_lasts b_sorts b_blocks b_knowns b_values b_around b_depths b_compared b_numbers b_operators : Nat → Int32), yh_R n G S Z K F Q a_endKind a_meant a_isKnown a_value b_kinds b_starts b_ends b_owners b_meant b_firsts b_lasts b_sorts b_blocks b_knowns b_values b_around b_depths → post 1 (nI L, nI n, nI (yc_it Q G), nI ((qf_bl a_endKind G).2.1 - 1), nI ((qf_bl a_endKind G).2.2.2.2 + (qf_bl a_endKind G).2.2.2.1 (qf_bl a_endKind G).1), nc, oc, a_text, b_kinds, b_starts, b_ends, b_owners, b_meant, b_firsts, b_lasts, b_sorts, b_blocks, b_knowns, b_values, b_around, b_depths, b_compared, b_numbers, b_operators)) : wpY_isItem post (nI L, g_tokenCount, g_itemCount, g_blockCount, g_looseCount, g_numberCount, g_operatorCount, a_text, b_kinds, b_starts, b_ends, b_owners, b_meant, b_firsts, b_lasts, b_sorts, b_blocks, b_knowns, b_values, b_around, b_depths, b_compared, b_numbers, b_operators) i := by
  have hn : n ≤ 80 := Nat.le_trans (qb_nL h2.2.2.1) h2.1
  have hG := qc_G h2.2.2.2.2.1
  have hlt := yc_it_lt hg hq
  have hle := yc_it_le (Q := Q) G
  unfold wpY_isItem
  dsimp only
  subst hi
  exact zy_readS h2 hs (fun nc oc b_kinds b_starts b_ends b_owners b_meant b_firsts b_lasts b_sorts b_blocks b_knowns b_values b_around b_depths b_compared b_numbers b_operators hR => br_f (nI_pos (by omega)) (br_f (nI_ge hlt (by omega)) (h nc oc b_kinds b_starts b_ends b_owners b_meant b_firsts b_lasts b_sorts b_blocks b_knowns b_values b_around b_depths b_compared b_numbers b_operators hR)))
theorem zy_item0 {post : Int32 → SY → Prop} {i : Int32} (h2 : qe_XI L n G mk S Z K F Q H a_text a_tokenKind a_tokenStart a_tokenSize a_code a_meantMark a_first a_size a_endKind a_sort a_codeSize a_isRead a_hasValue a_isKnown a_value a_mark) (hs : xm_St G S Z K F Q f_loose a_text a_endKind a_meant a_sort a_block a_isKnown a_value a_around a_nesting) (hno : ∀ g, g < G → Q g ≠ 0 → i ≠ nI (yc_it Q g))
    (h : ∀ nc oc (b_kinds b_starts b_ends b_owners b_meant b_firsts b_lasts b_sorts b_blocks b_knowns b_values b_around b_depths b_compared b_numbers b_operators : Nat → Int32), yh_R n G S Z K F Q a_endKind a_meant a_isKnown a_value b_kinds b_starts b_ends b_owners b_meant b_firsts b_lasts b_sorts b_blocks b_knowns b_values b_around b_depths → post 0 (nI L, nI n, nI (yc_it Q G), nI ((qf_bl a_endKind G).2.1 - 1), nI ((qf_bl a_endKind G).2.2.2.2 + (qf_bl a_endKind G).2.2.2.1 (qf_bl a_endKind G).1), nc, oc, a_text, b_kinds, b_starts, b_ends, b_owners, b_meant, b_firsts, b_lasts, b_sorts, b_blocks, b_knowns, b_values, b_around, b_depths, b_compared, b_numbers, b_operators)) : wpY_isItem post (nI L, g_tokenCount, g_itemCount, g_blockCount, g_looseCount, g_numberCount, g_operatorCount, a_text, b_kinds, b_starts, b_ends, b_owners, b_meant, b_firsts, b_lasts, b_sorts, b_blocks, b_knowns, b_values, b_around, b_depths, b_compared, b_numbers, b_operators) i := by
  have hn : n ≤ 80 := Nat.le_trans (qb_nL h2.2.2.1) h2.1
  have hG := qc_G h2.2.2.2.2.1
  have hle := yc_it_le (Q := Q) G
  unfold wpY_isItem
  dsimp only
  refine zy_readS h2 hs (fun nc oc b_kinds b_starts b_ends b_owners b_meant b_firsts b_lasts b_sorts b_blocks b_knowns b_values b_around b_depths b_compared b_numbers b_operators hR => ?_)
  by_cases i0 : i < 0
  · exact br_t i0 (h nc oc b_kinds b_starts b_ends b_owners b_meant b_firsts b_lasts b_sorts b_blocks b_knowns b_values b_around b_depths b_compared b_numbers b_operators hR)
  · obtain ⟨j, hj, rfl⟩ := nI_of i0
    by_cases c : j < yc_it Q G
    · obtain ⟨g, a, b, e⟩ := yc_it_ex G j c
      exact absurd (congrArg nI e.symm) (hno g a b)
    · exact br_f i0 (br_t (nI_le (by omega) (by omega)) (h nc oc b_kinds b_starts b_ends b_owners b_meant b_firsts b_lasts b_sorts b_blocks b_knowns b_values b_around b_depths b_compared b_numbers b_operators hR))
end
section
variable {f_length f_tokens f_fresh f_stretches f_marks f_blocks f_loose f_isStudied f_height f_chosen : Int32} {a_text a_tokenKind a_tokenStart a_tokenSize a_code a_meant a_meantMark a_freshKind a_freshStart a_freshSize a_first a_size a_endKind a_sort a_codeSize a_isRead a_block a_hasValue a_isKnown a_value a_mark a_around a_nesting a_pile a_chosenStart a_chosenSize : Nat → Int32}
variable {L n G mk : Nat} {S Z K F Q : Nat → Nat} {H : Int32 → Int32 × Int32}
theorem zx_so8 {post : Int32 → SX → Prop} {i : Int32} (hG : G ≤ 81) (hso : ∀ g, g < G → a_sort g = nI (qg_sr K F Q a_endKind g)) (h1 : ∀ g, g < G → Q g ≠ 0 → i = nI (yc_it Q g) → post (nI g) (f_length, f_tokens, f_fresh, nI G, f_marks, f_blocks, f_loose, f_isStudied, f_height, f_chosen, a_text, a_tokenKind, a_tokenStart, a_tokenSize, a_code, a_meant, a_meantMark, a_freshKind, a_freshStart, a_freshSize, a_first, a_size, a_endKind, a_sort, a_codeSize, a_isRead, a_block, a_hasValue, a_isKnown, a_value, a_mark, a_around, a_nesting, a_pile, a_chosenStart, a_chosenSize)) (h0 : (∀ g, g < G → Q g ≠ 0 → i ≠ nI (yc_it Q g)) → post (-1) (f_length, f_tokens, f_fresh, nI G, f_marks, f_blocks, f_loose, f_isStudied, f_height, f_chosen, a_text, a_tokenKind, a_tokenStart, a_tokenSize, a_code, a_meant, a_meantMark, a_freshKind, a_freshStart, a_freshSize, a_first, a_size, a_endKind, a_sort, a_codeSize, a_isRead, a_block, a_hasValue, a_isKnown, a_value, a_mark, a_around, a_nesting, a_pile, a_chosenStart, a_chosenSize)) :
    ∀ d g, g + d = G → (∀ j, j < g → Q j ≠ 0 → i ≠ nI (yc_it Q j)) → wX_stretchOf_8 post i f_length f_tokens f_fresh (nI G) f_marks f_blocks f_loose f_isStudied f_height f_chosen a_text a_tokenKind a_tokenStart a_tokenSize a_code a_meant a_meantMark a_freshKind a_freshStart a_freshSize a_first a_size a_endKind a_sort a_codeSize a_isRead a_block a_hasValue a_isKnown a_value a_mark a_around a_nesting a_pile a_chosenStart a_chosenSize (d + 1) (nI (yc_it Q g)) (nI g) := by
  intro d
  induction d with
  | zero =>
    intro g hg hno
    obtain rfl : g = G := by omega
    rw [wX_stretchOf_8]
    exact br_t (nI_le (Nat.le_refl _) (by omega)) (h0 hno)
  | succ d ih =>
    intro g hg hno
    rw [wX_stretchOf_8]
    refine br_f (nI_ge (by omega) (by omega)) ⟨pk_in g 82 (by omega), ?_⟩
    rw [nI_clamp (by omega), hso g (by omega)]
    have hsl : qg_sr K F Q a_endKind g ≤ 3 := qd_srt_le
    have e3 : qg_sr K F Q a_endKind g = 3 ↔ Q g = 0 := qd_srt3
    have hile := yc_it_le (Q := Q) g
    refine pk_eq (qg_sr K F Q a_endKind g) 3 (fun e => ?_) (fun e => ?_)
    · have q0 := e3.mp e
      have z := ih (g + 1) (by omega) (fun j hj hq => by
        by_cases y : j = g
        · rw [y] at hq; exact absurd q0 hq
        · exact hno j (by omega) hq)
      rw [yc_it0 q0] at z
      exact nm_r (nI_1 g) z
    · have q0 : Q g ≠ 0 := fun z => e (e3.mpr z)
      refine br_c (fun y => h1 g (by omega) q0 y.symm) (fun y => ?_)
      have z := ih (g + 1) (by omega) (fun j hj hq => by
        by_cases w : j = g
        · rw [w]; exact fun x => y x.symm
        · exact hno j (by omega) hq)
      rw [yc_it1 q0] at z
      exact nm_r (nI_1 _) (nm_r (nI_1 g) z)
theorem zx_stretchOf {post : Int32 → SX → Prop} {i : Int32} (hmk : mk < 900000000) (h2 : qe_XI L n G mk S Z K F Q H a_text a_tokenKind a_tokenStart a_tokenSize a_code a_meantMark a_first a_size a_endKind a_sort a_codeSize a_isRead a_hasValue a_isKnown a_value a_mark) (h3 : f_isStudied = 0 ∨ (f_isStudied = 1 ∧ xm_St G S Z K F Q f_loose a_text a_endKind a_meant a_sort a_block a_isKnown a_value a_around a_nesting))
    (h : ∀ (mk' : Nat) (H' : Int32 → Int32 × Int32) (f_blocks f_loose f_height : Int32) (a_code a_meant a_meantMark a_sort a_codeSize a_isRead a_block a_hasValue a_isKnown a_value a_mark a_around a_nesting a_pile : Nat → Int32), mk' ≤ mk + 81 → qe_XI L n G mk' S Z K F Q H' a_text a_tokenKind a_tokenStart a_tokenSize a_code a_meantMark a_first a_size a_endKind a_sort a_codeSize a_isRead a_hasValue a_isKnown a_value a_mark → xm_St G S Z K F Q f_loose a_text a_endKind a_meant a_sort a_block a_isKnown a_value a_around a_nesting → (∀ g, g < G → Q g ≠ 0 → i = nI (yc_it Q g) → post (nI g) (nI L, nI n, f_fresh, nI G, nI mk', f_blocks, f_loose, 1, f_height, f_chosen, a_text, a_tokenKind, a_tokenStart, a_tokenSize, a_code, a_meant, a_meantMark, a_freshKind, a_freshStart, a_freshSize, a_first, a_size, a_endKind, a_sort, a_codeSize, a_isRead, a_block, a_hasValue, a_isKnown, a_value, a_mark, a_around, a_nesting, a_pile, a_chosenStart, a_chosenSize)) ∧ ((∀ g, g < G → Q g ≠ 0 → i ≠ nI (yc_it Q g)) → post (-1) (nI L, nI n, f_fresh, nI G, nI mk', f_blocks, f_loose, 1, f_height, f_chosen, a_text, a_tokenKind, a_tokenStart, a_tokenSize, a_code, a_meant, a_meantMark, a_freshKind, a_freshStart, a_freshSize, a_first, a_size, a_endKind, a_sort, a_codeSize, a_isRead, a_block, a_hasValue, a_isKnown, a_value, a_mark, a_around, a_nesting, a_pile, a_chosenStart, a_chosenSize))) :
    wpX_stretchOf post (nI L, nI n, f_fresh, nI G, nI mk, f_blocks, f_loose, f_isStudied, f_height, f_chosen, a_text, a_tokenKind, a_tokenStart, a_tokenSize, a_code, a_meant, a_meantMark, a_freshKind, a_freshStart, a_freshSize, a_first, a_size, a_endKind, a_sort, a_codeSize, a_isRead, a_block, a_hasValue, a_isKnown, a_value, a_mark, a_around, a_nesting, a_pile, a_chosenStart, a_chosenSize) i := by
  have hn : n ≤ 80 := Nat.le_trans (qb_nL h2.2.2.1) h2.1
  have hG := qc_G h2.2.2.2.2.1
  unfold wpX_stretchOf
  dsimp only
  refine xm_study hmk h2 h3 (fun mk' H' f_blocks f_loose f_height a_code a_meant a_meantMark a_sort a_codeSize a_isRead a_block a_hasValue a_isKnown a_value a_mark a_around a_nesting a_pile m1 m2 m3 => ⟨G + 1, ?_⟩)
  obtain ⟨z1, z0⟩ := h mk' H' f_blocks f_loose f_height a_code a_meant a_meantMark a_sort a_codeSize a_isRead a_block a_hasValue a_isKnown a_value a_mark a_around a_nesting a_pile m1 m2 m3
  exact zx_so8 (by omega) (fun g hg => (m3.2.2 g hg).1) z1 z0 G 0 (by omega) (fun j hj => by omega)
theorem zx_itemNumber {post : Int32 → Prop} {g : Nat} (hG : G ≤ 81) (hg : g ≤ G) (hso : ∀ g, g < G → a_sort g = nI (qg_sr K F Q a_endKind g)) (h : post (nI (yc_it Q g))) : wpX_itemNumber post (f_length, f_tokens, f_fresh, f_stretches, f_marks, f_blocks, f_loose, f_isStudied, f_height, f_chosen, a_text, a_tokenKind, a_tokenStart, a_tokenSize, a_code, a_meant, a_meantMark, a_freshKind, a_freshStart, a_freshSize, a_first, a_size, a_endKind, a_sort, a_codeSize, a_isRead, a_block, a_hasValue, a_isKnown, a_value, a_mark, a_around, a_nesting, a_pile, a_chosenStart, a_chosenSize) (nI g) := by
  have key : ∀ d j, j + d = g → wX_itemNumber_4 post (nI g) f_length f_tokens f_fresh f_stretches f_marks f_blocks f_loose f_isStudied f_height f_chosen a_text a_tokenKind a_tokenStart a_tokenSize a_code a_meant a_meantMark a_freshKind a_freshStart a_freshSize a_first a_size a_endKind a_sort a_codeSize a_isRead a_block a_hasValue a_isKnown a_value a_mark a_around a_nesting a_pile a_chosenStart a_chosenSize (d + 1) (nI (yc_it Q j)) (nI j) := by
    intro d
    induction d with
    | zero =>
      intro j hj
      obtain rfl : j = g := by omega
      rw [wX_itemNumber_4]
      exact br_t (nI_le (Nat.le_refl _) (by omega)) h
    | succ d ih =>
      intro j hj
      rw [wX_itemNumber_4]
      refine br_f (nI_ge (by omega) (by omega)) ⟨pk_in j 82 (by omega), ?_⟩
      rw [nI_clamp (by omega), hso j (by omega)]
      have hsl : qg_sr K F Q a_endKind j ≤ 3 := qd_srt_le
      have e3 : qg_sr K F Q a_endKind j = 3 ↔ Q j = 0 := qd_srt3
      have z := ih (j + 1) (by omega)
      refine pk_eq (qg_sr K F Q a_endKind j) 3 (fun e => ?_) (fun e => ?_)
      · rw [yc_it0 (e3.mp e)] at z
        exact nm_r (nI_1 j) z
      · rw [yc_it1 (fun w => e (e3.mpr w))] at z
        exact nm_r (nI_1 _) (nm_r (nI_1 j) z)
  exact ⟨g + 1, key g 0 (by omega)⟩
theorem zx_stretchAt {post : Int32 → Prop} {t : Nat} {E : Nat → Int32} (hS : qc_Str n K G F Q E) (hn : n ≤ 80) (ht : t ≤ n) (hr : ∀ g, g < G → a_first g = nI (F g) ∧ a_size g = nI (Q g)) (h : ∀ a, a < G → F a ≤ t → t ≤ F a + Q a → post (nI a)) : wpX_stretchAt post (f_length, f_tokens, f_fresh, f_stretches, f_marks, f_blocks, f_loose, f_isStudied, f_height, f_chosen, a_text, a_tokenKind, a_tokenStart, a_tokenSize, a_code, a_meant, a_meantMark, a_freshKind, a_freshStart, a_freshSize, a_first, a_size, a_endKind, a_sort, a_codeSize, a_isRead, a_block, a_hasValue, a_isKnown, a_value, a_mark, a_around, a_nesting, a_pile, a_chosenStart, a_chosenSize) (nI t) := by
  have hG := qc_G hS
  have key : ∀ d g, g < G → F g ≤ t → G - g ≤ d → wX_stretchAt_4 post (nI t) f_length f_tokens f_fresh f_stretches f_marks f_blocks f_loose f_isStudied f_height f_chosen a_text a_tokenKind a_tokenStart a_tokenSize a_code a_meant a_meantMark a_freshKind a_freshStart a_freshSize a_first a_size a_endKind a_sort a_codeSize a_isRead a_block a_hasValue a_isKnown a_value a_mark a_around a_nesting a_pile a_chosenStart a_chosenSize d (nI g) (nI g) := by
    intro d
    induction d with
    | zero => intro g h1 _ h2; omega
    | succ d ih =>
      intro g hg hF hd
      have hle := qc_le hS hg
      have hre := hr g hg
      have cg : (nI g).toNatClampNeg = g := nI_clamp (by omega)
      have vg : vp_in (nI g) 82 := pk_in g 82 (by omega)
      rw [wX_stretchAt_4]
      refine pk_le 81 g (fun h8 => by omega) (fun h8 => ⟨vg, vg, ?_⟩)
      refine pk_le t (F g + Q g) (fun h2 => h g hg hF h2) (fun h2 => ?_) rfl (by rw [cg, hre.1, hre.2, nI_add])
      have hg1 : g + 1 < G := by
        by_cases z : g + 1 = G
        · have := (hS.2.2.2.1 g z).1; omega
        · omega
      have := (hS.2.2.1 g hg1).1
      exact nm_r (nI_1 g) (nm_r (nI_1 g) (ih (g + 1) hg1 (by omega) (by omega)))
  exact ⟨G, key G 0 hS.1 (by rw [hS.2.1]; omega) (by omega)⟩
/-- a name that counts -/
def zz_C (K F Q : Nat → Nat) (E : Nat → Int32) (g t : Nat) : Prop := t < F g + Q g ∧ (qg_sr K F Q E g = 1 ∨ qg_sr K F Q E g = 2) ∧ qd_fr (qe_kf K (F g) (Q g)) (Q g) ≤ t - F g ∧ qe_kf K (F g) (Q g) (t - F g) = 0
theorem zx_meansNow {post : Int32 → Prop} {g t : Nat} (hS : qc_Str n K G F Q a_endKind) (hn : n ≤ 80) (hK : ∀ t, t < n → a_tokenKind t = nI (K t) ∧ K t ≤ 10) (hr : ∀ g, g < G → a_first g = nI (F g) ∧ a_size g = nI (Q g)) (hso : ∀ g, g < G → a_sort g = nI (qg_sr K F Q a_endKind g)) (hg : g < G) (ht : t < n) (h1 : F g ≤ t) (h2 : t ≤ F g + Q g)
    (hC : zz_C K F Q a_endKind g t → post (a_meant t)) (hN : ¬ zz_C K F Q a_endKind g t → post (-1)) : wpX_meansNow post (f_length, f_tokens, f_fresh, f_stretches, f_marks, f_blocks, f_loose, f_isStudied, f_height, f_chosen, a_text, a_tokenKind, a_tokenStart, a_tokenSize, a_code, a_meant, a_meantMark, a_freshKind, a_freshStart, a_freshSize, a_first, a_size, a_endKind, a_sort, a_codeSize, a_isRead, a_block, a_hasValue, a_isKnown, a_value, a_mark, a_around, a_nesting, a_pile, a_chosenStart, a_chosenSize) (nI g) (nI t) := by
  have hG := qc_G hS
  have vg : vp_in (nI g) 82 := pk_in g 82 (by omega)
  have cg : (nI g).toNatClampNeg = g := nI_clamp (by omega)
  have vt : vp_in (nI t) 81 := pk_in t 81 (by omega)
  have ct : (nI t).toNatClampNeg = t := nI_clamp (by omega)
  have hk := hK t ht
  have hsl : qg_sr K F Q a_endKind g ≤ 3 := qd_srt_le
  unfold wpX_meansNow
  dsimp only
  refine xd_ends (by omega) hk.1 hk.2 (fun k8 => br_t rfl ?_) (fun k8 => br_f (by decide) (br_t rfl (hN (fun z => ?_))))
  · have hlt : t < F g + Q g := by
      by_cases z : t = F g + Q g
      · exfalso
        by_cases y : g + 1 = G
        · have := (hS.2.2.2.1 g y).1; omega
        · have := (hS.2.2.1 g (by omega)).2.2.1; rw [← z] at this; omega
      · omega
    have ekf : qe_kf K (F g) (Q g) (t - F g) = K t := by
      have e : F g + (t - F g) = t := by omega
      show (if t - F g < Q g then K (F g + (t - F g)) else 0) = K t
      rw [if_pos (by omega), e]
    have h40 : (qg_sr K F Q a_endKind g = 1 ∨ qg_sr K F Q a_endKind g = 2) → qd_fr (qe_kf K (F g) (Q g)) (Q g) ≤ t - F g → wX_meansNow_40 post (nI t) f_length f_tokens f_fresh f_stretches f_marks f_blocks f_loose f_isStudied f_height f_chosen a_text a_tokenKind a_tokenStart a_tokenSize a_code a_meant a_meantMark a_freshKind a_freshStart a_freshSize a_first a_size a_endKind a_sort a_codeSize a_isRead a_block a_hasValue a_isKnown a_value a_mark a_around a_nesting a_pile a_chosenStart a_chosenSize := by
      intro hs hf
      refine br_f (by decide) ⟨vt, ?_⟩
      rw [ct, hk.1]
      exact pk_eq (K t) 0 (fun k0 => ⟨vt, hC ⟨hlt, hs, hf, by rw [ekf]; exact k0⟩⟩) (fun k0 => hN (fun z => k0 (by rw [← ekf]; exact z.2.2.2)))
    rw [cg, hso g hg, (hr g hg).1, qa_2]
    refine ⟨vg, pk_eq (qg_sr K F Q a_endKind g) 1 (fun e1 => h40 (Or.inl e1) ?_) (fun e1 => ⟨vg, pk_eq (qg_sr K F Q a_endKind g) 2 (fun e2 => ⟨vg, ?_⟩) (fun e2 => br_t rfl (hN (fun z => z.2.1.elim e1 e2)))⟩)⟩
    · have hne : qd_fr (qe_kf K (F g) (Q g)) (Q g) ≠ 2 := fun z => by
        have := (qd_srt12 (Or.inl e1)).2.2.2.mpr z
        have e1 : qd_srt (qe_kf K (F g) (Q g)) (Q g) (a_endKind g) = 1 := e1
        omega
      have e0 : qd_fr (qe_kf K (F g) (Q g)) (Q g) = 0 := by
        unfold qd_fr at hne ⊢
        split at hne <;> simp_all
      omega
    · have ef : qd_fr (qe_kf K (F g) (Q g)) (Q g) = 2 := (qd_srt12 (Or.inr e2)).2.2.2.mp e2
      refine pk_lt t (F g + 2) (fun z => br_t rfl (hN (fun y => ?_))) (fun z => h40 (Or.inr e2) (by omega))
      have := y.2.2.1; omega
  · have := hS.2.2.2.2 g t hg h1 z.1; omega
end
end
section
/-! the owed rows: questions -/
theorem i_vc_tokens {k : Nat} {u : SX} {v : SY} (I : i_Rel k u v) (hk : k + 5 ≤ 2560) : wpX_tokens (fun r => wpY_tokens (fun r' v' => r' = r ∧ i_Rel (k + 5) u v') v) u := by
  refine zz_el (P := fun u v => wpX_tokens (fun r => wpY_tokens (fun r' v' => r' = r ∧ i_Rel (k + 5) u v') v) u) ?_ I
  intro L n G mk S Z K F Q H f_fresh f_blocks f_loose f_isStudied f_height f_chosen a_text a_tokenKind a_tokenStart a_tokenSize a_code a_meant a_meantMark a_freshKind a_freshStart a_freshSize a_first a_size a_endKind a_sort a_codeSize a_isRead a_block a_hasValue a_isKnown a_value a_mark a_around a_nesting a_pile a_chosenStart a_chosenSize g_tokenCount g_itemCount g_blockCount g_looseCount g_numberCount g_operatorCount b_kinds b_starts b_ends b_owners b_meant b_firsts b_lasts b_sorts b_blocks b_knowns b_values b_around b_depths b_compared b_numbers b_operators h1 h2 h3
  have h2' := h2
  obtain ⟨x1, x2, x3, x4, x5, x6, ⟨x7, x7b, x7c⟩, x8, x9, x10, x11⟩ := h2'
  have hn : n ≤ 80 := Nat.le_trans (qb_nL x3) x1
  have hG := qc_G x5
  unfold wpX_tokens wpY_tokens
  dsimp only
  exact zy_readE h2 (fun nc oc b_kinds b_starts b_ends b_owners b_meant b_firsts b_lasts b_sorts b_blocks b_knowns b_values b_around b_depths b_compared b_numbers b_operators me kn vl hR => ⟨rfl, zz_mk (by omega) h2 h3⟩)

theorem i_vc_kind {k : Nat} {u : SX} {v : SY} (I : i_Rel k u v) (hk : k + 5 ≤ 2560) (v1 : Int32) : wpX_kind (fun r => wpY_kind (fun r' v' => r' = r ∧ i_Rel (k + 5) u v') v v1) u v1 := by
  refine zz_el (P := fun u v => wpX_kind (fun r => wpY_kind (fun r' v' => r' = r ∧ i_Rel (k + 5) u v') v v1) u v1) ?_ I
  intro L n G mk S Z K F Q H f_fresh f_blocks f_loose f_isStudied f_height f_chosen a_text a_tokenKind a_tokenStart a_tokenSize a_code a_meant a_meantMark a_freshKind a_freshStart a_freshSize a_first a_size a_endKind a_sort a_codeSize a_isRead a_block a_hasValue a_isKnown a_value a_mark a_around a_nesting a_pile a_chosenStart a_chosenSize g_tokenCount g_itemCount g_blockCount g_looseCount g_numberCount g_operatorCount b_kinds b_starts b_ends b_owners b_meant b_firsts b_lasts b_sorts b_blocks b_knowns b_values b_around b_depths b_compared b_numbers b_operators h1 h2 h3
  have h2' := h2
  obtain ⟨x1, x2, x3, x4, x5, x6, ⟨x7, x7b, x7c⟩, x8, x9, x10, x11⟩ := h2'
  have hn : n ≤ 80 := Nat.le_trans (qb_nL x3) x1
  have hG := qc_G x5
  unfold wpY_kind wpY_isToken
  dsimp only
  by_cases p0 : v1 < 0
  · exact br_t p0 (br_f (by decide) (zy_readE h2 (fun nc oc b_kinds b_starts b_ends b_owners b_meant b_firsts b_lasts b_sorts b_blocks b_knowns b_values b_around b_depths b_compared b_numbers b_operators me kn vl hR => br_t p0 (br_t rfl ⟨rfl, zz_mk (by omega) h2 h3⟩))))
  · obtain ⟨t, ht, rfl⟩ := nI_of p0
    by_cases c : t < n
    · refine br_f p0 (br_t (nI_lt c (by omega)) (br_t rfl ⟨pk_in t 81 (by omega), zy_readE h2 (fun nc oc b_kinds b_starts b_ends b_owners b_meant b_firsts b_lasts b_sorts b_blocks b_knowns b_values b_around b_depths b_compared b_numbers b_operators me kn vl hR => br_f p0 (br_f (nI_ge c (by omega)) (br_f (by decide) ⟨pk_in t 80 (by omega), ?_, zz_mk (by omega) h2 h3⟩)))⟩))
      dsimp only
      rw [nI_clamp (by omega), (hR.1 t c).1, (x4 t c).1]
    · exact br_f p0 (br_f (nI_nlt (by omega) (by omega)) (br_f (by decide) (zy_readE h2 (fun nc oc b_kinds b_starts b_ends b_owners b_meant b_firsts b_lasts b_sorts b_blocks b_knowns b_values b_around b_depths b_compared b_numbers b_operators me kn vl hR => br_f p0 (br_t (nI_le (by omega) (by omega)) (br_t rfl ⟨rfl, zz_mk (by omega) h2 h3⟩))))))

theorem i_vc_start {k : Nat} {u : SX} {v : SY} (I : i_Rel k u v) (hk : k + 5 ≤ 2560) (v1 : Int32) : wpX_start (fun r => wpY_start (fun r' v' => r' = r ∧ i_Rel (k + 5) u v') v v1) u v1 := by
  refine zz_el (P := fun u v => wpX_start (fun r => wpY_start (fun r' v' => r' = r ∧ i_Rel (k + 5) u v') v v1) u v1) ?_ I
  intro L n G mk S Z K F Q H f_fresh f_blocks f_loose f_isStudied f_height f_chosen a_text a_tokenKind a_tokenStart a_tokenSize a_code a_meant a_meantMark a_freshKind a_freshStart a_freshSize a_first a_size a_endKind a_sort a_codeSize a_isRead a_block a_hasValue a_isKnown a_value a_mark a_around a_nesting a_pile a_chosenStart a_chosenSize g_tokenCount g_itemCount g_blockCount g_looseCount g_numberCount g_operatorCount b_kinds b_starts b_ends b_owners b_meant b_firsts b_lasts b_sorts b_blocks b_knowns b_values b_around b_depths b_compared b_numbers b_operators h1 h2 h3
  have h2' := h2
  obtain ⟨x1, x2, x3, x4, x5, x6, ⟨x7, x7b, x7c⟩, x8, x9, x10, x11⟩ := h2'
  have hn : n ≤ 80 := Nat.le_trans (qb_nL x3) x1
  have hG := qc_G x5
  unfold wpY_start wpY_isToken
  dsimp only
  by_cases p0 : v1 < 0
  · exact br_t p0 (br_f (by decide) (zy_readE h2 (fun nc oc b_kinds b_starts b_ends b_owners b_meant b_firsts b_lasts b_sorts b_blocks b_knowns b_values b_around b_depths b_compared b_numbers b_operators me kn vl hR => br_t p0 (br_t rfl ⟨rfl, zz_mk (by omega) h2 h3⟩))))
  · obtain ⟨t, ht, rfl⟩ := nI_of p0
    by_cases c : t < n
    · refine br_f p0 (br_t (nI_lt c (by omega)) (br_t rfl ⟨pk_in t 81 (by omega), zy_readE h2 (fun nc oc b_kinds b_starts b_ends b_owners b_meant b_firsts b_lasts b_sorts b_blocks b_knowns b_values b_around b_depths b_compared b_numbers b_operators me kn vl hR => br_f p0 (br_f (nI_ge c (by omega)) (br_f (by decide) ⟨pk_in t 80 (by omega), ?_, zz_mk (by omega) h2 h3⟩)))⟩))
      dsimp only
      rw [nI_clamp (by omega), (hR.1 t c).2.1, (x4 t c).2.1]
    · exact br_f p0 (br_f (nI_nlt (by omega) (by omega)) (br_f (by decide) (zy_readE h2 (fun nc oc b_kinds b_starts b_ends b_owners b_meant b_firsts b_lasts b_sorts b_blocks b_knowns b_values b_around b_depths b_compared b_numbers b_operators me kn vl hR => br_f p0 (br_t (nI_le (by omega) (by omega)) (br_t rfl ⟨rfl, zz_mk (by omega) h2 h3⟩))))))

theorem zz_tokenAt {n : Nat} {S Z : Nat → Nat} {x : Int32} (hn : n ≤ 80) :
    ∀ d t, t + d = n → ∃ r : Int32, (∀ {f_length f_fresh f_stretches f_marks f_blocks f_loose f_isStudied f_height f_chosen : Int32} {a_text a_tokenKind a_tokenStart a_tokenSize a_code a_meant a_meantMark a_freshKind a_freshStart a_freshSize a_first a_size a_endKind a_sort a_codeSize a_isRead a_block a_hasValue a_isKnown a_value a_mark a_around a_nesting a_pile a_chosenStart a_chosenSize : Nat → Int32} (_ : ∀ j, j < n → a_tokenStart j = nI (S j) ∧ a_tokenSize j = nI (Z j)) (post : Int32 → Prop), post r → wX_tokenAt_2 post x f_length (nI n) f_fresh f_stretches f_marks f_blocks f_loose f_isStudied f_height f_chosen a_text a_tokenKind a_tokenStart a_tokenSize a_code a_meant a_meantMark a_freshKind a_freshStart a_freshSize a_first a_size a_endKind a_sort a_codeSize a_isRead a_block a_hasValue a_isKnown a_value a_mark a_around a_nesting a_pile a_chosenStart a_chosenSize (d + 1) (nI t)) ∧ (∀ {g_length g_itemCount g_blockCount g_looseCount g_numberCount g_operatorCount : Int32} {b_text b_kinds b_starts b_ends b_owners b_meant b_firsts b_lasts b_sorts b_blocks b_knowns b_values b_around b_depths b_compared b_numbers b_operators : Nat → Int32} (_ : ∀ j, j < n → b_starts j = nI (S j) ∧ b_ends j = nI (S j + Z j)) (post : Int32 → SY → Prop), post r (g_length, nI n, g_itemCount, g_blockCount, g_looseCount, g_numberCount, g_operatorCount, b_text, b_kinds, b_starts, b_ends, b_owners, b_meant, b_firsts, b_lasts, b_sorts, b_blocks, b_knowns, b_values, b_around, b_depths, b_compared, b_numbers, b_operators) → wY_tokenAt_6 post x g_length (nI n) g_itemCount g_blockCount g_looseCount g_numberCount g_operatorCount b_text b_kinds b_starts b_ends b_owners b_meant b_firsts b_lasts b_sorts b_blocks b_knowns b_values b_around b_depths b_compared b_numbers b_operators (d + 1) (nI t)) := by
  intro d
  induction d with
  | zero =>
    intro t ht
    obtain rfl : t = n := by omega
    refine ⟨-3, ?_, ?_⟩
    · intro f_length f_fresh f_stretches f_marks f_blocks f_loose f_isStudied f_height f_chosen a_text a_tokenKind a_tokenStart a_tokenSize a_code a_meant a_meantMark a_freshKind a_freshStart a_freshSize a_first a_size a_endKind a_sort a_codeSize a_isRead a_block a_hasValue a_isKnown a_value a_mark a_around a_nesting a_pile a_chosenStart a_chosenSize hX post hp
      rw [wX_tokenAt_2]; exact br_t (nI_le (Nat.le_refl _) (by omega)) hp
    · intro g_length g_itemCount g_blockCount g_looseCount g_numberCount g_operatorCount b_text b_kinds b_starts b_ends b_owners b_meant b_firsts b_lasts b_sorts b_blocks b_knowns b_values b_around b_depths b_compared b_numbers b_operators hY post hp
      rw [wY_tokenAt_6]; exact br_t (nI_le (Nat.le_refl _) (by omega)) hp
  | succ d ih =>
    intro t ht
    obtain ⟨r, ihX, ihY⟩ := ih (t + 1) (by omega)
    have ct : (nI t).toNatClampNeg = t := nI_clamp (by omega)
    have vx : vp_in (nI t) 81 := pk_in t 81 (by omega)
    have vy : vp_in (nI t) 80 := pk_in t 80 (by omega)
    by_cases c1 : x < nI (S t)
    · refine ⟨r, ?_, ?_⟩
      · intro f_length f_fresh f_stretches f_marks f_blocks f_loose f_isStudied f_height f_chosen a_text a_tokenKind a_tokenStart a_tokenSize a_code a_meant a_meantMark a_freshKind a_freshStart a_freshSize a_first a_size a_endKind a_sort a_codeSize a_isRead a_block a_hasValue a_isKnown a_value a_mark a_around a_nesting a_pile a_chosenStart a_chosenSize hX post hp
        rw [wX_tokenAt_2]
        refine br_f (nI_ge (by omega) (by omega)) ⟨vx, ?_⟩
        rw [ct, (hX t (by omega)).1]
        exact br_t c1 (nm_r (nI_1 t) (ihX hX post hp))
      · intro g_length g_itemCount g_blockCount g_looseCount g_numberCount g_operatorCount b_text b_kinds b_starts b_ends b_owners b_meant b_firsts b_lasts b_sorts b_blocks b_knowns b_values b_around b_depths b_compared b_numbers b_operators hY post hp
        rw [wY_tokenAt_6]
        refine br_f (nI_ge (by omega) (by omega)) ⟨vy, ?_⟩
        rw [ct, (hY t (by omega)).1]
        exact br_t c1 (nm_r (nI_1 t) (ihY hY post hp))
    · by_cases c2 : nI (S t + Z t) ≤ x
      · refine ⟨r, ?_, ?_⟩
        · intro f_length f_fresh f_stretches f_marks f_blocks f_loose f_isStudied f_height f_chosen a_text a_tokenKind a_tokenStart a_tokenSize a_code a_meant a_meantMark a_freshKind a_freshStart a_freshSize a_first a_size a_endKind a_sort a_codeSize a_isRead a_block a_hasValue a_isKnown a_value a_mark a_around a_nesting a_pile a_chosenStart a_chosenSize hX post hp
          rw [wX_tokenAt_2]
          refine br_f (nI_ge (by omega) (by omega)) ⟨vx, ?_⟩
          rw [ct, (hX t (by omega)).1, (hX t (by omega)).2, nI_add]
          exact br_f c1 ⟨vx, vx, br_t c2 (nm_r (nI_1 t) (ihX hX post hp))⟩
        · intro g_length g_itemCount g_blockCount g_looseCount g_numberCount g_operatorCount b_text b_kinds b_starts b_ends b_owners b_meant b_firsts b_lasts b_sorts b_blocks b_knowns b_values b_around b_depths b_compared b_numbers b_operators hY post hp
          rw [wY_tokenAt_6]
          refine br_f (nI_ge (by omega) (by omega)) ⟨vy, ?_⟩
          rw [ct, (hY t (by omega)).1, (hY t (by omega)).2]
          exact br_f c1 ⟨vy, br_t c2 (nm_r (nI_1 t) (ihY hY post hp))⟩
      · refine ⟨nI t, ?_, ?_⟩
        · intro f_length f_fresh f_stretches f_marks f_blocks f_loose f_isStudied f_height f_chosen a_text a_tokenKind a_tokenStart a_tokenSize a_code a_meant a_meantMark a_freshKind a_freshStart a_freshSize a_first a_size a_endKind a_sort a_codeSize a_isRead a_block a_hasValue a_isKnown a_value a_mark a_around a_nesting a_pile a_chosenStart a_chosenSize hX post hp
          rw [wX_tokenAt_2]
          refine br_f (nI_ge (by omega) (by omega)) ⟨vx, ?_⟩
          rw [ct, (hX t (by omega)).1, (hX t (by omega)).2, nI_add]
          exact br_f c1 ⟨vx, vx, br_f c2 hp⟩
        · intro g_length g_itemCount g_blockCount g_looseCount g_numberCount g_operatorCount b_text b_kinds b_starts b_ends b_owners b_meant b_firsts b_lasts b_sorts b_blocks b_knowns b_values b_around b_depths b_compared b_numbers b_operators hY post hp
          rw [wY_tokenAt_6]
          refine br_f (nI_ge (by omega) (by omega)) ⟨vy, ?_⟩
          rw [ct, (hY t (by omega)).1, (hY t (by omega)).2]
          exact br_f c1 ⟨vy, br_f c2 hp⟩

theorem i_vc_tokenAt {k : Nat} {u : SX} {v : SY} (I : i_Rel k u v) (hk : k + 5 ≤ 2560) (v1 : Int32) : wpX_tokenAt (fun r => wpY_tokenAt (fun r' v' => r' = r ∧ i_Rel (k + 5) u v') v v1) u v1 := by
  refine zz_el (P := fun u v => wpX_tokenAt (fun r => wpY_tokenAt (fun r' v' => r' = r ∧ i_Rel (k + 5) u v') v v1) u v1) ?_ I
  intro L n G mk S Z K F Q H f_fresh f_blocks f_loose f_isStudied f_height f_chosen a_text a_tokenKind a_tokenStart a_tokenSize a_code a_meant a_meantMark a_freshKind a_freshStart a_freshSize a_first a_size a_endKind a_sort a_codeSize a_isRead a_block a_hasValue a_isKnown a_value a_mark a_around a_nesting a_pile a_chosenStart a_chosenSize g_tokenCount g_itemCount g_blockCount g_looseCount g_numberCount g_operatorCount b_kinds b_starts b_ends b_owners b_meant b_firsts b_lasts b_sorts b_blocks b_knowns b_values b_around b_depths b_compared b_numbers b_operators h1 h2 h3
  have h2' := h2
  obtain ⟨x1, x2, x3, x4, x5, x6, ⟨x7, x7b, x7c⟩, x8, x9, x10, x11⟩ := h2'
  have hn : n ≤ 80 := Nat.le_trans (qb_nL x3) x1
  have hG := qc_G x5
  unfold wpY_tokenAt
  dsimp only
  obtain ⟨r, hX, hY⟩ := zz_tokenAt (x := v1) (S := S) (Z := Z) hn n 0 (by omega)
  refine ⟨n + 1, hX (fun j hj => ⟨(x4 j hj).2.1, (x4 j hj).2.2⟩) _ (zy_readE h2 (fun nc oc b_kinds b_starts b_ends b_owners b_meant b_firsts b_lasts b_sorts b_blocks b_knowns b_values b_around b_depths b_compared b_numbers b_operators me kn vl hR => ⟨n + 1, ?_⟩))⟩
  exact hY (fun j hj => (hR.1 j hj).2) _ ⟨rfl, zz_mk (by omega) h2 h3⟩

theorem i_vc_items {k : Nat} {u : SX} {v : SY} (I : i_Rel k u v) (hk : k + 5 ≤ 2560) : wpX_items (fun r u' => wpY_items (fun r' v' => r' = r ∧ i_Rel (k + 5) u' v') v) u := by
  refine zz_el (P := fun u v => wpX_items (fun r u' => wpY_items (fun r' v' => r' = r ∧ i_Rel (k + 5) u' v') v) u) ?_ I
  intro L n G mk S Z K F Q H f_fresh f_blocks f_loose f_isStudied f_height f_chosen a_text a_tokenKind a_tokenStart a_tokenSize a_code a_meant a_meantMark a_freshKind a_freshStart a_freshSize a_first a_size a_endKind a_sort a_codeSize a_isRead a_block a_hasValue a_isKnown a_value a_mark a_around a_nesting a_pile a_chosenStart a_chosenSize g_tokenCount g_itemCount g_blockCount g_looseCount g_numberCount g_operatorCount b_kinds b_starts b_ends b_owners b_meant b_firsts b_lasts b_sorts b_blocks b_knowns b_values b_around b_depths b_compared b_numbers b_operators h1 h2 h3
  have h2' := h2
  obtain ⟨x1, x2, x3, x4, x5, x6, ⟨x7, x7b, x7c⟩, x8, x9, x10, x11⟩ := h2'
  have hn : n ≤ 80 := Nat.le_trans (qb_nL x3) x1
  have hG := qc_G x5
  unfold wpX_items
  dsimp only
  refine xm_study (by omega) h2 h3 (fun mk' H' f_blocks f_loose f_height a_code a_meant a_meantMark a_sort a_codeSize a_isRead a_block a_hasValue a_isKnown a_value a_mark a_around a_nesting a_pile m1 m2 m3 => ?_)
  refine zx_itemNumber (by omega) (Nat.le_refl G) (fun g hg => (m3.2.2 g hg).1) ?_
  unfold wpY_items
  dsimp only
  exact zy_readS m2 m3 (fun nc oc b_kinds b_starts b_ends b_owners b_meant b_firsts b_lasts b_sorts b_blocks b_knowns b_values b_around b_depths b_compared b_numbers b_operators hR => ⟨rfl, zz_mk (by omega) m2 (Or.inr ⟨rfl, m3⟩)⟩)

theorem i_vc_loose {k : Nat} {u : SX} {v : SY} (I : i_Rel k u v) (hk : k + 5 ≤ 2560) : wpX_loose (fun r u' => wpY_loose (fun r' v' => r' = r ∧ i_Rel (k + 5) u' v') v) u := by
  refine zz_el (P := fun u v => wpX_loose (fun r u' => wpY_loose (fun r' v' => r' = r ∧ i_Rel (k + 5) u' v') v) u) ?_ I
  intro L n G mk S Z K F Q H f_fresh f_blocks f_loose f_isStudied f_height f_chosen a_text a_tokenKind a_tokenStart a_tokenSize a_code a_meant a_meantMark a_freshKind a_freshStart a_freshSize a_first a_size a_endKind a_sort a_codeSize a_isRead a_block a_hasValue a_isKnown a_value a_mark a_around a_nesting a_pile a_chosenStart a_chosenSize g_tokenCount g_itemCount g_blockCount g_looseCount g_numberCount g_operatorCount b_kinds b_starts b_ends b_owners b_meant b_firsts b_lasts b_sorts b_blocks b_knowns b_values b_around b_depths b_compared b_numbers b_operators h1 h2 h3
  have h2' := h2
  obtain ⟨x1, x2, x3, x4, x5, x6, ⟨x7, x7b, x7c⟩, x8, x9, x10, x11⟩ := h2'
  have hn : n ≤ 80 := Nat.le_trans (qb_nL x3) x1
  have hG := qc_G x5
  unfold wpX_loose
  dsimp only
  refine xm_study (by omega) h2 h3 (fun mk' H' f_blocks f_loose f_height a_code a_meant a_meantMark a_sort a_codeSize a_isRead a_block a_hasValue a_isKnown a_value a_mark a_around a_nesting a_pile m1 m2 m3 => ?_)
  unfold wpY_loose
  dsimp only
  exact zy_readS m2 m3 (fun nc oc b_kinds b_starts b_ends b_owners b_meant b_firsts b_lasts b_sorts b_blocks b_knowns b_values b_around b_depths b_compared b_numbers b_operators hR => ⟨m3.2.1.symm, zz_mk (by omega) m2 (Or.inr ⟨rfl, m3⟩)⟩)

theorem i_vc_sort {k : Nat} {u : SX} {v : SY} (I : i_Rel k u v) (hk : k + 5 ≤ 2560) (v1 : Int32) : wpX_sort (fun r u' => wpY_sort (fun r' v' => r' = r ∧ i_Rel (k + 5) u' v') v v1) u v1 := by
  refine zz_el (P := fun u v => wpX_sort (fun r u' => wpY_sort (fun r' v' => r' = r ∧ i_Rel (k + 5) u' v') v v1) u v1) ?_ I
  intro L n G mk S Z K F Q H f_fresh f_blocks f_loose f_isStudied f_height f_chosen a_text a_tokenKind a_tokenStart a_tokenSize a_code a_meant a_meantMark a_freshKind a_freshStart a_freshSize a_first a_size a_endKind a_sort a_codeSize a_isRead a_block a_hasValue a_isKnown a_value a_mark a_around a_nesting a_pile a_chosenStart a_chosenSize g_tokenCount g_itemCount g_blockCount g_looseCount g_numberCount g_operatorCount b_kinds b_starts b_ends b_owners b_meant b_firsts b_lasts b_sorts b_blocks b_knowns b_values b_around b_depths b_compared b_numbers b_operators h1 h2 h3
  have h2' := h2
  obtain ⟨x1, x2, x3, x4, x5, x6, ⟨x7, x7b, x7c⟩, x8, x9, x10, x11⟩ := h2'
  have hn : n ≤ 80 := Nat.le_trans (qb_nL x3) x1
  have hG := qc_G x5
  unfold wpX_sort
  dsimp only
  refine zx_stretchOf (by omega) h2 h3 (fun mk' H' f_blocks f_loose f_height a_code a_meant a_meantMark a_sort a_codeSize a_isRead a_block a_hasValue a_isKnown a_value a_mark a_around a_nesting a_pile m1 m2 m3 => ⟨fun g hg hq hi => ?_, fun hno => ?_⟩)
  · obtain ⟨x1, x2, x3, x4, x5, x6, ⟨x7, x7b, x7c⟩, x8, x9, x10, x11⟩ := m2
    have m2 : qe_XI L n G mk' S Z K F Q H' a_text a_tokenKind a_tokenStart a_tokenSize a_code a_meantMark a_first a_size a_endKind a_sort a_codeSize a_isRead a_hasValue a_isKnown a_value a_mark := ⟨x1, x2, x3, x4, x5, x6, ⟨x7, x7b, x7c⟩, x8, x9, x10, x11⟩
    have cg : (nI g).toNatClampNeg = g := nI_clamp (by omega)
    have vg : vp_in (nI g) 82 := pk_in g 82 (by omega)
    have hlt := yc_it_lt hg hq
    have hle := yc_it_le (Q := Q) g
    have hgF := qc_gF x5 g hg
    have hFQ := qc_le x5 hg
    have ci : (nI (yc_it Q g)).toNatClampNeg = yc_it Q g := nI_clamp (by omega)
    have vi : vp_in (nI (yc_it Q g)) 80 := pk_in (yc_it Q g) 80 (by omega)
    obtain ⟨d1, d2, d3⟩ := m3.2.2 g hg
    refine br_f (qa_ne1 (by omega)) ⟨vg, ?_⟩
    rw [cg]
    unfold wpY_sort
    dsimp only
    subst hi
    refine zy_item1 m2 m3 hg hq rfl (fun nc oc b_kinds b_starts b_ends b_owners b_meant b_firsts b_lasts b_sorts b_blocks b_knowns b_values b_around b_depths b_compared b_numbers b_operators hR => br_f (by decide) ⟨vi, ?_, zz_mk (by omega) m2 (Or.inr ⟨rfl, m3⟩)⟩)
    dsimp only
    rw [ci, (hR.2.1.1 g hg hq).2.2.1, d1]
  · refine br_t rfl ?_
    unfold wpY_sort
    dsimp only
    exact zy_item0 m2 m3 hno (fun nc oc b_kinds b_starts b_ends b_owners b_meant b_firsts b_lasts b_sorts b_blocks b_knowns b_values b_around b_depths b_compared b_numbers b_operators hR => br_t rfl ⟨rfl, zz_mk (by omega) m2 (Or.inr ⟨rfl, m3⟩)⟩)

theorem i_vc_known {k : Nat} {u : SX} {v : SY} (I : i_Rel k u v) (hk : k + 5 ≤ 2560) (v1 : Int32) : wpX_known (fun r u' => wpY_known (fun r' v' => r' = r ∧ i_Rel (k + 5) u' v') v v1) u v1 := by
  refine zz_el (P := fun u v => wpX_known (fun r u' => wpY_known (fun r' v' => r' = r ∧ i_Rel (k + 5) u' v') v v1) u v1) ?_ I
  intro L n G mk S Z K F Q H f_fresh f_blocks f_loose f_isStudied f_height f_chosen a_text a_tokenKind a_tokenStart a_tokenSize a_code a_meant a_meantMark a_freshKind a_freshStart a_freshSize a_first a_size a_endKind a_sort a_codeSize a_isRead a_block a_hasValue a_isKnown a_value a_mark a_around a_nesting a_pile a_chosenStart a_chosenSize g_tokenCount g_itemCount g_blockCount g_looseCount g_numberCount g_operatorCount b_kinds b_starts b_ends b_owners b_meant b_firsts b_lasts b_sorts b_blocks b_knowns b_values b_around b_depths b_compared b_numbers b_operators h1 h2 h3
  have h2' := h2
  obtain ⟨x1, x2, x3, x4, x5, x6, ⟨x7, x7b, x7c⟩, x8, x9, x10, x11⟩ := h2'
  have hn : n ≤ 80 := Nat.le_trans (qb_nL x3) x1
  have hG := qc_G x5
  unfold wpX_known
  dsimp only
  refine zx_stretchOf (by omega) h2 h3 (fun mk' H' f_blocks f_loose f_height a_code a_meant a_meantMark a_sort a_codeSize a_isRead a_block a_hasValue a_isKnown a_value a_mark a_around a_nesting a_pile m1 m2 m3 => ⟨fun g hg hq hi => ?_, fun hno => ?_⟩)
  · obtain ⟨x1, x2, x3, x4, x5, x6, ⟨x7, x7b, x7c⟩, x8, x9, x10, x11⟩ := m2
    have m2 : qe_XI L n G mk' S Z K F Q H' a_text a_tokenKind a_tokenStart a_tokenSize a_code a_meantMark a_first a_size a_endKind a_sort a_codeSize a_isRead a_hasValue a_isKnown a_value a_mark := ⟨x1, x2, x3, x4, x5, x6, ⟨x7, x7b, x7c⟩, x8, x9, x10, x11⟩
    have cg : (nI g).toNatClampNeg = g := nI_clamp (by omega)
    have vg : vp_in (nI g) 82 := pk_in g 82 (by omega)
    have hlt := yc_it_lt hg hq
    have hle := yc_it_le (Q := Q) g
    have hgF := qc_gF x5 g hg
    have hFQ := qc_le x5 hg
    have ci : (nI (yc_it Q g)).toNatClampNeg = yc_it Q g := nI_clamp (by omega)
    have vi : vp_in (nI (yc_it Q g)) 80 := pk_in (yc_it Q g) 80 (by omega)
    obtain ⟨d1, d2, d3⟩ := m3.2.2 g hg
    refine br_f (qa_ne1 (by omega)) ⟨vg, ?_⟩
    rw [cg]
    unfold wpY_known
    dsimp only
    subst hi
    by_cases z : a_isKnown g = 0
    · refine br_t z (zy_item1 m2 m3 hg hq rfl (fun nc oc b_kinds b_starts b_ends b_owners b_meant b_firsts b_lasts b_sorts b_blocks b_knowns b_values b_around b_depths b_compared b_numbers b_operators hR => br_f (by decide) ⟨vi, br_t ?_ ⟨rfl, zz_mk (by omega) m2 (Or.inr ⟨rfl, m3⟩)⟩⟩))
      dsimp only
      rw [ci, (hR.2.2.1 g hg hq).1]; exact z
    · refine br_f z (zy_item1 m2 m3 hg hq rfl (fun nc oc b_kinds b_starts b_ends b_owners b_meant b_firsts b_lasts b_sorts b_blocks b_knowns b_values b_around b_depths b_compared b_numbers b_operators hR => br_f (by decide) ⟨vi, br_f ?_ ⟨rfl, zz_mk (by omega) m2 (Or.inr ⟨rfl, m3⟩)⟩⟩))
      dsimp only
      rw [ci, (hR.2.2.1 g hg hq).1]; exact z
  · refine br_t rfl ?_
    unfold wpY_known
    dsimp only
    exact zy_item0 m2 m3 hno (fun nc oc b_kinds b_starts b_ends b_owners b_meant b_firsts b_lasts b_sorts b_blocks b_knowns b_values b_around b_depths b_compared b_numbers b_operators hR => br_t rfl ⟨rfl, zz_mk (by omega) m2 (Or.inr ⟨rfl, m3⟩)⟩)

theorem i_vc_value {k : Nat} {u : SX} {v : SY} (I : i_Rel k u v) (hk : k + 5 ≤ 2560) (v1 : Int32) : wpX_value (fun r u' => wpY_value (fun r' v' => r' = r ∧ i_Rel (k + 5) u' v') v v1) u v1 := by
  refine zz_el (P := fun u v => wpX_value (fun r u' => wpY_value (fun r' v' => r' = r ∧ i_Rel (k + 5) u' v') v v1) u v1) ?_ I
  intro L n G mk S Z K F Q H f_fresh f_blocks f_loose f_isStudied f_height f_chosen a_text a_tokenKind a_tokenStart a_tokenSize a_code a_meant a_meantMark a_freshKind a_freshStart a_freshSize a_first a_size a_endKind a_sort a_codeSize a_isRead a_block a_hasValue a_isKnown a_value a_mark a_around a_nesting a_pile a_chosenStart a_chosenSize g_tokenCount g_itemCount g_blockCount g_looseCount g_numberCount g_operatorCount b_kinds b_starts b_ends b_owners b_meant b_firsts b_lasts b_sorts b_blocks b_knowns b_values b_around b_depths b_compared b_numbers b_operators h1 h2 h3
  have h2' := h2
  obtain ⟨x1, x2, x3, x4, x5, x6, ⟨x7, x7b, x7c⟩, x8, x9, x10, x11⟩ := h2'
  have hn : n ≤ 80 := Nat.le_trans (qb_nL x3) x1
  have hG := qc_G x5
  unfold wpX_value
  dsimp only
  refine zx_stretchOf (by omega) h2 h3 (fun mk' H' f_blocks f_loose f_height a_code a_meant a_meantMark a_sort a_codeSize a_isRead a_block a_hasValue a_isKnown a_value a_mark a_around a_nesting a_pile m1 m2 m3 => ⟨fun g hg hq hi => ?_, fun hno => ?_⟩)
  · obtain ⟨x1, x2, x3, x4, x5, x6, ⟨x7, x7b, x7c⟩, x8, x9, x10, x11⟩ := m2
    have m2 : qe_XI L n G mk' S Z K F Q H' a_text a_tokenKind a_tokenStart a_tokenSize a_code a_meantMark a_first a_size a_endKind a_sort a_codeSize a_isRead a_hasValue a_isKnown a_value a_mark := ⟨x1, x2, x3, x4, x5, x6, ⟨x7, x7b, x7c⟩, x8, x9, x10, x11⟩
    have cg : (nI g).toNatClampNeg = g := nI_clamp (by omega)
    have vg : vp_in (nI g) 82 := pk_in g 82 (by omega)
    have hlt := yc_it_lt hg hq
    have hle := yc_it_le (Q := Q) g
    have hgF := qc_gF x5 g hg
    have hFQ := qc_le x5 hg
    have ci : (nI (yc_it Q g)).toNatClampNeg = yc_it Q g := nI_clamp (by omega)
    have vi : vp_in (nI (yc_it Q g)) 80 := pk_in (yc_it Q g) 80 (by omega)
    obtain ⟨d1, d2, d3⟩ := m3.2.2 g hg
    refine br_f (qa_ne1 (by omega)) ⟨vg, ?_⟩
    rw [cg]
    unfold wpY_value
    dsimp only
    subst hi
    by_cases z : a_isKnown g = 0
    · refine br_t z (zy_item1 m2 m3 hg hq rfl (fun nc oc b_kinds b_starts b_ends b_owners b_meant b_firsts b_lasts b_sorts b_blocks b_knowns b_values b_around b_depths b_compared b_numbers b_operators hR => br_f (by decide) ⟨vi, ?_, zz_mk (by omega) m2 (Or.inr ⟨rfl, m3⟩)⟩))
      dsimp only
      rw [ci, (hR.2.2.1 g hg hq).2]
      by_cases hs : qg_sr K F Q a_endKind g = 1 ∨ qg_sr K F Q a_endKind g = 2
      · have e := (d2 hs).2
        have e1 := congrArg Prod.fst e
        have e2 := congrArg Prod.snd e
        dsimp only at e1 e2
        rw [z] at e1
        rw [e2]
        unfold qd_evs at e1 ⊢
        dsimp only at e1 ⊢
        rw [if_pos e1.symm]
      · exact (d3 hs).2
    · refine br_f z ⟨vg, zy_item1 m2 m3 hg hq rfl (fun nc oc b_kinds b_starts b_ends b_owners b_meant b_firsts b_lasts b_sorts b_blocks b_knowns b_values b_around b_depths b_compared b_numbers b_operators hR => br_f (by decide) ⟨vi, ?_, zz_mk (by omega) m2 (Or.inr ⟨rfl, m3⟩)⟩)⟩
      dsimp only
      rw [ci, (hR.2.2.1 g hg hq).2]
  · refine br_t rfl ?_
    unfold wpY_value
    dsimp only
    exact zy_item0 m2 m3 hno (fun nc oc b_kinds b_starts b_ends b_owners b_meant b_firsts b_lasts b_sorts b_blocks b_knowns b_values b_around b_depths b_compared b_numbers b_operators hR => br_t rfl ⟨rfl, zz_mk (by omega) m2 (Or.inr ⟨rfl, m3⟩)⟩)

theorem i_vc_depth {k : Nat} {u : SX} {v : SY} (I : i_Rel k u v) (hk : k + 5 ≤ 2560) (v1 : Int32) : wpX_depth (fun r u' => wpY_depth (fun r' v' => r' = r ∧ i_Rel (k + 5) u' v') v v1) u v1 := by
  refine zz_el (P := fun u v => wpX_depth (fun r u' => wpY_depth (fun r' v' => r' = r ∧ i_Rel (k + 5) u' v') v v1) u v1) ?_ I
  intro L n G mk S Z K F Q H f_fresh f_blocks f_loose f_isStudied f_height f_chosen a_text a_tokenKind a_tokenStart a_tokenSize a_code a_meant a_meantMark a_freshKind a_freshStart a_freshSize a_first a_size a_endKind a_sort a_codeSize a_isRead a_block a_hasValue a_isKnown a_value a_mark a_around a_nesting a_pile a_chosenStart a_chosenSize g_tokenCount g_itemCount g_blockCount g_looseCount g_numberCount g_operatorCount b_kinds b_starts b_ends b_owners b_meant b_firsts b_lasts b_sorts b_blocks b_knowns b_values b_around b_depths b_compared b_numbers b_operators h1 h2 h3
  have h2' := h2
  obtain ⟨x1, x2, x3, x4, x5, x6, ⟨x7, x7b, x7c⟩, x8, x9, x10, x11⟩ := h2'
  have hn : n ≤ 80 := Nat.le_trans (qb_nL x3) x1
  have hG := qc_G x5
  unfold wpX_depth
  dsimp only
  refine zx_stretchOf (by omega) h2 h3 (fun mk' H' f_blocks f_loose f_height a_code a_meant a_meantMark a_sort a_codeSize a_isRead a_block a_hasValue a_isKnown a_value a_mark a_around a_nesting a_pile m1 m2 m3 => ⟨fun g hg hq hi => ?_, fun hno => ?_⟩)
  · obtain ⟨x1, x2, x3, x4, x5, x6, ⟨x7, x7b, x7c⟩, x8, x9, x10, x11⟩ := m2
    have m2 : qe_XI L n G mk' S Z K F Q H' a_text a_tokenKind a_tokenStart a_tokenSize a_code a_meantMark a_first a_size a_endKind a_sort a_codeSize a_isRead a_hasValue a_isKnown a_value a_mark := ⟨x1, x2, x3, x4, x5, x6, ⟨x7, x7b, x7c⟩, x8, x9, x10, x11⟩
    have cg : (nI g).toNatClampNeg = g := nI_clamp (by omega)
    have vg : vp_in (nI g) 82 := pk_in g 82 (by omega)
    have hlt := yc_it_lt hg hq
    have hle := yc_it_le (Q := Q) g
    have hgF := qc_gF x5 g hg
    have hFQ := qc_le x5 hg
    have ci : (nI (yc_it Q g)).toNatClampNeg = yc_it Q g := nI_clamp (by omega)
    have vi : vp_in (nI (yc_it Q g)) 80 := pk_in (yc_it Q g) 80 (by omega)
    obtain ⟨d1, d2, d3⟩ := m3.2.2 g hg
    refine br_f (qa_ne1 (by omega)) ⟨vg, ?_⟩
    rw [cg]
    unfold wpY_depth
    dsimp only
    subst hi
    obtain ⟨W, hW, hBf⟩ := qg_Bf x5 hn
    obtain ⟨B1, B2, B3⟩ := m3.1
    have hb := qf_bl_lt (E := a_endKind) (show g ≤ G by omega)
    have hb2 := hBf.2.1
    rw [B1 g hg, nI_clamp (by omega), B3 _ hb]
    refine ⟨pk_in (qf_bl a_endKind g).1 82 (by omega), zy_item1 m2 m3 hg hq rfl (fun nc oc b_kinds b_starts b_ends b_owners b_meant b_firsts b_lasts b_sorts b_blocks b_knowns b_values b_around b_depths b_compared b_numbers b_operators hR => br_f (by decide) ⟨vi, ?_⟩)⟩
    dsimp only
    rw [ci, (hR.2.1.1 g hg hq).2.2.2.1]
    have V3 := hR.2.1.2.2
    have h0 := hBf.2.2.2.1
    have fin : i_Rel (k + 5) (nI L, nI n, f_fresh, nI G, nI mk', f_blocks, f_loose, 1, f_height, f_chosen, a_text, a_tokenKind, a_tokenStart, a_tokenSize, a_code, a_meant, a_meantMark, a_freshKind, a_freshStart, a_freshSize, a_first, a_size, a_endKind, a_sort, a_codeSize, a_isRead, a_block, a_hasValue, a_isKnown, a_value, a_mark, a_around, a_nesting, a_pile, a_chosenStart, a_chosenSize) (nI L, nI n, nI (yc_it Q G), nI ((qf_bl a_endKind G).2.1 - 1), nI ((qf_bl a_endKind G).2.2.2.2 + (qf_bl a_endKind G).2.2.2.1 (qf_bl a_endKind G).1), nc, oc, a_text, b_kinds, b_starts, b_ends, b_owners, b_meant, b_firsts, b_lasts, b_sorts, b_blocks, b_knowns, b_values, b_around, b_depths, b_compared, b_numbers, b_operators) := zz_mk (by omega) m2 (Or.inr ⟨rfl, m3⟩)
    by_cases n0 : (qf_bl a_endKind g).1 = 0
    · rw [n0]
      refine br_f (by decide) ⟨?_, fin⟩
      rw [h0]; rfl
    · obtain ⟨o1, o2⟩ := yd_op (x := (qf_bl a_endKind g).1) (by omega) (by omega)
      refine br_t o2 ⟨vi, by rw [o1]; exact pk_in ((qf_bl a_endKind g).1 - 1) 80 (by omega), ?_, fin⟩
      rw [o1, nI_clamp (by omega)]
      exact (V3 _ (by omega) hb).2
  · refine br_t rfl ?_
    unfold wpY_depth
    dsimp only
    exact zy_item0 m2 m3 hno (fun nc oc b_kinds b_starts b_ends b_owners b_meant b_firsts b_lasts b_sorts b_blocks b_knowns b_values b_around b_depths b_compared b_numbers b_operators hR => br_t rfl ⟨rfl, zz_mk (by omega) m2 (Or.inr ⟨rfl, m3⟩)⟩)
end
section
/-! the owed rows: questions about tokens' items and meanings -/
theorem zx_itemNumberE {f_length f_tokens f_fresh f_stretches f_marks f_blocks f_loose f_isStudied f_height f_chosen : Int32} {a_text a_tokenKind a_tokenStart a_tokenSize a_code a_meant a_meantMark a_freshKind a_freshStart a_freshSize a_first a_size a_endKind a_sort a_codeSize a_isRead a_block a_hasValue a_isKnown a_value a_mark a_around a_nesting a_pile a_chosenStart a_chosenSize : Nat → Int32} {G : Nat} {K F Q : Nat → Nat} {post : Int32 → Prop} {g : Nat} {x : Int32} (hx : x = nI g) (hG : G ≤ 81) (hg : g ≤ G) (hso : ∀ g, g < G → a_sort g = nI (qg_sr K F Q a_endKind g)) (h : post (nI (yc_it Q g))) : wpX_itemNumber post (f_length, f_tokens, f_fresh, f_stretches, f_marks, f_blocks, f_loose, f_isStudied, f_height, f_chosen, a_text, a_tokenKind, a_tokenStart, a_tokenSize, a_code, a_meant, a_meantMark, a_freshKind, a_freshStart, a_freshSize, a_first, a_size, a_endKind, a_sort, a_codeSize, a_isRead, a_block, a_hasValue, a_isKnown, a_value, a_mark, a_around, a_nesting, a_pile, a_chosenStart, a_chosenSize) x := by
  subst hx
  exact zx_itemNumber hG hg hso h
theorem zz_mY {n G g t : Nat} {S Z K F Q : Nat → Nat} {E me kn vl : Nat → Int32} {b_kinds b_starts b_ends b_owners b_meant b_firsts b_lasts b_sorts b_blocks b_knowns b_values b_around b_depths : Nat → Int32} (hS : qc_Str n K G F Q E) (hR : yh_R n G S Z K F Q E me kn vl b_kinds b_starts b_ends b_owners b_meant b_firsts b_lasts b_sorts b_blocks b_knowns b_values b_around b_depths) (hg : g < G) (ht : t < n) (h1 : F g ≤ t) (h2 : t ≤ F g + Q g) : (zz_C K F Q E g t → b_meant t = ye_v Q (me t)) ∧ (¬ zz_C K F Q E g t → b_meant t = -3) := by
  by_cases c : t < F g + Q g
  · have e : F g + (t - F g) = t := by omega
    have y := hR.2.2.2.1 g hg (t - F g) (by omega)
    rw [e] at y
    exact ⟨fun z => y.1 z.2, fun z => y.2 (fun w => z ⟨c, w⟩)⟩
  · refine ⟨fun z => absurd z.1 c, fun _ => hR.2.2.2.2 t ht ?_⟩
    have e : t = F g + Q g := by omega
    by_cases y : g + 1 = G
    · have := (hS.2.2.2.1 g y).1; omega
    · rw [e]; exact (hS.2.2.1 g (by omega)).2.2.1
theorem zz_Clk {n G g t : Nat} {T : Nat → Int32} {S Z K F Q : Nat → Nat} {E me so kn vl : Nat → Int32} (hS : qc_Str n K G F Q E) (hg : g < G) (h1 : F g ≤ t) (hD : qg_Dn T S Z K F Q E G me so kn vl g) (hC : zz_C K F Q E g t) : qf_lk (qg_P T S Z K F Q E G g t) g (me t) := by
  obtain ⟨c1, c2, c3, c4⟩ := hC
  have e : F g + (t - F g) = t := by omega
  have := (hD.2.1 c2).1 (t - F g) ((qg_cdf hS hg c2).2.2.2 (t - F g) c3 (by omega) c4) c4
  rw [e] at this
  exact this

theorem i_vc_itemOf {k : Nat} {u : SX} {v : SY} (I : i_Rel k u v) (hk : k + 5 ≤ 2560) (v1 : Int32) : wpX_itemOf (fun r u' => wpY_itemOf (fun r' v' => r' = r ∧ i_Rel (k + 5) u' v') v v1) u v1 := by
  refine zz_el (P := fun u v => wpX_itemOf (fun r u' => wpY_itemOf (fun r' v' => r' = r ∧ i_Rel (k + 5) u' v') v v1) u v1) ?_ I
  intro L n G mk S Z K F Q H f_fresh f_blocks f_loose f_isStudied f_height f_chosen a_text a_tokenKind a_tokenStart a_tokenSize a_code a_meant a_meantMark a_freshKind a_freshStart a_freshSize a_first a_size a_endKind a_sort a_codeSize a_isRead a_block a_hasValue a_isKnown a_value a_mark a_around a_nesting a_pile a_chosenStart a_chosenSize g_tokenCount g_itemCount g_blockCount g_looseCount g_numberCount g_operatorCount b_kinds b_starts b_ends b_owners b_meant b_firsts b_lasts b_sorts b_blocks b_knowns b_values b_around b_depths b_compared b_numbers b_operators h1 h2 h3
  have h2' := h2
  obtain ⟨x1, x2, x3, x4, x5, x6, ⟨x7, x7b, x7c⟩, x8, x9, x10, x11⟩ := h2'
  have hn : n ≤ 80 := Nat.le_trans (qb_nL x3) x1
  have hG := qc_G x5
  unfold wpX_itemOf wpY_itemOf wpY_isToken
  dsimp only
  by_cases p0 : v1 < 0
  · exact br_t p0 (br_f (by decide) (zy_readE h2 (fun nc oc b_kinds b_starts b_ends b_owners b_meant b_firsts b_lasts b_sorts b_blocks b_knowns b_values b_around b_depths b_compared b_numbers b_operators me kn vl hR => br_t p0 (br_t rfl ⟨rfl, zz_mk (by omega) h2 h3⟩))))
  · obtain ⟨t, ht, rfl⟩ := nI_of p0
    by_cases c : t < n
    · have hk := x4 t c
      have hk10 := (qb_SZ x3 c).2.2
      refine br_f p0 (br_t (nI_lt c (by omega)) (br_t rfl ?_))
      refine xd_ends (by omega) hk.1 hk10 (fun k8 => br_t rfl ?_) (fun k8 => br_f (by decide) ?_)
      · refine xm_study (by omega) h2 h3 (fun mk' H' f_blocks f_loose f_height a_code a_meant a_meantMark a_sort a_codeSize a_isRead a_block a_hasValue a_isKnown a_value a_mark a_around a_nesting a_pile m1 m2 m3 => ?_)
        refine zx_stretchAt x5 hn (by omega) x6 (fun a ha a1 a2 => ?_)
        refine zx_itemNumber (by omega) (by omega) (fun g hg => (m3.2.2 g hg).1) ?_
        refine zy_readS m2 m3 (fun nc oc b_kinds b_starts b_ends b_owners b_meant b_firsts b_lasts b_sorts b_blocks b_knowns b_values b_around b_depths b_compared b_numbers b_operators hR => br_f p0 (br_f (nI_ge c (by omega)) (br_f (by decide) ⟨pk_in t 80 (by omega), ?_, zz_mk (by omega) m2 (Or.inr ⟨rfl, m3⟩)⟩)))
        have hlt : t < F a + Q a := by
          by_cases z : t = F a + Q a
          · exfalso
            by_cases y : a + 1 = G
            · have := (x5.2.2.2.1 a y).1; omega
            · have := (x5.2.2.1 a (by omega)).2.2.1; rw [← z] at this; omega
          · omega
        dsimp only
        rw [nI_clamp (by omega)]
        exact (hR.2.1.1 a ha (by omega)).2.2.2.2 t a1 hlt
      · refine zy_readE h2 (fun nc oc b_kinds b_starts b_ends b_owners b_meant b_firsts b_lasts b_sorts b_blocks b_knowns b_values b_around b_depths b_compared b_numbers b_operators me kn vl hR => br_f p0 (br_f (nI_ge c (by omega)) (br_f (by decide) ⟨pk_in t 80 (by omega), ?_, zz_mk (by omega) h2 h3⟩)))
        dsimp only
        rw [nI_clamp (by omega)]
        exact hR.2.1.2.1 t c (Or.inl k8)
    · exact br_f p0 (br_f (nI_nlt (by omega) (by omega)) (br_f (by decide) (zy_readE h2 (fun nc oc b_kinds b_starts b_ends b_owners b_meant b_firsts b_lasts b_sorts b_blocks b_knowns b_values b_around b_depths b_compared b_numbers b_operators me kn vl hR => br_f p0 (br_t (nI_le (by omega) (by omega)) (br_t rfl ⟨rfl, zz_mk (by omega) h2 h3⟩))))))

theorem i_vc_meaning {k : Nat} {u : SX} {v : SY} (I : i_Rel k u v) (hk : k + 5 ≤ 2560) (v1 : Int32) : wpX_meaning (fun r u' => wpY_meaning (fun r' v' => r' = r ∧ i_Rel (k + 5) u' v') v v1) u v1 := by
  refine zz_el (P := fun u v => wpX_meaning (fun r u' => wpY_meaning (fun r' v' => r' = r ∧ i_Rel (k + 5) u' v') v v1) u v1) ?_ I
  intro L n G mk S Z K F Q H f_fresh f_blocks f_loose f_isStudied f_height f_chosen a_text a_tokenKind a_tokenStart a_tokenSize a_code a_meant a_meantMark a_freshKind a_freshStart a_freshSize a_first a_size a_endKind a_sort a_codeSize a_isRead a_block a_hasValue a_isKnown a_value a_mark a_around a_nesting a_pile a_chosenStart a_chosenSize g_tokenCount g_itemCount g_blockCount g_looseCount g_numberCount g_operatorCount b_kinds b_starts b_ends b_owners b_meant b_firsts b_lasts b_sorts b_blocks b_knowns b_values b_around b_depths b_compared b_numbers b_operators h1 h2 h3
  have h2' := h2
  obtain ⟨x1, x2, x3, x4, x5, x6, ⟨x7, x7b, x7c⟩, x8, x9, x10, x11⟩ := h2'
  have hn : n ≤ 80 := Nat.le_trans (qb_nL x3) x1
  have hG := qc_G x5
  unfold wpX_meaning wpY_meaning wpY_isToken
  dsimp only
  by_cases p0 : v1 < 0
  · exact br_t p0 (br_f (by decide) (zy_readE h2 (fun nc oc b_kinds b_starts b_ends b_owners b_meant b_firsts b_lasts b_sorts b_blocks b_knowns b_values b_around b_depths b_compared b_numbers b_operators me kn vl hR => br_t p0 (br_t rfl ⟨rfl, zz_mk (by omega) h2 h3⟩))))
  · obtain ⟨t, ht, rfl⟩ := nI_of p0
    by_cases c : t < n
    · refine br_f p0 (br_t (nI_lt c (by omega)) (br_t rfl ?_))
      refine xm_study (by omega) h2 h3 (fun mk' H' f_blocks f_loose f_height a_code a_meant a_meantMark a_sort a_codeSize a_isRead a_block a_hasValue a_isKnown a_value a_mark a_around a_nesting a_pile m1 m2 m3 => ?_)
      refine zx_stretchAt x5 hn (by omega) x6 (fun a ha a1 a2 => ?_)
      have yfin : ∀ r : Int32, (∀ b_kinds b_starts b_ends b_owners b_meant b_firsts b_lasts b_sorts b_blocks b_knowns b_values b_around b_depths : Nat → Int32, yh_R n G S Z K F Q a_endKind a_meant a_isKnown a_value b_kinds b_starts b_ends b_owners b_meant b_firsts b_lasts b_sorts b_blocks b_knowns b_values b_around b_depths → b_meant t = r) → wpY_read (fun u => match u with | (g_length1, g_tokenCount1, g_itemCount1, g_blockCount1, g_looseCount1, g_numberCount1, g_operatorCount1, b_text1, b_kinds1, b_starts1, b_ends1, b_owners1, b_meant1, b_firsts1, b_lasts1, b_sorts1, b_blocks1, b_knowns1, b_values1, b_around1, b_depths1, b_compared1, b_numbers1, b_operators1) => ((nI t < 0 → ((0 : Int32) = 0 → (-3 : Int32) = r ∧ i_Rel (k + 5) (nI L, nI n, f_fresh, nI G, nI mk', f_blocks, f_loose, 1, f_height, f_chosen, a_text, a_tokenKind, a_tokenStart, a_tokenSize, a_code, a_meant, a_meantMark, a_freshKind, a_freshStart, a_freshSize, a_first, a_size, a_endKind, a_sort, a_codeSize, a_isRead, a_block, a_hasValue, a_isKnown, a_value, a_mark, a_around, a_nesting, a_pile, a_chosenStart, a_chosenSize) (g_length1, g_tokenCount1, g_itemCount1, g_blockCount1, g_looseCount1, g_numberCount1, g_operatorCount1, b_text1, b_kinds1, b_starts1, b_ends1, b_owners1, b_meant1, b_firsts1, b_lasts1, b_sorts1, b_blocks1, b_knowns1, b_values1, b_around1, b_depths1, b_compared1, b_numbers1, b_operators1)) ∧ (¬ (0 : Int32) = 0 → vp_in (nI t) 80 ∧ b_meant1 (nI t).toNatClampNeg = r ∧ i_Rel (k + 5) (nI L, nI n, f_fresh, nI G, nI mk', f_blocks, f_loose, 1, f_height, f_chosen, a_text, a_tokenKind, a_tokenStart, a_tokenSize, a_code, a_meant, a_meantMark, a_freshKind, a_freshStart, a_freshSize, a_first, a_size, a_endKind, a_sort, a_codeSize, a_isRead, a_block, a_hasValue, a_isKnown, a_value, a_mark, a_around, a_nesting, a_pile, a_chosenStart, a_chosenSize) (g_length1, g_tokenCount1, g_itemCount1, g_blockCount1, g_looseCount1, g_numberCount1, g_operatorCount1, b_text1, b_kinds1, b_starts1, b_ends1, b_owners1, b_meant1, b_firsts1, b_lasts1, b_sorts1, b_blocks1, b_knowns1, b_values1, b_around1, b_depths1, b_compared1, b_numbers1, b_operators1))) ∧ (¬ nI t < 0 → ((g_tokenCount1 ≤ nI t → ((0 : Int32) = 0 → (-3 : Int32) = r ∧ i_Rel (k + 5) (nI L, nI n, f_fresh, nI G, nI mk', f_blocks, f_loose, 1, f_height, f_chosen, a_text, a_tokenKind, a_tokenStart, a_tokenSize, a_code, a_meant, a_meantMark, a_freshKind, a_freshStart, a_freshSize, a_first, a_size, a_endKind, a_sort, a_codeSize, a_isRead, a_block, a_hasValue, a_isKnown, a_value, a_mark, a_around, a_nesting, a_pile, a_chosenStart, a_chosenSize) (g_length1, g_tokenCount1, g_itemCount1, g_blockCount1, g_looseCount1, g_numberCount1, g_operatorCount1, b_text1, b_kinds1, b_starts1, b_ends1, b_owners1, b_meant1, b_firsts1, b_lasts1, b_sorts1, b_blocks1, b_knowns1, b_values1, b_around1, b_depths1, b_compared1, b_numbers1, b_operators1)) ∧ (¬ (0 : Int32) = 0 → vp_in (nI t) 80 ∧ b_meant1 (nI t).toNatClampNeg = r ∧ i_Rel (k + 5) (nI L, nI n, f_fresh, nI G, nI mk', f_blocks, f_loose, 1, f_height, f_chosen, a_text, a_tokenKind, a_tokenStart, a_tokenSize, a_code, a_meant, a_meantMark, a_freshKind, a_freshStart, a_freshSize, a_first, a_size, a_endKind, a_sort, a_codeSize, a_isRead, a_block, a_hasValue, a_isKnown, a_value, a_mark, a_around, a_nesting, a_pile, a_chosenStart, a_chosenSize) (g_length1, g_tokenCount1, g_itemCount1, g_blockCount1, g_looseCount1, g_numberCount1, g_operatorCount1, b_text1, b_kinds1, b_starts1, b_ends1, b_owners1, b_meant1, b_firsts1, b_lasts1, b_sorts1, b_blocks1, b_knowns1, b_values1, b_around1, b_depths1, b_compared1, b_numbers1, b_operators1))) ∧ (¬ g_tokenCount1 ≤ nI t → ((1 : Int32) = 0 → (-3 : Int32) = r ∧ i_Rel (k + 5) (nI L, nI n, f_fresh, nI G, nI mk', f_blocks, f_loose, 1, f_height, f_chosen, a_text, a_tokenKind, a_tokenStart, a_tokenSize, a_code, a_meant, a_meantMark, a_freshKind, a_freshStart, a_freshSize, a_first, a_size, a_endKind, a_sort, a_codeSize, a_isRead, a_block, a_hasValue, a_isKnown, a_value, a_mark, a_around, a_nesting, a_pile, a_chosenStart, a_chosenSize) (g_length1, g_tokenCount1, g_itemCount1, g_blockCount1, g_looseCount1, g_numberCount1, g_operatorCount1, b_text1, b_kinds1, b_starts1, b_ends1, b_owners1, b_meant1, b_firsts1, b_lasts1, b_sorts1, b_blocks1, b_knowns1, b_values1, b_around1, b_depths1, b_compared1, b_numbers1, b_operators1)) ∧ (¬ (1 : Int32) = 0 → vp_in (nI t) 80 ∧ b_meant1 (nI t).toNatClampNeg = r ∧ i_Rel (k + 5) (nI L, nI n, f_fresh, nI G, nI mk', f_blocks, f_loose, 1, f_height, f_chosen, a_text, a_tokenKind, a_tokenStart, a_tokenSize, a_code, a_meant, a_meantMark, a_freshKind, a_freshStart, a_freshSize, a_first, a_size, a_endKind, a_sort, a_codeSize, a_isRead, a_block, a_hasValue, a_isKnown, a_value, a_mark, a_around, a_nesting, a_pile, a_chosenStart, a_chosenSize) (g_length1, g_tokenCount1, g_itemCount1, g_blockCount1, g_looseCount1, g_numberCount1, g_operatorCount1, b_text1, b_kinds1, b_starts1, b_ends1, b_owners1, b_meant1, b_firsts1, b_lasts1, b_sorts1, b_blocks1, b_knowns1, b_values1, b_around1, b_depths1, b_compared1, b_numbers1, b_operators1))))))) (nI L, g_tokenCount, g_itemCount, g_blockCount, g_looseCount, g_numberCount, g_operatorCount, a_text, b_kinds, b_starts, b_ends, b_owners, b_meant, b_firsts, b_lasts, b_sorts, b_blocks, b_knowns, b_values, b_around, b_depths, b_compared, b_numbers, b_operators) := by
        intro r hr
        refine zy_readS m2 m3 (fun nc oc b_kinds b_starts b_ends b_owners b_meant b_firsts b_lasts b_sorts b_blocks b_knowns b_values b_around b_depths b_compared b_numbers b_operators hR => br_f p0 (br_f (nI_ge c (by omega)) (br_f (by decide) ⟨pk_in t 80 (by omega), ?_, zz_mk (by omega) m2 (Or.inr ⟨rfl, m3⟩)⟩)))
        rw [nI_clamp (by omega)]
        exact hr _ _ _ _ _ _ _ _ _ _ _ _ _ hR
      refine zx_meansNow x5 hn (fun t ht => ⟨(x4 t ht).1, (qb_SZ x3 ht).2.2⟩) x6 (fun g hg => (m3.2.2 g hg).1) ha c a1 a2 (fun hC => ?_) (fun hC => br_t rfl ?_)
      · have hl := zz_Clk x5 ha a1 (m3.2.2 a ha) hC
        rcases qf_lk_b hl with e | ⟨j, hj, e⟩
        · refine br_t e (yfin (-3) (fun _ _ _ _ _ _ _ _ _ _ _ _ _ hR => ?_))
          rw [(zz_mY x5 hR ha c a1 a2).1 hC]; unfold ye_v; rw [if_pos e]
        · have hne : ¬ a_meant t = -1 := by rw [e]; exact qa_ne1 (by omega)
          refine br_f hne ?_
          refine zx_itemNumberE e (by omega) (show j ≤ G by omega) (fun g hg => (m3.2.2 g hg).1) (yfin _ (fun _ _ _ _ _ _ _ _ _ _ _ _ _ hR => ?_))
          rw [(zz_mY x5 hR ha c a1 a2).1 hC]; unfold ye_v; rw [if_neg hne, e, nI_clamp (by omega)]
      · exact yfin (-3) (fun _ _ _ _ _ _ _ _ _ _ _ _ _ hR => (zz_mY x5 hR ha c a1 a2).2 hC)
    · exact br_f p0 (br_f (nI_nlt (by omega) (by omega)) (br_f (by decide) (zy_readE h2 (fun nc oc b_kinds b_starts b_ends b_owners b_meant b_firsts b_lasts b_sorts b_blocks b_knowns b_values b_around b_depths b_compared b_numbers b_operators me kn vl hR => br_f p0 (br_t (nI_le (by omega) (by omega)) (br_t rfl ⟨rfl, zz_mk (by omega) h2 h3⟩))))))
end
section
/-! the owed rows: wrong, digest, uses -/
section
variable {f_length f_tokens f_fresh f_stretches f_marks f_blocks f_loose f_isStudied f_height f_chosen : Int32} {a_text a_tokenKind a_tokenStart a_tokenSize a_code a_meant a_meantMark a_freshKind a_freshStart a_freshSize a_first a_size a_endKind a_sort a_codeSize a_isRead a_block a_hasValue a_isKnown a_value a_mark a_around a_nesting a_pile a_chosenStart a_chosenSize : Nat → Int32}
variable {L n G : Nat} {S Z K F Q : Nat → Nat}
theorem zz_wrong (hG : G ≤ 81) (hn : yc_it Q G ≤ 80) (hso : ∀ g, g < G → a_sort g = nI (qg_sr K F Q a_endKind g)) : ∀ d g (c : Int32), g + d = G → ∃ r : Int32, (∀ post : Int32 → SX → Prop, post r (f_length, f_tokens, f_fresh, nI G, f_marks, f_blocks, f_loose, f_isStudied, f_height, f_chosen, a_text, a_tokenKind, a_tokenStart, a_tokenSize, a_code, a_meant, a_meantMark, a_freshKind, a_freshStart, a_freshSize, a_first, a_size, a_endKind, a_sort, a_codeSize, a_isRead, a_block, a_hasValue, a_isKnown, a_value, a_mark, a_around, a_nesting, a_pile, a_chosenStart, a_chosenSize) → wX_wrong_8 post f_length f_tokens f_fresh (nI G) f_marks f_blocks f_loose f_isStudied f_height f_chosen a_text a_tokenKind a_tokenStart a_tokenSize a_code a_meant a_meantMark a_freshKind a_freshStart a_freshSize a_first a_size a_endKind a_sort a_codeSize a_isRead a_block a_hasValue a_isKnown a_value a_mark a_around a_nesting a_pile a_chosenStart a_chosenSize (d + 1) c (nI g)) ∧
    (∀ {g_length g_tokenCount g_blockCount g_looseCount g_numberCount g_operatorCount : Int32} {b_text b_kinds b_starts b_ends b_owners b_meant b_firsts b_lasts b_sorts b_blocks b_knowns b_values b_around b_depths b_compared b_numbers b_operators : Nat → Int32} (_ : ∀ j, j < G → Q j ≠ 0 → b_sorts (yc_it Q j) = nI (qg_sr K F Q a_endKind j)) (m : Nat) (_ : yc_it Q G - yc_it Q g < m) (post : Int32 → SY → Prop), post r (g_length, g_tokenCount, nI (yc_it Q G), g_blockCount, g_looseCount, g_numberCount, g_operatorCount, b_text, b_kinds, b_starts, b_ends, b_owners, b_meant, b_firsts, b_lasts, b_sorts, b_blocks, b_knowns, b_values, b_around, b_depths, b_compared, b_numbers, b_operators) → wY_wrong_8 post g_length g_tokenCount (nI (yc_it Q G)) g_blockCount g_looseCount g_numberCount g_operatorCount b_text b_kinds b_starts b_ends b_owners b_meant b_firsts b_lasts b_sorts b_blocks b_knowns b_values b_around b_depths b_compared b_numbers b_operators m c (nI (yc_it Q g))) := by
  intro d
  induction d with
  | zero =>
    intro g c hg
    obtain rfl : g = G := by omega
    refine ⟨c, fun post hp => ?_, ?_⟩
    · rw [wX_wrong_8]; exact br_t (nI_le (Nat.le_refl _) (by omega)) hp
    · intro g_length g_tokenCount g_blockCount g_looseCount g_numberCount g_operatorCount b_text b_kinds b_starts b_ends b_owners b_meant b_firsts b_lasts b_sorts b_blocks b_knowns b_values b_around b_depths b_compared b_numbers b_operators hb m hm post hp
      obtain ⟨m, rfl⟩ : ∃ m', m = m' + 1 := ⟨m - 1, by omega⟩
      rw [wY_wrong_8]; exact br_t (nI_le (Nat.le_refl _) (by omega)) hp
  | succ d ih =>
    intro g c hg
    have hsl : qg_sr K F Q a_endKind g ≤ 3 := qd_srt_le
    have e3 : qg_sr K F Q a_endKind g = 3 ↔ Q g = 0 := qd_srt3
    have cg : (nI g).toNatClampNeg = g := nI_clamp (by omega)
    have vg : vp_in (nI g) 82 := pk_in g 82 (by omega)
    by_cases q0 : Q g = 0
    · obtain ⟨r, ihX, ihY⟩ := ih (g + 1) c (by omega)
      refine ⟨r, fun post hp => ?_, ?_⟩
      · rw [wX_wrong_8]
        refine br_f (nI_ge (by omega) (by omega)) ⟨vg, ?_⟩
        rw [cg, hso g (by omega), e3.mpr q0]
        exact br_f (by decide) (nm_r (nI_1 g) (ihX post hp))
      · intro g_length g_tokenCount g_blockCount g_looseCount g_numberCount g_operatorCount b_text b_kinds b_starts b_ends b_owners b_meant b_firsts b_lasts b_sorts b_blocks b_knowns b_values b_around b_depths b_compared b_numbers b_operators hb m hm post hp
        have e := yc_it0 (Q := Q) q0
        rw [← e] at hm ⊢
        exact ihY hb m hm post hp
    · have e := yc_it1 (Q := Q) q0
      have hlt := yc_it_lt (Q := Q) (g := g) (j := G) (by omega) q0
      have ci : (nI (yc_it Q g)).toNatClampNeg = yc_it Q g := nI_clamp (by omega)
      have vi : vp_in (nI (yc_it Q g)) 80 := pk_in (yc_it Q g) 80 (by omega)
      by_cases s0 : qg_sr K F Q a_endKind g = 0
      · obtain ⟨r, ihX, ihY⟩ := ih (g + 1) (c + 1) (by omega)
        refine ⟨r, fun post hp => ?_, ?_⟩
        · rw [wX_wrong_8]
          refine br_f (nI_ge (by omega) (by omega)) ⟨vg, ?_⟩
          rw [cg, hso g (by omega), s0]
          exact br_t rfl (nm_e (nm_r (nI_1 g) (ihX post hp)))
        · intro g_length g_tokenCount g_blockCount g_looseCount g_numberCount g_operatorCount b_text b_kinds b_starts b_ends b_owners b_meant b_firsts b_lasts b_sorts b_blocks b_knowns b_values b_around b_depths b_compared b_numbers b_operators hb m hm post hp
          obtain ⟨m, rfl⟩ : ∃ m', m = m' + 1 := ⟨m - 1, by omega⟩
          rw [wY_wrong_8]
          refine br_f (nI_ge hlt (by omega)) ⟨vi, ?_⟩
          rw [ci, hb g (by omega) q0, s0]
          refine br_t rfl (nm_e (nm_r (nI_1 _) ?_))
          rw [← e]
          exact ihY hb m (by omega) post hp
      · obtain ⟨r, ihX, ihY⟩ := ih (g + 1) c (by omega)
        have hne : ¬ nI (qg_sr K F Q a_endKind g) = 0 := nI_ne0 (by omega) (by omega)
        refine ⟨r, fun post hp => ?_, ?_⟩
        · rw [wX_wrong_8]
          refine br_f (nI_ge (by omega) (by omega)) ⟨vg, ?_⟩
          rw [cg, hso g (by omega)]
          exact br_f hne (nm_r (nI_1 g) (ihX post hp))
        · intro g_length g_tokenCount g_blockCount g_looseCount g_numberCount g_operatorCount b_text b_kinds b_starts b_ends b_owners b_meant b_firsts b_lasts b_sorts b_blocks b_knowns b_values b_around b_depths b_compared b_numbers b_operators hb m hm post hp
          obtain ⟨m, rfl⟩ : ∃ m', m = m' + 1 := ⟨m - 1, by omega⟩
          rw [wY_wrong_8]
          refine br_f (nI_ge hlt (by omega)) ⟨vi, ?_⟩
          rw [ci, hb g (by omega) q0]
          refine br_f hne (nm_r (nI_1 _) ?_)
          rw [← e]
          exact ihY hb m (by omega) post hp
theorem zz_digest (hG : G ≤ 81) (hn : yc_it Q G ≤ 80) (hso : ∀ g, g < G → a_sort g = nI (qg_sr K F Q a_endKind g)) : ∀ d g (c : Int32), g + d = G → ∃ r : Int32, (∀ post : Int32 → SX → Prop, post r (f_length, f_tokens, f_fresh, nI G, f_marks, f_blocks, f_loose, f_isStudied, f_height, f_chosen, a_text, a_tokenKind, a_tokenStart, a_tokenSize, a_code, a_meant, a_meantMark, a_freshKind, a_freshStart, a_freshSize, a_first, a_size, a_endKind, a_sort, a_codeSize, a_isRead, a_block, a_hasValue, a_isKnown, a_value, a_mark, a_around, a_nesting, a_pile, a_chosenStart, a_chosenSize) → wX_digest_10 post f_length f_tokens f_fresh (nI G) f_marks f_blocks f_loose f_isStudied f_height f_chosen a_text a_tokenKind a_tokenStart a_tokenSize a_code a_meant a_meantMark a_freshKind a_freshStart a_freshSize a_first a_size a_endKind a_sort a_codeSize a_isRead a_block a_hasValue a_isKnown a_value a_mark a_around a_nesting a_pile a_chosenStart a_chosenSize (d + 1) c (nI (yc_it Q g)) (nI g)) ∧
    (∀ {g_length g_tokenCount g_blockCount g_looseCount g_numberCount g_operatorCount : Int32} {b_text b_kinds b_starts b_ends b_owners b_meant b_firsts b_lasts b_sorts b_blocks b_knowns b_values b_around b_depths b_compared b_numbers b_operators : Nat → Int32} (_ : ∀ j, j < G → Q j ≠ 0 → b_knowns (yc_it Q j) = a_isKnown j ∧ b_values (yc_it Q j) = a_value j) (m : Nat) (_ : yc_it Q G - yc_it Q g < m) (post : Int32 → SY → Prop), post r (g_length, g_tokenCount, nI (yc_it Q G), g_blockCount, g_looseCount, g_numberCount, g_operatorCount, b_text, b_kinds, b_starts, b_ends, b_owners, b_meant, b_firsts, b_lasts, b_sorts, b_blocks, b_knowns, b_values, b_around, b_depths, b_compared, b_numbers, b_operators) → wY_digest_8 post g_length g_tokenCount (nI (yc_it Q G)) g_blockCount g_looseCount g_numberCount g_operatorCount b_text b_kinds b_starts b_ends b_owners b_meant b_firsts b_lasts b_sorts b_blocks b_knowns b_values b_around b_depths b_compared b_numbers b_operators m c (nI (yc_it Q g))) := by
  intro d
  induction d with
  | zero =>
    intro g c hg
    obtain rfl : g = G := by omega
    refine ⟨c, fun post hp => ?_, ?_⟩
    · rw [wX_digest_10]; exact br_t (nI_le (Nat.le_refl _) (by omega)) hp
    · intro g_length g_tokenCount g_blockCount g_looseCount g_numberCount g_operatorCount b_text b_kinds b_starts b_ends b_owners b_meant b_firsts b_lasts b_sorts b_blocks b_knowns b_values b_around b_depths b_compared b_numbers b_operators hb m hm post hp
      obtain ⟨m, rfl⟩ : ∃ m', m = m' + 1 := ⟨m - 1, by omega⟩
      rw [wY_digest_8]; exact br_t (nI_le (Nat.le_refl _) (by omega)) hp
  | succ d ih =>
    intro g c hg
    have hsl : qg_sr K F Q a_endKind g ≤ 3 := qd_srt_le
    have e3 : qg_sr K F Q a_endKind g = 3 ↔ Q g = 0 := qd_srt3
    have cg : (nI g).toNatClampNeg = g := nI_clamp (by omega)
    have vg : vp_in (nI g) 82 := pk_in g 82 (by omega)
    by_cases q0 : Q g = 0
    · obtain ⟨r, ihX, ihY⟩ := ih (g + 1) c (by omega)
      have e := yc_it0 (Q := Q) q0
      rw [e] at ihX
      refine ⟨r, fun post hp => ?_, ?_⟩
      · rw [wX_digest_10]
        refine br_f (nI_ge (by omega) (by omega)) ⟨vg, ?_⟩
        rw [cg, hso g (by omega), e3.mpr q0]
        exact br_t rfl (nm_r (nI_1 g) (ihX post hp))
      · intro g_length g_tokenCount g_blockCount g_looseCount g_numberCount g_operatorCount b_text b_kinds b_starts b_ends b_owners b_meant b_firsts b_lasts b_sorts b_blocks b_knowns b_values b_around b_depths b_compared b_numbers b_operators hb m hm post hp
        rw [← e] at hm ⊢
        exact ihY hb m hm post hp
    · have e := yc_it1 (Q := Q) q0
      have hlt := yc_it_lt (Q := Q) (g := g) (j := G) (by omega) q0
      have ci : (nI (yc_it Q g)).toNatClampNeg = yc_it Q g := nI_clamp (by omega)
      have vi : vp_in (nI (yc_it Q g)) 80 := pk_in (yc_it Q g) 80 (by omega)
      have n3 : ¬ nI (qg_sr K F Q a_endKind g) = 3 := qa_ne (b := 3) (fun z => q0 (e3.mp z)) (by omega) (by decide)
      by_cases s0 : a_isKnown g = 0
      · obtain ⟨r, ihX, ihY⟩ := ih (g + 1) c (by omega)
        rw [e] at ihX
        refine ⟨r, fun post hp => ?_, ?_⟩
        · rw [wX_digest_10]
          refine br_f (nI_ge (by omega) (by omega)) ⟨vg, ?_⟩
          rw [cg, hso g (by omega)]
          exact br_f n3 (nm_r (nI_1 _) ⟨vg, br_t s0 (nm_r (nI_1 g) (ihX post hp))⟩)
        · intro g_length g_tokenCount g_blockCount g_looseCount g_numberCount g_operatorCount b_text b_kinds b_starts b_ends b_owners b_meant b_firsts b_lasts b_sorts b_blocks b_knowns b_values b_around b_depths b_compared b_numbers b_operators hb m hm post hp
          obtain ⟨m, rfl⟩ : ∃ m', m = m' + 1 := ⟨m - 1, by omega⟩
          rw [wY_digest_8]
          refine br_f (nI_ge hlt (by omega)) ⟨vi, ?_⟩
          rw [ci, (hb g (by omega) q0).1]
          refine br_t s0 (nm_r (nI_1 _) ?_)
          rw [← e]
          exact ihY hb m (by omega) post hp
      · obtain ⟨r, ihX, ihY⟩ := ih (g + 1) (c + nI (yc_it Q g + 1) * a_value g) (by omega)
        rw [e] at ihX
        refine ⟨r, fun post hp => ?_, ?_⟩
        · rw [wX_digest_10]
          refine br_f (nI_ge (by omega) (by omega)) ⟨vg, ?_⟩
          rw [cg, hso g (by omega)]
          exact br_f n3 (nm_r (nI_1 _) ⟨vg, br_f s0 ⟨vg, nm_e (nm_r (nI_1 g) (ihX post hp))⟩⟩)
        · intro g_length g_tokenCount g_blockCount g_looseCount g_numberCount g_operatorCount b_text b_kinds b_starts b_ends b_owners b_meant b_firsts b_lasts b_sorts b_blocks b_knowns b_values b_around b_depths b_compared b_numbers b_operators hb m hm post hp
          obtain ⟨m, rfl⟩ : ∃ m', m = m' + 1 := ⟨m - 1, by omega⟩
          rw [wY_digest_8]
          refine br_f (nI_ge hlt (by omega)) ⟨vi, ?_⟩
          rw [ci, (hb g (by omega) q0).1, (hb g (by omega) q0).2, nI_1]
          refine br_f s0 ⟨vi, nm_e (nm_e ?_)⟩
          rw [← e] at ihY ⊢
          exact ihY hb m (by omega) post hp
theorem qc_find {E : Nat → Int32} (hS : qc_Str n K G F Q E) {t : Nat} (ht : t ≤ n) : ∃ a, a < G ∧ F a ≤ t ∧ t ≤ F a + Q a := by
  have key : ∀ d g, g + d + 1 = G → F g ≤ t → ∃ a, a < G ∧ F a ≤ t ∧ t ≤ F a + Q a := by
    intro d
    induction d with
    | zero =>
      intro g hg h1
      refine ⟨g, by omega, h1, ?_⟩
      have := (hS.2.2.2.1 g hg).1; omega
    | succ d ih =>
      intro g hg h1
      by_cases c : t ≤ F g + Q g
      · exact ⟨g, by omega, h1, c⟩
      · have := (hS.2.2.1 g (by omega)).1
        exact ih (g + 1) (by omega) (by omega)
  have h0 := hS.1
  exact key (G - 1) 0 (by omega) (by rw [hS.2.1]; omega)
theorem qc_uniq {E : Nat → Int32} (hS : qc_Str n K G F Q E) {t a b : Nat} (ha : a < G) (hb : b < G) (a1 : F a ≤ t) (a2 : t ≤ F a + Q a) (b1 : F b ≤ t) (b2 : t ≤ F b + Q b) : a = b := by
  by_cases c : a < b
  · have := qc_lt hS c hb; omega
  · by_cases c2 : b < a
    · have := qc_lt hS c2 ha; omega
    · omega
/-- X's and Y's answer agree on what a token means -/
theorem zz_eqm {T : Nat → Int32} {E me so kn vl : Nat → Int32} {g a t : Nat} {b_kinds b_starts b_ends b_owners b_meant b_firsts b_lasts b_sorts b_blocks b_knowns b_values b_around b_depths : Nat → Int32} (hS : qc_Str n K G F Q E) (hG : G ≤ 81) (hD : qg_Dn T S Z K F Q E G me so kn vl a) (hR : yh_R n G S Z K F Q E me kn vl b_kinds b_starts b_ends b_owners b_meant b_firsts b_lasts b_sorts b_blocks b_knowns b_values b_around b_depths) (hg : g < G) (hq : Q g ≠ 0) (ha : a < G) (ht : t < n) (a1 : F a ≤ t) (a2 : t ≤ F a + Q a) : b_meant t = nI (yc_it Q g) ↔ (zz_C K F Q E a t ∧ me t = nI g) := by
  have hm := zz_mY hS hR ha ht a1 a2
  have hle := yc_it_le (Q := Q) g
  by_cases c : zz_C K F Q E a t
  · rw [hm.1 c]
    rcases zz_Clk hS ha a1 hD c with ⟨e, _⟩ | ⟨j, hj, e, hP, _⟩
    · have e1 : ye_v Q (me t) = -3 := by unfold ye_v; rw [if_pos e]
      rw [e1, e]
      exact ⟨fun z => absurd z.symm (qa_ne3 (by omega)), fun z => absurd z.2.symm (qa_ne1 (by omega))⟩
    · have hne : ¬ me t = -1 := by rw [e]; exact qa_ne1 (by omega)
      have e1 : ye_v Q (me t) = nI (yc_it Q j) := by unfold ye_v; rw [if_neg hne, e, nI_clamp (by omega)]
      have hjle := yc_it_le (Q := Q) j
      rw [e1, e, nI_eq (by omega) (by omega), nI_eq (by omega) (by omega)]
      have hqj := (qd_srt12 (Or.inr hP.1)).1
      exact ⟨fun z => ⟨c, yc_it_inj hqj hq z⟩, fun z => by rw [z.2]⟩
  · rw [hm.2 c]
    exact ⟨fun z => absurd z.symm (qa_ne3 (by omega)), fun z => absurd z.1 c⟩
theorem zz_uses {H : Int32 → Int32 × Int32} {mk g : Nat} (h2 : qe_XI L n G mk S Z K F Q H a_text a_tokenKind a_tokenStart a_tokenSize a_code a_meantMark a_first a_size a_endKind a_sort a_codeSize a_isRead a_hasValue a_isKnown a_value a_mark) (hs : xm_St G S Z K F Q f_loose a_text a_endKind a_meant a_sort a_block a_isKnown a_value a_around a_nesting) (hg : g < G) (hq : Q g ≠ 0) :
    ∀ d t (c : Int32), t + d = n → ∃ r : Int32, (∀ post : Int32 → SX → Prop, post r (f_length, nI n, f_fresh, f_stretches, f_marks, f_blocks, f_loose, f_isStudied, f_height, f_chosen, a_text, a_tokenKind, a_tokenStart, a_tokenSize, a_code, a_meant, a_meantMark, a_freshKind, a_freshStart, a_freshSize, a_first, a_size, a_endKind, a_sort, a_codeSize, a_isRead, a_block, a_hasValue, a_isKnown, a_value, a_mark, a_around, a_nesting, a_pile, a_chosenStart, a_chosenSize) → wX_uses_29 post (nI g) f_length (nI n) f_fresh f_stretches f_marks f_blocks f_loose f_isStudied f_height f_chosen a_text a_tokenKind a_tokenStart a_tokenSize a_code a_meant a_meantMark a_freshKind a_freshStart a_freshSize a_first a_size a_endKind a_sort a_codeSize a_isRead a_block a_hasValue a_isKnown a_value a_mark a_around a_nesting a_pile a_chosenStart a_chosenSize (d + 1) c (nI t)) ∧
    (∀ {g_length g_itemCount g_blockCount g_looseCount g_numberCount g_operatorCount : Int32} {b_text b_kinds b_starts b_ends b_owners b_meant b_firsts b_lasts b_sorts b_blocks b_knowns b_values b_around b_depths b_compared b_numbers b_operators : Nat → Int32} (_ : yh_R n G S Z K F Q a_endKind a_meant a_isKnown a_value b_kinds b_starts b_ends b_owners b_meant b_firsts b_lasts b_sorts b_blocks b_knowns b_values b_around b_depths) (post : Int32 → SY → Prop), post r (g_length, nI n, g_itemCount, g_blockCount, g_looseCount, g_numberCount, g_operatorCount, b_text, b_kinds, b_starts, b_ends, b_owners, b_meant, b_firsts, b_lasts, b_sorts, b_blocks, b_knowns, b_values, b_around, b_depths, b_compared, b_numbers, b_operators) → wY_uses_25 post (nI (yc_it Q g)) g_length (nI n) g_itemCount g_blockCount g_looseCount g_numberCount g_operatorCount b_text b_kinds b_starts b_ends b_owners b_meant b_firsts b_lasts b_sorts b_blocks b_knowns b_values b_around b_depths b_compared b_numbers b_operators (d + 1) c (nI t)) := by
  obtain ⟨x1, x2, x3, x4, x5, x6, x7, x8, x9, x10, x11⟩ := h2
  have hn : n ≤ 80 := Nat.le_trans (qb_nL x3) x1
  have hG := qc_G x5
  intro d
  induction d with
  | zero =>
    intro t c ht
    obtain rfl : t = n := by omega
    refine ⟨c, fun post hp => ?_, ?_⟩
    · rw [wX_uses_29]; exact br_t (nI_le (Nat.le_refl _) (by omega)) hp
    · intro g_length g_itemCount g_blockCount g_looseCount g_numberCount g_operatorCount b_text b_kinds b_starts b_ends b_owners b_meant b_firsts b_lasts b_sorts b_blocks b_knowns b_values b_around b_depths b_compared b_numbers b_operators hR post hp
      rw [wY_uses_25]; exact br_t (nI_le (Nat.le_refl _) (by omega)) hp
  | succ d ih =>
    intro t c ht
    obtain ⟨a, ha, a1, a2⟩ := qc_find x5 (show t ≤ n by omega)
    have hX : ∀ (post : Int32 → SX → Prop) (c : Int32), ((zz_C K F Q a_endKind a t ∧ a_meant t = nI g) → wX_uses_29 post (nI g) f_length (nI n) f_fresh f_stretches f_marks f_blocks f_loose f_isStudied f_height f_chosen a_text a_tokenKind a_tokenStart a_tokenSize a_code a_meant a_meantMark a_freshKind a_freshStart a_freshSize a_first a_size a_endKind a_sort a_codeSize a_isRead a_block a_hasValue a_isKnown a_value a_mark a_around a_nesting a_pile a_chosenStart a_chosenSize (d + 1) (c + 1) (nI (t + 1))) → (¬ (zz_C K F Q a_endKind a t ∧ a_meant t = nI g) → wX_uses_29 post (nI g) f_length (nI n) f_fresh f_stretches f_marks f_blocks f_loose f_isStudied f_height f_chosen a_text a_tokenKind a_tokenStart a_tokenSize a_code a_meant a_meantMark a_freshKind a_freshStart a_freshSize a_first a_size a_endKind a_sort a_codeSize a_isRead a_block a_hasValue a_isKnown a_value a_mark a_around a_nesting a_pile a_chosenStart a_chosenSize (d + 1) c (nI (t + 1))) → wX_uses_29 post (nI g) f_length (nI n) f_fresh f_stretches f_marks f_blocks f_loose f_isStudied f_height f_chosen a_text a_tokenKind a_tokenStart a_tokenSize a_code a_meant a_meantMark a_freshKind a_freshStart a_freshSize a_first a_size a_endKind a_sort a_codeSize a_isRead a_block a_hasValue a_isKnown a_value a_mark a_around a_nesting a_pile a_chosenStart a_chosenSize (d + 1 + 1) c (nI t) := by
      intro post c hy hno
      rw [wX_uses_29]
      refine br_f (nI_ge (by omega) (by omega)) ?_
      refine zx_stretchAt x5 hn (by omega) x6 (fun b hb b1 b2 => ?_)
      obtain rfl := qc_uniq x5 ha hb a1 a2 b1 b2
      refine zx_meansNow x5 hn (fun t ht => ⟨(x4 t ht).1, (qb_SZ x3 ht).2.2⟩) x6 (fun g hg => (hs.2.2 g hg).1) ha (by omega) a1 a2 (fun hC => ?_) (fun hC => ?_)
      · exact br_c (fun e => nm_e (nm_r (nI_1 t) (hy ⟨hC, e⟩))) (fun e => nm_r (nI_1 t) (hno (fun z => e z.2)))
      · exact br_f (fun z => qa_ne1 (by omega) z.symm) (nm_r (nI_1 t) (hno (fun z => hC z.1)))
    have hY : ∀ {g_length g_itemCount g_blockCount g_looseCount g_numberCount g_operatorCount : Int32} {b_text b_kinds b_starts b_ends b_owners b_meant b_firsts b_lasts b_sorts b_blocks b_knowns b_values b_around b_depths b_compared b_numbers b_operators : Nat → Int32} (_ : yh_R n G S Z K F Q a_endKind a_meant a_isKnown a_value b_kinds b_starts b_ends b_owners b_meant b_firsts b_lasts b_sorts b_blocks b_knowns b_values b_around b_depths) (post : Int32 → SY → Prop) (c : Int32), ((zz_C K F Q a_endKind a t ∧ a_meant t = nI g) → wY_uses_25 post (nI (yc_it Q g)) g_length (nI n) g_itemCount g_blockCount g_looseCount g_numberCount g_operatorCount b_text b_kinds b_starts b_ends b_owners b_meant b_firsts b_lasts b_sorts b_blocks b_knowns b_values b_around b_depths b_compared b_numbers b_operators (d + 1) (c + 1) (nI (t + 1))) → (¬ (zz_C K F Q a_endKind a t ∧ a_meant t = nI g) → wY_uses_25 post (nI (yc_it Q g)) g_length (nI n) g_itemCount g_blockCount g_looseCount g_numberCount g_operatorCount b_text b_kinds b_starts b_ends b_owners b_meant b_firsts b_lasts b_sorts b_blocks b_knowns b_values b_around b_depths b_compared b_numbers b_operators (d + 1) c (nI (t + 1))) → wY_uses_25 post (nI (yc_it Q g)) g_length (nI n) g_itemCount g_blockCount g_looseCount g_numberCount g_operatorCount b_text b_kinds b_starts b_ends b_owners b_meant b_firsts b_lasts b_sorts b_blocks b_knowns b_values b_around b_depths b_compared b_numbers b_operators (d + 1 + 1) c (nI t) := by
      intro g_length g_itemCount g_blockCount g_looseCount g_numberCount g_operatorCount b_text b_kinds b_starts b_ends b_owners b_meant b_firsts b_lasts b_sorts b_blocks b_knowns b_values b_around b_depths b_compared b_numbers b_operators hR post c hy hno
      have he := zz_eqm x5 (by omega) (hs.2.2 a ha) hR hg hq ha (show t < n by omega) a1 a2
      rw [wY_uses_25]
      refine br_f (nI_ge (by omega) (by omega)) ⟨pk_in t 80 (by omega), ?_⟩
      rw [nI_clamp (by omega)]
      exact qa_if he (fun e => nm_e (nm_r (nI_1 t) (hy e))) (fun e => nm_r (nI_1 t) (hno e))
    by_cases cc : zz_C K F Q a_endKind a t ∧ a_meant t = nI g
    · obtain ⟨r, ihX, ihY⟩ := ih (t + 1) (c + 1) (by omega)
      refine ⟨r, fun post hp => hX post c (fun _ => ihX post hp) (fun z => absurd cc z), ?_⟩
      intro g_length g_itemCount g_blockCount g_looseCount g_numberCount g_operatorCount b_text b_kinds b_starts b_ends b_owners b_meant b_firsts b_lasts b_sorts b_blocks b_knowns b_values b_around b_depths b_compared b_numbers b_operators hR post hp
      exact hY hR post c (fun _ => ihY hR post hp) (fun z => absurd cc z)
    · obtain ⟨r, ihX, ihY⟩ := ih (t + 1) c (by omega)
      refine ⟨r, fun post hp => hX post c (fun z => absurd z cc) (fun _ => ihX post hp), ?_⟩
      intro g_length g_itemCount g_blockCount g_looseCount g_numberCount g_operatorCount b_text b_kinds b_starts b_ends b_owners b_meant b_firsts b_lasts b_sorts b_blocks b_knowns b_values b_around b_depths b_compared b_numbers b_operators hR post hp
      exact hY hR post c (fun z => absurd z cc) (fun _ => ihY hR post hp)
end
theorem zz_it80 {n G : Nat} {K F Q : Nat → Nat} {E : Nat → Int32} (hS : qc_Str n K G F Q E) (hn : n ≤ 80) : yc_it Q G ≤ 80 := by
  have h0 := hS.1
  obtain ⟨G', rfl⟩ : ∃ G', G = G' + 1 := ⟨G - 1, by omega⟩
  have a := yc_it_le (Q := Q) G'
  have b := qc_gF hS G' (by omega)
  have c := (hS.2.2.2.1 G' rfl).1
  by_cases q0 : Q G' = 0
  · rw [yc_it0 q0]; omega
  · rw [yc_it1 q0]; omega
theorem i_vc_wrong {k : Nat} {u : SX} {v : SY} (I : i_Rel k u v) (hk : k + 5 ≤ 2560) : wpX_wrong (fun r u' => wpY_wrong (fun r' v' => r' = r ∧ i_Rel (k + 5) u' v') v) u := by
  refine zz_el (P := fun u v => wpX_wrong (fun r u' => wpY_wrong (fun r' v' => r' = r ∧ i_Rel (k + 5) u' v') v) u) ?_ I
  intro L n G mk S Z K F Q H f_fresh f_blocks f_loose f_isStudied f_height f_chosen a_text a_tokenKind a_tokenStart a_tokenSize a_code a_meant a_meantMark a_freshKind a_freshStart a_freshSize a_first a_size a_endKind a_sort a_codeSize a_isRead a_block a_hasValue a_isKnown a_value a_mark a_around a_nesting a_pile a_chosenStart a_chosenSize g_tokenCount g_itemCount g_blockCount g_looseCount g_numberCount g_operatorCount b_kinds b_starts b_ends b_owners b_meant b_firsts b_lasts b_sorts b_blocks b_knowns b_values b_around b_depths b_compared b_numbers b_operators h1 h2 h3
  have h2' := h2
  obtain ⟨x1, x2, x3, x4, x5, x6, ⟨x7, x7b, x7c⟩, x8, x9, x10, x11⟩ := h2'
  have hn : n ≤ 80 := Nat.le_trans (qb_nL x3) x1
  have hG := qc_G x5
  unfold wpX_wrong
  dsimp only
  refine xm_study (by omega) h2 h3 (fun mk' H' f_blocks f_loose f_height a_code a_meant a_meantMark a_sort a_codeSize a_isRead a_block a_hasValue a_isKnown a_value a_mark a_around a_nesting a_pile m1 m2 m3 => ⟨G + 1, ?_⟩)
  have hle := yc_it_le (Q := Q) G
  have hit : yc_it Q G ≤ 80 := zz_it80 x5 hn
  obtain ⟨r, hX, hY⟩ := zz_wrong (f_length := (nI L)) (f_tokens := (nI n)) (f_fresh := f_fresh) (f_marks := (nI mk')) (f_blocks := f_blocks) (f_loose := f_loose) (f_isStudied := 1) (f_height := f_height) (f_chosen := f_chosen) (a_text := a_text) (a_tokenKind := a_tokenKind) (a_tokenStart := a_tokenStart) (a_tokenSize := a_tokenSize) (a_code := a_code) (a_meant := a_meant) (a_meantMark := a_meantMark) (a_freshKind := a_freshKind) (a_freshStart := a_freshStart) (a_freshSize := a_freshSize) (a_first := a_first) (a_size := a_size) (a_endKind := a_endKind) (a_sort := a_sort) (a_codeSize := a_codeSize) (a_isRead := a_isRead) (a_block := a_block) (a_hasValue := a_hasValue) (a_isKnown := a_isKnown) (a_value := a_value) (a_mark := a_mark) (a_around := a_around) (a_nesting := a_nesting) (a_pile := a_pile) (a_chosenStart := a_chosenStart) (a_chosenSize := a_chosenSize) (K := K) (F := F) (Q := Q) (G := G) (by omega) hit (fun g hg => (m3.2.2 g hg).1) G 0 0 (by omega)
  refine hX _ ?_
  unfold wpY_wrong
  dsimp only
  refine zy_readS m2 m3 (fun nc oc b_kinds b_starts b_ends b_owners b_meant b_firsts b_lasts b_sorts b_blocks b_knowns b_values b_around b_depths b_compared b_numbers b_operators hR => ⟨G + 1, ?_⟩)
  exact hY (fun j hj hq => (hR.2.1.1 j hj hq).2.2.1) (G + 1) (by omega) _ ⟨rfl, zz_mk (by omega) m2 (Or.inr ⟨rfl, m3⟩)⟩
theorem i_vc_digest {k : Nat} {u : SX} {v : SY} (I : i_Rel k u v) (hk : k + 5 ≤ 2560) : wpX_digest (fun r u' => wpY_digest (fun r' v' => r' = r ∧ i_Rel (k + 5) u' v') v) u := by
  refine zz_el (P := fun u v => wpX_digest (fun r u' => wpY_digest (fun r' v' => r' = r ∧ i_Rel (k + 5) u' v') v) u) ?_ I
  intro L n G mk S Z K F Q H f_fresh f_blocks f_loose f_isStudied f_height f_chosen a_text a_tokenKind a_tokenStart a_tokenSize a_code a_meant a_meantMark a_freshKind a_freshStart a_freshSize a_first a_size a_endKind a_sort a_codeSize a_isRead a_block a_hasValue a_isKnown a_value a_mark a_around a_nesting a_pile a_chosenStart a_chosenSize g_tokenCount g_itemCount g_blockCount g_looseCount g_numberCount g_operatorCount b_kinds b_starts b_ends b_owners b_meant b_firsts b_lasts b_sorts b_blocks b_knowns b_values b_around b_depths b_compared b_numbers b_operators h1 h2 h3
  have h2' := h2
  obtain ⟨x1, x2, x3, x4, x5, x6, ⟨x7, x7b, x7c⟩, x8, x9, x10, x11⟩ := h2'
  have hn : n ≤ 80 := Nat.le_trans (qb_nL x3) x1
  have hG := qc_G x5
  unfold wpX_digest
  dsimp only
  refine xm_study (by omega) h2 h3 (fun mk' H' f_blocks f_loose f_height a_code a_meant a_meantMark a_sort a_codeSize a_isRead a_block a_hasValue a_isKnown a_value a_mark a_around a_nesting a_pile m1 m2 m3 => ⟨G + 1, ?_⟩)
  have hle := yc_it_le (Q := Q) G
  have hit : yc_it Q G ≤ 80 := zz_it80 x5 hn
  obtain ⟨r, hX, hY⟩ := zz_digest (f_length := (nI L)) (f_tokens := (nI n)) (f_fresh := f_fresh) (f_marks := (nI mk')) (f_blocks := f_blocks) (f_loose := f_loose) (f_isStudied := 1) (f_height := f_height) (f_chosen := f_chosen) (a_text := a_text) (a_tokenKind := a_tokenKind) (a_tokenStart := a_tokenStart) (a_tokenSize := a_tokenSize) (a_code := a_code) (a_meant := a_meant) (a_meantMark := a_meantMark) (a_freshKind := a_freshKind) (a_freshStart := a_freshStart) (a_freshSize := a_freshSize) (a_first := a_first) (a_size := a_size) (a_endKind := a_endKind) (a_sort := a_sort) (a_codeSize := a_codeSize) (a_isRead := a_isRead) (a_block := a_block) (a_hasValue := a_hasValue) (a_isKnown := a_isKnown) (a_value := a_value) (a_mark := a_mark) (a_around := a_around) (a_nesting := a_nesting) (a_pile := a_pile) (a_chosenStart := a_chosenStart) (a_chosenSize := a_chosenSize) (K := K) (F := F) (Q := Q) (G := G) (by omega) hit (fun g hg => (m3.2.2 g hg).1) G 0 0 (by omega)
  refine hX _ ?_
  unfold wpY_digest
  dsimp only
  refine zy_readS m2 m3 (fun nc oc b_kinds b_starts b_ends b_owners b_meant b_firsts b_lasts b_sorts b_blocks b_knowns b_values b_around b_depths b_compared b_numbers b_operators hR => ⟨G + 1, ?_⟩)
  exact hY (fun j hj hq => hR.2.2.1 j hj hq) (G + 1) (by omega) _ ⟨rfl, zz_mk (by omega) m2 (Or.inr ⟨rfl, m3⟩)⟩
theorem i_vc_uses {k : Nat} {u : SX} {v : SY} (I : i_Rel k u v) (hk : k + 5 ≤ 2560) (v1 : Int32) : wpX_uses (fun r u' => wpY_uses (fun r' v' => r' = r ∧ i_Rel (k + 5) u' v') v v1) u v1 := by
  refine zz_el (P := fun u v => wpX_uses (fun r u' => wpY_uses (fun r' v' => r' = r ∧ i_Rel (k + 5) u' v') v v1) u v1) ?_ I
  intro L n G mk S Z K F Q H f_fresh f_blocks f_loose f_isStudied f_height f_chosen a_text a_tokenKind a_tokenStart a_tokenSize a_code a_meant a_meantMark a_freshKind a_freshStart a_freshSize a_first a_size a_endKind a_sort a_codeSize a_isRead a_block a_hasValue a_isKnown a_value a_mark a_around a_nesting a_pile a_chosenStart a_chosenSize g_tokenCount g_itemCount g_blockCount g_looseCount g_numberCount g_operatorCount b_kinds b_starts b_ends b_owners b_meant b_firsts b_lasts b_sorts b_blocks b_knowns b_values b_around b_depths b_compared b_numbers b_operators h1 h2 h3
  have h2' := h2
  obtain ⟨x1, x2, x3, x4, x5, x6, ⟨x7, x7b, x7c⟩, x8, x9, x10, x11⟩ := h2'
  have hn : n ≤ 80 := Nat.le_trans (qb_nL x3) x1
  have hG := qc_G x5
  unfold wpX_uses
  dsimp only
  refine zx_stretchOf (by omega) h2 h3 (fun mk' H' f_blocks f_loose f_height a_code a_meant a_meantMark a_sort a_codeSize a_isRead a_block a_hasValue a_isKnown a_value a_mark a_around a_nesting a_pile m1 m2 m3 => ⟨fun g hg hq hi => ?_, fun hno => ?_⟩)
  · have cg : (nI g).toNatClampNeg = g := nI_clamp (by omega)
    have vg : vp_in (nI g) 82 := pk_in g 82 (by omega)
    have hlt := yc_it_lt hg hq
    have hle := yc_it_le (Q := Q) g
    have hgF := qc_gF x5 g hg
    have hFQ := qc_le x5 hg
    have ci : (nI (yc_it Q g)).toNatClampNeg = yc_it Q g := nI_clamp (by omega)
    have vi : vp_in (nI (yc_it Q g)) 80 := pk_in (yc_it Q g) 80 (by omega)
    obtain ⟨d1, d2, d3⟩ := m3.2.2 g hg
    have hsl : qg_sr K F Q a_endKind g ≤ 3 := qd_srt_le
    refine br_f (qa_ne1 (by omega)) ⟨vg, ?_⟩
    rw [cg]
    unfold wpY_uses
    dsimp only
    subst hi
    refine pk_eq (qg_sr K F Q a_endKind g) 2 (fun e2 => ⟨n + 1, ?_⟩) (fun e2 => ?_) d1
    · obtain ⟨r, hX, hY⟩ := zz_uses (f_length := (nI L)) (f_fresh := f_fresh) (f_stretches := (nI G)) (f_marks := (nI mk')) (f_blocks := f_blocks) (f_loose := f_loose) (f_isStudied := 1) (f_height := f_height) (f_chosen := f_chosen) (a_text := a_text) (a_tokenKind := a_tokenKind) (a_tokenStart := a_tokenStart) (a_tokenSize := a_tokenSize) (a_code := a_code) (a_meant := a_meant) (a_meantMark := a_meantMark) (a_freshKind := a_freshKind) (a_freshStart := a_freshStart) (a_freshSize := a_freshSize) (a_first := a_first) (a_size := a_size) (a_endKind := a_endKind) (a_sort := a_sort) (a_codeSize := a_codeSize) (a_isRead := a_isRead) (a_block := a_block) (a_hasValue := a_hasValue) (a_isKnown := a_isKnown) (a_value := a_value) (a_mark := a_mark) (a_around := a_around) (a_nesting := a_nesting) (a_pile := a_pile) (a_chosenStart := a_chosenStart) (a_chosenSize := a_chosenSize) m2 m3 hg hq n 0 0 (by omega)
      refine hX _ ?_
      refine zy_item1 m2 m3 hg hq rfl (fun nc oc b_kinds b_starts b_ends b_owners b_meant b_firsts b_lasts b_sorts b_blocks b_knowns b_values b_around b_depths b_compared b_numbers b_operators hR => br_f (by decide) ⟨vi, br_t ?_ ⟨n + 1, hY hR _ ⟨rfl, zz_mk (by omega) m2 (Or.inr ⟨rfl, m3⟩)⟩⟩⟩)
      dsimp only
      rw [ci, (hR.2.1.1 g hg hq).2.2.1, e2]; rfl
    · refine zy_item1 m2 m3 hg hq rfl (fun nc oc b_kinds b_starts b_ends b_owners b_meant b_firsts b_lasts b_sorts b_blocks b_knowns b_values b_around b_depths b_compared b_numbers b_operators hR => br_f (by decide) ⟨vi, br_f ?_ ⟨rfl, zz_mk (by omega) m2 (Or.inr ⟨rfl, m3⟩)⟩⟩)
      dsimp only
      rw [ci, (hR.2.1.1 g hg hq).2.2.1]
      exact qa_ne (b := 2) e2 (by omega) (by decide)
  · refine br_t rfl ?_
    unfold wpY_uses
    dsimp only
    exact zy_item0 m2 m3 hno (fun nc oc b_kinds b_starts b_ends b_owners b_meant b_firsts b_lasts b_sorts b_blocks b_knowns b_values b_around b_depths b_compared b_numbers b_operators hR => br_t rfl ⟨rfl, zz_mk (by omega) m2 (Or.inr ⟨rfl, m3⟩)⟩)
end
section
/-! rename: the names that are replaced, the text that is left, X's side -/
noncomputable def zr_ct (U : Nat → Prop) : Nat → Nat
  | 0 => 0
  | t + 1 => zr_ct U t + @ite Nat (U t) (Classical.propDecidable (U t)) 1 0
theorem zr_ct1 {U : Nat → Prop} {t : Nat} (h : U t) : zr_ct U (t + 1) = zr_ct U t + 1 := by
  show zr_ct U t + @ite Nat (U t) (Classical.propDecidable (U t)) 1 0 = _
  rw [if_pos h]
theorem zr_ct0 {U : Nat → Prop} {t : Nat} (h : ¬ U t) : zr_ct U (t + 1) = zr_ct U t := by
  show zr_ct U t + @ite Nat (U t) (Classical.propDecidable (U t)) 1 0 = _
  rw [if_neg h]; rfl
theorem zr_ct_le {U : Nat → Prop} : ∀ t, zr_ct U t ≤ t := by
  intro t
  induction t with
  | zero => exact Nat.le_refl 0
  | succ t ih =>
    by_cases c : U t
    · rw [zr_ct1 c]; omega
    · rw [zr_ct0 c]; omega
theorem zr_ct_mono {U : Nat → Prop} (t : Nat) : ∀ d, zr_ct U t ≤ zr_ct U (t + d) := by
  intro d
  induction d with
  | zero => exact Nat.le_refl _
  | succ d ih => exact Nat.le_trans ih (Nat.le_add_right _ _)
theorem zr_ct_none {U : Nat → Prop} : ∀ t, (∀ j, j < t → ¬ U j) → zr_ct U t = 0 := by
  intro t
  induction t with
  | zero => intro _; rfl
  | succ t ih => intro h; rw [zr_ct0 (h t (Nat.lt_succ_self t))]; exact ih (fun j hj => h j (by omega))
/-- one name replaced -/
noncomputable def zr_st (U : Nat → Prop) (S Z : Nat → Nat) (c : Int32) (m : Nat) (x : (Nat → Int32) × Nat) : (Nat → Int32) × Nat :=
  @ite _ (U m) (Classical.propDecidable (U m)) (xf_del (upd x.1 (S m) c) (S m + 1) (Z m - 1) x.2, x.2 - (Z m - 1)) x
noncomputable def zr_T (U : Nat → Prop) (S Z : Nat → Nat) (c : Int32) (n : Nat) (T : Nat → Int32) (L : Nat) : Nat → (Nat → Int32) × Nat
  | 0 => (T, L)
  | d + 1 => zr_st U S Z c (n - 1 - d) (zr_T U S Z c n T L d)
/-- the text when the names from m on are replaced -/
noncomputable def zr_R (U : Nat → Prop) (S Z : Nat → Nat) (c : Int32) (n : Nat) (T : Nat → Int32) (L m : Nat) : (Nat → Int32) × Nat := zr_T U S Z c n T L (n - m)
section
variable {U : Nat → Prop} {S Z : Nat → Nat} {c : Int32} {n L m : Nat} {T : Nat → Int32}
theorem zr_Rn : zr_R U S Z c n T L n = (T, L) := by unfold zr_R; rw [Nat.sub_self]; rfl
theorem zr_Rs (hm : m < n) : zr_R U S Z c n T L m = zr_st U S Z c m (zr_R U S Z c n T L (m + 1)) := by
  unfold zr_R
  have e : n - m = (n - (m + 1)) + 1 := by omega
  have e2 : n - 1 - (n - (m + 1)) = m := by omega
  rw [e]
  show zr_st U S Z c (n - 1 - (n - (m + 1))) _ = _
  rw [e2]
theorem zr_R0 (hm : m < n) (h : ¬ U m) : zr_R U S Z c n T L m = zr_R U S Z c n T L (m + 1) := by
  rw [zr_Rs hm]; unfold zr_st; rw [if_neg h]
theorem zr_R1 (hm : m < n) (h : U m) : zr_R U S Z c n T L m = (xf_del (upd (zr_R U S Z c n T L (m + 1)).1 (S m) c) (S m + 1) (Z m - 1) (zr_R U S Z c n T L (m + 1)).2, (zr_R U S Z c n T L (m + 1)).2 - (Z m - 1)) := by
  rw [zr_Rs hm]; unfold zr_st; rw [if_pos h]
/-- names stand where they stood, while those behind them are replaced -/
theorem zr_RL {C : Nat → Nat} {K : Nat → Nat} (hTok : qb_Tok C L n S Z K) : ∀ d, d ≤ n → S (n - d) ≤ (zr_R U S Z c n T L (n - d)).2 ∧ (zr_R U S Z c n T L (n - d)).2 ≤ L := by
  intro d
  induction d with
  | zero =>
    intro _
    rw [Nat.sub_zero, zr_Rn]
    exact ⟨Nat.le_of_eq hTok.2.1, Nat.le_refl _⟩
  | succ d ih =>
    intro hd
    obtain ⟨a, b⟩ := ih (by omega)
    have hm : n - (d + 1) < n := by omega
    have e : n - (d + 1) + 1 = n - d := by omega
    have s1 := qb_SS hTok (i := n - (d + 1)) (j := n - d) (by omega) (by omega)
    have s2 := qb_SZ hTok hm
    by_cases h : U (n - (d + 1))
    · rw [zr_R1 hm h, e]
      dsimp only
      omega
    · rw [zr_R0 hm h, e]
      omega
theorem zr_RLm {C : Nat → Nat} {K : Nat → Nat} (hTok : qb_Tok C L n S Z K) (hm : m ≤ n) : S m ≤ (zr_R U S Z c n T L m).2 ∧ (zr_R U S Z c n T L m).2 ≤ L := by
  have := zr_RL (U := U) (c := c) (T := T) hTok (n - m) (by omega)
  have e : n - (n - m) = m := by omega
  rw [e] at this
  exact this
end
theorem zr_comm {T : Nat → Int32} {s w L : Nat} {c : Int32} : upd (xf_del T (s + 1) w L) s c = xf_del (upd T s c) (s + 1) w L := by
  funext j
  unfold xf_del
  by_cases e : j = s
  · rw [e, pk_us, qa_ow_lo (by omega), pk_us]
  · rw [pk_un e]
    by_cases h : s + 1 ≤ j ∧ j < s + 1 + (L - (s + 1 + w))
    · rw [qa_ow_in h.1 h.2, qa_ow_in h.1 h.2, pk_un (by omega)]
    · show (if s + 1 ≤ j ∧ j < s + 1 + (L - (s + 1 + w)) then _ else T j) = if s + 1 ≤ j ∧ j < s + 1 + (L - (s + 1 + w)) then _ else upd T s c j
      rw [if_neg h, if_neg h, pk_un e]
def zr_J (L n G mk : Nat) (f_isStudied f_loose : Int32) (a_text a_tokenKind a_tokenStart a_tokenSize a_code a_meantMark a_first a_size a_endKind a_sort a_codeSize a_isRead a_hasValue a_isKnown a_value a_mark a_meant a_block a_around a_nesting : Nat → Int32) : Prop := ∃ S Z K F Q H, qe_XI L n G mk S Z K F Q H a_text a_tokenKind a_tokenStart a_tokenSize a_code a_meantMark a_first a_size a_endKind a_sort a_codeSize a_isRead a_hasValue a_isKnown a_value a_mark ∧ (f_isStudied = 0 ∨ (f_isStudied = 1 ∧ xm_St G S Z K F Q f_loose a_text a_endKind a_meant a_sort a_block a_isKnown a_value a_around a_nesting))
section
variable {f_length f_tokens f_fresh f_stretches f_marks f_blocks f_loose f_isStudied f_height f_chosen : Int32} {a_text a_tokenKind a_tokenStart a_tokenSize a_code a_meant a_meantMark a_freshKind a_freshStart a_freshSize a_first a_size a_endKind a_sort a_codeSize a_isRead a_block a_hasValue a_isKnown a_value a_mark a_around a_nesting a_pile a_chosenStart a_chosenSize : Nat → Int32}
variable {U : Nat → Prop} {S Z K : Nat → Nat} {c n L mk0 : Nat} {post : Int32 → SX → Prop} {T : Nat → Int32} {C : Nat → Nat}
theorem zr_106 (hTok : qb_Tok C L n S Z K) (hL : L ≤ 80) (hc : c ≤ 18) (hcs : ∀ t, t < n → U t → a_chosenStart (zr_ct U t) = nI (S t) ∧ a_chosenSize (zr_ct U t) = nI (Z t))
    (h : ∀ (n' G' mk' : Nat) (f_fresh f_blocks f_loose f_isStudied f_height : Int32) (a_tokenKind a_tokenStart a_tokenSize a_code a_meant a_meantMark a_freshKind a_freshStart a_freshSize a_first a_size a_endKind a_sort a_codeSize a_isRead a_block a_hasValue a_isKnown a_value a_mark a_around a_nesting a_pile : Nat → Int32), mk' ≤ mk0 + 162 * n → zr_J (zr_R U S Z (nI c) n T L 0).2 n' G' mk' f_isStudied f_loose ((zr_R U S Z (nI c) n T L 0).1) a_tokenKind a_tokenStart a_tokenSize a_code a_meantMark a_first a_size a_endKind a_sort a_codeSize a_isRead a_hasValue a_isKnown a_value a_mark a_meant a_block a_around a_nesting → post (nI (zr_ct U n)) (nI (zr_R U S Z (nI c) n T L 0).2, nI n', f_fresh, nI G', nI mk', f_blocks, f_loose, f_isStudied, f_height, nI (zr_ct U n), (zr_R U S Z (nI c) n T L 0).1, a_tokenKind, a_tokenStart, a_tokenSize, a_code, a_meant, a_meantMark, a_freshKind, a_freshStart, a_freshSize, a_first, a_size, a_endKind, a_sort, a_codeSize, a_isRead, a_block, a_hasValue, a_isKnown, a_value, a_mark, a_around, a_nesting, a_pile, a_chosenStart, a_chosenSize)) :
    ∀ (m d n' G' mk' : Nat) (f_fresh f_blocks f_loose f_isStudied f_height : Int32) (a_tokenKind a_tokenStart a_tokenSize a_code a_meant a_meantMark a_freshKind a_freshStart a_freshSize a_first a_size a_endKind a_sort a_codeSize a_isRead a_block a_hasValue a_isKnown a_value a_mark a_around a_nesting a_pile : Nat → Int32), m ≤ n → zr_ct U m < d → mk' ≤ mk0 + 162 * (n - m) → zr_J (zr_R U S Z (nI c) n T L m).2 n' G' mk' f_isStudied f_loose ((zr_R U S Z (nI c) n T L m).1) a_tokenKind a_tokenStart a_tokenSize a_code a_meantMark a_first a_size a_endKind a_sort a_codeSize a_isRead a_hasValue a_isKnown a_value a_mark a_meant a_block a_around a_nesting → wX_rename_106 post (nI c) d (nI (zr_ct U m) - 1) (nI (zr_R U S Z (nI c) n T L m).2) (nI n') f_fresh (nI G') (nI mk') f_blocks f_loose f_isStudied f_height (nI (zr_ct U n)) ((zr_R U S Z (nI c) n T L m).1) a_tokenKind a_tokenStart a_tokenSize a_code a_meant a_meantMark a_freshKind a_freshStart a_freshSize a_first a_size a_endKind a_sort a_codeSize a_isRead a_block a_hasValue a_isKnown a_value a_mark a_around a_nesting a_pile a_chosenStart a_chosenSize := by
  have hn : n ≤ 80 := Nat.le_trans (qb_nL hTok) hL
  intro m
  induction m with
  | zero =>
    intro d n' G' mk' f_fresh f_blocks f_loose f_isStudied f_height a_tokenKind a_tokenStart a_tokenSize a_code a_meant a_meantMark a_freshKind a_freshStart a_freshSize a_first a_size a_endKind a_sort a_codeSize a_isRead a_block a_hasValue a_isKnown a_value a_mark a_around a_nesting a_pile _ hd hmk hJ
    obtain ⟨d, rfl⟩ : ∃ d', d = d' + 1 := ⟨d - 1, by omega⟩
    rw [wX_rename_106]
    exact br_t (show nI 0 - 1 < 0 by decide) (h n' G' mk' f_fresh f_blocks f_loose f_isStudied f_height a_tokenKind a_tokenStart a_tokenSize a_code a_meant a_meantMark a_freshKind a_freshStart a_freshSize a_first a_size a_endKind a_sort a_codeSize a_isRead a_block a_hasValue a_isKnown a_value a_mark a_around a_nesting a_pile (by omega) hJ)
  | succ m ih =>
    intro d n' G' mk' f_fresh f_blocks f_loose f_isStudied f_height a_tokenKind a_tokenStart a_tokenSize a_code a_meant a_meantMark a_freshKind a_freshStart a_freshSize a_first a_size a_endKind a_sort a_codeSize a_isRead a_block a_hasValue a_isKnown a_value a_mark a_around a_nesting a_pile hm hd hmk hJ
    by_cases hU : U m
    · have ec := zr_ct1 hU
      have eR := zr_R1 (S := S) (Z := Z) (c := nI c) (L := L) (T := T) (show m < n by omega) hU
      have hct := zr_ct_le (U := U) m
      have hRL := zr_RLm (U := U) (c := nI c) (T := T) hTok hm
      have sS := qb_SS hTok (i := m) (j := m + 1) (by omega) hm
      have sZ := qb_SZ hTok (k := m) (by omega)
      obtain ⟨hs1, hs2⟩ := hcs m (by omega) hU
      rw [ec] at hd ⊢
      obtain ⟨d, rfl⟩ : ∃ d', d = d' + 1 := ⟨d - 1, by omega⟩
      have ihm := ih d
      rw [eR] at ihm
      generalize zr_R U S Z (nI c) n T L (m + 1) = R at *
      obtain ⟨RT, RL⟩ := R
      have hRL : S (m + 1) ≤ RL ∧ RL ≤ L := hRL
      have ck : (nI (zr_ct U m)).toNatClampNeg = zr_ct U m := nI_clamp (by omega)
      have vk : vp_in (nI (zr_ct U m)) 81 := pk_in (zr_ct U m) 81 (by omega)
      rw [wX_rename_106]
      dsimp only
      rw [nI_pred, ck, hs1, nI_clamp (by omega), xc_pm]
      refine br_f (nI_pos (by omega)) ⟨vk, pk_in (S m) 80 (by omega), nm_e ⟨vk, ?_⟩⟩
      obtain ⟨S1, Z1, K1, F1, Q1, H1, hX, _⟩ := hJ
      have hT : qb_Tx RT RL := hX.2.1
      refine xf_readTokens (T := RT) (L0 := RL) (L := RL) (p := S m) (came := 1) (gone := 1) ⟨S1, Z1, K1, F1, Q1, H1, hX⟩ (by omega) (xf_set_Tx hT hc) (xf_set_Ed (by omega)) (by decide) (fun n2 G2 mk2 f_fresh a_tokenKind a_tokenStart a_tokenSize a_code a_meant a_meantMark a_freshKind a_freshStart a_freshSize a_first a_size a_endKind a_sort a_codeSize a_isRead a_hasValue a_isKnown a_value a_mark m1 m2 => ⟨vk, ?_⟩)
      dsimp only
      rw [hs2]
      refine pk_le (Z m) 1 (fun z1 => nm_e ?_) (fun z1 => ⟨vk, vk, ?_⟩)
      · have e0 : Z m - 1 = 0 := by omega
        dsimp only at ihm
        rw [e0, xf_del0, Nat.sub_zero] at ihm
        obtain ⟨S2, Z2, K2, F2, Q2, H2, hX2⟩ := m2
        exact ihm n2 G2 mk2 f_fresh f_blocks f_loose 0 f_height a_tokenKind a_tokenStart a_tokenSize a_code a_meant a_meantMark a_freshKind a_freshStart a_freshSize a_first a_size a_endKind a_sort a_codeSize a_isRead a_block a_hasValue a_isKnown a_value a_mark a_around a_nesting a_pile (by omega) (by omega) (by omega) ⟨S2, Z2, K2, F2, Q2, H2, hX2, Or.inl rfl⟩
      · rw [hs1, nI_1 (S m), qa_s1 (n := Z m) (by omega)]
        refine xf_cut (p := S m + 1) (w := Z m - 1) m2 (by omega) (fun n3 G3 mk3 f_fresh a_tokenKind a_tokenStart a_tokenSize a_code a_meant a_meantMark a_freshKind a_freshStart a_freshSize a_first a_size a_endKind a_sort a_codeSize a_isRead a_hasValue a_isKnown a_value a_mark m3 m4 => nm_e ?_)
        obtain ⟨S2, Z2, K2, F2, Q2, H2, hX2⟩ := m4
        exact ihm n3 G3 mk3 f_fresh f_blocks f_loose 0 f_height a_tokenKind a_tokenStart a_tokenSize a_code a_meant a_meantMark a_freshKind a_freshStart a_freshSize a_first a_size a_endKind a_sort a_codeSize a_isRead a_block a_hasValue a_isKnown a_value a_mark a_around a_nesting a_pile (by omega) (by omega) (by omega) ⟨S2, Z2, K2, F2, Q2, H2, hX2, Or.inl rfl⟩
    · have ec := zr_ct0 hU
      have eR := zr_R0 (S := S) (Z := Z) (c := nI c) (L := L) (T := T) (show m < n by omega) hU
      rw [ec] at hd ⊢
      rw [← eR] at hJ ⊢
      exact ih d n' G' mk' f_fresh f_blocks f_loose f_isStudied f_height a_tokenKind a_tokenStart a_tokenSize a_code a_meant a_meantMark a_freshKind a_freshStart a_freshSize a_first a_size a_endKind a_sort a_codeSize a_isRead a_block a_hasValue a_isKnown a_value a_mark a_around a_nesting a_pile (by omega) hd (by omega) hJ
end
end
section
/-! rename: X chooses, Y replaces; the owed row -/
def zr_U (n G : Nat) (K F Q : Nat → Nat) (E me : Nat → Int32) (g t : Nat) : Prop := t = F g ∨ ∃ a, a < G ∧ F a ≤ t ∧ t ≤ F a + Q a ∧ zz_C K F Q E a t ∧ me t = nI g
section
variable {f_length f_tokens f_fresh f_stretches f_marks f_blocks f_loose f_isStudied f_height f_chosen : Int32} {a_text a_tokenKind a_tokenStart a_tokenSize a_code a_meant a_meantMark a_freshKind a_freshStart a_freshSize a_first a_size a_endKind a_sort a_codeSize a_isRead a_block a_hasValue a_isKnown a_value a_mark a_around a_nesting a_pile a_chosenStart a_chosenSize : Nat → Int32}
variable {L n G mk g c : Nat} {S Z K F Q : Nat → Nat} {H : Int32 → Int32 × Int32}
theorem zr_choose {post : SX → Prop} {t ch : Nat} (ht : t < 81) (hc : ch < 81) (h : post (f_length, f_tokens, f_fresh, f_stretches, f_marks, f_blocks, f_loose, f_isStudied, f_height, nI (ch + 1), a_text, a_tokenKind, a_tokenStart, a_tokenSize, a_code, a_meant, a_meantMark, a_freshKind, a_freshStart, a_freshSize, a_first, a_size, a_endKind, a_sort, a_codeSize, a_isRead, a_block, a_hasValue, a_isKnown, a_value, a_mark, a_around, a_nesting, a_pile, upd a_chosenStart ch (a_tokenStart t), upd a_chosenSize ch (a_tokenSize t))) : wpX_choose post (f_length, f_tokens, f_fresh, f_stretches, f_marks, f_blocks, f_loose, f_isStudied, f_height, nI ch, a_text, a_tokenKind, a_tokenStart, a_tokenSize, a_code, a_meant, a_meantMark, a_freshKind, a_freshStart, a_freshSize, a_first, a_size, a_endKind, a_sort, a_codeSize, a_isRead, a_block, a_hasValue, a_isKnown, a_value, a_mark, a_around, a_nesting, a_pile, a_chosenStart, a_chosenSize) (nI t) := by
  have vt : vp_in (nI t) 81 := pk_in t 81 ht
  have vc : vp_in (nI ch) 81 := pk_in ch 81 hc
  have ct : (nI t).toNatClampNeg = t := nI_clamp (by omega)
  have cc : (nI ch).toNatClampNeg = ch := nI_clamp (by omega)
  unfold wpX_choose
  dsimp only
  rw [ct, cc]
  exact ⟨vt, vc, nm_e ⟨vt, vc, nm_e (nm_r (nI_1 ch) h)⟩⟩
theorem zr_U_lo (h2 : qe_XI L n G mk S Z K F Q H a_text a_tokenKind a_tokenStart a_tokenSize a_code a_meantMark a_first a_size a_endKind a_sort a_codeSize a_isRead a_hasValue a_isKnown a_value a_mark) (hs : xm_St G S Z K F Q f_loose a_text a_endKind a_meant a_sort a_block a_isKnown a_value a_around a_nesting) (hg : g < G) : ∀ j, j < F g → ¬ zr_U n G K F Q a_endKind a_meant g j := by
  obtain ⟨x1, x2, x3, x4, x5, x6, x7, x8, x9, x10, x11⟩ := h2
  have hn : n ≤ 80 := Nat.le_trans (qb_nL x3) x1
  have hG := qc_G x5
  intro j hj hU
  rcases hU with e | ⟨a, ha, a1, a2, hC, e⟩
  · omega
  · have hag : a < g := by
      refine Nat.lt_of_not_le (fun z => ?_)
      by_cases y : a = g
      · rw [y] at a1; omega
      · have := qc_lt x5 (show g < a by omega) ha; omega
    rcases qf_lk_b (zz_Clk x5 ha a1 (hs.2.2 a ha) hC) with y | ⟨k, hk, y⟩
    · rw [e] at y; exact qa_ne1 (by omega) y
    · rw [e] at y
      have := (nI_eq (by omega) (by omega)).mp y
      omega
theorem zr_57 {post : Int32 → SX → Prop} {x2 : Int32} (h2 : qe_XI L n G mk S Z K F Q H a_text a_tokenKind a_tokenStart a_tokenSize a_code a_meantMark a_first a_size a_endKind a_sort a_codeSize a_isRead a_hasValue a_isKnown a_value a_mark) (hs : xm_St G S Z K F Q f_loose a_text a_endKind a_meant a_sort a_block a_isKnown a_value a_around a_nesting) (hg : g < G)
    (hK : ∀ cs cz, (∀ t, t < n → zr_U n G K F Q a_endKind a_meant g t → cs (zr_ct (zr_U n G K F Q a_endKind a_meant g) t) = nI (S t) ∧ cz (zr_ct (zr_U n G K F Q a_endKind a_meant g) t) = nI (Z t)) → ∃ n106 : Nat, wX_rename_106 post x2 n106 (nI (zr_ct (zr_U n G K F Q a_endKind a_meant g) n) - 1) f_length (nI n) f_fresh f_stretches f_marks f_blocks f_loose f_isStudied f_height (nI (zr_ct (zr_U n G K F Q a_endKind a_meant g) n)) a_text a_tokenKind a_tokenStart a_tokenSize a_code a_meant a_meantMark a_freshKind a_freshStart a_freshSize a_first a_size a_endKind a_sort a_codeSize a_isRead a_block a_hasValue a_isKnown a_value a_mark a_around a_nesting a_pile cs cz) :
    ∀ d t cs cz, t + d = n → F g < t → (∀ j, j < t → zr_U n G K F Q a_endKind a_meant g j → cs (zr_ct (zr_U n G K F Q a_endKind a_meant g) j) = nI (S j) ∧ cz (zr_ct (zr_U n G K F Q a_endKind a_meant g) j) = nI (Z j)) → wX_rename_57 post x2 (nI g) (d + 1) (nI t) f_length (nI n) f_fresh f_stretches f_marks f_blocks f_loose f_isStudied f_height (nI (zr_ct (zr_U n G K F Q a_endKind a_meant g) t)) a_text a_tokenKind a_tokenStart a_tokenSize a_code a_meant a_meantMark a_freshKind a_freshStart a_freshSize a_first a_size a_endKind a_sort a_codeSize a_isRead a_block a_hasValue a_isKnown a_value a_mark a_around a_nesting a_pile cs cz := by
  obtain ⟨x1, x2', x3, x4, x5, x6, x7, x8, x9, x10, x11⟩ := h2
  have hn : n ≤ 80 := Nat.le_trans (qb_nL x3) x1
  have hG := qc_G x5
  intro d
  induction d with
  | zero =>
    intro t cs cz ht hF hcs
    obtain rfl : t = n := by omega
    rw [wX_rename_57]
    exact br_t (nI_le (Nat.le_refl _) (by omega)) (nm_e (hK cs cz hcs))
  | succ d ih =>
    intro t cs cz ht hF hcs
    rw [wX_rename_57]
    refine br_f (nI_ge (by omega) (by omega)) ?_
    refine zx_stretchAt x5 hn (by omega) x6 (fun a ha a1 a2 => ?_)
    have hct := zr_ct_le (U := zr_U n G K F Q a_endKind a_meant g) t
    have hno : ¬ zr_U n G K F Q a_endKind a_meant g t → wX_rename_57 post x2 (nI g) (d + 1) (nI (t + 1)) f_length (nI n) f_fresh f_stretches f_marks f_blocks f_loose f_isStudied f_height (nI (zr_ct (zr_U n G K F Q a_endKind a_meant g) t)) a_text a_tokenKind a_tokenStart a_tokenSize a_code a_meant a_meantMark a_freshKind a_freshStart a_freshSize a_first a_size a_endKind a_sort a_codeSize a_isRead a_block a_hasValue a_isKnown a_value a_mark a_around a_nesting a_pile cs cz := by
      intro hU
      have z := ih (t + 1) cs cz (by omega) (by omega) (fun j hj hUj => hcs j (by
        by_cases e : j = t
        · rw [e] at hUj; exact absurd hUj hU
        · omega) hUj)
      rw [zr_ct0 hU] at z
      exact z
    have hiff : zr_U n G K F Q a_endKind a_meant g t ↔ (zz_C K F Q a_endKind a t ∧ a_meant t = nI g) := by
      constructor
      · intro hU
        rcases hU with e | ⟨b, hb, b1, b2, hC, e⟩
        · omega
        · obtain rfl := qc_uniq x5 ha hb a1 a2 b1 b2
          exact ⟨hC, e⟩
      · intro z; exact Or.inr ⟨a, ha, a1, a2, z.1, z.2⟩
    refine zx_meansNow x5 hn (fun t ht => ⟨(x4 t ht).1, (qb_SZ x3 ht).2.2⟩) x6 (fun g hg => (hs.2.2 g hg).1) ha (by omega) a1 a2 (fun hC => ?_) (fun hC => ?_)
    · refine br_c (fun e => ?_) (fun e => nm_r (nI_1 t) (hno (fun z => e (hiff.mp z).2)))
      have hU := hiff.mpr ⟨hC, e⟩
      refine zr_choose (by omega) (by omega) (nm_r (nI_1 t) ?_)
      have hx := x4 t (by omega)
      rw [hx.2.1, hx.2.2]
      have z := ih (t + 1) (upd cs (zr_ct (zr_U n G K F Q a_endKind a_meant g) t) (nI (S t))) (upd cz (zr_ct (zr_U n G K F Q a_endKind a_meant g) t) (nI (Z t))) (by omega) (by omega) (fun j hj hUj => ?_)
      · rw [zr_ct1 hU] at z
        exact z
      · by_cases e : j = t
        · rw [e, pk_us, pk_us]; exact ⟨rfl, rfl⟩
        · have hlt : zr_ct (zr_U n G K F Q a_endKind a_meant g) j < zr_ct (zr_U n G K F Q a_endKind a_meant g) t := by
            have y1 := zr_ct1 hUj
            have y2 := zr_ct_mono (U := zr_U n G K F Q a_endKind a_meant g) (j + 1) (t - (j + 1))
            have e2 : j + 1 + (t - (j + 1)) = t := by omega
            rw [e2] at y2
            omega
          rw [pk_un (by omega), pk_un (by omega)]
          exact hcs j (by omega) hUj
    · refine br_f (fun z => qa_ne1 (by omega) z.symm) (nm_r (nI_1 t) (hno (fun z => hC (hiff.mp z).1)))
end
section
variable {g_length g_tokenCount g_itemCount g_blockCount g_looseCount g_numberCount g_operatorCount : Int32} {b_text b_kinds b_starts b_ends b_owners b_meant b_firsts b_lasts b_sorts b_blocks b_knowns b_values b_around b_depths b_compared b_numbers b_operators : Nat → Int32}
variable {L n G g : Nat} {S Z K F Q : Nat → Nat} {E me kn vl : Nat → Int32} {c : Int32} {T : Nat → Int32} {C : Nat → Nat} {post : Int32 → SY → Prop} {U : Nat → Prop}
theorem zr_50 (hTok : qb_Tok C L n S Z K) (hL : L ≤ 80) (hR : yh_R n G S Z K F Q E me kn vl b_kinds b_starts b_ends b_owners b_meant b_firsts b_lasts b_sorts b_blocks b_knowns b_values b_around b_depths) (hg : g < G) (hq : Q g ≠ 0) (hig : yc_it Q g < 80) (hF : F g < 1000) (hU : ∀ t, t < n → (U t ↔ (t = F g ∨ b_meant t = nI (yc_it Q g))))
    (h : post (nI (zr_ct U n)) (nI (zr_R U S Z c n T L 0).2, g_tokenCount, g_itemCount, g_blockCount, g_looseCount, g_numberCount, g_operatorCount, (zr_R U S Z c n T L 0).1, b_kinds, b_starts, b_ends, b_owners, b_meant, b_firsts, b_lasts, b_sorts, b_blocks, b_knowns, b_values, b_around, b_depths, b_compared, b_numbers, b_operators)) :
    ∀ m d, m ≤ n → m < d → wY_rename_50 post (nI (yc_it Q g)) c d (nI (zr_ct U n - zr_ct U m)) (nI m - 1) (nI (zr_R U S Z c n T L m).2) g_tokenCount g_itemCount g_blockCount g_looseCount g_numberCount g_operatorCount ((zr_R U S Z c n T L m).1) b_kinds b_starts b_ends b_owners b_meant b_firsts b_lasts b_sorts b_blocks b_knowns b_values b_around b_depths b_compared b_numbers b_operators := by
  have hn : n ≤ 80 := Nat.le_trans (qb_nL hTok) hL
  have ci : (nI (yc_it Q g)).toNatClampNeg = yc_it Q g := nI_clamp (by omega)
  have vi : vp_in (nI (yc_it Q g)) 80 := pk_in (yc_it Q g) 80 hig
  have hfi := (hR.2.1.1 g hg hq).1
  intro m
  induction m with
  | zero =>
    intro d _ hd
    obtain ⟨d, rfl⟩ : ∃ d', d = d' + 1 := ⟨d - 1, by omega⟩
    rw [wY_rename_50]
    exact br_t (show nI 0 - 1 < 0 by decide) h
  | succ m ih =>
    intro d hm hd
    obtain ⟨d, rfl⟩ : ∃ d', d = d' + 1 := ⟨d - 1, by omega⟩
    have cm : (nI m).toNatClampNeg = m := nI_clamp (by omega)
    have vm : vp_in (nI m) 80 := pk_in m 80 (by omega)
    have hU' := hU m (by omega)
    rw [wY_rename_50]
    dsimp only
    rw [nI_pred, ci, cm, hfi, xc_pm]
    have hyes : U m → wY_rename_77 post (wY_rename_50 post (nI (yc_it Q g)) c d) (nI (yc_it Q g)) c (nI (zr_ct U n - zr_ct U (m + 1))) (nI m) (nI (zr_R U S Z c n T L (m + 1)).2) g_tokenCount g_itemCount g_blockCount g_looseCount g_numberCount g_operatorCount ((zr_R U S Z c n T L (m + 1)).1) b_kinds b_starts b_ends b_owners b_meant b_firsts b_lasts b_sorts b_blocks b_knowns b_values b_around b_depths b_compared b_numbers b_operators := by
      intro hUm
      have eR := zr_R1 (S := S) (Z := Z) (c := c) (L := L) (T := T) (show m < n by omega) hUm
      have hRL := zr_RLm (U := U) (c := c) (T := T) hTok hm
      have sS := qb_SS hTok (i := m) (j := m + 1) (by omega) hm
      have sZ := qb_SZ hTok (k := m) (by omega)
      have ec := zr_ct1 hUm
      have hmono := zr_ct_mono (U := U) (m + 1) (n - (m + 1))
      have e2 : m + 1 + (n - (m + 1)) = n := by omega
      rw [e2] at hmono
      have ihm := ih d (by omega) (by omega)
      rw [eR] at ihm
      generalize zr_R U S Z c n T L (m + 1) = R at *
      obtain ⟨RT, RL⟩ := R
      have hRL : S (m + 1) ≤ RL ∧ RL ≤ L := hRL
      have hr := hR.1 m (by omega)
      unfold wY_rename_77
      dsimp only
      rw [cm, hr.2.1, hr.2.2, nI_1 (S m), pk_sub (by omega), Nat.add_sub_cancel_left, qa_s1 (n := Z m) (by omega)]
      refine ⟨vm, vm, vm, ?_⟩
      refine yi_takeOut (L := RL) (p := S m + 1) (w := Z m - 1) (by omega) (by omega) ?_
      refine ⟨vm, ?_⟩
      dsimp only
      rw [hr.2.1, nI_clamp (by omega), zr_comm]
      have e3 : zr_ct U n - zr_ct U (m + 1) + 1 = zr_ct U n - zr_ct U m := by omega
      refine ⟨pk_in (S m) 81 (by omega), nm_e (nm_r (e' := nI (zr_ct U n - zr_ct U m)) (by rw [nI_1, e3]) (nm_r (xc_pm _) ihm))⟩
    have hno : ¬ U m → wY_rename_50 post (nI (yc_it Q g)) c d (nI (zr_ct U n - zr_ct U (m + 1))) (nI m - 1) (nI (zr_R U S Z c n T L (m + 1)).2) g_tokenCount g_itemCount g_blockCount g_looseCount g_numberCount g_operatorCount ((zr_R U S Z c n T L (m + 1)).1) b_kinds b_starts b_ends b_owners b_meant b_firsts b_lasts b_sorts b_blocks b_knowns b_values b_around b_depths b_compared b_numbers b_operators := by
      intro hUm
      have ihm := ih d (by omega) (by omega)
      rw [zr_R0 (show m < n by omega) hUm] at ihm
      rw [zr_ct0 hUm]
      exact ihm
    refine br_f (nI_pos (by omega)) ⟨vi, ?_⟩
    refine pk_eq m (F g) (fun e => hyes (hU'.mpr (Or.inl e))) (fun e => ⟨vm, ?_⟩)
    exact br_c (fun y => hyes (hU'.mpr (Or.inr y))) (fun y => nm_e (hno (fun z => (hU'.mp z).elim e y)))
end
end
section
/-! the owed row: rename -/
theorem zr_UY {n G g : Nat} {T : Nat → Int32} {S Z K F Q : Nat → Nat} {E me so kn vl : Nat → Int32} {b_kinds b_starts b_ends b_owners b_meant b_firsts b_lasts b_sorts b_blocks b_knowns b_values b_around b_depths : Nat → Int32} (hS : qc_Str n K G F Q E) (hG : G ≤ 81) (hD : ∀ g, g < G → qg_Dn T S Z K F Q E G me so kn vl g) (hR : yh_R n G S Z K F Q E me kn vl b_kinds b_starts b_ends b_owners b_meant b_firsts b_lasts b_sorts b_blocks b_knowns b_values b_around b_depths) (hg : g < G) (hq : Q g ≠ 0) :
    ∀ t, t < n → (zr_U n G K F Q E me g t ↔ (t = F g ∨ b_meant t = nI (yc_it Q g))) := by
  intro t ht
  obtain ⟨a, ha, a1, a2⟩ := qc_find hS (show t ≤ n by omega)
  have he := zz_eqm hS hG (hD a ha) hR hg hq ha ht a1 a2
  constructor
  · intro hU
    rcases hU with e | ⟨b, hb, b1, b2, hC, e⟩
    · exact Or.inl e
    · obtain rfl := qc_uniq hS ha hb a1 a2 b1 b2
      exact Or.inr (he.mpr ⟨hC, e⟩)
  · intro z
    rcases z with e | e
    · exact Or.inl e
    · exact Or.inr ⟨a, ha, a1, a2, (he.mp e).1, (he.mp e).2⟩
theorem i_vc_rename {k : Nat} {u : SX} {v : SY} (I : i_Rel k u v) (hk : k + 5 ≤ 2560) (v1 : Int32) (v2 : Int32) : wpX_rename (fun r u' => wpY_rename (fun r' v' => r' = r ∧ i_Rel (k + 5) u' v') v v1 v2) u v1 v2 := by
  refine zz_el (P := fun u v => wpX_rename (fun r u' => wpY_rename (fun r' v' => r' = r ∧ i_Rel (k + 5) u' v') v v1 v2) u v1 v2) ?_ I
  intro L n G mk S Z K F Q H f_fresh f_blocks f_loose f_isStudied f_height f_chosen a_text a_tokenKind a_tokenStart a_tokenSize a_code a_meant a_meantMark a_freshKind a_freshStart a_freshSize a_first a_size a_endKind a_sort a_codeSize a_isRead a_block a_hasValue a_isKnown a_value a_mark a_around a_nesting a_pile a_chosenStart a_chosenSize g_tokenCount g_itemCount g_blockCount g_looseCount g_numberCount g_operatorCount b_kinds b_starts b_ends b_owners b_meant b_firsts b_lasts b_sorts b_blocks b_knowns b_values b_around b_depths b_compared b_numbers b_operators h1 h2 h3
  have h2' := h2
  obtain ⟨x1, x2, x3, x4, x5, x6, ⟨x7, x7b, x7c⟩, x8, x9, x10, x11⟩ := h2'
  have hn : n ≤ 80 := Nat.le_trans (qb_nL x3) x1
  have hG := qc_G x5
  have same : i_Rel (k + 5) (nI L, nI n, f_fresh, nI G, nI mk, f_blocks, f_loose, f_isStudied, f_height, f_chosen, a_text, a_tokenKind, a_tokenStart, a_tokenSize, a_code, a_meant, a_meantMark, a_freshKind, a_freshStart, a_freshSize, a_first, a_size, a_endKind, a_sort, a_codeSize, a_isRead, a_block, a_hasValue, a_isKnown, a_value, a_mark, a_around, a_nesting, a_pile, a_chosenStart, a_chosenSize) (nI L, g_tokenCount, g_itemCount, g_blockCount, g_looseCount, g_numberCount, g_operatorCount, a_text, b_kinds, b_starts, b_ends, b_owners, b_meant, b_firsts, b_lasts, b_sorts, b_blocks, b_knowns, b_values, b_around, b_depths, b_compared, b_numbers, b_operators) := zz_mk (by omega) h2 h3
  unfold wpX_rename
  dsimp only
  by_cases c0 : v2 < 0
  · exact br_t c0 (br_t rfl (br_t c0 ⟨rfl, same⟩))
  · obtain ⟨c, hc, rfl⟩ := nI_of c0
    by_cases c4 : 4 < c
    · exact br_f c0 (br_t (nI_lt (a := 4) c4 (by omega)) (br_t rfl (br_f c0 (br_f (nI_ge (a := 4) c4 (by omega)) ⟨rfl, same⟩))))
    · have y4 : nI c ≤ 4 := nI_le (b := 4) (by omega) (by decide)
      refine br_f c0 (br_f (nI_nlt (a := 4) (by omega) (by decide)) (br_f (by decide) ?_))
      refine zx_stretchOf (by omega) h2 h3 (fun mk' H' f_blocks f_loose f_height a_code a_meant a_meantMark a_sort a_codeSize a_isRead a_block a_hasValue a_isKnown a_value a_mark a_around a_nesting a_pile m1 m2 m3 => ⟨fun g hg hq hi => ?_, fun hno => ?_⟩)
      · have cg : (nI g).toNatClampNeg = g := nI_clamp (by omega)
        have vg : vp_in (nI g) 82 := pk_in g 82 (by omega)
        have hlt := yc_it_lt hg hq
        have hle := yc_it_le (Q := Q) g
        have hgF := qc_gF x5 g hg
        have hFQ := qc_le x5 hg
        have hit := zz_it80 x5 hn
        have ci : (nI (yc_it Q g)).toNatClampNeg = yc_it Q g := nI_clamp (by omega)
        have vi : vp_in (nI (yc_it Q g)) 80 := pk_in (yc_it Q g) 80 (by omega)
        obtain ⟨d1, d2, d3⟩ := m3.2.2 g hg
        have hsl : qg_sr K F Q a_endKind g ≤ 3 := qd_srt_le
        refine br_f (qa_ne1 (by omega)) ⟨vg, ?_⟩
        dsimp only
        rw [cg, (x6 g hg).1]
        subst hi
        have i0 : ¬ nI (yc_it Q g) < 0 := nI_pos (by omega)
        refine pk_eq (qg_sr K F Q a_endKind g) 2 (fun e2 => ⟨vg, ?_⟩) (fun e2 => ?_) d1
        · have hUlo := zr_U_lo m2 m3 hg
          have hct0 := zr_ct_none (U := zr_U n G K F Q a_endKind a_meant g) (F g) hUlo
          have hUg : zr_U n G K F Q a_endKind a_meant g (F g) := Or.inl rfl
          have hct1 := zr_ct1 hUg
          rw [hct0] at hct1
          refine zr_choose (ch := 0) (by omega) (by omega) ⟨vg, nm_r (e' := nI (F g)) ?_ ⟨n - (F g + 1) + 1 + 1, ?_⟩⟩
          · exact (x6 g hg).1
          · -- the first token of the definition itself means nothing
            rw [wX_rename_57]
            refine br_f (nI_ge (by omega) (by omega)) ?_
            refine zx_stretchAt x5 hn (by omega) x6 (fun a ha a1 a2 => ?_)
            obtain rfl := qc_uniq x5 hg ha (Nat.le_refl _) (Nat.le_add_right _ _) a1 a2
            have ef : qd_fr (qe_kf K (F g) (Q g)) (Q g) = 2 := (qd_srt12 (Or.inr e2)).2.2.2.mp e2
            refine zx_meansNow x5 hn (fun t ht => ⟨(x4 t ht).1, (qb_SZ x3 ht).2.2⟩) x6 (fun g hg => (m3.2.2 g hg).1) hg (by omega) a1 a2 (fun hC => ?_) (fun hC => ?_)
            · have := hC.2.2.1; omega
            · refine br_f (fun z => qa_ne1 (by omega) z.symm) (nm_r (nI_1 (F g)) ?_)
              have hx := x4 (F g) (by omega)
              rw [hx.2.1, hx.2.2]
              have z57 := zr_57 (post := fun r u' => wpY_rename (fun r' v' => r' = r ∧ i_Rel (k + 5) u' v') (nI L, g_tokenCount, g_itemCount, g_blockCount, g_looseCount, g_numberCount, g_operatorCount, a_text, b_kinds, b_starts, b_ends, b_owners, b_meant, b_firsts, b_lasts, b_sorts, b_blocks, b_knowns, b_values, b_around, b_depths, b_compared, b_numbers, b_operators) (nI (yc_it Q g)) (nI c)) (x2 := nI c) m2 m3 hg (f_length := (nI L)) (f_fresh := f_fresh) (f_stretches := (nI G)) (f_marks := (nI mk')) (f_blocks := f_blocks) (f_loose := f_loose) (f_isStudied := 1) (f_height := f_height) (a_text := a_text) (a_tokenKind := a_tokenKind) (a_tokenStart := a_tokenStart) (a_tokenSize := a_tokenSize) (a_code := a_code) (a_meant := a_meant) (a_meantMark := a_meantMark) (a_freshKind := a_freshKind) (a_freshStart := a_freshStart) (a_freshSize := a_freshSize) (a_first := a_first) (a_size := a_size) (a_endKind := a_endKind) (a_sort := a_sort) (a_codeSize := a_codeSize) (a_isRead := a_isRead) (a_block := a_block) (a_hasValue := a_hasValue) (a_isKnown := a_isKnown) (a_value := a_value) (a_mark := a_mark) (a_around := a_around) (a_nesting := a_nesting) (a_pile := a_pile) (fun cs cz hcs => ?_) (n - (F g + 1)) (F g + 1) (upd a_chosenStart 0 (nI (S (F g)))) (upd a_chosenSize 0 (nI (Z (F g)))) (by omega) (by omega) (fun j hj hUj => ?_)
              · rw [hct1] at z57
                exact z57
              · refine ⟨zr_ct (zr_U n G K F Q a_endKind a_meant g) n + 1, ?_⟩
                have z106 := zr_106 (U := zr_U n G K F Q a_endKind a_meant g) (S := S) (Z := Z) (K := K) (c := c) (n := n) (L := L) (mk0 := mk') (T := a_text) (a_chosenStart := cs) (a_chosenSize := cz) (post := fun r u' => wpY_rename (fun r' v' => r' = r ∧ i_Rel (k + 5) u' v') (nI L, g_tokenCount, g_itemCount, g_blockCount, g_looseCount, g_numberCount, g_operatorCount, a_text, b_kinds, b_starts, b_ends, b_owners, b_meant, b_firsts, b_lasts, b_sorts, b_blocks, b_knowns, b_values, b_around, b_depths, b_compared, b_numbers, b_operators) (nI (yc_it Q g)) (nI c)) x3 x1 (by omega) hcs (fun n2 G2 mk2 f_fresh2 f_blocks2 f_loose2 f_isStudied2 f_height2 a_tokenKind2 a_tokenStart2 a_tokenSize2 a_code2 a_meant2 a_meantMark2 a_freshKind2 a_freshStart2 a_freshSize2 a_first2 a_size2 a_endKind2 a_sort2 a_codeSize2 a_isRead2 a_block2 a_hasValue2 a_isKnown2 a_value2 a_mark2 a_around2 a_nesting2 a_pile2 w1 w2 => ?_) n (zr_ct (zr_U n G K F Q a_endKind a_meant g) n + 1) n G mk' f_fresh f_blocks f_loose 1 f_height a_tokenKind a_tokenStart a_tokenSize a_code a_meant a_meantMark a_freshKind a_freshStart a_freshSize a_first a_size a_endKind a_sort a_codeSize a_isRead a_block a_hasValue a_isKnown a_value a_mark a_around a_nesting a_pile (Nat.le_refl n) (by omega) (by omega)
                · rw [zr_Rn] at z106
                  exact z106 ⟨S, Z, K, F, Q, H', m2, Or.inr ⟨rfl, m3⟩⟩
                · unfold wpY_rename
                  dsimp only
                  refine br_f c0 (br_t y4 ?_)
                  refine zy_readS m2 m3 (fun nc oc b_kinds b_starts b_ends b_owners b_meant b_firsts b_lasts b_sorts b_blocks b_knowns b_values b_around b_depths b_compared b_numbers b_operators hR => br_f i0 (br_f (nI_ge hlt (by omega)) ⟨vi, br_t ?_ (nm_e ⟨n + 1, ?_⟩)⟩))
                  · dsimp only
                    rw [ci, (hR.2.1.1 g hg hq).2.2.1, e2]; rfl
                  · obtain ⟨S2, Z2, K2, F2, Q2, H2, hX2, hS2⟩ := w2
                    have z50 := zr_50 (U := zr_U n G K F Q a_endKind a_meant g) (c := nI c) (T := a_text) (post := fun r' v' => r' = nI (zr_ct (zr_U n G K F Q a_endKind a_meant g) n) ∧ i_Rel (k + 5) (nI (zr_R (zr_U n G K F Q a_endKind a_meant g) S Z (nI c) n a_text L 0).2, nI n2, f_fresh2, nI G2, nI mk2, f_blocks2, f_loose2, f_isStudied2, f_height2, nI (zr_ct (zr_U n G K F Q a_endKind a_meant g) n), (zr_R (zr_U n G K F Q a_endKind a_meant g) S Z (nI c) n a_text L 0).1, a_tokenKind2, a_tokenStart2, a_tokenSize2, a_code2, a_meant2, a_meantMark2, a_freshKind2, a_freshStart2, a_freshSize2, a_first2, a_size2, a_endKind2, a_sort2, a_codeSize2, a_isRead2, a_block2, a_hasValue2, a_isKnown2, a_value2, a_mark2, a_around2, a_nesting2, a_pile2, cs, cz) v') (g_tokenCount := nI n) (g_itemCount := nI (yc_it Q G)) (g_blockCount := nI ((qf_bl a_endKind G).2.1 - 1)) (g_looseCount := nI ((qf_bl a_endKind G).2.2.2.2 + (qf_bl a_endKind G).2.2.2.1 (qf_bl a_endKind G).1)) (g_numberCount := nc) (g_operatorCount := oc) (b_compared := b_compared) (b_numbers := b_numbers) (b_operators := b_operators) x3 x1 hR hg hq (by omega) (by omega) (zr_UY x5 (by omega) m3.2.2 hR hg hq) ⟨rfl, zz_mk (by omega) hX2 hS2⟩ n (n + 1) (Nat.le_refl n) (by omega)
                    rw [zr_Rn, Nat.sub_self] at z50
                    exact z50
              · have ej : j = F g := by
                  by_cases y : j = F g
                  · exact y
                  · exact absurd hUj (hUlo j (by omega))
                rw [ej, hct0, pk_us, pk_us]; exact ⟨rfl, rfl⟩
        · unfold wpY_rename
          dsimp only
          refine br_f c0 (br_t y4 ?_)
          refine zy_readS m2 m3 (fun nc oc b_kinds b_starts b_ends b_owners b_meant b_firsts b_lasts b_sorts b_blocks b_knowns b_values b_around b_depths b_compared b_numbers b_operators hR => br_f i0 (br_f (nI_ge hlt (by omega)) ⟨vi, br_f ?_ ⟨rfl, zz_mk (by omega) m2 (Or.inr ⟨rfl, m3⟩)⟩⟩))
          dsimp only
          rw [ci, (hR.2.1.1 g hg hq).2.2.1]
          exact qa_ne (b := 2) e2 (by omega) (by decide)
      · refine br_t rfl ?_
        have hle := yc_it_le (Q := Q) G
        unfold wpY_rename
        dsimp only
        refine br_f c0 (br_t y4 ?_)
        refine zy_readS m2 m3 (fun nc oc b_kinds b_starts b_ends b_owners b_meant b_firsts b_lasts b_sorts b_blocks b_knowns b_values b_around b_depths b_compared b_numbers b_operators hR => ?_)
        by_cases i0 : v1 < 0
        · exact br_t i0 ⟨rfl, zz_mk (by omega) m2 (Or.inr ⟨rfl, m3⟩)⟩
        · obtain ⟨j, hj, rfl⟩ := nI_of i0
          by_cases cc : j < yc_it Q G
          · obtain ⟨g, a, b, e⟩ := yc_it_ex G j cc
            exact absurd (congrArg nI e.symm) (hno g a b)
          · exact br_f i0 (br_t (nI_le (by omega) (by omega)) ⟨rfl, zz_mk (by omega) m2 (Or.inr ⟨rfl, m3⟩)⟩)
end
