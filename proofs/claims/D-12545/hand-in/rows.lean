section
/-! the pure picture: bits of a set of validators, the sum of stakes, support, justification, links; no program in sight -/
def qv_b (x : Int32) (v : Nat) : Bool := x.toBitVec.toNat.testBit v
theorem qv_su : ∀ n, n < 32 → (((nI n).toUInt32 &&& Int32.toUInt32 31).toBitVec % 32).toNat = n := by decide +kernel
theorem qv_sh : ∀ n, n < 32 → ((1 : Int32) <<< (nI n &&& 31)).toBitVec.toNat = 2 ^ n := by decide +kernel
/-- the printed test of a bit -/
theorem qv_tst (x : Int32) {v : Nat} (hv : v < 32) : ((x.toUInt32 >>> ((nI v).toUInt32 &&& Int32.toUInt32 31)).toInt32 &&& 1) = nI (qv_b x v).toNat := by
  rw [pk_and _ 1 (by decide), pk_ushr x (nI v) v (qv_su v hv)]
  unfold qv_b
  rw [Nat.testBit_eq_decide_div_mod_eq, Nat.pow_one]
  rcases Nat.mod_two_eq_zero_or_one (x.toBitVec.toNat / 2 ^ v) with h | h
  · rw [h]; rfl
  · rw [h]; rfl
/-- the printed setting of a bit -/
theorem qv_set (x : Int32) {v : Nat} (hv : v < 32) (w : Nat) : qv_b (x ||| ((1 : Int32) <<< (nI v &&& 31))) w = (qv_b x w || decide (v = w)) := by
  unfold qv_b
  rw [Int32.toBitVec_or, BitVec.toNat_or, Nat.testBit_or, qv_sh v hv, Nat.testBit_two_pow]
theorem qv_b0 (v : Nat) : qv_b 0 v = false := by
  unfold qv_b
  exact Nat.zero_testBit v
/-- the sum of the stakes of the set x below n -/
def qv_st (a : Nat → Int32) (x : Int32) : Nat → Int32
  | 0 => 0
  | n + 1 => qv_st a x n + (if qv_b x n = true then a n else 0)
theorem qv_st_t {a : Nat → Int32} {x : Int32} {n : Nat} (h : qv_b x n = true) : qv_st a x (n + 1) = qv_st a x n + a n := by
  show qv_st a x n + (if qv_b x n = true then a n else 0) = _
  rw [if_pos h]
theorem qv_st_f {a : Nat → Int32} {x : Int32} {n : Nat} (h : qv_b x n = false) : qv_st a x (n + 1) = qv_st a x n + 0 := by
  show qv_st a x n + (if qv_b x n = true then a n else 0) = _
  rw [if_neg (by rw [h]; decide)]
theorem qv_st_0 (a : Nat → Int32) (x : Int32) : ∀ n, (∀ j, j < n → qv_b x j = false) → qv_st a x n = 0 := by
  intro n
  induction n with
  | zero => intro _; rfl
  | succ n ih =>
    intro h
    rw [qv_st_f (h n (by omega)), ih (fun j hj => h j (by omega))]
    rfl
/-- a validator without stake adds nothing -/
theorem qv_st_add {a : Nat → Int32} {v : Nat} (hv : v < 32) (ha : a v = 0) (x : Int32) : ∀ n, qv_st a (x ||| ((1 : Int32) <<< (nI v &&& 31))) n = qv_st a x n := by
  intro n
  induction n with
  | zero => rfl
  | succ n ih =>
    show qv_st a _ n + (if qv_b _ n = true then a n else 0) = qv_st a x n + (if qv_b x n = true then a n else 0)
    rw [ih, qv_set x hv]
    by_cases e : v = n
    · rw [← e, ha, ite_self, ite_self]
    · rw [decide_eq_false e, Bool.or_false]
/-- .. and with its stake back it adds that -/
theorem qv_st_back {a : Nat → Int32} {v : Nat} (hv : v < 32) (ha : a v = 0) (s : Int32) (x : Int32) : ∀ n, qv_st (upd a v s) (x ||| ((1 : Int32) <<< (nI v &&& 31))) n = qv_st a x n + (if v < n then s else 0) := by
  intro n
  induction n with
  | zero => rfl
  | succ n ih =>
    show qv_st (upd a v s) _ n + (if qv_b _ n = true then upd a v s n else 0) = qv_st a x n + (if qv_b x n = true then a n else 0) + _
    rw [ih, qv_set x hv]
    by_cases e : v = n
    · subst e
      rw [ha, ite_self, if_neg (Nat.lt_irrefl v), if_pos (by simp), pk_us, if_pos (Nat.lt_succ_self v)]
    · rw [decide_eq_false e, Bool.or_false, pk_un (fun z => e z.symm)]
      by_cases g : v < n
      · rw [if_pos g, if_pos (show v < n + 1 by omega)]
        generalize (if qv_b x n = true then a n else 0) = z
        generalize qv_st a x n = y
        grind
      · rw [if_neg g, if_neg (show ¬ v < n + 1 by omega)]
        generalize (if qv_b x n = true then a n else 0) = z
        generalize qv_st a x n = y
        grind
/-- stakes are small -/
def qv_A (a : Nat → Int32) : Prop := ∀ v, v < 8 → ∃ t : Nat, t ≤ 100 ∧ a v = nI t
theorem qv_st_nat {a : Nat → Int32} (h : qv_A a) (x : Int32) : ∀ n, n ≤ 8 → ∃ T : Nat, T ≤ 100 * n ∧ qv_st a x n = nI T := by
  intro n
  induction n with
  | zero => intro _; exact ⟨0, by omega, rfl⟩
  | succ n ih =>
    intro hn
    obtain ⟨T, hT, e⟩ := ih (by omega)
    obtain ⟨t, ht, e2⟩ := h n (by omega)
    cases hb : qv_b x n
    · rw [qv_st_f hb, e]
      exact ⟨T, by omega, nI_add T 0⟩
    · rw [qv_st_t hb, e, e2, nI_add]
      exact ⟨T + t, by omega, rfl⟩
/-- a link with the voters x is supported -/
def qv_sup (a : Nat → Int32) (x : Int32) : Prop := ¬ (3 * qv_st a x 8 ≤ 2 * qv_st a 255 8)
theorem qv_sup_add {a : Nat → Int32} {v : Nat} (hv : v < 32) (ha : a v = 0) (x : Int32) : qv_sup a (x ||| ((1 : Int32) <<< (nI v &&& 31))) ↔ qv_sup a x := by
  unfold qv_sup
  rw [qv_st_add hv ha]
theorem qv_sup_0 {a : Nat → Int32} (h : qv_A a) : ¬ qv_sup a 0 := by
  unfold qv_sup
  obtain ⟨T, hT, e⟩ := qv_st_nat h 255 8 (by omega)
  rw [qv_st_0 a 0 8 (fun j _ => qv_b0 j), e]
  intro z
  apply z
  show nI (3 * 0) ≤ nI 2 * nI T
  rw [pk_mul]
  exact nI_le (by omega) (by omega)
theorem qv_sup_new {a : Nat → Int32} (h : qv_A a) {v : Nat} (hv : v < 32) (ha : a v = 0) : ¬ qv_sup a (0 ||| ((1 : Int32) <<< (nI v &&& 31))) :=
  fun z => qv_sup_0 h ((qv_sup_add hv ha 0).mp z)
/-- an if over any proposition -/
noncomputable def qv_if {α : Type} (P : Prop) (x y : α) : α := @ite α P (Classical.propDecidable P) x y
theorem qv_if_t {α : Type} {P : Prop} (h : P) (x y : α) : qv_if P x y = x := @if_pos P (Classical.propDecidable P) h α x y
theorem qv_if_f {α : Type} {P : Prop} (h : ¬ P) (x y : α) : qv_if P x y = y := @if_neg P (Classical.propDecidable P) h α x y
/-- the justified checkpoints after the first k links -/
noncomputable def qv_J (a : Nat → Int32) (a6 a7 a8 : Nat → Int32) : Nat → (Nat → Int32)
  | 0 => fun c => if c = 0 then 1 else 0
  | k + 1 => qv_if (¬ qv_J a a6 a7 a8 k (a6 k).toNatClampNeg = 0 ∧ qv_sup a (a8 k)) (upd (qv_J a a6 a7 a8 k) (a7 k).toNatClampNeg 1) (qv_J a a6 a7 a8 k)
theorem qv_J_t {a a6 a7 a8 : Nat → Int32} {k : Nat} (h : ¬ qv_J a a6 a7 a8 k (a6 k).toNatClampNeg = 0) (h2 : qv_sup a (a8 k)) : qv_J a a6 a7 a8 (k + 1) = upd (qv_J a a6 a7 a8 k) (a7 k).toNatClampNeg 1 :=
  qv_if_t ⟨h, h2⟩ _ _
theorem qv_J_f {a a6 a7 a8 : Nat → Int32} {k : Nat} (h : ¬ (¬ qv_J a a6 a7 a8 k (a6 k).toNatClampNeg = 0 ∧ qv_sup a (a8 k))) : qv_J a a6 a7 a8 (k + 1) = qv_J a a6 a7 a8 k :=
  qv_if_f h _ _
/-- one step of it, seen from two places -/
theorem qv_J_st {a a6 a7 a8 b6 b7 b8 : Nat → Int32} {k l : Nat} (h : qv_J a b6 b7 b8 l = qv_J a a6 a7 a8 k) (h6 : b6 l = a6 k) (h7 : b7 l = a7 k) (h8 : qv_sup a (b8 l) ↔ qv_sup a (a8 k)) : qv_J a b6 b7 b8 (l + 1) = qv_J a a6 a7 a8 (k + 1) := by
  show qv_if (¬ qv_J a b6 b7 b8 l (b6 l).toNatClampNeg = 0 ∧ qv_sup a (b8 l)) (upd (qv_J a b6 b7 b8 l) (b7 l).toNatClampNeg 1) (qv_J a b6 b7 b8 l) = qv_if (¬ qv_J a a6 a7 a8 k (a6 k).toNatClampNeg = 0 ∧ qv_sup a (a8 k)) (upd (qv_J a a6 a7 a8 k) (a7 k).toNatClampNeg 1) (qv_J a a6 a7 a8 k)
  rw [h, h6, h7, propext h8]
/-- the greatest justified checkpoint -/
def qv_hi (b : Nat → Int32) : Nat → Nat
  | 0 => 0
  | n + 1 => if b n = 0 then qv_hi b n else n
theorem qv_hi_eq {b b' : Nat → Int32} : ∀ n, (∀ c, c < n → b' c = b c) → qv_hi b' n = qv_hi b n := by
  intro n
  induction n with
  | zero => intro _; rfl
  | succ n ih =>
    intro h
    show (if b' n = 0 then qv_hi b' n else n) = (if b n = 0 then qv_hi b n else n)
    rw [h n (by omega), ih (fun c hc => h c (by omega))]
/-- a validator, a checkpoint, a vote that is one -/
def qv_V (p : Int32) : Prop := ∃ j : Nat, j < 8 ∧ p = nI j
def qv_C (c : Int32) : Prop := (∃ j : Nat, j ≤ 126 ∧ c = nI j) ∧ ¬ (c &&& 3) = 3
def qv_ok (p s t : Int32) : Prop := qv_V p ∧ qv_C s ∧ qv_C t ∧ s >>> ((2 : Int32) &&& 31) < t >>> ((2 : Int32) &&& 31)
/-- link k is s to t; it is the first such -/
def qv_M (a6 a7 : Nat → Int32) (s t : Int32) (k : Nat) : Prop := a6 k = s ∧ a7 k = t
def qv_F (a6 a7 : Nat → Int32) (s t : Int32) (m k : Nat) : Prop := k < m ∧ qv_M a6 a7 s t k ∧ ∀ j, j < k → ¬ qv_M a6 a7 s t j
theorem qv_F_one {a6 a7 : Nat → Int32} {s t : Int32} {m k l : Nat} (h : qv_F a6 a7 s t m k) (h' : qv_F a6 a7 s t m l) : k = l := by
  rcases Nat.lt_trichotomy k l with z | z | z
  · exact absurd h.2.1 (h'.2.2 k z)
  · exact z
  · exact absurd h'.2.1 (h.2.2 l z)
/-- what support answers -/
def qv_SP (a a6 a7 a8 : Nat → Int32) (s t : Int32) (m : Nat) (r : Int32) : Prop := ((∀ k, k < m → ¬ qv_M a6 a7 s t k) ∧ r = 0) ∨ ∃ k, qv_F a6 a7 s t m k ∧ r = qv_st a (a8 k) 8
theorem qv_SP_one {a a6 a7 a8 : Nat → Int32} {s t : Int32} {m : Nat} {r r' : Int32} (h : qv_SP a a6 a7 a8 s t m r) (h' : qv_SP a a6 a7 a8 s t m r') : r = r' := by
  rcases h with ⟨n, e⟩ | ⟨k, f, e⟩ <;> rcases h' with ⟨n', e'⟩ | ⟨k', f', e'⟩
  · rw [e, e']
  · exact absurd f'.2.1 (n k' f'.1)
  · exact absurd f.2.1 (n' k f.1)
  · rw [e, e', qv_F_one f f']
/-- no vote is taken: no room, or the validator has voted so -/
def qv_Rep (h m : Nat) (a6 a7 a8 : Nat → Int32) (v : Nat) (s t : Int32) : Prop := 64 ≤ h ∨ ∃ k, qv_F a6 a7 s t m k ∧ qv_b (a8 k) v = true
/-- rows b6, b7, b8 are a6, a7, a8 with a place made at p -/
def qv_Gap (a b : Nat → Int32) (m p : Nat) : Prop := (∀ k, k < p → b k = a k) ∧ ∀ k, p ≤ k → k < m → b (k + 1) = a k
/-- a vote of v for the link s to t is entered -/
def qv_Ins (v : Nat) (s t : Int32) (m : Nat) (a6 a7 a8 : Nat → Int32) (m' : Nat) (b6 b7 b8 : Nat → Int32) : Prop :=
  (m' = m ∧ b6 = a6 ∧ b7 = a7 ∧ ∃ k, qv_F a6 a7 s t m k ∧ qv_b (a8 k) v = false ∧ b8 = upd a8 k (a8 k ||| ((1 : Int32) <<< (nI v &&& 31)))) ∨
  (m' = m + 1 ∧ (∀ k, k < m → ¬ qv_M a6 a7 s t k) ∧ ∃ p, p ≤ m ∧ qv_Gap a6 b6 m p ∧ qv_Gap a7 b7 m p ∧ qv_Gap a8 b8 m p ∧ b6 p = s ∧ b7 p = t ∧ b8 p = 0 ||| ((1 : Int32) <<< (nI v &&& 31)))
theorem qv_J_ins {a : Nat → Int32} (hA : qv_A a) {v : Nat} (hv : v < 8) (ha : a v = 0) {s t : Int32} {m m' : Nat} {a6 a7 a8 b6 b7 b8 : Nat → Int32} (h : qv_Ins v s t m a6 a7 a8 m' b6 b7 b8) : qv_J a b6 b7 b8 m' = qv_J a a6 a7 a8 m := by
  rcases h with ⟨rfl, rfl, rfl, k, hF, _, rfl⟩ | ⟨rfl, _, p, hp, g6, g7, g8, e6, e7, e8⟩
  · have key : ∀ n, qv_J a b6 b7 (upd a8 k (a8 k ||| ((1 : Int32) <<< (nI v &&& 31)))) n = qv_J a b6 b7 a8 n := by
      intro n
      induction n with
      | zero => rfl
      | succ n ih =>
        refine qv_J_st ih rfl rfl ?_
        by_cases e : n = k
        · rw [e, pk_us]
          exact qv_sup_add (by omega) ha _
        · rw [pk_un e]
    exact key _
  · have lo : ∀ n, n ≤ p → qv_J a b6 b7 b8 n = qv_J a a6 a7 a8 n := by
      intro n
      induction n with
      | zero => intro _; rfl
      | succ n ih =>
        intro hn
        exact qv_J_st (ih (by omega)) (g6.1 n (by omega)) (g7.1 n (by omega)) (by rw [g8.1 n (by omega)])
    have hi : ∀ d, p + d ≤ m → qv_J a b6 b7 b8 (p + d + 1) = qv_J a a6 a7 a8 (p + d) := by
      intro d
      induction d with
      | zero =>
        intro _
        rw [Nat.add_zero, qv_J_f (fun z => qv_sup_new hA (by omega) ha (e8 ▸ z.2))]
        exact lo p (Nat.le_refl p)
      | succ d ih =>
        intro hd
        exact qv_J_st (k := p + d) (l := p + d + 1) (ih (by omega)) (g6.2 (p + d) (by omega) (by omega)) (g7.2 (p + d) (by omega) (by omega)) (by rw [g8.2 (p + d) (by omega) (by omega)])
    have := hi (m - p) (by omega)
    rw [show p + (m - p) = m by omega] at this
    exact this
/-- some supported link makes c final -/
def qv_Fin (a a6 a7 a8 : Nat → Int32) (c : Int32) (m : Nat) : Prop := ∃ k, k < m ∧ a6 k = c ∧ (a7 k) >>> ((2 : Int32) &&& 31) = (c >>> ((2 : Int32) &&& 31)) + 1 ∧ qv_sup a (a8 k)
theorem qv_Fin_ins {a : Nat → Int32} (hA : qv_A a) {v : Nat} (hv : v < 8) (ha : a v = 0) {s t : Int32} {m m' : Nat} {a6 a7 a8 b6 b7 b8 : Nat → Int32} (h : qv_Ins v s t m a6 a7 a8 m' b6 b7 b8) (c : Int32) : qv_Fin a b6 b7 b8 c m' ↔ qv_Fin a a6 a7 a8 c m := by
  rcases h with ⟨rfl, rfl, rfl, k, hF, _, rfl⟩ | ⟨rfl, _, p, hp, g6, g7, g8, e6, e7, e8⟩
  · have key : ∀ n, qv_sup a (upd a8 k (a8 k ||| ((1 : Int32) <<< (nI v &&& 31))) n) ↔ qv_sup a (a8 n) := by
      intro n
      by_cases e : n = k
      · rw [e, pk_us]
        exact qv_sup_add (by omega) ha _
      · rw [pk_un e]
    exact ⟨fun ⟨n, h1, h2, h3, h4⟩ => ⟨n, h1, h2, h3, (key n).mp h4⟩, fun ⟨n, h1, h2, h3, h4⟩ => ⟨n, h1, h2, h3, (key n).mpr h4⟩⟩
  · constructor
    · rintro ⟨n, h1, h2, h3, h4⟩
      rcases Nat.lt_trichotomy n p with z | z | z
      · exact ⟨n, by omega, by rw [← g6.1 n z]; exact h2, by rw [← g7.1 n z]; exact h3, by rw [← g8.1 n z]; exact h4⟩
      · subst z
        rw [e8] at h4
        exact absurd h4 (qv_sup_new hA (by omega) ha)
      · obtain ⟨q, rfl⟩ : ∃ q, n = q + 1 := ⟨n - 1, by omega⟩
        exact ⟨q, by omega, by rw [← g6.2 q (by omega) (by omega)]; exact h2, by rw [← g7.2 q (by omega) (by omega)]; exact h3, by rw [← g8.2 q (by omega) (by omega)]; exact h4⟩
    · rintro ⟨n, h1, h2, h3, h4⟩
      rcases Nat.lt_or_ge n p with z | z
      · exact ⟨n, by omega, by rw [g6.1 n z]; exact h2, by rw [g7.1 n z]; exact h3, by rw [g8.1 n z]; exact h4⟩
      · exact ⟨n + 1, by omega, by rw [g6.2 n z h1]; exact h2, by rw [g7.2 n z h1]; exact h3, by rw [g8.2 n z h1]; exact h4⟩
/-- behind the vote the link is found, and the vote in it: where it stood or where it was put -/
theorem qv_F_ins {v : Nat} (hv : v < 8) {s t : Int32} {m m' : Nat} {a6 a7 a8 b6 b7 b8 : Nat → Int32} (h : qv_Ins v s t m a6 a7 a8 m' b6 b7 b8) :
    ∃ k x, qv_F b6 b7 s t m' k ∧ b8 k = x ||| ((1 : Int32) <<< (nI v &&& 31)) ∧ (((∀ k, k < m → ¬ qv_M a6 a7 s t k) ∧ x = 0) ∨ ∃ l, qv_F a6 a7 s t m l ∧ x = a8 l) := by
  rcases h with ⟨rfl, rfl, rfl, k, hF, _, rfl⟩ | ⟨rfl, hn, p, hp, g6, g7, g8, e6, e7, e8⟩
  · exact ⟨k, a8 k, hF, pk_us, Or.inr ⟨k, hF, rfl⟩⟩
  · refine ⟨p, 0, ⟨by omega, ⟨e6, e7⟩, fun j hj z => hn j (by omega) ⟨?_, ?_⟩⟩, e8, Or.inl ⟨hn, rfl⟩⟩
    · rw [← g6.1 j hj]; exact z.1
    · rw [← g7.1 j hj]; exact z.2
theorem qv_SP_ins {a : Nat → Int32} {v : Nat} (hv : v < 8) (ha : a v = 0) {s t r r' : Int32} {m m' : Nat} {a6 a7 a8 b6 b7 b8 : Nat → Int32} (h : qv_Ins v s t m a6 a7 a8 m' b6 b7 b8) (hr : qv_SP a a6 a7 a8 s t m r) (hr' : qv_SP a b6 b7 b8 s t m' r') : r' = r := by
  obtain ⟨k, x, hF, e8, hx⟩ := qv_F_ins hv h
  have e' : r' = qv_st a (b8 k) 8 := qv_SP_one hr' (Or.inr ⟨k, hF, rfl⟩)
  rw [e', e8, qv_st_add (by omega) ha]
  rcases hx with ⟨hn, rfl⟩ | ⟨l, hl, rfl⟩
  · rw [qv_SP_one hr (Or.inl ⟨hn, rfl⟩)]
    exact qv_st_0 a 0 8 (fun j _ => qv_b0 j)
  · exact qv_SP_one (Or.inr ⟨l, hl, rfl⟩) hr
theorem qv_SP_back {a : Nat → Int32} {v : Nat} (hv : v < 8) (ha : a v = 0) {q s t r r' : Int32} {m m' : Nat} {a6 a7 a8 b6 b7 b8 : Nat → Int32} (h : qv_Ins v s t m a6 a7 a8 m' b6 b7 b8) (hr : qv_SP a a6 a7 a8 s t m r) (hr' : qv_SP (upd a v q) b6 b7 b8 s t m' r') : r' = r + q := by
  obtain ⟨k, x, hF, e8, hx⟩ := qv_F_ins hv h
  have e' : r' = qv_st (upd a v q) (b8 k) 8 := qv_SP_one hr' (Or.inr ⟨k, hF, rfl⟩)
  rw [e', e8, qv_st_back (by omega) ha, if_pos hv]
  rcases hx with ⟨hn, rfl⟩ | ⟨l, hl, rfl⟩
  · rw [qv_SP_one hr (Or.inl ⟨hn, rfl⟩), qv_st_0 a 0 8 (fun j _ => qv_b0 j)]
  · rw [qv_SP_one (Or.inr ⟨l, hl, rfl⟩) hr]
theorem qv_Rep_ins {v : Nat} (hv : v < 8) {s t : Int32} {h m m' : Nat} {a6 a7 a8 b6 b7 b8 : Nat → Int32} (hi : qv_Ins v s t m a6 a7 a8 m' b6 b7 b8) : qv_Rep h m' b6 b7 b8 v s t := by
  obtain ⟨k, x, hF, e8, _⟩ := qv_F_ins hv hi
  refine Or.inr ⟨k, hF, ?_⟩
  rw [e8, qv_set x (by omega), decide_eq_true rfl, Bool.or_true]
/-- the law's invariant -/
def qv_K (h m : Nat) (a1 a6 a7 : Nat → Int32) : Prop := m ≤ h ∧ h ≤ 64 ∧ qv_A a1 ∧ (∀ k, k < m → ∃ c : Nat, c < 128 ∧ a6 k = nI c) ∧ (∀ k, k < m → ∃ c : Nat, c < 128 ∧ a7 k = nI c)
theorem qv_gap_in {a b : Nat → Int32} {m p : Nat} {s : Int32} {P : Int32 → Prop} (hp : p ≤ m) (h : ∀ k, k < m → P (a k)) (g : qv_Gap a b m p) (e : b p = s) (hs : P s) : ∀ k, k < m + 1 → P (b k) := by
  intro k hk
  rcases Nat.lt_trichotomy k p with z | z | z
  · rw [g.1 k z]
    exact h k (by omega)
  · rw [z, e]
    exact hs
  · obtain ⟨q, rfl⟩ : ∃ q, k = q + 1 := ⟨k - 1, by omega⟩
    rw [g.2 q (by omega) (by omega)]
    exact h q (by omega)
theorem qv_C_in {c : Int32} (h : qv_C c) : ∃ j : Nat, j < 128 ∧ c = nI j := by
  obtain ⟨⟨j, hj, e⟩, _⟩ := h
  exact ⟨j, by omega, e⟩
theorem qv_K_ins {v : Nat} {p s t : Int32} {h m m' : Nat} {a1 a6 a7 a8 b6 b7 b8 : Nat → Int32} (hK : qv_K h m a1 a6 a7) (hh : h < 64) (ho : qv_ok p s t) (hi : qv_Ins v s t m a6 a7 a8 m' b6 b7 b8) : qv_K (h + 1) m' a1 b6 b7 := by
  obtain ⟨k1, k2, k3, k4, k5⟩ := hK
  rcases hi with ⟨rfl, rfl, rfl, _⟩ | ⟨rfl, _, q, hq, g6, g7, g8, e6, e7, e8⟩
  · exact ⟨by omega, by omega, k3, k4, k5⟩
  · exact ⟨by omega, by omega, k3, qv_gap_in (P := fun x => ∃ c : Nat, c < 128 ∧ x = nI c) hq k4 g6 e6 (qv_C_in ho.2.1), qv_gap_in (P := fun x => ∃ c : Nat, c < 128 ∧ x = nI c) hq k5 g7 e7 (qv_C_in ho.2.2.1)⟩
/-- a stake as stake() takes it -/
def qv_cl (q : Int32) : Int32 := if 0 ≤ q then (if q ≤ 100 then q else 100) else 0
theorem qv_cl_nat (q : Int32) : ∃ t : Nat, t ≤ 100 ∧ qv_cl q = nI t := by
  unfold qv_cl
  by_cases h : 0 ≤ q
  · rw [if_pos h]
    by_cases h2 : q ≤ 100
    · rw [if_pos h2]
      exact nI_of2 (M := 100) (n := 100) (by decide) (Int32.not_lt.mpr h) h2
    · rw [if_neg h2]
      exact ⟨100, by omega, rfl⟩
  · rw [if_neg h]
    exact ⟨0, by omega, rfl⟩
theorem qv_cl_id {t : Nat} (h : t ≤ 100) : qv_cl (nI t) = nI t := by
  unfold qv_cl
  rw [if_pos (nI_pos' (by omega)), if_pos (show nI t ≤ 100 from nI_le (b := 100) h (by omega))]
theorem qv_cl_0 : qv_cl 0 = 0 := by decide
theorem qv_A_upd {a : Nat → Int32} (h : qv_A a) (j : Nat) (q : Int32) : qv_A (upd a j (qv_cl q)) := by
  intro v hv
  by_cases e : v = j
  · rw [e, pk_us]
    exact qv_cl_nat q
  · rw [pk_un e]
    exact h v hv
theorem qv_K_upd {h m : Nat} {a1 a6 a7 : Nat → Int32} (hK : qv_K h m a1 a6 a7) (j : Nat) (q : Int32) : qv_K h m (upd a1 j (qv_cl q)) a6 a7 :=
  ⟨hK.1, hK.2.1, qv_A_upd hK.2.2.1 j q, hK.2.2.2⟩
/-- how many of the first n are offenders -/
def qv_cnt (x : Int32) : Nat → Nat
  | 0 => 0
  | n + 1 => qv_cnt x n + (qv_b x n).toNat
theorem qv_cnt_le (x : Int32) : ∀ n, qv_cnt x n ≤ n := by
  intro n
  induction n with
  | zero => exact Nat.le_refl 0
  | succ n ih =>
    show qv_cnt x n + (qv_b x n).toNat ≤ n + 1
    have := Bool.toNat_le (qv_b x n)
    omega
theorem qv_cnt_0 (x : Int32) : ∀ n, qv_cnt x n = 0 → ∀ j, j < n → qv_b x j = false := by
  intro n
  induction n with
  | zero => intro _ j hj; omega
  | succ n ih =>
    intro h j hj
    have h' : qv_cnt x n + (qv_b x n).toNat = 0 := h
    by_cases e : j = n
    · subst e
      cases hb : qv_b x j
      · rfl
      · rw [hb, Bool.toNat_true] at h'
        omega
    · exact ih (by omega) j (by omega)
end
section
section
variable {o he li kn : Int32} {a1 a2 a3 a4 a5 a6 a7 a8 a9 : Nat → Int32}
/-! the methods that change nothing, or little -/
theorem qv_stakes {post : Int32 → Prop} {x : Int32} (h : post (qv_st a1 x 8)) : wpX_stakes post (o, he, li, kn, a1, a2, a3, a4, a5, a6, a7, a8, a9) x :=
  pk_loop (σ := Unit) (fun n i _ => wX_stakes_4 post x o he li kn a1 a2 a3 a4 a5 a6 a7 a8 a9 n (qv_st a1 x i) (nI i)) (fun _ _ => True) 8 0 () (by omega) trivial
    (fun n _ _ => pk_le 8 8 (fun _ => h) (fun z => absurd z (by omega)))
    (fun n i _ hi _ hw => pk_le 8 i (fun z => absurd z (by omega)) (fun _ => by
      have t := qv_tst x (show i < 32 by omega)
      have w := hw () trivial
      cases hb : qv_b x i
      · rw [hb] at t
        exact br_t t (nm_r (qv_st_f hb).symm (nm_r (nI_1 i) w))
      · rw [hb] at t
        exact br_f (by rw [t]; decide) ⟨pk_in i 8 hi, nm_r (by rw [nI_clamp (by omega)]; exact (qv_st_t hb).symm) (nm_r (nI_1 i) w)⟩))
theorem qv_offended {post : Int32 → Prop} (h : post (qv_st a1 o 8)) : wpX_offended post (o, he, li, kn, a1, a2, a3, a4, a5, a6, a7, a8, a9) := by
  unfold wpX_offended
  exact qv_stakes h
theorem qv_isV {post : Int32 → Prop} {u : St2} {p : Int32} (h0 : ¬ qv_V p → post 0) (h1 : ∀ j, j < 8 → p = nI j → post 1) : wpX_isValidator post u p := by
  unfold wpX_isValidator
  refine br_c (fun z => h0 ?_) (fun z => br_c (fun y => h0 ?_) (fun y => ?_))
  · rintro ⟨j, hj, rfl⟩
    exact nI_pos (by omega) z
  · rintro ⟨j, hj, rfl⟩
    exact nI_nlt (a := 7) (b := j) (by omega) (by omega) y
  · obtain ⟨j, hj, e⟩ := nI_of2 (M := 7) (n := 7) (by decide) z (Int32.not_lt.mp y)
    exact h1 j (by omega) e
theorem qv_isC {post : Int32 → Prop} {u : St2} {c : Int32} (h0 : ¬ qv_C c → post 0) (h1 : qv_C c → post 1) : wpX_isCheckpoint post u c := by
  unfold wpX_isCheckpoint
  refine br_c (fun z => h0 ?_) (fun z => br_c (fun y => h0 ?_) (fun y => br_c (fun x => h0 (fun g => g.2 x)) (fun x => h1 ?_)))
  · rintro ⟨⟨j, hj, rfl⟩, _⟩
    exact nI_pos (by omega) z
  · rintro ⟨⟨j, hj, rfl⟩, _⟩
    exact nI_nlt (a := 126) (b := j) (by omega) (by omega) y
  · exact ⟨nI_of2 (M := 126) (n := 126) (by decide) z (Int32.not_lt.mp y), x⟩
theorem qv_offender {post : Int32 → Prop} {i : Nat} (hi : i < 8) (h : post (nI (qv_b o i).toNat)) : wpX_offender post (o, he, li, kn, a1, a2, a3, a4, a5, a6, a7, a8, a9) (nI i) := by
  unfold wpX_offender
  refine qv_isV (fun z => absurd ⟨i, hi, rfl⟩ z) (fun j _ _ => br_f (by decide) ?_)
  rw [qv_tst o (show i < 32 by omega)]
  exact h
theorem qv_stake {post : Int32 → St1 → Prop} {p q : Int32} (h0 : ¬ qv_V p → post (-1) (o, he, li, kn, a1, a2, a3, a4, a5, a6, a7, a8, a9))
    (h1 : ∀ j, j < 8 → p = nI j → post (a1 j) (o, he, li, 0, upd a1 j (qv_cl q), a2, a3, a4, a5, a6, a7, a8, a9)) : wpX_stake post (o, he, li, kn, a1, a2, a3, a4, a5, a6, a7, a8, a9) p q := by
  unfold wpX_stake
  refine qv_isV (fun z => br_t rfl (h0 z)) (fun j hj e => br_f (by decide) ?_)
  subst e
  have h := h1 j hj rfl
  unfold qv_cl at h
  rw [nI_clamp (show j < 2 ^ 31 by omega)]
  refine ⟨pk_in j 8 hj, nm_e (br_c (fun z => ?_) (fun z => ⟨pk_in j 8 hj, nm_e ?_⟩))⟩
  · rw [if_pos z] at h
    refine br_c (fun y => ⟨pk_in j 8 hj, nm_e ?_⟩) (fun y => ⟨pk_in j 8 hj, nm_e ?_⟩)
    · rw [if_pos y] at h
      exact h
    · rw [if_neg y] at h
      exact h
  · rw [if_neg z] at h
    exact h
theorem qv_isSup {post : Int32 → Prop} {k : Nat} (hk : k < 64) (h0 : ¬ qv_sup a1 (a8 k) → post 0) (h1 : qv_sup a1 (a8 k) → post 1) : wpX_isSupported post (o, he, li, kn, a1, a2, a3, a4, a5, a6, a7, a8, a9) (nI k) := by
  unfold wpX_isSupported
  rw [nI_clamp (show k < 2 ^ 31 by omega)]
  exact qv_stakes ⟨pk_in k 64 hk, qv_stakes (br_c (fun z => h0 (fun g => g z)) (fun z => h1 z))⟩
theorem qv_link {post : Int32 → Prop} {m : Nat} (hm : m ≤ 64) {s t : Int32} (h0 : (∀ k, k < m → ¬ qv_M a6 a7 s t k) → post (-1)) (h1 : ∀ k, qv_F a6 a7 s t m k → post (nI k)) : wpX_linkOf post (o, he, nI m, kn, a1, a2, a3, a4, a5, a6, a7, a8, a9) s t :=
  pk_loop (σ := Unit) (fun n i _ => wX_linkOf_2 post s t o he (nI m) kn a1 a2 a3 a4 a5 a6 a7 a8 a9 n (nI i)) (fun i _ => ∀ j, j < i → ¬ qv_M a6 a7 s t j) m 0 () (by omega) (fun j hj => absurd hj (by omega))
    (fun n _ h => pk_le m m (fun _ => h0 h) (fun z => absurd z (by omega)))
    (fun n i _ hi h hw => pk_le m i (fun z => absurd z (by omega)) (fun _ => ⟨pk_in i 64 (by omega), by
      rw [nI_clamp (show i < 2 ^ 31 by omega)]
      exact br_c (fun e => ⟨pk_in i 64 (by omega), br_c (fun e2 => h1 i ⟨hi, ⟨e, e2⟩, h⟩) (fun e2 => nm_r (nI_1 i) (hw () (lt_s h (fun z => e2 z.2))))⟩)
        (fun e => nm_r (nI_1 i) (hw () (lt_s h (fun z => e z.1))))⟩))
theorem qv_support {post : Int32 → Prop} {m : Nat} (hm : m ≤ 64) {s t : Int32} (h : ∀ r, qv_SP a1 a6 a7 a8 s t m r → post r) : wpX_support post (o, he, nI m, kn, a1, a2, a3, a4, a5, a6, a7, a8, a9) s t := by
  unfold wpX_support
  refine qv_link hm (fun n => br_f (by decide) (h 0 (Or.inl ⟨n, rfl⟩))) (fun k hF => br_t (nI_pos' (by have := hF.1; omega)) ?_)
  have hk := hF.1
  rw [nI_clamp (show k < 2 ^ 31 by omega)]
  exact ⟨pk_in k 64 (by omega), qv_stakes (h _ (Or.inr ⟨k, hF, rfl⟩))⟩
end
end
section
section
variable {o he li kn : Int32} {a1 a2 a3 a4 a5 a6 a7 a8 a9 : Nat → Int32}
/-! justification and what is read off it -/
theorem qv_just45 {post : St1 → Prop} {h m : Nat} (hK : qv_K h m a1 a6 a7) (h9 : ∀ c, c < 128 → a9 c = qv_J a1 a6 a7 a8 0 c)
    (H : ∀ b, (∀ c, c < 128 → b c = qv_J a1 a6 a7 a8 m c) → post (o, he, nI m, kn, a1, a2, a3, a4, a5, a6, a7, a8, b)) : ∃ n, wX_justifyAll_45 post o he (nI m) kn n 0 a1 a2 a3 a4 a5 a6 a7 a8 a9 := by
  obtain ⟨k1, k2, k3, k4, k5⟩ := hK
  refine pk_loop (fun n i s => wX_justifyAll_45 post o he (nI m) kn n (nI i) a1 a2 a3 a4 a5 a6 a7 a8 s) (fun i s => ∀ c, c < 128 → s c = qv_J a1 a6 a7 a8 i c) m 0 a9 (by omega) h9 (fun n s hs => pk_le m m (fun _ => H s hs) (fun z => absurd z (by omega))) ?_
  intro n i s hi hs hw
  obtain ⟨c, hc, e6⟩ := k4 i hi
  obtain ⟨d, hd, e7⟩ := k5 i hi
  refine pk_le m i (fun z => absurd z (by omega)) (fun _ => ⟨pk_in i 64 (by omega), ?_⟩)
  rw [nI_clamp (show i < 2 ^ 31 by omega), e6, e7, nI_clamp (show c < 2 ^ 31 by omega), nI_clamp (show d < 2 ^ 31 by omega)]
  have es := hs c hc
  have hf : ¬ (¬ s c = 0 ∧ qv_sup a1 (a8 i)) → ∀ c, c < 128 → s c = qv_J a1 a6 a7 a8 (i + 1) c := by
    intro z c' hc'
    rw [qv_J_f (by rw [e6, nI_clamp (show c < 2 ^ 31 by omega), ← es]; exact z)]
    exact hs c' hc'
  refine ⟨pk_in c 128 hc, br_c (fun z => nm_r (nI_1 i) (hw s (hf (fun g => g.1 z)))) (fun z => qv_isSup (by omega) (fun y => br_t rfl (nm_r (nI_1 i) (hw s (hf (fun g => y g.2))))) (fun y => br_f (by decide) ⟨pk_in i 64 (by omega), pk_in d 128 hd, nm_e (nm_r (nI_1 i) (hw _ ?_))⟩))⟩
  intro c' hc'
  rw [qv_J_t (by rw [e6, nI_clamp (show c < 2 ^ 31 by omega), ← es]; exact z) y, e7, nI_clamp (show d < 2 ^ 31 by omega)]
  by_cases e : c' = d
  · rw [e, pk_us, pk_us]
  · rw [pk_un e, pk_un e]
    exact hs c' hc'
theorem qv_just {post : St1 → Prop} {h m : Nat} (hK : qv_K h m a1 a6 a7) (H : ∀ b, (∀ c, c < 128 → b c = qv_J a1 a6 a7 a8 m c) → post (o, he, nI m, 1, a1, a2, a3, a4, a5, a6, a7, a8, b)) : wpX_justifyAll post (o, he, nI m, 0, a1, a2, a3, a4, a5, a6, a7, a8, a9) := by
  unfold wpX_justifyAll
  refine br_t rfl ?_
  refine pk_loop (fun n i s => wX_justifyAll_15 post o he (nI m) 1 n (nI i) a1 a2 a3 a4 a5 a6 a7 a8 s) (fun i s => ∀ c, c < i → s c = qv_J a1 a6 a7 a8 0 c) 128 0 a9 (by omega) (fun j hj => absurd hj (by omega)) (fun n s hs => pk_le 128 128 (fun _ => qv_just45 hK hs H) (fun z => absurd z (by omega))) ?_
  intro n i s hi hs hw
  refine pk_le 128 i (fun z => absurd z (by omega)) (fun _ => ?_)
  rw [nI_clamp (show i < 2 ^ 31 by omega)]
  have F : ∀ x, x = qv_J a1 a6 a7 a8 0 i → ∀ c, c < i + 1 → upd s i x c = qv_J a1 a6 a7 a8 0 c := by
    intro x ex c hc
    by_cases e : c = i
    · rw [e, pk_us, ex]
    · rw [pk_un e]
      exact hs c (by omega)
  refine pk_eq i 0 (fun e => ⟨pk_in i 128 hi, nm_e (nm_r (nI_1 i) (hw _ (F 1 ?_)))⟩) (fun e => ⟨pk_in i 128 hi, nm_e (nm_r (nI_1 i) (hw _ (F 0 ?_)))⟩)
  · show 1 = if i = 0 then (1 : Int32) else 0
    rw [if_pos e]
  · show 0 = if i = 0 then (1 : Int32) else 0
    rw [if_neg e]
theorem qv_just1 {post : St1 → Prop} (hk : ¬ kn = 0) (H : post (o, he, li, kn, a1, a2, a3, a4, a5, a6, a7, a8, a9)) : wpX_justifyAll post (o, he, li, kn, a1, a2, a3, a4, a5, a6, a7, a8, a9) := by
  unfold wpX_justifyAll
  exact br_f hk H
theorem qv_high8 {post : Int32 → St1 → Prop} (H : post (nI (qv_hi a9 128)) (o, he, li, kn, a1, a2, a3, a4, a5, a6, a7, a8, a9)) : ∃ n, wX_highest_8 post o he li kn a1 a2 a3 a4 a5 a6 a7 a8 a9 n 0 0 :=
  pk_loop (σ := Unit) (fun n i _ => wX_highest_8 post o he li kn a1 a2 a3 a4 a5 a6 a7 a8 a9 n (nI (qv_hi a9 i)) (nI i)) (fun _ _ => True) 128 0 () (by omega) trivial
    (fun n _ _ => pk_le 128 128 (fun _ => H) (fun z => absurd z (by omega)))
    (fun n i _ hi _ hw => pk_le 128 i (fun z => absurd z (by omega)) (fun _ => ⟨pk_in i 128 hi, by
      rw [nI_clamp (show i < 2 ^ 31 by omega)]
      have w : wX_highest_8 post o he li kn a1 a2 a3 a4 a5 a6 a7 a8 a9 n (nI (if a9 i = 0 then qv_hi a9 i else i)) (nI (i + 1)) := hw () trivial
      refine br_c (fun z => nm_r (nI_1 i) ?_) (fun z => nm_r (nI_1 i) ?_)
      · rw [if_pos z] at w
        exact w
      · rw [if_neg z] at w
        exact w⟩))
theorem qv_high {post : Int32 → St1 → Prop} {h m : Nat} (hK : qv_K h m a1 a6 a7) (H : ∀ b, (∀ c, c < 128 → b c = qv_J a1 a6 a7 a8 m c) → post (nI (qv_hi b 128)) (o, he, nI m, 1, a1, a2, a3, a4, a5, a6, a7, a8, b)) : wpX_highest post (o, he, nI m, 0, a1, a2, a3, a4, a5, a6, a7, a8, a9) := by
  unfold wpX_highest
  exact qv_just hK (fun b hb => qv_high8 (H b hb))
theorem qv_high1 {post : Int32 → St1 → Prop} (hk : ¬ kn = 0) (H : post (nI (qv_hi a9 128)) (o, he, li, kn, a1, a2, a3, a4, a5, a6, a7, a8, a9)) : wpX_highest post (o, he, li, kn, a1, a2, a3, a4, a5, a6, a7, a8, a9) := by
  unfold wpX_highest
  exact qv_just1 hk (qv_high8 H)
/-- what justified answers -/
noncomputable def qv_jv (b : Nat → Int32) (c : Int32) : Int32 := qv_if (qv_C c) (if b c.toNatClampNeg = 0 then 0 else 1) (-1)
theorem qv_justd {post : Int32 → St1 → Prop} (hk : ¬ kn = 0) {c : Int32} (H : post (qv_jv a9 c) (o, he, li, kn, a1, a2, a3, a4, a5, a6, a7, a8, a9)) : wpX_justified post (o, he, li, kn, a1, a2, a3, a4, a5, a6, a7, a8, a9) c := by
  unfold wpX_justified
  refine qv_isC (fun z => br_t rfl ?_) (fun z => br_f (by decide) (qv_just1 hk ?_))
  · unfold qv_jv at H
    rw [qv_if_f z] at H
    exact H
  · unfold qv_jv at H
    rw [qv_if_t z] at H
    obtain ⟨j, hj, e⟩ := qv_C_in z
    refine ⟨pk_in j 128 hj e, br_c (fun y => ?_) (fun y => ?_)⟩
    · rw [if_pos y] at H
      exact H
    · rw [if_neg y] at H
      exact H
theorem qv_jv_eq {b b' : Nat → Int32} (h : ∀ c, c < 128 → b' c = b c) (c : Int32) : qv_jv b' c = qv_jv b c := by
  unfold qv_jv
  by_cases z : qv_C c
  · obtain ⟨j, hj, rfl⟩ := qv_C_in z
    rw [qv_if_t z, qv_if_t z, nI_clamp (show j < 2 ^ 31 by omega), h j hj]
  · rw [qv_if_f z, qv_if_f z]
/-- what isFinal answers -/
noncomputable def qv_fv (a a6 a7 a8 b : Nat → Int32) (m : Nat) (c : Int32) : Int32 := qv_if (qv_C c) (if b c.toNatClampNeg = 0 then 0 else qv_if (qv_Fin a a6 a7 a8 c m) 1 0) (-1)
theorem qv_final {post : Int32 → St1 → Prop} {m : Nat} (hm : m ≤ 64) (hk : ¬ kn = 0) {c : Int32} (H : post (qv_fv a1 a6 a7 a8 a9 m c) (o, he, nI m, kn, a1, a2, a3, a4, a5, a6, a7, a8, a9)) : wpX_isFinal post (o, he, nI m, kn, a1, a2, a3, a4, a5, a6, a7, a8, a9) c := by
  unfold wpX_isFinal
  refine qv_isC (fun z => br_t rfl ?_) (fun z => br_f (by decide) (qv_just1 hk ?_))
  · unfold qv_fv at H
    rw [qv_if_f z] at H
    exact H
  · unfold qv_fv at H
    rw [qv_if_t z] at H
    obtain ⟨j, hj, e⟩ := qv_C_in z
    refine ⟨pk_in j 128 hj e, br_c (fun y => ?_) (fun y => ?_)⟩
    · rw [if_pos y] at H
      exact H
    · rw [if_neg y] at H
      refine pk_loop (σ := Unit) (fun n i _ => wX_isFinal_26 post c o he (nI m) kn a1 a2 a3 a4 a5 a6 a7 a8 a9 n (nI i)) (fun i _ => ∀ k, k < i → ¬ (a6 k = c ∧ (a7 k) >>> ((2 : Int32) &&& 31) = (c >>> ((2 : Int32) &&& 31)) + 1 ∧ qv_sup a1 (a8 k))) m 0 () (by omega) (fun j hj => absurd hj (by omega)) ?_ ?_
      · intro n _ hn
        refine pk_le m m (fun _ => ?_) (fun z => absurd z (by omega))
        rw [qv_if_f (fun ⟨k, hk, g⟩ => hn k hk g)] at H
        exact H
      · intro n i _ hi hn hw
        refine pk_le m i (fun z => absurd z (by omega)) (fun _ => ⟨pk_in i 64 (by omega), ?_⟩)
        rw [nI_clamp (show i < 2 ^ 31 by omega)]
        have no : ¬ (a6 i = c ∧ (a7 i) >>> ((2 : Int32) &&& 31) = (c >>> ((2 : Int32) &&& 31)) + 1 ∧ qv_sup a1 (a8 i)) → wX_isFinal_26 post c o he (nI m) kn a1 a2 a3 a4 a5 a6 a7 a8 a9 n (nI (i + 1)) := fun g => hw () (lt_s hn g)
        have w64 : ¬ (a6 i = c ∧ (a7 i) >>> ((2 : Int32) &&& 31) = (c >>> ((2 : Int32) &&& 31)) + 1 ∧ qv_sup a1 (a8 i)) → wX_isFinal_64 post (wX_isFinal_26 post c o he (nI m) kn a1 a2 a3 a4 a5 a6 a7 a8 a9 n) c (nI i) o he (nI m) kn a1 a2 a3 a4 a5 a6 a7 a8 a9 := by
          intro g
          unfold wX_isFinal_64 wX_isFinal_65
          exact br_t rfl (nm_r (nI_1 i) (no g))
        refine br_c (fun e1 => ⟨pk_in i 64 (by omega), br_c (fun e2 => ?_) (fun e2 => w64 (fun g => e2 g.2.1))⟩) (fun e1 => w64 (fun g => e1 g.1))
        unfold wX_isFinal_65
        refine br_f (by decide) (qv_isSup (by omega) (fun y => br_t rfl (nm_r (nI_1 i) (no (fun g => y g.2.2)))) (fun y => br_f (by decide) ?_))
        rw [qv_if_t ⟨i, hi, e1, e2, y⟩] at H
        exact H
theorem qv_fv_eq {a a6 a7 a8 b b6 b7 b8 b' : Nat → Int32} {m m' : Nat} {c : Int32} (h : ∀ c, c < 128 → b' c = b c) (hF : qv_Fin a b6 b7 b8 c m' ↔ qv_Fin a a6 a7 a8 c m) : qv_fv a b6 b7 b8 b' m' c = qv_fv a a6 a7 a8 b m c := by
  unfold qv_fv
  rw [propext hF]
  by_cases z : qv_C c
  · obtain ⟨j, hj, rfl⟩ := qv_C_in z
    rw [qv_if_t z, qv_if_t z, nI_clamp (show j < 2 ^ 31 by omega), h j hj]
  · rw [qv_if_f z, qv_if_f z]
end
end
section
section
variable {o he li kn : Int32} {a1 a2 a3 a4 a5 a6 a7 a8 a9 : Nat → Int32}
/-! a vote: judged, entered, its link found or made -/
theorem qv_ix {v e : Nat} (hv : v < 8) (he : e < 32) : vp_in (nI (32 * v) + nI e) 256 := pk_in (32 * v + e) 256 (by omega) (nI_add (32 * v) e)
theorem qv_j45 {post : Int32 → Prop} {x3 : Int32} {v f p q : Nat} (hv : v < 8) (hf : f < 32) (hp : p ≤ 2) (hq : q ≤ 1) (H : ∀ j, j < 8 → post (nI j)) : wX_judge_45 post (nI f) x3 (nI (32 * v)) (nI p) (nI q) o he li kn a1 a2 a3 a4 a5 a6 a7 a8 a9 := by
  unfold wX_judge_45
  exact nm_r (nI_add q p) ⟨qv_ix hv hf, br_c (fun _ => nm_r (nI_add (q + p) 0) (H (q + p + 0) (by omega))) (fun _ => nm_r (nI_add (q + p) 4) (H (q + p + 4) (by omega)))⟩
theorem qv_j23 {post : Int32 → Prop} {x3 : Int32} {v f q : Nat} (hv : v < 8) (hf : f < 32) (hq : q ≤ 1) (H : ∀ j, j < 8 → post (nI j)) : wX_judge_23 post (nI f) x3 (nI (32 * v)) (nI q) o he li kn a1 a2 a3 a4 a5 a6 a7 a8 a9 := by
  unfold wX_judge_23
  exact ⟨qv_ix hv hf, br_c (fun _ => qv_j45 (p := 0) hv hf (by omega) hq H) (fun _ => qv_j45 (p := 2) hv hf (by omega) hq H)⟩
theorem qv_judge {post : Int32 → Prop} {v f t : Nat} (hv : v < 8) (hf : f < 32) (ht : t < 32) (H : ∀ j, j < 8 → post (nI j)) : wpX_judge post (o, he, li, kn, a1, a2, a3, a4, a5, a6, a7, a8, a9) (nI v) (nI f) (nI t) := by
  unfold wpX_judge
  exact nm_r (pk_mul 32 v) ⟨qv_ix hv ht, br_c (fun _ => qv_j23 (q := 0) hv hf (by omega) H) (fun _ => qv_j23 (q := 1) hv hf (by omega) H)⟩
theorem qv_e77 {post : St1 → Prop} {t : Int32} {v f : Nat} (hv : v < 8) (hf : f < 32) (H : ∀ b3, post (o, he, li, kn, a1, a2, b3, a4, a5, a6, a7, a8, a9)) : ∃ n, wX_enter_77 post t (nI (32 * v)) o he li kn n (nI (f + 1)) a1 a2 a3 a4 a5 a6 a7 a8 a9 :=
  pk_loop (fun n i s => wX_enter_77 post t (nI (32 * v)) o he li kn n (nI i) a1 a2 s a4 a5 a6 a7 a8 a9) (fun _ _ => True) 32 (f + 1) a3 (by omega) trivial
    (fun n s _ => pk_le 32 32 (fun _ => H s) (fun z => absurd z (by omega)))
    (fun n i s hi _ hw => pk_le 32 i (fun z => absurd z (by omega)) (fun _ => ⟨qv_ix hv hi, br_c (fun _ => ⟨qv_ix hv hi, qv_ix hv hi, nm_e (nm_r (nI_1 i) (hw _ trivial))⟩) (fun _ => ⟨qv_ix hv hi, nm_e (nm_r (nI_1 i) (hw _ trivial))⟩)⟩))
theorem qv_e22 {post : St1 → Prop} {t : Int32} {v f : Nat} (hv : v < 8) (hf : f < 32) (H : ∀ b2 b3, post (o, he, li, kn, a1, b2, b3, a4, a5, a6, a7, a8, a9)) : ∃ n, wX_enter_22 post (nI f) t (nI (32 * v)) o he li kn n 0 a1 a2 a3 a4 a5 a6 a7 a8 a9 :=
  pk_loop (fun n i s => wX_enter_22 post (nI f) t (nI (32 * v)) o he li kn n (nI i) a1 s a3 a4 a5 a6 a7 a8 a9) (fun _ _ => True) f 0 a2 (by omega) trivial
    (fun n s _ => pk_le f f (fun _ => nm_r (nI_1 f) (qv_e77 hv hf (H s))) (fun z => absurd z (by omega)))
    (fun n i s hi _ hw => pk_le f i (fun z => absurd z (by omega)) (fun _ => ⟨qv_ix hv (by omega), br_c (fun _ => ⟨qv_ix hv (by omega), qv_ix hv (by omega), nm_e (nm_r (nI_1 i) (hw _ trivial))⟩) (fun _ => ⟨qv_ix hv (by omega), nm_e (nm_r (nI_1 i) (hw _ trivial))⟩)⟩))
theorem qv_enter {post : St1 → Prop} {v f t : Nat} (hv : v < 8) (hf : f < 32) (ht : t < 32) (H : ∀ b2 b3 b4, post (o, he, li, kn, a1, b2, b3, b4, a5, a6, a7, a8, a9)) : wpX_enter post (o, he, li, kn, a1, a2, a3, a4, a5, a6, a7, a8, a9) (nI v) (nI f) (nI t) := by
  unfold wpX_enter
  exact nm_r (pk_mul 32 v) ⟨qv_ix hv ht, qv_ix hv ht, nm_e (qv_e22 hv hf (fun b2 b3 => H b2 b3 _))⟩
/-- one place of a row moved up -/
theorem qv_gap_mv {a b : Nat → Int32} {m k : Nat} (hk : k < m) (g : qv_Gap a b m (k + 1)) : qv_Gap a (upd b (k + 1) (b k)) m k := by
  refine ⟨fun j hj => ?_, fun j h1 h2 => ?_⟩
  · rw [pk_un (by omega)]
    exact g.1 j (by omega)
  · by_cases e : j = k
    · rw [e, pk_us]
      exact g.1 k (by omega)
    · rw [pk_un (by omega)]
      exact g.2 j (by omega) h2
theorem qv_gap_put {a b : Nat → Int32} {m p : Nat} (x : Int32) (g : qv_Gap a b m p) : qv_Gap a (upd b p x) m p := by
  refine ⟨fun j hj => ?_, fun j h1 h2 => ?_⟩
  · rw [pk_un (by omega)]
    exact g.1 j hj
  · rw [pk_un (by omega)]
    exact g.2 j h1 h2
theorem qv_gap_0 (a : Nat → Int32) (m : Nat) : qv_Gap a a m m := ⟨fun _ _ => rfl, fun k h1 h2 => absurd h1 (by omega)⟩
/-- openLink: a link s to t with no voters at some place p, the others in their order -/
theorem qv_olink {post : Int32 → St1 → Prop} {m : Nat} (hm : m < 64) {s t : Int32}
    (H : ∀ p b6 b7 b8, p ≤ m → qv_Gap a6 b6 m p → qv_Gap a7 b7 m p → qv_Gap a8 b8 m p → b6 p = s → b7 p = t → b8 p = 0 → post (nI p) (o, he, nI (m + 1), kn, a1, a2, a3, a4, a5, b6, b7, b8, a9)) : wpX_openLink post (o, he, nI m, kn, a1, a2, a3, a4, a5, a6, a7, a8, a9) s t := by
  unfold wpX_openLink
  refine ⟨m + 1, pk_loopD (σ := Nat × (Nat → Int32) × (Nat → Int32) × (Nat → Int32)) (fun n i u => wX_openLink_11 post s t o he (nI m) kn n (nI u.1) (nI i) a1 a2 a3 a4 a5 u.2.1 u.2.2.1 u.2.2.2 a9)
    (fun i u => i ≤ u.1 ∧ u.1 ≤ m ∧ qv_Gap a6 u.2.1 m u.1 ∧ qv_Gap a7 u.2.2.1 m u.1 ∧ qv_Gap a8 u.2.2.2 m u.1) ?_ ?_ m (m, a6, a7, a8) ⟨Nat.le_refl m, Nat.le_refl m, qv_gap_0 a6 m, qv_gap_0 a7 m, qv_gap_0 a8 m⟩⟩
  · rintro n ⟨p, b6, b7, b8⟩ ⟨h1, h2, g6, g7, g8⟩
    dsimp only at h1 h2 g6 g7 g8 ⊢
    refine pk_le 0 0 (fun _ => ?_) (fun z => absurd z (by omega))
    rw [nI_clamp (show p < 2 ^ 31 by omega)]
    exact ⟨pk_in p 64 (by omega), nm_e ⟨pk_in p 64 (by omega), nm_e ⟨pk_in p 64 (by omega), nm_e (nm_r (nI_1 m) (H p _ _ _ h2 (qv_gap_put s g6) (qv_gap_put t g7) (qv_gap_put 0 g8) pk_us pk_us pk_us))⟩⟩⟩
  · rintro n i ⟨p, b6, b7, b8⟩ ⟨h1, h2, g6, g7, g8⟩ hw
    dsimp only at h1 h2 g6 g7 g8 ⊢
    refine pk_le (i + 1) 0 (fun z => absurd z (by omega)) (fun _ => ?_)
    rw [nI_pred, nI_clamp (show i < 2 ^ 31 by omega), nI_clamp (show i + 1 < 2 ^ 31 by omega)]
    refine pk_eq p (i + 1) (fun e => ⟨pk_in i 64 (by omega), br_c (fun z => ?_) (fun z => ?_)⟩) (fun e => nm_r (pk_m1 i) ?_)
    · exact nm_r (pk_m1 i) (hw (p, b6, b7, b8) ⟨by show i ≤ p; omega, h2, g6, g7, g8⟩)
    · subst e
      exact ⟨pk_in i 64 (by omega), pk_in (i + 1) 64 (by omega), nm_e ⟨pk_in i 64 (by omega), pk_in (i + 1) 64 (by omega), nm_e ⟨pk_in i 64 (by omega), pk_in (i + 1) 64 (by omega), nm_e (nm_e (nm_r (pk_m1 i)
        (hw (i, _, _, _) ⟨Nat.le_refl i, by show i ≤ m; omega, qv_gap_mv (by omega) g6, qv_gap_mv (by omega) g7, qv_gap_mv (by omega) g8⟩)))⟩⟩⟩
    · exact hw (p, b6, b7, b8) ⟨by show i ≤ p; omega, h2, g6, g7, g8⟩
theorem qv_v137 {post : Int32 → St1 → Prop} {x6 : Int32} {k v h : Nat} (hk : k < 64) (hv : v < 8) (H : ∀ b5, post x6 (o, nI (h + 1), li, 0, a1, a2, a3, a4, b5, a6, a7, upd a8 k (a8 k ||| ((1 : Int32) <<< (nI v &&& 31))), a9)) : wX_vote_137 post (nI v) (nI k) x6 o (nI h) li kn a1 a2 a3 a4 a5 a6 a7 a8 a9 := by
  unfold wX_vote_137
  rw [nI_clamp (show k < 2 ^ 31 by omega)]
  exact ⟨pk_in k 64 hk, pk_in k 64 hk, nm_e (nm_r (nI_1 h) ⟨pk_in v 8 hv, pk_in v 8 hv, nm_e (H _)⟩)⟩
theorem qv_shr2 {c : Int32} (h : qv_C c) : ∃ e : Nat, e < 32 ∧ c >>> ((2 : Int32) &&& 31) = nI e := by
  obtain ⟨j, hj, rfl⟩ := qv_C_in h
  exact ⟨j / 2 ^ 2, by omega, pk_shrN (by omega) _ 2 (by decide)⟩
/-- behind the judgement: the vote is entered -/
theorem qv_v113a {post : Int32 → St1 → Prop} {x6 s t : Int32} {k v h : Nat} (hk : k < 64) (hv : v < 8) (cs : qv_C s) (ct : qv_C t)
    (H : ∀ b2 b3 b4 b5, post x6 (o, nI (h + 1), li, 0, a1, b2, b3, b4, b5, a6, a7, upd a8 k (a8 k ||| ((1 : Int32) <<< (nI v &&& 31))), a9)) : wX_vote_113 post (nI v) s t (nI k) x6 o (nI h) li kn a1 a2 a3 a4 a5 a6 a7 a8 a9 := by
  unfold wX_vote_113
  obtain ⟨e, he, es⟩ := qv_shr2 cs
  obtain ⟨f, hf, et⟩ := qv_shr2 ct
  rw [es, et]
  exact qv_enter hv he hf (fun b2 b3 b4 => br_t (nI_pos' (by omega)) (qv_v137 hk hv (H b2 b3 b4)))
theorem qv_v113b {post : Int32 → St1 → Prop} {x6 s t : Int32} {m v h : Nat} (hm : m < 64) (hv : v < 8) (cs : qv_C s) (ct : qv_C t)
    (H : ∀ p b2 b3 b4 b5 b6 b7 b8, p ≤ m → qv_Gap a6 b6 m p → qv_Gap a7 b7 m p → qv_Gap a8 b8 m p → b6 p = s → b7 p = t → b8 p = 0 ||| ((1 : Int32) <<< (nI v &&& 31)) → post x6 (o, nI (h + 1), nI (m + 1), 0, a1, b2, b3, b4, b5, b6, b7, b8, a9)) : wX_vote_113 post (nI v) s t (-1) x6 o (nI h) (nI m) kn a1 a2 a3 a4 a5 a6 a7 a8 a9 := by
  unfold wX_vote_113
  obtain ⟨e, he, es⟩ := qv_shr2 cs
  obtain ⟨f, hf, et⟩ := qv_shr2 ct
  rw [es, et]
  exact qv_enter hv he hf (fun b2 b3 b4 => br_f (by decide) (qv_olink hm (fun p b6 b7 b8 hp g6 g7 g8 e6 e7 e8 => qv_v137 (by omega) hv (fun b5 => H p b2 b3 b4 b5 b6 b7 _ hp g6 g7 (qv_gap_put _ g8) e6 e7 (by rw [pk_us, e8])))))
theorem qv_v64 {post : Int32 → St1 → Prop} {s t x4 : Int32} {v h : Nat} (hv : v < 8) (hh : h ≤ 64) (cs : qv_C s) (ct : qv_C t) (H2 : 64 ≤ h → post (-2) (o, nI h, li, kn, a1, a2, a3, a4, a5, a6, a7, a8, a9))
    (H : h < 64 → ∀ o' j, j < 8 → wX_vote_113 post (nI v) s t x4 (nI j) o' (nI h) li kn a1 a2 a3 a4 a5 a6 a7 a8 a9) : wX_vote_64 post (nI v) s t x4 0 o (nI h) li kn a1 a2 a3 a4 a5 a6 a7 a8 a9 := by
  unfold wX_vote_64
  refine br_t rfl (pk_lt h 64 (fun z => ?_) (fun z => H2 z))
  obtain ⟨e, he, es⟩ := qv_shr2 cs
  obtain ⟨f, hf, et⟩ := qv_shr2 ct
  have J : ∀ P : Int32 → Prop, (∀ j, j < 8 → P (nI j)) → wpX_judge P (o, nI h, li, kn, a1, a2, a3, a4, a5, a6, a7, a8, a9) (nI v) (s >>> ((2 : Int32) &&& 31)) (t >>> ((2 : Int32) &&& 31)) := by
    intro P hP
    rw [es, et]
    exact qv_judge hv he hf hP
  exact J _ (fun j hj => br_c (fun _ => H z o j hj) (fun _ => nm_e (H z _ j hj)))
theorem qv_vote {post : Int32 → St1 → Prop} {h m : Nat} (hm : m ≤ h) (hh : h ≤ 64) {p s t : Int32}
    (H1 : ¬ qv_ok p s t → post (-1) (o, nI h, nI m, kn, a1, a2, a3, a4, a5, a6, a7, a8, a9))
    (H2 : ∀ v, v < 8 → p = nI v → qv_ok p s t → qv_Rep h m a6 a7 a8 v s t → post (-2) (o, nI h, nI m, kn, a1, a2, a3, a4, a5, a6, a7, a8, a9))
    (H3 : ∀ v, v < 8 → p = nI v → qv_ok p s t → ¬ qv_Rep h m a6 a7 a8 v s t → h < 64 → ∀ o' j m' b2 b3 b4 b5 b6 b7 b8, j < 8 → qv_Ins v s t m a6 a7 a8 m' b6 b7 b8 → post (nI j) (o', nI (h + 1), nI m', 0, a1, b2, b3, b4, b5, b6, b7, b8, a9)) :
    wpX_vote post (o, nI h, nI m, kn, a1, a2, a3, a4, a5, a6, a7, a8, a9) p s t := by
  unfold wpX_vote
  refine qv_isV (fun z => br_t rfl (H1 (fun g => z g.1))) (fun v hv ep => br_f (by decide) (qv_isC (fun z => br_t rfl (H1 (fun g => z g.2.1))) (fun cs => br_f (by decide) (qv_isC (fun z => br_t rfl (H1 (fun g => z g.2.2.1))) (fun ct => br_f (by decide) (br_c (fun lt => ?_) (fun lt => H1 (fun g => lt g.2.2.2))))))))
  subst ep
  have ok : qv_ok (nI v) s t := ⟨⟨v, hv, rfl⟩, cs, ct, lt⟩
  refine qv_link (by omega) (fun hn => br_t (by decide) ?_) (fun k hF => br_f (nI_pos (by have := hF.1; omega)) ⟨pk_in k 64 (by have := hF.1; omega), ?_⟩)
  · unfold wX_vote_63
    refine qv_v64 hv hh cs ct (fun z => H2 v hv rfl ok (Or.inl z)) (fun hl o' j hj => qv_v113b (by omega) hv cs ct (fun p b2 b3 b4 b5 b6 b7 b8 hp g6 g7 g8 e6 e7 e8 => H3 v hv rfl ok ?_ hl o' j (m + 1) b2 b3 b4 b5 b6 b7 b8 hj (Or.inr ⟨rfl, hn, p, hp, g6, g7, g8, e6, e7, e8⟩)))
    rintro (z | ⟨k, hF, _⟩)
    · omega
    · exact hn k hF.1 hF.2.1
  · have hk := hF.1
    rw [nI_clamp (show k < 2 ^ 31 by omega)]
    have ht := qv_tst (a8 k) (show v < 32 by omega)
    cases hb : qv_b (a8 k) v
    · rw [hb] at ht
      refine br_t ht ?_
      unfold wX_vote_63
      refine qv_v64 hv hh cs ct (fun z => H2 v hv rfl ok (Or.inl z)) (fun hl o' j hj => qv_v113a (by omega) hv cs ct (fun b2 b3 b4 b5 => H3 v hv rfl ok ?_ hl o' j m b2 b3 b4 b5 a6 a7 _ hj (Or.inl ⟨rfl, rfl, rfl, k, hF, hb, rfl⟩)))
      rintro (z | ⟨l, hl, hb'⟩)
      · omega
      · rw [qv_F_one hl hF, hb] at hb'
        exact absurd hb' (by decide)
    · rw [hb] at ht
      refine br_f (by rw [ht]; decide) ?_
      unfold wX_vote_64
      exact br_f (by decide) (H2 v hv rfl ok (Or.inr ⟨k, hF, hb⟩))
end
end
section
section
variable {o he li kn : Int32} {a1 a2 a3 a4 a5 a6 a7 a8 a9 : Nat → Int32}
/-! a vote without stake changes no answer -/
theorem qv_highG {post : Int32 → St1 → Prop} {h m : Nat} (hK : qv_K h m a1 a6 a7) (H : ∀ kn' b, ¬ kn' = 0 → post (nI (qv_hi b 128)) (o, he, nI m, kn', a1, a2, a3, a4, a5, a6, a7, a8, b)) : wpX_highest post (o, he, nI m, kn, a1, a2, a3, a4, a5, a6, a7, a8, a9) := by
  by_cases hk : kn = 0
  · subst hk
    exact qv_high hK (fun b _ => H 1 b (by decide))
  · exact qv_high1 hk (H kn a9 hk)
theorem qv_quiet {post : Int32 → St1 → Prop} {h m : Nat} (hK : qv_K h m a1 a6 a7) {p s t : Int32}
    (H : ∀ (o' : Int32) (h' m' : Nat) (kn' : Int32) (b1 b2 b3 b4 b5 b6 b7 b8 b9 : Nat → Int32), qv_K h' m' b1 b6 b7 → post 1 (o', nI h', nI m', kn', b1, b2, b3, b4, b5, b6, b7, b8, b9)) :
    wpL_quiet post (o, nI h, nI m, kn, a1, a2, a3, a4, a5, a6, a7, a8, a9) p s t := by
  have hmh := hK.1
  have hh := hK.2.1
  have hm : m ≤ 64 := by omega
  unfold wpL_quiet
  refine qv_stake (fun hV => ?_) (fun v hv ep => ?_)
  · refine qv_highG hK (fun kn' b hk => ?_)
    refine qv_justd hk ?_
    refine qv_final hm hk ?_
    refine qv_support hm (fun n hn => ?_)
    refine qv_vote hmh hh (fun _ => ?_) (fun v hv e => absurd ⟨v, hv, e⟩ hV) (fun v hv e => absurd ⟨v, hv, e⟩ hV)
    refine qv_high1 hk (br_t rfl ?_)
    refine qv_justd hk (br_t rfl ?_)
    refine qv_final hm hk (br_t rfl ?_)
    refine qv_support hm (fun n' hn' => br_t (qv_SP_one hn' hn) (br_t rfl (br_t rfl ?_)))
    exact H _ _ _ _ _ _ _ _ _ _ _ _ _ hK
  · subst ep
    obtain ⟨q, hq, est⟩ := hK.2.2.1 v hv
    have hs : ¬ a1 v = -1 := by
      rw [est]
      intro z
      exact nI_pos (n := q) (by omega) (by rw [z]; decide)
    have hK1 := qv_K_upd hK v 0
    rw [qv_cl_0] at hK1 ⊢
    have hz : upd a1 v 0 v = 0 := pk_us
    generalize upd a1 v 0 = A at hK1 hz ⊢
    have hA : qv_A A := hK1.2.2.1
    have h1 : ¬ (1 : Int32) = 0 := by decide
    have hv1 : ∀ w, w < 8 → nI v = nI w → v = w := fun w hw e => (nI_eq (by omega) (by omega)).mp e
    refine qv_high hK1 (fun b hb => ?_)
    refine qv_justd h1 ?_
    refine qv_final hm h1 ?_
    refine qv_support hm (fun n hn => ?_)
    refine qv_vote hmh hh (fun no => ?_) (fun w hw ew ok rep => ?_) (fun w hw ew ok nrep hl o' j m' b2 b3 b4 b5 b6 b7 b8 hj hi => ?_)
    · refine qv_high1 h1 (br_t rfl ?_)
      refine qv_justd h1 (br_t rfl ?_)
      refine qv_final hm h1 (br_t rfl ?_)
      refine qv_support hm (fun n' hn' => br_t (qv_SP_one hn' hn) (br_f hs ?_))
      refine qv_vote hmh hh (fun _ => br_t (by decide) ?_) (fun w hw ew ok => absurd ok no) (fun w hw ew ok => absurd ok no)
      unfold wL_quiet_128
      refine br_t rfl (qv_stake (fun z => absurd ⟨v, hv, rfl⟩ z) (fun w hw ew => ?_))
      obtain rfl := hv1 w hw ew
      refine br_t hz (qv_support hm (fun r hr => br_t (by decide) (qv_support hm (fun r' hr' => ?_))))
      unfold wL_quiet_168
      exact br_t (qv_SP_one hr hr') (H _ _ _ _ _ _ _ _ _ _ _ _ _ (qv_K_upd hK1 v _))
    · obtain rfl := hv1 w hw ew
      refine qv_high1 h1 (br_t rfl ?_)
      refine qv_justd h1 (br_t rfl ?_)
      refine qv_final hm h1 (br_t rfl ?_)
      refine qv_support hm (fun n' hn' => br_t (qv_SP_one hn' hn) (br_f hs ?_))
      refine qv_vote hmh hh (fun no => absurd ok no) (fun w hw ew _ _ => br_t (by decide) ?_) (fun w hw ew _ nr => absurd (hv1 w hw ew ▸ rep) nr)
      unfold wL_quiet_128
      refine br_t rfl (qv_stake (fun z => absurd ⟨v, hv, rfl⟩ z) (fun w hw ew => ?_))
      obtain rfl := hv1 w hw ew
      refine br_t hz (qv_support hm (fun r hr => br_t (by decide) (qv_support hm (fun r' hr' => ?_))))
      unfold wL_quiet_168
      exact br_t (qv_SP_one hr hr') (H _ _ _ _ _ _ _ _ _ _ _ _ _ (qv_K_upd hK1 v _))
    · obtain rfl := hv1 w hw ew
      have hJ := qv_J_ins hA hv hz hi
      have hK2 := qv_K_ins hK1 hl ok hi
      have hmh2 := hK2.1
      have hh2 := hK2.2.1
      have hm2 : m' ≤ 64 := by omega
      refine qv_high hK2 (fun b' hb' => ?_)
      have eb : ∀ c, c < 128 → b' c = b c := fun c hc => by rw [hb' c hc, hJ, hb c hc]
      refine br_t (by rw [qv_hi_eq 128 eb]) ?_
      refine qv_justd h1 (br_t (qv_jv_eq eb t) ?_)
      refine qv_final hm2 h1 (br_t (qv_fv_eq eb (qv_Fin_ins hA hv hz hi s)) ?_)
      refine qv_support hm2 (fun n' hn' => br_t (qv_SP_ins hv hz hi hn hn') (br_f hs ?_))
      refine qv_vote hmh2 hh2 (fun no => absurd ok no) (fun w hw ew _ _ => br_f (nI_pos (by omega)) ?_) (fun w hw ew _ nr => absurd (hv1 w hw ew ▸ qv_Rep_ins hv hi) nr)
      unfold wL_quiet_128
      refine br_t rfl (qv_stake (fun z => absurd ⟨v, hv, rfl⟩ z) (fun w hw ew => ?_))
      obtain rfl := hv1 w hw ew
      refine br_t hz (qv_support hm2 (fun r hr => br_f (nI_pos (by omega)) ?_))
      unfold wL_quiet_168
      refine br_t ?_ (H _ _ _ _ _ _ _ _ _ _ _ _ _ (qv_K_upd hK2 v _))
      exact qv_SP_back hv hz hi hn (by rw [est, qv_cl_id hq] at hr; rw [est]; exact hr)
end
end
section
section
variable {o he li kn : Int32} {a1 a2 a3 a4 a5 a6 a7 a8 a9 : Nat → Int32}
/-! the law -/
theorem qv_voteK {post : Int32 → St1 → Prop} {h m : Nat} (hK : qv_K h m a1 a6 a7) {p s t : Int32}
    (H : ∀ (r o' : Int32) (h' m' : Nat) (kn' : Int32) (b1 b2 b3 b4 b5 b6 b7 b8 b9 : Nat → Int32), qv_K h' m' b1 b6 b7 → post r (o', nI h', nI m', kn', b1, b2, b3, b4, b5, b6, b7, b8, b9)) :
    wpX_vote post (o, nI h, nI m, kn, a1, a2, a3, a4, a5, a6, a7, a8, a9) p s t :=
  qv_vote hK.1 hK.2.1 (fun _ => H _ _ _ _ _ _ _ _ _ _ _ _ _ _ hK) (fun _ _ _ _ _ => H _ _ _ _ _ _ _ _ _ _ _ _ _ _ hK)
    (fun v hv e ok nr hl o' j m' b2 b3 b4 b5 b6 b7 b8 hj hi => H _ _ _ _ _ _ _ _ _ _ _ _ _ _ (qv_K_ins hK hl ok hi))
theorem qv_stakeK {post : Int32 → St1 → Prop} {h m : Nat} (hK : qv_K h m a1 a6 a7) {p q : Int32}
    (H : ∀ (r o' : Int32) (h' m' : Nat) (kn' : Int32) (b1 b2 b3 b4 b5 b6 b7 b8 b9 : Nat → Int32), qv_K h' m' b1 b6 b7 → post r (o', nI h', nI m', kn', b1, b2, b3, b4, b5, b6, b7, b8, b9)) :
    wpX_stake post (o, nI h, nI m, kn, a1, a2, a3, a4, a5, a6, a7, a8, a9) p q :=
  qv_stake (fun _ => H _ _ _ _ _ _ _ _ _ _ _ _ _ _ hK) (fun j hj e => H _ _ _ _ _ _ _ _ _ _ _ _ _ _ (qv_K_upd hK j q))
/-- no offender: no stake offended -/
theorem qv_207 {post : Int32 → Prop} {L : Nat} {xs : Nat → Int32} {J : Int32 → Int32 → Int32 → Int32 → Int32 → (Nat → Int32) → (Nat → Int32) → (Nat → Int32) → (Nat → Int32) → (Nat → Int32) → (Nat → Int32) → (Nat → Int32) → (Nat → Int32) → (Nat → Int32) → Prop} {x2 : Int32} {kc ks : Nat}
    (hJ : J (x2 + 4) o he li kn a1 a2 a3 a4 a5 a6 a7 a8 a9) : ∃ n, wL_law_207 post L xs J x2 kc ks o he li kn a1 a2 a3 a4 a5 a6 a7 a8 a9 n 0 0 := by
  refine pk_loop (σ := Unit) (fun n i _ => wL_law_207 post L xs J x2 kc ks o he li kn a1 a2 a3 a4 a5 a6 a7 a8 a9 n (nI (qv_cnt o i)) (nI i)) (fun _ _ => True) 8 0 () (by omega) trivial (fun n _ _ => pk_le 8 8 (fun _ => ?_) (fun z => absurd z (by omega))) (fun n i _ hi _ hw => pk_le 8 i (fun z => absurd z (by omega)) (fun _ => ?_))
  · have hc := qv_cnt_le o 8
    refine pk_eq (qv_cnt o 8) 0 (fun e => qv_offended (br_t (qv_st_0 a1 o 8 (qv_cnt_0 o 8 e)) (nm_e hJ))) (fun _ => nm_e hJ)
  · exact qv_offender hi (nm_r (nI_add _ _) (nm_r (nI_1 i) (hw () trivial)))
theorem qv_178 {post : Int32 → Prop} {L : Nat} {xs : Nat → Int32} {J : Int32 → Int32 → Int32 → Int32 → Int32 → (Nat → Int32) → (Nat → Int32) → (Nat → Int32) → (Nat → Int32) → (Nat → Int32) → (Nat → Int32) → (Nat → Int32) → (Nat → Int32) → (Nat → Int32) → Prop} {x2 x3 x4 x7 x8 : Int32} {kc ks h m : Nat} (hK : qv_K h m a1 a6 a7)
    (hJ : ∀ (o' : Int32) (h' m' : Nat) (kn' : Int32) (b1 b2 b3 b4 b5 b6 b7 b8 b9 : Nat → Int32), qv_K h' m' b1 b6 b7 → J (x2 + 4) o' (nI h') (nI m') kn' b1 b2 b3 b4 b5 b6 b7 b8 b9) : wL_law_178 post L xs J x2 x3 x4 x7 x8 kc ks o (nI h) (nI m) kn a1 a2 a3 a4 a5 a6 a7 a8 a9 := by
  unfold wL_law_178
  exact br_c (fun _ => qv_207 (hJ _ _ _ _ _ _ _ _ _ _ _ _ _ hK)) (fun _ => qv_quiet hK (fun o' h' m' kn' b1 b2 b3 b4 b5 b6 b7 b8 b9 hK' => br_f (by decide) (qv_207 (hJ _ _ _ _ _ _ _ _ _ _ _ _ _ hK'))))
theorem qv_158 {post : Int32 → Prop} {L : Nat} {xs : Nat → Int32} {J : Int32 → Int32 → Int32 → Int32 → Int32 → (Nat → Int32) → (Nat → Int32) → (Nat → Int32) → (Nat → Int32) → (Nat → Int32) → (Nat → Int32) → (Nat → Int32) → (Nat → Int32) → (Nat → Int32) → Prop} {x2 x3 x4 x5 x6 x7 x8 : Int32} {kc ks h m : Nat} (hK : qv_K h m a1 a6 a7)
    (hJ : ∀ (o' : Int32) (h' m' : Nat) (kn' : Int32) (b1 b2 b3 b4 b5 b6 b7 b8 b9 : Nat → Int32), qv_K h' m' b1 b6 b7 → J (x2 + 4) o' (nI h') (nI m') kn' b1 b2 b3 b4 b5 b6 b7 b8 b9) : wL_law_158 post L xs J x2 x3 x4 x5 x6 x7 x8 kc ks o (nI h) (nI m) kn a1 a2 a3 a4 a5 a6 a7 a8 a9 := by
  unfold wL_law_158
  exact br_c (fun _ => qv_quiet hK (fun o' h' m' kn' b1 b2 b3 b4 b5 b6 b7 b8 b9 hK' => br_f (by decide) (qv_178 hK' hJ))) (fun _ => qv_178 hK hJ)
theorem qv_138 {post : Int32 → Prop} {L : Nat} {xs : Nat → Int32} {J : Int32 → Int32 → Int32 → Int32 → Int32 → (Nat → Int32) → (Nat → Int32) → (Nat → Int32) → (Nat → Int32) → (Nat → Int32) → (Nat → Int32) → (Nat → Int32) → (Nat → Int32) → (Nat → Int32) → Prop} {x2 x3 x4 x5 x6 x7 x8 : Int32} {kc ks h m : Nat} (hK : qv_K h m a1 a6 a7)
    (hJ : ∀ (o' : Int32) (h' m' : Nat) (kn' : Int32) (b1 b2 b3 b4 b5 b6 b7 b8 b9 : Nat → Int32), qv_K h' m' b1 b6 b7 → J (x2 + 4) o' (nI h') (nI m') kn' b1 b2 b3 b4 b5 b6 b7 b8 b9) : wL_law_138 post L xs J x2 x3 x4 x5 x6 x7 x8 kc ks o (nI h) (nI m) kn a1 a2 a3 a4 a5 a6 a7 a8 a9 := by
  unfold wL_law_138
  exact br_c (fun _ => qv_stakeK hK (fun r o' h' m' kn' b1 b2 b3 b4 b5 b6 b7 b8 b9 hK' => qv_158 hK' hJ)) (fun _ => qv_158 hK hJ)
theorem qv_124 {post : Int32 → Prop} {L : Nat} {xs : Nat → Int32} {J : Int32 → Int32 → Int32 → Int32 → Int32 → (Nat → Int32) → (Nat → Int32) → (Nat → Int32) → (Nat → Int32) → (Nat → Int32) → (Nat → Int32) → (Nat → Int32) → (Nat → Int32) → (Nat → Int32) → Prop} {x2 x3 x4 x5 x6 x7 x8 : Int32} {kc ks h m : Nat} (hK : qv_K h m a1 a6 a7)
    (hJ : ∀ (o' : Int32) (h' m' : Nat) (kn' : Int32) (b1 b2 b3 b4 b5 b6 b7 b8 b9 : Nat → Int32), qv_K h' m' b1 b6 b7 → J (x2 + 4) o' (nI h') (nI m') kn' b1 b2 b3 b4 b5 b6 b7 b8 b9) : wL_law_124 post L xs J x2 x3 x4 x5 x6 x7 x8 kc ks o (nI h) (nI m) kn a1 a2 a3 a4 a5 a6 a7 a8 a9 := by
  unfold wL_law_124
  exact br_c (fun _ => qv_stakeK hK (fun r o' h' m' kn' b1 b2 b3 b4 b5 b6 b7 b8 b9 hK' => qv_138 hK' hJ)) (fun _ => qv_138 hK hJ)
/-- a whole state that keeps the invariant -/
def qv_I (u : St1) : Prop := ∃ h m : Nat, u.2.1 = nI h ∧ u.2.2.1 = nI m ∧ qv_K h m u.2.2.2.2.1 u.2.2.2.2.2.2.2.2.2.1 u.2.2.2.2.2.2.2.2.2.2.1
theorem qv_90 {post : Int32 → Prop} {L : Nat} {xs : Nat → Int32} {J : Int32 → Int32 → Int32 → Int32 → Int32 → (Nat → Int32) → (Nat → Int32) → (Nat → Int32) → (Nat → Int32) → (Nat → Int32) → (Nat → Int32) → (Nat → Int32) → (Nat → Int32) → (Nat → Int32) → Prop} {x2 x3 x4 x5 x6 x7 x8 : Int32} {kc ks h m : Nat} (hK : qv_K h m a1 a6 a7)
    (hJ : ∀ (o' : Int32) (h' m' : Nat) (kn' : Int32) (b1 b2 b3 b4 b5 b6 b7 b8 b9 : Nat → Int32), qv_K h' m' b1 b6 b7 → J (x2 + 4) o' (nI h') (nI m') kn' b1 b2 b3 b4 b5 b6 b7 b8 b9) : ∃ n, wL_law_90 post L xs J x2 x3 x4 x5 x6 x7 x8 kc ks n 0 o (nI h) (nI m) kn a1 a2 a3 a4 a5 a6 a7 a8 a9 := by
  refine pk_loop (σ := St1) (fun n i u => wL_law_90 post L xs J x2 x3 x4 x5 x6 x7 x8 kc ks n (nI i) u.1 u.2.1 u.2.2.1 u.2.2.2.1 u.2.2.2.2.1 u.2.2.2.2.2.1 u.2.2.2.2.2.2.1 u.2.2.2.2.2.2.2.1 u.2.2.2.2.2.2.2.2.1 u.2.2.2.2.2.2.2.2.2.1 u.2.2.2.2.2.2.2.2.2.2.1 u.2.2.2.2.2.2.2.2.2.2.2.1 u.2.2.2.2.2.2.2.2.2.2.2.2) (fun _ u => qv_I u) 8 0 (o, nI h, nI m, kn, a1, a2, a3, a4, a5, a6, a7, a8, a9) (by omega) ⟨h, m, rfl, rfl, hK⟩ ?_ ?_
  · rintro n ⟨o, he, li, kn, a1, a2, a3, a4, a5, a6, a7, a8, a9⟩ ⟨h, m, e1, e2, hK⟩
    dsimp only at e1 e2 hK ⊢
    subst e1 e2
    exact pk_le 8 8 (fun _ => qv_124 hK hJ) (fun z => absurd z (by omega))
  · rintro n i ⟨o, he, li, kn, a1, a2, a3, a4, a5, a6, a7, a8, a9⟩ hi ⟨h, m, e1, e2, hK⟩ hw
    dsimp only at e1 e2 hK ⊢
    subst e1 e2
    exact pk_le 8 i (fun z => absurd z (by omega)) (fun _ => br_c (fun _ => nm_r (nI_1 i) (hw (o, nI h, nI m, kn, a1, a2, a3, a4, a5, a6, a7, a8, a9) ⟨h, m, rfl, rfl, hK⟩)) (fun _ => qv_voteK hK (fun r o' h' m' kn' b1 b2 b3 b4 b5 b6 b7 b8 b9 hK' => nm_r (nI_1 i) (hw (o', nI h', nI m', kn', b1, b2, b3, b4, b5, b6, b7, b8, b9) ⟨h', m', rfl, rfl, hK'⟩))))
theorem qv_76 {post : Int32 → Prop} {L : Nat} {xs : Nat → Int32} {J : Int32 → Int32 → Int32 → Int32 → Int32 → (Nat → Int32) → (Nat → Int32) → (Nat → Int32) → (Nat → Int32) → (Nat → Int32) → (Nat → Int32) → (Nat → Int32) → (Nat → Int32) → (Nat → Int32) → Prop} {x2 x3 x4 x5 x6 x7 x8 : Int32} {kc ks h m : Nat} (hK : qv_K h m a1 a6 a7)
    (hJ : ∀ (o' : Int32) (h' m' : Nat) (kn' : Int32) (b1 b2 b3 b4 b5 b6 b7 b8 b9 : Nat → Int32), qv_K h' m' b1 b6 b7 → J (x2 + 4) o' (nI h') (nI m') kn' b1 b2 b3 b4 b5 b6 b7 b8 b9) : wL_law_76 post L xs J x2 x3 x4 x5 x6 x7 x8 kc ks o (nI h) (nI m) kn a1 a2 a3 a4 a5 a6 a7 a8 a9 := by
  unfold wL_law_76
  exact br_c (fun _ => qv_90 hK hJ) (fun _ => br_c (fun _ => qv_90 hK hJ) (fun _ => qv_124 hK hJ))
/-- the script's loop -/
theorem qv_10 {L : Nat} (hL : L ≤ 260) {xs : Nat → Int32} {kc ks h m : Nat} (hK : qv_K h m a1 a6 a7) : ∃ n, wL_law_10 (fun r => r = 1) L xs kc ks n 0 o (nI h) (nI m) kn a1 a2 a3 a4 a5 a6 a7 a8 a9 := by
  refine loop_m (σ := Nat × St1) (fun n w => wL_law_10 (fun r => r = 1) L xs kc ks n (nI w.1) w.2.1 w.2.2.1 w.2.2.2.1 w.2.2.2.2.1 w.2.2.2.2.2.1 w.2.2.2.2.2.2.1 w.2.2.2.2.2.2.2.1 w.2.2.2.2.2.2.2.2.1 w.2.2.2.2.2.2.2.2.2.1 w.2.2.2.2.2.2.2.2.2.2.1 w.2.2.2.2.2.2.2.2.2.2.2.1 w.2.2.2.2.2.2.2.2.2.2.2.2.1 w.2.2.2.2.2.2.2.2.2.2.2.2.2) (fun w => w.1 ≤ L ∧ qv_I w.2) (fun w => L - w.1) ?_ (0, (o, nI h, nI m, kn, a1, a2, a3, a4, a5, a6, a7, a8, a9)) ⟨Nat.zero_le L, h, m, rfl, rfl, hK⟩
  rintro n ⟨i, o, he, li, kn, a1, a2, a3, a4, a5, a6, a7, a8, a9⟩ ⟨hi, h, m, e1, e2, hK⟩ hw
  dsimp only at hi e1 e2 hK ⊢
  subst e1 e2
  refine pk_lt L (i + 4) (fun _ => rfl) (fun z => ?_) rfl (nI_add i 4)
  have hJ : ∀ (o' : Int32) (h' m' : Nat) (kn' : Int32) (b1 b2 b3 b4 b5 b6 b7 b8 b9 : Nat → Int32), qv_K h' m' b1 b6 b7 → wL_law_10 (fun r => r = 1) L xs kc ks n (nI i + 4) o' (nI h') (nI m') kn' b1 b2 b3 b4 b5 b6 b7 b8 b9 := by
    intro o' h' m' kn' b1 b2 b3 b4 b5 b6 b7 b8 b9 hK'
    rw [show nI i + 4 = nI (i + 4) from nI_add i 4]
    exact hw (i + 4, o', nI h', nI m', kn', b1, b2, b3, b4, b5, b6, b7, b8, b9) ⟨z, h', m', rfl, rfl, hK'⟩ (by show L - (i + 4) < L - i; omega)
  refine ⟨pk_in i L (by omega), nm_e ⟨pk_in (i + 1) L (by omega) (nI_add i 1), nm_e ⟨pk_in (i + 2) L (by omega) (nI_add i 2), nm_e ⟨pk_in (i + 3) L (by omega) (nI_add i 3), nm_e (nm_e (nm_e ?_))⟩⟩⟩⟩
  exact br_c (fun _ => qv_voteK hK (fun r o' h' m' kn' b1 b2 b3 b4 b5 b6 b7 b8 b9 hK' => qv_76 hK' hJ)) (fun _ => qv_76 hK hJ)
theorem qv_i103 {post : St1 → Prop} {mc ms kc ks : Nat} (H : ∀ b2 b3, post (o, he, li, kn, a1, b2, b3, a4, a5, a6, a7, a8, a9)) : ∃ n, wX_init_103 post mc ms kc ks o he li kn n 0 a1 a2 a3 a4 a5 a6 a7 a8 a9 :=
  pk_loop (σ := (Nat → Int32) × (Nat → Int32)) (fun n i s => wX_init_103 post mc ms kc ks o he li kn n (nI i) a1 s.1 s.2 a4 a5 a6 a7 a8 a9) (fun _ _ => True) 256 0 (a2, a3) (by omega) trivial
    (fun n s _ => pk_le 256 256 (fun _ => H s.1 s.2) (fun z => absurd z (by omega)))
    (fun n i s hi _ hw => pk_le 256 i (fun z => absurd z (by omega)) (fun _ => ⟨pk_in i 256 hi, nm_e ⟨pk_in i 256 hi, nm_e (nm_r (nI_1 i) (hw (_, _) trivial))⟩⟩))
theorem qv_i82 {post : St1 → Prop} {mc ms kc ks : Nat} (H : ∀ b1 b2 b3, qv_A b1 → post (o, he, li, kn, b1, b2, b3, a4, a5, a6, a7, a8, a9)) : ∃ n, wX_init_82 post mc ms kc ks o he li kn n 0 a1 a2 a3 a4 a5 a6 a7 a8 a9 := by
  refine pk_loop (fun n i s => wX_init_82 post mc ms kc ks o he li kn n (nI i) s a2 a3 a4 a5 a6 a7 a8 a9) (fun i s => ∀ j, j < i → s j = nI 1) 8 0 a1 (by omega) (fun j hj => absurd hj (by omega))
    (fun n s hs => pk_le 8 8 (fun _ => qv_i103 (fun b2 b3 => H s b2 b3 (fun v hv => ⟨1, by omega, hs v hv⟩))) (fun z => absurd z (by omega)))
    (fun n i s hi hs hw => pk_le 8 i (fun z => absurd z (by omega)) (fun _ => ⟨pk_in i 8 hi, nm_e (nm_r (nI_1 i) (hw _ ?_))⟩))
  rw [nI_clamp (show i < 2 ^ 31 by omega)]
  intro j hj
  by_cases e : j = i
  · rw [e, pk_us]
    rfl
  · rw [pk_un e]
    exact hs j (by omega)
theorem i_vc (xs : Nat → Int32) (L : Nat) (hL : L ≤ 260) : wpL_law (fun r => r = 1) L xs := by
  unfold wpL_law
  refine ⟨9, 1104, by omega, by omega, ?_⟩
  unfold wpX_init
  refine ⟨by omega, by omega, by omega, by omega, by omega, by omega, by omega, by omega, by omega, by omega, by omega, by omega, by omega, by omega, by omega, by omega, by omega, by omega, qv_i82 (fun b1 b2 b3 hA => ?_)⟩
  exact qv_10 hL (h := 0) (m := 0) ⟨by omega, by omega, hA, fun k hk => absurd hk (by omega), fun k hk => absurd hk (by omega)⟩
end
end
