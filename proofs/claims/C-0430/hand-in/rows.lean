section
theorem pk_us {f : Nat → Int32} {k : Nat} {x : Int32} : upd f k x k = x := if_pos rfl
theorem pk_un {f : Nat → Int32} {k j : Nat} {x : Int32} (h : j ≠ k) : upd f k x j = f j := if_neg h
theorem pk_sub {a b : Nat} (h : b ≤ a) : nI a - nI b = nI (a - b) := by
  obtain ⟨c, rfl⟩ : ∃ c, a = c + b := ⟨a - b, by omega⟩
  rw [← nI_add, Int32.add_sub_cancel, Nat.add_sub_cancel]
theorem pk_m1 (n : Nat) : nI (n + 1) + (-1) = nI n := by
  rw [← nI_1, Int32.add_assoc, show (1 : Int32) + (-1) = 0 from rfl, Int32.add_zero]
theorem pk_sub_toInt {a b : Nat} (ha : a < 2 ^ 30) (hb : b < 2 ^ 30) : (nI a - nI b).toInt = (a : Int) - b := by
  rw [Int32.toInt_sub, nI_toInt (by omega), nI_toInt (by omega)]
  exact Int.bmod_eq_of_le (by omega) (by omega)
theorem pk_sneg {a b : Nat} (hb : b < 2 ^ 30) (h : a < b) : nI a - nI b < 0 := by
  rw [Int32.lt_iff_toInt_lt, pk_sub_toInt (by omega) hb, show (0 : Int32).toInt = 0 from by decide]
  omega
theorem pk_ix (x : Int32) {n : Nat} (hn : n < 2 ^ 31) : x < 0 ∨ nI n ≤ x ∨ ∃ j : Nat, j < n ∧ x = nI j := by
  by_cases h : x < 0
  · exact Or.inl h
  · obtain ⟨j, hj, rfl⟩ := nI_of h
    by_cases h2 : j < n
    · exact Or.inr (Or.inr ⟨j, h2, rfl⟩)
    · exact Or.inr (Or.inl (nI_le (by omega) hj))
theorem pk_le {x y : Int32} {A B : Prop} (a b : Nat) (f : a ≤ b → A) (g : b < a → B) (hx : x = nI a := by rfl) (hy : y = nI b := by rfl) (ha : a < 2 ^ 31 := by omega) (hb : b < 2 ^ 31 := by omega) : (x ≤ y → A) ∧ (¬ x ≤ y → B) := by
  subst hx hy
  rw [nI_leI ha hb]
  exact ⟨f, fun z => g (by omega)⟩
theorem pk_lt {x y : Int32} {A B : Prop} (a b : Nat) (f : a < b → A) (g : b ≤ a → B) (hx : x = nI a := by rfl) (hy : y = nI b := by rfl) (ha : a < 2 ^ 31 := by omega) (hb : b < 2 ^ 31 := by omega) : (x < y → A) ∧ (¬ x < y → B) := by
  subst hx hy
  rw [nI_ltI ha hb]
  exact ⟨f, fun z => g (by omega)⟩
theorem pk_eq {x y : Int32} {A B : Prop} (a b : Nat) (f : a = b → A) (g : a ≠ b → B) (hx : x = nI a := by rfl) (hy : y = nI b := by rfl) (ha : a < 2 ^ 31 := by omega) (hb : b < 2 ^ 31 := by omega) : (x = y → A) ∧ (¬ x = y → B) := by
  subst hx hy
  rw [nI_eq ha hb]
  exact ⟨f, g⟩
theorem pk_in {x : Int32} (n N : Nat) (h : n < N) (hx : x = nI n := by rfl) (hN : N < 2 ^ 31 := by omega) : vp_in x N := by
  subst hx
  exact vp_in_nI h hN
theorem pk_cl {x : Int32} (n : Nat) (hx : x = nI n := by rfl) (h : n < 2 ^ 31 := by omega) : x.toNatClampNeg = n := by
  subst hx
  exact nI_clamp h
end
section
/-! codes, windows, alike -/
theorem cf_pr {q : Nat} (h : 0 < q) : nI q - 1 = nI (q - 1) := by
  obtain ⟨p, rfl⟩ : ∃ p, q = p + 1 := ⟨q - 1, by omega⟩
  exact nI_pred p
theorem cf_t0 : (0 : Int32).toInt = 0 := by decide
theorem cf_t16 : (16 : Int32).toInt = 16 := by decide
theorem cf_t31 : (31 : Int32).toInt = 31 := by decide
theorem cf_tm1 : (-1 : Int32).toInt = -1 := by decide
/-- a code as it counts behind n places of a window -/
def cf_wi (x : Int32) (n : Nat) : Int32 := if x ≤ nI n then x else 0
theorem cf_wi_t {x : Int32} {n : Nat} (h : x ≤ nI n) : cf_wi x n = x := if_pos h
theorem cf_wi_f {x : Int32} {n : Nat} (h : ¬ x ≤ nI n) : cf_wi x n = 0 := if_neg h
theorem cf_wi0 (n : Nat) : cf_wi 0 n = 0 := by
  unfold cf_wi
  split <;> rfl
theorem cf_wi_wi (x : Int32) {k n : Nat} (h : k ≤ n) (hn : n < 2 ^ 31) : cf_wi (cf_wi x n) k = cf_wi x k := by
  by_cases hx : x ≤ nI n
  · rw [cf_wi_t hx]
  · rw [cf_wi_f hx, cf_wi0]
    refine (cf_wi_f (fun z => hx ?_)).symm
    exact Int32.le_trans z (nI_le h hn)
theorem cf_within {post : Int32 → Prop} {x y : Int32} (n : Nat) (hy : y = nI n) (h : post (cf_wi x n)) : wpX_within post x y := by
  subst hy
  unfold wpX_within
  constructor
  · intro hc
    rw [cf_wi_t hc] at h
    exact h
  · intro hc
    rw [cf_wi_f hc] at h
    exact h
/-- the windows of n codes from a and from b on are equal -/
def cf_Q (c : Nat → Int32) (a : Nat) (c' : Nat → Int32) (b n : Nat) : Prop := ∀ k, k < n → cf_wi (c (a + k)) k = cf_wi (c' (b + k)) k
theorem cf_Q0 {c c' : Nat → Int32} {a b : Nat} : cf_Q c a c' b 0 := fun k h => absurd h (Nat.not_lt_zero k)
theorem cf_Qs {c c' : Nat → Int32} {a b n : Nat} (h : cf_Q c a c' b n) : cf_Q c' b c a n := fun k hk => (h k hk).symm
theorem cf_Qsy {c c' : Nat → Int32} {a b n : Nat} : cf_Q c a c' b n ↔ cf_Q c' b c a n := ⟨cf_Qs, cf_Qs⟩
theorem cf_Qt {c c' c2 : Nat → Int32} {a b d n : Nat} (h : cf_Q c a c' b n) (g : cf_Q c' b c2 d n) : cf_Q c a c2 d n := fun k hk => (h k hk).trans (g k hk)
theorem cf_Qle {c c' : Nat → Int32} {a b n m : Nat} (h : cf_Q c a c' b n) (g : m ≤ n) : cf_Q c a c' b m := fun k hk => h k (Nat.lt_of_lt_of_le hk g)
theorem cf_Q1 {c c' : Nat → Int32} {a b n : Nat} : cf_Q c a c' b (n + 1) ↔ cf_Q c a c' b n ∧ cf_wi (c (a + n)) n = cf_wi (c' (b + n)) n := by
  constructor
  · intro h
    exact ⟨cf_Qle h (Nat.le_succ n), h n (Nat.lt_succ_self n)⟩
  · intro h k hk
    by_cases e : k = n
    · rw [e]
      exact h.2
    · exact h.1 k (by omega)
theorem cf_Qsh {c c' : Nat → Int32} {a b n s a2 b2 n2 : Nat} (h : cf_Q c a c' b n) (hn : n < 2 ^ 31) (ea : a2 = a + s) (eb : b2 = b + s) (en : n2 + s ≤ n) : cf_Q c a2 c' b2 n2 := by
  intro k hk
  have g := h (s + k) (by omega)
  have g2 := congrArg (fun z => cf_wi z k) g
  rw [cf_wi_wi _ (by omega) (by omega), cf_wi_wi _ (by omega) (by omega)] at g2
  rw [ea, eb, Nat.add_assoc, Nat.add_assoc]
  exact g2
theorem cf_Qc {c c' d d' : Nat → Int32} {a b n : Nat} (h : ∀ k, k < n → c (a + k) = d (a + k)) (g : ∀ k, k < n → c' (b + k) = d' (b + k)) (q : cf_Q c a c' b n) : cf_Q d a d' b n := by
  intro k hk
  rw [← h k hk, ← g k hk]
  exact q k hk
/-- a token -/
def cf_tok (x : Int32) : Prop := ¬ x < 0 ∧ x ≤ 31
theorem cf_tokI {x : Int32} (h : cf_tok x) : 0 ≤ x.toInt ∧ x.toInt ≤ 31 := by
  have h1 := h.1
  have h2 := h.2
  rw [Int32.lt_iff_toInt_lt, cf_t0] at h1
  rw [Int32.le_iff_toInt_le, cf_t31] at h2
  omega
/-- r is the code of place i in t -/
def cf_E (t : Nat → Int32) (i : Nat) (r : Int32) : Prop :=
  (t i < 16 → r = (-1) - t i) ∧ (¬ t i < 16 → ((∃ d, 1 ≤ d ∧ d ≤ i ∧ r = nI d ∧ t (i - d) = t i ∧ ∀ e, 1 ≤ e → e < d → t (i - e) ≠ t i) ∨ (r = 0 ∧ ∀ e, 1 ≤ e → e ≤ i → t (i - e) ≠ t i)))
theorem cf_Ec {t t' : Nat → Int32} {i : Nat} {r : Int32} (h : ∀ k, k ≤ i → t k = t' k) (g : cf_E t i r) : cf_E t' i r := by
  have e : ∀ k, t (i - k) = t' (i - k) := fun k => h _ (Nat.sub_le i k)
  unfold cf_E at g ⊢
  simp only [e, h i (Nat.le_refl i)] at g
  exact g
theorem cf_Ekey {t : Nat → Int32} {i : Nat} {r : Int32} (ht : cf_tok (t i)) (hE : cf_E t i r) (h : t i < 16) : r.toInt = -1 - (t i).toInt := by
  have b := cf_tokI ht
  rw [hE.1 h, Jvm.Kit.i32_sub (by rw [cf_tm1]; omega) (by rw [cf_tm1]; omega), cf_tm1]
theorem cf_wkey {t : Nat → Int32} {i n : Nat} {r : Int32} (ht : cf_tok (t i)) (hE : cf_E t i r) (h : t i < 16) (hn : n < 2 ^ 31) : (cf_wi r n).toInt = -1 - (t i).toInt := by
  have b := cf_tokI ht
  have e := cf_Ekey ht hE h
  rw [cf_wi_t, e]
  rw [Int32.le_iff_toInt_le, e, nI_toInt hn]
  omega
theorem cf_wname {t : Nat → Int32} {a n : Nat} {r : Int32} (hE : cf_E t (a + n) r) (h : ¬ t (a + n) < 16) (hn : a + n < 2 ^ 31) :
    (∃ q, q < n ∧ t (a + q) = t (a + n) ∧ (∀ p, q < p → p < n → t (a + p) ≠ t (a + n)) ∧ cf_wi r n = nI (n - q)) ∨ ((∀ q, q < n → t (a + q) ≠ t (a + n)) ∧ cf_wi r n = 0) := by
  rcases hE.2 h with ⟨d, h1, h2, hc, hd, he⟩ | ⟨hc, hd⟩
  · by_cases hdn : d ≤ n
    · refine Or.inl ⟨n - d, by omega, ?_, ?_, ?_⟩
      · rw [← hd]
        exact congrArg t (by omega)
      · intro p p1 p2 z
        refine he (n - p) (by omega) (by omega) ?_
        rw [← z]
        exact congrArg t (by omega)
      · rw [hc, cf_wi_t (nI_le hdn (by omega))]
        exact congrArg nI (by omega)
    · refine Or.inr ⟨?_, ?_⟩
      · intro q hq z
        refine he (n - q) (by omega) (by omega) ?_
        rw [← z]
        exact congrArg t (by omega)
      · rw [hc]
        exact cf_wi_f (nI_ge (by omega) (by omega))
  · refine Or.inr ⟨?_, ?_⟩
    · intro q hq z
      refine hd (n - q) (by omega) (by omega) ?_
      rw [← z]
      exact congrArg t (by omega)
    · rw [hc]
      exact cf_wi0 n
/-- place k of the two windows of tokens is alike -/
def cf_pl (t : Nat → Int32) (a : Nat) (t' : Nat → Int32) (b k : Nat) : Prop :=
  ((t (a + k) < 16 ∨ t' (b + k) < 16) → t (a + k) = t' (b + k)) ∧ (¬ t (a + k) < 16 → ¬ t' (b + k) < 16 → ∀ q, q < k → (t (a + q) = t (a + k) ↔ t' (b + q) = t' (b + k)))
def cf_A (t : Nat → Int32) (a : Nat) (t' : Nat → Int32) (b n : Nat) : Prop := ∀ k, k < n → cf_pl t a t' b k
theorem cf_A0 {t t' : Nat → Int32} {a b : Nat} : cf_A t a t' b 0 := fun k h => absurd h (Nat.not_lt_zero k)
theorem cf_A1 {t t' : Nat → Int32} {a b n : Nat} : cf_A t a t' b (n + 1) ↔ cf_A t a t' b n ∧ cf_pl t a t' b n := by
  constructor
  · intro h
    exact ⟨fun k hk => h k (by omega), h n (Nat.lt_succ_self n)⟩
  · intro h k hk
    by_cases e : k = n
    · rw [e]
      exact h.2
    · exact h.1 k (by omega)
theorem cf_Ac {t t' s s' : Nat → Int32} {a b a' b' n : Nat} (h : ∀ k, k < n → t (a + k) = s (a' + k)) (g : ∀ k, k < n → t' (b + k) = s' (b' + k)) (q : cf_A t a t' b n) : cf_A s a' s' b' n := by
  intro k hk
  have z := q k hk
  unfold cf_pl at z ⊢
  rw [← h k hk, ← g k hk]
  refine ⟨z.1, fun z1 z2 p hp => ?_⟩
  rw [← h p (by omega), ← g p (by omega)]
  exact z.2 z1 z2 p hp
theorem cf_plI {t t' : Nat → Int32} {a b n : Nat} {r r' : Int32} (hA : cf_A t a t' b n) (ht : cf_tok (t (a + n))) (hE : cf_E t (a + n) r) (ht' : cf_tok (t' (b + n))) (hE' : cf_E t' (b + n) r') (ha : a + n < 2 ^ 31) (hb : b + n < 2 ^ 31) :
    cf_wi r n = cf_wi r' n ↔ cf_pl t a t' b n := by
  have bt := cf_tokI ht
  have bt' := cf_tokI ht'
  by_cases h : t (a + n) < 16
  · have k1 := cf_wkey ht hE h (n := n) (by omega)
    by_cases h' : t' (b + n) < 16
    · have k2 := cf_wkey ht' hE' h' (n := n) (by omega)
      constructor
      · intro e
        rw [e, k2] at k1
        refine ⟨fun _ => Int32.toInt_inj.mp (by omega), fun z => absurd h z⟩
      · intro e
        have e2 := e.1 (Or.inl h)
        rw [← e2] at k2
        exact Int32.toInt_inj.mp (by omega)
    · constructor
      · intro e
        rcases cf_wname hE' h' hb with ⟨q, hq, _, _, e2⟩ | ⟨_, e2⟩
        · rw [e, e2, nI_toInt (by omega)] at k1
          omega
        · rw [e, e2, cf_t0] at k1
          omega
      · intro e
        have e2 := e.1 (Or.inl h)
        rw [← e2] at h'
        exact absurd h h'
  · by_cases h' : t' (b + n) < 16
    · have k2 := cf_wkey ht' hE' h' (n := n) (by omega)
      constructor
      · intro e
        rcases cf_wname hE h ha with ⟨q, hq, _, _, e2⟩ | ⟨_, e2⟩
        · rw [← e, e2, nI_toInt (by omega)] at k2
          omega
        · rw [← e, e2, cf_t0] at k2
          omega
      · intro e
        have e2 := e.1 (Or.inr h')
        rw [e2] at h
        exact absurd h' h
    · constructor
      · intro e
        refine ⟨fun z => (z.elim (fun y => absurd y h) (fun y => absurd y h')), fun _ _ p hp => ?_⟩
        rcases cf_wname hE h ha with ⟨q, hq, e1, m1, c1⟩ | ⟨m1, c1⟩
        · rcases cf_wname hE' h' hb with ⟨q', hq', e2, m2, c2⟩ | ⟨m2, c2⟩
          · rw [c1, c2, nI_eq (by omega) (by omega)] at e
            have eq : q' = q := by omega
            subst eq
            by_cases h1 : p < q'
            · have hz := hA q' hq
              have n1 : ¬ t (a + q') < 16 := by rw [e1]; exact h
              have n2 : ¬ t' (b + q') < 16 := by rw [e2]; exact h'
              have hz2 := hz.2 n1 n2 p h1
              rw [e1, e2] at hz2
              exact hz2
            · by_cases h2 : p = q'
              · rw [h2]
                exact ⟨fun _ => e2, fun _ => e1⟩
              · exact ⟨fun z => absurd z (m1 p (by omega) hp), fun z => absurd z (m2 p (by omega) hp)⟩
          · rw [c1, c2] at e
            exact absurd e (nI_ne0 (by omega) (by omega))
        · rcases cf_wname hE' h' hb with ⟨q', hq', e2, m2, c2⟩ | ⟨m2, c2⟩
          · rw [c1, c2] at e
            exact absurd e.symm (nI_ne0 (by omega) (by omega))
          · exact ⟨fun z => absurd z (m1 p hp), fun z => absurd z (m2 p hp)⟩
      · intro e
        have ee := e.2 h h'
        rcases cf_wname hE h ha with ⟨q, hq, e1, m1, c1⟩ | ⟨m1, c1⟩
        · rcases cf_wname hE' h' hb with ⟨q', hq', e2, m2, c2⟩ | ⟨m2, c2⟩
          · rw [c1, c2]
            have f1 : ¬ q < q' := fun z => m1 q' z hq' ((ee q' hq').mpr e2)
            have f2 : ¬ q' < q := fun z => m2 q z hq ((ee q hq).mp e1)
            exact congrArg nI (by omega)
          · exact absurd ((ee q hq).mp e1) (m2 q hq)
        · rcases cf_wname hE' h' hb with ⟨q', hq', e2, m2, c2⟩ | ⟨m2, c2⟩
          · exact absurd ((ee q' hq').mpr e2) (m1 q' hq')
          · rw [c1, c2]
/-- windows with equal codes are alike, and the other way -/
theorem cf_br {t t' c c' : Nat → Int32} {a b : Nat} : ∀ n, a + n < 2 ^ 31 → b + n < 2 ^ 31 → (∀ k, k < n → cf_tok (t (a + k)) ∧ cf_E t (a + k) (c (a + k))) → (∀ k, k < n → cf_tok (t' (b + k)) ∧ cf_E t' (b + k) (c' (b + k))) →
    (cf_Q c a c' b n ↔ cf_A t a t' b n) := by
  intro n
  induction n with
  | zero => exact fun _ _ _ _ => ⟨fun _ => cf_A0, fun _ => cf_Q0⟩
  | succ n ih =>
    intro ha hb h h'
    have i := ih (by omega) (by omega) (fun k hk => h k (by omega)) (fun k hk => h' k (by omega))
    have p := h n (Nat.lt_succ_self n)
    have p' := h' n (Nat.lt_succ_self n)
    rw [cf_Q1, cf_A1]
    constructor
    · intro z
      have z1 := i.mp z.1
      exact ⟨z1, (cf_plI z1 p.1 p.2 p'.1 p'.2 (by omega) (by omega)).mp z.2⟩
    · intro z
      exact ⟨i.mpr z.1, (cf_plI z.1 p.1 p.2 p'.1 p'.2 (by omega) (by omega)).mpr z.2⟩
/-- a code within its own text's places -/
theorem cf_Ewi {t : Nat → Int32} {i : Nat} {r : Int32} (ht : cf_tok (t i)) (hE : cf_E t i r) (hi : i < 2 ^ 31) : cf_wi r i = r := by
  by_cases h : t i < 16
  · have b := cf_tokI ht
    have e := cf_Ekey ht hE h
    rw [cf_wi_t]
    rw [Int32.le_iff_toInt_le, e, nI_toInt hi]
    omega
  · rcases hE.2 h with ⟨d, h1, h2, hc, hd, he⟩ | ⟨hc, hd⟩
    · rw [hc]
      exact cf_wi_t (nI_le h2 hi)
    · rw [hc]
      exact cf_wi0 i
end
section
/-! the failure function and the search, in plain terms -/
/-- f is the longest proper beginning that the first j codes of w end with -/
def cf_F (w : Nat → Int32) (j f : Nat) : Prop := f < j ∧ cf_Q w (j - f) w 0 f ∧ ∀ k, f < k → k < j → ¬ cf_Q w (j - k) w 0 k
def cf_Ft (w fl : Nat → Int32) (m : Nat) : Prop := ∀ j, 0 < j → j ≤ m → ∃ f, fl (j - 1) = nI f ∧ cf_F w j f
/-- the inner loop at code i of c: the first q of w end there, and no longer beginning can be lengthened -/
def cf_K (c w : Nat → Int32) (m i q : Nat) : Prop := q ≤ i ∧ q < m ∧ cf_Q c (i - q) w 0 q ∧ ∀ k, q < k → k < m → k ≤ i → cf_Q c (i - k) w 0 k → cf_wi (c i) k ≠ w k
/-- q is the longest beginning (of at most m) that ends ahead of place i -/
def cf_G (c w : Nat → Int32) (m i q : Nat) : Prop := q ≤ i ∧ q ≤ m ∧ cf_Q c (i - q) w 0 q ∧ ∀ k, q < k → k ≤ m → k ≤ i → ¬ cf_Q c (i - k) w 0 k
theorem cf_Qw {c w : Nat → Int32} {i q k : Nat} (h : cf_Q c (i - q) w 0 q) (hq : q ≤ i) (hk : k ≤ q) (hb : q < 2 ^ 31) : cf_Q c (i - k) w (q - k) k :=
  cf_Qsh (s := q - k) h hb (by omega) (by omega) (by omega)
theorem cf_Kn {c w : Nat → Int32} {m i q f : Nat} (hm : m < 2 ^ 31) (h : cf_K c w m i q) (hne : cf_wi (c i) q ≠ w q) (hF : cf_F w q f) : cf_K c w m i f := by
  obtain ⟨h1, h2, h3, h4⟩ := h
  obtain ⟨f1, f2, f3⟩ := hF
  refine ⟨by omega, by omega, cf_Qt (cf_Qw h3 h1 (by omega) (by omega)) f2, ?_⟩
  intro k k1 k2 k3 hk
  by_cases e : k = q
  · rw [e]
    exact hne
  · by_cases g : q < k
    · exact h4 k g k2 k3 hk
    · exact absurd (cf_Qt (cf_Qs (cf_Qw h3 h1 (by omega) (by omega))) hk) (f3 k k1 (by omega))
theorem cf_Qsp {c w : Nat → Int32} {m i k : Nat} (hw : ∀ j, j < m → cf_wi (w j) j = w j) (hk : k < m) (hi : k ≤ i) : cf_Q c (i + 1 - (k + 1)) w 0 (k + 1) ↔ cf_Q c (i - k) w 0 k ∧ cf_wi (c i) k = w k := by
  rw [show i + 1 - (k + 1) = i - k from by omega, cf_Q1, Nat.zero_add, hw k hk, show i - k + k = i from by omega]
theorem cf_Kh {c w : Nat → Int32} {m i q : Nat} (hw : ∀ j, j < m → cf_wi (w j) j = w j) (h : cf_K c w m i q) (he : cf_wi (c i) q = w q) : cf_G c w m (i + 1) (q + 1) := by
  obtain ⟨h1, h2, h3, h4⟩ := h
  refine ⟨by omega, by omega, (cf_Qsp hw h2 h1).mpr ⟨h3, he⟩, ?_⟩
  intro k k1 k2 k3 hk
  obtain ⟨p, rfl⟩ : ∃ p, k = p + 1 := ⟨k - 1, by omega⟩
  have z := (cf_Qsp hw (by omega) (by omega)).mp hk
  exact h4 p (by omega) (by omega) (by omega) z.1 z.2
theorem cf_Km {c w : Nat → Int32} {m i : Nat} (hw : ∀ j, j < m → cf_wi (w j) j = w j) (h : cf_K c w m i 0) (he : cf_wi (c i) 0 ≠ w 0) : cf_G c w m (i + 1) 0 := by
  obtain ⟨h1, h2, h3, h4⟩ := h
  refine ⟨by omega, by omega, cf_Q0, ?_⟩
  intro k k1 k2 k3 hk
  obtain ⟨p, rfl⟩ : ∃ p, k = p + 1 := ⟨k - 1, by omega⟩
  have z := (cf_Qsp hw (by omega) (by omega)).mp hk
  by_cases e : p = 0
  · rw [e] at z
    exact he z.2
  · exact h4 p (by omega) (by omega) (by omega) z.1 z.2
theorem cf_GK {c w : Nat → Int32} {m i q : Nat} (h : cf_G c w m i q) (hq : q < m) : cf_K c w m i q :=
  ⟨h.1, hq, h.2.2.1, fun k k1 k2 k3 hk => absurd hk (h.2.2.2 k k1 (by omega) k3)⟩
theorem cf_GKf {c w : Nat → Int32} {m i f : Nat} (hm : m < 2 ^ 31) (h : cf_G c w m i m) (hF : cf_F w m f) : cf_K c w m i f := by
  obtain ⟨h1, h2, h3, h4⟩ := h
  obtain ⟨f1, f2, f3⟩ := hF
  refine ⟨by omega, f1, cf_Qt (cf_Qw h3 h1 (by omega) hm) f2, ?_⟩
  intro k k1 k2 k3 hk
  exact absurd (cf_Qt (cf_Qs (cf_Qw h3 h1 (by omega) hm)) hk) (f3 k k1 k2)
theorem cf_FK {w : Nat → Int32} {j f : Nat} (h : cf_F w j f) : cf_K w w j j f :=
  ⟨Nat.le_of_lt h.1, h.1, h.2.1, fun k k1 k2 _ hk => absurd hk (h.2.2 k k1 k2)⟩
theorem cf_GF {w : Nat → Int32} {j f : Nat} (h : cf_G w w j (j + 1) f) : cf_F w (j + 1) f :=
  ⟨Nat.lt_succ_of_le h.2.1, h.2.2.1, fun k k1 k2 => h.2.2.2 k k1 (by omega) (by omega)⟩
theorem cf_F1 {w : Nat → Int32} : cf_F w 1 0 := ⟨by omega, cf_Q0, fun k k1 k2 => by omega⟩
theorem cf_Fc {w w' : Nat → Int32} {j f : Nat} (e : ∀ k, k < j → w k = w' k) (h : cf_F w j f) : cf_F w' j f := by
  obtain ⟨f1, f2, f3⟩ := h
  refine ⟨f1, cf_Qc (fun k hk => e _ (by omega)) (fun k hk => e _ (by omega)) f2, ?_⟩
  intro k k1 k2 hk
  exact f3 k k1 k2 (cf_Qc (fun i hi => (e _ (by omega)).symm) (fun i hi => (e _ (by omega)).symm) hk)
theorem cf_Ftc {w w' fl fl' : Nat → Int32} {m : Nat} (e : ∀ k, k < m → w k = w' k) (g : ∀ k, k < m → fl k = fl' k) (h : cf_Ft w fl m) : cf_Ft w' fl' m := by
  intro j j0 j1
  obtain ⟨f, hf, hF⟩ := h j j0 j1
  exact ⟨f, (g (j - 1) (by omega)).symm.trans hf, cf_Fc (fun k hk => e k (by omega)) hF⟩
theorem cf_Ftu {w fl : Nat → Int32} {j f : Nat} {x : Int32} (h : cf_Ft w fl j) (hF : cf_F w (j + 1) f) (hx : x = nI f) : cf_Ft w (upd fl j x) (j + 1) := by
  intro i i0 i1
  by_cases e : i = j + 1
  · subst e
    exact ⟨f, by rw [Nat.add_sub_cancel, pk_us, hx], hF⟩
  · obtain ⟨g, hg, hG⟩ := h i i0 (by omega)
    exact ⟨g, by rw [pk_un (by omega), hg], hG⟩
theorem cf_G0 {c w : Nat → Int32} {m : Nat} : cf_G c w m 0 0 := ⟨Nat.le_refl 0, Nat.zero_le m, cf_Q0, fun k k1 _ k3 => by omega⟩
/-! counts -/
noncomputable def cf_cn (M : Nat → Prop) : Nat → Nat
  | 0 => 0
  | n + 1 => cf_cn M n + @ite Nat (M n) (Classical.propDecidable (M n)) 1 0
theorem cf_cn0 {M : Nat → Prop} : cf_cn M 0 = 0 := rfl
theorem cf_cne {M : Nat → Prop} {n : Nat} : cf_cn M (n + 1) = cf_cn M n + @ite Nat (M n) (Classical.propDecidable (M n)) 1 0 := rfl
theorem cf_cnt {M : Nat → Prop} {n : Nat} (h : M n) : cf_cn M (n + 1) = cf_cn M n + 1 :=
  cf_cne.trans (congrArg (fun z => cf_cn M n + z) (if_pos h))
theorem cf_cnf {M : Nat → Prop} {n : Nat} (h : ¬ M n) : cf_cn M (n + 1) = cf_cn M n :=
  cf_cne.trans (congrArg (fun z => cf_cn M n + z) (if_neg h))
theorem cf_cn1 (M : Nat → Prop) (n : Nat) : cf_cn M n ≤ cf_cn M (n + 1) ∧ cf_cn M (n + 1) ≤ cf_cn M n + 1 := by
  by_cases h : M n
  · rw [cf_cnt h]
    omega
  · rw [cf_cnf h]
    omega
theorem cf_cnle (M : Nat → Prop) : ∀ n, cf_cn M n ≤ n := by
  intro n
  induction n with
  | zero => exact Nat.le_refl 0
  | succ n ih =>
    have := (cf_cn1 M n).2
    omega
theorem cf_cnmo (M : Nat → Prop) {a : Nat} : ∀ b, a ≤ b → cf_cn M a ≤ cf_cn M b := by
  intro b
  induction b with
  | zero =>
    intro h
    have e : a = 0 := by omega
    exact Nat.le_of_eq (congrArg (cf_cn M) e)
  | succ b ih =>
    intro h
    by_cases e : a = b + 1
    · exact Nat.le_of_eq (congrArg (cf_cn M) e)
    · exact Nat.le_trans (ih (by omega)) (cf_cn1 M b).1
theorem cf_cnlt {M : Nat → Prop} {s u : Nat} (h : M s) (hs : s < u) : cf_cn M s < cf_cn M u := by
  have := cf_cnmo M u (show s + 1 ≤ u from hs)
  rw [cf_cnt h] at this
  omega
theorem cf_cnin {M : Nat → Prop} {s s' : Nat} (h : M s) (h' : M s') (e : cf_cn M s = cf_cn M s') : s = s' := by
  by_cases a : s < s'
  · have := cf_cnlt h a
    omega
  · by_cases b : s' < s
    · have := cf_cnlt h' b
      omega
    · omega
theorem cf_cnex {M : Nat → Prop} {r : Nat} : ∀ u, r < cf_cn M u → ∃ s, s < u ∧ M s ∧ cf_cn M s = r := by
  intro u
  induction u with
  | zero => exact fun h => absurd h (Nat.not_lt_zero r)
  | succ u ih =>
    intro h
    by_cases g : r < cf_cn M u
    · obtain ⟨s, h1, h2, h3⟩ := ih g
      exact ⟨s, by omega, h2, h3⟩
    · by_cases hM : M u
      · rw [cf_cnt hM] at h
        exact ⟨u, by omega, hM, by omega⟩
      · rw [cf_cnf hM] at h
        exact absurd h g
theorem cf_cnc {M M' : Nat → Prop} : ∀ u, (∀ s, s < u → (M s ↔ M' s)) → cf_cn M u = cf_cn M' u := by
  intro u
  induction u with
  | zero => exact fun _ => rfl
  | succ u ih =>
    intro h
    have e := ih (fun s hs => h s (by omega))
    by_cases hM : M u
    · rw [cf_cnt hM, cf_cnt ((h u (by omega)).mp hM), e]
    · rw [cf_cnf hM, cf_cnf (fun z => hM ((h u (by omega)).mpr z)), e]
theorem cf_cncut {M : Nat → Prop} {u : Nat} : ∀ v, u ≤ v → (∀ s, u ≤ s → s < v → ¬ M s) → cf_cn M v = cf_cn M u := by
  intro v
  induction v with
  | zero =>
    intro h _
    rw [show u = 0 from by omega]
  | succ v ih =>
    intro h g
    by_cases e : u = v + 1
    · rw [e]
    · rw [cf_cnf (g v (by omega) (by omega))]
      exact ih (by omega) (fun s s1 s2 => g s s1 (by omega))
/-- what has been found when i codes are read -/
def cf_S (c w : Nat → Int32) (m i : Nat) (fo : Int32) (fa : Nat → Int32) : Prop :=
  fo = nI (cf_cn (fun s => cf_Q c s w 0 m) (i + 1 - m)) ∧ ∀ s, s + m ≤ i → cf_Q c s w 0 m → fa (cf_cn (fun s => cf_Q c s w 0 m) s) = nI s
theorem cf_S0 {c w fa : Nat → Int32} {m : Nat} (hm : 0 < m) : cf_S c w m 0 0 fa := by
  refine ⟨?_, fun s h => by omega⟩
  rw [show 0 + 1 - m = 0 from by omega]
  exact nI_0.symm
theorem cf_Sh {c w fa : Nat → Int32} {m i : Nat} {fo : Int32} (hi : i < 48) (h : cf_S c w m i fo fa) (hm : m ≤ i + 1) (hQ : cf_Q c (i + 1 - m) w 0 m) :
    cf_S c w m (i + 1) (fo + 1) (upd fa fo.toNatClampNeg (nI (i + 1 - m))) := by
  obtain ⟨h1, h2⟩ := h
  have b := cf_cnle (fun s => cf_Q c s w 0 m) (i + 1 - m)
  have t := cf_cnt (M := fun s => cf_Q c s w 0 m) (n := i + 1 - m) hQ
  refine ⟨?_, fun s hs hq => ?_⟩
  · rw [h1, nI_1, ← t]
    exact congrArg (fun z => nI (cf_cn (fun s => cf_Q c s w 0 m) z)) (by omega)
  · rw [h1, nI_clamp (by omega)]
    by_cases e : s = i + 1 - m
    · rw [e, pk_us]
    · have l := cf_cnlt (M := fun s => cf_Q c s w 0 m) (s := s) (u := i + 1 - m) hq (by omega)
      rw [pk_un (by omega)]
      exact h2 s (by omega) hq
theorem cf_Sm {c w fa : Nat → Int32} {m i : Nat} {fo : Int32} (h : cf_S c w m i fo fa) (hQ : m ≤ i + 1 → ¬ cf_Q c (i + 1 - m) w 0 m) : cf_S c w m (i + 1) fo fa := by
  obtain ⟨h1, h2⟩ := h
  refine ⟨?_, fun s hs hq => ?_⟩
  · by_cases e : m ≤ i + 1
    · have t := cf_cnf (M := fun s => cf_Q c s w 0 m) (n := i + 1 - m) (hQ e)
      rw [h1, ← t]
      exact congrArg (fun z => nI (cf_cn (fun s => cf_Q c s w 0 m) z)) (by omega)
    · rw [h1]
      exact congrArg (fun z => nI (cf_cn (fun s => cf_Q c s w 0 m) z)) (by omega)
  · by_cases e : s + m ≤ i
    · exact h2 s e hq
    · have e2 : s = i + 1 - m := by omega
      rw [e2] at hq
      exact absurd hq (hQ (by omega))
/-- a match at s -/
def cf_mt (c w : Nat → Int32) (N m s : Nat) : Prop := 0 < m ∧ s + m ≤ N ∧ cf_Q c s w 0 m
theorem cf_Se {c w fa : Nat → Int32} {m N : Nat} {fo : Int32} (hm : 0 < m) (h : cf_S c w m N fo fa) :
    fo = nI (cf_cn (cf_mt c w N m) N) ∧ ∀ s, cf_mt c w N m s → fa (cf_cn (cf_mt c w N m) s) = nI s := by
  obtain ⟨h1, h2⟩ := h
  have e : ∀ u, u + m ≤ N + 1 → cf_cn (cf_mt c w N m) u = cf_cn (fun s => cf_Q c s w 0 m) u := by
    intro u hu
    exact cf_cnc u (fun s hs => ⟨fun z => z.2.2, fun z => ⟨hm, by omega, z⟩⟩)
  refine ⟨?_, fun s hs => ?_⟩
  · rw [h1]
    by_cases g : m ≤ N
    · rw [← e _ (by omega)]
      exact congrArg nI (cf_cncut N (by omega) (fun s s1 s2 z => by have := z.2.1; omega)).symm
    · have e2 := cf_cncut (M := cf_mt c w N m) (u := 0) N (by omega) (fun s s1 s2 z => by have := z.2.1; omega)
      rw [e2, show N + 1 - m = 0 from by omega]
      rfl
  · rw [e s (by have := hs.2.1; omega)]
    exact h2 s hs.2.1 hs.2.2
end
section
/-! X: encoding, pattern, search -/
section
variable {fT fP fF fL f1 f2 : Int32} {aT aB aW aV aF aA aR : Nat → Int32}
theorem cf_badT {post : Int32 → Prop} {x : Int32} (h : cf_tok x) (hp : post 0) : wpX_badToken post x := br_f h.1 (br_t h.2 hp)
theorem cf_badF {post : Int32 → Prop} {x : Int32} (h : ¬ cf_tok x) (hp : post 1) : wpX_badToken post x := br_c (fun _ => hp) (fun a => br_f (fun b => h ⟨a, b⟩) hp)
theorem cf_xd_loop {post : Int32 → Prop} {i : Nat} (hi : i < 48) (h16 : ¬ aT i < 16) (hp : ∀ r, cf_E aT i r → post r) : ∀ n d, 1 ≤ d → d ≤ i + 1 → i + 1 - d < n → (∀ e, 1 ≤ e → e < d → aT (i - e) ≠ aT i) → wX_distance_22 post (nI i) fT fP fF fL f1 f2 aT aB aW aV aF aA aR n (nI d) := by
  intro n
  induction n with
  | zero => intro d h1 h0 h2; omega
  | succ n ih =>
    intro d h1 h0 h2 h3
    refine pk_lt i d (fun h => ?_) (fun h => ?_)
    · exact hp 0 ⟨fun z => absurd z h16, fun _ => Or.inr ⟨rfl, fun e e1 e2 => h3 e e1 (by omega)⟩⟩
    · rw [pk_sub h, nI_clamp (show i - d < 2 ^ 31 by omega), nI_clamp (show i < 2 ^ 31 by omega)]
      refine ⟨vp_in_nI (by omega) (by decide), vp_in_nI hi (by decide), br_c (fun he => ?_) (fun hne => ?_)⟩
      · exact hp _ ⟨fun z => absurd z h16, fun _ => Or.inl ⟨d, h1, h, rfl, he, h3⟩⟩
      · refine nm_r (nI_1 d) (ih (d + 1) (by omega) (by omega) (by omega) ?_)
        intro e e1 e2
        by_cases g : e = d
        · rw [g]
          exact hne
        · exact h3 e e1 (by omega)
theorem cf_xd {post : Int32 → Prop} {i : Nat} (hi : i < 48) (hp : ∀ r, cf_E aT i r → post r) : wpX_distance post (fT, fP, fF, fL, f1, f2, aT, aB, aW, aV, aF, aA, aR) (nI i) := by
  unfold wpX_distance
  dsimp only
  rw [nI_clamp (show i < 2 ^ 31 by omega)]
  refine ⟨vp_in_nI hi (by decide), br_c (fun h => ?_) (fun h => ?_)⟩
  · exact ⟨i + 1, cf_xd_loop hi (Int32.not_lt.mpr h) hp (i + 1) 1 (by omega) (by omega) (by omega) (fun e e1 e2 => by omega)⟩
  · exact ⟨vp_in_nI hi (by decide), hp _ ⟨fun _ => rfl, fun z => absurd (Int32.not_lt.mp z) h⟩⟩
theorem cf_xw_loop {post : Int32 → Prop} {i : Nat} (hi : i < 12) (h16 : ¬ aW i < 16) (hp : ∀ r, cf_E aW i r → post r) : ∀ n d, 1 ≤ d → d ≤ i + 1 → i + 1 - d < n → (∀ e, 1 ≤ e → e < d → aW (i - e) ≠ aW i) → wX_wantedDistance_22 post (nI i) fT fP fF fL f1 f2 aT aB aW aV aF aA aR n (nI d) := by
  intro n
  induction n with
  | zero => intro d h1 h0 h2; omega
  | succ n ih =>
    intro d h1 h0 h2 h3
    refine pk_lt i d (fun h => ?_) (fun h => ?_)
    · exact hp 0 ⟨fun z => absurd z h16, fun _ => Or.inr ⟨rfl, fun e e1 e2 => h3 e e1 (by omega)⟩⟩
    · rw [pk_sub h, nI_clamp (show i - d < 2 ^ 31 by omega), nI_clamp (show i < 2 ^ 31 by omega)]
      refine ⟨vp_in_nI (by omega) (by decide), vp_in_nI hi (by decide), br_c (fun he => ?_) (fun hne => ?_)⟩
      · exact hp _ ⟨fun z => absurd z h16, fun _ => Or.inl ⟨d, h1, h, rfl, he, h3⟩⟩
      · refine nm_r (nI_1 d) (ih (d + 1) (by omega) (by omega) (by omega) ?_)
        intro e e1 e2
        by_cases g : e = d
        · rw [g]
          exact hne
        · exact h3 e e1 (by omega)
theorem cf_xw {post : Int32 → Prop} {i : Nat} (hi : i < 12) (hp : ∀ r, cf_E aW i r → post r) : wpX_wantedDistance post (fT, fP, fF, fL, f1, f2, aT, aB, aW, aV, aF, aA, aR) (nI i) := by
  unfold wpX_wantedDistance
  dsimp only
  rw [nI_clamp (show i < 2 ^ 31 by omega)]
  refine ⟨vp_in_nI hi (by decide), br_c (fun h => ?_) (fun h => ?_)⟩
  · exact ⟨i + 1, cf_xw_loop hi (Int32.not_lt.mpr h) hp (i + 1) 1 (by omega) (by omega) (by omega) (fun e e1 e2 => by omega)⟩
  · exact ⟨vp_in_nI hi (by decide), hp _ ⟨fun _ => rfl, fun z => absurd (Int32.not_lt.mp z) h⟩⟩
theorem cf_xch {post : Int32 → SX → Prop} {x3 : Int32} {N : Nat} (hN : N ≤ 48) (hp : ∀ b : Nat → Int32, (∀ i, i < N → cf_E aT i (b i)) → post x3 (nI N, fP, fF, fL, f1, f2, aT, b, aW, aV, aF, aA, aR)) :
    ∀ n i (b : Nat → Int32), i ≤ N → N - i < n → (∀ j, j < i → cf_E aT j (b j)) → wX_change_41 post x3 (nI N) fP fF fL f1 f2 n (nI i) aT b aW aV aF aA aR := by
  intro n
  induction n with
  | zero => intro i b h1 h2; omega
  | succ n ih =>
    intro i b h1 h2 h3
    refine pk_le N i (fun h => ?_) (fun h => ?_)
    · exact hp b (fun j hj => h3 j (by omega))
    · refine cf_xd (by omega) (fun r hr => ?_)
      refine ⟨vp_in_nI (by omega) (by decide), ?_⟩
      rw [nI_clamp (show i < 2 ^ 31 by omega)]
      refine nm_e (nm_r (nI_1 i) (ih (i + 1) _ (by omega) (by omega) ?_))
      intro j hj
      by_cases e : j = i
      · rw [e, pk_us]
        exact hr
      · rw [pk_un e]
        exact h3 j (by omega)
theorem cf_x_change {post : Int32 → SX → Prop} {p0 p1 : Int32} {N : Nat} (hN : N ≤ 48) (hE : ∀ i, i < N → cf_E aT i (aB i))
    (hp : ∀ i (b : Nat → Int32), i < N → p0 = nI i → cf_tok p1 → (∀ j, j < N → cf_E (upd aT i p1) j (b j)) → post (aT i) (nI N, fP, fF, fL, f1, f2, upd aT i p1, b, aW, aV, aF, aA, aR))
    (h3 : (∀ i, i < N → p0 ≠ nI i) → post (-3) (nI N, fP, fF, fL, f1, f2, aT, aB, aW, aV, aF, aA, aR)) (h1 : ∀ i, i < N → p0 = nI i → ¬ cf_tok p1 → post (-1) (nI N, fP, fF, fL, f1, f2, aT, aB, aW, aV, aF, aA, aR)) : wpX_change post (nI N, fP, fF, fL, f1, f2, aT, aB, aW, aV, aF, aA, aR) p0 p1 := by
  unfold wpX_change
  dsimp only
  refine br_c (fun h => ?_) (fun h => ?_)
  · exact h3 (fun i hi e => by rw [e] at h; exact nI_pos (by omega) h)
  · obtain ⟨i, hi, rfl⟩ := nI_of h
    refine pk_lt i N (fun g => ?_) (fun g => ?_)
    · by_cases ht : cf_tok p1
      · refine cf_badT ht (br_t rfl ?_)
        rw [nI_clamp hi]
        refine ⟨vp_in_nI (by omega) (by decide), nm_e ⟨vp_in_nI (by omega) (by decide), nm_e ?_⟩⟩
        refine ⟨N + 1, cf_xch hN (fun b hb => hp i b g rfl ht hb) (N + 1) i aB (by omega) (by omega) ?_⟩
        intro j hj
        exact cf_Ec (fun k hk => (pk_un (by omega)).symm) (hE j (by omega))
      · exact cf_badF ht (br_f (by decide) (h1 i g rfl ht))
    · exact h3 (fun j hj e => by rw [nI_eq (by omega) (by omega)] at e; omega)
theorem cf_x_text {post : Int32 → SX → Prop} {p0 : Int32} {N : Nat} (hN : N ≤ 48)
    (hp : N < 48 → cf_tok p0 → ∀ r, cf_E (upd aT N p0) N r → post (nI (N + 1)) (nI (N + 1), fP, fF, fL, f1, f2, upd aT N p0, upd aB N r, aW, aV, aF, aA, aR))
    (h2 : N = 48 → cf_tok p0 → post (-2) (nI N, fP, fF, fL, f1, f2, aT, aB, aW, aV, aF, aA, aR)) (h1 : ¬ cf_tok p0 → post (-1) (nI N, fP, fF, fL, f1, f2, aT, aB, aW, aV, aF, aA, aR)) : wpX_text post (nI N, fP, fF, fL, f1, f2, aT, aB, aW, aV, aF, aA, aR) p0 := by
  unfold wpX_text
  dsimp only
  by_cases ht : cf_tok p0
  · refine cf_badT ht (br_t rfl (pk_lt N 48 (fun g => ?_) (fun g => ?_)))
    · rw [nI_clamp (show N < 2 ^ 31 by omega)]
      refine ⟨vp_in_nI g (by decide), nm_e (cf_xd g (fun r hr => ⟨vp_in_nI g (by decide), nm_e (nm_r (nI_1 N) ?_)⟩))⟩
      exact hp g ht r hr
    · exact h2 (by omega) ht
  · exact cf_badF ht (br_f (by decide) (h1 ht))
/-! the failure function -/
theorem cf_xe56 {post : SX → Prop} {j q : Nat} (hj : j < 12) (hw : ∀ k, k < j → cf_wi (aV k) k = aV k) (hF : cf_Ft aV aF j) (hK : cf_K aV aV j j q) (hq : cf_wi (aV j) q = aV q ∨ q = 0)
    (hp : ∀ fl : Nat → Int32, cf_Ft aV fl (j + 1) → post (fT, fP, fF, fL, f1, f2, aT, aB, aW, aV, fl, aA, aR)) : wX_extendFailure_56 post (nI j) (nI q) fT fP fF fL f1 f2 aT aB aW aV aF aA aR := by
  have hqj : q < j := hK.2.1
  unfold wX_extendFailure_56
  refine ⟨vp_in_nI hj (by decide), cf_within q rfl ⟨vp_in_nI (by omega) (by decide), ?_⟩⟩
  rw [nI_clamp (show j < 2 ^ 31 by omega), nI_clamp (show q < 2 ^ 31 by omega)]
  refine br_c (fun h => ?_) (fun h => ?_)
  · exact nm_r (nI_1 q) ⟨vp_in_nI hj (by decide), nm_e (hp _ (cf_Ftu hF (cf_GF (cf_Kh hw hK h)) rfl))⟩
  · have e : q = 0 := hq.elim (fun z => absurd z h) (fun z => z)
    subst e
    exact ⟨vp_in_nI hj (by decide), nm_e (hp _ (cf_Ftu hF (cf_GF (cf_Km hw hK h)) rfl))⟩
theorem cf_xe21 {post : SX → Prop} {j : Nat} (hj : j < 12) (hw : ∀ k, k < j → cf_wi (aV k) k = aV k) (hF : cf_Ft aV aF j)
    (hp : ∀ fl : Nat → Int32, cf_Ft aV fl (j + 1) → post (fT, fP, fF, fL, f1, f2, aT, aB, aW, aV, fl, aA, aR)) : ∀ n q, q < n → cf_K aV aV j j q → wX_extendFailure_21 post (nI j) fT fP fF fL f1 f2 aT aB aW aV aF aA aR n (nI q) := by
  intro n
  induction n with
  | zero => intro q h; omega
  | succ n ih =>
    intro q hn hK
    have hqj : q < j := hK.2.1
    refine pk_le q 0 (fun h => ?_) (fun h => ?_)
    · exact cf_xe56 hj hw hF hK (Or.inr (by omega)) hp
    · refine ⟨vp_in_nI hj (by decide), cf_within q rfl ⟨vp_in_nI (by omega) (by decide), ?_⟩⟩
      rw [nI_clamp (show j < 2 ^ 31 by omega), nI_clamp (show q < 2 ^ 31 by omega)]
      refine br_c (fun he => cf_xe56 hj hw hF hK (Or.inl he) hp) (fun hne => ?_)
      obtain ⟨f, hf, hFf⟩ := hF q h (by omega)
      rw [cf_pr h, nI_clamp (show q - 1 < 2 ^ 31 by omega)]
      exact ⟨vp_in_nI (by omega) (by decide), nm_r hf (ih f (by have := hFf.1; omega) (cf_Kn (by omega) hK hne hFf))⟩
theorem cf_xe {post : SX → Prop} {j : Nat} (hj : j < 12) (hw : ∀ k, k < j → cf_wi (aV k) k = aV k) (hF : cf_Ft aV aF j)
    (hp : ∀ fl : Nat → Int32, cf_Ft aV fl (j + 1) → post (fT, fP, fF, fL, f1, f2, aT, aB, aW, aV, fl, aA, aR)) : wpX_extendFailure post (fT, fP, fF, fL, f1, f2, aT, aB, aW, aV, aF, aA, aR) (nI j) := by
  unfold wpX_extendFailure
  dsimp only
  rw [nI_clamp (show j < 2 ^ 31 by omega)]
  refine ⟨vp_in_nI hj (by decide), nm_e (pk_eq j 0 (fun h => ?_) (fun h => ?_))⟩
  · subst h
    exact hp _ (cf_Ftu hF cf_F1 rfl)
  · have hF2 : cf_Ft aV (upd aF j 0) j := cf_Ftc (fun _ _ => rfl) (fun k hk => (pk_un (by omega)).symm) hF
    obtain ⟨f, hf, hFf⟩ := hF2 j (by omega) (by omega)
    rw [cf_pr (show 0 < j by omega), nI_clamp (show j - 1 < 2 ^ 31 by omega)]
    exact ⟨vp_in_nI (by omega) (by decide), nm_r hf ⟨f + 1, cf_xe21 hj hw hF2 hp (f + 1) f (by omega) (cf_FK hFf)⟩⟩
/-- the pattern's part of the relation -/
def cf_P (m : Nat) (aW aV aF : Nat → Int32) : Prop := m ≤ 12 ∧ (∀ j, j < m → cf_tok (aW j) ∧ cf_E aW j (aV j)) ∧ cf_Ft aV aF m
theorem cf_Pw {m : Nat} {w v fl : Nat → Int32} (h : cf_P m w v fl) : ∀ k, k < m → cf_wi (v k) k = v k := by
  intro k hk
  have := h.1
  exact cf_Ewi (h.2.1 k hk).1 (h.2.1 k hk).2 (by omega)
theorem cf_P0 {w v fl : Nat → Int32} : cf_P 0 w v fl := ⟨by omega, fun j h => absurd h (Nat.not_lt_zero j), fun j h h' => absurd h' (Nat.not_le.mpr h)⟩
theorem cf_x_pattern {post : Int32 → SX → Prop} {p0 : Int32} {m : Nat} (hP : cf_P m aW aV aF)
    (hp : m < 12 → cf_tok p0 → ∀ v fl : Nat → Int32, cf_P (m + 1) (upd aW m p0) v fl → post (nI (m + 1)) (fT, nI (m + 1), fF, fL, f1, f2, aT, aB, upd aW m p0, v, fl, aA, aR))
    (h2 : m = 12 → cf_tok p0 → post (-2) (fT, nI m, fF, fL, f1, f2, aT, aB, aW, aV, aF, aA, aR)) (h1 : ¬ cf_tok p0 → post (-1) (fT, nI m, fF, fL, f1, f2, aT, aB, aW, aV, aF, aA, aR)) : wpX_pattern post (fT, nI m, fF, fL, f1, f2, aT, aB, aW, aV, aF, aA, aR) p0 := by
  have hw := cf_Pw hP
  obtain ⟨hm, hE, hF⟩ := hP
  unfold wpX_pattern
  dsimp only
  by_cases ht : cf_tok p0
  · refine cf_badT ht (br_t rfl (pk_lt m 12 (fun g => ?_) (fun g => ?_)))
    · rw [nI_clamp (show m < 2 ^ 31 by omega)]
      refine ⟨vp_in_nI g (by decide), nm_e (cf_xw g (fun r hr => ⟨vp_in_nI g (by decide), nm_e (nm_r (nI_1 m) ?_)⟩))⟩
      refine cf_xe g ?_ ?_ ?_
      · intro k hk
        rw [pk_un (by omega)]
        exact hw k hk
      · exact cf_Ftc (fun k hk => (pk_un (by omega)).symm) (fun _ _ => rfl) hF
      · intro fl hfl
        refine hp g ht (upd aV m r) fl ⟨by omega, ?_, hfl⟩
        intro j hj
        by_cases e : j = m
        · rw [e, pk_us, pk_us]
          exact ⟨ht, hr⟩
        · rw [pk_un e, pk_un e]
          exact ⟨(hE j (by omega)).1, cf_Ec (fun k hk => (pk_un (by omega)).symm) (hE j (by omega)).2⟩
    · exact h2 (by omega) ht
  · exact cf_badF ht (br_f (by decide) (h1 ht))
end
end
section
/-! X: search, matches, matchAt -/
section
variable {fT fP fF fL f1 f2 : Int32} {aT aB aW aV aF aA aR : Nat → Int32}
theorem cf_xs99 {post : SX → Prop} {J : Int32 → Int32 → Int32 → (Nat → Int32) → (Nat → Int32) → (Nat → Int32) → (Nat → Int32) → (Nat → Int32) → (Nat → Int32) → (Nat → Int32) → Prop} {m i q : Nat}
    (hm0 : 0 < m) (hm : m ≤ 12) (hi : i < 48) (hG : cf_G aB aV m (i + 1) q) (hS : cf_S aB aV m i fF aA)
    (hJ : ∀ (fo : Int32) (fa : Nat → Int32), cf_S aB aV m (i + 1) fo fa → J (nI q) (nI (i + 1)) fo aT aB aW aV aF fa aR) : wX_search_99 post J (nI q) (nI i) fT (nI m) fF fL f1 f2 aT aB aW aV aF aA aR := by
  have q1 := hG.1
  have q2 := hG.2.1
  unfold wX_search_99
  refine pk_eq q m (fun h => ?_) (fun h => ?_)
  · have e := hS.1
    have b := cf_cnle (fun s => cf_Q aB s aV 0 m) (i + 1 - m)
    have z := cf_Sh hi hS (by omega) (by have := hG.2.2.1; rw [h] at this; exact this)
    have k := hJ _ _ z
    refine ⟨?_, nm_r (e' := upd aA fF.toNatClampNeg (nI (i + 1 - m))) ?_ (nm_e (nm_r (nI_1 i) k))⟩
    · rw [e]
      exact vp_in_nI (by omega) (by decide)
    · rw [nI_1, pk_sub (by omega)]
  · refine nm_r (nI_1 i) (hJ _ _ (cf_Sm hS (fun g => ?_)))
    exact hG.2.2.2 m (by omega) (by omega) g
theorem cf_xs77 {post : SX → Prop} {J : Int32 → Int32 → Int32 → (Nat → Int32) → (Nat → Int32) → (Nat → Int32) → (Nat → Int32) → (Nat → Int32) → (Nat → Int32) → (Nat → Int32) → Prop} {m i q : Nat}
    (hm : m ≤ 12) (hi : i < 48) (hw : ∀ k, k < m → cf_wi (aV k) k = aV k) (hK : cf_K aB aV m i q) (hq : cf_wi (aB i) q = aV q ∨ q = 0) (hS : cf_S aB aV m i fF aA)
    (hJ : ∀ (p : Nat) (fo : Int32) (fa : Nat → Int32), cf_G aB aV m (i + 1) p → cf_S aB aV m (i + 1) fo fa → J (nI p) (nI (i + 1)) fo aT aB aW aV aF fa aR) : wX_search_77 post J (nI q) (nI i) fT (nI m) fF fL f1 f2 aT aB aW aV aF aA aR := by
  have hqj : q < m := hK.2.1
  unfold wX_search_77
  refine ⟨vp_in_nI hi (by decide), cf_within q rfl ⟨vp_in_nI (by omega) (by decide), ?_⟩⟩
  rw [nI_clamp (show i < 2 ^ 31 by omega), nI_clamp (show q < 2 ^ 31 by omega)]
  refine br_c (fun h => ?_) (fun h => ?_)
  · have g := cf_Kh hw hK h
    exact nm_r (nI_1 q) (cf_xs99 (by omega) hm hi g hS (fun fo fa z => hJ _ fo fa g z))
  · have e : q = 0 := hq.elim (fun z => absurd z h) (fun z => z)
    subst e
    have g := cf_Km hw hK h
    exact cf_xs99 (by omega) hm hi g hS (fun fo fa z => hJ _ fo fa g z)
theorem cf_xs42 {post : SX → Prop} {J : Int32 → Int32 → Int32 → (Nat → Int32) → (Nat → Int32) → (Nat → Int32) → (Nat → Int32) → (Nat → Int32) → (Nat → Int32) → (Nat → Int32) → Prop} {m i : Nat}
    (hm : m ≤ 12) (hi : i < 48) (hw : ∀ k, k < m → cf_wi (aV k) k = aV k) (hF : cf_Ft aV aF m) (hS : cf_S aB aV m i fF aA)
    (hJ : ∀ (p : Nat) (fo : Int32) (fa : Nat → Int32), cf_G aB aV m (i + 1) p → cf_S aB aV m (i + 1) fo fa → J (nI p) (nI (i + 1)) fo aT aB aW aV aF fa aR) :
    ∀ n q, q < n → cf_K aB aV m i q → wX_search_42 post J (nI i) fT (nI m) fF fL f1 f2 aT aB aW aV aF aA aR n (nI q) := by
  intro n
  induction n with
  | zero => intro q h; omega
  | succ n ih =>
    intro q hn hK
    have hqj : q < m := hK.2.1
    refine pk_le q 0 (fun h => ?_) (fun h => ?_)
    · exact cf_xs77 hm hi hw hK (Or.inr (by omega)) hS hJ
    · refine ⟨vp_in_nI hi (by decide), cf_within q rfl ⟨vp_in_nI (by omega) (by decide), ?_⟩⟩
      rw [nI_clamp (show i < 2 ^ 31 by omega), nI_clamp (show q < 2 ^ 31 by omega)]
      refine br_c (fun he => cf_xs77 hm hi hw hK (Or.inl he) hS hJ) (fun hne => ?_)
      obtain ⟨f, hf, hFf⟩ := hF q h (by omega)
      rw [cf_pr h, nI_clamp (show q - 1 < 2 ^ 31 by omega)]
      exact ⟨vp_in_nI (by omega) (by decide), nm_r hf (ih f (by have := hFf.1; omega) (cf_Kn (by omega) hK hne hFf))⟩
theorem cf_xs17 {post : SX → Prop} {N m : Nat} (hN : N ≤ 48) (hm0 : 0 < m) (hm : m ≤ 12) (hw : ∀ k, k < m → cf_wi (aV k) k = aV k) (hF : cf_Ft aV aF m)
    (hp : ∀ (fo : Int32) (fa : Nat → Int32), cf_S aB aV m N fo fa → post (nI N, nI m, fo, fL, f1, f2, aT, aB, aW, aV, aF, fa, aR)) :
    ∀ n i q (fo : Int32) (fa : Nat → Int32), i ≤ N → N - i < n → cf_G aB aV m i q → cf_S aB aV m i fo fa → wX_search_17 post (nI N) (nI m) fL f1 f2 n (nI q) (nI i) fo aT aB aW aV aF fa aR := by
  intro n
  induction n with
  | zero => intro i q fo fa h1 h2; omega
  | succ n ih =>
    intro i q fo fa h1 h2 hG hS
    have q1 := hG.1
    have q2 := hG.2.1
    refine pk_le N i (fun h => ?_) (fun h => ?_)
    · have e : i = N := by omega
      rw [e] at hS
      exact hp fo fa hS
    · refine pk_eq q m (fun g => ?_) (fun g => ?_)
      · obtain ⟨f, hf, hFf⟩ := hF q (by omega) (by omega)
        rw [cf_pr (show 0 < q by omega), nI_clamp (show q - 1 < 2 ^ 31 by omega)]
        rw [g] at hG hFf
        refine ⟨vp_in_nI (by omega) (by decide), nm_r hf ⟨f + 1, ?_⟩⟩
        exact cf_xs42 hm (by omega) hw hF hS (fun p fo2 fa2 hG2 hS2 => ih (i + 1) p fo2 fa2 (by omega) (by omega) hG2 hS2) (f + 1) f (by omega) (cf_GKf (by omega) hG hFf)
      · refine ⟨q + 1, ?_⟩
        exact cf_xs42 hm (by omega) hw hF hS (fun p fo2 fa2 hG2 hS2 => ih (i + 1) p fo2 fa2 (by omega) (by omega) hG2 hS2) (q + 1) q (by omega) (cf_GK hG (by omega))
/-- what a search finds -/
def cf_found (c w : Nat → Int32) (N m : Nat) (fo : Int32) (fa : Nat → Int32) : Prop :=
  fo = nI (cf_cn (cf_mt c w N m) N) ∧ ∀ s, cf_mt c w N m s → fa (cf_cn (cf_mt c w N m) s) = nI s
theorem cf_xs {post : SX → Prop} {N m : Nat} (hN : N ≤ 48) (hP : cf_P m aW aV aF)
    (hp : ∀ (fo : Int32) (fa : Nat → Int32), cf_found aB aV N m fo fa → post (nI N, nI m, fo, fL, f1, f2, aT, aB, aW, aV, aF, fa, aR)) : wpX_search post (nI N, nI m, fF, fL, f1, f2, aT, aB, aW, aV, aF, aA, aR) := by
  have hw := cf_Pw hP
  obtain ⟨hm, hE, hF⟩ := hP
  unfold wpX_search
  dsimp only
  refine pk_eq m 0 (fun h => ?_) (fun h => ?_)
  · refine hp _ _ ⟨?_, fun s hs => absurd hs.1 (by omega)⟩
    rw [cf_cncut (u := 0) N (by omega) (fun s _ _ z => absurd z.1 (by omega))]
    exact nI_0.symm
  · refine ⟨N + 1, ?_⟩
    exact cf_xs17 hN (by omega) hm hw hF (fun fo fa hS => hp fo fa (cf_Se (by omega) hS)) (N + 1) 0 0 0 aA (by omega) (by omega) cf_G0 (cf_S0 (by omega))
end
end
section
/-! X: clones -/
/-- windows of n at i and j, within the first N -/
def cf_V (c : Nat → Int32) (N n i j : Nat) : Prop := j + n ≤ N ∧ cf_Q c i c j n
/-- the best clone among the pairs of P -/
def cf_B (c : Nat → Int32) (N : Nat) (P : Nat → Nat → Prop) (fL f1 f2 : Int32) : Prop :=
  ∃ L : Nat, L ≤ 48 ∧ fL = nI L ∧ (∀ i j n, P i j → cf_V c N n i j → n ≤ L) ∧
    ((L = 0 ∧ f1 = -4 ∧ f2 = -4) ∨ (0 < L ∧ ∃ i0 j0, i0 < 48 ∧ j0 < 48 ∧ f1 = nI i0 ∧ f2 = nI j0 ∧ P i0 j0 ∧ cf_V c N L i0 j0 ∧ ∀ i j, P i j → cf_V c N L i j → i0 < i ∨ (i0 = i ∧ j0 ≤ j)))
def cf_ad (P : Nat → Nat → Prop) (i j : Nat) : Nat → Nat → Prop := fun a b => P a b ∨ (a = i ∧ b = j)
theorem cf_Bc {c : Nat → Int32} {N : Nat} {P P' : Nat → Nat → Prop} {fL f1 f2 : Int32} (e : ∀ i j, P i j ↔ P' i j) (h : cf_B c N P fL f1 f2) : cf_B c N P' fL f1 f2 := by
  have e2 : P = P' := funext fun i => funext fun j => propext (e i j)
  rw [← e2]
  exact h
/-- the pair (i, j) of reach r changes nothing -/
theorem cf_Bk {c : Nat → Int32} {N : Nat} {P : Nat → Nat → Prop} {f1 f2 : Int32} {L i j r : Nat} (hr : ∀ n, cf_V c N n i j ↔ n ≤ r) (h48 : L ≤ 48) (hA : ∀ i j n, P i j → cf_V c N n i j → n ≤ L)
    (hO : (L = 0 ∧ f1 = -4 ∧ f2 = -4) ∨ (0 < L ∧ ∃ i0 j0, i0 < 48 ∧ j0 < 48 ∧ f1 = nI i0 ∧ f2 = nI j0 ∧ P i0 j0 ∧ cf_V c N L i0 j0 ∧ (∀ i j, P i j → cf_V c N L i j → i0 < i ∨ (i0 = i ∧ j0 ≤ j)) ∧ (r = L → i0 < i ∨ (i0 = i ∧ j0 ≤ j))))
    (hL : r ≤ L) : cf_B c N (cf_ad P i j) (nI L) f1 f2 := by
  refine ⟨L, h48, rfl, ?_, ?_⟩
  · intro a b n hab hv
    rcases hab with hab | ⟨ha, hb⟩
    · exact hA a b n hab hv
    · rw [ha, hb] at hv
      have := (hr n).mp hv
      omega
  · rcases hO with h | ⟨h0, i0, j0, a1, a2, a3, a4, a5, a6, a7, a8⟩
    · exact Or.inl h
    · refine Or.inr ⟨h0, i0, j0, a1, a2, a3, a4, Or.inl a5, a6, ?_⟩
      intro a b hab hv
      rcases hab with hab | ⟨ha, hb⟩
      · exact a7 a b hab hv
      · rw [ha, hb] at hv ⊢
        have := (hr L).mp hv
        exact a8 (by omega)
/-- the pair (i, j) of reach r is the best -/
theorem cf_Bn {c : Nat → Int32} {N : Nat} {P : Nat → Nat → Prop} {i j r : Nat} (hr : ∀ n, cf_V c N n i j ↔ n ≤ r) (h0 : 0 < r) (h48 : r ≤ 48) (hi : i < 48) (hj : j < 48)
    (hA : ∀ i j n, P i j → cf_V c N n i j → n ≤ r) (hO : ∀ a b, P a b → cf_V c N r a b → i < a ∨ (i = a ∧ j ≤ b)) : cf_B c N (cf_ad P i j) (nI r) (nI i) (nI j) := by
  refine ⟨r, h48, rfl, ?_, Or.inr ⟨h0, i, j, hi, hj, rfl, rfl, Or.inr ⟨rfl, rfl⟩, (hr r).mpr (Nat.le_refl r), ?_⟩⟩
  · intro a b n hab hv
    rcases hab with hab | ⟨ha, hb⟩
    · exact hA a b n hab hv
    · rw [ha, hb] at hv
      exact (hr n).mp hv
  · intro a b hab hv
    rcases hab with hab | ⟨ha, hb⟩
    · exact hO a b hab hv
    · omega
section
variable {fT fP fF fL f1 f2 : Int32} {aT aB aW aV aF aA aR : Nat → Int32}
theorem cf_xt {post : SX → Prop} {c : Nat → Int32} {N i j r : Nat} {P : Nat → Nat → Prop} (hr : ∀ n, cf_V c N n i j ↔ n ≤ r) (hB : cf_B c N P fL f1 f2) (h48 : r ≤ 48) (hi : i < 48) (hj : j < 48)
    (hp : ∀ l g1 g2 : Int32, cf_B c N (cf_ad P i j) l g1 g2 → post (fT, fP, fF, l, g1, g2, aT, aB, aW, aV, aF, aA, aR)) : wpX_takeClone post (fT, fP, fF, fL, f1, f2, aT, aB, aW, aV, aF, aA, aR) (nI i) (nI j) (nI r) := by
  obtain ⟨L, hL, rfl, hA, hO⟩ := hB
  unfold wpX_takeClone
  dsimp only
  refine pk_eq r 0 (fun h => ?_) (fun h => ?_)
  · refine hp _ _ _ (cf_Bk hr hL hA ?_ (by omega))
    rcases hO with h | ⟨h0, i0, j0, a1, a2, a3, a4, a5, a6, a7⟩
    · exact Or.inl h
    · exact Or.inr ⟨h0, i0, j0, a1, a2, a3, a4, a5, a6, a7, fun z => by omega⟩
  · refine pk_le L r (fun g => ?_) (fun g => ?_)
    · refine pk_lt L r (fun k => ?_) (fun k => ?_)
      · refine hp _ _ _ (cf_Bn hr (by omega) h48 hi hj (fun a b n hab hv => ?_) (fun a b hab hv => ?_))
        · have := hA a b n hab hv
          omega
        · have := hA a b r hab hv
          omega
      · have e : L = r := by omega
        subst e
        rcases hO with ⟨h0, _⟩ | ⟨h0, i0, j0, a1, a2, rfl, rfl, a5, a6, a7⟩
        · exact absurd h0 h
        · refine pk_lt i i0 (fun y => ?_) (fun y => ?_)
          · refine hp _ _ _ (cf_Bn hr (by omega) h48 hi hj hA (fun a b hab hv => ?_))
            have := a7 a b hab hv
            omega
          · refine pk_eq i i0 (fun z => ?_) (fun z => ?_)
            · refine pk_le j0 j (fun x => ?_) (fun x => ?_)
              · exact hp _ _ _ (cf_Bk hr hL hA (Or.inr ⟨h0, i0, j0, a1, a2, rfl, rfl, a5, a6, a7, fun _ => by omega⟩) (by omega))
              · refine hp _ _ _ (cf_Bn hr (by omega) h48 hi hj hA (fun a b hab hv => ?_))
                have := a7 a b hab hv
                omega
            · exact hp _ _ _ (cf_Bk hr hL hA (Or.inr ⟨h0, i0, j0, a1, a2, rfl, rfl, a5, a6, a7, fun _ => by omega⟩) (by omega))
    · refine hp _ _ _ (cf_Bk hr hL hA ?_ (by omega))
      rcases hO with h | ⟨h0, i0, j0, a1, a2, a3, a4, a5, a6, a7⟩
      · exact Or.inl h
      · exact Or.inr ⟨h0, i0, j0, a1, a2, a3, a4, a5, a6, a7, fun z => by omega⟩
end
/-- the pairs that are done when diagonal d stands at a -/
def cf_D (N d a : Nat) : Nat → Nat → Prop := fun i j => i < j ∧ j < N ∧ (j - i < d ∨ (j - i = d ∧ i < a))
theorem cf_Ds {N d a : Nat} (hd : 0 < d) (h : a + d < N) : ∀ i j, cf_ad (cf_D N d a) a (a + d) i j ↔ cf_D N d (a + 1) i j := by
  intro i j
  unfold cf_ad cf_D
  omega
theorem cf_De {N d a : Nat} (hd : 0 < d) (h : N ≤ a + d) : ∀ i j, cf_D N d a i j ↔ cf_D N (d + 1) 0 i j := by
  intro i j
  unfold cf_D
  omega
/-- which windows of length l have an earlier one like them, among the pairs of P -/
def cf_Rp (c : Nat → Int32) (N l : Nat) (P : Nat → Nat → Prop) (R : Nat → Int32) : Prop := ∀ j, j < N → (¬ R j = 0 ↔ ∃ i, P i j ∧ cf_V c N l i j)
theorem cf_Rc {c : Nat → Int32} {N l : Nat} {P P' : Nat → Nat → Prop} {R : Nat → Int32} (e : ∀ i j, P i j ↔ P' i j) (h : cf_Rp c N l P R) : cf_Rp c N l P' R := by
  have e2 : P = P' := funext fun i => funext fun j => propext (e i j)
  rw [← e2]
  exact h
theorem cf_Rk {c : Nat → Int32} {N l i j r : Nat} {P : Nat → Nat → Prop} {R : Nat → Int32} (hr : ∀ n, cf_V c N n i j ↔ n ≤ r) (hl : r < l) (h : cf_Rp c N l P R) : cf_Rp c N l (cf_ad P i j) R := by
  intro b hb
  rw [h b hb]
  constructor
  · rintro ⟨a, h1, h2⟩
    exact ⟨a, Or.inl h1, h2⟩
  · rintro ⟨a, h1, h2⟩
    rcases h1 with h1 | ⟨ha, hb2⟩
    · exact ⟨a, h1, h2⟩
    · rw [ha, hb2] at h2
      have := (hr l).mp h2
      omega
theorem cf_Rn {c : Nat → Int32} {N l i j r : Nat} {P : Nat → Nat → Prop} {R : Nat → Int32} {x : Int32} (hr : ∀ n, cf_V c N n i j ↔ n ≤ r) (hl : l ≤ r) (hx : ¬ x = 0) (h : cf_Rp c N l P R) : cf_Rp c N l (cf_ad P i j) (upd R j x) := by
  intro b hb
  by_cases e : b = j
  · rw [e, pk_us]
    exact ⟨fun _ => ⟨i, Or.inr ⟨rfl, rfl⟩, (hr l).mpr hl⟩, fun _ => hx⟩
  · rw [pk_un e, h b hb]
    constructor
    · rintro ⟨a, h1, h2⟩
      exact ⟨a, Or.inl h1, h2⟩
    · rintro ⟨a, h1, h2⟩
      rcases h1 with h1 | ⟨ha, hb2⟩
      · exact ⟨a, h1, h2⟩
      · exact absurd hb2 e
theorem cf_bool1 : ¬ vp_nar .boolean 1 = 0 := by
  intro h
  have e : vp_nar .boolean 1 = 1 := rfl
  rw [e] at h
  exact absurd h (by decide)
theorem cf_bool0 : vp_nar .boolean 0 = 0 := rfl
/-- where the run along a diagonal stops -/
theorem cf_Vr {c : Nat → Int32} {N i j r : Nat} (hq : cf_Q c i c j r) (hN : j + r ≤ N) (hx : j + r < N → cf_wi (c (i + r)) r ≠ cf_wi (c (j + r)) r) : ∀ n, cf_V c N n i j ↔ n ≤ r := by
  intro n
  constructor
  · intro h
    by_cases g : r < n
    · have z := h.2 r g
      have := h.1
      exact absurd z (hx (by omega))
    · omega
  · intro h
    exact ⟨by omega, cf_Qle hq h⟩
def cf_all (N : Nat) : Nat → Nat → Prop := fun i j => i < j ∧ j < N
theorem cf_Dall {N d : Nat} (hd : 0 < d) (h : N ≤ d) : ∀ i j, cf_D N d 0 i j ↔ cf_all N i j := by
  intro i j
  unfold cf_D cf_all
  omega
theorem cf_B0 {c : Nat → Int32} {N : Nat} : cf_B c N (cf_D N 1 0) 0 (-4) (-4) := by
  refine ⟨0, by omega, nI_0.symm, ?_, Or.inl ⟨rfl, rfl, rfl⟩⟩
  intro i j n h
  unfold cf_D at h
  omega
theorem cf_R0 {c R : Nat → Int32} {N l : Nat} (h : ∀ j, j < N → R j = 0) : cf_Rp c N l (cf_D N 1 0) R := by
  intro j hj
  constructor
  · intro z
    exact absurd (h j hj) z
  · rintro ⟨i, hi, _⟩
    unfold cf_D at hi
    omega
section
variable {fT fP fF fL f1 f2 : Int32} {aT aB aW aV aF aA aR : Nat → Int32}
theorem cf_xd72 {post : SX → Prop} {J : Int32 → Int32 → Int32 → Int32 → Int32 → Int32 → Int32 → Int32 → (Nat → Int32) → (Nat → Int32) → (Nat → Int32) → (Nat → Int32) → (Nat → Int32) → (Nat → Int32) → (Nat → Int32) → Prop} {N d l a b : Nat}
    (hN : N ≤ 48) (hd : 0 < d) (had : a + d < N) (hl : l ≤ 48) (hab : a ≤ b) (hbd : b + d ≤ N) (hr : ∀ n, cf_V aB N n a (a + d) ↔ n ≤ b - a) (hB : cf_B aB N (cf_D N d a) fL f1 f2) (hR : cf_Rp aB N l (cf_D N d a) aR)
    (hJ : ∀ (L g1 g2 : Int32) (R : Nat → Int32), cf_B aB N (cf_D N d (a + 1)) L g1 g2 → cf_Rp aB N l (cf_D N d (a + 1)) R → J (nI b) (nI (a + 1)) (nI N) fP fF L g1 g2 aT aB aW aV aF aA R) :
    wX_sweepDiagonal_72 post J (nI d) (nI l) (nI b) (nI a) (nI N) fP fF fL f1 f2 aT aB aW aV aF aA aR := by
  unfold wX_sweepDiagonal_72
  rw [nI_add a d, pk_sub hab]
  refine cf_xt hr hB (by omega) (by omega) (by omega) (fun L g1 g2 hB2 => ?_)
  have hB3 := cf_Bc (cf_Ds hd had) hB2
  refine pk_lt (b - a) l (fun h => ?_) (fun h => ?_)
  · exact nm_r (nI_1 a) (hJ _ _ _ _ hB3 (cf_Rc (cf_Ds hd had) (cf_Rk hr h hR)))
  · rw [nI_clamp (show a + d < 2 ^ 31 by omega)]
    exact ⟨vp_in_nI (by omega) (by decide), nm_e (nm_r (nI_1 a) (hJ _ _ _ _ hB3 (cf_Rc (cf_Ds hd had) (cf_Rn hr h cf_bool1 hR))))⟩
theorem cf_xd25 {post : SX → Prop} {J : Int32 → Int32 → Int32 → Int32 → Int32 → Int32 → Int32 → Int32 → (Nat → Int32) → (Nat → Int32) → (Nat → Int32) → (Nat → Int32) → (Nat → Int32) → (Nat → Int32) → (Nat → Int32) → Prop} {N d l a : Nat}
    (hN : N ≤ 48) (hd : 0 < d) (had : a + d < N) (hl : l ≤ 48) (hB : cf_B aB N (cf_D N d a) fL f1 f2) (hR : cf_Rp aB N l (cf_D N d a) aR)
    (hJ : ∀ (b : Nat) (L g1 g2 : Int32) (R : Nat → Int32), a ≤ b → b + d ≤ N → cf_Q aB a aB (a + d) (b - a) → cf_B aB N (cf_D N d (a + 1)) L g1 g2 → cf_Rp aB N l (cf_D N d (a + 1)) R → J (nI b) (nI (a + 1)) (nI N) fP fF L g1 g2 aT aB aW aV aF aA R) :
    ∀ n b, a ≤ b → b + d ≤ N → N - (b + d) < n → cf_Q aB a aB (a + d) (b - a) → wX_sweepDiagonal_25 post J (nI d) (nI l) (nI a) (nI N) fP fF fL f1 f2 aT aB aW aV aF aA aR n (nI b) := by
  intro n
  induction n with
  | zero => intro b h1 h2 h3; omega
  | succ n ih =>
    intro b hab hbd hn hq
    refine pk_le N (b + d) (fun h => ?_) (fun h => ?_) (hy := nI_add b d)
    · exact cf_xd72 hN hd had hl hab hbd (cf_Vr hq (by omega) (fun z => by omega)) hB hR (fun L g1 g2 R hB2 hR2 => hJ b L g1 g2 R hab hbd hq hB2 hR2)
    · have e1 : a + (b - a) = b := by omega
      have e2 : a + d + (b - a) = b + d := by omega
      rw [nI_add b d, pk_sub hab, nI_clamp (show b + d < 2 ^ 31 by omega), nI_clamp (show b < 2 ^ 31 by omega)]
      refine ⟨vp_in_nI (by omega) (by decide), cf_within (b - a) rfl ⟨vp_in_nI (by omega) (by decide), cf_within (b - a) rfl (br_c (fun e => ?_) (fun e => ?_))⟩⟩
      · refine nm_r (nI_1 b) (ih (b + 1) (by omega) (by omega) (by omega) ?_)
        rw [show b + 1 - a = b - a + 1 from by omega, cf_Q1, e1, e2]
        exact ⟨hq, e⟩
      · refine cf_xd72 hN hd had hl hab hbd (cf_Vr hq (by omega) (fun z => ?_)) hB hR (fun L g1 g2 R hB2 hR2 => hJ b L g1 g2 R hab hbd hq hB2 hR2)
        rw [e1, e2]
        exact e
theorem cf_xd5 {post : SX → Prop} {N d l : Nat} (hN : N ≤ 48) (hd : 0 < d) (hl : l ≤ 48)
    (hp : ∀ (L g1 g2 : Int32) (R : Nat → Int32), cf_B aB N (cf_D N (d + 1) 0) L g1 g2 → cf_Rp aB N l (cf_D N (d + 1) 0) R → post (nI N, fP, fF, L, g1, g2, aT, aB, aW, aV, aF, aA, R)) :
    ∀ n a b (L g1 g2 : Int32) (R : Nat → Int32), a + d ≤ N → N - (a + d) < n → b + d ≤ N → cf_Q aB a aB (a + d) (b - a) → cf_B aB N (cf_D N d a) L g1 g2 → cf_Rp aB N l (cf_D N d a) R →
      wX_sweepDiagonal_5 post (nI d) (nI l) n (nI b) (nI a) (nI N) fP fF L g1 g2 aT aB aW aV aF aA R := by
  intro n
  induction n with
  | zero => intro a b L g1 g2 R h1 h2; omega
  | succ n ih =>
    intro a b L g1 g2 R had hn hbd hq hB hR
    have nx : a + d < N → ∀ (b : Nat) (L g1 g2 : Int32) (R : Nat → Int32), a ≤ b → b + d ≤ N → cf_Q aB a aB (a + d) (b - a) → cf_B aB N (cf_D N d (a + 1)) L g1 g2 → cf_Rp aB N l (cf_D N d (a + 1)) R →
        wX_sweepDiagonal_5 post (nI d) (nI l) n (nI b) (nI (a + 1)) (nI N) fP fF L g1 g2 aT aB aW aV aF aA R := by
      intro ha b L g1 g2 R hab hbd hq hB hR
      refine ih (a + 1) b L g1 g2 R (by omega) (by omega) hbd ?_ hB hR
      by_cases e : b = a
      · rw [show b - (a + 1) = 0 from by omega]
        exact cf_Q0
      · exact cf_Qsh (s := 1) hq (by omega) rfl (by omega) (by omega)
    refine pk_le N (a + d) (fun h => ?_) (fun h => ?_) (hy := nI_add a d)
    · exact hp _ _ _ _ (cf_Bc (cf_De hd h) hB) (cf_Rc (cf_De hd h) hR)
    · refine pk_le a b (fun g => ⟨N + 1, ?_⟩) (fun g => ⟨N + 1, ?_⟩)
      · exact cf_xd25 hN hd h hl hB hR (nx h) (N + 1) b g hbd (by omega) hq
      · refine cf_xd25 hN hd h hl hB hR (nx h) (N + 1) a (by omega) (by omega) (by omega) ?_
        rw [Nat.sub_self]
        exact cf_Q0
theorem cf_xsd {post : SX → Prop} {N d l : Nat} (hN : N ≤ 48) (hd : 0 < d) (hdN : d < N) (hl : l ≤ 48) (hB : cf_B aB N (cf_D N d 0) fL f1 f2) (hR : cf_Rp aB N l (cf_D N d 0) aR)
    (hp : ∀ (L g1 g2 : Int32) (R : Nat → Int32), cf_B aB N (cf_D N (d + 1) 0) L g1 g2 → cf_Rp aB N l (cf_D N (d + 1) 0) R → post (nI N, fP, fF, L, g1, g2, aT, aB, aW, aV, aF, aA, R)) :
    wpX_sweepDiagonal post (nI N, fP, fF, fL, f1, f2, aT, aB, aW, aV, aF, aA, aR) (nI d) (nI l) :=
  ⟨N + 1, cf_xd5 hN hd hl hp (N + 1) 0 0 fL f1 f2 aR (by omega) (by omega) (by omega) cf_Q0 hB hR⟩
theorem cf_xsw42 {post : SX → Prop} {N l : Nat} (hN : N ≤ 48) (hl : l ≤ 48)
    (hp : ∀ (L g1 g2 : Int32) (R : Nat → Int32), cf_B aB N (cf_all N) L g1 g2 → cf_Rp aB N l (cf_all N) R → post (nI N, fP, fF, L, g1, g2, aT, aB, aW, aV, aF, aA, R)) :
    ∀ n d (L g1 g2 : Int32) (R : Nat → Int32), 0 < d → d ≤ N + 1 → N + 1 - d < n → cf_B aB N (cf_D N d 0) L g1 g2 → cf_Rp aB N l (cf_D N d 0) R → wX_sweep_42 post (nI l) n (nI d) (nI N) fP fF L g1 g2 aT aB aW aV aF aA R := by
  intro n
  induction n with
  | zero => intro d L g1 g2 R h1 h2 h3; omega
  | succ n ih =>
    intro d L g1 g2 R hd hdN hn hB hR
    refine pk_le N d (fun h => ?_) (fun h => ?_)
    · exact hp _ _ _ _ (cf_Bc (cf_Dall hd h) hB) (cf_Rc (cf_Dall hd h) hR)
    · refine cf_xsd hN hd h hl hB hR (fun L2 g12 g22 R2 hB2 hR2 => ?_)
      exact nm_r (nI_1 d) (ih (d + 1) L2 g12 g22 R2 (by omega) (by omega) (by omega) hB2 hR2)
theorem cf_xsw19 {post : SX → Prop} {N l : Nat} (hN : N ≤ 48) (hl : l ≤ 48)
    (hp : ∀ (L g1 g2 : Int32) (R : Nat → Int32), cf_B aB N (cf_all N) L g1 g2 → cf_Rp aB N l (cf_all N) R → post (nI N, fP, fF, L, g1, g2, aT, aB, aW, aV, aF, aA, R)) :
    ∀ n i (R : Nat → Int32), i ≤ N → N - i < n → (∀ j, j < i → R j = 0) → wX_sweep_19 post (nI l) (nI N) fP fF 0 (-4) (-4) n (nI i) aT aB aW aV aF aA R := by
  intro n
  induction n with
  | zero => intro i R h1 h2; omega
  | succ n ih =>
    intro i R h1 h2 h3
    refine pk_le N i (fun h => ?_) (fun h => ?_)
    · exact ⟨N + 1, cf_xsw42 hN hl hp (N + 1) 1 0 (-4) (-4) R (by omega) (by omega) (by omega) cf_B0 (cf_R0 (fun j hj => h3 j (by omega)))⟩
    · rw [nI_clamp (show i < 2 ^ 31 by omega)]
      refine ⟨vp_in_nI (by omega) (by decide), nm_e (nm_r (nI_1 i) (ih (i + 1) _ (by omega) (by omega) ?_))⟩
      intro j hj
      by_cases e : j = i
      · rw [e, pk_us]
        exact cf_bool0
      · rw [pk_un e]
        exact h3 j (by omega)
theorem cf_xsw {post : SX → Prop} {N l : Nat} (hN : N ≤ 48) (hl : l ≤ 48)
    (hp : ∀ (L g1 g2 : Int32) (R : Nat → Int32), cf_B aB N (cf_all N) L g1 g2 → cf_Rp aB N l (cf_all N) R → post (nI N, fP, fF, L, g1, g2, aT, aB, aW, aV, aF, aA, R)) : wpX_sweep post (nI N, fP, fF, fL, f1, f2, aT, aB, aW, aV, aF, aA, aR) (nI l) :=
  ⟨N + 1, cf_xsw19 hN hl hp (N + 1) 0 aR (by omega) (by omega) (fun j hj => absurd hj (Nat.not_lt_zero j))⟩
/-- the windows of length l with none like them ahead -/
def cf_new (c : Nat → Int32) (N l : Nat) : Nat → Prop := fun i => ¬ ∃ j, j < i ∧ cf_V c N l j i
theorem cf_xk24 {post : Int32 → SX → Prop} {N l : Nat} (hN : N ≤ 48) (hl0 : 0 < l) (hl : l ≤ N) (hR : cf_Rp aB N l (cf_all N) aR) (hp : post (nI (cf_cn (cf_new aB N l) (N + 1 - l))) (nI N, fP, fF, fL, f1, f2, aT, aB, aW, aV, aF, aA, aR)) :
    ∀ n i, i + l ≤ N + 1 → N + 1 - (i + l) < n → wX_kinds_24 post (nI l) (nI N) fP fF fL f1 f2 aT aB aW aV aF aA aR n (nI (cf_cn (cf_new aB N l) i)) (nI i) := by
  intro n
  induction n with
  | zero => intro i h1 h2; omega
  | succ n ih =>
    intro i h1 h2
    refine pk_lt N (i + l) (fun h => ?_) (fun h => ?_) (hy := nI_add i l)
    · have e : i = N + 1 - l := by omega
      rw [e]
      exact hp
    · have k := ih (i + 1) (by omega) (by omega)
      have z := hR i (by omega)
      rw [nI_clamp (show i < 2 ^ 31 by omega)]
      refine ⟨vp_in_nI (by omega) (by decide), br_c (fun g => ?_) (fun g => ?_)⟩
      · have hM : cf_new aB N l i := by
          rintro ⟨j, hj, hv⟩
          exact z.mpr ⟨j, ⟨hj, by omega⟩, hv⟩ g
        rw [cf_cnt hM] at k
        exact nm_r (nI_1 _) (nm_r (nI_1 i) k)
      · have hM : ¬ cf_new aB N l i := by
          intro y
          obtain ⟨j, hj, hv⟩ := z.mp g
          exact y ⟨j, hj.1, hv⟩
        rw [cf_cnf hM] at k
        exact nm_r (nI_1 i) k
theorem cf_xr29 {post : Int32 → Prop} {N i j : Nat} (hN : N ≤ 48) (hp : ∀ r, i + r ≤ N → j + r ≤ N → cf_Q aB i aB j r → (i + r < N → j + r < N → ¬ cf_Q aB i aB j (r + 1)) → post (nI r)) :
    ∀ n k, i + k ≤ N → j + k ≤ N → N - (i + k) < n → cf_Q aB i aB j k → wX_reach_29 post (nI i) (nI j) (nI N) fP fF fL f1 f2 aT aB aW aV aF aA aR n (nI k) := by
  intro n
  induction n with
  | zero => intro k h1 h2 h3; omega
  | succ n ih =>
    intro k h1 h2 h3 hq
    refine pk_le N (i + k) (fun h => ?_) (fun h => ?_) (hy := nI_add i k)
    · exact hp k h1 h2 hq (fun z => by omega)
    · refine pk_le N (j + k) (fun g => ?_) (fun g => ?_) (hy := nI_add j k)
      · exact hp k h1 h2 hq (fun _ z => by omega)
      · rw [nI_add i k, nI_add j k, nI_clamp (show i + k < 2 ^ 31 by omega), nI_clamp (show j + k < 2 ^ 31 by omega)]
        refine ⟨vp_in_nI (by omega) (by decide), cf_within k rfl ⟨vp_in_nI (by omega) (by decide), cf_within k rfl (br_c (fun e => ?_) (fun e => ?_))⟩⟩
        · exact nm_r (nI_1 k) (ih (k + 1) (by omega) (by omega) (by omega) (cf_Q1.mpr ⟨hq, e⟩))
        · exact hp k h1 h2 hq (fun _ _ z => e (cf_Q1.mp z).2)
end
end
section
/-! Y: alike, matches, twins -/
theorem cf_plk {t t' : Nat → Int32} {a b k : Nat} (h : t (a + k) < 16 ∨ t' (b + k) < 16) : cf_pl t a t' b k ↔ t (a + k) = t' (b + k) :=
  ⟨fun z => z.1 h, fun z => ⟨fun _ => z, fun n1 n2 => absurd h (fun y => y.elim n1 n2)⟩⟩
theorem cf_pln {t t' : Nat → Int32} {a b k : Nat} (h : ¬ t (a + k) < 16) (h' : ¬ t' (b + k) < 16) : cf_pl t a t' b k ↔ ∀ q, q < k → (t (a + q) = t (a + k) ↔ t' (b + q) = t' (b + k)) :=
  ⟨fun z => z.2 h h', fun z => ⟨fun y => absurd y (fun x => x.elim h h'), fun _ _ => z⟩⟩
section
variable {fT fP : Int32} {tk : Nat → Int32}
theorem cf_yr3 {post : Int32 → Prop} {a b k : Nat} (ha : a + k < 60) (hb : b + k < 60) (h1 : (∀ q, q < k → (tk (a + q) = tk (a + k) ↔ tk (b + q) = tk (b + k))) → post 1)
    (h0 : ¬ (∀ q, q < k → (tk (a + q) = tk (a + k) ↔ tk (b + q) = tk (b + k))) → post 0) :
    ∀ n q, q ≤ k → k - q < n → (∀ p, p < q → (tk (a + p) = tk (a + k) ↔ tk (b + p) = tk (b + k))) → wY_renames_3 post (nI a) (nI b) (nI k) fT fP tk n (nI q) := by
  intro n
  induction n with
  | zero => intro q g1 g2; omega
  | succ n ih =>
    intro q g1 g2 g3
    refine pk_le k q (fun h => ?_) (fun h => ?_)
    · exact h1 (fun p hp => g3 p (by omega))
    · have nx : (tk (a + q) = tk (a + k) ↔ tk (b + q) = tk (b + k)) → wY_renames_3 post (nI a) (nI b) (nI k) fT fP tk n (nI (q + 1)) := by
        intro e
        refine ih (q + 1) (by omega) (by omega) ?_
        intro p hp
        by_cases z : p = q
        · rw [z]
          exact e
        · exact g3 p (by omega)
      have nn : ¬ (tk (a + q) = tk (a + k) ↔ tk (b + q) = tk (b + k)) → post 0 := fun e => h0 (fun y => e (y q h))
      rw [nI_add a q, nI_add a k, nI_clamp (show a + q < 2 ^ 31 by omega), nI_clamp (show a + k < 2 ^ 31 by omega)]
      refine ⟨vp_in_nI (by omega) (by decide), vp_in_nI (by omega) (by decide), br_c (fun e1 => ?_) (fun e1 => ?_)⟩
      · unfold wY_renames_34
        rw [nI_add b q, nI_add b k, nI_clamp (show b + q < 2 ^ 31 by omega), nI_clamp (show b + k < 2 ^ 31 by omega)]
        refine ⟨vp_in_nI (by omega) (by decide), vp_in_nI (by omega) (by decide), br_c (fun e2 => ?_) (fun e2 => ?_)⟩
        · unfold wY_renames_59
          exact br_t rfl (nm_r (nI_1 q) (nx ⟨fun _ => e2, fun _ => e1⟩))
        · unfold wY_renames_59
          exact br_f (by decide) (nn (fun z => e2 (z.mp e1)))
      · unfold wY_renames_34
        rw [nI_add b q, nI_add b k, nI_clamp (show b + q < 2 ^ 31 by omega), nI_clamp (show b + k < 2 ^ 31 by omega)]
        refine ⟨vp_in_nI (by omega) (by decide), vp_in_nI (by omega) (by decide), br_c (fun e2 => ?_) (fun e2 => ?_)⟩
        · unfold wY_renames_59
          exact br_f (by decide) (nn (fun z => e1 (z.mpr e2)))
        · unfold wY_renames_59
          exact br_t rfl (nm_r (nI_1 q) (nx ⟨fun z => absurd z e1, fun z => absurd z e2⟩))
theorem cf_yr {post : Int32 → Prop} {a b k : Nat} (ha : a + k < 60) (hb : b + k < 60) (h1 : (∀ q, q < k → (tk (a + q) = tk (a + k) ↔ tk (b + q) = tk (b + k))) → post 1)
    (h0 : ¬ (∀ q, q < k → (tk (a + q) = tk (a + k) ↔ tk (b + q) = tk (b + k))) → post 0) : wpY_renames post (fT, fP, tk) (nI a) (nI b) (nI k) :=
  ⟨k + 1, cf_yr3 ha hb h1 h0 (k + 1) 0 (by omega) (by omega) (fun p hp => absurd hp (Nat.not_lt_zero p))⟩
theorem cf_ya3 {post : Int32 → Prop} {a b l : Nat} (ha : a + l ≤ 60) (hb : b + l ≤ 60) (h1 : cf_A tk a tk b l → post 1) (h0 : ¬ cf_A tk a tk b l → post 0) :
    ∀ n k, k ≤ l → l - k < n → cf_A tk a tk b k → wY_alike_3 post (nI a) (nI b) (nI l) fT fP tk n (nI k) := by
  intro n
  induction n with
  | zero => intro k g1 g2; omega
  | succ n ih =>
    intro k g1 g2 g3
    refine pk_le l k (fun h => ?_) (fun h => ?_)
    · exact h1 (fun p hp => g3 p (by omega))
    · have nx : cf_pl tk a tk b k → wY_alike_3 post (nI a) (nI b) (nI l) fT fP tk n (nI (k + 1)) := fun e => ih (k + 1) (by omega) (by omega) (cf_A1.mpr ⟨g3, e⟩)
      have nn : ¬ cf_pl tk a tk b k → post 0 := fun e => h0 (fun y => e (y k h))
      rw [nI_add a k, nI_add b k, nI_clamp (show a + k < 2 ^ 31 by omega), nI_clamp (show b + k < 2 ^ 31 by omega)]
      refine ⟨vp_in_nI (by omega) (by decide), nm_e ⟨vp_in_nI (by omega) (by decide), nm_e (br_c (fun e1 => ?_) (fun e1 => br_c (fun e2 => ?_) (fun e2 => ?_)))⟩⟩
      · unfold wY_alike_45
        exact br_c (fun e => nm_r (nI_1 k) (nx ((cf_plk (Or.inl e1)).mpr e))) (fun e => nn (fun z => e ((cf_plk (Or.inl e1)).mp z)))
      · have n2 : ¬ tk (b + k) < 16 := Int32.not_lt.mpr e2
        exact cf_yr (by omega) (by omega) (fun y => br_f (by decide) (nm_r (nI_1 k) (nx ((cf_pln e1 n2).mpr y)))) (fun y => br_t rfl (nn (fun z => y ((cf_pln e1 n2).mp z))))
      · have n2 : tk (b + k) < 16 := Int32.not_le.mp e2
        unfold wY_alike_45
        exact br_c (fun e => nm_r (nI_1 k) (nx ((cf_plk (Or.inr n2)).mpr e))) (fun e => nn (fun z => e ((cf_plk (Or.inr n2)).mp z)))
theorem cf_ya {post : Int32 → Prop} {a b l : Nat} (ha : a + l ≤ 60) (hb : b + l ≤ 60) (h1 : cf_A tk a tk b l → post 1) (h0 : ¬ cf_A tk a tk b l → post 0) : wpY_alike post (fT, fP, tk) (nI a) (nI b) (nI l) :=
  ⟨l + 1, cf_ya3 ha hb h1 h0 (l + 1) 0 (by omega) (by omega) cf_A0⟩
/-- a match at s, as the reference says it -/
def cf_ym (tk : Nat → Int32) (N m : Nat) : Nat → Prop := fun s => 0 < m ∧ s + m ≤ N ∧ cf_A tk 48 tk s m
theorem cf_yim {post : Int32 → Prop} {N m s : Nat} (hN : N ≤ 48) (hm : m ≤ 12) (hs : s < 48) (h1 : cf_ym tk N m s → post 1) (h0 : ¬ cf_ym tk N m s → post 0) : wpY_isMatch post (nI N, nI m, tk) (nI s) := by
  unfold wpY_isMatch
  dsimp only
  refine pk_le m 0 (fun h => h0 (fun z => by have := z.1; omega)) (fun h => ?_)
  refine br_f (nI_pos (by omega)) ?_
  refine pk_lt N (s + m) (fun g => h0 (fun z => by have := z.2.1; omega)) (fun g => ?_) (hy := nI_add s m)
  exact cf_ya (a := 48) (by omega) (by omega) (fun z => br_f (by decide) (h1 ⟨h, g, z⟩)) (fun z => br_t rfl (h0 (fun y => z y.2.2)))
theorem cf_yms4 {post : Int32 → Prop} {N m : Nat} (hN : N ≤ 48) (hm : m ≤ 12) (hp : post (nI (cf_cn (cf_ym tk N m) N))) :
    ∀ n i, i ≤ N → N - i < n → wY_matches_4 post (nI N) (nI m) tk n (nI (cf_cn (cf_ym tk N m) i)) (nI i) := by
  intro n
  induction n with
  | zero => intro i h1 h2; omega
  | succ n ih =>
    intro i h1 h2
    refine pk_le N i (fun h => ?_) (fun h => ?_)
    · have e : i = N := by omega
      rw [e]
      exact hp
    · have k := ih (i + 1) (by omega) (by omega)
      refine cf_yim hN hm (by omega) (fun z => ?_) (fun z => ?_)
      · rw [cf_cnt z] at k
        exact br_f (by decide) (nm_r (nI_1 _) (nm_r (nI_1 i) k))
      · rw [cf_cnf z] at k
        exact br_t rfl (nm_r (nI_1 i) k)
theorem cf_yms {post : Int32 → Prop} {N m : Nat} (hN : N ≤ 48) (hm : m ≤ 12) (hp : post (nI (cf_cn (cf_ym tk N m) N))) : wpY_matches post (nI N, nI m, tk) :=
  ⟨N + 1, cf_yms4 hN hm hp (N + 1) 0 (by omega) (by omega)⟩
theorem cf_yma4 {post : Int32 → Prop} {N m : Nat} {p0 : Int32} (hN : N ≤ 48) (hm : m ≤ 12) (h1 : ∀ s, s < N → cf_ym tk N m s → nI (cf_cn (cf_ym tk N m) s) = p0 → post (nI s))
    (h0 : (∀ s, s < N → cf_ym tk N m s → ¬ nI (cf_cn (cf_ym tk N m) s) = p0) → post (-4)) :
    ∀ n i, i ≤ N → N - i < n → (∀ s, s < i → cf_ym tk N m s → ¬ nI (cf_cn (cf_ym tk N m) s) = p0) → wY_matchAt_4 post p0 (nI N) (nI m) tk n (nI (cf_cn (cf_ym tk N m) i)) (nI i) := by
  intro n
  induction n with
  | zero => intro i g1 g2; omega
  | succ n ih =>
    intro i g1 g2 g3
    refine pk_le N i (fun h => ?_) (fun h => ?_)
    · exact h0 (fun s hs => g3 s (by omega))
    · refine cf_yim hN hm (by omega) (fun z => ?_) (fun z => ?_)
      · refine br_f (by decide) (br_c (fun e => h1 i h z e) (fun e => ?_))
        have k := ih (i + 1) (by omega) (by omega) (fun s hs hz => by
          by_cases y : s = i
          · rw [y]
            exact e
          · exact g3 s (by omega) hz)
        rw [cf_cnt z] at k
        exact nm_r (nI_1 _) (nm_r (nI_1 i) k)
      · have k := ih (i + 1) (by omega) (by omega) (fun s hs hz => by
          by_cases y : s = i
          · rw [y] at hz
            exact absurd hz z
          · exact g3 s (by omega) hz)
        rw [cf_cnf z] at k
        exact br_t rfl (nm_r (nI_1 i) k)
theorem cf_yma {post : Int32 → Prop} {N m : Nat} {p0 : Int32} (hN : N ≤ 48) (hm : m ≤ 12) (h1 : ∀ s, s < N → cf_ym tk N m s → nI (cf_cn (cf_ym tk N m) s) = p0 → post (nI s))
    (h0 : (∀ s, s < N → cf_ym tk N m s → ¬ nI (cf_cn (cf_ym tk N m) s) = p0) → post (-4)) : wpY_matchAt post (nI N, nI m, tk) p0 :=
  ⟨N + 1, cf_yma4 hN hm h1 h0 (N + 1) 0 (by omega) (by omega) (fun s hs => absurd hs (Nat.not_lt_zero s))⟩
/-- windows alike, as the reference says it -/
def cf_U (tk : Nat → Int32) (N n i j : Nat) : Prop := j + n ≤ N ∧ cf_A tk i tk j n
theorem cf_yt4 {post : Int32 → Prop} {N m i l : Nat} (hN : N ≤ 48) (hl : l ≤ N) (hi : i < 49) (h1 : ∀ j, i < j → cf_U tk N l i j → (∀ k, i < k → k < j → ¬ cf_U tk N l i k) → post (nI j))
    (h0 : (∀ j, i < j → ¬ cf_U tk N l i j) → post (-4)) :
    ∀ n j, i < j → j < 50 → 50 - j < n → (∀ k, i < k → k < j → ¬ cf_U tk N l i k) → wY_twin_4 post (nI i) (nI l) (nI N) (nI m) tk n (nI j) := by
  intro n
  induction n with
  | zero => intro j g1 g2 g3; omega
  | succ n ih =>
    intro j g1 g2 g3 g4
    refine pk_lt N (j + l) (fun h => ?_) (fun h => ?_) (hy := nI_add j l)
    · refine h0 (fun k hk => ?_)
      by_cases e : k < j
      · exact g4 k hk e
      · intro z
        have := z.1
        omega
    · refine cf_ya (by omega) (by omega) (fun z => ?_) (fun z => ?_)
      · exact br_f (by decide) (h1 j g1 ⟨h, z⟩ g4)
      · refine br_t rfl (nm_r (nI_1 j) (ih (j + 1) (by omega) (by omega) (by omega) ?_))
        intro k k1 k2
        by_cases e : k = j
        · rw [e]
          exact fun y => z y.2
        · exact g4 k k1 (by omega)
theorem cf_yt {post : Int32 → Prop} {N m i l : Nat} (hN : N ≤ 48) (hl : l ≤ N) (hi : i < 49) (h1 : ∀ j, i < j → cf_U tk N l i j → (∀ k, i < k → k < j → ¬ cf_U tk N l i k) → post (nI j))
    (h0 : (∀ j, i < j → ¬ cf_U tk N l i j) → post (-4)) : wpY_twin post (nI N, nI m, tk) (nI i) (nI l) := by
  unfold wpY_twin
  dsimp only
  exact nm_r (nI_1 i) ⟨51, cf_yt4 hN hl hi h1 h0 51 (i + 1) (by omega) (by omega) (by omega) (fun k k1 k2 => by omega)⟩
theorem cf_yf2 {post : Int32 → Prop} {N m l : Nat} (hN : N ≤ 48) (hl : l ≤ N) (h1 : ∀ i j, i < j → cf_U tk N l i j → (∀ a b, a < i → a < b → ¬ cf_U tk N l a b) → post (nI i))
    (h0 : (∀ i j, i < j → ¬ cf_U tk N l i j) → post (-4)) :
    ∀ n i, i < 50 → 50 - i < n → (∀ a b, a < i → a < b → ¬ cf_U tk N l a b) → wY_firstWithTwin_2 post (nI l) (nI N) (nI m) tk n (nI i) := by
  intro n
  induction n with
  | zero => intro i g1 g2; omega
  | succ n ih =>
    intro i g1 g2 g3
    refine pk_lt N (i + l) (fun h => ?_) (fun h => ?_) (hy := nI_add i l)
    · refine h0 (fun a b hab => ?_)
      by_cases e : a < i
      · exact g3 a b e hab
      · intro z
        have := z.1
        omega
    · refine cf_yt hN hl (by omega) (fun j hj hu _ => ?_) (fun z => ?_)
      · have := hu.1
        exact br_f (nI_pos (by omega)) (h1 i j hj hu g3)
      · refine br_t (by decide) (nm_r (nI_1 i) (ih (i + 1) (by omega) (by omega) ?_))
        intro a b ha hab
        by_cases e : a = i
        · rw [e] at hab ⊢
          exact z b hab
        · exact g3 a b (by omega) hab
theorem cf_yf {post : Int32 → Prop} {N m l : Nat} (hN : N ≤ 48) (hl : l ≤ N) (h1 : ∀ i j, i < j → cf_U tk N l i j → (∀ a b, a < i → a < b → ¬ cf_U tk N l a b) → post (nI i))
    (h0 : (∀ i j, i < j → ¬ cf_U tk N l i j) → post (-4)) : wpY_firstWithTwin post (nI N, nI m, tk) (nI l) :=
  ⟨51, cf_yf2 hN hl h1 h0 51 0 (by omega) (by omega) (fun a b ha => absurd ha (Nat.not_lt_zero a))⟩
theorem cf_yl7 {post : Int32 → Prop} {N m L : Nat} (hN : N ≤ 48) (hA : ∀ n i j, i < j → cf_U tk N n i j → n ≤ L) (hL : L = 0 ∨ ∃ i j, i < j ∧ cf_U tk N L i j) (hp : post (nI L)) :
    ∀ n k, L ≤ k → k ≤ N → k < n → wY_longestClone_7 post (nI N) (nI m) tk n (nI k) := by
  intro n
  induction n with
  | zero => intro k g1 g2 g3; omega
  | succ n ih =>
    intro k g1 g2 g3
    refine pk_lt k 1 (fun h => ?_) (fun h => ?_)
    · rw [show L = 0 from by omega] at hp
      exact hp
    · refine cf_yf hN g2 (fun i j hij hu _ => ?_) (fun z => ?_)
      · have e := hA k i j hij hu
        have := hu.1
        rw [show L = k from by omega] at hp
        exact br_f (nI_pos (by omega)) hp
      · refine br_t (by decide) ?_
        obtain ⟨p, rfl⟩ : ∃ p, k = p + 1 := ⟨k - 1, by omega⟩
        refine nm_r (pk_m1 p) (ih p ?_ (by omega) (by omega))
        by_cases e : L = p + 1
        · rcases hL with hL | ⟨i, j, hij, hu⟩
          · omega
          · rw [e] at hu
            exact absurd hu (z i j hij)
        · omega
theorem cf_yl {post : Int32 → Prop} {N m L : Nat} (hN : N ≤ 48) (hA : ∀ n i j, i < j → cf_U tk N n i j → n ≤ L) (hL : L = 0 ∨ ∃ i j, i < j ∧ cf_U tk N L i j) (hp : post (nI L)) : wpY_longestClone post (nI N, nI m, tk) := by
  have hLN : L ≤ N - 1 := by
    rcases hL with hL | ⟨i, j, hij, hu⟩
    · omega
    · have := hu.1
      omega
  unfold wpY_longestClone
  dsimp only
  by_cases h0 : N = 0
  · rw [show L = 0 from by omega] at hp
    subst h0
    refine nm_e ⟨1, ?_⟩
    exact br_t (by decide) hp
  · exact nm_r (cf_pr (by omega)) ⟨N + 1, cf_yl7 hN hA hL hp (N + 1) (N - 1) hLN (by omega) (by omega)⟩
/-- the windows of length l with none like them ahead, as the reference says it -/
def cf_ynew (tk : Nat → Int32) (l : Nat) : Nat → Prop := fun i => ¬ ∃ j, j < i ∧ cf_A tk i tk j l
theorem cf_yk35 {post : Int32 → Prop} {J : Int32 → Int32 → Prop} {N m l i : Nat} (hN : N ≤ 48) (hi : i + l ≤ N) (hJ : J (nI (cf_cn (cf_ynew tk l) (i + 1))) (nI (i + 1))) :
    ∀ n j (s : Int32), j ≤ i → i - j < n → ((s = 0 ∧ ∀ k, k < j → ¬ cf_A tk i tk k l) ∨ (s = 1 ∧ ∃ k, k < i ∧ cf_A tk i tk k l)) → wY_kinds_35 post J (nI l) (nI (cf_cn (cf_ynew tk l) i)) (nI i) (nI N) (nI m) tk n s (nI j) := by
  intro n
  induction n with
  | zero => intro j s g1 g2; omega
  | succ n ih =>
    intro j s g1 g2 g3
    refine pk_le i j (fun h => ?_) (fun h => ?_)
    · rcases g3 with ⟨rfl, g3⟩ | ⟨rfl, g3⟩
      · have hM : cf_ynew tk l i := by
          rintro ⟨k, hk, hA⟩
          exact g3 k (by omega) hA
        rw [cf_cnt hM] at hJ
        exact br_t rfl (nm_r (nI_1 _) (nm_r (nI_1 i) hJ))
      · have hM : ¬ cf_ynew tk l i := fun z => z g3
        rw [cf_cnf hM] at hJ
        exact br_f (by decide) (nm_r (nI_1 i) hJ)
    · rcases g3 with ⟨rfl, g3⟩ | ⟨rfl, g3⟩
      · refine br_t rfl (cf_ya (by omega) (by omega) (fun z => ?_) (fun z => ?_))
        · exact br_f (by decide) (nm_r (nI_1 j) (ih (j + 1) 1 (by omega) (by omega) (Or.inr ⟨rfl, j, h, z⟩)))
        · refine br_t rfl (nm_r (nI_1 j) (ih (j + 1) 0 (by omega) (by omega) (Or.inl ⟨rfl, ?_⟩)))
          intro k hk
          by_cases e : k = j
          · rw [e]
            exact z
          · exact g3 k (by omega)
      · exact br_f (by decide) (nm_r (nI_1 j) (ih (j + 1) 1 (by omega) (by omega) (Or.inr ⟨rfl, g3⟩)))
theorem cf_yk19 {post : Int32 → Prop} {N m l : Nat} (hN : N ≤ 48) (hl0 : 0 < l) (hl : l ≤ N) (hp : post (nI (cf_cn (cf_ynew tk l) (N + 1 - l)))) :
    ∀ n i, i + l ≤ N + 1 → N + 1 - (i + l) < n → wY_kinds_19 post (nI l) (nI N) (nI m) tk n (nI (cf_cn (cf_ynew tk l) i)) (nI i) := by
  intro n
  induction n with
  | zero => intro i h1 h2; omega
  | succ n ih =>
    intro i h1 h2
    refine pk_lt N (i + l) (fun h => ?_) (fun h => ?_) (hy := nI_add i l)
    · have e : i = N + 1 - l := by omega
      rw [e]
      exact hp
    · exact ⟨i + 1, cf_yk35 hN h (ih (i + 1) (by omega) (by omega)) (i + 1) 0 0 (by omega) (by omega) (Or.inl ⟨rfl, fun k hk => absurd hk (Nat.not_lt_zero k)⟩)⟩
theorem cf_yrc38 {post : Int32 → Prop} {N m i j t r : Nat} (hi : i + t ≤ 60) (hj : j + t ≤ 60) (hr : cf_A tk i tk j r) (hx : ∀ n, r < n → n ≤ t → ¬ cf_A tk i tk j n) (hp : post (nI r)) :
    ∀ n k, r ≤ k → k ≤ t → k < n → wY_reach_38 post (nI i) (nI j) (nI N) (nI m) tk n (nI k) := by
  intro n
  induction n with
  | zero => intro k g1 g2 g3; omega
  | succ n ih =>
    intro k g1 g2 g3
    refine pk_lt k 1 (fun h => ?_) (fun h => ?_)
    · rw [show r = 0 from by omega] at hp
      exact hp
    · refine cf_ya (by omega) (by omega) (fun z => ?_) (fun z => ?_)
      · have e : r = k := by
          by_cases y : r < k
          · exact absurd z (hx k y g2)
          · omega
        rw [e] at hp
        exact br_f (by decide) hp
      · obtain ⟨p, rfl⟩ : ∃ p, k = p + 1 := ⟨k - 1, by omega⟩
        refine br_t rfl (nm_r (pk_m1 p) (ih p ?_ (by omega) (by omega)))
        by_cases e : r = p + 1
        · rw [e] at hr
          exact absurd hr z
        · omega
theorem cf_yin {post : Int32 → Prop} {N : Nat} {x : Int32} (hN : N ≤ 48) (h1 : ∀ i, i < N → x = nI i → post 1) (h0 : (∀ i, i < N → x ≠ nI i) → post 0) : wpY_inText post (nI N, fP, tk) x := by
  unfold wpY_inText
  dsimp only
  refine br_c (fun h => ?_) (fun h => ?_)
  · exact h0 (fun i hi e => by rw [e] at h; exact nI_pos (by omega) h)
  · obtain ⟨i, hi, rfl⟩ := nI_of h
    refine pk_le N i (fun g => ?_) (fun g => ?_)
    · exact h0 (fun j hj e => by rw [nI_eq (by omega) (by omega)] at e; omega)
    · exact h1 i g rfl
theorem cf_ytT {post : Int32 → Prop} {x : Int32} (h : cf_tok x) (hp : post 1) : wpY_isToken post (fT, fP, tk) x := br_f h.1 (br_f (Int32.not_lt.mpr h.2) hp)
theorem cf_ytF {post : Int32 → Prop} {x : Int32} (h : ¬ cf_tok x) (hp : post 0) : wpY_isToken post (fT, fP, tk) x := br_c (fun _ => hp) (fun a => br_t (Int32.not_le.mp (fun b => h ⟨a, b⟩)) hp)
end
end
section
/-! what ties X's picture to Y's; the loops that want both -/
def cf_I (N m : Nat) (aT aB aW aV aF tk : Nat → Int32) : Prop :=
  N ≤ 48 ∧ (∀ i, i < N → aT i = tk i ∧ cf_tok (aT i) ∧ cf_E aT i (aB i)) ∧ cf_P m aW aV aF ∧ (∀ j, j < m → aW j = tk (48 + j))
section
variable {fT fP fF fL f1 f2 : Int32} {aT aB aW aV aF aA aR tk : Nat → Int32} {N m : Nat}
theorem cf_Imt (h : cf_I N m aT aB aW aV aF tk) : cf_mt aB aV N m = cf_ym tk N m := by
  obtain ⟨hN, hT, hP, hW⟩ := h
  have hm := hP.1
  refine funext fun s => propext ?_
  have key : s + m ≤ N → (cf_Q aB s aV 0 m ↔ cf_A tk 48 tk s m) := by
    intro hs
    rw [cf_Qsy]
    have b := cf_br (t := aW) (t' := aT) (c := aV) (c' := aB) (a := 0) (b := s) m (by omega) (by omega)
      (fun k hk => by rw [Nat.zero_add]; exact hP.2.1 k hk) (fun k hk => (hT (s + k) (by omega)).2)
    rw [b]
    have e1 : ∀ k, k < m → aW (0 + k) = tk (48 + k) := fun k hk => by rw [Nat.zero_add]; exact hW k hk
    have e2 : ∀ k, k < m → aT (s + k) = tk (s + k) := fun k hk => (hT (s + k) (by omega)).1
    exact ⟨cf_Ac e1 e2, cf_Ac (fun k hk => (e1 k hk).symm) (fun k hk => (e2 k hk).symm)⟩
  exact ⟨fun z => ⟨z.1, z.2.1, (key z.2.1).mp z.2.2⟩, fun z => ⟨z.1, z.2.1, (key z.2.1).mpr z.2.2⟩⟩
theorem cf_IQ (h : cf_I N m aT aB aW aV aF tk) {i j n : Nat} (hi : i + n ≤ N) (hj : j + n ≤ N) : cf_Q aB i aB j n ↔ cf_A tk i tk j n := by
  obtain ⟨hN, hT, hP, hW⟩ := h
  have b := cf_br (t := aT) (t' := aT) (c := aB) (c' := aB) (a := i) (b := j) n (by omega) (by omega) (fun k hk => (hT (i + k) (by omega)).2) (fun k hk => (hT (j + k) (by omega)).2)
  rw [b]
  have e1 : ∀ k, k < n → aT (i + k) = tk (i + k) := fun k hk => (hT (i + k) (by omega)).1
  have e2 : ∀ k, k < n → aT (j + k) = tk (j + k) := fun k hk => (hT (j + k) (by omega)).1
  exact ⟨cf_Ac e1 e2, cf_Ac (fun k hk => (e1 k hk).symm) (fun k hk => (e2 k hk).symm)⟩
theorem cf_IV (h : cf_I N m aT aB aW aV aF tk) {i j n : Nat} (hij : i < j) : cf_V aB N n i j ↔ cf_U tk N n i j :=
  ⟨fun z => ⟨z.1, (cf_IQ h (by have := z.1; omega) z.1).mp z.2⟩, fun z => ⟨z.1, (cf_IQ h (by have := z.1; omega) z.1).mpr z.2⟩⟩
theorem cf_Inew (h : cf_I N m aT aB aW aV aF tk) {l : Nat} : cf_cn (cf_new aB N l) (N + 1 - l) = cf_cn (cf_ynew tk l) (N + 1 - l) := by
  refine cf_cnc _ (fun i hi => ?_)
  unfold cf_new cf_ynew
  have e : (∃ j, j < i ∧ cf_V aB N l j i) ↔ ∃ j, j < i ∧ cf_A tk i tk j l := by
    constructor
    · rintro ⟨j, hj, hv⟩
      exact ⟨j, hj, (cf_IQ h (by omega) (by omega)).mp (cf_Qs hv.2)⟩
    · rintro ⟨j, hj, hv⟩
      exact ⟨j, hj, by omega, cf_Qs ((cf_IQ h (by omega) (by omega)).mpr hv)⟩
  rw [e]
theorem cf_xpf {post : Int32 → SX → Prop} {i l : Nat} (hN : N ≤ 48) (hl : l ≤ 12) (hil : i + l ≤ N) (hT : ∀ i, i < N → cf_tok (aT i))
    (hp : ∀ w v fl : Nat → Int32, cf_P l w v fl → (∀ j, j < l → w j = aT (i + j)) → post (nI l) (nI N, nI l, fF, fL, f1, f2, aT, aB, w, v, fl, aA, aR)) :
    ∀ n k (w v fl : Nat → Int32), k ≤ l → l - k < n → cf_P k w v fl → (∀ j, j < k → w j = aT (i + j)) → wX_patternFrom_35 post (nI i) (nI l) n (nI k) (nI N) (nI k) fF fL f1 f2 aT aB w v fl aA aR := by
  intro n
  induction n with
  | zero => intro k w v fl h1 h2; omega
  | succ n ih =>
    intro k w v fl h1 h2 hP hw
    refine pk_le l k (fun h => ?_) (fun h => ?_)
    · have e : k = l := by omega
      rw [e] at hP hw ⊢
      exact hp w v fl hP hw
    · rw [nI_add i k, nI_clamp (show i + k < 2 ^ 31 by omega)]
      refine ⟨vp_in_nI (by omega) (by decide), cf_x_pattern hP (fun g ht v2 fl2 hP2 => ?_) (fun g => by omega) (fun g => absurd (hT (i + k) (by omega)) g)⟩
      refine nm_r (nI_1 k) (ih (k + 1) _ v2 fl2 (by omega) (by omega) hP2 ?_)
      intro j hj
      by_cases e : j = k
      · rw [e, pk_us]
      · rw [pk_un e]
        exact hw j (by omega)
theorem cf_ypf {post : Int32 → SY → Prop} {i l : Nat} (hN : N ≤ 48) (hl : l ≤ 12) (hil : i + l ≤ N)
    (hp : ∀ s : Nat → Int32, (∀ j, j < 48 → s j = tk j) → (∀ j, j < l → s (48 + j) = tk (i + j)) → post (nI l) (nI N, nI l, s)) :
    ∀ n k (s : Nat → Int32), k ≤ l → l - k < n → (∀ j, j < 48 → s j = tk j) → (∀ j, j < k → s (48 + j) = tk (i + j)) → wY_patternFrom_35 post (nI i) (nI l) (nI N) (nI l) n (nI k) s := by
  intro n
  induction n with
  | zero => intro k s h1 h2; omega
  | succ n ih =>
    intro k s h1 h2 h3 h4
    refine pk_le l k (fun h => ?_) (fun h => ?_)
    · exact hp s h3 (fun j hj => h4 j (by omega))
    · have e48 : (48 : Int32) + nI k = nI (48 + k) := nI_add 48 k
      rw [nI_add i k, e48, nI_clamp (show i + k < 2 ^ 31 by omega), nI_clamp (show 48 + k < 2 ^ 31 by omega)]
      refine ⟨vp_in_nI (by omega) (by decide), vp_in_nI (by omega) (by decide), nm_e (nm_r (nI_1 k) (ih (k + 1) _ (by omega) (by omega) ?_ ?_))⟩
      · intro j hj
        rw [pk_un (by omega)]
        exact h3 j hj
      · intro j hj
        by_cases e : j = k
        · rw [e, pk_us]
          exact h3 _ (by omega)
        · rw [pk_un (by omega)]
          exact h4 j (by omega)
/-- the new name of v2 in the match at s: one answer for both sides -/
theorem cf_ren (h : cf_I N m aT aB aW aV aF tk) {r s : Nat} {x2 : Int32} (hr : r < 48) (hs : s + m ≤ N) (ha : aA r = nI s) : ∀ d j, j + d = m →
    ∃ y : Int32, (∀ post : Int32 → SX → Prop, post y (nI N, nI m, fF, fL, f1, f2, aT, aB, aW, aV, aF, aA, aR) → wX_renamed_33 post (nI r) x2 (nI N) (nI m) fF fL f1 f2 aT aB aW aV aF aA aR (d + 1) (nI j)) ∧ (∀ post : Int32 → Prop, post y → wY_renamed_28 post x2 (nI s) (nI N) (nI m) tk (d + 1) (nI j)) := by
  have hN := h.1
  have hm := h.2.2.1.1
  intro d
  induction d with
  | zero =>
    intro j hj
    refine ⟨-4, fun post hp => pk_le m j (fun _ => hp) (fun g => by omega), fun post hp => pk_le m j (fun _ => hp) (fun g => by omega)⟩
  | succ d ih =>
    intro j hj
    have e48 : (48 : Int32) + nI j = nI (48 + j) := nI_add 48 j
    have eW := h.2.2.2 j (by omega)
    have eT := (h.2.1 (s + j) (by omega)).1
    by_cases e : aW j = x2
    · refine ⟨aT (s + j), fun post hp => pk_le m j (fun g => by omega) (fun g => ?_), fun post hp => pk_le m j (fun g => by omega) (fun g => ?_)⟩
      · rw [nI_clamp (show j < 2 ^ 31 by omega), nI_clamp (show r < 2 ^ 31 by omega), ha, nI_add s j, nI_clamp (show s + j < 2 ^ 31 by omega)]
        exact ⟨vp_in_nI (by omega) (by decide), br_t e ⟨vp_in_nI hr (by decide), vp_in_nI (by omega) (by decide), hp⟩⟩
      · rw [e48, nI_add s j, nI_clamp (show 48 + j < 2 ^ 31 by omega), nI_clamp (show s + j < 2 ^ 31 by omega)]
        refine ⟨vp_in_nI (by omega) (by decide), br_t (eW.symm.trans e) ⟨vp_in_nI (by omega) (by decide), ?_⟩⟩
        rw [← eT]
        exact hp
    · obtain ⟨y, hX, hY⟩ := ih (j + 1) (by omega)
      refine ⟨y, fun post hp => pk_le m j (fun g => by omega) (fun g => ?_), fun post hp => pk_le m j (fun g => by omega) (fun g => ?_)⟩
      · rw [nI_clamp (show j < 2 ^ 31 by omega)]
        exact ⟨vp_in_nI (by omega) (by decide), br_f e (nm_r (nI_1 j) (hX post hp))⟩
      · rw [e48, nI_clamp (show 48 + j < 2 ^ 31 by omega)]
        exact ⟨vp_in_nI (by omega) (by decide), br_f (fun z => e (eW.trans z)) (nm_r (nI_1 j) (hY post hp))⟩
end
end
section
/-! the relation and what is owed -/
def i_Rel (k : Nat) (u : SX) (v : SY) : Prop :=
  ∃ (N m : Nat) (fF fL f1 f2 : Int32) (aT aB aW aV aF aA aR tk : Nat → Int32), u = (nI N, nI m, fF, fL, f1, f2, aT, aB, aW, aV, aF, aA, aR) ∧ v = (nI N, nI m, tk) ∧ cf_I N m aT aB aW aV aF tk
theorem cf_in {k N m : Nat} {fF fL f1 f2 : Int32} {aT aB aW aV aF aA aR tk : Nat → Int32} (h : cf_I N m aT aB aW aV aF tk) : i_Rel k (nI N, nI m, fF, fL, f1, f2, aT, aB, aW, aV, aF, aA, aR) (nI N, nI m, tk) :=
  ⟨N, m, fF, fL, f1, f2, aT, aB, aW, aV, aF, aA, aR, tk, rfl, rfl, h⟩
theorem cf_el {P : SX → SY → Prop} {k : Nat} {u : SX} {v : SY}
    (h : ∀ (N m : Nat) (fF fL f1 f2 : Int32) (aT aB aW aV aF aA aR tk : Nat → Int32), cf_I N m aT aB aW aV aF tk → P (nI N, nI m, fF, fL, f1, f2, aT, aB, aW, aV, aF, aA, aR) (nI N, nI m, tk)) (I : i_Rel k u v) : P u v := by
  obtain ⟨N, m, fF, fL, f1, f2, aT, aB, aW, aV, aF, aA, aR, tk, hu, hv, hI⟩ := I
  rw [hu, hv]
  exact h N m fF fL f1 f2 aT aB aW aV aF aA aR tk hI
theorem i_up {k : Nat} {u : SX} {v : SY} (h : i_Rel k u v) : i_Rel (k + 3) u v := h
theorem i_vc0 : wpX_init (fun u => wpY_init (fun v => i_Rel 0 u v)) := by
  unfold wpX_init wpY_init
  exact cf_in (N := 0) (m := 0) ⟨by omega, fun i hi => absurd hi (Nat.not_lt_zero i), cf_P0, fun i hi => absurd hi (Nat.not_lt_zero i)⟩
theorem i_vc_text {k : Nat} {u : SX} {v : SY} (I : i_Rel k u v) (hk : k + 3 ≤ 1536) (v1 : Int32) : wpX_text (fun r u' => wpY_text (fun r' v' => r' = r ∧ i_Rel (k + 3) u' v') v v1) u v1 := by
  refine cf_el (P := fun u v => wpX_text (fun r u' => wpY_text (fun r' v' => r' = r ∧ i_Rel (k + 3) u' v') v v1) u v1) ?_ I
  intro N m fF fL f1 f2 aT aB aW aV aF aA aR tk hI
  obtain ⟨hN, hT, hP, hW⟩ := hI
  refine cf_x_text hN (fun g ht r hr => ?_) (fun g ht => ?_) (fun ht => ?_)
  · unfold wpY_text
    dsimp only
    refine cf_ytT ht (br_f (by decide) (pk_eq N 48 (fun z => absurd z (by omega)) (fun _ => ?_)))
    rw [nI_clamp (show N < 2 ^ 31 by omega)]
    refine ⟨vp_in_nI (by omega) (by decide), nm_e (nm_r (nI_1 N) ⟨rfl, cf_in ⟨by omega, ?_, hP, ?_⟩⟩)⟩
    · intro i hi
      by_cases e : i = N
      · rw [e, pk_us, pk_us, pk_us]
        exact ⟨rfl, ht, hr⟩
      · rw [pk_un e, pk_un e, pk_un e]
        have z := hT i (by omega)
        exact ⟨z.1, z.2.1, cf_Ec (fun k hk => (pk_un (by omega)).symm) z.2.2⟩
    · intro j hj
      rw [pk_un (by omega)]
      exact hW j hj
  · unfold wpY_text
    dsimp only
    exact cf_ytT ht (br_f (by decide) (pk_eq N 48 (fun _ => ⟨rfl, cf_in ⟨hN, hT, hP, hW⟩⟩) (fun z => absurd g z)))
  · unfold wpY_text
    dsimp only
    exact cf_ytF ht (br_t rfl ⟨rfl, cf_in ⟨hN, hT, hP, hW⟩⟩)
theorem i_vc_change {k : Nat} {u : SX} {v : SY} (I : i_Rel k u v) (hk : k + 3 ≤ 1536) (v1 : Int32) (v2 : Int32) : wpX_change (fun r u' => wpY_change (fun r' v' => r' = r ∧ i_Rel (k + 3) u' v') v v1 v2) u v1 v2 := by
  refine cf_el (P := fun u v => wpX_change (fun r u' => wpY_change (fun r' v' => r' = r ∧ i_Rel (k + 3) u' v') v v1 v2) u v1 v2) ?_ I
  intro N m fF fL f1 f2 aT aB aW aV aF aA aR tk hI
  obtain ⟨hN, hT, hP, hW⟩ := hI
  refine cf_x_change hN (fun i hi => (hT i hi).2.2) (fun i b hi e ht hb => ?_) (fun h => ?_) (fun i hi e ht => ?_)
  · subst e
    unfold wpY_change
    dsimp only
    refine cf_yin hN (fun _ _ _ => br_f (by decide) (cf_ytT ht (br_f (by decide) ?_))) (fun z => absurd rfl (z i hi))
    rw [nI_clamp (show i < 2 ^ 31 by omega)]
    refine ⟨vp_in_nI (by omega) (by decide), nm_e ⟨vp_in_nI (by omega) (by decide), nm_e ⟨(hT i hi).1.symm, cf_in ⟨hN, ?_, hP, ?_⟩⟩⟩⟩
    · intro j hj
      refine ⟨?_, ?_, hb j hj⟩
      · by_cases e : j = i
        · rw [e, pk_us, pk_us]
        · rw [pk_un e, pk_un e]
          exact (hT j hj).1
      · by_cases e : j = i
        · rw [e, pk_us]
          exact ht
        · rw [pk_un e]
          exact (hT j hj).2.1
    · intro j hj
      rw [pk_un (by omega)]
      exact hW j hj
  · unfold wpY_change
    dsimp only
    exact cf_yin hN (fun i hi e => absurd e (h i hi)) (fun _ => br_t rfl ⟨rfl, cf_in ⟨hN, hT, hP, hW⟩⟩)
  · subst e
    unfold wpY_change
    dsimp only
    exact cf_yin hN (fun _ _ _ => br_f (by decide) (cf_ytF ht (br_t rfl ⟨rfl, cf_in ⟨hN, hT, hP, hW⟩⟩))) (fun z => absurd rfl (z i hi))
theorem i_vc_pattern {k : Nat} {u : SX} {v : SY} (I : i_Rel k u v) (hk : k + 3 ≤ 1536) (v1 : Int32) : wpX_pattern (fun r u' => wpY_pattern (fun r' v' => r' = r ∧ i_Rel (k + 3) u' v') v v1) u v1 := by
  refine cf_el (P := fun u v => wpX_pattern (fun r u' => wpY_pattern (fun r' v' => r' = r ∧ i_Rel (k + 3) u' v') v v1) u v1) ?_ I
  intro N m fF fL f1 f2 aT aB aW aV aF aA aR tk hI
  obtain ⟨hN, hT, hP, hW⟩ := hI
  refine cf_x_pattern hP (fun g ht v fl hP2 => ?_) (fun g ht => ?_) (fun ht => ?_)
  · unfold wpY_pattern
    dsimp only
    have e48 : (48 : Int32) + nI m = nI (48 + m) := nI_add 48 m
    refine cf_ytT ht (br_f (by decide) (pk_eq m 12 (fun z => absurd z (by omega)) (fun _ => ?_)))
    rw [e48, nI_clamp (show 48 + m < 2 ^ 31 by omega)]
    refine ⟨vp_in_nI (by omega) (by decide), nm_e (nm_r (nI_1 m) ⟨rfl, cf_in ⟨hN, ?_, hP2, ?_⟩⟩)⟩
    · intro i hi
      rw [pk_un (by omega)]
      exact hT i hi
    · intro j hj
      by_cases e : j = m
      · rw [e, pk_us, pk_us]
      · rw [pk_un e, pk_un (by omega)]
        exact hW j (by omega)
  · unfold wpY_pattern
    dsimp only
    exact cf_ytT ht (br_f (by decide) (pk_eq m 12 (fun _ => ⟨rfl, cf_in ⟨hN, hT, hP, hW⟩⟩) (fun z => absurd g z)))
  · unfold wpY_pattern
    dsimp only
    exact cf_ytF ht (br_t rfl ⟨rfl, cf_in ⟨hN, hT, hP, hW⟩⟩)
theorem i_vc_patternFrom {k : Nat} {u : SX} {v : SY} (I : i_Rel k u v) (hk : k + 3 ≤ 1536) (v1 : Int32) (v2 : Int32) : wpX_patternFrom (fun r u' => wpY_patternFrom (fun r' v' => r' = r ∧ i_Rel (k + 3) u' v') v v1 v2) u v1 v2 := by
  refine cf_el (P := fun u v => wpX_patternFrom (fun r u' => wpY_patternFrom (fun r' v' => r' = r ∧ i_Rel (k + 3) u' v') v v1 v2) u v1 v2) ?_ I
  intro N m fF fL f1 f2 aT aB aW aV aF aA aR tk hI
  unfold wpX_patternFrom wpY_patternFrom
  dsimp only
  by_cases c1 : v2 < 1
  · exact br_t c1 (br_t c1 ⟨rfl, cf_in hI⟩)
  refine br_f c1 ?_
  by_cases c2 : 12 < v2
  · exact br_t c2 (br_f c1 (br_t c2 ⟨rfl, cf_in hI⟩))
  refine br_f c2 ?_
  by_cases c3 : v1 < 0
  · exact br_t c3 (br_f c1 (br_f c2 (br_t c3 ⟨rfl, cf_in hI⟩)))
  refine br_f c3 ?_
  by_cases c4 : v1 ≤ nI N - v2
  · refine br_t c4 ?_
    have d4 := c4
    obtain ⟨hN, hT, hP, hW⟩ := hI
    obtain ⟨i, hi, rfl⟩ := nI_of c3
    have c0 : ¬ v2 < 0 := fun z => c1 (Int32.lt_trans z (by decide))
    obtain ⟨l, hl, rfl⟩ := nI_of c0
    have d2 : ¬ nI 12 < nI l := c2
    rw [nI_ltI (by omega) (by omega)] at d2
    rw [Int32.le_iff_toInt_le, pk_sub_toInt (by omega) (by omega), nI_toInt hi] at d4
    have d5 : i + l ≤ N := by omega
    refine ⟨l + 1, cf_xpf hN (by omega) d5 (fun i hi => (hT i hi).2.1) (fun w v fl hP2 hw => ?_) (l + 1) 0 aW aV aF (by omega) (by omega) cf_P0 (fun j hj => absurd hj (Nat.not_lt_zero j))⟩
    refine br_f c1 (br_f c2 (br_f c3 (br_t c4 ⟨l + 1, cf_ypf hN (by omega) d5 (fun s hs1 hs2 => ?_) (l + 1) 0 tk (by omega) (by omega) (fun _ _ => rfl) (fun j hj => absurd hj (Nat.not_lt_zero j))⟩)))
    refine ⟨rfl, cf_in ⟨hN, ?_, hP2, ?_⟩⟩
    · intro j hj
      have z := hT j hj
      exact ⟨z.1.trans (hs1 j (by omega)).symm, z.2⟩
    · intro j hj
      rw [hw j hj, hs2 j hj]
      exact (hT (i + j) (by omega)).1
  · exact br_f c4 (br_f c1 (br_f c2 (br_f c3 (br_f c4 ⟨rfl, cf_in hI⟩))))
theorem i_vc_clearPattern {k : Nat} {u : SX} {v : SY} (I : i_Rel k u v) (hk : k + 3 ≤ 1536) : wpX_clearPattern (fun u' => wpY_clearPattern (fun v' => i_Rel (k + 3) u' v') v) u := by
  refine cf_el (P := fun u v => wpX_clearPattern (fun u' => wpY_clearPattern (fun v' => i_Rel (k + 3) u' v') v) u) ?_ I
  intro N m fF fL f1 f2 aT aB aW aV aF aA aR tk hI
  obtain ⟨hN, hT, hP, hW⟩ := hI
  unfold wpX_clearPattern wpY_clearPattern
  dsimp only
  exact cf_in (m := 0) ⟨hN, hT, cf_P0, fun j hj => absurd hj (Nat.not_lt_zero j)⟩
theorem i_vc_clearText {k : Nat} {u : SX} {v : SY} (I : i_Rel k u v) (hk : k + 3 ≤ 1536) : wpX_clearText (fun u' => wpY_clearText (fun v' => i_Rel (k + 3) u' v') v) u := by
  refine cf_el (P := fun u v => wpX_clearText (fun u' => wpY_clearText (fun v' => i_Rel (k + 3) u' v') v) u) ?_ I
  intro N m fF fL f1 f2 aT aB aW aV aF aA aR tk hI
  obtain ⟨hN, hT, hP, hW⟩ := hI
  unfold wpX_clearText wpY_clearText
  dsimp only
  exact cf_in (N := 0) ⟨by omega, fun j hj => absurd hj (Nat.not_lt_zero j), hP, hW⟩
theorem i_vc_matches {k : Nat} {u : SX} {v : SY} (I : i_Rel k u v) (hk : k + 3 ≤ 1536) : wpX_matches (fun r u' => wpY_matches (fun r' => r' = r ∧ i_Rel (k + 3) u' v) v) u := by
  refine cf_el (P := fun u v => wpX_matches (fun r u' => wpY_matches (fun r' => r' = r ∧ i_Rel (k + 3) u' v) v) u) ?_ I
  intro N m fF fL f1 f2 aT aB aW aV aF aA aR tk hI
  unfold wpX_matches
  dsimp only
  refine cf_xs hI.1 hI.2.2.1 (fun fo fa hf => ?_)
  obtain ⟨hf1, hf2⟩ := hf
  rw [cf_Imt hI] at hf1
  exact cf_yms hI.1 hI.2.2.1.1 ⟨hf1.symm, cf_in hI⟩
theorem i_vc_matchAt {k : Nat} {u : SX} {v : SY} (I : i_Rel k u v) (hk : k + 3 ≤ 1536) (v1 : Int32) : wpX_matchAt (fun r u' => wpY_matchAt (fun r' => r' = r ∧ i_Rel (k + 3) u' v) v v1) u v1 := by
  refine cf_el (P := fun u v => wpX_matchAt (fun r u' => wpY_matchAt (fun r' => r' = r ∧ i_Rel (k + 3) u' v) v v1) u v1) ?_ I
  intro N m fF fL f1 f2 aT aB aW aV aF aA aR tk hI
  have hN := hI.1
  have hm := hI.2.2.1.1
  unfold wpX_matchAt
  dsimp only
  refine cf_xs hI.1 hI.2.2.1 (fun fo fa hf => ?_)
  unfold cf_found at hf
  rw [cf_Imt hI] at hf
  obtain ⟨hf1, hf2⟩ := hf
  have hC := cf_cnle (cf_ym tk N m) N
  refine br_c (fun h => ?_) (fun h => ?_)
  · refine cf_yma hN hm (fun s hs hy e => ?_) (fun _ => ⟨rfl, cf_in hI⟩)
    have hs2 := cf_cnle (cf_ym tk N m) s
    rw [← e] at h
    exact absurd h (nI_pos (by omega))
  · obtain ⟨r, hr, rfl⟩ := nI_of h
    rw [hf1]
    refine pk_lt r (cf_cn (cf_ym tk N m) N) (fun g => ?_) (fun g => ?_)
    · obtain ⟨s, hs, hy, e⟩ := cf_cnex N g
      rw [nI_clamp hr]
      refine ⟨vp_in_nI (by omega) (by decide), cf_yma hN hm (fun s2 hs2 hy2 e2 => ?_) (fun z => absurd (congrArg nI e) (z s hs hy))⟩
      have hb := cf_cnle (cf_ym tk N m) s2
      rw [nI_eq (by omega) (by omega)] at e2
      have e3 := cf_cnin hy2 hy (e2.trans e.symm)
      have e4 := hf2 s hy
      rw [e] at e4
      exact ⟨(congrArg nI e3).trans e4.symm, cf_in hI⟩
    · refine cf_yma hN hm (fun s hs hy e => ?_) (fun _ => ⟨rfl, cf_in hI⟩)
      have hs2 := cf_cnle (cf_ym tk N m) s
      have hs3 := cf_cnlt hy hs
      rw [nI_eq (by omega) (by omega)] at e
      omega
theorem i_vc_renamed {k : Nat} {u : SX} {v : SY} (I : i_Rel k u v) (hk : k + 3 ≤ 1536) (v1 : Int32) (v2 : Int32) : wpX_renamed (fun r u' => wpY_renamed (fun r' => r' = r ∧ i_Rel (k + 3) u' v) v v1 v2) u v1 v2 := by
  refine cf_el (P := fun u v => wpX_renamed (fun r u' => wpY_renamed (fun r' => r' = r ∧ i_Rel (k + 3) u' v) v v1 v2) u v1 v2) ?_ I
  intro N m fF fL f1 f2 aT aB aW aV aF aA aR tk hI
  have hN := hI.1
  have hm := hI.2.2.1.1
  unfold wpX_renamed wpY_renamed
  dsimp only
  refine cf_xs hI.1 hI.2.2.1 (fun fo fa hf => ?_)
  unfold cf_found at hf
  rw [cf_Imt hI] at hf
  obtain ⟨hf1, hf2⟩ := hf
  have hC := cf_cnle (cf_ym tk N m) N
  refine br_c (fun h => ?_) (fun h => ?_)
  · refine cf_yma hN hm (fun s hs hy e => ?_) (fun _ => br_t (by decide) ⟨rfl, cf_in hI⟩)
    have hs2 := cf_cnle (cf_ym tk N m) s
    rw [← e] at h
    exact absurd h (nI_pos (by omega))
  · obtain ⟨r, hr, rfl⟩ := nI_of h
    rw [hf1]
    refine pk_le (cf_cn (cf_ym tk N m) N) r (fun g => ?_) (fun g => ?_)
    · refine cf_yma hN hm (fun s hs hy e => ?_) (fun _ => br_t (by decide) ⟨rfl, cf_in hI⟩)
      have hs2 := cf_cnle (cf_ym tk N m) s
      have hs3 := cf_cnlt hy hs
      rw [nI_eq (by omega) (by omega)] at e
      omega
    · obtain ⟨s, hs, hy, e⟩ := cf_cnex N g
      have e4 := hf2 s hy
      rw [e] at e4
      have yy : ∀ post : Int32 → Prop, post (nI s) → wpY_matchAt post (nI N, nI m, tk) (nI r) := by
        intro post hp
        refine cf_yma hN hm (fun s2 hs2 hy2 e2 => ?_) (fun z => absurd (congrArg nI e) (z s hs hy))
        have hb := cf_cnle (cf_ym tk N m) s2
        rw [nI_eq (by omega) (by omega)] at e2
        rw [cf_cnin hy2 hy (e2.trans e.symm)]
        exact hp
      have np : ¬ nI s < 0 := nI_pos (by omega)
      by_cases c1 : v2 < 16
      · exact br_t c1 (yy _ (br_f np (br_t c1 ⟨rfl, cf_in hI⟩)))
      · by_cases c2 : v2 ≤ 31
        · obtain ⟨y, hX, hY⟩ := cf_ren (fF := nI (cf_cn (cf_ym tk N m) N)) (fL := fL) (f1 := f1) (f2 := f2) (aA := fa) (aR := aR) (x2 := v2) hI (r := r) (s := s) (by omega) hy.2.1 e4 m 0 (by omega)
          exact br_f c1 (br_t c2 ⟨m + 1, hX _ (yy _ (br_f np (br_f c1 (br_t c2 ⟨m + 1, hY _ ⟨rfl, cf_in hI⟩⟩))))⟩)
        · exact br_f c1 (br_f c2 (yy _ (br_f np (br_f c1 (br_f c2 ⟨rfl, cf_in hI⟩)))))
/-- what the sweep's best says of the reference's windows -/
def cf_BU (tk : Nat → Int32) (N L : Nat) (g1 g2 : Int32) : Prop := (∀ n i j, i < j → cf_U tk N n i j → n ≤ L) ∧
  ((L = 0 ∧ g1 = -4 ∧ g2 = -4) ∨ (0 < L ∧ ∃ i0 j0, i0 < j0 ∧ j0 < N ∧ g1 = nI i0 ∧ g2 = nI j0 ∧ cf_U tk N L i0 j0 ∧ ∀ i j, i < j → cf_U tk N L i j → i0 < i ∨ (i0 = i ∧ j0 ≤ j)))
theorem cf_toBU {N m : Nat} {aT aB aW aV aF tk : Nat → Int32} {fL g1 g2 : Int32} (hI : cf_I N m aT aB aW aV aF tk) (h : cf_B aB N (cf_all N) fL g1 g2) : ∃ L, fL = nI L ∧ L ≤ 48 ∧ cf_BU tk N L g1 g2 := by
  obtain ⟨L, h48, e, hA, hO⟩ := h
  have dn : ∀ n i j, i < j → cf_U tk N n i j → 0 < n → cf_all N i j ∧ cf_V aB N n i j := fun n i j hij hu hn => ⟨⟨hij, by have := hu.1; omega⟩, (cf_IV hI hij).mpr hu⟩
  refine ⟨L, e, h48, ?_, ?_⟩
  · intro n i j hij hu
    by_cases z : n = 0
    · omega
    · have d := dn n i j hij hu (by omega)
      exact hA i j n d.1 d.2
  · rcases hO with hO | ⟨h0, i0, j0, a1, a2, a3, a4, a5, a6, a7⟩
    · exact Or.inl hO
    · refine Or.inr ⟨h0, i0, j0, a5.1, a5.2, a3, a4, (cf_IV hI a5.1).mp a6, ?_⟩
      intro i j hij hu
      have d := dn L i j hij hu h0
      exact a7 i j d.1 d.2
theorem cf_BUl {tk : Nat → Int32} {N m L : Nat} {g1 g2 : Int32} {post : Int32 → Prop} (hN : N ≤ 48) (h : cf_BU tk N L g1 g2) (hp : post (nI L)) : wpY_longestClone post (nI N, nI m, tk) := by
  refine cf_yl hN h.1 ?_ hp
  rcases h.2 with h2 | ⟨_, i0, j0, a1, _, _, _, a5, _⟩
  · exact Or.inl h2.1
  · exact Or.inr ⟨i0, j0, a1, a5⟩
theorem i_vc_longestClone {k : Nat} {u : SX} {v : SY} (I : i_Rel k u v) (hk : k + 3 ≤ 1536) : wpX_longestClone (fun r u' => wpY_longestClone (fun r' => r' = r ∧ i_Rel (k + 3) u' v) v) u := by
  refine cf_el (P := fun u v => wpX_longestClone (fun r u' => wpY_longestClone (fun r' => r' = r ∧ i_Rel (k + 3) u' v) v) u) ?_ I
  intro N m fF fL f1 f2 aT aB aW aV aF aA aR tk hI
  unfold wpX_longestClone
  dsimp only
  refine cf_xsw (l := 1) hI.1 (by omega) (fun L g1 g2 R hB hR => ?_)
  obtain ⟨L, rfl, hL, hU⟩ := cf_toBU hI hB
  exact cf_BUl hI.1 hU ⟨rfl, cf_in hI⟩
theorem cf_BUf {tk : Nat → Int32} {N m L : Nat} {g1 g2 : Int32} {post : Int32 → Prop} (hN : N ≤ 48) (h : cf_BU tk N L g1 g2) (h0 : 0 < L) (hp : ∀ i0, g1 = nI i0 → i0 < N → post (nI i0)) : wpY_firstWithTwin post (nI N, nI m, tk) (nI L) := by
  rcases h.2 with h2 | ⟨_, i0, j0, a1, a2, a3, a4, a5, a6⟩
  · omega
  · have b := a5.1
    refine cf_yf hN (by omega) (fun i j hij hu hx => ?_) (fun z => absurd a5 (z i0 j0 a1))
    have d := a6 i j hij hu
    have e : i = i0 := by
      by_cases y : i0 < i
      · exact absurd a5 (hx i0 j0 y a1)
      · omega
    rw [e]
    exact hp i0 a3 (by omega)
theorem cf_BUt {tk : Nat → Int32} {N m L i0 : Nat} {g1 g2 : Int32} {post : Int32 → Prop} (hN : N ≤ 48) (h : cf_BU tk N L g1 g2) (h0 : 0 < L) (hi : i0 < N) (e : g1 = nI i0) (hp : post g2) : wpY_twin post (nI N, nI m, tk) (nI i0) (nI L) := by
  rcases h.2 with h2 | ⟨_, i1, j0, a1, a2, a3, a4, a5, a6⟩
  · omega
  · have b := a5.1
    rw [e, nI_eq (by omega) (by omega)] at a3
    rw [← a3] at a1 a5 a6
    refine cf_yt hN (by omega) (by omega) (fun j hij hu hx => ?_) (fun z => absurd a5 (z j0 a1))
    have d := a6 i0 j hij hu
    have ej : j = j0 := by
      by_cases y : j0 < j
      · exact absurd a5 (hx j0 a1 y)
      · omega
    rw [ej, ← a4]
    exact hp
theorem cf_BU0 {tk : Nat → Int32} {N L : Nat} {g1 g2 : Int32} (h : cf_BU tk N L g1 g2) (h0 : L = 0) : g1 = -4 ∧ g2 = -4 := by
  rcases h.2 with h2 | h2
  · exact h2.2
  · have := h2.1
    omega
theorem i_vc_cloneFirst {k : Nat} {u : SX} {v : SY} (I : i_Rel k u v) (hk : k + 3 ≤ 1536) : wpX_cloneFirst (fun r u' => wpY_cloneFirst (fun r' => r' = r ∧ i_Rel (k + 3) u' v) v) u := by
  refine cf_el (P := fun u v => wpX_cloneFirst (fun r u' => wpY_cloneFirst (fun r' => r' = r ∧ i_Rel (k + 3) u' v) v) u) ?_ I
  intro N m fF fL f1 f2 aT aB aW aV aF aA aR tk hI
  unfold wpX_cloneFirst wpY_cloneFirst
  dsimp only
  refine cf_xsw (l := 1) hI.1 (by omega) (fun L g1 g2 R hB hR => ?_)
  obtain ⟨L, rfl, hL, hU⟩ := cf_toBU hI hB
  refine cf_BUl hI.1 hU (pk_eq L 0 (fun h => ?_) (fun h => ?_))
  · exact ⟨(cf_BU0 hU h).1.symm, cf_in hI⟩
  · exact cf_BUf hI.1 hU (by omega) (fun i0 e _ => ⟨e.symm, cf_in hI⟩)
theorem i_vc_cloneSecond {k : Nat} {u : SX} {v : SY} (I : i_Rel k u v) (hk : k + 3 ≤ 1536) : wpX_cloneSecond (fun r u' => wpY_cloneSecond (fun r' => r' = r ∧ i_Rel (k + 3) u' v) v) u := by
  refine cf_el (P := fun u v => wpX_cloneSecond (fun r u' => wpY_cloneSecond (fun r' => r' = r ∧ i_Rel (k + 3) u' v) v) u) ?_ I
  intro N m fF fL f1 f2 aT aB aW aV aF aA aR tk hI
  unfold wpX_cloneSecond wpY_cloneSecond
  dsimp only
  refine cf_xsw (l := 1) hI.1 (by omega) (fun L g1 g2 R hB hR => ?_)
  obtain ⟨L, rfl, hL, hU⟩ := cf_toBU hI hB
  refine cf_BUl hI.1 hU (pk_eq L 0 (fun h => ?_) (fun h => ?_))
  · exact ⟨(cf_BU0 hU h).2.symm, cf_in hI⟩
  · exact cf_BUf hI.1 hU (by omega) (fun i0 e hi => cf_BUt hI.1 hU (by omega) hi e ⟨rfl, cf_in hI⟩)
theorem i_vc_kinds {k : Nat} {u : SX} {v : SY} (I : i_Rel k u v) (hk : k + 3 ≤ 1536) (v1 : Int32) : wpX_kinds (fun r u' => wpY_kinds (fun r' => r' = r ∧ i_Rel (k + 3) u' v) v v1) u v1 := by
  refine cf_el (P := fun u v => wpX_kinds (fun r u' => wpY_kinds (fun r' => r' = r ∧ i_Rel (k + 3) u' v) v v1) u v1) ?_ I
  intro N m fF fL f1 f2 aT aB aW aV aF aA aR tk hI
  have hN := hI.1
  unfold wpX_kinds wpY_kinds
  dsimp only
  by_cases c1 : v1 < 1
  · exact br_t c1 (br_t c1 ⟨rfl, cf_in hI⟩)
  refine br_f c1 ?_
  by_cases c2 : v1 ≤ nI N
  · refine br_t c2 ?_
    have c0 : ¬ v1 < 0 := fun z => c1 (Int32.lt_trans z (by decide))
    obtain ⟨l, hl, rfl⟩ := nI_of c0
    have d1 : ¬ nI l < nI 1 := c1
    rw [nI_ltI (by omega) (by omega)] at d1
    have d2 := c2
    rw [nI_leI (by omega) (by omega)] at d2
    refine cf_xsw hN (by omega) (fun L g1 g2 R hB hR => ?_)
    refine ⟨N + 1, cf_xk24 hN (by omega) d2 hR ?_ (N + 1) 0 (by omega) (by omega)⟩
    refine br_f c1 (br_t c2 ⟨N + 1, cf_yk19 hN (by omega) d2 ?_ (N + 1) 0 (by omega) (by omega)⟩)
    exact ⟨congrArg nI (cf_Inew hI).symm, cf_in hI⟩
  · exact br_f c2 (br_f c1 (br_f c2 ⟨rfl, cf_in hI⟩))
theorem i_vc_reach {k : Nat} {u : SX} {v : SY} (I : i_Rel k u v) (hk : k + 3 ≤ 1536) (v1 : Int32) (v2 : Int32) : wpX_reach (fun r => wpY_reach (fun r' => r' = r ∧ i_Rel (k + 3) u v) v v1 v2) u v1 v2 := by
  refine cf_el (P := fun u v => wpX_reach (fun r => wpY_reach (fun r' => r' = r ∧ i_Rel (k + 3) u v) v v1 v2) u v1 v2) ?_ I
  intro N m fF fL f1 f2 aT aB aW aV aF aA aR tk hI
  have hN := hI.1
  have ng : ∀ x : Int32, nI N ≤ x → ¬ x < 0 ∧ ∀ i, i < N → x ≠ nI i := by
    intro x hx
    refine ⟨Int32.not_lt.mpr (Int32.le_trans (nI_pos' (by omega)) hx), fun i hi e => ?_⟩
    rw [e] at hx
    exact nI_ge hi (by omega) hx
  have nl : ∀ x : Int32, x < 0 → ∀ i, i < N → x ≠ nI i := fun x hx i hi e => by
    rw [e] at hx
    exact nI_pos (by omega) hx
  unfold wpX_reach wpY_reach
  dsimp only
  rcases pk_ix v1 (n := N) (by omega) with h | h | ⟨i, hi, rfl⟩
  · exact br_t h (cf_yin hN (fun i hi e => absurd e (nl v1 h i hi)) (fun _ => br_t rfl ⟨rfl, cf_in hI⟩))
  · exact br_f (ng v1 h).1 (br_t h (cf_yin hN (fun i hi e => absurd e ((ng v1 h).2 i hi)) (fun _ => br_t rfl ⟨rfl, cf_in hI⟩)))
  · refine br_f (nI_pos (by omega)) (br_f (nI_ge hi (by omega)) ?_)
    rcases pk_ix v2 (n := N) (by omega) with h | h | ⟨j, hj, rfl⟩
    · refine br_t h (cf_yin hN (fun _ _ _ => br_f (by decide) ?_) (fun z => absurd rfl (z i hi)))
      exact cf_yin hN (fun j hj e => absurd e (nl v2 h j hj)) (fun _ => br_t rfl ⟨rfl, cf_in hI⟩)
    · refine br_f (ng v2 h).1 (br_f (Int32.not_lt.mpr h) (cf_yin hN (fun _ _ _ => br_f (by decide) ?_) (fun z => absurd rfl (z i hi))))
      exact cf_yin hN (fun j hj e => absurd e ((ng v2 h).2 j hj)) (fun _ => br_t rfl ⟨rfl, cf_in hI⟩)
    · refine br_f (nI_pos (by omega)) (br_t (nI_lt hj (by omega)) ⟨N + 1, cf_xr29 hN (fun r r1 r2 rq rx => ?_) (N + 1) 0 (by omega) (by omega) (by omega) cf_Q0⟩)
      refine cf_yin hN (fun _ _ _ => br_f (by decide) (cf_yin hN (fun _ _ _ => br_f (by decide) ?_) (fun z => absurd rfl (z j hj)))) (fun z => absurd rfl (z i hi))
      have hA := (cf_IQ hI r1 r2).mp rq
      have hx : ∀ n, r < n → i + n ≤ N → j + n ≤ N → ¬ cf_A tk i tk j n := by
        intro n n1 n2 n3 z
        exact rx (by omega) (by omega) (cf_Qle ((cf_IQ hI n2 n3).mpr z) n1)
      refine pk_le i j (fun g => ?_) (fun g => ?_)
      · refine nm_r (pk_sub (by omega)) ⟨N + 1, cf_yrc38 (t := N - j) (by omega) (by omega) hA (fun n n1 n2 => hx n n1 (by omega) (by omega)) ⟨rfl, cf_in hI⟩ (N + 1) (N - j) (by omega) (by omega) (by omega)⟩
      · refine nm_r (pk_sub (by omega)) ⟨N + 1, cf_yrc38 (t := N - i) (by omega) (by omega) hA (fun n n1 n2 => hx n n1 (by omega) (by omega)) ⟨rfl, cf_in hI⟩ (N + 1) (N - i) (by omega) (by omega) (by omega)⟩
end
