section
/-! sets of edges as bit masks: linear functionals, weights -/
/-- the parity of the places e below n of s at which A holds -/
def cb_lin (A : Nat → Bool) : Nat → Nat → Bool
  | 0, _ => false
  | n + 1, s => (cb_lin A n s ^^ (s.testBit n && A n))
theorem cb_bx (a b c d f : Bool) : ((a ^^ b) ^^ ((c ^^ d) && f)) = ((a ^^ (c && f)) ^^ (b ^^ (d && f))) := by
  cases a <;> cases b <;> cases c <;> cases d <;> cases f <;> rfl
theorem cb_lin_xor (A : Nat → Bool) (n a b : Nat) : cb_lin A n (a ^^^ b) = (cb_lin A n a ^^ cb_lin A n b) := by
  induction n with
  | zero => rfl
  | succ n ih =>
    show (cb_lin A n (a ^^^ b) ^^ ((a ^^^ b).testBit n && A n)) = ((cb_lin A n a ^^ (a.testBit n && A n)) ^^ (cb_lin A n b ^^ (b.testBit n && A n)))
    rw [ih, Nat.testBit_xor]
    exact cb_bx _ _ _ _ _
theorem cb_lin_0 (A : Nat → Bool) (n : Nat) : cb_lin A n 0 = false := by
  induction n with
  | zero => rfl
  | succ n ih =>
    show (cb_lin A n 0 ^^ ((0 : Nat).testBit n && A n)) = false
    rw [ih, Nat.zero_testBit]
    rfl
theorem cb_lin_none (A : Nat → Bool) (n s : Nat) (h : ∀ e, e < n → (s.testBit e && A e) = false) : cb_lin A n s = false := by
  induction n with
  | zero => rfl
  | succ n ih =>
    show (cb_lin A n s ^^ (s.testBit n && A n)) = false
    rw [ih (fun e he => h e (by omega)), h n (by omega)]
    rfl
theorem cb_lin_only (A : Nat → Bool) (n s k : Nat) (hk : k < n) (h : ∀ e, e < n → e ≠ k → (s.testBit e && A e) = false) : cb_lin A n s = (s.testBit k && A k) := by
  induction n with
  | zero => omega
  | succ n ih =>
    show (cb_lin A n s ^^ (s.testBit n && A n)) = (s.testBit k && A k)
    by_cases e : k = n
    · subst e
      rw [cb_lin_none A k s (fun e he => h e (by omega) (by omega))]
      simp
    · rw [ih (by omega) (fun e' he' hn => h e' (by omega) hn), h n (by omega) (fun z => e z.symm)]
      simp
theorem cb_lin_pow (A : Nat → Bool) (n e : Nat) (he : e < n) : cb_lin A n (2 ^ e) = A e := by
  rw [cb_lin_only A n (2 ^ e) e he (fun k hk hn => by rw [Nat.testBit_two_pow_of_ne (fun z => hn z.symm)]; rfl), Nat.testBit_two_pow_self]
  simp
theorem cb_lin_ex (A : Nat → Bool) (n s : Nat) (h : cb_lin A n s = true) : ∃ e, e < n ∧ s.testBit e = true ∧ A e = true := by
  induction n with
  | zero => exact absurd h (by simp [cb_lin])
  | succ n ih =>
    by_cases c : (s.testBit n && A n) = true
    · rw [Bool.and_eq_true] at c
      exact ⟨n, by omega, c.1, c.2⟩
    · have h' : (cb_lin A n s ^^ (s.testBit n && A n)) = true := h
      rw [show (s.testBit n && A n) = false from by simpa using c] at h'
      obtain ⟨e, h1, h2⟩ := ih (by simpa using h')
      exact ⟨e, by omega, h2⟩
theorem cb_lin_add (A B : Nat → Bool) (n s : Nat) : cb_lin (fun e => (A e ^^ B e)) n s = (cb_lin A n s ^^ cb_lin B n s) := by
  induction n with
  | zero => rfl
  | succ n ih =>
    show (cb_lin (fun e => (A e ^^ B e)) n s ^^ (s.testBit n && (A n ^^ B n))) = ((cb_lin A n s ^^ (s.testBit n && A n)) ^^ (cb_lin B n s ^^ (s.testBit n && B n)))
    rw [ih]
    cases cb_lin A n s <;> cases cb_lin B n s <;> cases s.testBit n <;> cases A n <;> cases B n <;> rfl
theorem cb_lin_congr (A B : Nat → Bool) (n s : Nat) (h : ∀ e, e < n → s.testBit e = true → A e = B e) : cb_lin A n s = cb_lin B n s := by
  induction n with
  | zero => rfl
  | succ n ih =>
    show (cb_lin A n s ^^ (s.testBit n && A n)) = (cb_lin B n s ^^ (s.testBit n && B n))
    rw [ih (fun e he => h e (by omega))]
    cases z : s.testBit n
    · rfl
    · rw [h n (by omega) z]
/-- the bits of two masks that meet: their parity, twelve places -/
def cb_dot (x y : Nat) : Bool := cb_lin (fun e => y.testBit e) 12 x
theorem cb_dot_xl (a b y : Nat) : cb_dot (a ^^^ b) y = (cb_dot a y ^^ cb_dot b y) := cb_lin_xor _ _ _ _
theorem cb_lin_sym (x y n : Nat) : cb_lin (fun e => y.testBit e) n x = cb_lin (fun e => x.testBit e) n y := by
  induction n with
  | zero => rfl
  | succ n ih =>
    show (cb_lin (fun e => y.testBit e) n x ^^ (x.testBit n && y.testBit n)) = (cb_lin (fun e => x.testBit e) n y ^^ (y.testBit n && x.testBit n))
    rw [ih, Bool.and_comm]
theorem cb_dot_sym (x y : Nat) : cb_dot x y = cb_dot y x := cb_lin_sym x y 12
theorem cb_dot_xr (y a b : Nat) : cb_dot y (a ^^^ b) = (cb_dot y a ^^ cb_dot y b) := by
  rw [cb_dot_sym, cb_dot_xl, cb_dot_sym a y, cb_dot_sym b y]
theorem cb_dot_0r (x : Nat) : cb_dot x 0 = false := cb_lin_none _ _ _ (fun e _ => by simp)
theorem cb_dot_0l (x : Nat) : cb_dot 0 x = false := cb_lin_0 _ _
theorem cb_dot_pl (e y : Nat) (he : e < 12) : cb_dot (2 ^ e) y = y.testBit e := cb_lin_pow _ _ _ he
/-- the weight of a set -/
def cb_w (w : Nat → Nat) : Nat → Nat → Nat
  | 0, _ => 0
  | n + 1, s => cb_w w n s + (if s.testBit n = true then w n else 0)
theorem cb_w_same (w : Nat → Nat) (n s t : Nat) (h : ∀ e, e < n → s.testBit e = t.testBit e) : cb_w w n s = cb_w w n t := by
  induction n with
  | zero => rfl
  | succ n ih =>
    show cb_w w n s + (if s.testBit n = true then w n else 0) = cb_w w n t + (if t.testBit n = true then w n else 0)
    rw [ih (fun e he => h e (by omega)), h n (by omega)]
theorem cb_tx (s e k : Nat) : (s ^^^ 2 ^ e).testBit k = (s.testBit k ^^ decide (e = k)) := by
  rw [Nat.testBit_xor, Nat.testBit_two_pow]
theorem cb_tx_ne (s e k : Nat) (h : k ≠ e) : (s ^^^ 2 ^ e).testBit k = s.testBit k := by
  rw [cb_tx, show decide (e = k) = false from by simp; omega]
  simp
theorem cb_tx_eq (s e : Nat) : (s ^^^ 2 ^ e).testBit e = !(s.testBit e) := by
  rw [cb_tx]
  simp
theorem cb_w_mem (w : Nat → Nat) (n s e : Nat) (he : e < n) (h : s.testBit e = true) : cb_w w n s = cb_w w n (s ^^^ 2 ^ e) + w e := by
  induction n with
  | zero => omega
  | succ n ih =>
    show cb_w w n s + (if s.testBit n = true then w n else 0) = cb_w w n (s ^^^ 2 ^ e) + (if (s ^^^ 2 ^ e).testBit n = true then w n else 0) + w e
    by_cases c : e = n
    · subst c
      rw [cb_w_same w e s (s ^^^ 2 ^ e) (fun k hk => (cb_tx_ne s e k (by omega)).symm), cb_tx_eq, h]
      simp
    · rw [ih (by omega), cb_tx_ne s e n (fun z => c z.symm)]
      omega
theorem cb_xx (a b : Nat) : (a ^^^ b) ^^^ b = a := by
  rw [Nat.xor_assoc, Nat.xor_self, Nat.xor_zero]
theorem cb_w_le (w : Nat → Nat) (n s e : Nat) (he : e < n) : cb_w w n (s ^^^ 2 ^ e) ≤ cb_w w n s + w e := by
  cases h : s.testBit e
  · have h2 : (s ^^^ 2 ^ e).testBit e = true := by rw [cb_tx_eq, h]; rfl
    have := cb_w_mem w n _ e he h2
    rw [cb_xx] at this
    omega
  · have := cb_w_mem w n s e he h
    omega
theorem cb_w_mono (w w' : Nat → Nat) (n s : Nat) (h : ∀ e, e < n → w e ≤ w' e) : cb_w w n s ≤ cb_w w' n s := by
  induction n with
  | zero => exact Nat.le_refl _
  | succ n ih =>
    show cb_w w n s + (if s.testBit n = true then w n else 0) ≤ cb_w w' n s + (if s.testBit n = true then w' n else 0)
    have h1 := ih (fun e he => h e (by omega))
    have h2 := h n (by omega)
    split <;> omega
theorem cb_w_top (w : Nat → Nat) (n s : Nat) (h : ∀ e, e < n → w e ≤ 100) : cb_w w n s ≤ 100 * n := by
  induction n with
  | zero => exact Nat.le_refl _
  | succ n ih =>
    show cb_w w n s + (if s.testBit n = true then w n else 0) ≤ 100 * (n + 1)
    have h1 := ih (fun e he => h e (by omega))
    have h2 := h n (by omega)
    split <;> omega
theorem cb_w_two (w : Nat → Nat) (n s e k : Nat) (he : e < n) (hk : k < n) (hn : k ≠ e) (h1 : s.testBit e = true) (h2 : s.testBit k = true) (hw : ∀ e, e < n → 1 ≤ w e) : 2 ≤ cb_w w n s := by
  have a := cb_w_mem w n s e he h1
  have b := cb_w_mem w n (s ^^^ 2 ^ e) k hk (by rw [cb_tx_ne s e k hn]; exact h2)
  have c := hw e he
  have d := hw k hk
  omega
theorem cb_w_0 (w : Nat → Nat) (n : Nat) : cb_w w n 0 = 0 := by
  induction n with
  | zero => rfl
  | succ n ih =>
    show cb_w w n 0 + (if (0 : Nat).testBit n = true then w n else 0) = 0
    rw [ih, Nat.zero_testBit]
    rfl
theorem cb_hi (s n e : Nat) (h : s < 2 ^ n) (he : n ≤ e) : s.testBit e = false :=
  Nat.testBit_lt_two_pow (Nat.lt_of_lt_of_le h (Nat.pow_le_pow_right (by omega) he))
theorem cb_in (s n e : Nat) (h : s < 2 ^ n) (he : s.testBit e = true) : e < n := by
  rcases Nat.lt_or_ge e n with z | z
  · exact z
  · rw [cb_hi s n e h z] at he
    exact absurd he (by simp)
theorem cb_pw (n e : Nat) (he : e < n) : 2 ^ e < 2 ^ n := Nat.pow_lt_pow_right (by omega) he
theorem cb_pm (a b : Nat) (h : a ≤ b) : 2 ^ a ≤ 2 ^ b := Nat.pow_le_pow_right (by omega) h
theorem cb_xl (s n e : Nat) (h : s < 2 ^ n) (he : e < n) : s ^^^ 2 ^ e < 2 ^ n := Nat.xor_lt_two_pow h (cb_pw n e he)
theorem cb_dec (s e : Nat) (h : s.testBit e = true) : s ^^^ 2 ^ e < s := by
  have h0 : (s ^^^ 2 ^ e).testBit e = false := by rw [cb_tx_eq, h]; rfl
  have le : s ^^^ 2 ^ e ≤ s := Nat.le_of_testBit (fun i hi => by
    by_cases c : i = e
    · rw [c, h0] at hi
      exact absurd hi (by simp)
    · rw [cb_tx_ne s e i c] at hi
      exact hi)
  have ne : s ^^^ 2 ^ e ≠ s := by
    intro z
    rw [z, h] at h0
    exact absurd h0 (by simp)
  omega
/-- the boundary of a set at a vertex -/
def cb_bd (fr to : Nat → Nat) (n v s : Nat) : Bool := cb_lin (fun e => ((fr e == v) ^^ (to e == v))) n s
/-- a closed set -/
def cb_cl (fr to : Nat → Nat) (n s : Nat) : Prop := s < 2 ^ n ∧ ∀ v, cb_bd fr to n v s = false
/-- a graph as it may stand -/
def cb_G (n : Nat) (fr to wt : Nat → Nat) : Prop := n ≤ 12 ∧ ∀ e, e < n → fr e < 7 ∧ to e < 7 ∧ fr e ≠ to e ∧ 1 ≤ wt e ∧ wt e ≤ 100
theorem cb_bd_xor (fr to : Nat → Nat) (n v a b : Nat) : cb_bd fr to n v (a ^^^ b) = (cb_bd fr to n v a ^^ cb_bd fr to n v b) := cb_lin_xor _ _ _ _
theorem cb_bd_pow (fr to : Nat → Nat) (n v e : Nat) (he : e < n) : cb_bd fr to n v (2 ^ e) = ((fr e == v) ^^ (to e == v)) := cb_lin_pow _ _ _ he
theorem cb_bd_0 (fr to : Nat → Nat) (n v : Nat) : cb_bd fr to n v 0 = false := cb_lin_0 _ _
theorem cb_cl_0 (fr to : Nat → Nat) (n : Nat) : cb_cl fr to n 0 := ⟨Nat.two_pow_pos n, fun v => cb_bd_0 fr to n v⟩
theorem cb_cl_xor {fr to : Nat → Nat} {n a b : Nat} (ha : cb_cl fr to n a) (hb : cb_cl fr to n b) : cb_cl fr to n (a ^^^ b) :=
  ⟨Nat.xor_lt_two_pow ha.1 hb.1, fun v => by rw [cb_bd_xor, ha.2 v, hb.2 v]; rfl⟩
/-- a closed set that isn't empty has two edges: it weighs two or more -/
theorem cb_cl_two {n : Nat} {fr to wt : Nat → Nat} {s : Nat} (hG : cb_G n fr to wt) (h : cb_cl fr to n s) (h0 : s ≠ 0) : 2 ≤ cb_w wt n s := by
  obtain ⟨e, he⟩ := Nat.exists_testBit_of_ne_zero h0
  have hen := cb_in s n e h.1 he
  have g := hG.2 e hen
  by_cases c : ∃ k, k < n ∧ k ≠ e ∧ s.testBit k = true
  · obtain ⟨k, hk, hn, hs⟩ := c
    exact cb_w_two wt n s e k hen hk hn he hs (fun e he => (hG.2 e he).2.2.2.1)
  · exfalso
    have z : cb_bd fr to n (fr e) s = (s.testBit e && ((fr e == fr e) ^^ (to e == fr e))) := cb_lin_only _ n s e hen (fun k hk hn => by
      rw [show s.testBit k = false from by
        cases q : s.testBit k
        · rfl
        · exact absurd ⟨k, hk, hn, q⟩ c]
      rfl)
    rw [h.2 (fr e), he] at z
    have q : (to e == fr e) = false := by simp; exact fun w => g.2.2.1 w.symm
    rw [q] at z
    simp at z
end
section
/-! spans, and the exchange behind the least basis -/
theorem cb_x4 (a b c : Nat) : (a ^^^ b) ^^^ (c ^^^ b) = a ^^^ c := by
  apply Nat.eq_of_testBit_eq
  intro i
  simp only [Nat.testBit_xor]
  cases a.testBit i <;> cases b.testBit i <;> cases c.testBit i <;> rfl
theorem cb_x3 (a b c : Nat) : (a ^^^ c) ^^^ b = (a ^^^ b) ^^^ c := by
  rw [Nat.xor_assoc, Nat.xor_comm c b, ← Nat.xor_assoc]
theorem cb_xa (a b : Nat) : a ^^^ (a ^^^ b) = b := by
  rw [← Nat.xor_assoc, Nat.xor_self, Nat.zero_xor]
/-- the span of a list of sets -/
def cb_spn (L : List Nat) (x : Nat) : Prop := ∀ K : Nat → Prop, K 0 → (∀ a b, K a → K b → K (a ^^^ b)) → (∀ a, a ∈ L → K a) → K x
theorem cb_spn_0 (L : List Nat) : cb_spn L 0 := fun _ h0 _ _ => h0
theorem cb_spn_x {L : List Nat} {a b : Nat} (ha : cb_spn L a) (hb : cb_spn L b) : cb_spn L (a ^^^ b) :=
  fun K h0 hx hm => hx a b (ha K h0 hx hm) (hb K h0 hx hm)
theorem cb_spn_m {L : List Nat} {a : Nat} (h : a ∈ L) : cb_spn L a := fun _ _ _ hm => hm a h
theorem cb_spn_le {L M : List Nat} {x : Nat} (h : ∀ a, a ∈ L → cb_spn M a) (hx : cb_spn L x) : cb_spn M x :=
  hx (cb_spn M) (cb_spn_0 M) (fun _ _ => cb_spn_x) h
theorem cb_spn_s {L M : List Nat} {x : Nat} (h : ∀ a, a ∈ L → a ∈ M) (hx : cb_spn L x) : cb_spn M x :=
  cb_spn_le (fun a ha => cb_spn_m (h a ha)) hx
theorem cb_spn_c {L : List Nat} {b x : Nat} (h : cb_spn (b :: L) x) : cb_spn L x ∨ cb_spn L (x ^^^ b) := by
  refine h (fun x => cb_spn L x ∨ cb_spn L (x ^^^ b)) (Or.inl (cb_spn_0 L)) (fun a c ha hc => ?_) (fun a ha => ?_)
  · rcases ha with ha | ha <;> rcases hc with hc | hc
    · exact Or.inl (cb_spn_x ha hc)
    · have q := cb_spn_x ha hc
      rw [← Nat.xor_assoc] at q
      exact Or.inr q
    · have q := cb_spn_x ha hc
      rw [← cb_x3] at q
      exact Or.inr q
    · have q := cb_spn_x ha hc
      rw [cb_x4] at q
      exact Or.inl q
  · rcases List.mem_cons.mp ha with e | e
    · rw [e, Nat.xor_self]
      exact Or.inr (cb_spn_0 L)
    · exact Or.inl (cb_spn_m e)
theorem cb_mem1 {Dn Bs : List Nat} {a b : Nat} : a ∈ Dn ++ b :: Bs ↔ a = b ∨ a ∈ Dn ++ Bs := by
  simp only [List.mem_append, List.mem_cons]
  constructor
  · rintro (h | h | h)
    · exact Or.inr (Or.inl h)
    · exact Or.inl h
    · exact Or.inr (Or.inr h)
  · rintro (h | h | h)
    · exact Or.inr (Or.inl h)
    · exact Or.inl h
    · exact Or.inr (Or.inr h)
theorem cb_exch (f : Nat → Bool) (f0 : f 0 = false) (fx : ∀ a b, f (a ^^^ b) = (f a ^^ f b)) :
    ∀ (Bs Dn : List Nat) (x : Nat), (∀ d, d ∈ Dn → f d = false) → cb_spn (Dn ++ Bs) x → f x = true →
      ∃ B1 b B2, Bs = B1 ++ b :: B2 ∧ f b = true ∧ ∀ y, cb_spn (Dn ++ Bs) y → cb_spn (x :: (Dn ++ (B1 ++ B2))) y := by
  intro Bs
  induction Bs with
  | nil =>
    intro Dn x hd hs hf
    exfalso
    have q : f x = false := hs (fun z => f z = false) f0 (fun a b ha hb => by rw [fx, ha, hb]; rfl) (fun a ha => hd a (by simpa using ha))
    rw [q] at hf
    exact absurd hf (by simp)
  | cons b Bs ih =>
    intro Dn x hd hs hf
    cases fb : f b
    · obtain ⟨B1, b', B2, e, hb', hy⟩ := ih (b :: Dn) x
        (fun d hd' => by
          rcases List.mem_cons.mp hd' with h | h
          · rw [h]; exact fb
          · exact hd d h)
        (cb_spn_s (fun a ha => List.mem_cons.mpr (cb_mem1.mp ha)) hs) hf
      refine ⟨b :: B1, b', B2, by rw [e]; rfl, hb', fun y h => ?_⟩
      have q := hy y (cb_spn_s (fun a ha => List.mem_cons.mpr (cb_mem1.mp ha)) h)
      refine cb_spn_s (fun a ha => ?_) q
      rcases List.mem_cons.mp ha with h1 | h1
      · exact List.mem_cons.mpr (Or.inl h1)
      · exact List.mem_cons.mpr (Or.inr (cb_mem1.mpr (List.mem_cons.mp h1)))
    · by_cases c : cb_spn (Dn ++ Bs) x
      · obtain ⟨B1, b', B2, e, hb', hy⟩ := ih Dn x hd c hf
        refine ⟨b :: B1, b', B2, by rw [e]; rfl, hb', fun y h => ?_⟩
        refine cb_spn_le (fun a ha => ?_) h
        rcases cb_mem1.mp ha with h1 | h1
        · exact cb_spn_m (List.mem_cons.mpr (Or.inr (cb_mem1.mpr (Or.inl h1))))
        · refine cb_spn_s (fun a' ha' => ?_) (hy a (cb_spn_m h1))
          rcases List.mem_cons.mp ha' with h2 | h2
          · exact List.mem_cons.mpr (Or.inl h2)
          · exact List.mem_cons.mpr (Or.inr (cb_mem1.mpr (Or.inr h2)))
      · have q : cb_spn (b :: (Dn ++ Bs)) x := cb_spn_s (fun a ha => List.mem_cons.mpr (cb_mem1.mp ha)) hs
        rcases cb_spn_c q with h | h
        · exact absurd h c
        · refine ⟨[], b, Bs, rfl, fb, fun y hy => cb_spn_le (fun a ha => ?_) hy⟩
          rcases cb_mem1.mp ha with h1 | h1
          · have p : cb_spn (x :: (Dn ++ ([] ++ Bs))) (x ^^^ (x ^^^ b)) := cb_spn_x (cb_spn_m (List.mem_cons.mpr (Or.inl rfl))) (cb_spn_s (fun c hc => List.mem_cons.mpr (Or.inr hc)) h)
            rw [cb_xa] at p
            rw [h1]
            exact p
          · exact cb_spn_m (List.mem_cons.mpr (Or.inr h1))
/-- f 0 + .. + f (k - 1) -/
def cb_sum (f : Nat → Nat) : Nat → Nat
  | 0 => 0
  | k + 1 => cb_sum f k + f k
theorem cb_sum_list (f : Nat → Nat) (r : Nat) : ((List.range r).map f).sum = cb_sum f r := by
  induction r with
  | zero => rfl
  | succ r ih =>
    rw [List.range_succ, List.map_append, List.sum_append, ih]
    simp [cb_sum]
theorem cb_sum_mono (f g : Nat → Nat) (r : Nat) (h : ∀ i, i < r → f i ≤ g i) : cb_sum f r ≤ cb_sum g r := by
  induction r with
  | zero => exact Nat.le_refl _
  | succ r ih =>
    show cb_sum f r + f r ≤ cb_sum g r + g r
    have a := ih (fun i hi => h i (by omega))
    have b := h r (by omega)
    omega
theorem cb_sum_congr (f g : Nat → Nat) (r : Nat) (h : ∀ i, i < r → f i = g i) : cb_sum f r = cb_sum g r := by
  induction r with
  | zero => rfl
  | succ r ih =>
    show cb_sum f r + f r = cb_sum g r + g r
    rw [ih (fun i hi => h i (by omega)), h r (by omega)]
/-- no spanning list is lighter than the sets that were found with their witnesses -/
theorem cb_opt (cl : Nat → Prop) (W : Nat → Nat) (S C B : Nat → Nat) (r : Nat)
    (h1 : ∀ i, i < r → cb_dot (C i) (S i) = true) (h2 : ∀ i j, i < j → j < r → cb_dot (C i) (S j) = false)
    (h3 : ∀ i, i < r → ∀ c, cl c → cb_dot c (S i) = true → B i ≤ W c) :
    ∀ k i, i + k = r → ∀ Dn Bs : List Nat, (∀ d, d ∈ Dn → ∃ j, j < i ∧ d = C j) → (∀ b, b ∈ Bs → cl b) → (∀ j, j < r → cb_spn (Dn ++ Bs) (C j)) →
      cb_sum B r ≤ cb_sum B i + (Bs.map W).sum := by
  intro k
  induction k with
  | zero =>
    intro i hi Dn Bs _ _ _
    rw [show r = i by omega]
    omega
  | succ k ih =>
    intro i hi Dn Bs hD hB hs
    obtain ⟨B1, b, B2, e, hb, hy⟩ := cb_exch (fun c => cb_dot c (S i)) (cb_dot_0l _) (fun a b => cb_dot_xl a b _) Bs Dn (C i)
      (fun d hd => by
        obtain ⟨j, hj, e⟩ := hD d hd
        show cb_dot d (S i) = false
        rw [e]
        exact h2 j i hj (by omega))
      (hs i (by omega)) (h1 i (by omega))
    have q := ih (i + 1) (by omega) (C i :: Dn) (B1 ++ B2)
      (fun d hd => by
        rcases List.mem_cons.mp hd with z | z
        · exact ⟨i, by omega, z⟩
        · obtain ⟨j, hj, e⟩ := hD d z
          exact ⟨j, by omega, e⟩)
      (fun b' hb' => hB b' (by rw [e]; exact cb_mem1.mpr (Or.inr hb')))
      (fun j hj => hy _ (hs j hj))
    have p : B i ≤ W b := h3 i (by omega) b (hB b (by rw [e]; exact cb_mem1.mpr (Or.inl rfl))) hb
    have z : (Bs.map W).sum = ((B1 ++ B2).map W).sum + W b := by
      rw [e]
      simp only [List.map_append, List.map_cons, List.sum_append, List.sum_cons]
      omega
    have y : cb_sum B (i + 1) = cb_sum B i + B i := rfl
    omega
end
section
/-! the forest: startWitnesses -/
def cb_up (f : Nat → Nat) (k x : Nat) : Nat → Nat := fun j => if j = k then x else f j
theorem cb_ups (f : Nat → Nat) (k x : Nat) : cb_up f k x k = x := by simp [cb_up]
theorem cb_upn (f : Nat → Nat) (k x j : Nat) (h : j ≠ k) : cb_up f k x j = f j := by simp [cb_up, h]
/-- groups, rank, the edges outside the forest, when the edges below e have been looked at -/
def cb_sw (fr to : Nat → Nat) : Nat → (Nat → Nat) × Nat × (Nat → Nat)
  | 0 => (fun v => v, 0, fun _ => 0)
  | e + 1 => if (cb_sw fr to e).1 (fr e) = (cb_sw fr to e).1 (to e) then ((cb_sw fr to e).1, (cb_sw fr to e).2.1 + 1, cb_up (cb_sw fr to e).2.2 (cb_sw fr to e).2.1 e)
    else (fun v => if (cb_sw fr to e).1 v = (cb_sw fr to e).1 (to e) then (cb_sw fr to e).1 (fr e) else (cb_sw fr to e).1 v, (cb_sw fr to e).2.1, (cb_sw fr to e).2.2)
theorem cb_ck (A : Nat → Bool) (x k : Nat) : (A x && decide (x < k + 1)) = ((A x && decide (x < k)) ^^ (A k && (x == k))) := by
  by_cases c : x = k
  · subst c
    simp
  · have e : (x == k) = false := by simpa using c
    rw [e, show decide (x < k + 1) = decide (x < k) from by
      apply decide_eq_decide.mpr
      omega]
    simp
theorem cb_cut (fr to : Nat → Nat) (A : Nat → Bool) (n c : Nat) (h : ∀ v, cb_bd fr to n v c = false) :
    ∀ k, cb_lin (fun e => ((A (fr e) && decide (fr e < k)) ^^ (A (to e) && decide (to e < k)))) n c = false := by
  intro k
  induction k with
  | zero => exact cb_lin_none _ _ _ (fun e _ => by simp)
  | succ k ih =>
    rw [cb_lin_congr _ (fun e => (((A (fr e) && decide (fr e < k)) ^^ (A (to e) && decide (to e < k))) ^^ (A k && ((fr e == k) ^^ (to e == k))))) n c
      (fun e _ _ => by
        show ((A (fr e) && decide (fr e < k + 1)) ^^ (A (to e) && decide (to e < k + 1))) = _
        rw [cb_ck A (fr e) k, cb_ck A (to e) k]
        cases (A (fr e) && decide (fr e < k)) <;> cases (A (to e) && decide (to e < k)) <;> cases A k <;> cases (fr e == k) <;> cases (to e == k) <;> rfl)]
    rw [cb_lin_add (fun e => ((A (fr e) && decide (fr e < k)) ^^ (A (to e) && decide (to e < k)))) (fun e => (A k && ((fr e == k) ^^ (to e == k)))), ih]
    cases q : A k
    · rw [cb_lin_none _ _ _ (fun e _ => by simp)]
      rfl
    · rw [cb_lin_congr (fun e => (true && ((fr e == k) ^^ (to e == k)))) (fun e => ((fr e == k) ^^ (to e == k))) n c (fun e _ _ => by simp)]
      have z : cb_lin (fun e => ((fr e == k) ^^ (to e == k))) n c = false := h k
      rw [z]
      rfl
def cb_FI (fr to : Nat → Nat) (e : Nat) (g : Nat → Nat) (r : Nat) (ne : Nat → Nat) : Prop :=
  r ≤ e ∧ (∀ j, j < r → ne j < e) ∧ (∀ i j, i < j → j < r → ne i < ne j) ∧ (∀ k, k < e → g (fr k) = g (to k)) ∧
  (∀ u v, u < 7 → v < 7 → g u = g v → ∃ p, p < 2 ^ e ∧ (∀ x, cb_bd fr to e x p = ((u == x) ^^ (v == x))) ∧ ∀ j, j < r → p.testBit (ne j) = false) ∧
  (∀ j, j < r → ∃ c, cb_cl fr to e c ∧ ∀ i, i < r → c.testBit (ne i) = decide (i = j)) ∧
  (∀ c, cb_cl fr to e c → (∀ j, j < r → c.testBit (ne j) = false) → c = 0)
theorem cb_bd_up (fr to : Nat → Nat) (e v p : Nat) (h : p < 2 ^ e) : cb_bd fr to (e + 1) v p = cb_bd fr to e v p := by
  show (cb_bd fr to e v p ^^ (p.testBit e && ((fr e == v) ^^ (to e == v)))) = cb_bd fr to e v p
  rw [cb_hi p e e h (Nat.le_refl e)]
  simp
theorem cb_up2 (e p : Nat) (h : p < 2 ^ e) : p < 2 ^ (e + 1) := Nat.lt_of_lt_of_le h (cb_pm e (e + 1) (by omega))
theorem cb_cl_up {fr to : Nat → Nat} {e c : Nat} (h : cb_cl fr to e c) : cb_cl fr to (e + 1) c :=
  ⟨cb_up2 e c h.1, fun v => by rw [cb_bd_up fr to e v c h.1]; exact h.2 v⟩
theorem cb_dn2 (e c : Nat) (h : c < 2 ^ (e + 1)) (h0 : c.testBit e = false) : c < 2 ^ e :=
  Nat.lt_pow_two_of_testBit c (fun i hi => by
    by_cases z : i = e
    · rw [z]; exact h0
    · exact cb_hi c (e + 1) i h (by omega))
theorem cb_cl_dn {fr to : Nat → Nat} {e c : Nat} (h : cb_cl fr to (e + 1) c) (h0 : c.testBit e = false) : cb_cl fr to e c :=
  ⟨cb_dn2 e c h.1 h0, fun v => by rw [← cb_bd_up fr to e v c (cb_dn2 e c h.1 h0)]; exact h.2 v⟩
theorem cb_FI0 (fr to : Nat → Nat) : cb_FI fr to 0 (fun v => v) 0 (fun _ => 0) := by
  refine ⟨by omega, fun j hj => by omega, fun i j _ hj => by omega, fun k hk => by omega, fun u v _ _ h => ⟨0, by simp, fun x => ?_, fun j hj => by omega⟩, fun j hj => by omega, fun c hc _ => ?_⟩
  · have h' : u = v := h
    rw [h', cb_bd_0]
    cases (v == x) <;> rfl
  · have := hc.1
    omega
/-- an edge that closes a way -/
theorem cb_FIn {fr to : Nat → Nat} {e : Nat} {g : Nat → Nat} {r : Nat} {ne : Nat → Nat} (hf : fr e < 7) (ht : to e < 7) (h : cb_FI fr to e g r ne) (hg : g (fr e) = g (to e)) :
    cb_FI fr to (e + 1) g (r + 1) (cb_up ne r e) := by
  obtain ⟨h1, h2, h3, h4, h5, h6, h7⟩ := h
  have U : ∀ j, j < r → cb_up ne r e j = ne j := fun j hj => cb_upn ne r e j (by omega)
  have R : cb_up ne r e r = e := cb_ups ne r e
  refine ⟨by omega, fun j hj => ?_, fun i j hi hj => ?_, fun k hk => ?_, fun u v hu hv huv => ?_, fun j hj => ?_, fun c hc hz => ?_⟩
  · by_cases z : j = r
    · rw [z, R]; omega
    · rw [U j (by omega)]
      have := h2 j (by omega)
      omega
  · by_cases z : j = r
    · rw [z, R, U i (by omega)]
      exact h2 i (by omega)
    · rw [U i (by omega), U j (by omega)]
      exact h3 i j hi (by omega)
  · by_cases z : k = e
    · rw [z]; exact hg
    · exact h4 k (by omega)
  · obtain ⟨p, p1, p2, p3⟩ := h5 u v hu hv huv
    refine ⟨p, cb_up2 e p p1, fun x => by rw [cb_bd_up fr to e x p p1]; exact p2 x, fun j hj => ?_⟩
    by_cases z : j = r
    · rw [z, R]
      exact cb_hi p e e p1 (Nat.le_refl e)
    · rw [U j (by omega)]
      exact p3 j (by omega)
  · by_cases z : j = r
    · obtain ⟨p, p1, p2, p3⟩ := h5 (fr e) (to e) hf ht hg
      refine ⟨p ^^^ 2 ^ e, ⟨cb_xl p (e + 1) e (cb_up2 e p p1) (by omega), fun v => ?_⟩, fun i hi => ?_⟩
      · rw [cb_bd_xor, cb_bd_up fr to e v p p1, p2 v, cb_bd_pow fr to (e + 1) v e (by omega)]
        cases (fr e == v) <;> cases (to e == v) <;> rfl
      · by_cases y : i = r
        · rw [y, R, cb_tx_eq, cb_hi p e e p1 (Nat.le_refl e), z]
          simp
        · have q := h2 i (by omega)
          rw [U i (by omega), cb_tx_ne p e (ne i) (by omega), p3 i (by omega), z]
          simpa using y
    · obtain ⟨c, c1, c2⟩ := h6 j (by omega)
      refine ⟨c, cb_cl_up c1, fun i hi => ?_⟩
      by_cases y : i = r
      · rw [y, R, cb_hi c e e c1.1 (Nat.le_refl e)]
        have : ¬ r = j := fun w => z w.symm
        simpa using this
      · rw [U i (by omega)]
        exact c2 i (by omega)
  · have q : c.testBit e = false := by
      have := hz r (by omega)
      rw [R] at this
      exact this
    refine h7 c (cb_cl_dn hc q) (fun j hj => ?_)
    have := hz j (by omega)
    rw [U j hj] at this
    exact this
/-- an edge of the forest -/
theorem cb_FIt {fr to : Nat → Nat} {e : Nat} {g : Nat → Nat} {r : Nat} {ne : Nat → Nat} (hF : ∀ k, k < e + 1 → fr k < 7 ∧ to k < 7) (h : cb_FI fr to e g r ne) (hg : ¬ g (fr e) = g (to e)) :
    cb_FI fr to (e + 1) (fun v => if g v = g (to e) then g (fr e) else g v) r ne := by
  obtain ⟨h1, h2, h3, h4, h5, h6, h7⟩ := h
  have hf := (hF e (by omega)).1
  have ht := (hF e (by omega)).2
  have hne : ∀ j, j < r → ne j ≠ e := fun j hj => by have := h2 j hj; omega
  refine ⟨by omega, fun j hj => by have := h2 j hj; omega, h3, fun k hk => ?_, fun u v hu hv huv => ?_, fun j hj => ?_, fun c hc hz => ?_⟩
  · show (if g (fr k) = g (to e) then g (fr e) else g (fr k)) = (if g (to k) = g (to e) then g (fr e) else g (to k))
    by_cases z : k = e
    · rw [z, if_neg hg, if_pos rfl]
    · rw [h4 k (by omega)]
  · have huv' : (if g u = g (to e) then g (fr e) else g u) = (if g v = g (to e) then g (fr e) else g v) := huv
    by_cases cu : g u = g (to e)
    · by_cases cv : g v = g (to e)
      · obtain ⟨p, p1, p2, p3⟩ := h5 u v hu hv (cu.trans cv.symm)
        exact ⟨p, cb_up2 e p p1, fun x => by rw [cb_bd_up fr to e x p p1]; exact p2 x, p3⟩
      · rw [if_pos cu, if_neg cv] at huv'
        obtain ⟨p, p1, p2, p3⟩ := h5 u (to e) hu ht cu
        obtain ⟨q, q1, q2, q3⟩ := h5 (fr e) v hf hv huv'
        refine ⟨(p ^^^ q) ^^^ 2 ^ e, cb_xl _ (e + 1) e (Nat.xor_lt_two_pow (cb_up2 e p p1) (cb_up2 e q q1)) (by omega), fun x => ?_, fun j hj => ?_⟩
        · rw [cb_bd_xor, cb_bd_xor, cb_bd_up fr to e x p p1, cb_bd_up fr to e x q q1, p2 x, q2 x, cb_bd_pow fr to (e + 1) x e (by omega)]
          cases (fr e == x) <;> cases (to e == x) <;> cases (u == x) <;> cases (v == x) <;> rfl
        · rw [cb_tx_ne _ e (ne j) (hne j hj), Nat.testBit_xor, p3 j hj, q3 j hj]
          rfl
    · by_cases cv : g v = g (to e)
      · rw [if_neg cu, if_pos cv] at huv'
        obtain ⟨p, p1, p2, p3⟩ := h5 u (fr e) hu hf huv'
        obtain ⟨q, q1, q2, q3⟩ := h5 (to e) v ht hv cv.symm
        refine ⟨(p ^^^ q) ^^^ 2 ^ e, cb_xl _ (e + 1) e (Nat.xor_lt_two_pow (cb_up2 e p p1) (cb_up2 e q q1)) (by omega), fun x => ?_, fun j hj => ?_⟩
        · rw [cb_bd_xor, cb_bd_xor, cb_bd_up fr to e x p p1, cb_bd_up fr to e x q q1, p2 x, q2 x, cb_bd_pow fr to (e + 1) x e (by omega)]
          cases (fr e == x) <;> cases (to e == x) <;> cases (u == x) <;> cases (v == x) <;> rfl
        · rw [cb_tx_ne _ e (ne j) (hne j hj), Nat.testBit_xor, p3 j hj, q3 j hj]
          rfl
      · rw [if_neg cu, if_neg cv] at huv'
        obtain ⟨p, p1, p2, p3⟩ := h5 u v hu hv huv'
        exact ⟨p, cb_up2 e p p1, fun x => by rw [cb_bd_up fr to e x p p1]; exact p2 x, p3⟩
  · obtain ⟨c, c1, c2⟩ := h6 j hj
    exact ⟨c, cb_cl_up c1, c2⟩
  · cases q : c.testBit e
    · exact h7 c (cb_cl_dn hc q) hz
    · exfalso
      have k1 := cb_cut fr to (fun v => (g v == g (fr e))) (e + 1) c hc.2 7
      rw [cb_lin_only _ (e + 1) c e (by omega) (fun k hk hn => by
        have a := h4 k (by omega)
        have b := hF k hk
        simp [a, b.1, b.2])] at k1
      have a : (g (to e) == g (fr e)) = false := by
        simp
        exact fun z => hg z.symm
      simp [q, hf, ht, a] at k1
theorem cb_forest (fr to : Nat → Nat) (n : Nat) (hF : ∀ k, k < n → fr k < 7 ∧ to k < 7) :
    ∀ e, e ≤ n → cb_FI fr to e (cb_sw fr to e).1 (cb_sw fr to e).2.1 (cb_sw fr to e).2.2 := by
  intro e
  induction e with
  | zero => exact fun _ => cb_FI0 fr to
  | succ e ih =>
    intro he
    have h := ih (by omega)
    show cb_FI fr to (e + 1) (cb_sw fr to (e + 1)).1 (cb_sw fr to (e + 1)).2.1 (cb_sw fr to (e + 1)).2.2
    by_cases c : (cb_sw fr to e).1 (fr e) = (cb_sw fr to e).1 (to e)
    · have q : cb_sw fr to (e + 1) = ((cb_sw fr to e).1, (cb_sw fr to e).2.1 + 1, cb_up (cb_sw fr to e).2.2 (cb_sw fr to e).2.1 e) := by
        rw [cb_sw, if_pos c]
      rw [q]
      exact cb_FIn (hF e (by omega)).1 (hF e (by omega)).2 h c
    · have q : cb_sw fr to (e + 1) = (fun v => if (cb_sw fr to e).1 v = (cb_sw fr to e).1 (to e) then (cb_sw fr to e).1 (fr e) else (cb_sw fr to e).1 v, (cb_sw fr to e).2.1, (cb_sw fr to e).2.2) := by
        rw [cb_sw, if_neg c]
      rw [q]
      exact cb_FIt (fun k hk => hF k (by omega)) h c
/-- the rank, and the edges outside the forest -/
def cb_rk (n : Nat) (fr to : Nat → Nat) : Nat := (cb_sw fr to n).2.1
def cb_ne (n : Nat) (fr to : Nat → Nat) : Nat → Nat := (cb_sw fr to n).2.2
end
section
/-! shortest ways in the doubled graph: searchFrom -/
/-- where an edge leads from copy x -/
def cb_tg (fr to : Nat → Nat) (S x e : Nat) : Nat := (if x % 7 = fr e then to e else fr e) + (if (decide (7 ≤ x) ^^ S.testBit e) = true then 7 else 0)
/-- relax: distances and ways -/
def cb_rx (fr to wt : Nat → Nat) (S x e : Nat) (p : (Nat → Nat) × (Nat → Nat)) : (Nat → Nat) × (Nat → Nat) :=
  if (x % 7 = fr e ∨ x % 7 = to e) ∧ p.1 x + wt e < p.1 (cb_tg fr to S x e) then (cb_up p.1 (cb_tg fr to S x e) (p.1 x + wt e), cb_up p.2 (cb_tg fr to S x e) (p.2 x ^^^ 2 ^ e)) else p
def cb_rs (fr to wt : Nat → Nat) (S x wo : Nat) : Nat → (Nat → Nat) × (Nat → Nat) → (Nat → Nat) × (Nat → Nat)
  | 0, p => p
  | e + 1, p => if e = wo then cb_rs fr to wt S x wo e p else cb_rx fr to wt S x e (cb_rs fr to wt S x wo e p)
def cb_nr (d : Nat → Nat) (dn : Nat → Bool) : Nat → Option Nat
  | 0 => none
  | x + 1 => if dn x = false ∧ d x < 1000000 then (match cb_nr d dn x with
      | none => some x
      | some b => if d x < d b then some x else some b) else cb_nr d dn x
def cb_ub (dn : Nat → Bool) (x : Nat) : Nat → Bool := fun j => if j = x then true else dn j
def cb_dj (n : Nat) (fr to wt : Nat → Nat) (S wo : Nat) : Nat → Option Nat → (Nat → Nat) × (Nat → Nat) → (Nat → Bool) → (Nat → Nat) × (Nat → Nat)
  | 0, _, p, _ => p
  | _ + 1, none, p, _ => p
  | m + 1, some x, p, dn => cb_dj n fr to wt S wo m (cb_nr (cb_rs fr to wt S x wo n p).1 (cb_ub dn x) 14) (cb_rs fr to wt S x wo n p) (cb_ub dn x)
def cb_p0 (st : Nat) : (Nat → Nat) × (Nat → Nat) := (fun j => if j = st then 0 else 1000000, fun _ => 0)
def cb_sr (n : Nat) (fr to wt : Nat → Nat) (S wo st : Nat) : (Nat → Nat) × (Nat → Nat) := cb_dj n fr to wt S wo 14 (some st) (cb_p0 st) (fun _ => false)
/-- the ways are right -/
def cb_A (n : Nat) (fr to wt : Nat → Nat) (S wo st : Nat) (p : (Nat → Nat) × (Nat → Nat)) : Prop :=
  ∀ y, y < 14 → p.1 y < 1000000 → p.2 y < 2 ^ n ∧ (p.2 y).testBit wo = false ∧ (∀ v, cb_bd fr to n v (p.2 y) = ((st == v) ^^ (y % 7 == v))) ∧ cb_dot (p.2 y) S = decide (7 ≤ y) ∧ cb_w wt n (p.2 y) ≤ p.1 y
theorem cb_tg_lt {n : Nat} {fr to wt : Nat → Nat} (hG : cb_G n fr to wt) (S x e : Nat) (he : e < n) : cb_tg fr to S x e < 14 := by
  have g := hG.2 e he
  unfold cb_tg
  split <;> split <;> omega
theorem cb_tg_md {n : Nat} {fr to wt : Nat → Nat} (hG : cb_G n fr to wt) (S x e : Nat) (he : e < n) : cb_tg fr to S x e % 7 = (if x % 7 = fr e then to e else fr e) := by
  have g := hG.2 e he
  unfold cb_tg
  split <;> split <;> omega
theorem cb_hi7 (b : Bool) (k : Nat) (hk : k < 7) : decide (7 ≤ k + (if b = true then 7 else 0)) = b := by
  cases b
  · simp
    omega
  · simp
theorem cb_tg_hi {n : Nat} {fr to wt : Nat → Nat} (hG : cb_G n fr to wt) (S x e : Nat) (he : e < n) : decide (7 ≤ cb_tg fr to S x e) = (decide (7 ≤ x) ^^ S.testBit e) := by
  have g := hG.2 e he
  unfold cb_tg
  exact cb_hi7 _ _ (by split <;> omega)
theorem cb_tg_ne {n : Nat} {fr to wt : Nat → Nat} (hG : cb_G n fr to wt) (S x e : Nat) (he : e < n) (hi : x % 7 = fr e ∨ x % 7 = to e) : cb_tg fr to S x e ≠ x := by
  have g := hG.2 e he
  intro z
  have a := cb_tg_md hG S x e he
  rw [z] at a
  by_cases c : x % 7 = fr e
  · rw [if_pos c] at a
    omega
  · rw [if_neg c] at a
    omega
theorem cb_rx_x {n : Nat} {fr to wt : Nat → Nat} (hG : cb_G n fr to wt) (S x e : Nat) (he : e < n) (p : (Nat → Nat) × (Nat → Nat)) : (cb_rx fr to wt S x e p).1 x = p.1 x := by
  unfold cb_rx
  by_cases c : (x % 7 = fr e ∨ x % 7 = to e) ∧ p.1 x + wt e < p.1 (cb_tg fr to S x e)
  · rw [if_pos c]
    exact cb_upn _ _ _ _ (fun z => cb_tg_ne hG S x e he c.1 z.symm)
  · rw [if_neg c]
theorem cb_rx_le (fr to wt : Nat → Nat) (S x e : Nat) (p : (Nat → Nat) × (Nat → Nat)) (y : Nat) : (cb_rx fr to wt S x e p).1 y ≤ p.1 y := by
  unfold cb_rx
  by_cases c : (x % 7 = fr e ∨ x % 7 = to e) ∧ p.1 x + wt e < p.1 (cb_tg fr to S x e)
  · rw [if_pos c]
    show cb_up p.1 (cb_tg fr to S x e) (p.1 x + wt e) y ≤ p.1 y
    by_cases z : y = cb_tg fr to S x e
    · rw [z, cb_ups]
      omega
    · rw [cb_upn _ _ _ _ z]
      exact Nat.le_refl _
  · rw [if_neg c]
    exact Nat.le_refl _
theorem cb_rx_or (fr to wt : Nat → Nat) (S x e : Nat) (p : (Nat → Nat) × (Nat → Nat)) (y : Nat) : (cb_rx fr to wt S x e p).1 y = p.1 y ∨ (cb_rx fr to wt S x e p).1 y = p.1 x + wt e := by
  unfold cb_rx
  by_cases c : (x % 7 = fr e ∨ x % 7 = to e) ∧ p.1 x + wt e < p.1 (cb_tg fr to S x e)
  · rw [if_pos c]
    show cb_up p.1 (cb_tg fr to S x e) (p.1 x + wt e) y = p.1 y ∨ cb_up p.1 (cb_tg fr to S x e) (p.1 x + wt e) y = p.1 x + wt e
    by_cases z : y = cb_tg fr to S x e
    · rw [z, cb_ups]
      exact Or.inr rfl
    · rw [cb_upn _ _ _ _ z]
      exact Or.inl rfl
  · rw [if_neg c]
    exact Or.inl rfl
theorem cb_rx_tg (fr to wt : Nat → Nat) (S x e : Nat) (p : (Nat → Nat) × (Nat → Nat)) (hi : x % 7 = fr e ∨ x % 7 = to e) : (cb_rx fr to wt S x e p).1 (cb_tg fr to S x e) ≤ p.1 x + wt e := by
  unfold cb_rx
  by_cases c : (x % 7 = fr e ∨ x % 7 = to e) ∧ p.1 x + wt e < p.1 (cb_tg fr to S x e)
  · rw [if_pos c]
    show cb_up p.1 (cb_tg fr to S x e) (p.1 x + wt e) (cb_tg fr to S x e) ≤ p.1 x + wt e
    rw [cb_ups]
    exact Nat.le_refl _
  · rw [if_neg c]
    have : ¬ p.1 x + wt e < p.1 (cb_tg fr to S x e) := fun z => c ⟨hi, z⟩
    omega
theorem cb_rx_A {n : Nat} {fr to wt : Nat → Nat} (hG : cb_G n fr to wt) (S wo st x e : Nat) (hx : x < 14) (he : e < n) (hw : e ≠ wo) (p : (Nat → Nat) × (Nat → Nat)) (hu : ∀ y, y < 14 → p.1 y ≤ 1000000)
    (h : cb_A n fr to wt S wo st p) : cb_A n fr to wt S wo st (cb_rx fr to wt S x e p) := by
  have g := hG.2 e he
  unfold cb_rx
  by_cases c : (x % 7 = fr e ∨ x % 7 = to e) ∧ p.1 x + wt e < p.1 (cb_tg fr to S x e)
  · rw [if_pos c]
    intro y hy
    show cb_up p.1 (cb_tg fr to S x e) (p.1 x + wt e) y < 1000000 → cb_up p.2 (cb_tg fr to S x e) (p.2 x ^^^ 2 ^ e) y < 2 ^ n ∧ (cb_up p.2 (cb_tg fr to S x e) (p.2 x ^^^ 2 ^ e) y).testBit wo = false ∧ (∀ v, cb_bd fr to n v (cb_up p.2 (cb_tg fr to S x e) (p.2 x ^^^ 2 ^ e) y) = ((st == v) ^^ (y % 7 == v))) ∧ cb_dot (cb_up p.2 (cb_tg fr to S x e) (p.2 x ^^^ 2 ^ e) y) S = decide (7 ≤ y) ∧ cb_w wt n (cb_up p.2 (cb_tg fr to S x e) (p.2 x ^^^ 2 ^ e) y) ≤ cb_up p.1 (cb_tg fr to S x e) (p.1 x + wt e) y
    by_cases z : y = cb_tg fr to S x e
    · rw [z, cb_ups, cb_ups]
      intro _
      have k := hu _ (cb_tg_lt hG S x e he)
      obtain ⟨a1, a2, a3, a4, a5⟩ := h x hx (by omega)
      refine ⟨cb_xl _ n e a1 he, ?_, fun v => ?_, ?_, ?_⟩
      · rw [cb_tx_ne _ e wo (fun w => hw w.symm)]
        exact a2
      · rw [cb_bd_xor, a3 v, cb_bd_pow fr to n v e he, cb_tg_md hG S x e he]
        by_cases f : x % 7 = fr e
        · rw [if_pos f, f]
          cases (st == v) <;> cases (fr e == v) <;> cases (to e == v) <;> rfl
        · rw [if_neg f]
          rcases c.1 with w | w
          · exact absurd w f
          · rw [w]
            cases (st == v) <;> cases (fr e == v) <;> cases (to e == v) <;> rfl
      · rw [cb_dot_xl, a4, cb_dot_pl e S (by have := hG.1; omega), cb_tg_hi hG S x e he]
      · have := cb_w_le wt n (p.2 x) e he
        omega
    · rw [cb_upn _ _ _ _ z, cb_upn _ _ _ _ z]
      exact h y hy
  · rw [if_neg c]
    exact h
theorem cb_rs_ok {n : Nat} {fr to wt : Nat → Nat} (hG : cb_G n fr to wt) (S wo st x : Nat) (hx : x < 14) (p : (Nat → Nat) × (Nat → Nat)) (hu : ∀ y, y < 14 → p.1 y ≤ 1000000) (h : cb_A n fr to wt S wo st p) :
    ∀ k, k ≤ n → (cb_rs fr to wt S x wo k p).1 x = p.1 x ∧ (∀ y, (cb_rs fr to wt S x wo k p).1 y ≤ p.1 y) ∧
      (∀ y, (cb_rs fr to wt S x wo k p).1 y = p.1 y ∨ (p.1 x ≤ (cb_rs fr to wt S x wo k p).1 y ∧ (cb_rs fr to wt S x wo k p).1 y ≤ p.1 x + 100)) ∧
      (∀ e, e < k → e ≠ wo → (x % 7 = fr e ∨ x % 7 = to e) → (cb_rs fr to wt S x wo k p).1 (cb_tg fr to S x e) ≤ p.1 x + wt e) ∧
      cb_A n fr to wt S wo st (cb_rs fr to wt S x wo k p) := by
  intro k
  induction k with
  | zero => exact fun _ => ⟨rfl, fun y => Nat.le_refl _, fun y => Or.inl rfl, fun e he => by omega, h⟩
  | succ k ih =>
    intro hk
    obtain ⟨i1, i2, i3, i4, i5⟩ := ih (by omega)
    by_cases c : k = wo
    · have q : cb_rs fr to wt S x wo (k + 1) p = cb_rs fr to wt S x wo k p := by rw [cb_rs, if_pos c]
      rw [q]
      exact ⟨i1, i2, i3, fun e he hw hi => i4 e (by omega) hw hi, i5⟩
    · have q : cb_rs fr to wt S x wo (k + 1) p = cb_rx fr to wt S x k (cb_rs fr to wt S x wo k p) := by rw [cb_rs, if_neg c]
      rw [q]
      have g := hG.2 k (by omega)
      refine ⟨by rw [cb_rx_x hG S x k (by omega)]; exact i1, fun y => Nat.le_trans (cb_rx_le fr to wt S x k _ y) (i2 y), fun y => ?_, fun e he hw hi => ?_, ?_⟩
      · rcases cb_rx_or fr to wt S x k (cb_rs fr to wt S x wo k p) y with z | z
        · rw [z]; exact i3 y
        · rw [z, i1]
          exact Or.inr ⟨by omega, by omega⟩
      · by_cases z : e = k
        · rw [z]
          have := cb_rx_tg fr to wt S x k (cb_rs fr to wt S x wo k p) (by rw [← z]; exact hi)
          rw [i1] at this
          exact this
        · exact Nat.le_trans (cb_rx_le fr to wt S x k _ _) (i4 e (by omega) hw hi)
      · exact cb_rx_A hG S wo st x k hx (by omega) c _ (fun y hy => Nat.le_trans (i2 y) (hu y hy)) i5
theorem cb_nr_n (d : Nat → Nat) (dn : Nat → Bool) : ∀ k, cb_nr d dn k = none → ∀ y, y < k → dn y = false → 1000000 ≤ d y := by
  intro k
  induction k with
  | zero => intro _ y hy; omega
  | succ k ih =>
    intro h y hy hd
    rw [cb_nr] at h
    by_cases c : dn k = false ∧ d k < 1000000
    · rw [if_pos c] at h
      cases q : cb_nr d dn k with
      | none => rw [q] at h; simp at h
      | some b =>
        rw [q] at h
        by_cases z : d k < d b
        · simp [z] at h
        · simp [z] at h
    · rw [if_neg c] at h
      by_cases z : y = k
      · rw [z] at hd ⊢
        have : ¬ d k < 1000000 := fun w => c ⟨hd, w⟩
        omega
      · exact ih h y (by omega) hd
theorem cb_nr_s (d : Nat → Nat) (dn : Nat → Bool) : ∀ k b, cb_nr d dn k = some b → b < k ∧ dn b = false ∧ d b < 1000000 ∧ ∀ y, y < k → dn y = false → d b ≤ d y := by
  intro k
  induction k with
  | zero => intro b h; simp [cb_nr] at h
  | succ k ih =>
    intro b h
    rw [cb_nr] at h
    by_cases c : dn k = false ∧ d k < 1000000
    · rw [if_pos c] at h
      cases q : cb_nr d dn k with
      | none =>
        rw [q] at h
        have e : k = b := by simpa using h
        rw [← e]
        refine ⟨by omega, c.1, c.2, fun y hy hd => ?_⟩
        by_cases z : y = k
        · rw [z]; exact Nat.le_refl _
        · have := cb_nr_n d dn k q y (by omega) hd
          omega
      | some a =>
        rw [q] at h
        obtain ⟨a1, a2, a3, a4⟩ := ih a q
        by_cases z : d k < d a
        · have e : k = b := by simpa [z] using h
          rw [← e]
          refine ⟨by omega, c.1, c.2, fun y hy hd => ?_⟩
          by_cases w : y = k
          · rw [w]; exact Nat.le_refl _
          · have := a4 y (by omega) hd
            omega
        · have e : a = b := by simpa [z] using h
          rw [← e]
          refine ⟨by omega, a2, a3, fun y hy hd => ?_⟩
          by_cases w : y = k
          · rw [w]; omega
          · exact a4 y (by omega) hd
    · rw [if_neg c] at h
      obtain ⟨a1, a2, a3, a4⟩ := ih b h
      refine ⟨by omega, a2, a3, fun y hy hd => ?_⟩
      by_cases w : y = k
      · rw [w] at hd ⊢
        have : ¬ d k < 1000000 := fun w => c ⟨hd, w⟩
        omega
      · exact a4 y (by omega) hd
/-- how many aren't done -/
def cb_cn (dn : Nat → Bool) : Nat → Nat
  | 0 => 0
  | k + 1 => cb_cn dn k + (if dn k = true then 0 else 1)
theorem cb_cn_le (dn : Nat → Bool) (k : Nat) : cb_cn dn k ≤ k := by
  induction k with
  | zero => exact Nat.le_refl _
  | succ k ih =>
    show cb_cn dn k + (if dn k = true then 0 else 1) ≤ k + 1
    split <;> omega
theorem cb_cn_up (dn : Nat → Bool) (x : Nat) (hd : dn x = false) : ∀ k, (x < k → cb_cn (cb_ub dn x) k + 1 = cb_cn dn k) ∧ (k ≤ x → cb_cn (cb_ub dn x) k = cb_cn dn k) := by
  intro k
  induction k with
  | zero => exact ⟨fun h => by omega, fun _ => rfl⟩
  | succ k ih =>
    have e1 : cb_cn (cb_ub dn x) (k + 1) = cb_cn (cb_ub dn x) k + (if cb_ub dn x k = true then 0 else 1) := rfl
    have e2 : cb_cn dn (k + 1) = cb_cn dn k + (if dn k = true then 0 else 1) := rfl
    rw [e1, e2]
    by_cases c : k = x
    · have a : cb_ub dn x k = true := by simp [cb_ub, c]
      have b : dn k = false := by rw [c]; exact hd
      rw [a, b]
      refine ⟨fun _ => ?_, fun h => by omega⟩
      rw [ih.2 (by omega)]
      simp
    · have a : cb_ub dn x k = dn k := by simp [cb_ub, c]
      rw [a]
      exact ⟨fun h => by have := ih.1 (by omega); omega, fun h => by have := ih.2 (by omega); omega⟩
theorem cb_cn_pos (dn : Nat → Bool) (x k : Nat) (hd : dn x = false) (hx : x < k) : 1 ≤ cb_cn dn k := by
  have := (cb_cn_up dn x hd k).1 hx
  omega
/-- what holds at the head of the search's loop -/
def cb_DI (n : Nat) (fr to wt : Nat → Nat) (S wo st m : Nat) (cur : Option Nat) (p : (Nat → Nat) × (Nat → Nat)) (dn : Nat → Bool) : Prop :=
  (∀ y, y < 14 → p.1 y ≤ 1000000) ∧ (∀ y, y < 14 → dn y = true → ∀ e, e < n → e ≠ wo → (y % 7 = fr e ∨ y % 7 = to e) → p.1 (cb_tg fr to S y e) ≤ p.1 y + wt e) ∧
  cb_cn dn 14 ≤ m ∧ (∀ y, y < 14 → p.1 y < 1000000 → p.1 y + 100 * m ≤ 1400) ∧ p.1 st = 0 ∧ cb_A n fr to wt S wo st p ∧
  (cur = none → ∀ y, y < 14 → dn y = false → 1000000 ≤ p.1 y) ∧
  (∀ x, cur = some x → x < 14 ∧ dn x = false ∧ p.1 x < 1000000 ∧ (∀ y, y < 14 → dn y = false → p.1 x ≤ p.1 y) ∧ (∀ y, y < 14 → dn y = true → p.1 y ≤ p.1 x))
theorem cb_DI_s {n : Nat} {fr to wt : Nat → Nat} (hG : cb_G n fr to wt) {S wo st m x : Nat} {p : (Nat → Nat) × (Nat → Nat)} {dn : Nat → Bool} (h : cb_DI n fr to wt S wo st (m + 1) (some x) p dn) :
    cb_DI n fr to wt S wo st m (cb_nr (cb_rs fr to wt S x wo n p).1 (cb_ub dn x) 14) (cb_rs fr to wt S x wo n p) (cb_ub dn x) := by
  obtain ⟨h1, h2, h3, h4, h5, h6, _, h8⟩ := h
  obtain ⟨x1, x2, x3, x4, x5⟩ := h8 x rfl
  obtain ⟨r1, r2, r3, r4, r5⟩ := cb_rs_ok hG S wo st x x1 p h1 h6 n (Nat.le_refl n)
  have hb := h4 x x1 x3
  have K : ∀ y, y < 14 → dn y = true → (cb_rs fr to wt S x wo n p).1 y = p.1 y := by
    intro y hy hd
    have a := x5 y hy hd
    have b := r2 y
    rcases r3 y with z | z
    · exact z
    · omega
  have Lo : ∀ y, y < 14 → cb_ub dn x y = false → p.1 x ≤ (cb_rs fr to wt S x wo n p).1 y := by
    intro y hy hd
    by_cases e : y = x
    · rw [e, r1]; exact Nat.le_refl _
    · have hd' : dn y = false := by simpa [cb_ub, e] using hd
      have a := x4 y hy hd'
      rcases r3 y with z | z
      · omega
      · exact z.1
  refine ⟨fun y hy => Nat.le_trans (r2 y) (h1 y hy), fun y hy hd e he hw hi => ?_, ?_, fun y hy hf => ?_, ?_, r5, fun hn y hy hd => cb_nr_n _ _ 14 hn y hy hd, fun b hb' => ?_⟩
  · by_cases c : y = x
    · rw [c, r1]
      exact r4 e he hw (by rw [← c]; exact hi)
    · have hd' : dn y = true := by simpa [cb_ub, c] using hd
      rw [K y hy hd']
      exact Nat.le_trans (r2 _) (h2 y hy hd' e he hw hi)
  · have := (cb_cn_up dn x x2 14).1 x1
    omega
  · rcases r3 y with z | z
    · have := h4 y hy (by omega)
      omega
    · omega
  · have := r2 st
    omega
  · obtain ⟨b1, b2, b3, b4⟩ := cb_nr_s _ _ 14 b hb'
    refine ⟨b1, b2, b3, b4, fun y hy hd => ?_⟩
    have lo := Lo b b1 b2
    by_cases c : y = x
    · rw [c, r1]; exact lo
    · have hd' : dn y = true := by simpa [cb_ub, c] using hd
      rw [K y hy hd']
      have := x5 y hy hd'
      omega
/-- what the search answers -/
def cb_R (n : Nat) (fr to wt : Nat → Nat) (S wo st : Nat) (p : (Nat → Nat) × (Nat → Nat)) : Prop :=
  (∀ y, y < 14 → p.1 y ≤ 1000000) ∧ (∀ y, y < 14 → ∀ e, e < n → e ≠ wo → (y % 7 = fr e ∨ y % 7 = to e) → p.1 (cb_tg fr to S y e) ≤ p.1 y + wt e) ∧
  (∀ y, y < 14 → p.1 y < 1000000 → p.1 y ≤ 1400) ∧ p.1 st = 0 ∧ cb_A n fr to wt S wo st p
theorem cb_DI_n {n : Nat} {fr to wt : Nat → Nat} (hG : cb_G n fr to wt) {S wo st m : Nat} {p : (Nat → Nat) × (Nat → Nat)} {dn : Nat → Bool} (h : cb_DI n fr to wt S wo st m none p dn) :
    cb_R n fr to wt S wo st p := by
  obtain ⟨h1, h2, h3, h4, h5, h6, h7, _⟩ := h
  refine ⟨h1, fun y hy e he hw hi => ?_, fun y hy hf => by have := h4 y hy hf; omega, h5, h6⟩
  cases q : dn y
  · have a := h7 rfl y hy q
    have b := h1 _ (cb_tg_lt hG S y e he)
    omega
  · exact h2 y hy q e he hw hi
theorem cb_dj_ok {n : Nat} {fr to wt : Nat → Nat} (hG : cb_G n fr to wt) (S wo st : Nat) : ∀ m cur p dn, cb_DI n fr to wt S wo st m cur p dn → cb_R n fr to wt S wo st (cb_dj n fr to wt S wo m cur p dn) := by
  intro m
  induction m with
  | zero =>
    intro cur p dn h
    cases cur with
    | none => exact cb_DI_n hG h
    | some x =>
      exfalso
      obtain ⟨_, _, h3, _, _, _, _, h8⟩ := h
      obtain ⟨x1, x2, _⟩ := h8 x rfl
      have := cb_cn_pos dn x 14 x2 x1
      omega
  | succ m ih =>
    intro cur p dn h
    cases cur with
    | none => exact cb_DI_n hG h
    | some x => exact ih _ _ _ (cb_DI_s hG h)
theorem cb_sr_ok {n : Nat} {fr to wt : Nat → Nat} (hG : cb_G n fr to wt) (S wo st : Nat) (hs : st < 7) : cb_R n fr to wt S wo st (cb_sr n fr to wt S wo st) := by
  have P0 : (cb_p0 st).1 st = 0 := by simp [cb_p0]
  have P1 : ∀ y, y ≠ st → (cb_p0 st).1 y = 1000000 := fun y hy => by simp [cb_p0, hy]
  refine cb_dj_ok hG S wo st 14 (some st) (cb_p0 st) (fun _ => false) ⟨fun y _ => ?_, fun y _ hd => by simp at hd, cb_cn_le _ 14, fun y _ hf => ?_, P0, fun y hy hf => ?_, fun h => by simp at h, fun x hx => ?_⟩
  · by_cases c : y = st
    · rw [c, P0]; omega
    · rw [P1 y c]; omega
  · by_cases c : y = st
    · rw [c, P0]; omega
    · rw [P1 y c] at hf; omega
  · by_cases c : y = st
    · rw [c, P0]
      show (0 : Nat) < 2 ^ n ∧ (0 : Nat).testBit wo = false ∧ (∀ v, cb_bd fr to n v 0 = ((st == v) ^^ (st % 7 == v))) ∧ cb_dot 0 S = decide (7 ≤ st) ∧ cb_w wt n 0 ≤ 0
      refine ⟨Nat.two_pow_pos n, Nat.zero_testBit wo, fun v => ?_, ?_, by rw [cb_w_0]; omega⟩
      · rw [cb_bd_0, Nat.mod_eq_of_lt hs]
        cases (st == v) <;> rfl
      · rw [cb_dot_0l]
        simp
        omega
    · rw [P1 y c] at hf; omega
  · have e : st = x := by simpa using hx
    rw [← e]
    refine ⟨by omega, rfl, by rw [P0]; omega, fun y _ _ => by rw [P0]; omega, fun y _ hd => by simp at hd⟩
end
section
/-! no closed set that meets S oddly is lighter than what the searches find -/
theorem cb_stp {n : Nat} {fr to wt : Nat → Nat} (hG : cb_G n fr to wt) (S e p q : Nat) (b : Bool) (he : e < n) (h : (p = fr e ∧ q = to e) ∨ (p = to e ∧ q = fr e)) :
    q + (if b = true then 7 else 0) < 14 ∧ ((q + (if b = true then 7 else 0)) % 7 = fr e ∨ (q + (if b = true then 7 else 0)) % 7 = to e) ∧
      cb_tg fr to S (q + (if b = true then 7 else 0)) e = p + (if (b ^^ S.testBit e) = true then 7 else 0) := by
  have g := hG.2 e he
  have hq : q < 7 := by omega
  have hm : (q + (if b = true then 7 else 0)) % 7 = q := by
    split <;> omega
  have hd : decide (7 ≤ q + (if b = true then 7 else 0)) = b := by
    cases b
    · simp; omega
    · simp
  refine ⟨by split <;> omega, by rw [hm]; omega, ?_⟩
  unfold cb_tg
  rw [hm, hd]
  rcases h with h | h
  · rw [if_neg (by omega), h.1]
  · rw [if_pos h.2, h.1]
theorem cb_low {n : Nat} {fr to wt : Nat → Nat} (hG : cb_G n fr to wt) (S wo : Nat) (D : Nat → Nat → Nat) (hD0 : ∀ v, v < 7 → D v v = 0)
    (hD : ∀ v, v < 7 → ∀ y, y < 14 → ∀ e, e < n → e ≠ wo → (y % 7 = fr e ∨ y % 7 = to e) → D v (cb_tg fr to S y e) ≤ D v y + wt e) :
    ∀ c, c < 2 ^ n → c.testBit wo = false → ∀ a b, a < 7 → b < 7 → (∀ v, cb_bd fr to n v c = ((a == v) ^^ (b == v))) →
      D a (b + (if cb_dot c S = true then 7 else 0)) ≤ cb_w wt n c ∨ ∃ v, v < 7 ∧ D v (v + 7) ≤ cb_w wt n c := by
  intro c
  induction c using Nat.strongRecOn with
  | _ c ih =>
    intro hc hw a b ha hb hbd
    have step : ∀ e, c.testBit e = true → ∀ a' p q, a' < 7 → ((p = fr e ∧ q = to e) ∨ (p = to e ∧ q = fr e)) → (∀ v, cb_bd fr to n v (c ^^^ 2 ^ e) = ((a' == v) ^^ (q == v))) →
        D a' (p + (if cb_dot c S = true then 7 else 0)) ≤ cb_w wt n c ∨ ∃ v, v < 7 ∧ D v (v + 7) ≤ cb_w wt n c := by
      intro e he a' p q ha' hpq hb'
      have hen := cb_in c n e hc he
      have g := hG.2 e hen
      have hwe : e ≠ wo := by
        intro z
        rw [z, hw] at he
        exact absurd he (by simp)
      have W := cb_w_mem wt n c e hen he
      rcases ih (c ^^^ 2 ^ e) (cb_dec c e he) (cb_xl c n e hc hen) (by rw [cb_tx_ne c e wo (fun z => hwe z.symm)]; exact hw) a' q ha' (by omega) hb' with h | ⟨v, hv, h⟩
      · obtain ⟨k1, k2, k3⟩ := cb_stp hG S e p q (cb_dot (c ^^^ 2 ^ e) S) hen hpq
        have t := hD a' ha' _ k1 e hen hwe k2
        rw [k3] at t
        have d : (cb_dot (c ^^^ 2 ^ e) S ^^ S.testBit e) = cb_dot c S := by
          rw [cb_dot_xl, cb_dot_pl e S (by have := hG.1; omega)]
          cases cb_dot c S <;> cases S.testBit e <;> rfl
        rw [d] at t
        exact Or.inl (by omega)
      · exact Or.inr ⟨v, hv, by omega⟩
    by_cases ab : a = b
    · subst ab
      cases q : cb_dot c S
      · refine Or.inl ?_
        rw [if_neg (by simp), Nat.add_zero, hD0 a ha]
        omega
      · have h0 : c ≠ 0 := by
          intro z
          rw [z, cb_dot_0l] at q
          exact absurd q (by simp)
        obtain ⟨e, he⟩ := Nat.exists_testBit_of_ne_zero h0
        have hen := cb_in c n e hc he
        have g := hG.2 e hen
        rcases step e he (fr e) (fr e) (to e) g.1 (Or.inl ⟨rfl, rfl⟩) (fun v => by
          rw [cb_bd_xor, hbd v, cb_bd_pow fr to n v e hen]
          cases (a == v) <;> cases (fr e == v) <;> cases (to e == v) <;> rfl) with h | h
        · rw [q, if_pos rfl] at h
          exact Or.inr ⟨fr e, g.1, h⟩
        · exact Or.inr h
    · have hb1 : cb_bd fr to n b c = true := by
        rw [hbd b]
        have : (a == b) = false := by simpa using ab
        rw [this]
        simp
      obtain ⟨e, hen, he, hA⟩ := cb_lin_ex _ n c hb1
      have g := hG.2 e hen
      by_cases f : fr e = b
      · exact step e he a b (to e) ha (Or.inl ⟨f.symm, rfl⟩) (fun v => by
          rw [cb_bd_xor, hbd v, cb_bd_pow fr to n v e hen, f]
          cases (a == v) <;> cases (b == v) <;> cases (to e == v) <;> rfl)
      · have t : to e = b := by
          have f' : (fr e == b) = false := by simpa using f
          have hA' : ((fr e == b) ^^ (to e == b)) = true := hA
          rw [f'] at hA'
          simpa using hA'
        exact step e he a b (fr e) ha (Or.inr ⟨t.symm, rfl⟩) (fun v => by
          rw [cb_bd_xor, hbd v, cb_bd_pow fr to n v e hen, t]
          cases (a == v) <;> cases (b == v) <;> cases (fr e == v) <;> rfl)
/-- lightest: weight and set, when the vertices below v have been looked at -/
def cb_lt (n : Nat) (fr to wt : Nat → Nat) (S : Nat) : Nat → Nat × Nat
  | 0 => (1000000, 0)
  | v + 1 => if (cb_sr n fr to wt S 12 v).1 (v + 7) < (cb_lt n fr to wt S v).1 then ((cb_sr n fr to wt S 12 v).1 (v + 7), (cb_sr n fr to wt S 12 v).2 (v + 7)) else cb_lt n fr to wt S v
theorem cb_lt_ok (n : Nat) (fr to wt : Nat → Nat) (S : Nat) : ∀ k, (cb_lt n fr to wt S k).1 ≤ 1000000 ∧ (∀ v, v < k → (cb_lt n fr to wt S k).1 ≤ (cb_sr n fr to wt S 12 v).1 (v + 7)) ∧
    ((cb_lt n fr to wt S k).1 < 1000000 → ∃ v, v < k ∧ cb_lt n fr to wt S k = ((cb_sr n fr to wt S 12 v).1 (v + 7), (cb_sr n fr to wt S 12 v).2 (v + 7))) := by
  intro k
  induction k with
  | zero => exact ⟨Nat.le_refl _, fun v hv => by omega, fun h => absurd h (by simp [cb_lt])⟩
  | succ k ih =>
    obtain ⟨i1, i2, i3⟩ := ih
    by_cases c : (cb_sr n fr to wt S 12 k).1 (k + 7) < (cb_lt n fr to wt S k).1
    · have q : cb_lt n fr to wt S (k + 1) = ((cb_sr n fr to wt S 12 k).1 (k + 7), (cb_sr n fr to wt S 12 k).2 (k + 7)) := by rw [cb_lt, if_pos c]
      rw [q]
      refine ⟨by show (cb_sr n fr to wt S 12 k).1 (k + 7) ≤ 1000000; omega, fun v hv => ?_, fun _ => ⟨k, by omega, rfl⟩⟩
      show (cb_sr n fr to wt S 12 k).1 (k + 7) ≤ (cb_sr n fr to wt S 12 v).1 (v + 7)
      by_cases z : v = k
      · rw [z]; exact Nat.le_refl _
      · have := i2 v (by omega)
        omega
    · have q : cb_lt n fr to wt S (k + 1) = cb_lt n fr to wt S k := by rw [cb_lt, if_neg c]
      rw [q]
      refine ⟨i1, fun v hv => ?_, fun h => ?_⟩
      · by_cases z : v = k
        · rw [z]; omega
        · exact i2 v (by omega)
      · obtain ⟨v, hv, e⟩ := i3 h
        exact ⟨v, by omega, e⟩
def cb_bw (n : Nat) (fr to wt : Nat → Nat) (S : Nat) : Nat := (cb_lt n fr to wt S 7).1
def cb_bs (n : Nat) (fr to wt : Nat → Nat) (S : Nat) : Nat := (cb_lt n fr to wt S 7).2
theorem cb_w_1200 {n : Nat} {fr to wt : Nat → Nat} (hG : cb_G n fr to wt) (c : Nat) : cb_w wt n c ≤ 1200 := by
  have a := cb_w_top wt n c (fun e he => (hG.2 e he).2.2.2.2)
  have b := hG.1
  omega
theorem cb_light_lo {n : Nat} {fr to wt : Nat → Nat} (hG : cb_G n fr to wt) (S c : Nat) (hc : cb_cl fr to n c) (ho : cb_dot c S = true) : cb_bw n fr to wt S ≤ cb_w wt n c := by
  have q := cb_low hG S 12 (fun v => (cb_sr n fr to wt S 12 v).1) (fun v hv => (cb_sr_ok hG S 12 v hv).2.2.2.1) (fun v hv => (cb_sr_ok hG S 12 v hv).2.1) c hc.1
    (cb_hi c n 12 hc.1 hG.1) 0 0 (by omega) (by omega) (fun v => by rw [hc.2 v]; cases (0 == v) <;> rfl)
  have L := (cb_lt_ok n fr to wt S 7).2.1
  rw [ho, if_pos rfl] at q
  rcases q with h | ⟨v, hv, h⟩
  · exact Nat.le_trans (L 0 (by omega)) h
  · exact Nat.le_trans (L v hv) h
theorem cb_light_ok {n : Nat} {fr to wt : Nat → Nat} (hG : cb_G n fr to wt) (S c : Nat) (hc : cb_cl fr to n c) (ho : cb_dot c S = true) :
    cb_cl fr to n (cb_bs n fr to wt S) ∧ cb_dot (cb_bs n fr to wt S) S = true ∧ cb_w wt n (cb_bs n fr to wt S) ≤ cb_bw n fr to wt S ∧ cb_bw n fr to wt S ≤ 1400 := by
  have a := cb_light_lo hG S c hc ho
  have b := cb_w_1200 hG c
  obtain ⟨v, hv, e⟩ := (cb_lt_ok n fr to wt S 7).2.2 (by have : (cb_lt n fr to wt S 7).1 = cb_bw n fr to wt S := rfl; omega)
  have e1 : cb_bw n fr to wt S = (cb_sr n fr to wt S 12 v).1 (v + 7) := by rw [cb_bw, e]
  have e2 : cb_bs n fr to wt S = (cb_sr n fr to wt S 12 v).2 (v + 7) := by rw [cb_bs, e]
  obtain ⟨r1, r2, r3, r4, r5⟩ := cb_sr_ok hG S 12 v hv
  have f : (cb_sr n fr to wt S 12 v).1 (v + 7) < 1000000 := by omega
  obtain ⟨a1, a2, a3, a4, a5⟩ := r5 (v + 7) (by omega) f
  rw [e1, e2]
  refine ⟨⟨a1, fun x => ?_⟩, ?_, a5, r3 _ (by omega) f⟩
  · rw [a3 x, Nat.add_mod_right, Nat.mod_eq_of_lt hv]
    cases (v == x) <;> rfl
  · rw [a4]
    simp
/-- through: what the search without edge e finds -/
theorem cb_thr_up {n : Nat} {fr to wt : Nat → Nat} (hG : cb_G n fr to wt) (e : Nat) (he : e < n) (hf : (cb_sr n fr to wt 0 e (fr e)).1 (to e) < 1000000) :
    ∃ c, cb_cl fr to n c ∧ c ≠ 0 ∧ cb_w wt n c ≤ (cb_sr n fr to wt 0 e (fr e)).1 (to e) + wt e := by
  have g := hG.2 e he
  obtain ⟨r1, r2, r3, r4, r5⟩ := cb_sr_ok hG 0 e (fr e) g.1
  obtain ⟨a1, a2, a3, a4, a5⟩ := r5 (to e) (by omega) hf
  refine ⟨(cb_sr n fr to wt 0 e (fr e)).2 (to e) ^^^ 2 ^ e, ⟨cb_xl _ n e a1 he, fun v => ?_⟩, ?_, ?_⟩
  · rw [cb_bd_xor, a3 v, cb_bd_pow fr to n v e he, Nat.mod_eq_of_lt g.2.1]
    cases (fr e == v) <;> cases (to e == v) <;> rfl
  · intro z
    have q := cb_tx_eq ((cb_sr n fr to wt 0 e (fr e)).2 (to e)) e
    rw [z, a2, Nat.zero_testBit] at q
    exact absurd q (by simp)
  · have := cb_w_le wt n ((cb_sr n fr to wt 0 e (fr e)).2 (to e)) e he
    omega
theorem cb_thr_lo {n : Nat} {fr to wt : Nat → Nat} (hG : cb_G n fr to wt) (e : Nat) (he : e < n) (c : Nat) (hc : cb_cl fr to n c) (hb : c.testBit e = true) :
    (cb_sr n fr to wt 0 e (fr e)).1 (to e) + wt e ≤ cb_w wt n c := by
  have g := hG.2 e he
  have W := cb_w_mem wt n c e he hb
  have q := cb_low hG 0 e (fun v => (cb_sr n fr to wt 0 e v).1) (fun v hv => (cb_sr_ok hG 0 e v hv).2.2.2.1) (fun v hv => (cb_sr_ok hG 0 e v hv).2.1) (c ^^^ 2 ^ e) (cb_xl c n e hc.1 he)
    (by rw [cb_tx_eq, hb]; rfl) (fr e) (to e) g.1 g.2.1 (fun v => by
      rw [cb_bd_xor, hc.2 v, cb_bd_pow fr to n v e he]
      simp)
  rw [cb_dot_0r, if_neg (by simp), Nat.add_zero] at q
  rcases q with h | ⟨v, hv, h⟩
  · have h' : (cb_sr n fr to wt 0 e (fr e)).1 (to e) ≤ cb_w wt n (c ^^^ 2 ^ e) := h
    omega
  · exfalso
    have h' : (cb_sr n fr to wt 0 e v).1 (v + 7) ≤ cb_w wt n (c ^^^ 2 ^ e) := h
    have b := cb_w_1200 hG (c ^^^ 2 ^ e)
    obtain ⟨r1, r2, r3, r4, r5⟩ := cb_sr_ok hG 0 e v hv
    obtain ⟨a1, a2, a3, a4, a5⟩ := r5 (v + 7) (by omega) (by omega)
    rw [cb_dot_0r] at a4
    simp at a4
end
section
/-! the least basis: solve -/
/-- witness j when k sets have been found -/
def cb_W (n : Nat) (fr to wt : Nat → Nat) : Nat → Nat → Nat
  | 0 => fun j => 2 ^ cb_ne n fr to j
  | k + 1 => fun j => if k < j ∧ cb_dot (cb_W n fr to wt k j) (cb_bs n fr to wt (cb_W n fr to wt k k)) = true then cb_W n fr to wt k j ^^^ cb_W n fr to wt k k else cb_W n fr to wt k j
def cb_C (n : Nat) (fr to wt : Nat → Nat) (i : Nat) : Nat := cb_bs n fr to wt (cb_W n fr to wt i i)
def cb_B (n : Nat) (fr to wt : Nat → Nat) (i : Nat) : Nat := cb_bw n fr to wt (cb_W n fr to wt i i)
theorem cb_FG {n : Nat} {fr to wt : Nat → Nat} (hG : cb_G n fr to wt) : cb_FI fr to n (cb_sw fr to n).1 (cb_rk n fr to) (cb_ne n fr to) :=
  cb_forest fr to n (fun k hk => ⟨(hG.2 k hk).1, (hG.2 k hk).2.1⟩) n (Nat.le_refl n)
theorem cb_rk_le {n : Nat} {fr to wt : Nat → Nat} (hG : cb_G n fr to wt) : cb_rk n fr to ≤ n := (cb_FG hG).1
theorem cb_W_sup {n : Nat} {fr to wt : Nat → Nat} (hG : cb_G n fr to wt) : ∀ k j, j < cb_rk n fr to →
    (∀ b, (cb_W n fr to wt k j).testBit b = true → ∃ i, i ≤ j ∧ b = cb_ne n fr to i) ∧ (cb_W n fr to wt k j).testBit (cb_ne n fr to j) = true := by
  have F := cb_FG hG
  intro k
  induction k with
  | zero =>
    intro j hj
    refine ⟨fun b hb => ⟨j, Nat.le_refl j, ?_⟩, Nat.testBit_two_pow_self⟩
    have hb' : (2 ^ cb_ne n fr to j).testBit b = true := hb
    rw [Nat.testBit_two_pow] at hb'
    have := of_decide_eq_true hb'
    exact this.symm
  | succ k ih =>
    intro j hj
    obtain ⟨i1, i2⟩ := ih j hj
    by_cases c : k < j ∧ cb_dot (cb_W n fr to wt k j) (cb_bs n fr to wt (cb_W n fr to wt k k)) = true
    · have q : cb_W n fr to wt (k + 1) j = cb_W n fr to wt k j ^^^ cb_W n fr to wt k k := by
        show (if _ then _ else _) = _
        rw [if_pos c]
      rw [q]
      obtain ⟨k1, k2⟩ := ih k (by omega)
      refine ⟨fun b hb => ?_, ?_⟩
      · rw [Nat.testBit_xor] at hb
        cases z : (cb_W n fr to wt k j).testBit b
        · rw [z] at hb
          obtain ⟨i, hi, e⟩ := k1 b (by simpa using hb)
          exact ⟨i, by omega, e⟩
        · exact i1 b z
      · rw [Nat.testBit_xor, i2]
        cases z : (cb_W n fr to wt k k).testBit (cb_ne n fr to j)
        · rfl
        · obtain ⟨i, hi, e⟩ := k1 _ z
          have := F.2.2.1 i j (by omega) hj
          omega
    · have q : cb_W n fr to wt (k + 1) j = cb_W n fr to wt k j := by
        show (if _ then _ else _) = _
        rw [if_neg c]
      rw [q]
      exact ⟨i1, i2⟩
theorem cb_W_lt {n : Nat} {fr to wt : Nat → Nat} (hG : cb_G n fr to wt) (k j : Nat) (hj : j < cb_rk n fr to) : cb_W n fr to wt k j < 2 ^ 12 := by
  have F := cb_FG hG
  refine Nat.lt_pow_two_of_testBit _ (fun b hb => ?_)
  cases z : (cb_W n fr to wt k j).testBit b
  · rfl
  · obtain ⟨i, hi, e⟩ := (cb_W_sup hG k j hj).1 b z
    have a := F.2.1 i (by omega)
    have b := hG.1
    omega
theorem cb_W_fund {n : Nat} {fr to wt : Nat → Nat} (hG : cb_G n fr to wt) (k j : Nat) (hj : j < cb_rk n fr to) : ∃ c, cb_cl fr to n c ∧ cb_dot c (cb_W n fr to wt k j) = true := by
  have F := cb_FG hG
  obtain ⟨c, c1, c2⟩ := F.2.2.2.2.2.1 j hj
  obtain ⟨s1, s2⟩ := cb_W_sup hG k j hj
  refine ⟨c, c1, ?_⟩
  have a := F.2.1 j hj
  have b := hG.1
  rw [cb_dot, cb_lin_only _ 12 c (cb_ne n fr to j) (by omega) (fun e he hn => ?_), s2, c2 j hj]
  · simp
  · show (c.testBit e && (cb_W n fr to wt k j).testBit e) = false
    cases z : (cb_W n fr to wt k j).testBit e
    · simp
    · obtain ⟨i, hi, ei⟩ := s1 e z
      have ij : i ≠ j := by
        intro w
        rw [w] at ei
        exact hn ei
      rw [ei, c2 i (by omega)]
      simpa using ij
theorem cb_C_ok {n : Nat} {fr to wt : Nat → Nat} (hG : cb_G n fr to wt) (j : Nat) (hj : j < cb_rk n fr to) :
    cb_cl fr to n (cb_C n fr to wt j) ∧ cb_dot (cb_C n fr to wt j) (cb_W n fr to wt j j) = true ∧ cb_w wt n (cb_C n fr to wt j) ≤ cb_B n fr to wt j ∧ cb_B n fr to wt j ≤ 1400 := by
  obtain ⟨c, c1, c2⟩ := cb_W_fund hG j j hj
  exact cb_light_ok hG (cb_W n fr to wt j j) c c1 c2
theorem cb_B_lo {n : Nat} {fr to wt : Nat → Nat} (hG : cb_G n fr to wt) (j c : Nat) (hc : cb_cl fr to n c) (ho : cb_dot c (cb_W n fr to wt j j) = true) : cb_B n fr to wt j ≤ cb_w wt n c :=
  cb_light_lo hG (cb_W n fr to wt j j) c hc ho
theorem cb_W_orth {n : Nat} {fr to wt : Nat → Nat} (hG : cb_G n fr to wt) : ∀ k j, j < cb_rk n fr to → ∀ i, i < k → i < j → cb_dot (cb_W n fr to wt k j) (cb_C n fr to wt i) = false := by
  intro k
  induction k with
  | zero => intro j _ i hi; omega
  | succ k ih =>
    intro j hj i hi hij
    by_cases c : k < j ∧ cb_dot (cb_W n fr to wt k j) (cb_bs n fr to wt (cb_W n fr to wt k k)) = true
    · have q : cb_W n fr to wt (k + 1) j = cb_W n fr to wt k j ^^^ cb_W n fr to wt k k := by
        show (if _ then _ else _) = _
        rw [if_pos c]
      rw [q, cb_dot_xl]
      by_cases z : i = k
      · have a : cb_dot (cb_W n fr to wt k j) (cb_C n fr to wt k) = true := c.2
        have b := (cb_C_ok hG k (by omega)).2.1
        rw [cb_dot_sym] at b
        rw [z, a, b]
        rfl
      · rw [ih j hj i (by omega) hij, ih k (by omega) i (by omega) (by omega)]
        rfl
    · have q : cb_W n fr to wt (k + 1) j = cb_W n fr to wt k j := by
        show (if _ then _ else _) = _
        rw [if_neg c]
      rw [q]
      by_cases z : i = k
      · cases w : cb_dot (cb_W n fr to wt k j) (cb_C n fr to wt i)
        · rfl
        · rw [z] at w hij
          exact absurd ⟨hij, w⟩ c
      · exact ih j hj i (by omega) hij
theorem cb_C_orth {n : Nat} {fr to wt : Nat → Nat} (hG : cb_G n fr to wt) (i j : Nat) (hij : i < j) (hj : j < cb_rk n fr to) : cb_dot (cb_C n fr to wt i) (cb_W n fr to wt j j) = false := by
  rw [cb_dot_sym]
  exact cb_W_orth hG j j hj i hij hij
theorem cb_zero {n : Nat} {fr to wt : Nat → Nat} (hG : cb_G n fr to wt) (c : Nat) (hc : cb_cl fr to n c) (h : ∀ j, j < cb_rk n fr to → cb_dot c (cb_W n fr to wt j j) = false) : c = 0 := by
  have F := cb_FG hG
  refine F.2.2.2.2.2.2 c hc (fun j hj => ?_)
  induction j using Nat.strongRecOn with
  | _ j ih =>
    obtain ⟨s1, s2⟩ := cb_W_sup hG j j hj
    have a := F.2.1 j hj
    have b := hG.1
    have q := h j hj
    rw [cb_dot, cb_lin_only _ 12 c (cb_ne n fr to j) (by omega) (fun e he hn => ?_), s2] at q
    · simpa using q
    · show (c.testBit e && (cb_W n fr to wt j j).testBit e) = false
      cases z : (cb_W n fr to wt j j).testBit e
      · simp
      · obtain ⟨i, hi, ei⟩ := s1 e z
        have ij : i ≠ j := by
          intro w
          rw [w] at ei
          exact hn ei
        rw [ei, ih i (by omega) (by omega)]
        rfl
theorem cb_some {n : Nat} {fr to wt : Nat → Nat} (hG : cb_G n fr to wt) (c : Nat) (hc : cb_cl fr to n c) (h0 : c ≠ 0) : ∃ j, j < cb_rk n fr to ∧ cb_dot c (cb_W n fr to wt j j) = true := by
  apply Classical.byContradiction
  intro h
  refine h0 (cb_zero (wt := wt) hG c hc (fun j hj => ?_))
  cases q : cb_dot c (cb_W n fr to wt j j)
  · rfl
  · exact absurd ⟨j, hj, q⟩ h
theorem cb_span {n : Nat} {fr to wt : Nat → Nat} (hG : cb_G n fr to wt) : ∀ k, k ≤ cb_rk n fr to → ∀ c, cb_cl fr to n c → (∀ i, k ≤ i → i < cb_rk n fr to → cb_dot c (cb_W n fr to wt i i) = false) →
    cb_spn ((List.range (cb_rk n fr to)).map (cb_C n fr to wt)) c := by
  intro k
  induction k with
  | zero =>
    intro _ c hc h
    rw [cb_zero hG c hc (fun j hj => h j (by omega) hj)]
    exact cb_spn_0 _
  | succ k ih =>
    intro hk c hc h
    cases q : cb_dot c (cb_W n fr to wt k k)
    · refine ih (by omega) c hc (fun i hi hr => ?_)
      by_cases z : i = k
      · rw [z]; exact q
      · exact h i (by omega) hr
    · obtain ⟨c1, c2, _, _⟩ := cb_C_ok hG k (by omega)
      have p := ih (by omega) (c ^^^ cb_C n fr to wt k) (cb_cl_xor hc c1) (fun i hi hr => by
        rw [cb_dot_xl]
        by_cases z : i = k
        · rw [z, q, c2]; rfl
        · rw [h i (by omega) hr, cb_C_orth hG k i (by omega) hr]; rfl)
      have m : cb_spn ((List.range (cb_rk n fr to)).map (cb_C n fr to wt)) (cb_C n fr to wt k) :=
        cb_spn_m (List.mem_map.mpr ⟨k, List.mem_range.mpr (by omega), rfl⟩)
      have t := cb_spn_x p m
      rw [cb_xx] at t
      exact t
theorem cb_span_all {n : Nat} {fr to wt : Nat → Nat} (hG : cb_G n fr to wt) (c : Nat) (hc : cb_cl fr to n c) : cb_spn ((List.range (cb_rk n fr to)).map (cb_C n fr to wt)) c :=
  cb_span hG (cb_rk n fr to) (Nat.le_refl _) c hc (fun i h1 h2 => by omega)
/-- heavier edges: no lighter basis -/
theorem cb_mono {n : Nat} {fr to wt wt' : Nat → Nat} (hG : cb_G n fr to wt) (hG' : cb_G n fr to wt') (h : ∀ e, e < n → wt e ≤ wt' e) :
    cb_sum (cb_B n fr to wt) (cb_rk n fr to) ≤ cb_sum (cb_B n fr to wt') (cb_rk n fr to) := by
  have q := cb_opt (cb_cl fr to n) (cb_w wt n) (fun i => cb_W n fr to wt i i) (cb_C n fr to wt) (cb_B n fr to wt) (cb_rk n fr to)
    (fun i hi => (cb_C_ok hG i hi).2.1) (fun i j hij hj => cb_C_orth hG i j hij hj) (fun i _ c hc ho => cb_B_lo hG i c hc ho)
    (cb_rk n fr to) 0 (by omega) [] ((List.range (cb_rk n fr to)).map (cb_C n fr to wt')) (fun d hd => absurd hd (by simp))
    (fun b hb => by
      obtain ⟨j, hj, e⟩ := List.mem_map.mp hb
      rw [← e]
      exact (cb_C_ok hG' j (List.mem_range.mp hj)).1)
    (fun j hj => cb_span_all hG' _ (cb_C_ok hG j hj).1)
  rw [List.map_map, cb_sum_list] at q
  have z : cb_sum (cb_B n fr to wt) 0 = 0 := rfl
  have p := cb_sum_mono (cb_w wt n ∘ cb_C n fr to wt') (cb_B n fr to wt') (cb_rk n fr to) (fun i hi => by
    have a := (cb_C_ok hG' i hi).2.2.1
    have b := cb_w_mono wt wt' n (cb_C n fr to wt' i) h
    show cb_w wt n (cb_C n fr to wt' i) ≤ cb_B n fr to wt' i
    omega)
  omega
end
section
/-! the sorted basis: addCycle -/
def cb_pos (cw : Nat → Nat) (b : Nat) : Nat → Nat
  | 0 => 0
  | m + 1 => if b < cw m then cb_pos cw b m else m + 1
theorem cb_pos_ok (cw : Nat → Nat) (b : Nat) : ∀ m, cb_pos cw b m ≤ m ∧ (∀ k, cb_pos cw b m ≤ k → k < m → b < cw k) ∧ (0 < cb_pos cw b m → cw (cb_pos cw b m - 1) ≤ b) := by
  intro m
  induction m with
  | zero => exact ⟨Nat.le_refl _, fun k _ hk => by omega, fun h => absurd h (by simp [cb_pos])⟩
  | succ m ih =>
    obtain ⟨i1, i2, i3⟩ := ih
    by_cases c : b < cw m
    · have q : cb_pos cw b (m + 1) = cb_pos cw b m := by rw [cb_pos, if_pos c]
      rw [q]
      refine ⟨by omega, fun k h1 h2 => ?_, i3⟩
      by_cases z : k = m
      · rw [z]; exact c
      · exact i2 k h1 (by omega)
    · have q : cb_pos cw b (m + 1) = m + 1 := by rw [cb_pos, if_neg c]
      rw [q]
      refine ⟨Nat.le_refl _, fun k h1 h2 => by omega, fun _ => ?_⟩
      rw [Nat.add_sub_cancel]
      omega
/-- x put at place p -/
def cb_ins (p : Nat) (x : Nat × Nat) (A : Nat → Nat × Nat) : Nat → Nat × Nat := fun k => if k < p then A k else if k = p then x else A (k - 1)
theorem cb_ins_lo {p k : Nat} {x : Nat × Nat} {A : Nat → Nat × Nat} (h : k < p) : cb_ins p x A k = A k := by simp [cb_ins, h]
theorem cb_ins_at {p : Nat} {x : Nat × Nat} {A : Nat → Nat × Nat} : cb_ins p x A p = x := by simp [cb_ins]
theorem cb_ins_hi {p k : Nat} {x : Nat × Nat} {A : Nat → Nat × Nat} (h : p < k) : cb_ins p x A k = A (k - 1) := by
  unfold cb_ins
  rw [if_neg (by omega), if_neg (by omega)]
def cb_sg (C B : Nat → Nat) : Nat → Nat → Nat × Nat
  | 0 => fun _ => (0, 0)
  | i + 1 => cb_ins (cb_pos (fun k => (cb_sg C B i k).2) (B i) i) (C i, B i) (cb_sg C B i)
def cb_SA (n : Nat) (fr to wt : Nat → Nat) : Nat → Nat → Nat × Nat := cb_sg (cb_C n fr to wt) (cb_B n fr to wt)
theorem cb_ins_sum (p : Nat) (x : Nat × Nat) (A : Nat → Nat × Nat) : ∀ m, (m ≤ p → cb_sum (fun k => (cb_ins p x A k).2) m = cb_sum (fun k => (A k).2) m) ∧
    (p < m → cb_sum (fun k => (cb_ins p x A k).2) m = cb_sum (fun k => (A k).2) (m - 1) + x.2) := by
  intro m
  induction m with
  | zero => exact ⟨fun _ => rfl, fun h => by omega⟩
  | succ m ih =>
    have e : cb_sum (fun k => (cb_ins p x A k).2) (m + 1) = cb_sum (fun k => (cb_ins p x A k).2) m + (cb_ins p x A m).2 := rfl
    rw [e]
    refine ⟨fun h => ?_, fun h => ?_⟩
    · rw [ih.1 (by omega), cb_ins_lo (by omega)]
      rfl
    · by_cases c : m = p
      · rw [ih.1 (by omega), c, cb_ins_at, Nat.add_sub_cancel]
      · rw [ih.2 (by omega), cb_ins_hi (by omega), Nat.add_sub_cancel]
        obtain ⟨m', rfl⟩ : ∃ m', m = m' + 1 := ⟨m - 1, by omega⟩
        rw [Nat.add_sub_cancel]
        show cb_sum (fun k => (A k).2) m' + x.2 + (A m').2 = cb_sum (fun k => (A k).2) m' + (A m').2 + x.2
        omega
theorem cb_sum_0 (f : Nat → Nat) : cb_sum f 0 = 0 := rfl
theorem cb_sum_s (f : Nat → Nat) (k : Nat) : cb_sum f (k + 1) = cb_sum f k + f k := rfl
theorem cb_sg_ok (C B : Nat → Nat) : ∀ i, (∀ k l, k < l → l < i → (cb_sg C B i k).2 ≤ (cb_sg C B i l).2) ∧
    (∀ k, k < i → ∃ j, j < i ∧ cb_sg C B i k = (C j, B j)) ∧
    (∀ j, j < i → ∃ k, k < i ∧ cb_sg C B i k = (C j, B j)) ∧
    cb_sum (fun k => (cb_sg C B i k).2) i = cb_sum (B) i := by
  intro i
  induction i with
  | zero => exact ⟨fun k l _ h => by omega, fun k h => by omega, fun j h => by omega, by rw [cb_sum_0, cb_sum_0]⟩
  | succ i ih =>
    obtain ⟨i1, i2, i3, i4⟩ := ih
    obtain ⟨p1, p2, p3⟩ := cb_pos_ok (fun k => (cb_sg C B i k).2) (B i) i
    have q : cb_sg C B (i + 1) = cb_ins (cb_pos (fun k => (cb_sg C B i k).2) (B i) i) (C i, B i) (cb_sg C B i) := rfl
    rw [q]
    generalize cb_pos (fun k => (cb_sg C B i k).2) (B i) i = p at p1 p2 p3 ⊢
    have p2' : ∀ k, p ≤ k → k < i → B i < (cb_sg C B i k).2 := p2
    have p3' : 0 < p → (cb_sg C B i (p - 1)).2 ≤ B i := p3
    refine ⟨fun k l hk hl => ?_, fun k hk => ?_, fun j hj => ?_, ?_⟩
    · by_cases a : k < p
      · rw [cb_ins_lo a]
        by_cases b : l < p
        · rw [cb_ins_lo b]
          exact i1 k l hk (by omega)
        · have h3 := p3' (by omega)
          have h4 : (cb_sg C B i k).2 ≤ (cb_sg C B i (p - 1)).2 := by
            by_cases z : k = p - 1
            · rw [z]; exact Nat.le_refl _
            · exact i1 k (p - 1) (by omega) (by omega)
          by_cases c : l = p
          · rw [c, cb_ins_at]
            show (cb_sg C B i k).2 ≤ B i
            omega
          · rw [cb_ins_hi (by omega)]
            exact i1 k (l - 1) (by omega) (by omega)
      · by_cases c : k = p
        · rw [c, cb_ins_at, cb_ins_hi (by omega)]
          have := p2' (l - 1) (by omega) (by omega)
          show B i ≤ (cb_sg C B i (l - 1)).2
          omega
        · rw [cb_ins_hi (by omega), cb_ins_hi (by omega)]
          exact i1 (k - 1) (l - 1) (by omega) (by omega)
    · by_cases a : k < p
      · rw [cb_ins_lo a]
        obtain ⟨j, hj, e⟩ := i2 k (by omega)
        exact ⟨j, by omega, e⟩
      · by_cases c : k = p
        · rw [c, cb_ins_at]
          exact ⟨i, by omega, rfl⟩
        · rw [cb_ins_hi (by omega)]
          obtain ⟨j, hj, e⟩ := i2 (k - 1) (by omega)
          exact ⟨j, by omega, e⟩
    · by_cases z : j = i
      · exact ⟨p, by omega, by rw [cb_ins_at, z]⟩
      · obtain ⟨k, hk, e⟩ := i3 j (by omega)
        by_cases a : k < p
        · exact ⟨k, by omega, by rw [cb_ins_lo a]; exact e⟩
        · exact ⟨k + 1, by omega, by rw [cb_ins_hi (by omega), Nat.add_sub_cancel]; exact e⟩
    · rw [(cb_ins_sum p _ _ (i + 1)).2 (by omega), Nat.add_sub_cancel, i4, cb_sum_s]
theorem cb_SA_ok (n : Nat) (fr to wt : Nat → Nat) (i : Nat) : (∀ k l, k < l → l < i → (cb_SA n fr to wt i k).2 ≤ (cb_SA n fr to wt i l).2) ∧
    (∀ k, k < i → ∃ j, j < i ∧ cb_SA n fr to wt i k = (cb_C n fr to wt j, cb_B n fr to wt j)) ∧
    (∀ j, j < i → ∃ k, k < i ∧ cb_SA n fr to wt i k = (cb_C n fr to wt j, cb_B n fr to wt j)) ∧
    cb_sum (fun k => (cb_SA n fr to wt i k).2) i = cb_sum (cb_B n fr to wt) i := cb_sg_ok (cb_C n fr to wt) (cb_B n fr to wt) i
/-- what solve leaves: sets and weights, by ascending weight -/
def cb_cy (n : Nat) (fr to wt : Nat → Nat) (k : Nat) : Nat := (cb_SA n fr to wt (cb_rk n fr to) k).1
def cb_pt (n : Nat) (fr to wt : Nat → Nat) (k : Nat) : Nat := (cb_SA n fr to wt (cb_rk n fr to) k).2
def cb_tot (n : Nat) (fr to wt : Nat → Nat) : Nat := cb_sum (cb_pt n fr to wt) (cb_rk n fr to)
/-- what through looks at -/
def cb_th (n : Nat) (fr to wt : Nat → Nat) (e : Nat) : Nat := (cb_sr n fr to wt 0 e (fr e)).1 (to e)
theorem cb_tot_mono {n : Nat} {fr to wt wt' : Nat → Nat} (hG : cb_G n fr to wt) (hG' : cb_G n fr to wt') (h : ∀ e, e < n → wt e ≤ wt' e) : cb_tot n fr to wt ≤ cb_tot n fr to wt' := by
  have a : cb_tot n fr to wt = cb_sum (cb_B n fr to wt) (cb_rk n fr to) := (cb_SA_ok n fr to wt (cb_rk n fr to)).2.2.2
  have b : cb_tot n fr to wt' = cb_sum (cb_B n fr to wt') (cb_rk n fr to) := (cb_SA_ok n fr to wt' (cb_rk n fr to)).2.2.2
  rw [a, b]
  exact cb_mono hG hG' h
theorem cb_pt_in {n : Nat} {fr to wt : Nat → Nat} (hG : cb_G n fr to wt) (k : Nat) (hk : k < cb_rk n fr to) :
    2 ≤ cb_pt n fr to wt k ∧ cb_pt n fr to wt k ≤ 1400 ∧ cb_cl fr to n (cb_cy n fr to wt k) ∧ cb_cy n fr to wt k ≠ 0 ∧ cb_w wt n (cb_cy n fr to wt k) ≤ cb_pt n fr to wt k := by
  obtain ⟨j, hj, e⟩ := (cb_SA_ok n fr to wt (cb_rk n fr to)).2.1 k hk
  have e1 : cb_cy n fr to wt k = cb_C n fr to wt j := by rw [cb_cy, e]
  have e2 : cb_pt n fr to wt k = cb_B n fr to wt j := by rw [cb_pt, e]
  obtain ⟨c1, c2, c3, c4⟩ := cb_C_ok hG j hj
  have c0 : cb_C n fr to wt j ≠ 0 := by
    intro z
    rw [z, cb_dot_0l] at c2
    exact absurd c2 (by simp)
  have := cb_cl_two hG c1 c0
  rw [e1, e2]
  exact ⟨by omega, c4, c1, c0, c3⟩
theorem cb_pt_le {n : Nat} {fr to wt : Nat → Nat} (k l : Nat) (hk : k ≤ l) (hl : l < cb_rk n fr to) : cb_pt n fr to wt k ≤ cb_pt n fr to wt l := by
  by_cases z : k = l
  · rw [z]; exact Nat.le_refl _
  · exact (cb_SA_ok n fr to wt (cb_rk n fr to)).1 k l (by omega) hl
theorem cb_pt_least {n : Nat} {fr to wt : Nat → Nat} (hG : cb_G n fr to wt) (c : Nat) (hc : cb_cl fr to n c) (h0 : c ≠ 0) : 0 < cb_rk n fr to ∧ cb_pt n fr to wt 0 ≤ cb_w wt n c := by
  obtain ⟨j, hj, ho⟩ := cb_some (wt := wt) hG c hc h0
  have a := cb_B_lo hG j c hc ho
  obtain ⟨k, hk, e⟩ := (cb_SA_ok n fr to wt (cb_rk n fr to)).2.2.1 j hj
  have e2 : cb_pt n fr to wt k = cb_B n fr to wt j := by rw [cb_pt, e]
  have b := cb_pt_le (n := n) (fr := fr) (to := to) (wt := wt) 0 k (by omega) hk
  exact ⟨by omega, by omega⟩
theorem cb_th_ge {n : Nat} {fr to wt : Nat → Nat} (hG : cb_G n fr to wt) (e : Nat) (he : e < n) (hf : cb_th n fr to wt e < 1000000) : 0 < cb_rk n fr to ∧ cb_pt n fr to wt 0 ≤ cb_th n fr to wt e + wt e := by
  obtain ⟨c, c1, c2, c3⟩ := cb_thr_up hG e he hf
  obtain ⟨a, b⟩ := cb_pt_least hG c c1 c2
  exact ⟨a, Nat.le_trans b c3⟩
theorem cb_th_le {n : Nat} {fr to wt : Nat → Nat} (hG : cb_G n fr to wt) (hr : 0 < cb_rk n fr to) : ∃ e, e < n ∧ cb_th n fr to wt e + wt e ≤ cb_pt n fr to wt 0 := by
  obtain ⟨a1, a2, a3, a4, a5⟩ := cb_pt_in (wt := wt) hG 0 hr
  obtain ⟨e, he⟩ := Nat.exists_testBit_of_ne_zero a4
  have hen := cb_in _ n e a3.1 he
  exact ⟨e, hen, Nat.le_trans (cb_thr_lo hG e hen _ a3 he) a5⟩
theorem cb_cy_span {n : Nat} {fr to wt : Nat → Nat} (hG : cb_G n fr to wt) (c : Nat) (hc : cb_cl fr to n c) : cb_spn ((List.range (cb_rk n fr to)).map (cb_cy n fr to wt)) c := by
  refine cb_spn_s (fun a ha => ?_) (cb_span_all (wt := wt) hG c hc)
  obtain ⟨j, hj, e⟩ := List.mem_map.mp ha
  obtain ⟨k, hk, e'⟩ := (cb_SA_ok n fr to wt (cb_rk n fr to)).2.2.1 j (List.mem_range.mp hj)
  refine List.mem_map.mpr ⟨k, List.mem_range.mpr hk, ?_⟩
  rw [← e, cb_cy, e']
end
section
/-! elimination: reduce, highest -/
/-- reduce's step at place e -/
def cb_r1 (P : Nat → Nat) (e s : Nat) : Nat := if s.testBit e = true ∧ P e ≠ 0 then s ^^^ P e else s
def cb_rd (P : Nat → Nat) : Nat → Nat → Nat
  | 0, s => s
  | e + 1, s => cb_rd P e (cb_r1 P e s)
/-- one more than the highest place, 0 for none -/
def cb_hs (s : Nat) : Nat → Nat
  | 0 => 0
  | e + 1 => if s.testBit e = true then e + 1 else cb_hs s e
/-- the pivots are what they should be -/
def cb_PW (P : Nat → Nat) : Prop := ∀ e, e < 12 → P e ≠ 0 → (P e).testBit e = true ∧ P e < 2 ^ (e + 1)
theorem cb_xc (a b p : Nat) : (a ^^^ p) ^^^ b = (a ^^^ b) ^^^ p := cb_x3 a b p
theorem cb_r1_lin (P : Nat → Nat) (e a b : Nat) : cb_r1 P e (a ^^^ b) = cb_r1 P e a ^^^ cb_r1 P e b := by
  unfold cb_r1
  rw [Nat.testBit_xor]
  by_cases z : P e = 0
  · simp [z]
  · cases p : a.testBit e <;> cases q : b.testBit e
    · simp
    · simp [z, Nat.xor_assoc]
    · simp [z]
      exact cb_x3 a (P e) b
    · simp [z]
      exact (cb_x4 a (P e) b).symm
theorem cb_rd_lin (P : Nat → Nat) : ∀ k a b, cb_rd P k (a ^^^ b) = cb_rd P k a ^^^ cb_rd P k b := by
  intro k
  induction k with
  | zero => exact fun _ _ => rfl
  | succ k ih =>
    intro a b
    show cb_rd P k (cb_r1 P k (a ^^^ b)) = cb_rd P k (cb_r1 P k a) ^^^ cb_rd P k (cb_r1 P k b)
    rw [cb_r1_lin, ih]
theorem cb_r1_0 (P : Nat → Nat) (e : Nat) : cb_r1 P e 0 = 0 := by
  unfold cb_r1
  rw [Nat.zero_testBit]
  simp
theorem cb_rd_0 (P : Nat → Nat) : ∀ k, cb_rd P k 0 = 0 := by
  intro k
  induction k with
  | zero => rfl
  | succ k ih =>
    show cb_rd P k (cb_r1 P k 0) = 0
    rw [cb_r1_0, ih]
theorem cb_rd_piv (P : Nat → Nat) (hP : cb_PW P) (e : Nat) (he : e < 12) : ∀ k, e < k → cb_rd P k (P e) = 0 := by
  intro k
  induction k with
  | zero => intro h; omega
  | succ k ih =>
    intro h
    show cb_rd P k (cb_r1 P k (P e)) = 0
    by_cases z : P e = 0
    · rw [z, cb_r1_0, cb_rd_0]
    · obtain ⟨h1, h2⟩ := hP e he z
      by_cases c : e = k
      · have q : cb_r1 P k (P e) = 0 := by
          unfold cb_r1
          rw [← c, if_pos ⟨h1, z⟩, Nat.xor_self]
        rw [q, cb_rd_0]
      · have q : cb_r1 P k (P e) = P e := by
          unfold cb_r1
          rw [cb_hi (P e) (e + 1) k h2 (by omega)]
          simp
        rw [q]
        exact ih (by omega)
theorem cb_r1_in (P : Nat → Nat) (K : Nat → Prop) (h0 : K 0) (e s : Nat) (hK : K (P e)) : K (s ^^^ cb_r1 P e s) := by
  unfold cb_r1
  by_cases c : s.testBit e = true ∧ P e ≠ 0
  · rw [if_pos c, cb_xa]
    exact hK
  · rw [if_neg c, Nat.xor_self]
    exact h0
theorem cb_rd_in (P : Nat → Nat) (K : Nat → Prop) (h0 : K 0) (hx : ∀ a b, K a → K b → K (a ^^^ b)) : ∀ k, (∀ e, e < k → K (P e)) → ∀ s, K (s ^^^ cb_rd P k s) := by
  intro k
  induction k with
  | zero =>
    intro _ s
    show K (s ^^^ s)
    rw [Nat.xor_self]
    exact h0
  | succ k ih =>
    intro hK s
    show K (s ^^^ cb_rd P k (cb_r1 P k s))
    have a := hx _ _ (cb_r1_in P K h0 k s (hK k (by omega))) (ih (fun e he => hK e (by omega)) (cb_r1 P k s))
    rw [Nat.xor_assoc, cb_xa] at a
    exact a
theorem cb_r1_hi (P : Nat → Nat) (hP : cb_PW P) (e s j : Nat) (he : e < 12) (hj : e < j) : (cb_r1 P e s).testBit j = s.testBit j := by
  unfold cb_r1
  by_cases c : s.testBit e = true ∧ P e ≠ 0
  · rw [if_pos c, Nat.testBit_xor, cb_hi (P e) (e + 1) j (hP e he c.2).2 (by omega)]
    simp
  · rw [if_neg c]
theorem cb_rd_hi (P : Nat → Nat) (hP : cb_PW P) : ∀ k, k ≤ 12 → ∀ s j, k ≤ j → (cb_rd P k s).testBit j = s.testBit j := by
  intro k
  induction k with
  | zero => exact fun _ _ _ _ => rfl
  | succ k ih =>
    intro hk s j hj
    show (cb_rd P k (cb_r1 P k s)).testBit j = s.testBit j
    rw [ih (by omega) _ j (by omega), cb_r1_hi P hP k s j (by omega) (by omega)]
theorem cb_rd_cl (P : Nat → Nat) (hP : cb_PW P) (e : Nat) (hz : P e ≠ 0) : ∀ k, k ≤ 12 → e < k → ∀ s, (cb_rd P k s).testBit e = false := by
  intro k
  induction k with
  | zero => intro _ h; omega
  | succ k ih =>
    intro hk he s
    show (cb_rd P k (cb_r1 P k s)).testBit e = false
    by_cases c : e = k
    · rw [cb_rd_hi P hP k (by omega) _ e (by omega)]
      have h1 := (hP e (by omega) hz).1
      unfold cb_r1
      rw [← c]
      cases q : s.testBit e
      · simp [q]
      · rw [if_pos ⟨rfl, hz⟩, Nat.testBit_xor, q, h1]
        rfl
    · exact ih (by omega) (by omega) _
theorem cb_rd_lt (P : Nat → Nat) (hP : cb_PW P) (s : Nat) (hs : s < 2 ^ 12) : cb_rd P 12 s < 2 ^ 12 :=
  Nat.lt_pow_two_of_testBit _ (fun i hi => by rw [cb_rd_hi P hP 12 (Nat.le_refl _) s i hi]; exact cb_hi s 12 i hs hi)
theorem cb_hs_ok (s : Nat) : ∀ k, cb_hs s k ≤ k ∧ (∀ j, cb_hs s k ≤ j → j < k → s.testBit j = false) ∧ (0 < cb_hs s k → s.testBit (cb_hs s k - 1) = true) := by
  intro k
  induction k with
  | zero => exact ⟨Nat.le_refl _, fun j _ hj => by omega, fun h => absurd h (by simp [cb_hs])⟩
  | succ k ih =>
    obtain ⟨i1, i2, i3⟩ := ih
    cases q : s.testBit k
    · have e : cb_hs s (k + 1) = cb_hs s k := by simp [cb_hs, q]
      rw [e]
      refine ⟨by omega, fun j h1 h2 => ?_, i3⟩
      by_cases z : j = k
      · rw [z]; exact q
      · exact i2 j h1 (by omega)
    · have e : cb_hs s (k + 1) = k + 1 := by simp [cb_hs, q]
      rw [e]
      exact ⟨Nat.le_refl _, fun j h1 h2 => by omega, fun _ => q⟩
/-- the pivots when a set has been taken in -/
def cb_pv (P : Nat → Nat) (c : Nat) : Nat → Nat := if cb_hs (cb_rd P 12 c) 12 = 0 then P else cb_up P (cb_hs (cb_rd P 12 c) 12 - 1) (cb_rd P 12 c)
/-- any space that holds the pivots holds x -/
def cb_ps (P : Nat → Nat) (x : Nat) : Prop := ∀ K : Nat → Prop, K 0 → (∀ a b, K a → K b → K (a ^^^ b)) → (∀ e, e < 12 → K (P e)) → K x
theorem cb_pv_ok (P : Nat → Nat) (hP : cb_PW P) (c : Nat) (hc : c < 2 ^ 12) : cb_PW (cb_pv P c) ∧ cb_ps (cb_pv P c) c ∧ ∀ x, cb_ps P x → cb_ps (cb_pv P c) x := by
  obtain ⟨a1, a2, a3⟩ := cb_hs_ok (cb_rd P 12 c) 12
  have hl := cb_rd_lt P hP c hc
  by_cases z : cb_hs (cb_rd P 12 c) 12 = 0
  · have q : cb_pv P c = P := by rw [cb_pv, if_pos z]
    have r0 : cb_rd P 12 c = 0 := by
      apply Nat.eq_of_testBit_eq
      intro i
      rw [Nat.zero_testBit]
      by_cases h : i < 12
      · exact a2 i (by omega) h
      · exact cb_hi _ 12 i hl (by omega)
    rw [q]
    refine ⟨hP, fun K h0 hx hK => ?_, fun x h => h⟩
    have t := cb_rd_in P K h0 hx 12 hK c
    rw [r0, Nat.xor_zero] at t
    exact t
  · obtain ⟨t, ht⟩ : ∃ t, cb_hs (cb_rd P 12 c) 12 = t + 1 := ⟨cb_hs (cb_rd P 12 c) 12 - 1, by omega⟩
    have q : cb_pv P c = cb_up P t (cb_rd P 12 c) := by rw [cb_pv, if_neg z, ht, Nat.add_sub_cancel]
    have tb : (cb_rd P 12 c).testBit t = true := by
      have := a3 (by omega)
      rw [ht, Nat.add_sub_cancel] at this
      exact this
    have t12 : t < 12 := by omega
    have up : cb_rd P 12 c < 2 ^ (t + 1) := Nat.lt_pow_two_of_testBit _ (fun i hi => by
      by_cases h : i < 12
      · exact a2 i (by omega) h
      · exact cb_hi _ 12 i hl (by omega))
    have p0 : P t = 0 := by
      apply Classical.byContradiction
      intro w
      rw [cb_rd_cl P hP t w 12 (Nat.le_refl _) t12 c] at tb
      exact absurd tb (by simp)
    rw [q]
    have keep : ∀ K : Nat → Prop, K 0 → (∀ e, e < 12 → K (cb_up P t (cb_rd P 12 c) e)) → ∀ e, e < 12 → K (P e) := by
      intro K h0 hK e he
      by_cases w : e = t
      · rw [w, p0]; exact h0
      · have := hK e he
        rw [cb_upn _ _ _ _ w] at this
        exact this
    refine ⟨fun e he hn => ?_, fun K h0 hx hK => ?_, fun x h K h0 hx hK => h K h0 hx (keep K h0 hK)⟩
    · by_cases w : e = t
      · rw [w, cb_ups]
        exact ⟨tb, up⟩
      · rw [cb_upn _ _ _ _ w] at hn ⊢
        exact hP e he hn
    · have u := cb_rd_in P K h0 hx 12 (keep K h0 hK) c
      have v := hK t t12
      rw [cb_ups] at v
      have y := hx _ _ u v
      rw [cb_xx] at y
      exact y
theorem cb_ps_rd (P : Nat → Nat) (hP : cb_PW P) (L : List Nat) (h : ∀ a, a ∈ L → cb_ps P a) (x : Nat) (hx : cb_spn L x) : cb_rd P 12 x = 0 := by
  have lin : ∀ a b, cb_rd P 12 a = 0 → cb_rd P 12 b = 0 → cb_rd P 12 (a ^^^ b) = 0 := by
    intro a b ha hb
    rw [cb_rd_lin, ha, hb]
    rfl
  exact hx (fun y => cb_rd P 12 y = 0) (cb_rd_0 P 12) lin (fun a ha => h a ha (fun y => cb_rd P 12 y = 0) (cb_rd_0 P 12) lin (fun e he => cb_rd_piv P hP e he 12 he))
end
section
/-! ints that are masks -/
theorem cb_iand (a b : Nat) : nI a &&& nI b = nI (a &&& b) := by
  apply Int32.toBitVec_inj.1
  show BitVec.ofNat 32 a &&& BitVec.ofNat 32 b = BitVec.ofNat 32 (a &&& b)
  apply BitVec.eq_of_getLsbD_eq
  intro i hi
  simp [hi]
theorem cb_ixor (a b : Nat) : nI a ^^^ nI b = nI (a ^^^ b) := by
  apply Int32.toBitVec_inj.1
  show BitVec.ofNat 32 a ^^^ BitVec.ofNat 32 b = BitVec.ofNat 32 (a ^^^ b)
  apply BitVec.eq_of_getLsbD_eq
  intro i hi
  simp [hi]
theorem cb_sl : ∀ n, n < 32 → ((nI n &&& 31).toBitVec.smod 32).toNat = n := by decide +kernel
theorem cb_isl (e : Nat) (he : e < 31) : (1 : Int32) <<< (nI e &&& 31) = nI (2 ^ e) := by
  have h : 2 ^ e < 2 ^ 32 := cb_pw 32 e (by omega)
  have q := pk_shlN (n := 1) (nI e &&& 31) e (cb_sl e (by omega)) (by omega)
  rw [Nat.one_mul] at q
  exact q
theorem cb_ishr (m e : Nat) (hm : m < 2 ^ 31) (he : e < 32) : nI m >>> (nI e &&& 31) = nI (m / 2 ^ e) := pk_shrN hm _ e (cb_sl e he)
theorem cb_ibit (s e : Nat) (hs : s < 2 ^ 31) (he : e < 32) : ((nI s >>> (nI e &&& 31)) &&& 1) = nI (if s.testBit e = true then 1 else 0) := by
  rw [cb_ishr s e hs he]
  show nI (s / 2 ^ e) &&& nI 1 = _
  rw [cb_iand, Nat.and_one_is_mod, Nat.testBit_eq_decide_div_mod_eq]
  by_cases c : s / 2 ^ e % 2 = 1
  · simp [c]
  · have c' : s / 2 ^ e % 2 = 0 := by omega
    simp [c']
theorem cb_ibit1 (s e : Nat) (hs : s < 2 ^ 31) (he : e < 32) : ((nI s >>> (nI e &&& 31)) &&& 1) = 1 ↔ s.testBit e = true := by
  rw [cb_ibit s e hs he]
  show _ = nI 1 ↔ _
  cases s.testBit e
  · simp
    decide
  · simp
theorem cb_ibit0 (s e : Nat) (hs : s < 2 ^ 31) (he : e < 32) : ((nI s >>> (nI e &&& 31)) &&& 1) = 0 ↔ s.testBit e = false := by
  rw [cb_ibit s e hs he]
  show _ = nI 0 ↔ _
  cases s.testBit e
  · simp
  · simp
    decide
theorem cb_2p (e : Nat) (he : e < 31) : 2 ^ e < 2 ^ 31 := cb_pw 31 e he
theorem cb_12 {s : Nat} (h : s < 2 ^ 12) : s < 2 ^ 31 := Nat.lt_trans h (by decide)
/-- an array holds f below k -/
def cb_m (k : Nat) (a : Nat → Int32) (f : Nat → Nat) : Prop := ∀ j, j < k → a j = nI (f j)
theorem cb_m_up {k : Nat} {a : Nat → Int32} {f : Nat → Nat} (h : cb_m k a f) (i y : Nat) {i' : Nat} {x : Int32} (hi : i' = i) (hx : x = nI y) : cb_m k (upd a i' x) (cb_up f i y) := by
  intro j hj
  rw [hi]
  by_cases c : j = i
  · rw [c, pk_us, cb_ups]; exact hx
  · rw [pk_un c, cb_upn _ _ _ _ c]; exact h j hj
theorem cb_m_to {k : Nat} {a : Nat → Int32} {f g : Nat → Nat} (h : cb_m k a f) (e : ∀ j, j < k → f j = g j) : cb_m k a g := fun j hj => by rw [h j hj, e j hj]
theorem cb_cl' {i : Nat} (h : i < 2 ^ 31) : (nI i).toNatClampNeg = i := nI_clamp h
end
section
/-! the walk: closed, oddlyMet, reduce, highest -/
variable {f0 f1 f2 f3 f4 : Int32} {a1 a2 a3 a4 a5 a6 a7 a8 a9 a10 a11 : Nat → Int32}
/-- closed's sum -/
def cb_od (fr to : Nat → Nat) (s : Nat) : Nat → Nat
  | 0 => 0
  | e + 1 => if s.testBit e = true then cb_od fr to s e ^^^ (2 ^ fr e ^^^ 2 ^ to e) else cb_od fr to s e
theorem cb_od_bd (fr to : Nat → Nat) (s v : Nat) : ∀ e, (cb_od fr to s e).testBit v = cb_bd fr to e v s := by
  intro e
  induction e with
  | zero => exact Nat.zero_testBit v
  | succ e ih =>
    show (if s.testBit e = true then cb_od fr to s e ^^^ (2 ^ fr e ^^^ 2 ^ to e) else cb_od fr to s e).testBit v = (cb_bd fr to e v s ^^ (s.testBit e && ((fr e == v) ^^ (to e == v))))
    cases s.testBit e
    · simp [ih]
    · rw [if_pos rfl, Nat.testBit_xor, Nat.testBit_xor, ih, Nat.testBit_two_pow, Nat.testBit_two_pow, Bool.true_and]
      rfl
theorem cb_od_lt {n : Nat} {fr to wt : Nat → Nat} (hG : cb_G n fr to wt) (s : Nat) : ∀ e, e ≤ n → cb_od fr to s e < 2 ^ 7 := by
  intro e
  induction e with
  | zero => exact fun _ => by simp [cb_od]
  | succ e ih =>
    intro he
    have g := hG.2 e (by omega)
    show (if s.testBit e = true then cb_od fr to s e ^^^ (2 ^ fr e ^^^ 2 ^ to e) else cb_od fr to s e) < 2 ^ 7
    split
    · exact Nat.xor_lt_two_pow (ih (by omega)) (Nat.xor_lt_two_pow (cb_pw 7 _ g.1) (cb_pw 7 _ g.2.1))
    · exact ih (by omega)
theorem cb_od_0 (fr to : Nat → Nat) (n s : Nat) (hs : s < 2 ^ n) : cb_od fr to s n = 0 ↔ cb_cl fr to n s := by
  constructor
  · intro h
    refine ⟨hs, fun v => ?_⟩
    rw [← cb_od_bd, h, Nat.zero_testBit]
  · intro h
    apply Nat.eq_of_testBit_eq
    intro v
    rw [cb_od_bd, h.2 v, Nat.zero_testBit]
theorem cb_closed {post : Int32 → Prop} {n : Nat} {fr to wt : Nat → Nat} (hG : cb_G n fr to wt) (h1 : cb_m n a1 fr) (h2 : cb_m n a2 to) (m : Nat) (hm : m < 2 ^ 31)
    (H1 : cb_cl fr to n m → post 1) (H0 : ¬ cb_cl fr to n m → post 0) : wpX_closed post (nI n, f1, f2, f3, f4, a1, a2, a3, a4, a5, a6, a7, a8, a9, a10, a11) (nI m) := by
  have hn := hG.1
  unfold wpX_closed
  refine br_f (nI_pos hm) ?_
  rw [cb_ishr m n hm (by omega)]
  by_cases c : m < 2 ^ n
  · refine br_t (by rw [Nat.div_eq_of_lt c]; rfl) ?_
    refine pk_loop (fun k i s => wX_closed_19 post (nI m) (nI n) f1 f2 f3 f4 a1 a2 a3 a4 a5 a6 a7 a8 a9 a10 a11 k s (nI i)) (fun i s => s = nI (cb_od fr to m i)) n 0 0 (by omega) rfl ?_ ?_
    · intro k s h
      refine pk_le n n (fun _ => ?_) (fun z => absurd z (by omega))
      have lt := cb_od_lt hG m n (Nat.le_refl n)
      refine pk_eq (cb_od fr to m n) 0 (fun z => H1 ((cb_od_0 fr to n m c).mp z)) (fun z => H0 (fun w => z ((cb_od_0 fr to n m c).mpr w))) h rfl (by omega)
    · intro k i s hi h hw
      have g := hG.2 i hi
      refine pk_le n i (fun z => absurd z (by omega)) (fun _ => ?_)
      refine ek_if (cb_ibit1 m i hm (by omega)) (fun hb => ⟨pk_in i 12 (by omega), pk_in i 12 (by omega), nm_r (e' := nI (cb_od fr to m (i + 1))) ?_ (nm_r (nI_1 i) (hw _ rfl))⟩) (fun hb => nm_r (nI_1 i) (hw _ ?_))
      · rw [h, cb_cl' (show i < 2 ^ 31 by omega), h1 i hi, h2 i hi, cb_isl _ (by omega), cb_isl _ (by omega), cb_ixor, cb_ixor, cb_od, if_pos hb]
      · rw [h, cb_od, if_neg hb]
  · refine br_f ?_ (H0 (fun z => c z.1))
    have hd : 0 < m / 2 ^ n := Nat.div_pos (by omega) (Nat.two_pow_pos n)
    have hl : m / 2 ^ n ≤ m := Nat.div_le_self _ _
    exact nI_ne0 hd (by omega)
theorem cb_bxor (b c : Bool) : nI (if b = true then 1 else 0) ^^^ nI (if c = true then 1 else 0) = nI (if (b ^^ c) = true then 1 else 0) := by
  cases b <;> cases c <;> decide
theorem cb_odd {post : Int32 → Prop} (x y : Nat) (hx : x < 2 ^ 31) (H1 : cb_dot x y = true → post 1) (H0 : cb_dot x y = false → post 0) : wpX_oddlyMet post () (nI x) (nI y) := by
  unfold wpX_oddlyMet
  refine nm_r (cb_iand x y) ?_
  have hxy : x &&& y < 2 ^ 31 := Nat.lt_of_le_of_lt Nat.and_le_left hx
  refine pk_loop (fun k i s => wX_oddlyMet_9 post (nI (x &&& y)) k s (nI i)) (fun i s => s = nI (if cb_lin (fun e => y.testBit e) i x = true then 1 else 0)) 12 0 0 (by omega) rfl ?_ ?_
  · intro k s h
    refine pk_le 12 12 (fun _ => ?_) (fun z => absurd z (by omega))
    have q : cb_lin (fun e => y.testBit e) 12 x = cb_dot x y := rfl
    rw [q] at h
    cases d : cb_dot x y
    · rw [d] at h
      exact br_f (by rw [h]; decide) (H0 d)
    · rw [d] at h
      exact br_t (by rw [h]; rfl) (H1 d)
  · intro k i s hi h hw
    refine pk_le 12 i (fun z => absurd z (by omega)) (fun _ => nm_r (e' := nI (if cb_lin (fun e => y.testBit e) (i + 1) x = true then 1 else 0)) ?_ (nm_r (nI_1 i) (hw _ rfl)))
    rw [h, cb_ibit _ i hxy (by omega), cb_bxor, Nat.testBit_and]
    rfl
theorem cb_reduce {post : Int32 → Prop} {P : Nat → Nat} (hP : cb_PW P) (h11 : cb_m 12 a11 P) (s : Nat) (hs : s < 2 ^ 12) (H : post (nI (cb_rd P 12 s))) : wpX_reduce post (f0, f1, f2, f3, f4, a1, a2, a3, a4, a5, a6, a7, a8, a9, a10, a11) (nI s) := by
  have key : ∀ e, e ≤ 12 → ∀ s, s < 2 ^ 12 → post (nI (cb_rd P e s)) → wX_reduce_5 post f0 f1 f2 f3 f4 a1 a2 a3 a4 a5 a6 a7 a8 a9 a10 a11 (e + 1) (nI s) (nI e + (-1)) := by
    intro e
    induction e with
    | zero =>
      intro _ s _ H
      exact br_t (by decide) H
    | succ e ih =>
      intro he s hs H
      rw [pk_m1]
      have H' : post (nI (cb_rd P e (cb_r1 P e s))) := H
      refine br_f (nI_pos (by omega)) ?_
      refine ek_if (cb_ibit1 s e (cb_12 hs) (by omega)) (fun hb => ⟨pk_in e 12 (by omega), ?_⟩) (fun hb => nm_e (ih (by omega) s hs ?_))
      · have lt : P e < 2 ^ 31 := by
          by_cases z : P e = 0
          · rw [z]; decide
          · exact Nat.lt_of_lt_of_le (hP e (by omega) z).2 (cb_pm (e + 1) 31 (by omega))
        refine pk_eq (P e) 0 (fun z => nm_e (ih (by omega) s hs ?_)) (fun z => ⟨pk_in e 12 (by omega), nm_r (e' := nI (s ^^^ P e)) ?_ (nm_e (ih (by omega) _ ?_ ?_))⟩) ?_ rfl lt
        · rw [cb_r1, if_neg (fun w => w.2 z)] at H'
          exact H'
        · rw [cb_cl' (by omega), h11 e (by omega), cb_ixor]
        · exact Nat.xor_lt_two_pow hs (Nat.lt_of_lt_of_le (hP e (by omega) z).2 (cb_pm (e + 1) 12 (by omega)))
        · rw [cb_r1, if_pos ⟨hb, z⟩] at H'
          exact H'
        · rw [cb_cl' (by omega), h11 e (by omega)]
      · rw [cb_r1, if_neg (fun w => hb w.1)] at H'
        exact H'
  exact ⟨13, key 12 (Nat.le_refl _) s hs H⟩
theorem cb_highest {post : Int32 → Prop} (s : Nat) (hs : s < 2 ^ 12) (H : post (nI (cb_hs s 12) + (-1))) : wpX_highest post () (nI s) := by
  have key : ∀ e, e ≤ 12 → post (nI (cb_hs s e) + (-1)) → wX_highest_3 post (nI s) (e + 1) (nI e + (-1)) := by
    intro e
    induction e with
    | zero => exact fun _ H => br_t (by decide) H
    | succ e ih =>
      intro he H
      rw [pk_m1]
      refine br_f (nI_pos (by omega)) ?_
      refine ek_if (cb_ibit0 s e (cb_12 hs) (by omega)) (fun hb => nm_e (ih (by omega) ?_)) (fun hb => ?_)
      · rw [cb_hs, if_neg (by rw [hb]; simp)] at H
        exact H
      · rw [cb_hs, if_pos (by simpa using hb), pk_m1] at H
        exact H
  exact ⟨13, key 12 (Nat.le_refl _) H⟩
end
section
/-! the walk: startWitnesses -/
variable {f0 f1 f2 f3 f4 : Int32} {a1 a2 a3 a4 a5 a6 a7 a8 a9 a10 a11 : Nat → Int32}
theorem cb_sw_lt {n : Nat} {fr to wt : Nat → Nat} (hG : cb_G n fr to wt) : ∀ e, e ≤ n → ∀ v, v < 7 → (cb_sw fr to e).1 v < 7 := by
  intro e
  induction e with
  | zero => exact fun _ v hv => hv
  | succ e ih =>
    intro he v hv
    have g := hG.2 e (by omega)
    have a := ih (by omega) v hv
    have b := ih (by omega) (fr e) g.1
    rw [cb_sw]
    split
    · exact a
    · show (if (cb_sw fr to e).1 v = (cb_sw fr to e).1 (to e) then (cb_sw fr to e).1 (fr e) else (cb_sw fr to e).1 v) < 7
      split
      · exact b
      · exact a
theorem cb_ifn {j i A B : Nat} (c : j ≠ i) : (if j < i then A else B) = if j < i + 1 then A else B := by
  by_cases d : j < i
  · rw [if_pos d, if_pos (by omega)]
  · rw [if_neg d, if_neg (by omega)]
theorem cb_ifa {i A B : Nat} : (if i < i then A else B) = B := if_neg (by omega)
theorem cb_ifb {i A B : Nat} : (if i < i + 1 then A else B) = A := if_pos (by omega)
theorem cb_sw93 {post : St1 → Prop} {J : Int32 → Int32 → (Nat → Int32) → (Nat → Int32) → (Nat → Int32) → (Nat → Int32) → (Nat → Int32) → (Nat → Int32) → (Nat → Int32) → (Nat → Int32) → (Nat → Int32) → (Nat → Int32) → (Nat → Int32) → Prop}
    {x p q : Nat} {g : Nat → Nat} (hp : p < 7) (hq : q < 7) (hg : ∀ v, v < 7 → g v < 7) (h4 : cb_m 7 a4 g)
    (H : ∀ b4, cb_m 7 b4 (fun v => if g v = q then p else g v) → J (nI (x + 1)) f1 a1 a2 a3 b4 a5 a6 a7 a8 a9 a10 a11) :
    ∃ k, wX_startWitnesses_93 post J (nI x) (nI p) (nI q) f0 f1 f2 f3 f4 k 0 a1 a2 a3 a4 a5 a6 a7 a8 a9 a10 a11 := by
  refine pk_loop (fun k i s => wX_startWitnesses_93 post J (nI x) (nI p) (nI q) f0 f1 f2 f3 f4 k (nI i) a1 a2 a3 s a5 a6 a7 a8 a9 a10 a11) (fun i s => cb_m 7 s (fun v => if v < i then (if g v = q then p else g v) else g v)) 7 0 a4 (by omega) (cb_m_to h4 (fun j hj => by simp)) ?_ ?_
  · intro k s h
    refine pk_le 7 7 (fun _ => nm_r (nI_1 x) (H s (cb_m_to h (fun j hj => by simp [hj])))) (fun z => absurd z (by omega))
  · intro k i s hi h hw
    have hs : s i = nI (g i) := by
      rw [h i hi]
      simp
    have gi := hg i hi
    refine pk_le 7 i (fun z => absurd z (by omega)) (fun _ => ⟨pk_in i 7 hi, ?_⟩)
    refine pk_eq (g i) q (fun z => ⟨pk_in i 7 hi, nm_e (nm_r (nI_1 i) (hw _ (cb_m_to (cb_m_up h i p (cb_cl' (by omega)) rfl) (fun j hj => ?_))))⟩) (fun z => nm_r (nI_1 i) (hw _ (cb_m_to h (fun j hj => ?_)))) ?_ rfl
    · show cb_up (fun v => if v < i then (if g v = q then p else g v) else g v) i p j = if j < i + 1 then (if g j = q then p else g j) else g j
      by_cases c : j = i
      · rw [c, cb_ups, cb_ifb, if_pos z]
      · rw [cb_upn _ _ _ _ c]
        exact cb_ifn c
    · show (if j < i then (if g j = q then p else g j) else g j) = if j < i + 1 then (if g j = q then p else g j) else g j
      by_cases c : j = i
      · rw [c, cb_ifa, cb_ifb, if_neg z]
      · exact cb_ifn c
    · show s (nI i).toNatClampNeg = nI (g i)
      rw [cb_cl' (by omega), hs]
theorem cb_sw28 {post : St1 → Prop} {n : Nat} {fr to wt : Nat → Nat} (hG : cb_G n fr to wt) (h1 : cb_m n a1 fr) (h2 : cb_m n a2 to) (h4 : cb_m 7 a4 (fun v => v))
    (H : ∀ b4 b5, cb_m (cb_rk n fr to) b5 (fun j => 2 ^ cb_ne n fr to j) → post (nI n, nI (cb_rk n fr to), f2, f3, f4, a1, a2, a3, b4, b5, a6, a7, a8, a9, a10, a11)) :
    ∃ k, wX_startWitnesses_28 post (nI n) f2 f3 f4 k 0 0 a1 a2 a3 a4 a5 a6 a7 a8 a9 a10 a11 := by
  have hn := hG.1
  have F := cb_forest fr to n (fun k hk => ⟨(hG.2 k hk).1, (hG.2 k hk).2.1⟩)
  refine pk_loop (fun k i s => wX_startWitnesses_28 post (nI n) f2 f3 f4 k (nI i) s.1 a1 a2 a3 s.2.1 s.2.2 a6 a7 a8 a9 a10 a11)
    (fun i (s : Int32 × (Nat → Int32) × (Nat → Int32)) => s.1 = nI (cb_sw fr to i).2.1 ∧ cb_m 7 s.2.1 (cb_sw fr to i).1 ∧ cb_m (cb_sw fr to i).2.1 s.2.2 (fun j => 2 ^ (cb_sw fr to i).2.2 j)) n 0 (0, a4, a5) (by omega) ⟨rfl, h4, fun j hj => absurd hj (by simp [cb_sw])⟩ ?_ ?_
  · rintro k ⟨s1, s2, s3⟩ ⟨e1, e2, e3⟩
    refine pk_le n n (fun _ => ?_) (fun z => absurd z (by omega))
    have e1' : s1 = nI (cb_rk n fr to) := e1
    show post (nI n, s1, f2, f3, f4, a1, a2, a3, s2, s3, a6, a7, a8, a9, a10, a11)
    rw [e1']
    exact H s2 s3 e3
  · rintro k i ⟨s1, s2, s3⟩ hi ⟨e1, e2, e3⟩ hw
    have e1' : s1 = nI (cb_sw fr to i).2.1 := e1
    have e2' : cb_m 7 s2 (cb_sw fr to i).1 := e2
    have e3' : cb_m (cb_sw fr to i).2.1 s3 (fun j => 2 ^ (cb_sw fr to i).2.2 j) := e3
    have g := hG.2 i hi
    have lt := cb_sw_lt hG i (by omega)
    have rl := (F i (by omega)).1
    have ci : (nI i).toNatClampNeg = i := cb_cl' (by omega)
    have A1 : a1 (nI i).toNatClampNeg = nI (fr i) := by rw [ci, h1 i hi]
    have A2 : a2 (nI i).toNatClampNeg = nI (to i) := by rw [ci, h2 i hi]
    have X2 : s2 (a1 (nI i).toNatClampNeg).toNatClampNeg = nI ((cb_sw fr to i).1 (fr i)) := by rw [A1, cb_cl' (by omega), e2' _ g.1]
    have X3 : s2 (a2 (nI i).toNatClampNeg).toNatClampNeg = nI ((cb_sw fr to i).1 (to i)) := by rw [A2, cb_cl' (by omega), e2' _ g.2.1]
    refine pk_le n i (fun z => absurd z (by omega)) (fun _ => ⟨pk_in i 12 (by omega), pk_in (fr i) 7 g.1 A1, nm_r X2 ⟨pk_in i 12 (by omega), pk_in (to i) 7 g.2.1 A2, nm_r X3 ?_⟩⟩)
    have l1 := lt (fr i) g.1
    have l2 := lt (to i) g.2.1
    refine pk_eq ((cb_sw fr to i).1 (fr i)) ((cb_sw fr to i).1 (to i)) (fun z => ?_) (fun z => ?_)
    · have q : cb_sw fr to (i + 1) = ((cb_sw fr to i).1, (cb_sw fr to i).2.1 + 1, cb_up (cb_sw fr to i).2.2 (cb_sw fr to i).2.1 i) := by
        rw [cb_sw, if_pos z]
      refine ⟨pk_in (cb_sw fr to i).2.1 12 (by omega) e1', nm_e (nm_r (e' := nI ((cb_sw fr to i).2.1 + 1)) (by rw [show s1 = _ from e1', nI_1]) (nm_r (nI_1 i) (hw (nI ((cb_sw fr to i).2.1 + 1), s2, upd s3 s1.toNatClampNeg ((1 : Int32) <<< (nI i &&& 31))) ?_)))⟩
      rw [q]
      refine ⟨rfl, e2', fun j hj => ?_⟩
      show upd s3 (s1.toNatClampNeg) ((1 : Int32) <<< (nI i &&& 31)) j = nI (2 ^ cb_up (cb_sw fr to i).2.2 (cb_sw fr to i).2.1 i j)
      rw [e1', cb_cl' (by omega), cb_isl i (by omega)]
      by_cases c : j = (cb_sw fr to i).2.1
      · rw [c, pk_us, cb_ups]
      · rw [pk_un c, cb_upn _ _ _ _ c]
        have hj' : j < (cb_sw fr to i).2.1 + 1 := hj
        exact e3' j (by omega)
    · have q : cb_sw fr to (i + 1) = (fun v => if (cb_sw fr to i).1 v = (cb_sw fr to i).1 (to i) then (cb_sw fr to i).1 (fr i) else (cb_sw fr to i).1 v, (cb_sw fr to i).2.1, (cb_sw fr to i).2.2) := by
        rw [cb_sw, if_neg z]
      refine cb_sw93 l1 l2 lt e2' (fun b4 hb4 => ?_)
      refine hw (s1, b4, s3) ?_
      rw [q]
      exact ⟨e1', hb4, e3'⟩
theorem cb_starts {post : St1 → Prop} {n : Nat} {fr to wt : Nat → Nat} (hG : cb_G n fr to wt) (h1 : cb_m n a1 fr) (h2 : cb_m n a2 to)
    (H : ∀ b4 b5, cb_m (cb_rk n fr to) b5 (fun j => 2 ^ cb_ne n fr to j) → post (nI n, nI (cb_rk n fr to), f2, f3, f4, a1, a2, a3, b4, b5, a6, a7, a8, a9, a10, a11)) :
    wpX_startWitnesses post (nI n, f1, f2, f3, f4, a1, a2, a3, a4, a5, a6, a7, a8, a9, a10, a11) := by
  unfold wpX_startWitnesses
  refine pk_loop (fun k i s => wX_startWitnesses_7 post (nI n) 0 f2 f3 f4 k (nI i) a1 a2 a3 s a5 a6 a7 a8 a9 a10 a11) (fun i s => cb_m i s (fun v => v)) 7 0 a4 (by omega) (fun j hj => absurd hj (by omega)) ?_ ?_
  · intro k s h
    exact pk_le 7 7 (fun _ => cb_sw28 hG h1 h2 h H) (fun z => absurd z (by omega))
  · intro k i s hi h hw
    refine pk_le 7 i (fun z => absurd z (by omega)) (fun _ => ⟨pk_in i 7 hi, nm_e (nm_r (nI_1 i) (hw _ (fun j hj => ?_)))⟩)
    rw [cb_cl' (by omega)]
    by_cases c : j = i
    · rw [c, pk_us]
    · rw [pk_un c]
      exact h j (by omega)
end
section
/-! the walk: nearest, relax, searchFrom, lightest -/
variable {f0 f1 f2 f3 f4 : Int32} {a1 a2 a3 a4 a5 a6 a7 a8 a9 a10 a11 : Nat → Int32}
/-- nearest's answer -/
def cb_oi (o : Option Nat) : Int32 := match o with
  | none => -1
  | some b => nI b
/-- an array of booleans -/
def cb_mb (a : Nat → Int32) (f : Nat → Bool) : Prop := ∀ j, j < 14 → a j = if f j = true then 1 else 0
theorem cb_near {post : Int32 → Prop} {d : Nat → Nat} {dn : Nat → Bool} (h8 : cb_m 14 a8 d) (h10 : cb_mb a10 dn) (hd : ∀ j, j < 14 → d j ≤ 1000000) (H : post (cb_oi (cb_nr d dn 14))) : wpX_nearest post (f0, f1, f2, f3, f4, a1, a2, a3, a4, a5, a6, a7, a8, a9, a10, a11) := by
  unfold wpX_nearest
  refine pk_loop (fun k i s => wX_nearest_4 post f0 f1 f2 f3 f4 a1 a2 a3 a4 a5 a6 a7 a8 a9 a10 a11 k s (nI i)) (fun i s => s = cb_oi (cb_nr d dn i)) 14 0 (-1) (by omega) rfl ?_ ?_
  · intro k s h
    have h' : s = cb_oi (cb_nr d dn 14) := h
    subst h'
    exact pk_le 14 14 (fun _ => H) (fun z => absurd z (by omega))
  · intro k i s hi h hw
    have h' : s = cb_oi (cb_nr d dn i) := h
    have ci : (nI i).toNatClampNeg = i := cb_cl' (by omega)
    have A10 : a10 (nI i).toNatClampNeg = if dn i = true then 1 else 0 := by rw [ci, h10 i hi]
    have A8 : a8 (nI i).toNatClampNeg = nI (d i) := by rw [ci, h8 i hi]
    have di := hd i hi
    refine pk_le 14 i (fun z => absurd z (by omega)) (fun _ => ⟨pk_in i 14 hi, ?_⟩)
    cases q : dn i
    · refine br_t (by rw [A10, q]; rfl) ⟨pk_in i 14 hi, ?_⟩
      refine pk_le 1000000 (d i) (fun z => nm_r (nI_1 i) (hw _ ?_)) (fun z => ?_) rfl A8
      · show s = cb_oi (cb_nr d dn (i + 1))
        rw [h', cb_nr, if_neg (by omega)]
      · cases o : cb_nr d dn i with
        | none =>
          rw [o] at h'
          refine br_t (by rw [h']; decide) (nm_r (nI_1 i) (hw _ ?_))
          show nI i = cb_oi (cb_nr d dn (i + 1))
          rw [cb_nr, if_pos ⟨q, z⟩, o]
          rfl
        | some b =>
          rw [o] at h'
          have hb : s = nI b := h'
          obtain ⟨b1, b2, b3, b4⟩ := cb_nr_s d dn i b o
          have A8b : a8 s.toNatClampNeg = nI (d b) := by rw [hb, cb_cl' (by omega), h8 b (by omega)]
          refine br_f (by rw [hb]; exact nI_pos (by omega)) ⟨pk_in i 14 hi, pk_in b 14 (by omega) hb, ?_⟩
          refine pk_le (d b) (d i) (fun y => nm_r (nI_1 i) (hw _ ?_)) (fun y => nm_r (nI_1 i) (hw _ ?_)) A8b A8
          · show s = cb_oi (cb_nr d dn (i + 1))
            rw [hb, cb_nr, if_pos ⟨q, z⟩, o]
            show nI b = cb_oi (if d i < d b then some i else some b)
            rw [if_neg (by omega)]
            rfl
          · show nI i = cb_oi (cb_nr d dn (i + 1))
            rw [cb_nr, if_pos ⟨q, z⟩, o]
            show nI i = cb_oi (if d i < d b then some i else some b)
            rw [if_pos y]
            rfl
    · refine br_f (by rw [A10, q]; decide) (nm_r (nI_1 i) (hw _ ?_))
      show s = cb_oi (cb_nr d dn (i + 1))
      rw [h', cb_nr, if_neg (by rw [q]; simp)]
theorem cb_r111 {post : St1 → Prop} {x e y : Nat} {d w wt : Nat → Nat} (hx : x < 14) (hy : y < 14) (he : e < 12) (h3 : a3 e = nI (wt e)) (hw : wt e ≤ 100) (h8 : cb_m 14 a8 d) (h9 : cb_m 14 a9 w) (hd : ∀ j, j < 14 → d j ≤ 1000000)
    (H0 : ¬ d x + wt e < d y → post (f0, f1, f2, f3, f4, a1, a2, a3, a4, a5, a6, a7, a8, a9, a10, a11)) (H1 : d x + wt e < d y → ∀ b8 b9, cb_m 14 b8 (cb_up d y (d x + wt e)) → cb_m 14 b9 (cb_up w y (w x ^^^ 2 ^ e)) → post (f0, f1, f2, f3, f4, a1, a2, a3, a4, a5, a6, a7, b8, b9, a10, a11)) :
    wX_relax_111 post (nI x) (nI e) (nI y) f0 f1 f2 f3 f4 a1 a2 a3 a4 a5 a6 a7 a8 a9 a10 a11 := by
  have cx : (nI x).toNatClampNeg = x := cb_cl' (by omega)
  have ce : (nI e).toNatClampNeg = e := cb_cl' (by omega)
  have cy : (nI y).toNatClampNeg = y := cb_cl' (by omega)
  have dx := hd x hx
  have dy := hd y hy
  have Q : a8 (nI x).toNatClampNeg + a3 (nI e).toNatClampNeg = nI (d x + wt e) := by rw [cx, ce, h8 x hx, h3, nI_add]
  have Y : a8 (nI y).toNatClampNeg = nI (d y) := by rw [cy, h8 y hy]
  have R : a9 (nI x).toNatClampNeg ^^^ ((1 : Int32) <<< (nI e &&& 31)) = nI (w x ^^^ 2 ^ e) := by rw [cx, h9 x hx, cb_isl e (by omega), cb_ixor]
  refine ⟨pk_in x 14 hx, pk_in e 12 he, pk_in y 14 hy, ?_⟩
  exact pk_le (d y) (d x + wt e) (fun z => H0 (by omega)) (fun z => ⟨pk_in x 14 hx, pk_in e 12 he, pk_in y 14 hy, nm_e ⟨pk_in x 14 hx, pk_in y 14 hy, nm_e (H1 z _ _ (cb_m_up h8 y _ cy Q) (cb_m_up h9 y _ cy R))⟩⟩) Y Q (by omega) (by omega)
theorem cb_r55 {post : St1 → Prop} {x e S w : Nat} (hx : x < 14) (he : e < 12) (hS : S < 2 ^ 31) (H : wX_relax_111 post (nI x) (nI e) (nI (w + (if (decide (7 ≤ x) ^^ S.testBit e) = true then 7 else 0))) f0 f1 f2 f3 f4 a1 a2 a3 a4 a5 a6 a7 a8 a9 a10 a11) :
    wX_relax_55 post (nI x) (nI e) (nI S) (nI w) f0 f1 f2 f3 f4 a1 a2 a3 a4 a5 a6 a7 a8 a9 a10 a11 := by
  have w7 : nI w + 7 = nI (w + 7) := nI_add w 7
  refine ek_if (cb_ibit1 S e hS (by omega)) (fun hb => ?_) (fun hb => ?_)
  · refine pk_lt x 7 (fun z => ?_) (fun z => ?_)
    · refine br_f (by decide) (br_f (by decide) ?_)
      rw [hb, show decide (7 ≤ x) = false from by simp; omega, if_pos (show (false ^^ true) = true from rfl)] at H
      rw [w7]
      exact H
    · refine br_t rfl (br_t rfl ?_)
      rw [hb, show decide (7 ≤ x) = true from by simpa using z, if_neg (by simp)] at H
      exact H
  · have hb' : S.testBit e = false := by simpa using hb
    refine pk_lt x 7 (fun z => ?_) (fun z => ?_)
    · refine br_t rfl (br_t rfl ?_)
      rw [hb', show decide (7 ≤ x) = false from by simp; omega, if_neg (by simp)] at H
      exact H
    · refine br_f (by decide) (br_f (by decide) ?_)
      rw [hb', show decide (7 ≤ x) = true from by simpa using z, if_pos (show (true ^^ false) = true from rfl)] at H
      rw [w7]
      exact H
theorem cb_r29 {post : St1 → Prop} {n : Nat} {fr to wt : Nat → Nat} (hG : cb_G n fr to wt) (h1 : cb_m n a1 fr) (h2 : cb_m n a2 to) (h3 : cb_m n a3 wt) {x e S : Nat} {p : (Nat → Nat) × (Nat → Nat)} (hx : x < 14) (he : e < n) (hS : S < 2 ^ 31)
    (h8 : cb_m 14 a8 p.1) (h9 : cb_m 14 a9 p.2) (hd : ∀ j, j < 14 → p.1 j ≤ 1000000) (hi : x % 7 = fr e ∨ x % 7 = to e)
    (H : ∀ b8 b9, cb_m 14 b8 (cb_rx fr to wt S x e p).1 → cb_m 14 b9 (cb_rx fr to wt S x e p).2 → post (f0, f1, f2, f3, f4, a1, a2, a3, a4, a5, a6, a7, b8, b9, a10, a11)) :
    wX_relax_29 post (nI x) (nI e) (nI S) (nI (x % 7)) f0 f1 f2 f3 f4 a1 a2 a3 a4 a5 a6 a7 a8 a9 a10 a11 := by
  have hn := hG.1
  have g := hG.2 e he
  have ce : (nI e).toNatClampNeg = e := cb_cl' (by omega)
  have A1 : a1 (nI e).toNatClampNeg = nI (fr e) := by rw [ce, h1 e he]
  have A2 : a2 (nI e).toNatClampNeg = nI (to e) := by rw [ce, h2 e he]
  have key : wX_relax_111 post (nI x) (nI e) (nI (cb_tg fr to S x e)) f0 f1 f2 f3 f4 a1 a2 a3 a4 a5 a6 a7 a8 a9 a10 a11 := by
    refine cb_r111 hx (cb_tg_lt hG S x e he) (by omega) (h3 e he) g.2.2.2.2 h8 h9 hd (fun z => ?_) (fun z b8 b9 k8 k9 => ?_)
    · refine H a8 a9 ?_ ?_
      · rw [cb_rx, if_neg (fun w => z w.2)]; exact h8
      · rw [cb_rx, if_neg (fun w => z w.2)]; exact h9
    · refine H b8 b9 ?_ ?_
      · rw [cb_rx, if_pos ⟨hi, z⟩]; exact k8
      · rw [cb_rx, if_pos ⟨hi, z⟩]; exact k9
  unfold wX_relax_29
  rw [A1, A2]
  refine ⟨pk_in e 12 (by omega), pk_eq (x % 7) (fr e) (fun z => ⟨pk_in e 12 (by omega), cb_r55 hx (by omega) hS ?_⟩) (fun z => ⟨pk_in e 12 (by omega), cb_r55 hx (by omega) hS ?_⟩)⟩
  · rw [cb_tg, if_pos z] at key
    exact key
  · rw [cb_tg, if_neg z] at key
    exact key
theorem cb_relax {post : St1 → Prop} {n : Nat} {fr to wt : Nat → Nat} (hG : cb_G n fr to wt) (h1 : cb_m n a1 fr) (h2 : cb_m n a2 to) (h3 : cb_m n a3 wt) {x e S : Nat} {p : (Nat → Nat) × (Nat → Nat)} (hx : x < 14) (he : e < n) (hS : S < 2 ^ 31)
    (h8 : cb_m 14 a8 p.1) (h9 : cb_m 14 a9 p.2) (hd : ∀ j, j < 14 → p.1 j ≤ 1000000)
    (H : ∀ b8 b9, cb_m 14 b8 (cb_rx fr to wt S x e p).1 → cb_m 14 b9 (cb_rx fr to wt S x e p).2 → post (f0, f1, f2, f3, f4, a1, a2, a3, a4, a5, a6, a7, b8, b9, a10, a11)) :
    wpX_relax post (f0, f1, f2, f3, f4, a1, a2, a3, a4, a5, a6, a7, a8, a9, a10, a11) (nI x) (nI e) (nI S) := by
  have hn := hG.1
  have g := hG.2 e he
  have ce : (nI e).toNatClampNeg = e := cb_cl' (by omega)
  have A1 : a1 (nI e).toNatClampNeg = nI (fr e) := by rw [ce, h1 e he]
  have A2 : a2 (nI e).toNatClampNeg = nI (to e) := by rw [ce, h2 e he]
  have X : nI x - nI x / 7 * 7 = nI (x % 7) := pk_rem (a := x) (d := 7) (by omega) (by omega) (by omega)
  unfold wpX_relax
  refine ⟨by decide, nm_r X ⟨pk_in e 12 (by omega), ?_⟩⟩
  refine pk_eq (x % 7) (fr e) (fun z => cb_r29 hG h1 h2 h3 hx he hS h8 h9 hd (Or.inl z) H) (fun z => ⟨pk_in e 12 (by omega), ?_⟩) rfl A1
  refine pk_eq (x % 7) (to e) (fun y => cb_r29 hG h1 h2 h3 hx he hS h8 h9 hd (Or.inr y) H) (fun y => H a8 a9 ?_ ?_) rfl A2
  · rw [cb_rx, if_neg (fun w => by rcases w.1 with q | q; exact z q; exact y q)]; exact h8
  · rw [cb_rx, if_neg (fun w => by rcases w.1 with q | q; exact z q; exact y q)]; exact h9
theorem cb_s77 {post : St1 → Prop} {J : Int32 → Int32 → Int32 → Int32 → Int32 → Int32 → Int32 → (Nat → Int32) → (Nat → Int32) → (Nat → Int32) → (Nat → Int32) → (Nat → Int32) → (Nat → Int32) → (Nat → Int32) → (Nat → Int32) → (Nat → Int32) → (Nat → Int32) → (Nat → Int32) → Prop}
    {n : Nat} {fr to wt : Nat → Nat} (hG : cb_G n fr to wt) (h1 : cb_m n a1 fr) (h2 : cb_m n a2 to) (h3 : cb_m n a3 wt) {x c S wo st : Nat} {wi : Int32} (hwi : ∀ k, k < 12 → (nI k = wi ↔ k = wo)) {p : (Nat → Nat) × (Nat → Nat)} {dn : Nat → Bool} (hx : x < 14) (hS : S < 2 ^ 31)
    (hA : cb_A n fr to wt S wo st p) (hd : ∀ j, j < 14 → p.1 j ≤ 1000000) (h8 : cb_m 14 a8 p.1) (h9 : cb_m 14 a9 p.2) (h10 : cb_mb a10 dn)
    (H : ∀ b8 b9, cb_m 14 b8 (cb_rs fr to wt S x wo n p).1 → cb_m 14 b9 (cb_rs fr to wt S x wo n p).2 → J (cb_oi (cb_nr (cb_rs fr to wt S x wo n p).1 dn 14)) (nI (c + 1)) (nI n) f1 f2 f3 f4 a1 a2 a3 a4 a5 a6 a7 b8 b9 a10 a11) :
    ∃ k, wX_searchFrom_77 post J (nI S) wi (nI x) (nI c) k 0 (nI n) f1 f2 f3 f4 a1 a2 a3 a4 a5 a6 a7 a8 a9 a10 a11 := by
  have hn := hG.1
  have R := cb_rs_ok hG S wo st x hx p hd hA
  refine pk_loop (fun k i s => wX_searchFrom_77 post J (nI S) wi (nI x) (nI c) k (nI i) (nI n) f1 f2 f3 f4 a1 a2 a3 a4 a5 a6 a7 s.1 s.2 a10 a11)
    (fun i (s : (Nat → Int32) × (Nat → Int32)) => cb_m 14 s.1 (cb_rs fr to wt S x wo i p).1 ∧ cb_m 14 s.2 (cb_rs fr to wt S x wo i p).2) n 0 (a8, a9) (by omega) ⟨h8, h9⟩ ?_ ?_
  · rintro k ⟨s1, s2⟩ ⟨e1, e2⟩
    refine pk_le n n (fun _ => ?_) (fun z => absurd z (by omega))
    refine cb_near (d := (cb_rs fr to wt S x wo n p).1) (dn := dn) e1 h10 (fun j hj => Nat.le_trans ((R n (Nat.le_refl n)).2.1 j) (hd j hj)) (nm_r (nI_1 c) (H s1 s2 e1 e2))
  · rintro k i ⟨s1, s2⟩ hi ⟨e1, e2⟩ hw
    refine pk_le n i (fun z => absurd z (by omega)) (fun _ => ?_)
    refine ek_if (hwi i (by omega)) (fun z => nm_r (nI_1 i) (hw (s1, s2) ?_)) (fun z => ?_)
    · rw [cb_rs, if_pos z]
      exact ⟨e1, e2⟩
    · refine cb_relax (p := cb_rs fr to wt S x wo i p) hG h1 h2 h3 hx hi hS e1 e2 (fun j hj => Nat.le_trans ((R i (by omega)).2.1 j) (hd j hj)) (fun b8 b9 k8 k9 => nm_r (nI_1 i) (hw (b8, b9) ?_))
      rw [cb_rs, if_neg z]
      exact ⟨k8, k9⟩
theorem cb_mb_up {a : Nat → Int32} {dn : Nat → Bool} (h : cb_mb a dn) (x : Nat) {i : Nat} (hi : i = x) : cb_mb (upd a i 1) (cb_ub dn x) := by
  intro j hj
  rw [hi]
  by_cases c : j = x
  · rw [c, pk_us]
    simp [cb_ub]
  · rw [pk_un c, h j hj]
    simp [cb_ub, c]
theorem cb_s54 {post : St1 → Prop} {n : Nat} {fr to wt : Nat → Nat} (hG : cb_G n fr to wt) (h1 : cb_m n a1 fr) (h2 : cb_m n a2 to) (h3 : cb_m n a3 wt) {S wo st : Nat} {wi : Int32} (hwi : ∀ k, k < 12 → (nI k = wi ↔ k = wo)) (hS : S < 2 ^ 31) :
    ∀ m c cur p dn b8 b9 b10, c + m = 14 → cb_DI n fr to wt S wo st m cur p dn → cb_m 14 b8 p.1 → cb_m 14 b9 p.2 → cb_mb b10 dn →
      (∀ d8 d9 d10, cb_m 14 d8 (cb_dj n fr to wt S wo m cur p dn).1 → cb_m 14 d9 (cb_dj n fr to wt S wo m cur p dn).2 → post (nI n, f1, f2, f3, f4, a1, a2, a3, a4, a5, a6, a7, d8, d9, d10, a11)) →
      wX_searchFrom_54 post (nI S) wi (m + 1) (cb_oi cur) (nI c) (nI n) f1 f2 f3 f4 a1 a2 a3 a4 a5 a6 a7 b8 b9 b10 a11 := by
  intro m
  induction m with
  | zero =>
    intro c cur p dn b8 b9 b10 hc _ h8 h9 _ H
    have c14 : c = 14 := by omega
    subst c14
    exact pk_le 14 14 (fun _ => H b8 b9 b10 h8 h9) (fun z => absurd z (by omega))
  | succ m ih =>
    intro c cur p dn b8 b9 b10 hc hI h8 h9 h10 H
    refine pk_le 14 c (fun z => absurd z (by omega)) (fun _ => ?_)
    cases cur with
    | none => exact br_t (by decide) (H b8 b9 b10 h8 h9)
    | some x =>
      have I8 := hI.2.2.2.2.2.2.2 x rfl
      refine br_f (nI_pos (by omega)) ⟨pk_in x 14 I8.1, nm_e ?_⟩
      refine cb_s77 hG h1 h2 h3 hwi I8.1 hS hI.2.2.2.2.2.1 hI.1 h8 h9 (cb_mb_up h10 x (cb_cl' (by omega))) (fun d8 d9 k8 k9 => ?_)
      exact ih (c + 1) _ _ _ d8 d9 _ (by omega) (cb_DI_s hG hI) k8 k9 (cb_mb_up h10 x (cb_cl' (by omega))) H
theorem cb_DI0 {n : Nat} {fr to wt : Nat → Nat} (S wo st : Nat) (hs : st < 7) : cb_DI n fr to wt S wo st 14 (some st) (cb_p0 st) (fun _ => false) := by
  have P0 : (cb_p0 st).1 st = 0 := by simp [cb_p0]
  have P1 : ∀ y, y ≠ st → (cb_p0 st).1 y = 1000000 := fun y hy => by simp [cb_p0, hy]
  refine ⟨fun y _ => ?_, fun y _ hd => by simp at hd, cb_cn_le _ 14, fun y _ hf => ?_, P0, fun y hy hf => ?_, fun h => by simp at h, fun x hx => ?_⟩
  · by_cases c : y = st
    · rw [c, P0]; omega
    · rw [P1 y c]; omega
  · by_cases c : y = st
    · rw [c, P0]; omega
    · rw [P1 y c] at hf; omega
  · by_cases c : y = st
    · rw [c, P0]
      show (0 : Nat) < 2 ^ n ∧ (0 : Nat).testBit wo = false ∧ (∀ v, cb_bd fr to n v 0 = ((st == v) ^^ (st % 7 == v))) ∧ cb_dot 0 S = decide (7 ≤ st) ∧ cb_w wt n 0 ≤ 0
      refine ⟨Nat.two_pow_pos n, Nat.zero_testBit wo, fun v => ?_, ?_, by rw [cb_w_0]; omega⟩
      · rw [cb_bd_0, Nat.mod_eq_of_lt hs]
        cases (st == v) <;> rfl
      · rw [cb_dot_0l]
        simp
        omega
    · rw [P1 y c] at hf; omega
  · have e : st = x := by simpa using hx
    rw [← e]
    refine ⟨by omega, rfl, by rw [P0]; omega, fun y _ _ => by rw [P0]; omega, fun y _ hd => by simp at hd⟩
theorem cb_search {post : St1 → Prop} {n : Nat} {fr to wt : Nat → Nat} (hG : cb_G n fr to wt) (h1 : cb_m n a1 fr) (h2 : cb_m n a2 to) (h3 : cb_m n a3 wt) {S wo st : Nat} {wi : Int32} (hwi : ∀ k, k < 12 → (nI k = wi ↔ k = wo)) (hS : S < 2 ^ 31) (hst : st < 7)
    (H : ∀ d8 d9 d10, cb_m 14 d8 (cb_sr n fr to wt S wo st).1 → cb_m 14 d9 (cb_sr n fr to wt S wo st).2 → post (nI n, f1, f2, f3, f4, a1, a2, a3, a4, a5, a6, a7, d8, d9, d10, a11)) :
    wpX_searchFrom post (nI n, f1, f2, f3, f4, a1, a2, a3, a4, a5, a6, a7, a8, a9, a10, a11) (nI st) (nI S) wi := by
  unfold wpX_searchFrom
  refine pk_loop (fun k i s => wX_searchFrom_3 post (nI st) (nI S) wi (nI n) f1 f2 f3 f4 k (nI i) a1 a2 a3 a4 a5 a6 a7 s.1 s.2.1 s.2.2 a11)
    (fun i (s : (Nat → Int32) × (Nat → Int32) × (Nat → Int32)) => cb_m i s.1 (fun _ => 1000000) ∧ cb_m i s.2.1 (fun _ => 0) ∧ ∀ j, j < i → s.2.2 j = 0) 14 0 (a8, a9, a10) (by omega)
    ⟨fun j hj => absurd hj (by omega), fun j hj => absurd hj (by omega), fun j hj => absurd hj (by omega)⟩ ?_ ?_
  · rintro k ⟨s1, s2, s3⟩ ⟨e1, e2, e3⟩
    refine pk_le 14 14 (fun _ => ⟨pk_in st 14 (by omega), nm_e ⟨15, ?_⟩⟩) (fun z => absurd z (by omega))
    refine cb_s54 hG h1 h2 h3 hwi hS 14 0 (some st) (cb_p0 st) (fun _ => false) _ s2 s3 (by omega) (cb_DI0 S wo st hst) ?_ e2 (fun j hj => e3 j hj) H
    intro j hj
    rw [cb_cl' (by omega)]
    by_cases c : j = st
    · rw [c, pk_us]
      simp [cb_p0]
      rfl
    · rw [pk_un c, e1 j hj]
      simp [cb_p0, c]
  · rintro k i ⟨s1, s2, s3⟩ hi ⟨e1, e2, e3⟩ hw
    have ci : (nI i).toNatClampNeg = i := cb_cl' (by omega)
    refine pk_le 14 i (fun z => absurd z (by omega)) (fun _ => ⟨pk_in i 14 hi, nm_e ⟨pk_in i 14 hi, nm_e ⟨pk_in i 14 hi, nm_e (nm_r (nI_1 i) (hw (_, _, _) ⟨fun j hj => ?_, fun j hj => ?_, fun j hj => ?_⟩))⟩⟩⟩)
    · show upd s1 (nI i).toNatClampNeg 1000000 j = nI 1000000
      rw [ci]
      by_cases c : j = i
      · rw [c, pk_us]; rfl
      · rw [pk_un c]; exact e1 j (by omega)
    · show upd s2 (nI i).toNatClampNeg 0 j = nI 0
      rw [ci]
      by_cases c : j = i
      · rw [c, pk_us]; rfl
      · rw [pk_un c]; exact e2 j (by omega)
    · show upd s3 (nI i).toNatClampNeg 0 j = 0
      rw [ci]
      by_cases c : j = i
      · rw [c, pk_us]
      · rw [pk_un c]; exact e3 j (by omega)
theorem cb_wm1 : ∀ k, k < 12 → (nI k = (-1 : Int32) ↔ k = 12) := by
  intro k hk
  constructor
  · intro h
    exact absurd h ((by decide +kernel : ∀ k, k < 12 → ¬ nI k = (-1 : Int32)) k hk)
  · intro h
    omega
theorem cb_we (e : Nat) (he : e < 12) : ∀ k, k < 12 → (nI k = nI e ↔ k = e) := fun k hk => nI_eq (by omega) (by omega)
theorem cb_lt_bs {n : Nat} {fr to wt : Nat → Nat} (hG : cb_G n fr to wt) (S k : Nat) : (cb_lt n fr to wt S k).1 ≤ 1000000 := (cb_lt_ok n fr to wt S k).1
theorem cb_lightw {post : St1 → Prop} {n : Nat} {fr to wt : Nat → Nat} (hG : cb_G n fr to wt) (h1 : cb_m n a1 fr) (h2 : cb_m n a2 to) (h3 : cb_m n a3 wt) {S : Nat} (hS : S < 2 ^ 31)
    (H : ∀ b8 b9 b10, post (nI n, f1, f2, nI (cb_bw n fr to wt S), nI (cb_bs n fr to wt S), a1, a2, a3, a4, a5, a6, a7, b8, b9, b10, a11)) :
    wpX_lightest post (nI n, f1, f2, f3, f4, a1, a2, a3, a4, a5, a6, a7, a8, a9, a10, a11) (nI S) := by
  unfold wpX_lightest
  refine pk_loop (fun k i s => wX_lightest_13 post (nI S) k (nI i) (nI n) f1 f2 s.1 s.2.1 a1 a2 a3 a4 a5 a6 a7 s.2.2.1 s.2.2.2.1 s.2.2.2.2 a11)
    (fun i (s : Int32 × Int32 × (Nat → Int32) × (Nat → Int32) × (Nat → Int32)) => s.1 = nI (cb_lt n fr to wt S i).1 ∧ s.2.1 = nI (cb_lt n fr to wt S i).2) 7 0 (1000000, 0, a8, a9, a10) (by omega) ⟨rfl, rfl⟩ ?_ ?_
  · rintro k ⟨s1, s2, s3, s4, s5⟩ ⟨e1, e2⟩
    have e1' : s1 = nI (cb_bw n fr to wt S) := e1
    have e2' : s2 = nI (cb_bs n fr to wt S) := e2
    subst e1'
    subst e2'
    exact pk_le 7 7 (fun _ => H s3 s4 s5) (fun z => absurd z (by omega))
  · rintro k i ⟨s1, s2, s3, s4, s5⟩ hi ⟨e1, e2⟩ hw
    have e1' : s1 = nI (cb_lt n fr to wt S i).1 := e1
    have e2' : s2 = nI (cb_lt n fr to wt S i).2 := e2
    have i7 : nI i + 7 = nI (i + 7) := nI_add i 7
    have c7 : (nI i + 7).toNatClampNeg = i + 7 := by rw [i7]; exact cb_cl' (by omega)
    have L := (cb_lt_ok n fr to wt S i).1
    refine pk_le 7 i (fun z => absurd z (by omega)) (fun _ => ?_)
    refine cb_search hG h1 h2 h3 cb_wm1 hS hi (fun d8 d9 d10 k8 k9 => ?_)
    have D8 : d8 (nI i + 7).toNatClampNeg = nI ((cb_sr n fr to wt S 12 i).1 (i + 7)) := by rw [c7, k8 (i + 7) (by omega)]
    have D9 : d9 (nI i + 7).toNatClampNeg = nI ((cb_sr n fr to wt S 12 i).2 (i + 7)) := by rw [c7, k9 (i + 7) (by omega)]
    have U := (cb_sr_ok hG S 12 i hi).1 (i + 7) (by omega)
    refine ⟨pk_in (i + 7) 14 (by omega) i7, pk_le (cb_lt n fr to wt S i).1 ((cb_sr n fr to wt S 12 i).1 (i + 7)) (fun z => nm_r (nI_1 i) (hw (s1, s2, d8, d9, d10) ?_))
      (fun z => ⟨pk_in (i + 7) 14 (by omega) i7, nm_r D8 ⟨pk_in (i + 7) 14 (by omega) i7, nm_r D9 (nm_r (nI_1 i) (hw (_, _, d8, d9, d10) ?_))⟩⟩) e1' D8⟩
    · rw [cb_lt, if_neg (by omega)]
      exact ⟨e1', e2'⟩
    · rw [cb_lt, if_pos z]
      exact ⟨rfl, rfl⟩
end
section
/-! the walk: addCycle, solve -/
variable {f0 f1 f2 f3 f4 : Int32} {a1 a2 a3 a4 a5 a6 a7 a8 a9 a10 a11 : Nat → Int32}
theorem cb_ins_m {i p c b : Nat} {A : Nat → Nat × Nat} {b6 : Nat → Int32} {x : Int32} {q : Nat} (u : Nat × Nat → Nat) (hq : q = p) (hp : p ≤ i) (hx : x = nI (u (c, b))) (lo : ∀ k, k < p → b6 k = nI (u (A k))) (hi : ∀ k, p < k → k ≤ i → b6 k = nI (u (A (k - 1)))) :
    cb_m (i + 1) (upd b6 q x) (fun k => u (cb_ins p (c, b) A k)) := by
  intro j hj
  show upd b6 q x j = nI (u (cb_ins p (c, b) A j))
  rw [hq]
  by_cases e : j < p
  · rw [pk_un (by omega), cb_ins_lo e, lo j e]
  · by_cases d : j = p
    · rw [d, pk_us, cb_ins_at, hx]
    · rw [pk_un d, cb_ins_hi (by omega), hi j (by omega) (by omega)]
theorem cb_sh_lo {m : Nat} {A : Nat → Nat × Nat} {b6 : Nat → Int32} {x : Int32} {q : Nat} (u : Nat × Nat → Nat) (hq : q = m + 1) (lo : ∀ k, k < m + 1 → b6 k = nI (u (A k))) : ∀ k, k < m → upd b6 q x k = nI (u (A k)) := by
  intro k hk
  rw [hq, pk_un (by omega), lo k (by omega)]
theorem cb_sh_hi {m i : Nat} {A : Nat → Nat × Nat} {b6 : Nat → Int32} {x : Int32} {q : Nat} (u : Nat × Nat → Nat) (hq : q = m + 1) (hx : x = b6 m) (lo : ∀ k, k < m + 1 → b6 k = nI (u (A k))) (hi : ∀ k, m + 1 < k → k ≤ i → b6 k = nI (u (A (k - 1)))) :
    ∀ k, m < k → k ≤ i → upd b6 q x k = nI (u (A (k - 1))) := by
  intro k h1 h2
  rw [hq]
  by_cases e : k = m + 1
  · rw [e, pk_us, hx, lo m (by omega), Nat.add_sub_cancel]
  · rw [pk_un e, hi k (by omega) h2]
theorem cb_add {post : St1 → Prop} {i c b : Nat} {A : Nat → Nat × Nat} (hi : i < 12) (h6 : cb_m i a6 (fun k => (A k).1)) (h7 : cb_m i a7 (fun k => (A k).2)) (hA : ∀ k, k < i → (A k).2 < 2 ^ 31) (hb : b < 2 ^ 31)
    (H : ∀ b6 b7, cb_m (i + 1) b6 (fun k => (cb_ins (cb_pos (fun k => (A k).2) b i) (c, b) A k).1) → cb_m (i + 1) b7 (fun k => (cb_ins (cb_pos (fun k => (A k).2) b i) (c, b) A k).2) → post (f0, f1, nI (i + 1), f3, f4, a1, a2, a3, a4, a5, b6, b7, a8, a9, a10, a11)) :
    wpX_addCycle post (f0, f1, nI i, f3, f4, a1, a2, a3, a4, a5, a6, a7, a8, a9, a10, a11) (nI c) (nI b) := by
  have fin : ∀ m b6 b7, m ≤ i → cb_pos (fun k => (A k).2) b i = m → (∀ k, k < m → b6 k = nI (A k).1) → (∀ k, m < k → k ≤ i → b6 k = nI (A (k - 1)).1) → (∀ k, k < m → b7 k = nI (A k).2) → (∀ k, m < k → k ≤ i → b7 k = nI (A (k - 1)).2) →
      wX_addCycle_55 post (nI c) (nI b) (nI m) f0 f1 (nI i) f3 f4 a1 a2 a3 a4 a5 b6 b7 a8 a9 a10 a11 := by
    intro m b6 b7 hm hp l6 g6 l7 g7
    rw [hp] at H
    have cm : (nI m).toNatClampNeg = m := cb_cl' (by omega)
    exact ⟨pk_in m 12 (by omega), nm_e ⟨pk_in m 12 (by omega), nm_e (nm_r (nI_1 i) (H _ _ (cb_ins_m (fun x => x.1) cm hm rfl l6 g6) (cb_ins_m (fun x => x.2) cm hm rfl l7 g7)))⟩⟩
  have key : ∀ m, m ≤ i → cb_pos (fun k => (A k).2) b i = cb_pos (fun k => (A k).2) b m → ∀ b6 b7, (∀ k, k < m → b6 k = nI (A k).1) → (∀ k, m < k → k ≤ i → b6 k = nI (A (k - 1)).1) → (∀ k, k < m → b7 k = nI (A k).2) → (∀ k, m < k → k ≤ i → b7 k = nI (A (k - 1)).2) →
      wX_addCycle_5 post (nI c) (nI b) f0 f1 (nI i) f3 f4 (m + 1) (nI m) a1 a2 a3 a4 a5 b6 b7 a8 a9 a10 a11 := by
    intro m
    induction m with
    | zero =>
      intro hm hp b6 b7 l6 g6 l7 g7
      exact br_t (by decide) (fin 0 b6 b7 hm hp l6 g6 l7 g7)
    | succ m ih =>
      intro hm hp b6 b7 l6 g6 l7 g7
      have pm : nI (m + 1) - 1 = nI m := nI_pred m
      have c0 : (nI (m + 1) - 1).toNatClampNeg = m := by rw [pm]; exact cb_cl' (by omega)
      have c1 : (nI (m + 1)).toNatClampNeg = m + 1 := cb_cl' (by omega)
      have X : b7 (nI (m + 1) - 1).toNatClampNeg = nI (A m).2 := by rw [c0, l7 m (by omega)]
      have am := hA m (by omega)
      refine br_f (nI_nle (by omega) (by omega)) ⟨pk_in m 12 (by omega) pm, pk_le (A m).2 b (fun z => fin (m + 1) b6 b7 hm ?_ l6 g6 l7 g7) (fun z => ?_) X rfl⟩
      · rw [hp, cb_pos, if_neg (by omega)]
      · refine ⟨pk_in m 12 (by omega) pm, pk_in (m + 1) 12 (by omega), nm_e ⟨pk_in m 12 (by omega) pm, pk_in (m + 1) 12 (by omega), nm_e (nm_r (pk_m1 m) (ih (by omega) ?_ _ _ ?_ ?_ ?_ ?_))⟩⟩
        · rw [hp, cb_pos, if_pos z]
        · exact cb_sh_lo (fun x => x.1) c1 l6
        · exact cb_sh_hi (fun x => x.1) c1 (by rw [c0]) l6 g6
        · exact cb_sh_lo (fun x => x.2) c1 l7
        · exact cb_sh_hi (fun x => x.2) c1 (by rw [c0]) l7 g7
  exact ⟨i + 1, key i (Nat.le_refl i) rfl a6 a7 h6 (fun k h1 h2 => by omega) h7 (fun k h1 h2 => by omega)⟩
theorem cb_odd' {post : Int32 → Prop} {xi yi : Int32} (x y : Nat) (hx : x < 2 ^ 31) (e1 : xi = nI x) (e2 : yi = nI y) (H1 : cb_dot x y = true → post 1) (H0 : cb_dot x y = false → post 0) : wpX_oddlyMet post () xi yi := by
  subst e1
  subst e2
  exact cb_odd x y hx H1 H0
theorem cb_s45 {post : St1 → Prop} {J : Int32 → Int32 → Int32 → Int32 → Int32 → Int32 → (Nat → Int32) → (Nat → Int32) → (Nat → Int32) → (Nat → Int32) → (Nat → Int32) → (Nat → Int32) → (Nat → Int32) → (Nat → Int32) → (Nat → Int32) → (Nat → Int32) → (Nat → Int32) → Prop}
    {n : Nat} {fr to wt : Nat → Nat} (hG : cb_G n fr to wt) {i : Nat} (hi : i < cb_rk n fr to) (h5 : cb_m (cb_rk n fr to) a5 (cb_W n fr to wt i))
    (H : ∀ b5, cb_m (cb_rk n fr to) b5 (cb_W n fr to wt (i + 1)) → J (nI (i + 1)) f0 (nI (cb_rk n fr to)) f2 f3 (nI (cb_C n fr to wt i)) a1 a2 a3 a4 b5 a6 a7 a8 a9 a10 a11) :
    ∃ k, wX_solve_45 post J (nI i) f0 (nI (cb_rk n fr to)) f2 f3 (nI (cb_C n fr to wt i)) k (nI (i + 1)) a1 a2 a3 a4 a5 a6 a7 a8 a9 a10 a11 := by
  have hn := hG.1
  have hr := cb_rk_le hG
  have Wd : ∀ l, cb_W n fr to wt (i + 1) l = if i < l ∧ cb_dot (cb_W n fr to wt i l) (cb_C n fr to wt i) = true then cb_W n fr to wt i l ^^^ cb_W n fr to wt i i else cb_W n fr to wt i l := fun l => rfl
  refine pk_loop (fun k j s => wX_solve_45 post J (nI i) f0 (nI (cb_rk n fr to)) f2 f3 (nI (cb_C n fr to wt i)) k (nI j) a1 a2 a3 a4 s a6 a7 a8 a9 a10 a11)
    (fun j s => i + 1 ≤ j ∧ cb_m (cb_rk n fr to) s (fun l => if l < j then cb_W n fr to wt (i + 1) l else cb_W n fr to wt i l)) (cb_rk n fr to) (i + 1) a5 (by omega) ⟨Nat.le_refl _, cb_m_to h5 (fun l hl => ?_)⟩ ?_ ?_
  · by_cases c : l < i + 1
    · rw [if_pos c, Wd, if_neg (by omega)]
    · rw [if_neg c]
  · intro k s h
    refine pk_le (cb_rk n fr to) (cb_rk n fr to) (fun _ => nm_r (nI_1 i) (H s (cb_m_to h.2 (fun l hl => ?_)))) (fun z => absurd z (by omega))
    show (if l < cb_rk n fr to then cb_W n fr to wt (i + 1) l else cb_W n fr to wt i l) = cb_W n fr to wt (i + 1) l
    rw [if_pos hl]
  · rintro k j s hj ⟨hij, h⟩ hw
    have cj : (nI j).toNatClampNeg = j := cb_cl' (by omega)
    have ci : (nI i).toNatClampNeg = i := cb_cl' (by omega)
    have Sj : s (nI j).toNatClampNeg = nI (cb_W n fr to wt i j) := by
      rw [cj, h j hj]
      show nI (if j < j then _ else _) = _
      rw [if_neg (by omega)]
    have Si : s (nI i).toNatClampNeg = nI (cb_W n fr to wt i i) := by
      rw [ci, h i hi]
      show nI (if i < j then _ else _) = _
      rw [if_pos (by omega), Wd, if_neg (by omega)]
    refine pk_le (cb_rk n fr to) j (fun z => absurd z (by omega)) (fun _ => ⟨pk_in j 12 (by omega), cb_odd' _ (cb_C n fr to wt i) (cb_12 (cb_W_lt hG i j hj)) Sj rfl (fun d => ?_) (fun d => ?_)⟩)
    · refine br_f (by decide) ⟨pk_in j 12 (by omega), pk_in i 12 (by omega), pk_in j 12 (by omega), nm_e (nm_r (nI_1 j) (hw _ ⟨by omega, ?_⟩))⟩
      refine cb_m_to (cb_m_up h j (cb_W n fr to wt i j ^^^ cb_W n fr to wt i i) cj (by rw [Sj, Si, cb_ixor])) (fun l hl => ?_)
      show cb_up (fun l => if l < j then cb_W n fr to wt (i + 1) l else cb_W n fr to wt i l) j (cb_W n fr to wt i j ^^^ cb_W n fr to wt i i) l = if l < j + 1 then cb_W n fr to wt (i + 1) l else cb_W n fr to wt i l
      by_cases c : l = j
      · rw [c, cb_ups, if_pos (by omega), Wd, if_pos ⟨by omega, d⟩]
      · rw [cb_upn _ _ _ _ c]
        by_cases e : l < j
        · rw [if_pos e, if_pos (by omega)]
        · rw [if_neg e, if_neg (by omega)]
    · refine br_t rfl (nm_r (nI_1 j) (hw s ⟨by omega, cb_m_to h (fun l hl => ?_)⟩))
      show (if l < j then cb_W n fr to wt (i + 1) l else cb_W n fr to wt i l) = if l < j + 1 then cb_W n fr to wt (i + 1) l else cb_W n fr to wt i l
      by_cases c : l = j
      · rw [c, if_neg (by omega), if_pos (by omega), Wd, if_neg (by rw [d]; simp)]
      · by_cases e : l < j
        · rw [if_pos e, if_pos (by omega)]
        · rw [if_neg e, if_neg (by omega)]
theorem cb_lightw' {post : St1 → Prop} {n : Nat} {fr to wt : Nat → Nat} (hG : cb_G n fr to wt) (h1 : cb_m n a1 fr) (h2 : cb_m n a2 to) (h3 : cb_m n a3 wt) {S : Nat} {Si : Int32} (e : Si = nI S) (hS : S < 2 ^ 31)
    (H : ∀ b8 b9 b10, post (nI n, f1, f2, nI (cb_bw n fr to wt S), nI (cb_bs n fr to wt S), a1, a2, a3, a4, a5, a6, a7, b8, b9, b10, a11)) :
    wpX_lightest post (nI n, f1, f2, f3, f4, a1, a2, a3, a4, a5, a6, a7, a8, a9, a10, a11) Si := by
  subst e
  exact cb_lightw hG h1 h2 h3 hS H
theorem cb_s11 {post : St1 → Prop} {n : Nat} {fr to wt : Nat → Nat} (hG : cb_G n fr to wt) (h1 : cb_m n a1 fr) (h2 : cb_m n a2 to) (h3 : cb_m n a3 wt) (h5 : cb_m (cb_rk n fr to) a5 (cb_W n fr to wt 0))
    (H : ∀ g3 g4 b5 b6 b7 b8 b9 b10, cb_m (cb_rk n fr to) b6 (cb_cy n fr to wt) → cb_m (cb_rk n fr to) b7 (cb_pt n fr to wt) → post (nI n, nI (cb_rk n fr to), nI (cb_rk n fr to), g3, g4, a1, a2, a3, a4, b5, b6, b7, b8, b9, b10, a11)) :
    ∃ k, wX_solve_11 post k 0 (nI n) (nI (cb_rk n fr to)) 0 f3 f4 a1 a2 a3 a4 a5 a6 a7 a8 a9 a10 a11 := by
  have hn := hG.1
  have hr := cb_rk_le hG
  refine pk_loop (fun k i s => wX_solve_11 post k (nI i) (nI n) (nI (cb_rk n fr to)) s.1 s.2.1 s.2.2.1 a1 a2 a3 a4 s.2.2.2.1 s.2.2.2.2.1 s.2.2.2.2.2.1 s.2.2.2.2.2.2.1 s.2.2.2.2.2.2.2.1 s.2.2.2.2.2.2.2.2 a11)
    (fun i (s : Int32 × Int32 × Int32 × (Nat → Int32) × (Nat → Int32) × (Nat → Int32) × (Nat → Int32) × (Nat → Int32) × (Nat → Int32)) => s.1 = nI i ∧ cb_m (cb_rk n fr to) s.2.2.2.1 (cb_W n fr to wt i) ∧ cb_m i s.2.2.2.2.1 (fun k => (cb_SA n fr to wt i k).1) ∧ cb_m i s.2.2.2.2.2.1 (fun k => (cb_SA n fr to wt i k).2))
    (cb_rk n fr to) 0 (0, f3, f4, a5, a6, a7, a8, a9, a10) (by omega) ⟨rfl, h5, fun j hj => absurd hj (by omega), fun j hj => absurd hj (by omega)⟩ ?_ ?_
  · rintro k ⟨s1, s2, s3, s4, s5, s6, s7, s8, s9⟩ ⟨e1, e2, e3, e4⟩
    have e1' : s1 = nI (cb_rk n fr to) := e1
    subst e1'
    exact pk_le (cb_rk n fr to) (cb_rk n fr to) (fun _ => H s2 s3 s4 s5 s6 s7 s8 s9 e3 e4) (fun z => absurd z (by omega))
  · rintro k i ⟨s1, s2, s3, s4, s5, s6, s7, s8, s9⟩ hi ⟨e1, e2, e3, e4⟩ hw
    have e1' : s1 = nI i := e1
    subst e1'
    have e2' : cb_m (cb_rk n fr to) s4 (cb_W n fr to wt i) := e2
    have X : s4 (nI i).toNatClampNeg = nI (cb_W n fr to wt i i) := by rw [cb_cl' (by omega), e2' i hi]
    have bnd : ∀ k, k < i → (cb_SA n fr to wt i k).2 < 2 ^ 31 := by
      intro k hk
      obtain ⟨j, hj, e⟩ := (cb_SA_ok n fr to wt i).2.1 k hk
      have q : (cb_SA n fr to wt i k).2 = cb_B n fr to wt j := by rw [e]
      have b := (cb_C_ok hG j (by omega)).2.2.2
      rw [q]
      omega
    have bi := (cb_C_ok hG i hi).2.2.2
    refine pk_le (cb_rk n fr to) i (fun z => absurd z (by omega)) (fun _ => ⟨pk_in i 12 (by omega), cb_lightw' hG h1 h2 h3 X (cb_12 (cb_W_lt hG i i hi)) (fun b8 b9 b10 => ?_)⟩)
    refine cb_add (A := cb_SA n fr to wt i) (c := cb_C n fr to wt i) (b := cb_B n fr to wt i) (by omega) e3 e4 bnd (by omega) (fun b6 b7 k6 k7 => nm_r (nI_1 i) ?_)
    exact cb_s45 hG hi e2' (fun b5 k5 => hw (nI (i + 1), nI (cb_B n fr to wt i), nI (cb_C n fr to wt i), b5, b6, b7, b8, b9, b10) ⟨rfl, k5, k6, k7⟩)
theorem cb_solve {post : St1 → Prop} {n : Nat} {fr to wt : Nat → Nat} (hG : cb_G n fr to wt) (h1 : cb_m n a1 fr) (h2 : cb_m n a2 to) (h3 : cb_m n a3 wt)
    (H : ∀ g3 g4 b4 b5 b6 b7 b8 b9 b10, cb_m (cb_rk n fr to) b6 (cb_cy n fr to wt) → cb_m (cb_rk n fr to) b7 (cb_pt n fr to wt) → post (nI n, nI (cb_rk n fr to), nI (cb_rk n fr to), g3, g4, a1, a2, a3, b4, b5, b6, b7, b8, b9, b10, a11)) :
    wpX_solve post (nI n, f1, f2, f3, f4, a1, a2, a3, a4, a5, a6, a7, a8, a9, a10, a11) := by
  unfold wpX_solve
  refine cb_starts hG h1 h2 (fun b4 b5 k5 => ?_)
  exact cb_s11 hG h1 h2 h3 k5 (fun g3 g4 => H g3 g4 b4)
end
section
/-! the walk: the questions -/
variable {f0 f1 f2 f3 f4 : Int32} {a1 a2 a3 a4 a5 a6 a7 a8 a9 a10 a11 : Nat → Int32}
/-- for whatever the scratch fields and arrays hold -/
abbrev cb_all (n : Nat) (a1 a2 a3 : Nat → Int32) (P : St1 → Prop) : Prop :=
  ∀ (g1 g2 g3 g4 : Int32) (b4 b5 b6 b7 b8 b9 b10 b11 : Nat → Int32), P (nI n, g1, g2, g3, g4, a1, a2, a3, b4, b5, b6, b7, b8, b9, b10, b11)
theorem cb_rank {post : Int32 → St1 → Prop} {n : Nat} {fr to wt : Nat → Nat} (hG : cb_G n fr to wt) (h1 : cb_m n a1 fr) (h2 : cb_m n a2 to) (H : cb_all n a1 a2 a3 (post (nI (cb_rk n fr to)))) : wpX_rank post (nI n, f1, f2, f3, f4, a1, a2, a3, a4, a5, a6, a7, a8, a9, a10, a11) := by
  unfold wpX_rank
  exact cb_starts hG h1 h2 (fun b4 b5 _ => H _ _ _ _ b4 b5 _ _ _ _ _ _)
/-- part's answer -/
def cb_pi (n : Nat) (fr to wt : Nat → Nat) (k : Nat) : Int32 := if k < cb_rk n fr to then nI (cb_pt n fr to wt k) else -5
theorem cb_part {post : Int32 → St1 → Prop} {n : Nat} {fr to wt : Nat → Nat} (hG : cb_G n fr to wt) (h1 : cb_m n a1 fr) (h2 : cb_m n a2 to) (h3 : cb_m n a3 wt) {p : Int32} (k : Nat) (hk : k < 2 ^ 31) (hp : p = nI k)
    (H : cb_all n a1 a2 a3 (post (cb_pi n fr to wt k))) : wpX_part post (nI n, f1, f2, f3, f4, a1, a2, a3, a4, a5, a6, a7, a8, a9, a10, a11) p := by
  subst hp
  have hn := hG.1
  have hr := cb_rk_le hG
  unfold wpX_part
  refine cb_solve hG h1 h2 h3 (fun g3 g4 b4 b5 b6 b7 b8 b9 b10 k6 k7 => ?_)
  refine br_f (nI_pos hk) ?_
  refine pk_lt k (cb_rk n fr to) (fun z => ⟨pk_in k 12 (by omega), ?_⟩) (fun z => ?_)
  · have e : cb_pi n fr to wt k = nI (cb_pt n fr to wt k) := if_pos z
    rw [e] at H
    rw [cb_cl' hk, k7 k z]
    exact H _ _ _ _ _ _ _ _ _ _ _ _
  · have e : cb_pi n fr to wt k = -5 := if_neg (by omega)
    rw [e] at H
    exact H _ _ _ _ _ _ _ _ _ _ _ _
theorem cb_partm {post : Int32 → St1 → Prop} {n : Nat} {fr to wt : Nat → Nat} (hG : cb_G n fr to wt) (h1 : cb_m n a1 fr) (h2 : cb_m n a2 to) (h3 : cb_m n a3 wt)
    (H : cb_all n a1 a2 a3 (post (-5))) : wpX_part post (nI n, f1, f2, f3, f4, a1, a2, a3, a4, a5, a6, a7, a8, a9, a10, a11) (-1) := by
  unfold wpX_part
  refine cb_solve hG h1 h2 h3 (fun g3 g4 b4 b5 b6 b7 b8 b9 b10 k6 k7 => ?_)
  exact br_t (by decide) (H _ _ _ _ _ _ _ _ _ _ _ _)
theorem cb_total {post : Int32 → St1 → Prop} {n : Nat} {fr to wt : Nat → Nat} (hG : cb_G n fr to wt) (h1 : cb_m n a1 fr) (h2 : cb_m n a2 to) (h3 : cb_m n a3 wt)
    (H : cb_all n a1 a2 a3 (post (nI (cb_tot n fr to wt)))) : wpX_total post (nI n, f1, f2, f3, f4, a1, a2, a3, a4, a5, a6, a7, a8, a9, a10, a11) := by
  have hn := hG.1
  have hr := cb_rk_le hG
  unfold wpX_total
  refine cb_solve hG h1 h2 h3 (fun g3 g4 b4 b5 b6 b7 b8 b9 b10 k6 k7 => ?_)
  refine pk_loop (fun k i s => wX_total_8 post (nI n) (nI (cb_rk n fr to)) (nI (cb_rk n fr to)) g3 g4 a1 a2 a3 b4 b5 b6 b7 b8 b9 b10 a11 k s (nI i)) (fun i s => s = nI (cb_sum (cb_pt n fr to wt) i)) (cb_rk n fr to) 0 0 (by omega) rfl ?_ ?_
  · intro k s h
    have h' : s = nI (cb_tot n fr to wt) := h
    subst h'
    exact pk_le (cb_rk n fr to) (cb_rk n fr to) (fun _ => H _ _ _ _ _ _ _ _ _ _ _ _) (fun z => absurd z (by omega))
  · intro k i s hi h hw
    have h' : s = nI (cb_sum (cb_pt n fr to wt) i) := h
    refine pk_le (cb_rk n fr to) i (fun z => absurd z (by omega)) (fun _ => ⟨pk_in i 12 (by omega), nm_r (e' := nI (cb_sum (cb_pt n fr to wt) (i + 1))) ?_ (nm_r (nI_1 i) (hw _ rfl))⟩)
    rw [h', cb_cl' (by omega), k7 i hi, nI_add]
    rfl
theorem cb_reduce' {post : Int32 → Prop} {P : Nat → Nat} (hP : cb_PW P) (h11 : cb_m 12 a11 P) {x : Int32} (s : Nat) (e : x = nI s) (hs : s < 2 ^ 12) (H : post (nI (cb_rd P 12 s))) : wpX_reduce post (f0, f1, f2, f3, f4, a1, a2, a3, a4, a5, a6, a7, a8, a9, a10, a11) x := by
  subst e
  exact cb_reduce hP h11 s hs H
theorem cb_l87 {post : Int32 → St1 → Prop} {J : Int32 → (Nat → Int32) → (Nat → Int32) → (Nat → Int32) → (Nat → Int32) → (Nat → Int32) → (Nat → Int32) → (Nat → Int32) → (Nat → Int32) → (Nat → Int32) → (Nat → Int32) → (Nat → Int32) → Prop}
    {P : Nat → Nat} (hP : cb_PW P) (h11 : cb_m 12 a11 P) {m i v : Nat} (hm : m < 2 ^ 12) (hi : i < 12) (h7 : a7 i = nI v)
    (H0 : post (nI v) (f0, f1, f2, f3, f4, a1, a2, a3, a4, a5, a6, a7, a8, a9, a10, a11)) (H1 : cb_rd P 12 m ≠ 0 → J (nI (i + 1)) a1 a2 a3 a4 a5 a6 a7 a8 a9 a10 a11) : wX_level_87 post J (nI m) (nI i) f0 f1 f2 f3 f4 a1 a2 a3 a4 a5 a6 a7 a8 a9 a10 a11 := by
  have lt := cb_rd_lt P hP m hm
  unfold wX_level_87
  refine cb_reduce hP h11 m hm ?_
  refine pk_eq (cb_rd P 12 m) 0 (fun z => ⟨pk_in i 12 hi, ?_⟩) (fun z => nm_r (nI_1 i) (H1 z)) rfl rfl (cb_12 lt)
  rw [cb_cl' (by omega), h7]
  exact H0
theorem cb_l46 {post : Int32 → St1 → Prop} {n : Nat} {fr to wt : Nat → Nat} (hG : cb_G n fr to wt) {m : Nat} (hc : cb_cl fr to n m) (h0 : m ≠ 0) (h6 : cb_m (cb_rk n fr to) a6 (cb_cy n fr to wt)) (h7 : cb_m (cb_rk n fr to) a7 (cb_pt n fr to wt)) (h11 : cb_m 12 a11 (fun _ => 0))
    (H : ∀ k, k < cb_rk n fr to → cb_all n a1 a2 a3 (post (nI (cb_pt n fr to wt k)))) : ∃ k, wX_level_46 post (nI m) (nI n) f1 (nI (cb_rk n fr to)) f3 f4 k 0 a1 a2 a3 a4 a5 a6 a7 a8 a9 a10 a11 := by
  have hn := hG.1
  have hr := cb_rk_le hG
  have hm : m < 2 ^ 12 := Nat.lt_of_lt_of_le hc.1 (cb_pm n 12 hn)
  refine pk_loop (fun k i s => wX_level_46 post (nI m) (nI n) f1 (nI (cb_rk n fr to)) f3 f4 k (nI i) a1 a2 a3 a4 a5 a6 a7 a8 a9 a10 s)
    (fun i s => ∃ P, cb_m 12 s P ∧ cb_PW P ∧ (∀ k, k < i → cb_ps P (cb_cy n fr to wt k)) ∧ (0 < i → cb_rd P 12 m ≠ 0)) (cb_rk n fr to) 0 a11 (by omega)
    ⟨fun _ => 0, h11, fun e he hz => absurd rfl hz, fun k hk => absurd hk (by omega), fun h => absurd h (by omega)⟩ ?_ ?_
  · rintro k s ⟨P, p1, p2, p3, p4⟩
    exfalso
    have r0 := (cb_pt_least (wt := wt) hG m hc h0).1
    refine p4 r0 (cb_ps_rd P p2 _ (fun a ha => ?_) m (cb_cy_span (wt := wt) hG m hc))
    obtain ⟨j, hj, e⟩ := List.mem_map.mp ha
    rw [← e]
    exact p3 j (List.mem_range.mp hj)
  · rintro k i s hi ⟨P, p1, p2, p3, p4⟩ hw
    have ci : (nI i).toNatClampNeg = i := cb_cl' (by omega)
    have cl := (cb_pt_in (wt := wt) hG i hi).2.2.1
    have lt : cb_cy n fr to wt i < 2 ^ 12 := Nat.lt_of_lt_of_le cl.1 (cb_pm n 12 hn)
    have rl := cb_rd_lt P p2 _ lt
    have X : a6 (nI i).toNatClampNeg = nI (cb_cy n fr to wt i) := by rw [ci, h6 i hi]
    obtain ⟨v1, v2, v3⟩ := cb_pv_ok P p2 (cb_cy n fr to wt i) lt
    have hh := cb_hs_ok (cb_rd P 12 (cb_cy n fr to wt i)) 12
    have nxt : ∀ k, k < i + 1 → cb_ps (cb_pv P (cb_cy n fr to wt i)) (cb_cy n fr to wt k) := by
      intro k hk
      by_cases z : k = i
      · rw [z]; exact v2
      · exact v3 _ (p3 k (by omega))
    refine pk_le (cb_rk n fr to) i (fun z => absurd z (by omega)) (fun _ => ⟨pk_in i 12 (by omega), cb_reduce' p2 p1 (cb_cy n fr to wt i) X lt ?_⟩)
    refine cb_highest _ rl ?_
    by_cases z : cb_hs (cb_rd P 12 (cb_cy n fr to wt i)) 12 = 0
    · have q : cb_pv P (cb_cy n fr to wt i) = P := by rw [cb_pv, if_pos z]
      rw [q] at v1 nxt
      refine br_t (by rw [z]; decide) ?_
      exact cb_l87 p2 p1 hm (by omega) (h7 i hi) (H i hi _ _ _ _ _ _ _ _ _ _ _ _) (fun w => hw s ⟨P, p1, p2, nxt, fun _ => w⟩)
    · obtain ⟨t, ht⟩ : ∃ t, cb_hs (cb_rd P 12 (cb_cy n fr to wt i)) 12 = t + 1 := ⟨cb_hs (cb_rd P 12 (cb_cy n fr to wt i)) 12 - 1, by omega⟩
      have q : cb_pv P (cb_cy n fr to wt i) = cb_up P t (cb_rd P 12 (cb_cy n fr to wt i)) := by rw [cb_pv, if_neg z, ht, Nat.add_sub_cancel]
      rw [q] at v1 nxt
      have e : nI (cb_hs (cb_rd P 12 (cb_cy n fr to wt i)) 12) + (-1) = nI t := by rw [ht, pk_m1]
      have ct : (nI (cb_hs (cb_rd P 12 (cb_cy n fr to wt i)) 12) + (-1)).toNatClampNeg = t := by rw [e]; exact cb_cl' (by omega)
      have m' := cb_m_up p1 t (cb_rd P 12 (cb_cy n fr to wt i)) ct rfl
      refine br_f (by rw [e]; exact nI_pos (by omega)) ⟨pk_in t 12 (by omega) e, nm_e ?_⟩
      exact cb_l87 v1 m' hm (by omega) (h7 i hi) (H i hi _ _ _ _ _ _ _ _ _ _ _ _) (fun w => hw _ ⟨_, m', v1, nxt, fun _ => w⟩)
theorem cb_level {post : Int32 → St1 → Prop} {n : Nat} {fr to wt : Nat → Nat} (hG : cb_G n fr to wt) (h1 : cb_m n a1 fr) (h2 : cb_m n a2 to) (h3 : cb_m n a3 wt) (m : Nat) (hm : m < 2 ^ 31)
    (Hn : ¬ cb_cl fr to n m → cb_all n a1 a2 a3 (post (-5))) (H0 : m = 0 → cb_all n a1 a2 a3 (post 0)) (H : cb_cl fr to n m → m ≠ 0 → ∀ k, k < cb_rk n fr to → cb_all n a1 a2 a3 (post (nI (cb_pt n fr to wt k)))) :
    wpX_level post (nI n, f1, f2, f3, f4, a1, a2, a3, a4, a5, a6, a7, a8, a9, a10, a11) (nI m) := by
  unfold wpX_level
  refine cb_closed hG h1 h2 m hm (fun c => ?_) (fun c => ?_)
  · refine br_f (by decide) (pk_eq m 0 (fun z => H0 z _ _ _ _ _ _ _ _ _ _ _ _) (fun z => ?_) rfl rfl hm)
    refine cb_solve hG h1 h2 h3 (fun g3 g4 b4 b5 b6 b7 b8 b9 b10 k6 k7 => ?_)
    refine pk_loop (fun k i s => wX_level_25 post (nI m) (nI n) (nI (cb_rk n fr to)) (nI (cb_rk n fr to)) g3 g4 k (nI i) a1 a2 a3 b4 b5 b6 b7 b8 b9 b10 s) (fun i s => cb_m i s (fun _ => 0)) 12 0 a11 (by omega) (fun j hj => absurd hj (by omega)) ?_ ?_
    · intro k s h
      exact pk_le 12 12 (fun _ => cb_l46 hG c z k6 k7 h (H c z)) (fun z => absurd z (by omega))
    · intro k i s hi h hw
      refine pk_le 12 i (fun z => absurd z (by omega)) (fun _ => ⟨pk_in i 12 hi, nm_e (nm_r (nI_1 i) (hw _ (fun j hj => ?_)))⟩)
      rw [cb_cl' (by omega)]
      by_cases e : j = i
      · rw [e, pk_us]; rfl
      · rw [pk_un e]; exact h j (by omega)
  · exact br_t rfl (Hn c _ _ _ _ _ _ _ _ _ _ _ _)
theorem cb_search' {post : St1 → Prop} {n : Nat} {fr to wt : Nat → Nat} (hG : cb_G n fr to wt) (h1 : cb_m n a1 fr) (h2 : cb_m n a2 to) (h3 : cb_m n a3 wt) {e : Nat} {x : Int32} (he : e < n) (hx : x = nI (fr e))
    (H : ∀ d8 d9 d10, cb_m 14 d8 (cb_sr n fr to wt 0 e (fr e)).1 → post (nI n, f1, f2, f3, f4, a1, a2, a3, a4, a5, a6, a7, d8, d9, d10, a11)) :
    wpX_searchFrom post (nI n, f1, f2, f3, f4, a1, a2, a3, a4, a5, a6, a7, a8, a9, a10, a11) x 0 (nI e) := by
  subst hx
  have hn := hG.1
  exact cb_search (S := 0) (wo := e) hG h1 h2 h3 (cb_we e (by omega)) (by omega) (hG.2 e he).1 (fun d8 d9 d10 k8 _ => H d8 d9 d10 k8)
/-- how many edges below e are bridges -/
def cb_br (n : Nat) (fr to wt : Nat → Nat) : Nat → Nat
  | 0 => 0
  | e + 1 => cb_br n fr to wt e + (if cb_th n fr to wt e < 1000000 then 0 else 1)
theorem cb_th_1e6 {n : Nat} {fr to wt : Nat → Nat} (hG : cb_G n fr to wt) (e : Nat) (he : e < n) : cb_th n fr to wt e ≤ 1000000 :=
  (cb_sr_ok hG 0 e (fr e) (hG.2 e he).1).1 (to e) (by have := (hG.2 e he).2.1; omega)
theorem cb_bridges {post : Int32 → St1 → Prop} {n : Nat} {fr to wt : Nat → Nat} (hG : cb_G n fr to wt) (h1 : cb_m n a1 fr) (h2 : cb_m n a2 to) (h3 : cb_m n a3 wt)
    (H : cb_all n a1 a2 a3 (post (nI (cb_br n fr to wt n)))) : wpX_bridges post (nI n, f1, f2, f3, f4, a1, a2, a3, a4, a5, a6, a7, a8, a9, a10, a11) := by
  have hn := hG.1
  unfold wpX_bridges
  refine pk_loop (fun k i s => wX_bridges_4 post k s.1 (nI i) (nI n) f1 f2 f3 f4 a1 a2 a3 a4 a5 a6 a7 s.2.1 s.2.2.1 s.2.2.2 a11) (fun i (s : Int32 × (Nat → Int32) × (Nat → Int32) × (Nat → Int32)) => s.1 = nI (cb_br n fr to wt i)) n 0 (0, a8, a9, a10) (by omega) rfl ?_ ?_
  · rintro k ⟨s1, s2, s3, s4⟩ h
    have h' : s1 = nI (cb_br n fr to wt n) := h
    subst h'
    exact pk_le n n (fun _ => H _ _ _ _ _ _ _ _ _ _ _ _) (fun z => absurd z (by omega))
  · rintro k i ⟨s1, s2, s3, s4⟩ hi h hw
    have h' : s1 = nI (cb_br n fr to wt i) := h
    have g := hG.2 i hi
    have ci : (nI i).toNatClampNeg = i := cb_cl' (by omega)
    have T2 : a2 (nI i).toNatClampNeg = nI (to i) := by rw [ci, h2 i hi]
    have u := cb_th_1e6 hG i hi
    refine pk_le n i (fun z => absurd z (by omega)) (fun _ => ⟨pk_in i 12 (by omega), cb_search' hG h1 h2 h3 hi (by rw [ci, h1 i hi]) (fun d8 d9 d10 k8 => ?_)⟩)
    have D : d8 (a2 (nI i).toNatClampNeg).toNatClampNeg = nI (cb_th n fr to wt i) := by rw [T2, cb_cl' (by omega), k8 (to i) (by omega)]; rfl
    refine ⟨pk_in i 12 (by omega), pk_in (to i) 14 (by omega) T2, pk_lt (cb_th n fr to wt i) 1000000 (fun z => nm_r (nI_1 i) (hw (s1, d8, d9, d10) ?_)) (fun z => nm_r (e' := nI (cb_br n fr to wt i + 1)) ?_ (nm_r (nI_1 i) (hw (nI (cb_br n fr to wt i + 1), d8, d9, d10) ?_))) D rfl⟩
    · show s1 = nI (cb_br n fr to wt (i + 1))
      rw [cb_br, if_pos z]
      exact h'
    · rw [h', nI_1]
    · show nI (cb_br n fr to wt i + 1) = nI (cb_br n fr to wt (i + 1))
      rw [cb_br, if_neg (by omega)]
theorem cb_noedge {post : Int32 → Prop} {n k : Nat} (hn : n < 2 ^ 31) (hk : k < 2 ^ 31) (H0 : k < n → post 0) (H1 : n ≤ k → post 1) : wpX_noEdge post (nI n, f1, f2, f3, f4, a1, a2, a3, a4, a5, a6, a7, a8, a9, a10, a11) (nI k) := by
  unfold wpX_noEdge
  exact br_f (nI_pos hk) (pk_lt k n H0 H1)
/-- through's answer -/
def cb_ti (n : Nat) (fr to wt : Nat → Nat) (e : Nat) : Int32 := if cb_th n fr to wt e < 1000000 then nI (cb_th n fr to wt e + wt e) else -5
theorem cb_through {post : Int32 → St1 → Prop} {n : Nat} {fr to wt : Nat → Nat} (hG : cb_G n fr to wt) (h1 : cb_m n a1 fr) (h2 : cb_m n a2 to) (h3 : cb_m n a3 wt) (e : Nat) (he : e < n)
    (H : cb_all n a1 a2 a3 (post (cb_ti n fr to wt e))) : wpX_through post (nI n, f1, f2, f3, f4, a1, a2, a3, a4, a5, a6, a7, a8, a9, a10, a11) (nI e) := by
  have hn := hG.1
  have g := hG.2 e he
  have ce : (nI e).toNatClampNeg = e := cb_cl' (by omega)
  have T2 : a2 (nI e).toNatClampNeg = nI (to e) := by rw [ce, h2 e he]
  have T3 : a3 (nI e).toNatClampNeg = nI (wt e) := by rw [ce, h3 e he]
  have u := cb_th_1e6 hG e he
  unfold wpX_through
  refine cb_noedge (by omega) (by omega) (fun _ => ?_) (fun z => absurd z (by omega))
  refine br_t rfl ⟨pk_in e 12 (by omega), cb_search' hG h1 h2 h3 he (by rw [ce, h1 e he]) (fun d8 d9 d10 k8 => ?_)⟩
  have D : d8 (a2 (nI e).toNatClampNeg).toNatClampNeg = nI (cb_th n fr to wt e) := by rw [T2, cb_cl' (by omega), k8 (to e) (by omega)]; rfl
  refine ⟨pk_in e 12 (by omega), pk_in (to e) 14 (by omega) T2, pk_lt (cb_th n fr to wt e) 1000000 (fun z => ⟨pk_in e 12 (by omega), pk_in (to e) 14 (by omega) T2, pk_in e 12 (by omega), ?_⟩) (fun z => ?_) D rfl⟩
  · have q : cb_ti n fr to wt e = nI (cb_th n fr to wt e + wt e) := if_pos z
    rw [q] at H
    rw [D, T3, nI_add]
    exact H _ _ _ _ _ _ _ _ _ _ _ _
  · have q : cb_ti n fr to wt e = -5 := if_neg (by omega)
    rw [q] at H
    exact H _ _ _ _ _ _ _ _ _ _ _ _
theorem cb_throughn {post : Int32 → St1 → Prop} {n : Nat} (hn : n ≤ 12) (H : cb_all n a1 a2 a3 (post (-4))) : wpX_through post (nI n, f1, f2, f3, f4, a1, a2, a3, a4, a5, a6, a7, a8, a9, a10, a11) (nI n) := by
  unfold wpX_through
  refine cb_noedge (by omega) (by omega) (fun z => absurd z (by omega)) (fun _ => ?_)
  exact br_f (by decide) (H _ _ _ _ _ _ _ _ _ _ _ _)
end
section
/-! the walk: the law's checks -/
variable {f0 f1 f2 f3 f4 : Int32} {a1 a2 a3 a4 a5 a6 a7 a8 a9 a10 a11 : Nat → Int32}
abbrev cb_X : Type := Int32 × Int32 × Int32 × Int32 × (Nat → Int32) × (Nat → Int32) × (Nat → Int32) × (Nat → Int32) × (Nat → Int32) × (Nat → Int32) × (Nat → Int32) × (Nat → Int32)
/-- the part before -/
def cb_bf (n : Nat) (fr to wt : Nat → Nat) : Nat → Nat
  | 0 => 0
  | i + 1 => cb_pt n fr to wt i
theorem cb_bf_le {n : Nat} {fr to wt : Nat → Nat} (i : Nat) (hi : i < cb_rk n fr to) : cb_bf n fr to wt i ≤ cb_pt n fr to wt i := by
  cases i with
  | zero => exact Nat.zero_le _
  | succ i => exact cb_pt_le i (i + 1) (by omega) hi
theorem cb_parts {post : Int32 → St1 → Prop} {n : Nat} {fr to wt : Nat → Nat} (hG : cb_G n fr to wt) (h1 : cb_m n a1 fr) (h2 : cb_m n a2 to) (h3 : cb_m n a3 wt)
    (H : cb_all n a1 a2 a3 (post 1)) : wpL_parts post (nI n, f1, f2, f3, f4, a1, a2, a3, a4, a5, a6, a7, a8, a9, a10, a11) := by
  have hn := hG.1
  have hr := cb_rk_le hG
  unfold wpL_parts
  refine cb_rank hG h1 h2 (fun g1 g2 g3 g4 b4 b5 b6 b7 b8 b9 b10 b11 => ?_)
  refine pk_loop (fun k i (s : Int32 × Int32 × cb_X) => wL_parts_12 post (nI (cb_rk n fr to)) k s.1 s.2.1 (nI i) (nI n) s.2.2.1 s.2.2.2.1 s.2.2.2.2.1 s.2.2.2.2.2.1 a1 a2 a3 s.2.2.2.2.2.2.1 s.2.2.2.2.2.2.2.1 s.2.2.2.2.2.2.2.2.1 s.2.2.2.2.2.2.2.2.2.1 s.2.2.2.2.2.2.2.2.2.2.1 s.2.2.2.2.2.2.2.2.2.2.2.1 s.2.2.2.2.2.2.2.2.2.2.2.2.1 s.2.2.2.2.2.2.2.2.2.2.2.2.2)
    (fun i s => s.1 = nI (cb_bf n fr to wt i) ∧ s.2.1 = nI (cb_sum (cb_pt n fr to wt) i)) (cb_rk n fr to) 0 (0, 0, (g1, g2, g3, g4, b4, b5, b6, b7, b8, b9, b10, b11)) (by omega) ⟨rfl, rfl⟩ ?_ ?_
  · rintro k ⟨s1, s2, g1, g2, g3, g4, b4, b5, b6, b7, b8, b9, b10, b11⟩ ⟨e1, e2⟩
    have e2' : s2 = nI (cb_tot n fr to wt) := e2
    refine pk_le (cb_rk n fr to) (cb_rk n fr to) (fun _ => ?_) (fun z => absurd z (by omega))
    refine cb_part hG h1 h2 h3 (cb_rk n fr to) (by omega) rfl (fun g1 g2 g3 g4 b4 b5 b6 b7 b8 b9 b10 b11 => ?_)
    refine br_t (if_neg (by omega)) ?_
    refine cb_partm hG h1 h2 h3 (fun g1 g2 g3 g4 b4 b5 b6 b7 b8 b9 b10 b11 => ?_)
    refine br_t rfl ?_
    refine cb_total hG h1 h2 h3 (fun g1 g2 g3 g4 b4 b5 b6 b7 b8 b9 b10 b11 => ?_)
    exact br_t e2'.symm (H _ _ _ _ _ _ _ _ _ _ _ _)
  · rintro k i ⟨s1, s2, g1, g2, g3, g4, b4, b5, b6, b7, b8, b9, b10, b11⟩ hi ⟨e1, e2⟩ hw
    have e1' : s1 = nI (cb_bf n fr to wt i) := e1
    have e2' : s2 = nI (cb_sum (cb_pt n fr to wt) i) := e2
    have pe : cb_pi n fr to wt i = nI (cb_pt n fr to wt i) := if_pos hi
    have pin := cb_pt_in (wt := wt) hG i hi
    have bf := cb_bf_le (wt := wt) i hi
    refine pk_le (cb_rk n fr to) i (fun z => absurd z (by omega)) (fun _ => ?_)
    refine cb_part hG h1 h2 h3 i (by omega) rfl (fun g1 g2 g3 g4 b4 b5 b6 b7 b8 b9 b10 b11 => ?_)
    refine pk_lt (cb_pt n fr to wt i) (cb_bf n fr to wt i) (fun z => absurd z (by omega)) (fun z => ?_) pe e1'
    refine pk_le 2 (cb_pt n fr to wt i) (fun _ => nm_r (e' := nI (cb_sum (cb_pt n fr to wt) (i + 1))) ?_ (nm_r (nI_1 i) (hw (_, _, (g1, g2, g3, g4, b4, b5, b6, b7, b8, b9, b10, b11)) ⟨pe, rfl⟩))) (fun z => absurd z (by omega)) rfl pe
    rw [e2', pe, nI_add]
    rfl
/-- the least of the ways through the edges below e -/
def cb_L (n : Nat) (fr to wt : Nat → Nat) (e : Nat) (x : Int32) : Prop := (x = -5 ∧ ∀ k, k < e → ¬ cb_th n fr to wt k < 1000000) ∨
  ∃ l, x = nI l ∧ (∃ k, k < e ∧ cb_th n fr to wt k < 1000000 ∧ l = cb_th n fr to wt k + wt k) ∧ ∀ k, k < e → cb_th n fr to wt k < 1000000 → l ≤ cb_th n fr to wt k + wt k
theorem cb_L_end {n : Nat} {fr to wt : Nat → Nat} (hG : cb_G n fr to wt) {x : Int32} (h : cb_L n fr to wt n x) : x = cb_pi n fr to wt 0 := by
  rcases h with ⟨h1, h2⟩ | ⟨l, h1, ⟨k, k1, k2, k3⟩, h3⟩
  · by_cases r0 : 0 < cb_rk n fr to
    · exfalso
      obtain ⟨e, he, hl⟩ := cb_th_le (wt := wt) hG r0
      have p := (cb_pt_in (wt := wt) hG 0 r0).2.1
      exact h2 e he (by omega)
    · rw [h1, cb_pi, if_neg r0]
  · obtain ⟨r0, ge⟩ := cb_th_ge hG k k1 k2
    obtain ⟨e, he, hl⟩ := cb_th_le (wt := wt) hG r0
    have p := (cb_pt_in (wt := wt) hG 0 r0).2.1
    have q := h3 e he (by omega)
    rw [h1, cb_pi, if_pos r0, show l = cb_pt n fr to wt 0 by omega]
theorem cb_t47 {post : Int32 → St1 → Prop} {J : Int32 → Int32 → Int32 → Int32 → Int32 → Int32 → Int32 → Int32 → (Nat → Int32) → (Nat → Int32) → (Nat → Int32) → (Nat → Int32) → (Nat → Int32) → (Nat → Int32) → (Nat → Int32) → (Nat → Int32) → (Nat → Int32) → (Nat → Int32) → (Nat → Int32) → Prop}
    {n : Nat} {fr to wt : Nat → Nat} (hG : cb_G n fr to wt) {x1 x2 x3 x5 : Int32} {e : Nat} (he : e < n) (hx : x5 = cb_ti n fr to wt e) (hL : cb_L n fr to wt e x3)
    (H : ∀ y, cb_L n fr to wt (e + 1) y → J x2 y (nI (e + 1)) f0 f1 f2 f3 f4 a1 a2 a3 a4 a5 a6 a7 a8 a9 a10 a11) : wL_throughs_47 post J x1 x2 x3 (nI e) x5 f0 f1 f2 f3 f4 a1 a2 a3 a4 a5 a6 a7 a8 a9 a10 a11 := by
  have g := hG.2 e he
  unfold wL_throughs_47
  by_cases c : cb_th n fr to wt e < 1000000
  · have q : x5 = nI (cb_th n fr to wt e + wt e) := by rw [hx, cb_ti, if_pos c]
    have new : (∀ k, k < e → cb_th n fr to wt k < 1000000 → cb_th n fr to wt e + wt e ≤ cb_th n fr to wt k + wt k) → cb_L n fr to wt (e + 1) x5 := by
      intro h
      refine Or.inr ⟨_, q, ⟨e, by omega, c, rfl⟩, fun k hk hf => ?_⟩
      by_cases z : k = e
      · rw [z]; exact Nat.le_refl _
      · exact h k (by omega) hf
    refine br_f (by rw [q]; exact nI_pos (by omega)) ?_
    rcases hL with ⟨h1, h2⟩ | ⟨l, h1, ⟨k, k1, k2, k3⟩, h3⟩
    · exact br_t (by rw [h1]; decide) (nm_r (nI_1 e) (H x5 (new (fun k hk hf => absurd hf (h2 k hk)))))
    · have gk := hG.2 k (by omega)
      refine br_f (by rw [h1]; exact nI_pos (by omega)) ?_
      refine pk_le l (cb_th n fr to wt e + wt e) (fun z => nm_r (nI_1 e) (H x3 (Or.inr ⟨l, h1, ⟨k, by omega, k2, k3⟩, fun j hj hf => ?_⟩))) (fun z => nm_r (nI_1 e) (H x5 (new (fun j hj hf => ?_)))) h1 q
      · by_cases w : j = e
        · rw [w]; exact z
        · exact h3 j (by omega) hf
      · have := h3 j hj hf
        omega
  · have q : x5 = -5 := by rw [hx, cb_ti, if_neg c]
    refine br_t (by rw [q]; decide) (nm_r (nI_1 e) (H x3 ?_))
    rcases hL with ⟨h1, h2⟩ | ⟨l, h1, ⟨k, k1, k2, k3⟩, h3⟩
    · refine Or.inl ⟨h1, fun k hk => ?_⟩
      by_cases w : k = e
      · rw [w]; exact c
      · exact h2 k (by omega)
    · refine Or.inr ⟨l, h1, ⟨k, by omega, k2, k3⟩, fun j hj hf => ?_⟩
      by_cases w : j = e
      · rw [w] at hf; exact absurd hf c
      · exact h3 j (by omega) hf
theorem cb_throughs {post : Int32 → St1 → Prop} {n : Nat} {fr to wt : Nat → Nat} (hG : cb_G n fr to wt) (h1 : cb_m n a1 fr) (h2 : cb_m n a2 to) (h3 : cb_m n a3 wt)
    (H : cb_all n a1 a2 a3 (post 1)) : wpL_throughs post (nI n, f1, f2, f3, f4, a1, a2, a3, a4, a5, a6, a7, a8, a9, a10, a11) (nI n) := by
  have hn := hG.1
  unfold wpL_throughs
  refine pk_loop (fun k i (s : Int32 × Int32 × cb_X) => wL_throughs_8 post (nI n) k s.1 s.2.1 (nI i) (nI n) s.2.2.1 s.2.2.2.1 s.2.2.2.2.1 s.2.2.2.2.2.1 a1 a2 a3 s.2.2.2.2.2.2.1 s.2.2.2.2.2.2.2.1 s.2.2.2.2.2.2.2.2.1 s.2.2.2.2.2.2.2.2.2.1 s.2.2.2.2.2.2.2.2.2.2.1 s.2.2.2.2.2.2.2.2.2.2.2.1 s.2.2.2.2.2.2.2.2.2.2.2.2.1 s.2.2.2.2.2.2.2.2.2.2.2.2.2)
    (fun i s => s.1 = nI (cb_br n fr to wt i) ∧ cb_L n fr to wt i s.2.1) n 0 (0, -5, f1, f2, f3, f4, a4, a5, a6, a7, a8, a9, a10, a11) (by omega) ⟨rfl, Or.inl ⟨rfl, fun k hk => absurd hk (by omega)⟩⟩ ?_ ?_
  · rintro k ⟨s1, s2, g1, g2, g3, g4, b4, b5, b6, b7, b8, b9, b10, b11⟩ ⟨e1, e2⟩
    have e1' : s1 = nI (cb_br n fr to wt n) := e1
    have e2' : cb_L n fr to wt n s2 := e2
    refine pk_le n n (fun _ => ?_) (fun z => absurd z (by omega))
    refine cb_bridges hG h1 h2 h3 (fun g1 g2 g3 g4 b4 b5 b6 b7 b8 b9 b10 b11 => ?_)
    refine br_t e1' ?_
    refine cb_part hG h1 h2 h3 0 (by omega) rfl (fun g1 g2 g3 g4 b4 b5 b6 b7 b8 b9 b10 b11 => ?_)
    refine br_t (cb_L_end hG e2') ?_
    refine cb_throughn hn (fun g1 g2 g3 g4 b4 b5 b6 b7 b8 b9 b10 b11 => ?_)
    exact br_t rfl (H _ _ _ _ _ _ _ _ _ _ _ _)
  · rintro k i ⟨s1, s2, g1, g2, g3, g4, b4, b5, b6, b7, b8, b9, b10, b11⟩ hi ⟨e1, e2⟩ hw
    have e1' : s1 = nI (cb_br n fr to wt i) := e1
    have e2' : cb_L n fr to wt i s2 := e2
    have g := hG.2 i hi
    refine pk_le n i (fun z => absurd z (by omega)) (fun _ => ?_)
    refine cb_through hG h1 h2 h3 i hi (fun g1 g2 g3 g4 b4 b5 b6 b7 b8 b9 b10 b11 => ?_)
    by_cases c : cb_th n fr to wt i < 1000000
    · have q : cb_ti n fr to wt i = nI (cb_th n fr to wt i + wt i) := if_pos c
      obtain ⟨r0, ge⟩ := cb_th_ge hG i hi c
      have ne : ¬ cb_ti n fr to wt i = -5 := by
        rw [q]
        intro w
        have p := nI_pos (n := cb_th n fr to wt i + wt i) (by omega)
        rw [w] at p
        exact p (by decide)
      refine br_f ne ?_
      refine cb_part hG h1 h2 h3 0 (by omega) rfl (fun g1 g2 g3 g4 b4 b5 b6 b7 b8 b9 b10 b11 => ?_)
      have p1 := (cb_pt_in (wt := wt) hG 0 r0).2.1
      refine pk_le (cb_pt n fr to wt 0) (cb_th n fr to wt i + wt i) (fun _ => ?_) (fun z => absurd z (by omega)) (if_pos r0) q
      refine cb_t47 hG hi rfl e2' (fun y hy => hw (s1, y, (g1, g2, g3, g4, b4, b5, b6, b7, b8, b9, b10, b11)) ⟨?_, hy⟩)
      show s1 = nI (cb_br n fr to wt (i + 1))
      rw [cb_br, if_pos c]
      exact e1'
    · have q : cb_ti n fr to wt i = -5 := if_neg c
      refine br_t q (nm_r (e' := nI (cb_br n fr to wt i + 1)) (by rw [e1', nI_1]) ?_)
      refine cb_t47 hG hi rfl e2' (fun y hy => hw (_, y, (g1, g2, g3, g4, b4, b5, b6, b7, b8, b9, b10, b11)) ⟨?_, hy⟩)
      show nI (cb_br n fr to wt i + 1) = nI (cb_br n fr to wt (i + 1))
      rw [cb_br, if_neg c]
theorem cb_lev {post : Int32 → St1 → Prop} {n : Nat} {fr to wt : Nat → Nat} (hG : cb_G n fr to wt) (h1 : cb_m n a1 fr) (h2 : cb_m n a2 to) (h3 : cb_m n a3 wt) (m : Nat) (hm : m < 2 ^ 31) {x : Int32} (hx : x = nI m)
    (H : cb_all n a1 a2 a3 (post 1)) : wpL_level post (nI n, f1, f2, f3, f4, a1, a2, a3, a4, a5, a6, a7, a8, a9, a10, a11) x := by
  subst hx
  have hn := hG.1
  have hr := cb_rk_le hG
  unfold wpL_level
  refine cb_level hG h1 h2 h3 m hm (fun c g1 g2 g3 g4 b4 b5 b6 b7 b8 b9 b10 b11 => ?_) (fun z g1 g2 g3 g4 b4 b5 b6 b7 b8 b9 b10 b11 => ?_) (fun c z k hk g1 g2 g3 g4 b4 b5 b6 b7 b8 b9 b10 b11 => ?_)
  · refine cb_closed hG h1 h2 m hm (fun c' => absurd c' c) (fun _ => ?_)
    exact br_t rfl (br_t rfl (H _ _ _ _ _ _ _ _ _ _ _ _))
  · refine cb_closed hG h1 h2 m hm (fun _ => ?_) (fun c => absurd (show cb_cl fr to n m from by rw [z]; exact cb_cl_0 fr to n) c)
    exact br_f (by decide) (br_t (by rw [z]; rfl) (br_t rfl (H _ _ _ _ _ _ _ _ _ _ _ _)))
  · refine cb_closed hG h1 h2 m hm (fun _ => ?_) (fun c' => absurd c c')
    refine br_f (by decide) (br_f (nI_ne0 (by omega) hm) ?_)
    refine cb_rank hG h1 h2 (fun g1 g2 g3 g4 b4 b5 b6 b7 b8 b9 b10 b11 => ?_)
    have r0 : 0 < cb_rk n fr to := by omega
    have rr : nI (cb_rk n fr to) - 1 = nI (cb_rk n fr to - 1) := by
      obtain ⟨r', e⟩ : ∃ r', cb_rk n fr to = r' + 1 := ⟨cb_rk n fr to - 1, by omega⟩
      rw [e, Nat.add_sub_cancel]
      exact nI_pred r'
    have pk := (cb_pt_in (wt := wt) hG k hk).2.1
    have p0 := cb_pt_le (n := n) (fr := fr) (to := to) (wt := wt) 0 k (by omega) hk
    have pl := cb_pt_le (n := n) (fr := fr) (to := to) (wt := wt) k (cb_rk n fr to - 1) (by omega) (by omega)
    have pb := (cb_pt_in (wt := wt) hG (cb_rk n fr to - 1) (by omega)).2.1
    refine nm_r rr ?_
    refine cb_part hG h1 h2 h3 0 (by omega) rfl (fun g1 g2 g3 g4 b4 b5 b6 b7 b8 b9 b10 b11 => ?_)
    refine pk_lt (cb_pt n fr to wt k) (cb_pt n fr to wt 0) (fun w => absurd w (by omega)) (fun _ => ?_) rfl (if_pos r0)
    refine cb_part hG h1 h2 h3 (cb_rk n fr to - 1) (by omega) rfl (fun g1 g2 g3 g4 b4 b5 b6 b7 b8 b9 b10 b11 => ?_)
    exact pk_lt (cb_pt n fr to wt (cb_rk n fr to - 1)) (cb_pt n fr to wt k) (fun w => absurd w (by omega)) (fun _ => H _ _ _ _ _ _ _ _ _ _ _ _) (if_pos (by omega)) rfl
end
section
/-! the walk: edge, reweigh, dropLast, the law's inner loops -/
variable {f0 f1 f2 f3 f4 : Int32} {a1 a2 a3 a4 a5 a6 a7 a8 a9 a10 a11 : Nat → Int32}
theorem cb_badv {post : Int32 → Prop} {k : Nat} (hk : k < 7) (H : post 0) : wpX_badVertex post () (nI k) := by
  unfold wpX_badVertex
  exact br_f (nI_pos (by omega)) (pk_lt k 7 (fun _ => H) (fun z => absurd z (by omega)))
theorem cb_edge {post : Int32 → St1 → Prop} {n u v w : Nat} {ui vi wi : Int32} (hn : n ≤ 12) (hu : u < 7) (hv : v < 7) (huv : u ≠ v) (w1 : 1 ≤ w) (w2 : w ≤ 100) (eu : ui = nI u) (ev : vi = nI v) (ew : wi = nI w)
    (H0 : n < 12 → post (nI n) (nI (n + 1), f1, f2, f3, f4, upd a1 n (nI u), upd a2 n (nI v), upd a3 n (nI w), a4, a5, a6, a7, a8, a9, a10, a11)) (H1 : n = 12 → post (-3) (nI n, f1, f2, f3, f4, a1, a2, a3, a4, a5, a6, a7, a8, a9, a10, a11)) : wpX_edge post (nI n, f1, f2, f3, f4, a1, a2, a3, a4, a5, a6, a7, a8, a9, a10, a11) ui vi wi := by
  subst eu
  subst ev
  subst ew
  unfold wpX_edge
  refine cb_badv hu (br_t rfl (cb_badv hv (br_t rfl (pk_eq u v (fun z => absurd z huv) (fun _ => pk_lt w 1 (fun z => absurd z (by omega)) (fun _ => pk_le w 100 (fun _ => ?_) (fun z => absurd z (by omega))))))))
  refine pk_lt n 12 (fun z => ⟨pk_in n 12 z, nm_e ⟨pk_in n 12 z, nm_e ⟨pk_in n 12 z, nm_e (nm_r (nI_1 n) ?_)⟩⟩⟩) (fun z => H1 (by omega))
  rw [cb_cl' (by omega)]
  exact H0 z
theorem cb_rew {post : Int32 → St1 → Prop} {n e w : Nat} {ei wi : Int32} (hn : n ≤ 12) (he : e < n) (w1 : 1 ≤ w) (w2 : w ≤ 100) (ee : ei = nI e) (ew : wi = nI w)
    (H : post (a3 e) (nI n, f1, f2, f3, f4, a1, a2, upd a3 e (nI w), a4, a5, a6, a7, a8, a9, a10, a11)) : wpX_reweigh post (nI n, f1, f2, f3, f4, a1, a2, a3, a4, a5, a6, a7, a8, a9, a10, a11) ei wi := by
  subst ee
  subst ew
  unfold wpX_reweigh
  refine cb_noedge (by omega) (by omega) (fun _ => ?_) (fun z => absurd z (by omega))
  refine br_t rfl (pk_lt w 1 (fun z => absurd z (by omega)) (fun _ => pk_le w 100 (fun _ => ⟨pk_in e 12 (by omega), nm_e ⟨pk_in e 12 (by omega), nm_e ?_⟩⟩) (fun z => absurd z (by omega))))
  rw [cb_cl' (by omega)]
  exact H
theorem cb_drop {post : Int32 → St1 → Prop} {n : Nat} (hn : n ≤ 12) (H0 : n = 0 → post (-4) (nI n, f1, f2, f3, f4, a1, a2, a3, a4, a5, a6, a7, a8, a9, a10, a11)) (H1 : ∀ k, n = k + 1 → post (nI k) (nI k, f1, f2, f3, f4, a1, a2, a3, a4, a5, a6, a7, a8, a9, a10, a11)) : wpX_dropLast post (nI n, f1, f2, f3, f4, a1, a2, a3, a4, a5, a6, a7, a8, a9, a10, a11) := by
  unfold wpX_dropLast
  refine pk_eq n 0 (fun z => H0 z) (fun z => ?_)
  obtain ⟨k, hk⟩ : ∃ k, n = k + 1 := ⟨n - 1, by omega⟩
  have e : nI n - 1 = nI k := by rw [hk]; exact nI_pred k
  exact nm_r e (H1 k hk)
theorem cb_mask {n a k : Nat} (hn : n ≤ 12) (ha : a < 2 ^ 20) (hk : k < 6) : (nI a + (257 * nI k)) &&& (((1 : Int32) <<< (nI n &&& 31)) - 1) = nI ((a + 257 * k) &&& (2 ^ n - 1)) := by
  have e1 : (257 : Int32) * nI k = nI (257 * k) := pk_mul 257 k
  have p := Nat.two_pow_pos n
  have e2 : nI (2 ^ n) - 1 = nI (2 ^ n - 1) := pk_sub (a := 2 ^ n) (b := 1) (by omega)
  rw [e1, nI_add, cb_isl n (by omega), e2, cb_iand]
theorem cb_mask_lt {n x : Nat} (hn : n ≤ 12) : x &&& (2 ^ n - 1) < 2 ^ 31 := by
  rw [Nat.and_two_pow_sub_one_eq_mod]
  have a := Nat.mod_lt x (Nat.two_pow_pos n)
  have b := cb_pm n 12 hn
  omega
theorem cb_272 {post : Int32 → Prop} {L : Nat} {xs : Nat → Int32} {J : Int32 → Int32 → Int32 → Int32 → Int32 → Int32 → Int32 → (Nat → Int32) → (Nat → Int32) → (Nat → Int32) → (Nat → Int32) → (Nat → Int32) → (Nat → Int32) → (Nat → Int32) → (Nat → Int32) → (Nat → Int32) → (Nat → Int32) → (Nat → Int32) → Prop}
    {kc ks i a : Nat} {n : Nat} {fr to wt : Nat → Nat} (hG : cb_G n fr to wt) (h1 : cb_m n a1 fr) (h2 : cb_m n a2 to) (h3 : cb_m n a3 wt) (ha : a < 2 ^ 20)
    (H : ∀ (g1 g2 g3 g4 : Int32) (b4 b5 b6 b7 b8 b9 b10 b11 : Nat → Int32), J (nI n) (nI (i + 3)) (nI n) g1 g2 g3 g4 a1 a2 a3 b4 b5 b6 b7 b8 b9 b10 b11) :
    ∃ k, wL_law_272 post L xs J (nI n) (nI i) (nI a) kc ks k 0 (nI n) f1 f2 f3 f4 a1 a2 a3 a4 a5 a6 a7 a8 a9 a10 a11 := by
  have hn := hG.1
  refine pk_loop (fun k j (s : cb_X) => wL_law_272 post L xs J (nI n) (nI i) (nI a) kc ks k (nI j) (nI n) s.1 s.2.1 s.2.2.1 s.2.2.2.1 a1 a2 a3 s.2.2.2.2.1 s.2.2.2.2.2.1 s.2.2.2.2.2.2.1 s.2.2.2.2.2.2.2.1 s.2.2.2.2.2.2.2.2.1 s.2.2.2.2.2.2.2.2.2.1 s.2.2.2.2.2.2.2.2.2.2.1 s.2.2.2.2.2.2.2.2.2.2.2) (fun _ _ => True) 6 0 (f1, f2, f3, f4, a4, a5, a6, a7, a8, a9, a10, a11) (by omega) trivial ?_ ?_
  · rintro k ⟨g1, g2, g3, g4, b4, b5, b6, b7, b8, b9, b10, b11⟩ _
    exact pk_le 6 6 (fun _ => nm_r (nI_add i 3) (H _ _ _ _ _ _ _ _ _ _ _ _)) (fun z => absurd z (by omega))
  · rintro k j ⟨g1, g2, g3, g4, b4, b5, b6, b7, b8, b9, b10, b11⟩ hj _ hw
    refine pk_le 6 j (fun z => absurd z (by omega)) (fun _ => ?_)
    refine cb_lev hG h1 h2 h3 _ (cb_mask_lt hn) (cb_mask hn ha hj) (fun g1 g2 g3 g4 b4 b5 b6 b7 b8 b9 b10 b11 => ?_)
    exact br_f (by decide) (nm_r (nI_1 j) (hw (g1, g2, g3, g4, b4, b5, b6, b7, b8, b9, b10, b11) trivial))
theorem cb_244 {post : Int32 → Prop} {L : Nat} {xs : Nat → Int32} {J : Int32 → Int32 → Int32 → Int32 → Int32 → Int32 → Int32 → (Nat → Int32) → (Nat → Int32) → (Nat → Int32) → (Nat → Int32) → (Nat → Int32) → (Nat → Int32) → (Nat → Int32) → (Nat → Int32) → (Nat → Int32) → (Nat → Int32) → (Nat → Int32) → Prop}
    {kc ks i a : Nat} {n : Nat} {fr to wt : Nat → Nat} (hG : cb_G n fr to wt) (h1 : cb_m n a1 fr) (h2 : cb_m n a2 to) (h3 : cb_m n a3 wt) (ha : a < 2 ^ 20)
    (H : ∀ (g1 g2 g3 g4 : Int32) (b4 b5 b6 b7 b8 b9 b10 b11 : Nat → Int32), J (nI n) (nI (i + 3)) (nI n) g1 g2 g3 g4 a1 a2 a3 b4 b5 b6 b7 b8 b9 b10 b11) :
    wL_law_244 post L xs J (nI n) (nI i) (nI a) kc ks (nI n) f1 f2 f3 f4 a1 a2 a3 a4 a5 a6 a7 a8 a9 a10 a11 := by
  unfold wL_law_244
  refine cb_parts hG h1 h2 h3 (fun g1 g2 g3 g4 b4 b5 b6 b7 b8 b9 b10 b11 => ?_)
  refine cb_throughs hG h1 h2 h3 (fun g1 g2 g3 g4 b4 b5 b6 b7 b8 b9 b10 b11 => ?_)
  exact br_f (by decide) (br_f (by decide) (cb_272 hG h1 h2 h3 ha H))
theorem cb_321 {post : Int32 → Prop} {L : Nat} {xs : Nat → Int32} {kc ks : Nat} (hp : post 1) {n : Nat} {fr to wt : Nat → Nat} (hG : cb_G n fr to wt) (h1 : cb_m n a1 fr) (h2 : cb_m n a2 to) (h3 : cb_m n a3 wt) :
    ∃ k, wL_law_321 post L xs (nI n) kc ks k 0 (nI n) f1 f2 f3 f4 a1 a2 a3 a4 a5 a6 a7 a8 a9 a10 a11 := by
  have hn := hG.1
  have top := cb_pm n 12 hn
  refine pk_loop (fun k j (s : cb_X) => wL_law_321 post L xs (nI n) kc ks k (nI j) (nI n) s.1 s.2.1 s.2.2.1 s.2.2.2.1 a1 a2 a3 s.2.2.2.2.1 s.2.2.2.2.2.1 s.2.2.2.2.2.2.1 s.2.2.2.2.2.2.2.1 s.2.2.2.2.2.2.2.2.1 s.2.2.2.2.2.2.2.2.2.1 s.2.2.2.2.2.2.2.2.2.2.1 s.2.2.2.2.2.2.2.2.2.2.2) (fun _ _ => True) (2 ^ n) 0 (f1, f2, f3, f4, a4, a5, a6, a7, a8, a9, a10, a11) (Nat.zero_le _) trivial ?_ ?_
  · rintro k ⟨g1, g2, g3, g4, b4, b5, b6, b7, b8, b9, b10, b11⟩ _
    exact pk_le (2 ^ n) (2 ^ n) (fun _ => hp) (fun z => absurd z (by omega)) (cb_isl n (by omega)) rfl (by omega) (by omega)
  · rintro k j ⟨g1, g2, g3, g4, b4, b5, b6, b7, b8, b9, b10, b11⟩ hj _ hw
    refine pk_le (2 ^ n) j (fun z => absurd z (by omega)) (fun _ => ?_) (cb_isl n (by omega)) rfl (by omega) (by omega)
    refine cb_closed hG h1 h2 j (by omega) (fun _ => ?_) (fun _ => ?_)
    · refine br_f (by decide) ?_
      refine cb_lev hG h1 h2 h3 j (by omega) rfl (fun g1 g2 g3 g4 b4 b5 b6 b7 b8 b9 b10 b11 => ?_)
      exact br_f (by decide) (br_f (by decide) (nm_r (nI_1 j) (hw (g1, g2, g3, g4, b4, b5, b6, b7, b8, b9, b10, b11) trivial)))
    · exact br_t rfl (br_f (by decide) (nm_r (nI_1 j) (hw (g1, g2, g3, g4, b4, b5, b6, b7, b8, b9, b10, b11) trivial)))
end
section
/-! the walk: one turn of the law -/
variable {f0 f1 f2 f3 f4 : Int32} {a1 a2 a3 a4 a5 a6 a7 a8 a9 a10 a11 : Nat → Int32}
abbrev cb_J : Type := Int32 → Int32 → Int32 → Int32 → Int32 → Int32 → Int32 → (Nat → Int32) → (Nat → Int32) → (Nat → Int32) → (Nat → Int32) → (Nat → Int32) → (Nat → Int32) → (Nat → Int32) → (Nat → Int32) → (Nat → Int32) → (Nat → Int32) → (Nat → Int32) → Prop
/-- the turn's checks go through, whatever the graph -/
def cb_K (post : Int32 → Prop) (L : Nat) (xs : Nat → Int32) (J : cb_J) (i a kc ks : Nat) : Prop :=
  ∀ n fr to wt, cb_G n fr to wt → ∀ a1 a2 a3, cb_m n a1 fr → cb_m n a2 to → cb_m n a3 wt → ∀ (g1 g2 g3 g4 : Int32) (b4 b5 b6 b7 b8 b9 b10 b11 : Nat → Int32),
    wL_law_244 post L xs J (nI n) (nI i) (nI a) kc ks (nI n) g1 g2 g3 g4 a1 a2 a3 b4 b5 b6 b7 b8 b9 b10 b11
theorem cb_G_dn {k : Nat} {fr to wt : Nat → Nat} (h : cb_G (k + 1) fr to wt) : cb_G k fr to wt := ⟨by have := h.1; omega, fun e he => h.2 e (by omega)⟩
theorem cb_m_dn {k : Nat} {a : Nat → Int32} {f : Nat → Nat} (h : cb_m (k + 1) a f) : cb_m k a f := fun j hj => h j (by omega)
theorem cb_m_ad {k x : Nat} {a : Nat → Int32} {f : Nat → Nat} (h : cb_m k a f) : cb_m (k + 1) (upd a k (nI x)) (cb_up f k x) := by
  intro j hj
  by_cases c : j = k
  · rw [c, pk_us, cb_ups]
  · rw [pk_un c, cb_upn _ _ _ _ c]
    exact h j (by omega)
theorem cb_G_ad {k u v w : Nat} {fr to wt : Nat → Nat} (h : cb_G k fr to wt) (hk : k < 12) (hu : u < 7) (hv : v < 7) (huv : u ≠ v) (w1 : 1 ≤ w) (w2 : w ≤ 100) : cb_G (k + 1) (cb_up fr k u) (cb_up to k v) (cb_up wt k w) := by
  refine ⟨by omega, fun e he => ?_⟩
  by_cases c : e = k
  · rw [c, cb_ups, cb_ups, cb_ups]
    exact ⟨hu, hv, huv, w1, w2⟩
  · rw [cb_upn _ _ _ _ c, cb_upn _ _ _ _ c, cb_upn _ _ _ _ c]
    exact h.2 e (by omega)
theorem cb_202 {post : Int32 → Prop} {L : Nat} {xs : Nat → Int32} {J : cb_J} {i a kc ks : Nat} (K : cb_K post L xs J i a kc ks) {n : Nat} {fr to wt : Nat → Nat} (hG : cb_G n fr to wt) (h1 : cb_m n a1 fr) (h2 : cb_m n a2 to) (h3 : cb_m n a3 wt) {o : Nat} {x6 : Int32} (ho : o < 8) :
    wL_law_202 post L xs J (nI n) (nI i) (nI o) (nI a) x6 kc ks (nI n) f1 f2 f3 f4 a1 a2 a3 a4 a5 a6 a7 a8 a9 a10 a11 := by
  have hn := hG.1
  have k0 := K n fr to wt hG a1 a2 a3 h1 h2 h3 f1 f2 f3 f4 a4 a5 a6 a7 a8 a9 a10 a11
  refine pk_eq o 7 (fun _ => br_c (fun _ => ?_) (fun _ => k0)) (fun _ => k0)
  refine cb_drop hn (fun z => ?_) (fun k hk => ?_)
  · exact br_t (by rw [z]; rfl) (br_t rfl (pk_le n 0 (fun _ => k0) (fun w => absurd w (by omega))))
  · have e : nI n - 1 = nI k := by rw [hk]; exact nI_pred k
    have e' : nI n + (-1) = nI k := by rw [hk]; exact pk_m1 k
    subst hk
    exact br_f (nI_ne0 (by omega) (by omega)) (br_t e.symm (pk_le (k + 1) 0 (fun w => absurd w (by omega)) (fun _ => nm_r e' (K k fr to wt (cb_G_dn hG) a1 a2 a3 (cb_m_dn h1) (cb_m_dn h2) (cb_m_dn h3) f1 f2 f3 f4 a4 a5 a6 a7 a8 a9 a10 a11))))
theorem cb_tot_lt {n : Nat} {fr to wt : Nat → Nat} (hG : cb_G n fr to wt) : cb_tot n fr to wt < 2 ^ 31 := by
  have hn := hG.1
  have hr := cb_rk_le hG
  have h : ∀ r, r ≤ cb_rk n fr to → cb_sum (cb_pt n fr to wt) r ≤ 1400 * r := by
    intro r
    induction r with
    | zero => exact fun _ => by rw [cb_sum_0]; omega
    | succ r ih =>
      intro hr
      have a := ih (by omega)
      have b := (cb_pt_in (wt := wt) hG r (by omega)).2.1
      rw [cb_sum_s]
      omega
  have q := h (cb_rk n fr to) (Nat.le_refl _)
  unfold cb_tot
  omega
theorem cb_rewt {post : Int32 → Prop} {L : Nat} {xs : Nat → Int32} {J : cb_J} {i a kc ks : Nat} (K : cb_K post L xs J i a kc ks) {n : Nat} {fr to wt : Nat → Nat} (hG : cb_G n fr to wt) (h1 : cb_m n a1 fr) (h2 : cb_m n a2 to) (h3 : cb_m n a3 wt) {e w : Nat} {x7 x8 : Int32} (he : e < n) (w1 : 1 ≤ w) (w2 : w ≤ 100) (e7 : x7 = nI e) (e8 : x8 = nI w) :
    wpX_total (fun r_273 u => match u with | (c1, c2, c3, c4, c5, d1, d2, d3, d4, d5, d6, d7, d8, d9, d10, d11) => (wpX_reweigh (fun r_312 u => match u with | (c1, c2, c3, c4, c5, d1, d2, d3, d4, d5, d6, d7, d8, d9, d10, d11) => (wpX_total (fun r_351 u => match u with | (c1, c2, c3, c4, c5, d1, d2, d3, d4, d5, d6, d7, d8, d9, d10, d11) => (((x8 < r_312 → (((r_351 ≤ r_273 → (wL_law_199 post L xs J (nI n) (nI i) (nI a) kc ks c1 c2 c3 c4 c5 d1 d2 d3 d4 d5 d6 d7 d8 d9 d10 d11)) ∧ (¬ r_351 ≤ r_273 → (post 0))))) ∧ (¬ x8 < r_312 → (((r_273 ≤ r_351 → (wL_law_199 post L xs J (nI n) (nI i) (nI a) kc ks c1 c2 c3 c4 c5 d1 d2 d3 d4 d5 d6 d7 d8 d9 d10 d11)) ∧ (¬ r_273 ≤ r_351 → (post 0)))))))) (c1, c2, c3, c4, c5, d1, d2, d3, d4, d5, d6, d7, d8, d9, d10, d11))) (c1, c2, c3, c4, c5, d1, d2, d3, d4, d5, d6, d7, d8, d9, d10, d11) x7 x8)) (nI n, f1, f2, f3, f4, a1, a2, a3, a4, a5, a6, a7, a8, a9, a10, a11) := by
  have hn := hG.1
  have g := hG.2 e he
  have G' : cb_G n fr to (cb_up wt e w) := by
    refine ⟨hn, fun j hj => ?_⟩
    by_cases c : j = e
    · rw [c, cb_ups]
      exact ⟨g.1, g.2.1, g.2.2.1, w1, w2⟩
    · rw [cb_upn _ _ _ _ c]
      exact hG.2 j hj
  have h3' : cb_m n (upd a3 e (nI w)) (cb_up wt e w) := cb_m_up h3 e w rfl rfl
  have t1 := cb_tot_lt hG
  have t2 := cb_tot_lt G'
  refine cb_total hG h1 h2 h3 (fun g1 g2 g3 g4 b4 b5 b6 b7 b8 b9 b10 b11 => ?_)
  refine cb_rew hn he w1 w2 e7 e8 ?_
  refine cb_total G' h1 h2 h3' (fun g1 g2 g3 g4 b4 b5 b6 b7 b8 b9 b10 b11 => ?_)
  have k0 := K n fr to (cb_up wt e w) G' a1 a2 (upd a3 e (nI w)) h1 h2 h3' g1 g2 g3 g4 b4 b5 b6 b7 b8 b9 b10 b11
  refine pk_lt w (wt e) (fun z => ?_) (fun z => ?_) e8 (h3 e he)
  · have mo := cb_tot_mono G' hG (fun j hj => by
      by_cases c : j = e
      · rw [c, cb_ups]; omega
      · rw [cb_upn _ _ _ _ c]; exact Nat.le_refl _)
    exact pk_le (cb_tot n fr to (cb_up wt e w)) (cb_tot n fr to wt) (fun _ => k0) (fun q => absurd q (by omega))
  · have mo := cb_tot_mono hG G' (fun j hj => by
      by_cases c : j = e
      · rw [c, cb_ups]; omega
      · rw [cb_upn _ _ _ _ c]; exact Nat.le_refl _)
    exact pk_le (cb_tot n fr to wt) (cb_tot n fr to (cb_up wt e w)) (fun _ => k0) (fun q => absurd q (by omega))
theorem cb_edt {post : Int32 → Prop} {L : Nat} {xs : Nat → Int32} {J : cb_J} {i a kc ks : Nat} (K : cb_K post L xs J i a kc ks) {n : Nat} {fr to wt : Nat → Nat} (hG : cb_G n fr to wt) (h1 : cb_m n a1 fr) (h2 : cb_m n a2 to) (h3 : cb_m n a3 wt) {u v w : Nat} {ui vi wi : Int32} (hu : u < 7) (hv : v < 7) (huv : u ≠ v) (w1 : 1 ≤ w) (w2 : w ≤ 100) (eu : ui = nI u) (ev : vi = nI v) (ew : wi = nI w) :
    wpX_edge (fun r_398 u => match u with | (c1, c2, c3, c4, c5, d1, d2, d3, d4, d5, d6, d7, d8, d9, d10, d11) => (((nI n = 12 → (wL_law_108 post L xs J (nI n) (nI i) (nI a) (-3) r_398 kc ks c1 c2 c3 c4 c5 d1 d2 d3 d4 d5 d6 d7 d8 d9 d10 d11)) ∧ (¬ nI n = 12 → (wL_law_108 post L xs J (nI n) (nI i) (nI a) (nI n) r_398 kc ks c1 c2 c3 c4 c5 d1 d2 d3 d4 d5 d6 d7 d8 d9 d10 d11))))) (nI n, f1, f2, f3, f4, a1, a2, a3, a4, a5, a6, a7, a8, a9, a10, a11) ui vi wi := by
  have hn := hG.1
  refine cb_edge hn hu hv huv w1 w2 eu ev ew (fun z => ?_) (fun z => ?_)
  · refine pk_eq n 12 (fun y => absurd y (by omega)) (fun _ => br_t rfl (pk_le 12 n (fun y => absurd y (by omega)) (fun _ => nm_r (nI_1 n) ?_)))
    exact K (n + 1) (cb_up fr n u) (cb_up to n v) (cb_up wt n w) (cb_G_ad hG z hu hv huv w1 w2) _ _ _ (cb_m_ad h1) (cb_m_ad h2) (cb_m_ad h3) f1 f2 f3 f4 a4 a5 a6 a7 a8 a9 a10 a11
  · refine pk_eq n 12 (fun _ => br_t rfl (pk_le 12 n (fun _ => ?_) (fun y => absurd y (by omega)))) (fun y => absurd z y)
    exact K n fr to wt hG a1 a2 a3 h1 h2 h3 f1 f2 f3 f4 a4 a5 a6 a7 a8 a9 a10 a11
end
section
/-! the law's loop, and what is owed -/
variable {f0 f1 f2 f3 f4 : Int32} {a1 a2 a3 a4 a5 a6 a7 a8 a9 a10 a11 : Nat → Int32}
theorem cb_head {L i : Nat} (hL : L ≤ 260) (hi : i ≤ 47) : (Int32.ofNat L) - 3 < nI i ↔ L < i + 3 := by
  have e : (nI L - nI 3).toInt = (L : Int) - 3 := pk_sub_toInt (a := L) (b := 3) (by omega) (by omega)
  have e2 : (nI i).toInt = (i : Int) := nI_toInt (by omega)
  show nI L - nI 3 < nI i ↔ L < i + 3
  rw [Int32.lt_iff_toInt_lt, e, e2]
  omega
theorem cb_law12 {post : Int32 → Prop} (hp : post 1) {L : Nat} {xs : Nat → Int32} {kc ks : Nat} (hL : L ≤ 260) : ∀ f i, i ≤ 47 → 48 ≤ i + 3 * f → ∀ n fr to wt, cb_G n fr to wt → ∀ a1 a2 a3, cb_m n a1 fr → cb_m n a2 to → cb_m n a3 wt → ∀ (f1 f2 f3 f4 : Int32) (a4 a5 a6 a7 a8 a9 a10 a11 : Nat → Int32),
    wL_law_12 post L xs kc ks f (nI n) (nI i) (nI n) f1 f2 f3 f4 a1 a2 a3 a4 a5 a6 a7 a8 a9 a10 a11 := by
  intro f
  induction f with
  | zero =>
    intro i h1 h2
    omega
  | succ f ih =>
    intro i hi hf n fr to wt hG a1 a2 a3 h1 h2 h3 f1 f2 f3 f4 a4 a5 a6 a7 a8 a9 a10 a11
    have hn := hG.1
    have fin : ∃ k, wL_law_321 post L xs (nI n) kc ks k 0 (nI n) f1 f2 f3 f4 a1 a2 a3 a4 a5 a6 a7 a8 a9 a10 a11 := cb_321 hp hG h1 h2 h3
    refine ek_if (cb_head hL hi) (fun _ => fin) (fun c => ?_)
    refine pk_le 45 i (fun _ => fin) (fun c2 => ?_)
    have i1 : nI i + 1 = nI (i + 1) := nI_1 i
    have i2 : nI i + 2 = nI (i + 2) := nI_add i 2
    obtain ⟨o, ho, e4⟩ := pk_andE (xs (nI i).toNatClampNeg) (m := 7) 3 (by decide)
    obtain ⟨a, ha, e5⟩ := pk_andE (xs (nI i + 1).toNatClampNeg) (m := 1048575) 20 (by decide)
    obtain ⟨b, hb, e6⟩ := pk_andE (xs (nI i + 2).toNatClampNeg) (m := 1048575) 20 (by decide)
    have K : cb_K post L xs (wL_law_12 post L xs kc ks f) i a kc ks := by
      intro n' fr' to' wt' G' b1 b2 b3 k1 k2 k3 g1 g2 g3 g4 b4 b5 b6 b7 b8 b9 b10 b11
      exact cb_244 G' k1 k2 k3 ha (fun g1 g2 g3 g4 b4 b5 b6 b7 b8 b9 b10 b11 => ih (i + 3) (by omega) (by omega) n' fr' to' wt' G' b1 b2 b3 k1 k2 k3 g1 g2 g3 g4 b4 b5 b6 b7 b8 b9 b10 b11)
    refine ⟨pk_in i L (by omega), nm_r e4 ⟨pk_in (i + 1) L (by omega) i1, nm_r e5 ⟨pk_in (i + 2) L (by omega) i2, nm_r e6 ?_⟩⟩⟩
    refine pk_lt 4 o (fun c3 => pk_lt 6 o (fun _ => cb_202 K hG h1 h2 h3 ho) (fun c4 => pk_le n 0 (fun _ => cb_202 K hG h1 h2 h3 ho) (fun c5 => ?_))) (fun c3 => ?_)
    · have X7 : nI a - nI a / nI n * nI n = nI (a % n) := pk_rem (by omega) c5 (by omega)
      have R : nI b - nI b / 100 * 100 = nI (b % 100) := pk_rem (a := b) (d := 100) (by omega) (by omega) (by omega)
      have X8 : 1 + (nI b - nI b / 100 * 100) = nI (1 + b % 100) := by rw [R]; exact nI_add 1 _
      refine ⟨nI_ne0 c5 (by omega), nm_r X7 ⟨by decide, nm_r X8 ?_⟩⟩
      exact cb_rewt K hG h1 h2 h3 (Nat.mod_lt a c5) (by omega) (by omega) rfl rfl
    · have U : nI a - nI a / 5 * 5 = nI (a % 5) := pk_rem (a := a) (d := 5) (by omega) (by omega) (by omega)
      have R4 : nI b - nI b / 4 * 4 = nI (b % 4) := pk_rem (a := b) (d := 4) (by omega) (by omega) (by omega)
      have V0 : (nI (a % 5) + 1) + (nI b - nI b / 4 * 4) = nI (a % 5 + 1 + b % 4) := by rw [R4, nI_1, nI_add]
      have V : ((nI (a % 5) + 1) + (nI b - nI b / 4 * 4)) - ((nI (a % 5) + 1) + (nI b - nI b / 4 * 4)) / 5 * 5 = nI ((a % 5 + 1 + b % 4) % 5) := by
        rw [V0]
        exact pk_rem (a := a % 5 + 1 + b % 4) (d := 5) (by omega) (by omega) (by omega)
      have S5 : nI b >>> ((5 : Int32) &&& 31) = nI (b / 2 ^ 5) := pk_shrN (by omega) _ 5 (by decide)
      have R5 : nI (b / 2 ^ 5) - nI (b / 2 ^ 5) / 100 * 100 = nI (b / 2 ^ 5 % 100) := pk_rem (a := b / 2 ^ 5) (d := 100) (by omega) (by omega) (by omega)
      have W : 1 + ((nI b >>> ((5 : Int32) &&& 31)) - (nI b >>> ((5 : Int32) &&& 31)) / 100 * 100) = nI (1 + b / 2 ^ 5 % 100) := by
        rw [S5, R5]
        exact nI_add 1 _
      refine ⟨by decide, nm_r U ⟨by decide, by decide, by decide, ?_⟩⟩
      exact cb_edt K hG h1 h2 h3 (u := a % 5) (v := (a % 5 + 1 + b % 4) % 5) (w := 1 + b / 2 ^ 5 % 100) (by omega) (by omega) (by omega) (by omega) (by omega) rfl V W
theorem i_vc (xs : Nat → Int32) (L : Nat) (hL : L ≤ 260) : wpL_law (fun r => r = 1) L xs := by
  refine ⟨11, 133, by omega, by omega, ?_⟩
  unfold wpX_init
  refine ⟨by omega, by omega, by omega, by omega, by omega, by omega, by omega, by omega, by omega, by omega, by omega, by omega, by omega, by omega, by omega, by omega, by omega, by omega, by omega, by omega, by omega, by omega, 16, ?_⟩
  exact cb_law12 (post := fun r => r = 1) rfl hL 16 0 (by omega) (by omega) 0 (fun _ => 0) (fun _ => 0) (fun _ => 0) ⟨by omega, fun e he => absurd he (by omega)⟩ _ _ _ (fun j hj => absurd hj (by omega)) (fun j hj => absurd hj (by omega)) (fun j hj => absurd hj (by omega)) _ _ _ _ _ _ _ _ _ _ _ _
end
