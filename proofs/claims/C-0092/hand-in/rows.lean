section
/-! finite sums of Int over 0 .. n - 1, and counts -/
def sm_s (f : Nat → Int) : Nat → Int
  | 0 => 0
  | n + 1 => sm_s f n + f n
theorem sm_ext {f g : Nat → Int} {n : Nat} (h : ∀ i, i < n → f i = g i) : sm_s f n = sm_s g n := by
  induction n with
  | zero => rfl
  | succ n ih =>
    show sm_s f n + f n = sm_s g n + g n
    rw [ih (fun i hi => h i (by omega)), h n (by omega)]
theorem sm_le {f g : Nat → Int} {n : Nat} (h : ∀ i, i < n → f i ≤ g i) : sm_s f n ≤ sm_s g n := by
  induction n with
  | zero => exact Int.le_refl _
  | succ n ih =>
    show sm_s f n + f n ≤ sm_s g n + g n
    have a := ih (fun i hi => h i (by omega))
    have b := h n (by omega)
    omega
theorem sm_lt1 {f g : Nat → Int} {n k : Nat} (h : ∀ i, i < n → f i ≤ g i) (hk : k < n) (h1 : f k + 1 ≤ g k) : sm_s f n + 1 ≤ sm_s g n := by
  induction n with
  | zero => omega
  | succ n ih =>
    show sm_s f n + f n + 1 ≤ sm_s g n + g n
    by_cases e : k = n
    · subst e
      have a := sm_le (n := k) (f := f) (g := g) (fun i hi => h i (by omega))
      omega
    · have a := ih (fun i hi => h i (by omega)) (by omega)
      have b := h n (by omega)
      omega
theorem sm_add (f g : Nat → Int) (n : Nat) : sm_s (fun i => f i + g i) n = sm_s f n + sm_s g n := by
  induction n with
  | zero => rfl
  | succ n ih =>
    show sm_s (fun i => f i + g i) n + (f n + g n) = sm_s f n + f n + (sm_s g n + g n)
    rw [ih]; omega
theorem sm_mul (c : Int) (f : Nat → Int) (n : Nat) : sm_s (fun i => c * f i) n = c * sm_s f n := by
  induction n with
  | zero => exact (Int.mul_zero c).symm
  | succ n ih =>
    show sm_s (fun i => c * f i) n + c * f n = c * (sm_s f n + f n)
    rw [ih, Int.mul_add]
theorem sm_sub (f g : Nat → Int) (n : Nat) : sm_s (fun i => f i - g i) n = sm_s f n - sm_s g n := by
  induction n with
  | zero => rfl
  | succ n ih =>
    show sm_s (fun i => f i - g i) n + (f n - g n) = sm_s f n + f n - (sm_s g n + g n)
    rw [ih]; omega
theorem sm_zero (n : Nat) : sm_s (fun _ => 0) n = 0 := by
  induction n with
  | zero => rfl
  | succ n ih => show sm_s (fun _ => 0) n + 0 = 0; rw [ih]; rfl
theorem sm_0 {f : Nat → Int} {n : Nat} (h : ∀ i, i < n → f i = 0) : sm_s f n = 0 := by
  rw [sm_ext (g := fun _ => 0) h, sm_zero]
theorem sm_pos {f : Nat → Int} {n : Nat} (h : ∀ i, i < n → 0 ≤ f i) : 0 ≤ sm_s f n := by
  have a := sm_le (f := fun _ => 0) (g := f) (n := n) h
  rw [sm_zero] at a
  exact a
theorem sm_swap (f : Nat → Nat → Int) (n m : Nat) : sm_s (fun i => sm_s (fun j => f i j) m) n = sm_s (fun j => sm_s (fun i => f i j) n) m := by
  induction n with
  | zero => exact (sm_zero m).symm
  | succ n ih =>
    show sm_s (fun i => sm_s (fun j => f i j) m) n + sm_s (fun j => f n j) m = sm_s (fun j => sm_s (fun i => f i j) n + f n j) m
    rw [ih, sm_add]
/-- one term stands alone -/
theorem sm_one {f : Nat → Int} {n k : Nat} (hk : k < n) (h : ∀ i, i < n → i ≠ k → f i = 0) : sm_s f n = f k := by
  induction n with
  | zero => omega
  | succ n ih =>
    show sm_s f n + f n = f k
    by_cases e : k = n
    · subst e
      rw [sm_0 (fun i hi => h i (by omega) (by omega))]; omega
    · rw [ih (by omega) (fun i hi hn => h i (by omega) hn), h n (by omega) (fun z => e z.symm)]; omega
/-- one term at least -/
theorem sm_get {f : Nat → Int} {n k : Nat} (hk : k < n) (h : ∀ i, i < n → 0 ≤ f i) : f k ≤ sm_s f n := by
  induction n with
  | zero => omega
  | succ n ih =>
    show f k ≤ sm_s f n + f n
    by_cases e : k = n
    · subst e
      have a := sm_pos (f := f) (n := k) (fun i hi => h i (by omega))
      omega
    · have a := ih (by omega) (fun i hi => h i (by omega))
      have b := h n (by omega)
      omega
/-- two double sums by their pairs -/
theorem sm_sym {H G : Nat → Nat → Int} {n : Nat} (h : ∀ i j, i < n → j < n → H i j + H j i ≤ G i j + G j i) : sm_s (fun j => sm_s (fun i => H i j) n) n ≤ sm_s (fun j => sm_s (fun i => G i j) n) n := by
  have e : ∀ F : Nat → Nat → Int, sm_s (fun j => sm_s (fun i => F i j + F j i) n) n = 2 * sm_s (fun j => sm_s (fun i => F i j) n) n := by
    intro F
    have a : sm_s (fun j => sm_s (fun i => F i j + F j i) n) n = sm_s (fun j => sm_s (fun i => F i j) n + sm_s (fun i => F j i) n) n := sm_ext (fun j _ => sm_add (fun i => F i j) (fun i => F j i) n)
    rw [a, sm_add, sm_swap (fun j i => F j i) n n]
    omega
  have b : sm_s (fun j => sm_s (fun i => H i j + H j i) n) n ≤ sm_s (fun j => sm_s (fun i => G i j + G j i) n) n := sm_le (fun j hj => sm_le (fun i hi => h i j hi hj))
  rw [e H, e G] at b
  omega
/-- a count -/
def ct_n (b : Nat → Bool) : Nat → Nat
  | 0 => 0
  | n + 1 => ct_n b n + (if b n = true then 1 else 0)
theorem ct_sm (b : Nat → Bool) (n : Nat) : (ct_n b n : Int) = sm_s (fun i => if b i = true then 1 else 0) n := by
  induction n with
  | zero => rfl
  | succ n ih =>
    show ((ct_n b n + (if b n = true then 1 else 0) : Nat) : Int) = sm_s (fun i => if b i = true then 1 else 0) n + (if b n = true then 1 else 0)
    rw [← ih]
    by_cases h : b n = true
    · rw [if_pos h, if_pos h]; omega
    · rw [if_neg h, if_neg h]; omega
theorem ct_0 {b : Nat → Bool} {n : Nat} (h : ∀ i, i < n → b i = false) : ct_n b n = 0 := by
  induction n with
  | zero => rfl
  | succ n ih =>
    show ct_n b n + (if b n = true then 1 else 0) = 0
    rw [ih (fun i hi => h i (by omega)), h n (by omega)]; rfl
theorem ct_all (n : Nat) : ct_n (fun _ => true) n = n := by
  induction n with
  | zero => rfl
  | succ n ih => show ct_n (fun _ => true) n + 1 = n + 1; rw [ih]
theorem ct_one {b : Nat → Bool} {n : Nat} (h : ∀ i j, i < n → j < n → b i = true → b j = true → i = j) : ct_n b n ≤ 1 := by
  induction n with
  | zero => exact Nat.zero_le _
  | succ n ih =>
    show ct_n b n + (if b n = true then 1 else 0) ≤ 1
    by_cases z : b n = true
    · have e : ct_n b n = 0 := ct_0 (fun i hi => by
        cases q : b i with
        | false => rfl
        | true => exact absurd (h i n (by omega) (by omega) q z) (by omega))
      rw [e, if_pos z]; omega
    · have a := ih (fun i j hi hj => h i j (by omega) (by omega))
      rw [if_neg z]; omega
theorem ct_or {a b c : Nat → Bool} {n : Nat} (h : ∀ i, i < n → a i = true → b i = true ∨ c i = true) : ct_n a n ≤ ct_n b n + ct_n c n := by
  induction n with
  | zero => exact Nat.zero_le _
  | succ n ih =>
    show ct_n a n + (if a n = true then 1 else 0) ≤ ct_n b n + (if b n = true then 1 else 0) + (ct_n c n + (if c n = true then 1 else 0))
    have x := ih (fun i hi => h i (by omega))
    by_cases z : a n = true
    · rw [if_pos z]
      rcases h n (by omega) z with q | q
      · rw [if_pos q]; omega
      · rw [if_pos q]; omega
    · rw [if_neg z]; omega
theorem ct_mono {a b : Nat → Bool} {n : Nat} (h : ∀ i, i < n → a i = true → b i = true) : ct_n a n ≤ ct_n b n := by
  have x := ct_or (a := a) (b := b) (c := fun _ => false) (n := n) (fun i hi z => Or.inl (h i hi z))
  rw [ct_0 (b := fun _ => false) (fun _ _ => rfl)] at x
  exact x
theorem ct_lt {a b : Nat → Bool} {n k : Nat} (h : ∀ i, i < n → a i = true → b i = true) (hk : k < n) (ha : a k = false) (hb : b k = true) : ct_n a n + 1 ≤ ct_n b n := by
  induction n with
  | zero => omega
  | succ n ih =>
    show ct_n a n + (if a n = true then 1 else 0) + 1 ≤ ct_n b n + (if b n = true then 1 else 0)
    by_cases e : k = n
    · subst e
      have x := ct_mono (a := a) (b := b) (n := k) (fun i hi => h i (by omega))
      rw [ha, hb]
      show ct_n a k + 0 + 1 ≤ ct_n b k + 1
      omega
    · have x := ih (fun i hi => h i (by omega)) (by omega)
      by_cases z : a n = true
      · rw [if_pos z, if_pos (h n (by omega) z)]; omega
      · rw [if_neg z]; omega
/-- different numbers from 1 to q are at most q -/
theorem ct_inj {b : Nat → Bool} {f : Nat → Nat} {n : Nat} (h1 : ∀ i, i < n → b i = true → 1 ≤ f i) (hi : ∀ i j, i < n → j < n → b i = true → b j = true → f i = f j → i = j) : ∀ q : Nat, ct_n (fun i => b i && decide (f i < q + 1)) n ≤ q := by
  intro q
  induction q with
  | zero =>
    rw [ct_0 (fun i hn => ?_)]
    · exact Nat.le_refl _
    · cases z : b i with
      | false => rfl
      | true =>
        have := h1 i hn z
        show (true && decide (f i < 0 + 1)) = false
        rw [decide_eq_false (by omega)]; rfl
  | succ q ih =>
    have x := ct_or (a := fun i => b i && decide (f i < q + 1 + 1)) (b := fun i => b i && decide (f i < q + 1)) (c := fun i => b i && decide (f i = q + 1)) (n := n) (fun i hn z => by
      rw [Bool.and_eq_true, decide_eq_true_eq] at z
      by_cases e : f i = q + 1
      · exact Or.inr (by rw [Bool.and_eq_true, decide_eq_true_eq]; exact ⟨z.1, e⟩)
      · exact Or.inl (by rw [Bool.and_eq_true, decide_eq_true_eq]; exact ⟨z.1, by omega⟩))
    have y : ct_n (fun i => b i && decide (f i = q + 1)) n ≤ 1 := ct_one (fun i j hi' hj' za zb => by
      rw [Bool.and_eq_true, decide_eq_true_eq] at za zb
      exact hi i j hi' hj' za.1 zb.1 (by omega))
    omega
/-- pigeons -/
theorem ct_pig {f : Nat → Nat} {n q : Nat} (h1 : ∀ i, i < n → 1 ≤ f i ∧ f i ≤ q) (hi : ∀ i j, i < n → j < n → f i = f j → i = j) : n ≤ q := by
  have a := ct_inj (b := fun _ => true) (f := f) (n := n) (fun i hn _ => (h1 i hn).1) (fun i j hn hm _ _ e => hi i j hn hm e) q
  have b := ct_mono (a := fun _ => true) (b := fun i => true && decide (f i < q + 1)) (n := n) (fun i hn _ => by
    have := (h1 i hn).2
    show (true && decide (f i < q + 1)) = true
    rw [decide_eq_true (by omega)]; rfl)
  rw [ct_all] at b
  omega
/-- a sum over what is hit, by what hits it: p is one to one from the c < n with p c in 1 .. R onto 1 .. R -/
theorem sm_re {p : Nat → Nat} {g : Nat → Int} {n R : Nat} (hp : ∀ c, c < n → p c ≤ R) (hs : ∀ r, 1 ≤ r → r ≤ R → ∃ c, c < n ∧ p c = r) (hi : ∀ c c', c < n → c' < n → p c = p c' → p c ≠ 0 → c = c') : sm_s (fun c => if p c = 0 then 0 else g (p c)) n = sm_s (fun r => g (r + 1)) R := by
  have a : sm_s (fun c => if p c = 0 then 0 else g (p c)) n = sm_s (fun c => sm_s (fun r => if p c = r + 1 then g (r + 1) else 0) R) n := by
    refine sm_ext (fun c hc => ?_)
    by_cases z : p c = 0
    · rw [if_pos z]
      exact (sm_0 (fun i _ => if_neg (by omega))).symm
    · rw [if_neg z]
      have hb := hp c hc
      have e := sm_one (f := fun r => if p c = r + 1 then g (r + 1) else 0) (n := R) (k := p c - 1) (by omega) (fun i _ hn => if_neg (by omega))
      rw [e]
      show g (p c) = if p c = p c - 1 + 1 then g (p c - 1 + 1) else 0
      rw [show p c - 1 + 1 = p c from by omega, if_pos rfl]
  rw [a, sm_swap]
  refine sm_ext (fun r hr => ?_)
  obtain ⟨c, hc, e⟩ := hs (r + 1) (by omega) (by omega)
  rw [sm_one (k := c) hc (fun i hi' hn => if_neg (fun z => hn (hi i c hi' hc (by omega) (by omega))))]
  exact if_pos e
/-- a sum of numbers below 0 by different places -/
theorem sm_sel {v : Nat → Int} {t : Nat → Nat} {n R : Nat} (hv : ∀ c, c < n → v c ≤ 0) (ht : ∀ r, r < R → t r < n) (hi : ∀ r r', r < R → r' < R → t r = t r' → r = r') : sm_s v n ≤ sm_s (fun r => v (t r)) R := by
  have a : sm_s (fun r => v (t r)) R = sm_s (fun r => sm_s (fun c => if c = t r then v c else 0) n) R := by
    refine sm_ext (fun r hr => ?_)
    rw [sm_one (k := t r) (ht r hr) (fun i _ hn => if_neg hn)]
    exact (if_pos rfl).symm
  rw [a, sm_swap]
  refine sm_le (fun c hc => ?_)
  by_cases z : ∃ r, r < R ∧ t r = c
  · obtain ⟨r, hr, e⟩ := z
    rw [sm_one (k := r) hr (fun i hi' hn => if_neg (fun q => hn (hi i r hi' hr (by omega))))]
    show v c ≤ if c = t r then v c else 0
    rw [if_pos e.symm]
    exact Int.le_refl _
  · rw [sm_0 (fun i hi' => if_neg (fun q => z ⟨i, hi', q.symm⟩))]
    exact hv c hc
end
section
/-! the pure side: ways (the machine of each job), the total of a way, and places counted from the end -/
/-- job i is done ahead of job j on its machine -/
def fd_bf (S : Nat) (T : Nat → Nat → Int) (w : Nat → Nat) (i j : Nat) : Bool :=
  S.testBit i && (decide (i ≠ j) && (decide (w i = w j) && decide (T i (w i) < T j (w j) ∨ (T i (w i) = T j (w j) ∧ i < j))))
theorem fd_bf_iff {S : Nat} {T : Nat → Nat → Int} {w : Nat → Nat} {i j : Nat} : fd_bf S T w i j = true ↔ S.testBit i = true ∧ i ≠ j ∧ w i = w j ∧ (T i (w i) < T j (w j) ∨ (T i (w i) = T j (w j) ∧ i < j)) := by
  unfold fd_bf
  rw [Bool.and_eq_true, Bool.and_eq_true, Bool.and_eq_true, decide_eq_true_eq, decide_eq_true_eq, decide_eq_true_eq]
def fd_fin (S : Nat) (T : Nat → Nat → Int) (w : Nat → Nat) (j : Nat) : Int := T j (w j) + sm_s (fun i => if fd_bf S T w i j = true then T i (w i) else 0) 5
def fd_tot (S : Nat) (T : Nat → Nat → Int) (w : Nat → Nat) : Int := sm_s (fun j => if S.testBit j = true then fd_fin S T w j else 0) 5
/-- a way that is asked for: present jobs on machines that may do them, absent jobs on machine 0 -/
def fd_ok (S : Nat) (al : Nat → Nat → Bool) (w : Nat → Nat) : Prop := ∀ j, j < 5 → w j < 4 ∧ (S.testBit j = true → al j (w j) = true) ∧ (S.testBit j = false → w j = 0)
/-- the least total, or -1 -/
def fd_lst (S : Nat) (T : Nat → Nat → Int) (al : Nat → Nat → Bool) (r : Int) : Prop :=
  (r = -1 ∧ ∀ w, ¬ fd_ok S al w) ∨ ∃ w, fd_ok S al w ∧ r = fd_tot S T w ∧ ∀ w', fd_ok S al w' → r ≤ fd_tot S T w'
theorem fd_lst_u {S : Nat} {T : Nat → Nat → Int} {al : Nat → Nat → Bool} {r r' : Int} (h : fd_lst S T al r) (h' : fd_lst S T al r') : r = r' := by
  rcases h with ⟨e, n⟩ | ⟨w, o, e, m⟩
  · rcases h' with ⟨e', n'⟩ | ⟨w', o', e', m'⟩
    · rw [e, e']
    · exact absurd o' (n w')
  · rcases h' with ⟨e', n'⟩ | ⟨w', o', e', m'⟩
    · exact absurd o (n' w)
    · have a := m w' o'
      have b := m' w o
      omega
/-- what job i adds to job j's end -/
def fd_H (S : Nat) (T : Nat → Nat → Int) (w : Nat → Nat) (i j : Nat) : Int := if (S.testBit j && fd_bf S T w i j) = true then T i (w i) else 0
theorem fd_H_0 {S : Nat} {T : Nat → Nat → Int} {w : Nat → Nat} {i j : Nat} (h : ¬ (S.testBit j = true ∧ fd_bf S T w i j = true)) : fd_H S T w i j = 0 := if_neg (by rw [Bool.and_eq_true]; exact h)
theorem fd_H_1 {S : Nat} {T : Nat → Nat → Int} {w : Nat → Nat} {i j : Nat} (h : S.testBit j = true) (b : fd_bf S T w i j = true) : fd_H S T w i j = T i (w i) := if_pos (by rw [Bool.and_eq_true]; exact ⟨h, b⟩)
theorem fd_tot_eq (S : Nat) (T : Nat → Nat → Int) (w : Nat → Nat) : fd_tot S T w = sm_s (fun j => if S.testBit j = true then T j (w j) else 0) 5 + sm_s (fun j => sm_s (fun i => fd_H S T w i j) 5) 5 := by
  rw [← sm_add]
  refine sm_ext (fun j _ => ?_)
  by_cases h : S.testBit j = true
  · rw [if_pos h, if_pos h]
    refine congrArg (fun z => T j (w j) + z) (sm_ext (fun i _ => ?_))
    by_cases b : fd_bf S T w i j = true
    · rw [if_pos b, fd_H_1 h b]
    · rw [if_neg b, fd_H_0 (fun z => b z.2)]
  · rw [if_neg h, if_neg h, sm_0 (fun i _ => fd_H_0 (fun z => h z.1))]
    rfl
/-- every choice of places costs at least the total of its way -/
theorem fd_low {S : Nat} {T : Nat → Nat → Int} {w : Nat → Nat} {q : Nat → Nat} (hT : ∀ j, j < 5 → S.testBit j = true → 0 ≤ T j (w j)) (hq : ∀ j, j < 5 → S.testBit j = true → 1 ≤ q j) (hd : ∀ i j, i < 5 → j < 5 → S.testBit i = true → S.testBit j = true → w i = w j → q i = q j → i = j) : fd_tot S T w ≤ sm_s (fun j => if S.testBit j = true then (q j : Int) * T j (w j) else 0) 5 := by
  rw [fd_tot_eq]
  have a : sm_s (fun j => sm_s (fun i => fd_H S T w i j) 5) 5 ≤ sm_s (fun j => sm_s (fun i => (fun i j => if (S.testBit i = true ∧ S.testBit j = true ∧ w i = w j ∧ q i < q j) then T j (w j) else 0) i j) 5) 5 := by
    refine sm_sym (G := fun i j => if (S.testBit i = true ∧ S.testBit j = true ∧ w i = w j ∧ q i < q j) then T j (w j) else 0) (fun i j hi hj => ?_)
    have g1 : ∀ i j, i < 5 → j < 5 → (0 : Int) ≤ (if (S.testBit i = true ∧ S.testBit j = true ∧ w i = w j ∧ q i < q j) then T j (w j) else 0) := by
      intro i j hi hj
      by_cases c : S.testBit i = true ∧ S.testBit j = true ∧ w i = w j ∧ q i < q j
      · rw [if_pos c]; exact hT j hj c.2.1
      · rw [if_neg c]; exact Int.le_refl _
    have p1 := g1 i j hi hj
    have p2 := g1 j i hj hi
    by_cases c : S.testBit i = true ∧ S.testBit j = true ∧ w i = w j ∧ i ≠ j
    · obtain ⟨si, sj, e, n⟩ := c
      have qn : q i ≠ q j := fun z => n (hd i j hi hj si sj e z)
      have ti := hT i hi si
      have tj := hT j hj sj
      have main : fd_H S T w i j + fd_H S T w j i ≤ T i (w i) ∧ fd_H S T w i j + fd_H S T w j i ≤ T j (w j) := by
        by_cases o : T i (w i) < T j (w j) ∨ (T i (w i) = T j (w j) ∧ i < j)
        · rw [fd_H_1 sj (fd_bf_iff.mpr ⟨si, n, e, o⟩), fd_H_0 (fun z => by
            have := (fd_bf_iff.mp z.2).2.2.2
            omega)]
          omega
        · rw [fd_H_0 (i := i) (j := j) (fun z => o (fd_bf_iff.mp z.2).2.2.2), fd_H_1 si (fd_bf_iff.mpr ⟨sj, fun z => n z.symm, e.symm, by omega⟩)]
          omega
      by_cases o : q i < q j
      · rw [if_pos ⟨si, sj, e, o⟩] at p1 ⊢
        omega
      · rw [if_pos (c := S.testBit j = true ∧ S.testBit i = true ∧ w j = w i ∧ q j < q i) ⟨sj, si, e.symm, by omega⟩] at p2 ⊢
        omega
    · rw [fd_H_0 (i := i) (j := j) (fun z => by
        have b := fd_bf_iff.mp z.2
        exact c ⟨b.1, z.1, b.2.2.1, b.2.1⟩), fd_H_0 (i := j) (j := i) (fun z => by
        have b := fd_bf_iff.mp z.2
        exact c ⟨z.1, b.1, b.2.2.1.symm, fun y => b.2.1 y.symm⟩)]
      omega
  have b : sm_s (fun j => (if S.testBit j = true then T j (w j) else 0) + sm_s (fun i => (fun i j => if (S.testBit i = true ∧ S.testBit j = true ∧ w i = w j ∧ q i < q j) then T j (w j) else 0) i j) 5) 5 ≤ sm_s (fun j => if S.testBit j = true then (q j : Int) * T j (w j) else 0) 5 := by
    refine sm_le (fun j hj => ?_)
    (try dsimp only)
    by_cases sj : S.testBit j = true
    · rw [if_pos sj, if_pos sj]
      have e : sm_s (fun i => if (S.testBit i = true ∧ S.testBit j = true ∧ w i = w j ∧ q i < q j) then T j (w j) else 0) 5 = T j (w j) * (ct_n (fun i => (S.testBit i && decide (w i = w j)) && decide (q i < q j - 1 + 1)) 5 : Nat) := by
        rw [ct_sm, ← sm_mul]
        refine sm_ext (fun i _ => ?_)
        have q1 := hq j hj sj
        by_cases c : S.testBit i = true ∧ S.testBit j = true ∧ w i = w j ∧ q i < q j
        · rw [if_pos c, if_pos (by rw [Bool.and_eq_true, Bool.and_eq_true, decide_eq_true_eq, decide_eq_true_eq]; exact ⟨⟨c.1, c.2.2.1⟩, by omega⟩), Int.mul_one]
        · rw [if_neg c, if_neg (by rw [Bool.and_eq_true, Bool.and_eq_true, decide_eq_true_eq, decide_eq_true_eq]; exact fun z => c ⟨z.1.1, sj, z.1.2, by omega⟩), Int.mul_zero]
      rw [e]
      have k := ct_inj (b := fun i => S.testBit i && decide (w i = w j)) (f := q) (n := 5) (fun i hi z => by
        rw [Bool.and_eq_true] at z
        exact hq i hi z.1) (fun i i' hi hi' z z' ee => by
        rw [Bool.and_eq_true, decide_eq_true_eq] at z z'
        exact hd i i' hi hi' z.1 z'.1 (z.2.trans z'.2.symm) ee) (q j - 1)
      have q1 := hq j hj sj
      have kk : ((ct_n (fun i => (S.testBit i && decide (w i = w j)) && decide (q i < q j - 1 + 1)) 5 : Nat) : Int) ≤ (q j : Int) - 1 := by omega
      have m := Int.mul_le_mul_of_nonneg_left kk (hT j hj sj)
      have r : T j (w j) * ((q j : Int) - 1) = (q j : Int) * T j (w j) - T j (w j) := by
        rw [Int.mul_sub, Int.mul_one, Int.mul_comm]
      rw [r] at m
      omega
    · rw [if_neg sj, if_neg sj, sm_0 (fun i _ => if_neg (fun z => sj z.2.1))]
      exact Int.le_refl _
  rw [sm_add] at b
  omega
/-- the place of a job, counted from the end, when shorter jobs go first -/
def fd_pl (S : Nat) (T : Nat → Nat → Int) (w : Nat → Nat) (j : Nat) : Nat := ct_n (fun i => S.testBit i && fd_bf S T w j i) 5 + 1
theorem fd_up (S : Nat) (T : Nat → Nat → Int) (w : Nat → Nat) : sm_s (fun j => if S.testBit j = true then (fd_pl S T w j : Int) * T j (w j) else 0) 5 = fd_tot S T w := by
  rw [fd_tot_eq, sm_swap (fun j i => fd_H S T w i j) 5 5, ← sm_add]
  refine sm_ext (fun j _ => ?_)
  by_cases sj : S.testBit j = true
  · rw [if_pos sj, if_pos sj]
    have e : sm_s (fun i => fd_H S T w j i) 5 = T j (w j) * (ct_n (fun i => S.testBit i && fd_bf S T w j i) 5 : Nat) := by
      rw [ct_sm, ← sm_mul]
      refine sm_ext (fun i _ => ?_)
      by_cases c : S.testBit i = true ∧ fd_bf S T w j i = true
      · rw [fd_H_1 c.1 c.2, if_pos (by rw [Bool.and_eq_true]; exact c), Int.mul_one]
      · rw [fd_H_0 c, if_neg (by rw [Bool.and_eq_true]; exact c), Int.mul_zero]
    rw [e]
    unfold fd_pl
    rw [Int.natCast_add, Int.add_mul, Int.mul_comm]
    show _ + (1 : Int) * _ = _
    rw [Int.one_mul]
    omega
  · rw [if_neg sj, if_neg sj, sm_0 (fun i _ => fd_H_0 (fun z => sj (fd_bf_iff.mp z.2).1))]
    rfl
theorem fd_pl_lt {S : Nat} {T : Nat → Nat → Int} {w : Nat → Nat} {i j : Nat} (hj : j < 5) (si : S.testBit i = true) (sj : S.testBit j = true) (e : w i = w j) (n : i ≠ j) (o : T i (w i) < T j (w j) ∨ (T i (w i) = T j (w j) ∧ i < j)) : fd_pl S T w j + 1 ≤ fd_pl S T w i := by
  have a := ct_lt (a := fun k => S.testBit k && fd_bf S T w j k) (b := fun k => S.testBit k && fd_bf S T w i k) (n := 5) (k := j) (fun k hk z => by
    rw [Bool.and_eq_true] at z ⊢
    have b := fd_bf_iff.mp z.2
    refine ⟨z.1, fd_bf_iff.mpr ⟨si, fun y => ?_, e.trans b.2.2.1, ?_⟩⟩
    · subst y
      have := b.2.2.2
      omega
    · have := b.2.2.2
      omega) hj (by
    cases q : fd_bf S T w j j with
    | false => exact Bool.and_false _
    | true => exact absurd rfl (fd_bf_iff.mp q).2.1) (by
    rw [Bool.and_eq_true]
    exact ⟨sj, fd_bf_iff.mpr ⟨si, n, e, o⟩⟩)
  unfold fd_pl
  omega
theorem fd_pl_ne {S : Nat} {T : Nat → Nat → Int} {w : Nat → Nat} {i j : Nat} (hi : i < 5) (hj : j < 5) (si : S.testBit i = true) (sj : S.testBit j = true) (e : w i = w j) (n : i ≠ j) : fd_pl S T w i ≠ fd_pl S T w j := by
  by_cases o : T i (w i) < T j (w j) ∨ (T i (w i) = T j (w j) ∧ i < j)
  · have := fd_pl_lt hj si sj e n o
    omega
  · have := fd_pl_lt (T := T) hi sj si e.symm (fun z => n z.symm) (by omega)
    omega
theorem fd_pl_in {S : Nat} {T : Nat → Nat → Int} {w : Nat → Nat} {j : Nat} (hj : j < 5) : 1 ≤ fd_pl S T w j ∧ fd_pl S T w j ≤ 5 := by
  have a := ct_lt (a := fun k => S.testBit k && fd_bf S T w j k) (b := fun _ => true) (n := 5) (k := j) (fun _ _ _ => rfl) hj (by
    cases q : fd_bf S T w j j with
    | false => exact Bool.and_false _
    | true => exact absurd rfl (fd_bf_iff.mp q).2.1) rfl
  rw [ct_all] at a
  unfold fd_pl
  omega
/-- totals lie between 0 and 450 -/
theorem fd_tot_b {S : Nat} {T : Nat → Nat → Int} {w : Nat → Nat} (h : ∀ j, j < 5 → S.testBit j = true → 0 ≤ T j (w j) ∧ T j (w j) ≤ 15) : 0 ≤ fd_tot S T w ∧ fd_tot S T w ≤ 450 := by
  have f : ∀ j, j < 5 → S.testBit j = true → 0 ≤ fd_fin S T w j ∧ fd_fin S T w j ≤ 90 := by
    intro j hj sj
    have t := h j hj sj
    have a := sm_pos (f := fun i => if fd_bf S T w i j = true then T i (w i) else 0) (n := 5) (fun i hi => by
      by_cases b : fd_bf S T w i j = true
      · rw [if_pos b]; exact (h i hi (fd_bf_iff.mp b).1).1
      · rw [if_neg b]; exact Int.le_refl _)
    have c := sm_le (f := fun i => if fd_bf S T w i j = true then T i (w i) else 0) (g := fun _ => 15) (n := 5) (fun i hi => by
      by_cases b : fd_bf S T w i j = true
      · rw [if_pos b]; exact (h i hi (fd_bf_iff.mp b).1).2
      · rw [if_neg b]; decide)
    have d : sm_s (fun _ => 15) 5 = 75 := rfl
    unfold fd_fin
    omega
  have a := sm_pos (f := fun j => if S.testBit j = true then fd_fin S T w j else 0) (n := 5) (fun j hj => by
    by_cases b : S.testBit j = true
    · rw [if_pos b]; exact (f j hj b).1
    · rw [if_neg b]; exact Int.le_refl _)
  have c := sm_le (f := fun j => if S.testBit j = true then fd_fin S T w j else 0) (g := fun _ => 90) (n := 5) (fun j hj => by
    by_cases b : S.testBit j = true
    · rw [if_pos b]; exact (f j hj b).2
    · rw [if_neg b]; decide)
  have d : sm_s (fun _ => 90) 5 = 450 := rfl
  unfold fd_tot
  omega
/-- a total knows its way and times at present jobs alone -/
theorem fd_fin_c {S : Nat} {T T' : Nat → Nat → Int} {w w' : Nat → Nat} (hw : ∀ j, j < 5 → S.testBit j = true → w j = w' j) (hT : ∀ j, j < 5 → S.testBit j = true → T j (w j) = T' j (w' j)) {j : Nat} (hj : j < 5) (sj : S.testBit j = true) : fd_fin S T w j = fd_fin S T' w' j := by
  unfold fd_fin
  rw [hT j hj sj]
  refine congrArg (fun z => T' j (w' j) + z) (sm_ext (fun i hi => ?_))
  by_cases si : S.testBit i = true
  · have e : (fd_bf S T w i j = true) = (fd_bf S T' w' i j = true) := by
      rw [fd_bf_iff, fd_bf_iff, hT i hi si, hT j hj sj, hw i hi si, hw j hj sj]
    rw [hT i hi si]
    by_cases b : fd_bf S T w i j = true
    · rw [if_pos b, if_pos (e ▸ b)]
    · rw [if_neg b, if_neg (e ▸ b)]
  · rw [if_neg (fun z => si (fd_bf_iff.mp z).1), if_neg (fun z => si (fd_bf_iff.mp z).1)]
theorem fd_tot_c {S : Nat} {T T' : Nat → Nat → Int} {w w' : Nat → Nat} (hw : ∀ j, j < 5 → S.testBit j = true → w j = w' j) (hT : ∀ j, j < 5 → S.testBit j = true → T j (w j) = T' j (w' j)) : fd_tot S T w = fd_tot S T' w' := by
  refine sm_ext (fun j hj => ?_)
  by_cases sj : S.testBit j = true
  · rw [if_pos sj, if_pos sj, fd_fin_c hw hT hj sj]
  · rw [if_neg sj, if_neg sj]
end
section
/-! columns (places on machines) against ways -/
def fd_ym (M b : Nat) : Nat := if b < M then b else 3
def fd_mc (M c : Nat) : Nat := fd_ym M ((c - 1) / 5)
def fd_cost (M : Nat) (al : Nat → Nat → Bool) (T : Nat → Nat → Int) (l j c : Nat) : Int :=
  if al j (fd_mc M c) = true then 8 * ((((c - 1) % 5 + 1 : Nat) : Int) * T j (fd_mc M c)) - (if fd_mc M c = l then 1 else 0) else 100000
def fd_lk (S l : Nat) (w : Nat → Nat) : Int := sm_s (fun j => if S.testBit j = true then (if w j = l then 1 else 0) else 0) 5
def fd_val (S : Nat) (T : Nat → Nat → Int) (l : Nat) (w : Nat → Nat) : Int := 8 * fd_tot S T w - fd_lk S l w
def fd_pv (S C : Nat) (s : Nat → Nat) : Prop := (∀ j, j < 5 → S.testBit j = true → 1 ≤ s j ∧ s j ≤ C) ∧ (∀ i j, i < 5 → j < 5 → S.testBit i = true → S.testBit j = true → s i = s j → i = j)
def fd_pc (M : Nat) (al : Nat → Nat → Bool) (T : Nat → Nat → Int) (l S : Nat) (s : Nat → Nat) : Int := sm_s (fun j => if S.testBit j = true then fd_cost M al T l j (s j) else 0) 5
/-- V is the least sum of costs of different places -/
def fd_mv (M C : Nat) (al : Nat → Nat → Bool) (T : Nat → Nat → Int) (l S : Nat) (V : Int) : Prop := (∃ s, fd_pv S C s ∧ V = fd_pc M al T l S s) ∧ ∀ s, fd_pv S C s → V ≤ fd_pc M al T l S s
/-- machines that may be asked for have columns, and times from 1 to 15 -/
def fd_hyp (M C : Nat) (al : Nat → Nat → Bool) (T : Nat → Nat → Int) : Prop := 1 ≤ M ∧ M ≤ 3 ∧ (C = 5 * M ∨ C = 5 * (M + 1)) ∧ ∀ j m, j < 5 → m < 4 → al j m = true → 1 ≤ T j m ∧ T j m ≤ 15 ∧ (m < M ∨ (m = 3 ∧ C = 5 * (M + 1)))
theorem fd_lk_b (S l : Nat) (w : Nat → Nat) : 0 ≤ fd_lk S l w ∧ fd_lk S l w ≤ 5 := by
  have a := sm_pos (f := fun j => if S.testBit j = true then (if w j = l then (1 : Int) else 0) else 0) (n := 5) (fun j _ => by
    (try dsimp only)
    split
    · split <;> decide
    · decide)
  have c := sm_le (f := fun j => if S.testBit j = true then (if w j = l then (1 : Int) else 0) else 0) (g := fun _ => 1) (n := 5) (fun j _ => by
    (try dsimp only)
    split
    · split <;> decide
    · decide)
  have d : sm_s (fun _ => 1) 5 = 5 := rfl
  unfold fd_lk
  omega
theorem fd_cost_1 {M : Nat} {al : Nat → Nat → Bool} {T : Nat → Nat → Int} {l j c : Nat} (h : al j (fd_mc M c) = true) : fd_cost M al T l j c = 8 * ((((c - 1) % 5 + 1 : Nat) : Int) * T j (fd_mc M c)) - (if fd_mc M c = l then 1 else 0) := if_pos h
theorem fd_cost_0 {M : Nat} {al : Nat → Nat → Bool} {T : Nat → Nat → Int} {l j c : Nat} (h : ¬ al j (fd_mc M c) = true) : fd_cost M al T l j c = 100000 := if_neg h
theorem fd_mc_lt {M : Nat} (hM : M ≤ 3) (c : Nat) : fd_mc M c < 4 := by
  unfold fd_mc fd_ym
  split <;> omega
theorem fd_cost_b {M C : Nat} {al : Nat → Nat → Bool} {T : Nat → Nat → Int} (H : fd_hyp M C al T) (l : Nat) {j : Nat} (hj : j < 5) (c : Nat) : 0 ≤ fd_cost M al T l j c ∧ fd_cost M al T l j c ≤ 100000 := by
  by_cases h : al j (fd_mc M c) = true
  · rw [fd_cost_1 h]
    have t := H.2.2.2 j (fd_mc M c) hj (fd_mc_lt H.2.1 c) h
    have p1 : (1 : Int) ≤ (((c - 1) % 5 + 1 : Nat) : Int) := by omega
    have p2 : (((c - 1) % 5 + 1 : Nat) : Int) ≤ 5 := by omega
    generalize (((c - 1) % 5 + 1 : Nat) : Int) = p at p1 p2 ⊢
    generalize T j (fd_mc M c) = t' at t ⊢
    have a := Int.mul_le_mul p1 t.1 (by decide) (by omega)
    have b := Int.mul_le_mul p2 t.2.1 (by omega) (by decide)
    split <;> omega
  · rw [fd_cost_0 h]; decide
/-- a way as places -/
theorem fd_way_pl {M C S l : Nat} {al : Nat → Nat → Bool} {T : Nat → Nat → Int} (H : fd_hyp M C al T) {w : Nat → Nat} (o : fd_ok S al w) : ∃ s, fd_pv S C s ∧ fd_pc M al T l S s = fd_val S T l w := by
  obtain ⟨hM1, hM3, hC, hal⟩ := H
  have wb : ∀ j, j < 5 → S.testBit j = true → w j < M ∨ (w j = 3 ∧ C = 5 * (M + 1)) := fun j hj sj => (hal j (w j) hj (o j hj).1 ((o j hj).2.1 sj)).2.2
  have dv : ∀ j, j < 5 → (5 * (if w j < M then w j else M) + fd_pl S T w j - 1) / 5 = (if w j < M then w j else M) ∧ (5 * (if w j < M then w j else M) + fd_pl S T w j - 1) % 5 + 1 = fd_pl S T w j := by
    intro j hj
    have p := fd_pl_in (S := S) (T := T) (w := w) hj
    generalize (if w j < M then w j else M) = b
    omega
  have mc : ∀ j, j < 5 → S.testBit j = true → fd_mc M (5 * (if w j < M then w j else M) + fd_pl S T w j) = w j := by
    intro j hj sj
    unfold fd_mc fd_ym
    rw [(dv j hj).1]
    by_cases c : w j < M
    · rw [if_pos c, if_pos c]
    · rw [if_neg c, if_neg (by omega)]
      rcases wb j hj sj with q | q
      · exact absurd q c
      · exact q.1.symm
  refine ⟨fun j => 5 * (if w j < M then w j else M) + fd_pl S T w j, ⟨fun j hj sj => ?_, fun i j hi hj si sj e => ?_⟩, ?_⟩
  · have p := fd_pl_in (S := S) (T := T) (w := w) hj
    (try dsimp only)
    rcases wb j hj sj with q | q
    · rw [if_pos q]; omega
    · by_cases c : w j < M
      · rw [if_pos c]; omega
      · rw [if_neg c]; omega
  · (try dsimp only at e)
    have a := mc i hi si
    have b := mc j hj sj
    have c := (dv i hi).2
    have d := (dv j hj).2
    rw [e] at a c
    by_cases n : i = j
    · exact n
    · exact absurd (c.symm.trans d) (fd_pl_ne hi hj si sj (a.symm.trans b) n)
  · unfold fd_val fd_pc fd_lk
    rw [← fd_up S T w, ← sm_mul, ← sm_sub]
    refine sm_ext (fun j hj => ?_)
    (try dsimp only)
    by_cases sj : S.testBit j = true
    · rw [if_pos sj, if_pos sj, if_pos sj, fd_cost_1 (by rw [mc j hj sj]; exact (o j hj).2.1 sj), (dv j hj).2, mc j hj sj]
    · rw [if_neg sj, if_neg sj, if_neg sj]; rfl
/-- places as a way -/
theorem fd_pl_way {M C S l : Nat} {al : Nat → Nat → Bool} {T : Nat → Nat → Int} (H : fd_hyp M C al T) {s : Nat → Nat} (hs : fd_pv S C s) (hc : fd_pc M al T l S s < 100000) : ∃ w, fd_ok S al w ∧ fd_val S T l w ≤ fd_pc M al T l S s := by
  have hal : ∀ j, j < 5 → S.testBit j = true → al j (fd_mc M (s j)) = true := by
    intro j hj sj
    by_cases z : al j (fd_mc M (s j)) = true
    · exact z
    · have a := sm_get (f := fun j => if S.testBit j = true then fd_cost M al T l j (s j) else 0) (n := 5) hj (fun i hi => by
        (try dsimp only)
        split
        · exact (fd_cost_b H l hi (s i)).1
        · exact Int.le_refl _)
      (try dsimp only at a)
      rw [if_pos sj, fd_cost_0 z] at a
      unfold fd_pc at hc
      omega
  have o : fd_ok S al (fun j => if S.testBit j = true then fd_mc M (s j) else 0) := by
    intro j hj
    (try dsimp only)
    refine ⟨?_, fun sj => ?_, fun sj => ?_⟩
    · split
      · exact fd_mc_lt H.2.1 _
      · decide
    · rw [if_pos sj]; exact hal j hj sj
    · rw [if_neg (by rw [sj]; decide)]
  refine ⟨_, o, ?_⟩
  have low := fd_low (S := S) (T := T) (w := fun j => if S.testBit j = true then fd_mc M (s j) else 0) (q := fun j => (s j - 1) % 5 + 1) (fun j hj sj => by
    have a := H.2.2.2 j _ hj (o j hj).1 ((o j hj).2.1 sj)
    (try dsimp only at a)
    omega) (fun j _ _ => by (try dsimp only); omega) (fun i j hi hj si sj e q => by
    (try dsimp only at e q)
    rw [if_pos si, if_pos sj] at e
    have a := hs.1 i hi si
    have b := hs.1 j hj sj
    refine hs.2 i j hi hj si sj ?_
    obtain ⟨h1, h3, h5, _⟩ := H
    have ee : (s i - 1) / 5 = (s j - 1) / 5 := by
      unfold fd_mc fd_ym at e
      have hi' : (s i - 1) / 5 ≤ M := by omega
      have hj' : (s j - 1) / 5 ≤ M := by omega
      generalize (s i - 1) / 5 = x at e hi' ⊢
      generalize (s j - 1) / 5 = y at e hj' ⊢
      split at e <;> split at e <;> omega
    omega)
  have e : fd_pc M al T l S s = 8 * sm_s (fun j => if S.testBit j = true then (((s j - 1) % 5 + 1 : Nat) : Int) * T j (if S.testBit j = true then fd_mc M (s j) else 0) else 0) 5 - fd_lk S l (fun j => if S.testBit j = true then fd_mc M (s j) else 0) := by
    unfold fd_pc fd_lk
    rw [← sm_mul, ← sm_sub]
    refine sm_ext (fun j hj => ?_)
    (try dsimp only)
    by_cases sj : S.testBit j = true
    · simp only [if_pos sj, fd_cost_1 (hal j hj sj)]
    · rw [if_neg sj, if_neg sj, if_neg sj]; rfl
  (try dsimp only at low)
  unfold fd_val
  rw [e]
  omega
theorem fd_ok_b {M C S : Nat} {al : Nat → Nat → Bool} {T : Nat → Nat → Int} (H : fd_hyp M C al T) {w : Nat → Nat} (o : fd_ok S al w) : 0 ≤ fd_tot S T w ∧ fd_tot S T w ≤ 450 := fd_tot_b (fun j hj sj => by
  have a := H.2.2.2 j _ hj (o j hj).1 ((o j hj).2.1 sj)
  omega)
/-- the least sum of costs, as a way -/
theorem fd_main {M C S l : Nat} {al : Nat → Nat → Bool} {T : Nat → Nat → Int} (H : fd_hyp M C al T) {V : Int} (hV : fd_mv M C al T l S V) : (∃ w, fd_ok S al w ∧ V = fd_val S T l w ∧ ∀ w', fd_ok S al w' → V ≤ fd_val S T l w') ∨ ((∀ w, ¬ fd_ok S al w) ∧ 100000 ≤ V) := by
  obtain ⟨⟨s, hs, e⟩, hm⟩ := hV
  have up : ∀ w', fd_ok S al w' → V ≤ fd_val S T l w' := by
    intro w' o'
    obtain ⟨s', h1, h2⟩ := fd_way_pl (l := l) H o'
    have := hm s' h1
    omega
  by_cases c : ∃ w, fd_ok S al w
  · obtain ⟨w, o⟩ := c
    have a := up w o
    have b := fd_ok_b H o
    have d := fd_lk_b S l w
    unfold fd_val at a
    obtain ⟨w2, o2, h2⟩ := fd_pl_way (l := l) H hs (by omega)
    refine Or.inl ⟨w2, o2, ?_, up⟩
    have := up w2 o2
    omega
  · refine Or.inr ⟨fun w o => c ⟨w, o⟩, ?_⟩
    by_cases z : 100000 ≤ V
    · exact z
    · obtain ⟨w2, o2, _⟩ := fd_pl_way (l := l) H hs (by omega)
      exact absurd ⟨w2, o2⟩ c
/-- with no liked machine: the least total -/
theorem fd_main0 {M C S l : Nat} {al : Nat → Nat → Bool} {T : Nat → Nat → Int} (H : fd_hyp M C al T) (hl : 4 ≤ l) {V : Int} (hV : fd_mv M C al T l S V) : (V < 100000 ∧ 0 ≤ V ∧ fd_lst S T al ((V + 7) / 8)) ∨ (100000 ≤ V ∧ fd_lst S T al (-1)) := by
  have z : ∀ w, fd_ok S al w → fd_lk S l w = 0 := fun w o => sm_0 (fun j hj => by
    have := (o j hj).1
    (try dsimp only)
    rw [if_neg (show ¬ w j = l by omega)]
    split <;> rfl)
  rcases fd_main H hV with ⟨w, o, e, m⟩ | ⟨n, b⟩
  · have b := fd_ok_b H o
    have y := z w o
    unfold fd_val at e m
    refine Or.inl ⟨by omega, by omega, Or.inr ⟨w, o, by omega, fun w' o' => ?_⟩⟩
    have := m w' o'
    have := z w' o'
    omega
  · exact Or.inr ⟨b, Or.inl ⟨rfl, n⟩⟩
/-- with one: the most jobs on it among the best ways -/
theorem fd_main1 {M C S l : Nat} {al : Nat → Nat → Bool} {T : Nat → Nat → Int} (H : fd_hyp M C al T) {V : Int} (hV : fd_mv M C al T l S V) (hne : ∃ w, fd_ok S al w) : ∃ w, fd_ok S al w ∧ 0 ≤ V ∧ V ≤ 3600 ∧ (V + 7) / 8 = fd_tot S T w ∧ (V + 7) / 8 * 8 - V = fd_lk S l w ∧ (∀ w', fd_ok S al w' → fd_tot S T w ≤ fd_tot S T w') ∧ ∀ w', fd_ok S al w' → fd_tot S T w' = fd_tot S T w → fd_lk S l w' ≤ fd_lk S l w := by
  rcases fd_main H hV with ⟨w, o, e, m⟩ | ⟨n, _⟩
  · have b := fd_ok_b H o
    have y := fd_lk_b S l w
    have V0 : 0 ≤ V := by
      obtain ⟨⟨s, hs, e'⟩, _⟩ := hV
      rw [e']
      exact sm_pos (fun j hj => by
        (try dsimp only)
        split
        · exact (fd_cost_b H l hj (s j)).1
        · exact Int.le_refl _)
    unfold fd_val at e m
    refine ⟨w, o, V0, by omega, by omega, by omega, fun w' o' => ?_, fun w' o' t => ?_⟩
    · have := m w' o'
      have := fd_lk_b S l w'
      omega
    · have := m w' o'
      omega
  · obtain ⟨w, o⟩ := hne
    exact absurd o (n w)
end
section
/-! matching by prices (rows 1 .. R, columns 1 .. C, costs K): pure -/
def hu_K (R C : Nat) (K : Nat → Nat → Int) : Prop := 5 ≤ C ∧ C ≤ 20 ∧ R ≤ 5 ∧ ∀ r c, 1 ≤ r → r ≤ R → 1 ≤ c → c ≤ C → 0 ≤ K r c ∧ K r c ≤ 100000
/-- rows 1 .. k are matched, with true prices -/
def hu_m (R C : Nat) (K : Nat → Nat → Int) (k : Nat) (u v : Nat → Int) (p : Nat → Nat) : Prop :=
  (∀ c, 1 ≤ c → c ≤ C → p c ≤ k) ∧
  (∀ r, 1 ≤ r → r ≤ k → ∃ c, 1 ≤ c ∧ c ≤ C ∧ p c = r) ∧
  (∀ c c', 1 ≤ c → c ≤ C → 1 ≤ c' → c' ≤ C → p c = p c' → p c ≠ 0 → c = c') ∧
  (∀ r c, 1 ≤ r → r ≤ R → 1 ≤ c → c ≤ C → u r + v c ≤ K r c) ∧
  (∀ c, 1 ≤ c → c ≤ C → p c ≠ 0 → u (p c) + v c = K (p c) c) ∧
  (∀ c, 1 ≤ c → c ≤ C → v c ≤ 0 ∧ (p c = 0 → v c = 0)) ∧
  (∀ r, 1 ≤ r → r ≤ R → 0 ≤ u r)
theorem hu_free {R C k : Nat} {K : Nat → Nat → Int} {u v : Nat → Int} {p : Nat → Nat} (HK : hu_K R C K) (hk : k + 1 ≤ R) (I : hu_m R C K k u v p) : ∃ f, 1 ≤ f ∧ f ≤ C ∧ p f = 0 := by
  obtain ⟨h5, h20, hR, _⟩ := HK
  obtain ⟨i1, _, i3, _⟩ := I
  refine Classical.byContradiction (fun z => ?_)
  have n0 : ∀ c, 1 ≤ c → c ≤ C → p c ≠ 0 := fun c h1 h2 e => z ⟨c, h1, h2, e⟩
  have a := ct_pig (f := fun i => p (i + 1)) (n := 5) (q := k) (fun i hi => by
    have a := n0 (i + 1) (by omega) (by omega)
    have b := i1 (i + 1) (by omega) (by omega)
    (try dsimp only)
    omega) (fun i j hi hj e => by
    have := i3 (i + 1) (j + 1) (by omega) (by omega) (by omega) (by omega) e (n0 (i + 1) (by omega) (by omega))
    omega)
  omega
theorem hu_bd {R C k : Nat} {K : Nat → Nat → Int} {u v : Nat → Int} {p : Nat → Nat} (HK : hu_K R C K) (hk : k + 1 ≤ R) (I : hu_m R C K k u v p) : (∀ r, 1 ≤ r → r ≤ R → 0 ≤ u r ∧ u r ≤ 100000) ∧ ∀ c, 1 ≤ c → c ≤ C → -100000 ≤ v c ∧ v c ≤ 0 := by
  obtain ⟨f, f1, f2, f0⟩ := hu_free HK hk I
  obtain ⟨h5, h20, hR, hK⟩ := HK
  obtain ⟨i1, i2, i3, i4, i5, i6, i7⟩ := I
  have ub : ∀ r, 1 ≤ r → r ≤ R → 0 ≤ u r ∧ u r ≤ 100000 := by
    intro r r1 r2
    have a := i4 r f r1 r2 f1 f2
    have b := (i6 f f1 f2).2 f0
    have c := hK r f r1 r2 f1 f2
    have d := i7 r r1 r2
    omega
  refine ⟨ub, fun c c1 c2 => ?_⟩
  have a := i6 c c1 c2
  by_cases z : p c = 0
  · have := a.2 z
    omega
  · have b := i5 c c1 c2 z
    have d := i1 c c1 c2
    have e := ub (p c) (by omega) (by omega)
    have g := hK (p c) c (by omega) (by omega) c1 c2
    omega
/-- while row k + 1 is brought in: t columns are reached (o 0 .. o (t - 1)), column a is next -/
def hu_i (R C : Nat) (K : Nat → Nat → Int) (k t a : Nat) (u v s : Nat → Int) (p g o : Nat → Nat) : Prop :=
  hu_m R C K k u v p ∧ p 0 = k + 1 ∧ o 0 = 0 ∧
  ((t = 0 ∧ a = 0) ∨ (1 ≤ t ∧ 1 ≤ a ∧ a ≤ C ∧ s a = 0 ∧ ∀ i, i < t → o i ≠ a)) ∧
  (∀ i, 1 ≤ i → i < t → 1 ≤ o i ∧ o i ≤ C ∧ p (o i) ≠ 0) ∧
  (∀ i j, i < t → j < t → o i = o j → i = j) ∧
  (∀ i, 1 ≤ i → i < t → ∃ i', i' < i ∧ g (o i) = o i' ∧ u (p (o i')) + v (o i) = K (p (o i')) (o i)) ∧
  (∀ c, 1 ≤ c → c ≤ C → (∀ i, i < t → o i ≠ c) → 0 ≤ s c ∧ s c ≤ 268435456 ∧ (t = 0 → s c = 268435456) ∧ (1 ≤ t → ∃ i, i < t ∧ g c = o i ∧ s c = K (p (o i)) c - u (p (o i)) - v c) ∧ ∀ i, i < t → s c ≤ K (p (o i)) c - u (p (o i)) - v c)
/-- at most k + 1 columns are reached -/
theorem hu_t {R C k t a : Nat} {K : Nat → Nat → Int} {u v s : Nat → Int} {p g o : Nat → Nat} (I : hu_i R C K k t a u v s p g o) : t ≤ k + 1 := by
  obtain ⟨M, p0, o0, _, j5, j6, _⟩ := I
  obtain ⟨i1, _, i3, _⟩ := M
  refine ct_pig (f := fun i => p (o i)) (n := t) (q := k + 1) (fun i hi => ?_) (fun i j hi hj e => ?_)
  · (try dsimp only)
    by_cases z : i = 0
    · subst z; rw [o0, p0]; omega
    · have a := j5 i (by omega) hi
      have b := i1 (o i) a.1 a.2.1
      omega
  · (try dsimp only at e)
    by_cases z : i = 0
    · by_cases y : j = 0
      · omega
      · subst z
        have a := j5 j (by omega) hj
        have b := i1 (o j) a.1 a.2.1
        rw [o0, p0] at e
        omega
    · by_cases y : j = 0
      · subst y
        have a := j5 i (by omega) hi
        have b := i1 (o i) a.1 a.2.1
        rw [o0, p0] at e
        omega
      · have a := j5 i (by omega) hi
        have b := j5 j (by omega) hj
        exact j6 i j hi hj (i3 (o i) (o j) a.1 a.2.1 b.1 b.2.1 e a.2.2)
/-- the columns reached so far, and column a -/
def hu_o (t a : Nat) (o : Nat → Nat) : Nat → Nat := fun i => if i = t then a else o i
theorem hu_o_t {t a : Nat} {o : Nat → Nat} : hu_o t a o t = a := if_pos rfl
theorem hu_o_l {t a i : Nat} {o : Nat → Nat} (h : i < t) : hu_o t a o i = o i := if_neg (by omega)
/-- what the first loop of advance has done below column x -/
def hu_l1 (rc : Nat → Prop) (q : Nat → Int) (a : Nat) (s : Nat → Int) (g : Nat → Nat) (s1 : Nat → Int) (g1 : Nat → Nat) (D : Int) (nx x : Nat) : Prop :=
  (∀ c, 1 ≤ c → c < x → ¬ rc c → (s1 c = q c ∧ g1 c = a ∧ q c < s c) ∨ (s1 c = s c ∧ g1 c = g c ∧ s c ≤ q c)) ∧
  (∀ c, (c = 0 ∨ x ≤ c ∨ rc c) → s1 c = s c ∧ g1 c = g c) ∧
  (∀ c, 1 ≤ c → c < x → ¬ rc c → D ≤ s1 c) ∧
  ((nx = 0 ∧ D = 268435456) ∨ (1 ≤ nx ∧ nx < x ∧ ¬ rc nx ∧ D = s1 nx))
/-- what the second loop of advance has done below column x -/
def hu_l2 (rc : Nat → Prop) (p : Nat → Nat) (D : Int) (u v s u' v' s' : Nat → Int) (x : Nat) : Prop :=
  (∀ c, c < x → rc c → u' (p c) = u (p c) + D) ∧
  (∀ r, (∀ c, c < x → rc c → p c ≠ r) → u' r = u r) ∧
  (∀ c, 1 ≤ c → c < x → rc c → v' c = v c - D) ∧
  (∀ c, 1 ≤ c → c < x → ¬ rc c → v' c = v c ∧ s' c = s c - D) ∧
  (∀ c, 1 ≤ c → x ≤ c → v' c = v c ∧ s' c = s c)
section
variable {R C k t a nx : Nat} {K : Nat → Nat → Int} {u v s s1 u' v' s' : Nat → Int} {p g o g1 : Nat → Nat} {rc : Nat → Prop} {D : Int}
theorem hu_pa (hk : k + 1 ≤ R) (I : hu_i R C K k t a u v s p g o) (pa : p a ≠ 0) : (∀ i, i < t + 1 → 1 ≤ p (hu_o t a o i) ∧ p (hu_o t a o i) ≤ k + 1) ∧ (∀ i, i < t + 1 → hu_o t a o i ≤ C) ∧ (∀ i, 1 ≤ i → i < t + 1 → 1 ≤ hu_o t a o i) ∧ hu_o t a o 0 = 0 ∧ (∀ i j, i < t + 1 → j < t + 1 → hu_o t a o i = hu_o t a o j → i = j) := by
  obtain ⟨M, p0, o0, ha, j5, j6, _⟩ := I
  obtain ⟨i1, _⟩ := M
  have z : hu_o t a o 0 = 0 := by
    rcases ha with ⟨e, f⟩ | ⟨e, _⟩
    · subst e; rw [hu_o_t]; exact f
    · rw [hu_o_l (by omega)]; exact o0
  have w : ∀ i, 1 ≤ i → i < t + 1 → 1 ≤ hu_o t a o i ∧ hu_o t a o i ≤ C ∧ p (hu_o t a o i) ≠ 0 := by
    intro i h1 h2
    by_cases e : i = t
    · subst e
      rw [hu_o_t]
      rcases ha with ⟨e, f⟩ | ⟨e, f, f2, _⟩
      · omega
      · exact ⟨f, f2, pa⟩
    · rw [hu_o_l (by omega)]
      exact j5 i h1 (by omega)
  refine ⟨fun i hi => ?_, fun i hi => ?_, fun i h1 hi => (w i h1 hi).1, z, fun i j hi hj e => ?_⟩
  · by_cases y : i = 0
    · subst y; rw [z, p0]; omega
    · have b := w i (by omega) hi
      have c := i1 _ b.1 b.2.1
      omega
  · by_cases y : i = 0
    · subst y; rw [z]; omega
    · exact (w i (by omega) hi).2.1
  · by_cases y : i = t
    · by_cases x : j = t
      · omega
      · subst y
        rw [hu_o_t, hu_o_l (by omega)] at e
        rcases ha with ⟨e', f⟩ | ⟨_, _, _, _, f⟩
        · omega
        · exact absurd e.symm (f j (by omega))
    · by_cases x : j = t
      · subst x
        rw [hu_o_t, hu_o_l (by omega)] at e
        rcases ha with ⟨e', f⟩ | ⟨_, _, _, _, f⟩
        · omega
        · exact absurd e (f i (by omega))
      · rw [hu_o_l (by omega), hu_o_l (by omega)] at e
        exact j6 i j (by omega) (by omega) e
theorem hu_D (HK : hu_K R C K) (hk : k + 1 ≤ R) (I : hu_i R C K k t a u v s p g o) (pa : p a ≠ 0) (hrc : ∀ c, c ≤ C → (rc c ↔ ∃ i, i < t + 1 ∧ hu_o t a o i = c)) (h1 : hu_l1 rc (fun c => K (p a) c - u (p a) - v c) a s g s1 g1 D nx (C + 1)) : 1 ≤ nx ∧ nx ≤ C ∧ ¬ rc nx ∧ D = s1 nx ∧ 0 ≤ D ∧ D ≤ 100000 := by
  obtain ⟨w1, w2, w3, w4, w5⟩ := hu_pa hk I pa
  have I' := I
  obtain ⟨M, p0, o0, ha, j5, j6, j7, j8⟩ := I
  obtain ⟨f, f1, f2, f0⟩ := hu_free HK hk M
  obtain ⟨bu, bv⟩ := hu_bd HK hk M
  obtain ⟨i1, i2, i3, i4, i5, i6, i7⟩ := M
  obtain ⟨l1, l2, l3, l4⟩ := h1
  have pa1 := w1 t (by omega)
  rw [hu_o_t] at pa1
  have nf : ¬ rc f := by
    intro z
    obtain ⟨i, hi, e⟩ := (hrc f f2).mp z
    have := w1 i hi
    rw [e] at this
    omega
  have d1 := l3 f f1 (by omega) nf
  have d2 := i4 (p a) f (by omega) (by omega) f1 f2
  have d3 := (i6 f f1 f2).2 f0
  have d4 := HK.2.2.2 (p a) f (by omega) (by omega) f1 f2
  have d5 := bu (p a) (by omega) (by omega)
  have d6 : s1 f ≤ 100000 := by
    rcases l1 f f1 (by omega) nf with ⟨e, _⟩ | ⟨e, _, e2⟩
    · (try dsimp only at e); omega
    · (try dsimp only at e2); omega
  rcases l4 with ⟨e, e2⟩ | ⟨n1, n2, n3, n4⟩
  · omega
  · refine ⟨n1, by omega, n3, n4, ?_, by omega⟩
    have x1 := i4 (p a) nx (by omega) (by omega) n1 (by omega)
    have x2 := j8 nx n1 (by omega) (fun i hi e => n3 ((hrc nx (by omega)).mpr ⟨i, by omega, by rw [hu_o_l hi]; exact e⟩))
    rcases l1 nx n1 n2 n3 with ⟨e, _⟩ | ⟨e, _, e2⟩
    · (try dsimp only at e); omega
    · omega
theorem hu_step (HK : hu_K R C K) (hk : k + 1 ≤ R) (I : hu_i R C K k t a u v s p g o) (pa : p a ≠ 0) (hrc : ∀ c, c ≤ C → (rc c ↔ ∃ i, i < t + 1 ∧ hu_o t a o i = c)) (h1 : hu_l1 rc (fun c => K (p a) c - u (p a) - v c) a s g s1 g1 D nx (C + 1)) (h2 : hu_l2 rc p D u v s1 u' v' s' (C + 1)) : hu_i R C K k (t + 1) nx u' v' s' p g1 (hu_o t a o) := by
  obtain ⟨n1, n2, n3, n4, D0, D1⟩ := hu_D HK hk I pa hrc h1
  obtain ⟨w1, w2, w3, w4, w5⟩ := hu_pa hk I pa
  obtain ⟨M, p0, o0, ha, j5, j6, j7, j8⟩ := I
  obtain ⟨bu, bv⟩ := hu_bd HK hk M
  obtain ⟨i1, i2, i3, i4, i5, i6, i7⟩ := M
  obtain ⟨l1, l2, l3, l4⟩ := h1
  obtain ⟨m1, m2, m3, m4, m5⟩ := h2
  (try dsimp only at l1)
  have rO : ∀ i, i < t + 1 → rc (hu_o t a o i) := fun i hi => (hrc _ (w2 i hi)).mpr ⟨i, hi, rfl⟩
  have nR : ∀ c, c ≤ C → (∀ i, i < t + 1 → hu_o t a o i ≠ c) → ¬ rc c := fun c hc z y => by
    obtain ⟨i, hi, e⟩ := (hrc c hc).mp y
    exact z i hi e
  have uR : ∀ i, i < t + 1 → u' (p (hu_o t a o i)) = u (p (hu_o t a o i)) + D := fun i hi => m1 _ (by have := w2 i hi; omega) (rO i hi)
  have uN : ∀ r, (∀ i, i < t + 1 → p (hu_o t a o i) ≠ r) → u' r = u r := fun r z => m2 r (fun c hc y => by
    obtain ⟨i, hi, e⟩ := (hrc c (by omega)).mp y
    rw [← e]; exact z i hi)
  have vR : ∀ i, i < t + 1 → 1 ≤ hu_o t a o i → v' (hu_o t a o i) = v (hu_o t a o i) - D := fun i hi z => m3 _ z (by have := w2 i hi; omega) (rO i hi)
  have vN : ∀ c, 1 ≤ c → c ≤ C → (∀ i, i < t + 1 → hu_o t a o i ≠ c) → v' c = v c ∧ s' c = s1 c - D := fun c h1 h2 z => m4 c h1 (by omega) (nR c h2 z)
  have oN : ∀ c, (∀ i, i < t + 1 → hu_o t a o i ≠ c) → ∀ i, i < t → o i ≠ c := fun c z i hi e => z i (by omega) (by rw [hu_o_l hi]; exact e)
  have pa1 := w1 t (by omega)
  rw [hu_o_t] at pa1
  -- what a column that is not reached still costs
  have s1le : ∀ c, 1 ≤ c → c ≤ C → (∀ i, i < t + 1 → hu_o t a o i ≠ c) → D ≤ s1 c ∧ s1 c ≤ 268435456 ∧ ∀ i, i < t + 1 → s1 c ≤ K (p (hu_o t a o i)) c - u (p (hu_o t a o i)) - v c := by
    intro c c1 c2 z
    have x := j8 c c1 c2 (oN c z)
    have y := l3 c c1 (by omega) (nR c c2 z)
    have q : s1 c ≤ s c ∧ s1 c ≤ K (p a) c - u (p a) - v c := by
      rcases l1 c c1 (by omega) (nR c c2 z) with ⟨e, _, e2⟩ | ⟨e, _, e2⟩
      · omega
      · omega
    refine ⟨y, by omega, fun i hi => ?_⟩
    by_cases e : i = t
    · subst e; rw [hu_o_t]; exact q.2
    · rw [hu_o_l (by omega)]
      have := x.2.2.2.2 i (by omega)
      omega
  have e6 : ∀ c, 1 ≤ c → c ≤ C → v' c ≤ v c := by
    intro c c1 c2
    by_cases hc : ∃ i, i < t + 1 ∧ hu_o t a o i = c
    · obtain ⟨i, hi, e⟩ := hc
      subst e
      have := vR i hi c1
      omega
    · have := (vN c c1 c2 (fun i hi e => hc ⟨i, hi, e⟩)).1
      omega
  refine ⟨⟨i1, i2, i3, fun r c r1 r2 c1 c2 => ?_, fun c c1 c2 z => ?_, fun c c1 c2 => ⟨?_, fun z => ?_⟩, fun r r1 r2 => ?_⟩, p0, w4, Or.inr ⟨by omega, n1, n2, ?_, fun i hi e => ?_⟩, fun i h1 h2 => ⟨w3 i h1 h2, w2 i h2, ?_⟩, w5, fun i h1 h2 => ?_, fun c c1 c2 z => ?_⟩
  · have f := i4 r c r1 r2 c1 c2
    by_cases hr : ∃ i, i < t + 1 ∧ p (hu_o t a o i) = r
    · obtain ⟨i, hi, e⟩ := hr
      subst e
      have a1 := uR i hi
      by_cases hc : ∃ i, i < t + 1 ∧ hu_o t a o i = c
      · obtain ⟨i', hi', e'⟩ := hc
        subst e'
        have a2 := vR i' hi' c1
        omega
      · have hc' : ∀ i, i < t + 1 → hu_o t a o i ≠ c := fun i hi e => hc ⟨i, hi, e⟩
        have a2 := (vN c c1 c2 hc').1
        have a3 := s1le c c1 c2 hc'
        have a4 := a3.2.2 i hi
        omega
    · have a1 := uN r (fun i hi e => hr ⟨i, hi, e⟩)
      have a2 := e6 c c1 c2
      omega
  · have f := i5 c c1 c2 z
    by_cases hc : ∃ i, i < t + 1 ∧ hu_o t a o i = c
    · obtain ⟨i', hi', e'⟩ := hc
      subst e'
      have a1 := uR i' hi'
      have a2 := vR i' hi' c1
      omega
    · have hc' : ∀ i, i < t + 1 → hu_o t a o i ≠ c := fun i hi e => hc ⟨i, hi, e⟩
      have a2 := (vN c c1 c2 hc').1
      have a1 := uN (p c) (fun i hi e => by
        by_cases y : i = 0
        · subst y
          rw [w4, p0] at e
          have := i1 c c1 c2
          omega
        · exact hc' i hi (i3 _ c (w3 i (by omega) hi) (w2 i hi) c1 c2 e (by rw [e]; exact z)))
      omega
  · have a1 := e6 c c1 c2
    have a2 := (i6 c c1 c2).1
    omega
  · have a1 := (i6 c c1 c2).2 z
    have a2 := (vN c c1 c2 (fun i hi e => by
      have := w1 i hi
      rw [e] at this
      omega)).1
    omega
  · have a1 := i7 r r1 r2
    by_cases hr : ∃ i, i < t + 1 ∧ p (hu_o t a o i) = r
    · obtain ⟨i, hi, e⟩ := hr
      subst e
      have a1 := uR i hi
      omega
    · have a2 := uN r (fun i hi e => hr ⟨i, hi, e⟩)
      omega
  · have a1 := (m4 nx n1 (by omega) n3).2
    omega
  · exact n3 (e ▸ rO i hi)
  · have := w1 i h2
    omega
  · by_cases e : i = t
    · subst e
      rw [hu_o_t]
      rcases ha with ⟨e', _⟩ | ⟨t1, a1, a2, a3, a4⟩
      · omega
      · obtain ⟨i', hi', e1, e2⟩ := (j8 a a1 a2 a4).2.2.2.1 t1
        have g2 := (l2 a (Or.inr (Or.inr (by have := rO i (by omega); rw [hu_o_t] at this; exact this)))).2
        have x1 := uR i' (by omega)
        have x2 := vR i (by omega) (by rw [hu_o_t]; exact a1)
        rw [hu_o_l hi'] at x1
        rw [hu_o_t] at x2
        refine ⟨i', hi', by rw [g2, e1, hu_o_l hi'], ?_⟩
        rw [hu_o_l hi']
        omega
    · have hi : i < t := by omega
      obtain ⟨i', hi', e1, e2⟩ := j7 i h1 hi
      have g2 := (l2 (o i) (Or.inr (Or.inr (by have := rO i h2; rw [hu_o_l hi] at this; exact this)))).2
      have x1 := uR i' (by omega)
      have x2 := vR i h2 (w3 i h1 h2)
      rw [hu_o_l (show i' < t by omega)] at x1
      rw [hu_o_l hi] at x2
      refine ⟨i', hi', by rw [hu_o_l hi, g2, e1, hu_o_l (by omega)], ?_⟩
      rw [hu_o_l hi, hu_o_l (show i' < t by omega)]
      omega
  · have x := j8 c c1 c2 (oN c z)
    have y := s1le c c1 c2 z
    have vs := vN c c1 c2 z
    refine ⟨by omega, by omega, fun e => by omega, fun _ => ?_, fun i hi => ?_⟩
    · rcases l1 c c1 (by omega) (nR c c2 z) with ⟨e, e1, e2⟩ | ⟨e, e1, e2⟩
      · have x1 := uR t (by omega)
        rw [hu_o_t] at x1
        refine ⟨t, by omega, by rw [hu_o_t]; exact e1, ?_⟩
        rw [hu_o_t]
        omega
      · by_cases t0 : t = 0
        · have b1 := bu (p a) (by omega) (by omega)
          have b2 := bv c c1 c2
          have b3 := HK.2.2.2 (p a) c (by omega) (by omega) c1 c2
          have b4 := x.2.2.1 t0
          omega
        · obtain ⟨i, hi, e3, e4⟩ := x.2.2.2.1 (by omega)
          have x1 := uR i (by omega)
          rw [hu_o_l hi] at x1
          refine ⟨i, by omega, by rw [hu_o_l hi, e1, e3], ?_⟩
          rw [hu_o_l hi]
          omega
    · have x1 := uR i hi
      have x2 := y.2.2 i hi
      omega
end
end
section
/-! the chain back, and why the end is cheapest: pure -/
def hu_u (p : Nat → Nat) (k x : Nat) : Nat → Nat := fun c => if c = k then x else p c
theorem hu_u_s {p : Nat → Nat} {k x : Nat} : hu_u p k x k = x := if_pos rfl
theorem hu_u_n {p : Nat → Nat} {k x c : Nat} (h : c ≠ k) : hu_u p k x c = p c := if_neg h
/-- the chain: columns o 0 = 0 .. o t (free) -/
def hu_c (C : Nat) (K : Nat → Nat → Int) (k t : Nat) (u v : Nat → Int) (p g o : Nat → Nat) : Prop :=
  o 0 = 0 ∧ (∀ i, 1 ≤ i → i < t + 1 → 1 ≤ o i ∧ o i ≤ C) ∧ (∀ i j, i < t + 1 → j < t + 1 → o i = o j → i = j) ∧
  (∀ i, 1 ≤ i → i < t + 1 → ∃ i', i' < i ∧ g (o i) = o i' ∧ u (p (o i')) + v (o i) = K (p (o i')) (o i)) ∧
  (∀ i, i < t → 1 ≤ p (o i) ∧ p (o i) ≤ k + 1)
/-- the chain has been written down to o m: every row has one column other than o m -/
def hu_a (C : Nat) (K : Nat → Nat → Int) (k t : Nat) (u v : Nat → Int) (p o : Nat → Nat) (m : Nat) (p' : Nat → Nat) : Prop :=
  m ≤ t ∧ (∀ i, i ≤ m → i < t → p' (o i) = p (o i)) ∧
  (∀ c, 1 ≤ c → c ≤ C → c ≠ o m → p' c ≤ k + 1 ∧ (p' c ≠ 0 → u (p' c) + v c = K (p' c) c) ∧ (p' c = 0 → v c = 0)) ∧
  (∀ c c', c ≤ C → c' ≤ C → c ≠ o m → c' ≠ o m → p' c = p' c' → p' c ≠ 0 → c = c') ∧
  (∀ r, 1 ≤ r → r ≤ k + 1 → ∃ c, c ≤ C ∧ c ≠ o m ∧ p' c = r)
section
variable {R C k t a m : Nat} {K : Nat → Nat → Int} {u v s : Nat → Int} {p g o p' : Nat → Nat}
theorem hu_c0 (I : hu_i R C K k t a u v s p g o) (t1 : 1 ≤ t) (pa : p a = 0) : hu_c C K k t u v p g (hu_o t a o) ∧ hu_a C K k t u v p (hu_o t a o) t p := by
  obtain ⟨M, p0, o0, ha, j5, j6, j7, j8⟩ := I
  obtain ⟨i1, i2, i3, i4, i5, i6, i7⟩ := M
  rcases ha with ⟨e, _⟩ | ⟨_, a1, a2, a3, a4⟩
  · omega
  · refine ⟨⟨by rw [hu_o_l (by omega)]; exact o0, fun i h1 h2 => ?_, fun i j hi hj e => ?_, fun i h1 h2 => ?_, fun i hi => ?_⟩, Nat.le_refl _, fun i _ hi => rfl, fun c c1 c2 n => ⟨?_, i5 c c1 c2, (i6 c c1 c2).2⟩, fun c c' h1 h2 n n' e z => ?_, fun r r1 r2 => ?_⟩
    · by_cases e : i = t
      · subst e; rw [hu_o_t]; exact ⟨a1, a2⟩
      · rw [hu_o_l (by omega)]
        have := j5 i h1 (by omega)
        exact ⟨this.1, this.2.1⟩
    · by_cases y : i = t
      · by_cases x : j = t
        · omega
        · subst y
          rw [hu_o_t, hu_o_l (by omega)] at e
          exact absurd e.symm (a4 j (by omega))
      · by_cases x : j = t
        · subst x
          rw [hu_o_t, hu_o_l (by omega)] at e
          exact absurd e (a4 i (by omega))
        · rw [hu_o_l (by omega), hu_o_l (by omega)] at e
          exact j6 i j (by omega) (by omega) e
    · by_cases e : i = t
      · subst e
        obtain ⟨i', hi', e1, e2⟩ := (j8 a a1 a2 a4).2.2.2.1 t1
        refine ⟨i', hi', by rw [hu_o_t, hu_o_l hi']; exact e1, ?_⟩
        rw [hu_o_t, hu_o_l hi']
        omega
      · have hi : i < t := by omega
        obtain ⟨i', hi', e1, e2⟩ := j7 i h1 hi
        refine ⟨i', hi', by rw [hu_o_l hi, hu_o_l (by omega)]; exact e1, ?_⟩
        rw [hu_o_l hi, hu_o_l (show i' < t by omega)]
        exact e2
    · rw [hu_o_l hi]
      by_cases z : i = 0
      · subst z; rw [o0, p0]; omega
      · have b := j5 i (by omega) hi
        have c := i1 _ b.1 b.2.1
        omega
    · have := i1 c c1 c2
      omega
    · by_cases y : c = 0
      · by_cases x : c' = 0
        · omega
        · subst y
          rw [p0] at e
          have := i1 c' (by omega) h2
          omega
      · by_cases x : c' = 0
        · subst x
          rw [p0] at e
          have := i1 c (by omega) h1
          omega
        · exact i3 c c' (by omega) h1 (by omega) h2 e z
    · rw [hu_o_t]
      by_cases y : r = k + 1
      · exact ⟨0, by omega, by omega, by rw [p0, y]⟩
      · obtain ⟨c, c1, c2, e⟩ := i2 r r1 (by omega)
        exact ⟨c, c2, fun z => by rw [z, pa] at e; omega, e⟩
/-- one step back -/
theorem hu_c1 (H : hu_c C K k t u v p g o) (A : hu_a C K k t u v p o m p') (m1 : 1 ≤ m) : ∃ i, i < m ∧ g (o m) = o i ∧ o i ≤ C ∧ p' (o i) = p (o i) ∧ 1 ≤ p (o i) ∧ p (o i) ≤ k + 1 ∧ hu_a C K k t u v p o i (hu_u p' (o m) (p (o i))) := by
  obtain ⟨c0, c1, c2, c3, c4⟩ := H
  obtain ⟨a0, a1, a2, a3, a4⟩ := A
  obtain ⟨i, hi, e1, e2⟩ := c3 m m1 (by omega)
  have pi := a1 i (by omega) (by omega)
  have pb := c4 i (by omega)
  have iC : o i ≤ C := by
    by_cases z : i = 0
    · rw [z, c0]; omega
    · exact (c1 i (by omega) (by omega)).2
  have ne : o i ≠ o m := fun e => by
    have := c2 i m (by omega) (by omega) e
    omega
  have mC := c1 m m1 (by omega)
  refine ⟨i, hi, e1, iC, pi, pb.1, pb.2, by omega, fun i' h1 h2 => ?_, fun c h1 h2 n => ?_, fun c c' h1 h2 n n' e z => ?_, fun r r1 r2 => ?_⟩
  · rw [hu_u_n (fun e => by
      have := c2 i' m (by omega) (by omega) e
      omega)]
    exact a1 i' (by omega) h2
  · by_cases y : c = o m
    · subst y
      rw [hu_u_s]
      exact ⟨pb.2, fun _ => e2, fun z => by omega⟩
    · rw [hu_u_n y]
      exact a2 c h1 h2 y
  · by_cases y : c = o m
    · by_cases x : c' = o m
      · omega
      · rw [y, hu_u_s, hu_u_n x, ← pi] at e
        exact absurd (a3 (o i) c' iC h2 ne x e (by rw [pi]; omega)) (fun q => n' q.symm)
    · by_cases x : c' = o m
      · rw [x, hu_u_s, hu_u_n y, ← pi] at e
        exact absurd (a3 c (o i) h1 iC y ne e (by rw [e, pi]; omega)) n
      · rw [hu_u_n y, hu_u_n x] at e
        rw [hu_u_n y] at z
        exact a3 c c' h1 h2 y x e z
  · obtain ⟨c, h1, h2, e⟩ := a4 r r1 r2
    by_cases y : c = o i
    · exact ⟨o m, mC.2, fun q => ne q.symm, by rw [hu_u_s, ← pi, ← y]; exact e⟩
    · exact ⟨c, h1, y, by rw [hu_u_n h2]; exact e⟩
/-- the end: one more row is matched -/
theorem hu_c2 (I : hu_i R C K k t a u v s p g o) (H : hu_c C K k t u v p g (hu_o t a o)) (A : hu_a C K k t u v p (hu_o t a o) 0 p') : hu_m R C K (k + 1) u v p' := by
  obtain ⟨M, p0, o0, ha, j5, j6, j7, j8⟩ := I
  obtain ⟨i1, i2, i3, i4, i5, i6, i7⟩ := M
  obtain ⟨c0, c1, c2, c3, c4⟩ := H
  obtain ⟨a0, a1, a2, a3, a4⟩ := A
  rw [c0] at a2 a3 a4
  refine ⟨fun c h1 h2 => (a2 c h1 h2 (by omega)).1, fun r r1 r2 => ?_, fun c c' h1 h2 h3 h4 e z => a3 c c' h2 h4 (by omega) (by omega) e z, i4, fun c h1 h2 => (a2 c h1 h2 (by omega)).2.1, fun c h1 h2 => ⟨(i6 c h1 h2).1, (a2 c h1 h2 (by omega)).2.2⟩, i7⟩
  obtain ⟨c, h1, h2, e⟩ := a4 r r1 r2
  exact ⟨c, by omega, h1, e⟩
end
/-- all rows matched: the sum is least -/
theorem hu_opt {R C : Nat} {K : Nat → Nat → Int} {u v : Nat → Int} {p : Nat → Nat} (I : hu_m R C K R u v p) : (∃ t : Nat → Nat, (∀ r, 1 ≤ r → r ≤ R → 1 ≤ t r ∧ t r ≤ C) ∧ (∀ r r', 1 ≤ r → r ≤ R → 1 ≤ r' → r' ≤ R → t r = t r' → r = r') ∧ sm_s (fun c => if p (c + 1) = 0 then 0 else K (p (c + 1)) (c + 1)) C = sm_s (fun r => K (r + 1) (t (r + 1))) R) ∧ ∀ t : Nat → Nat, (∀ r, 1 ≤ r → r ≤ R → 1 ≤ t r ∧ t r ≤ C) → (∀ r r', 1 ≤ r → r ≤ R → 1 ≤ r' → r' ≤ R → t r = t r' → r = r') → sm_s (fun c => if p (c + 1) = 0 then 0 else K (p (c + 1)) (c + 1)) C ≤ sm_s (fun r => K (r + 1) (t (r + 1))) R := by
  obtain ⟨i1, i2, i3, i4, i5, i6, i7⟩ := I
  have hp : ∀ c, c < C → p (c + 1) ≤ R := fun c hc => i1 (c + 1) (by omega) (by omega)
  have hs : ∀ r, 1 ≤ r → r ≤ R → ∃ c, c < C ∧ p (c + 1) = r := fun r r1 r2 => by
    obtain ⟨c, c1, c2, e⟩ := i2 r r1 r2
    exact ⟨c - 1, by omega, by rw [show c - 1 + 1 = c by omega]; exact e⟩
  have hi : ∀ c c', c < C → c' < C → p (c + 1) = p (c' + 1) → p (c + 1) ≠ 0 → c = c' := fun c c' h1 h2 e z => by
    have := i3 (c + 1) (c' + 1) (by omega) (by omega) (by omega) (by omega) e z
    omega
  constructor
  · have sk : ∀ r, ∃ c, 1 ≤ r → r ≤ R → 1 ≤ c ∧ c ≤ C ∧ p c = r := fun r => by
      by_cases z : 1 ≤ r ∧ r ≤ R
      · obtain ⟨c, h⟩ := i2 r z.1 z.2
        exact ⟨c, fun _ _ => h⟩
      · exact ⟨0, fun h1 h2 => absurd ⟨h1, h2⟩ z⟩
    obtain ⟨t, ht⟩ := Classical.skolem.mp sk
    refine ⟨t, fun r r1 r2 => ⟨(ht r r1 r2).1, (ht r r1 r2).2.1⟩, fun r r' r1 r2 r3 r4 e => ?_, ?_⟩
    · rw [← (ht r r1 r2).2.2, ← (ht r' r3 r4).2.2, e]
    · rw [← sm_re (p := fun c => p (c + 1)) (g := fun r => K r (t r)) (n := C) (R := R) hp hs hi]
      refine sm_ext (fun c hc => ?_)
      (try dsimp only)
      by_cases z : p (c + 1) = 0
      · rw [if_pos z, if_pos z]
      · rw [if_neg z, if_neg z]
        have a := hp c hc
        have b := ht (p (c + 1)) (by omega) a
        rw [i3 (t (p (c + 1))) (c + 1) b.1 b.2.1 (by omega) (by omega) b.2.2 (by rw [b.2.2]; exact z)]
  · intro t ht hi'
    have a : sm_s (fun c => if p (c + 1) = 0 then 0 else K (p (c + 1)) (c + 1)) C = sm_s (fun c => if p (c + 1) = 0 then 0 else u (p (c + 1))) C + sm_s (fun c => v (c + 1)) C := by
      rw [← sm_add]
      refine sm_ext (fun c hc => ?_)
      by_cases z : p (c + 1) = 0
      · rw [if_pos z, if_pos z, (i6 (c + 1) (by omega) (by omega)).2 z]; rfl
      · rw [if_neg z, if_neg z, i5 (c + 1) (by omega) (by omega) z]
    have b := sm_re (p := fun c => p (c + 1)) (g := u) (n := C) (R := R) hp hs hi
    (try dsimp only at b)
    have d := sm_sel (v := fun c => v (c + 1)) (t := fun r => t (r + 1) - 1) (n := C) (R := R) (fun c hc => (i6 (c + 1) (by omega) (by omega)).1) (fun r hr => by
      have := ht (r + 1) (by omega) (by omega)
      (try dsimp only)
      omega) (fun r r' h1 h2 e => by
      have x := ht (r + 1) (by omega) (by omega)
      have y := ht (r' + 1) (by omega) (by omega)
      (try dsimp only at e)
      have := hi' (r + 1) (r' + 1) (by omega) (by omega) (by omega) (by omega) (by omega)
      omega)
    (try dsimp only at d)
    have e : sm_s (fun r => v (t (r + 1) - 1 + 1)) R = sm_s (fun r => v (t (r + 1))) R := sm_ext (fun r hr => by
      have x := ht (r + 1) (by omega) (by omega)
      (try dsimp only)
      rw [show t (r + 1) - 1 + 1 = t (r + 1) by omega])
    have f : sm_s (fun r => u (r + 1) + v (t (r + 1))) R ≤ sm_s (fun r => K (r + 1) (t (r + 1))) R := sm_le (fun r hr => by
      have x := ht (r + 1) (by omega) (by omega)
      exact i4 (r + 1) (t (r + 1)) (by omega) (by omega) x.1 x.2)
    rw [sm_add] at f
    omega
/-- rows as jobs -/
theorem hu_jobs {M C S l R : Nat} {al : Nat → Nat → Bool} {T : Nat → Nat → Int} {u v : Nat → Int} {p jb : Nat → Nat} (j1 : ∀ r, 1 ≤ r → r ≤ R → jb r < 5 ∧ S.testBit (jb r) = true) (j2 : ∀ r r', 1 ≤ r → r ≤ R → 1 ≤ r' → r' ≤ R → jb r = jb r' → r = r') (j3 : ∀ j, j < 5 → S.testBit j = true → ∃ r, 1 ≤ r ∧ r ≤ R ∧ jb r = j) (I : hu_m R C (fun r c => fd_cost M al T l (jb r) c) R u v p) : fd_mv M C al T l S (sm_s (fun c => if p (c + 1) = 0 then 0 else fd_cost M al T l (jb (p (c + 1))) (c + 1)) C) := by
  obtain ⟨⟨t, t1, t2, e⟩, best⟩ := hu_opt I
  (try dsimp only at e best)
  have sk : ∀ j, ∃ r, j < 5 → S.testBit j = true → 1 ≤ r ∧ r ≤ R ∧ jb r = j := fun j => by
    by_cases z : j < 5 ∧ S.testBit j = true
    · obtain ⟨c, h⟩ := j3 j z.1 z.2
      exact ⟨c, fun _ _ => h⟩
    · exact ⟨0, fun h1 h2 => absurd ⟨h1, h2⟩ z⟩
  obtain ⟨q, hq⟩ := Classical.skolem.mp sk
  have j4 : ∀ g : Nat → Int, sm_s (fun r => g (jb (r + 1))) R = sm_s (fun j => if S.testBit j = true then g j else 0) 5 := by
    intro g
    rw [← sm_re (p := fun j => if S.testBit j = true then q j else 0) (g := fun r => g (jb r)) (n := 5) (R := R)]
    · refine sm_ext (fun j hj => ?_)
      (try dsimp only)
      by_cases z : S.testBit j = true
      · have h := hq j hj z
        rw [if_pos z, if_neg (by omega), h.2.2, if_pos z]
      · rw [if_neg z, if_pos rfl, if_neg z]
    · intro j hj
      (try dsimp only)
      by_cases z : S.testBit j = true
      · rw [if_pos z]; exact (hq j hj z).2.1
      · rw [if_neg z]; omega
    · intro r r1 r2
      have h := j1 r r1 r2
      refine ⟨jb r, h.1, ?_⟩
      (try dsimp only)
      rw [if_pos h.2]
      have h2 := hq (jb r) h.1 h.2
      exact j2 _ _ h2.1 h2.2.1 r1 r2 h2.2.2
    · intro j j' hj hj' ee zz
      (try dsimp only at ee zz)
      by_cases z : S.testBit j = true
      · rw [if_pos z] at ee zz
        by_cases z' : S.testBit j' = true
        · rw [if_pos z'] at ee
          rw [← (hq j hj z).2.2, ← (hq j' hj' z').2.2, ee]
        · rw [if_neg z'] at ee
          omega
      · rw [if_neg z] at zz
        omega
  refine ⟨⟨fun j => t (q j), ⟨fun j hj sj => ?_, fun i j hi hj si sj ee => ?_⟩, ?_⟩, fun s hs => ?_⟩
  · have h := hq j hj sj
    exact t1 (q j) h.1 h.2.1
  · have h := hq j hj sj
    have h' := hq i hi si
    have := t2 (q i) (q j) h'.1 h'.2.1 h.1 h.2.1 ee
    rw [← h.2.2, ← h'.2.2, this]
  · unfold fd_pc
    rw [← j4 (fun j => fd_cost M al T l j (t (q j))), e]
    refine sm_ext (fun r hr => ?_)
    (try dsimp only)
    have h := j1 (r + 1) (by omega) (by omega)
    have h2 := hq (jb (r + 1)) h.1 h.2
    rw [j2 (q (jb (r + 1))) (r + 1) h2.1 h2.2.1 (by omega) (by omega) h2.2.2]
  · unfold fd_pc
    rw [← j4 (fun j => fd_cost M al T l j (s j))]
    refine best (fun r => s (jb r)) (fun r r1 r2 => ?_) (fun r r' r1 r2 r3 r4 ee => ?_)
    · have h := j1 r r1 r2
      exact hs.1 (jb r) h.1 h.2
    · have h := j1 r r1 r2
      have h' := j1 r' r3 r4
      exact j2 r r' r1 r2 r3 r4 (hs.2 _ _ h.1 h'.1 h.2 h'.2 ee)
end
section
/-! numbers and bits -/
theorem pk_us {f : Nat → Int32} {k : Nat} {x : Int32} : upd f k x k = x := if_pos rfl
theorem pk_un {f : Nat → Int32} {k j : Nat} {x : Int32} (h : j ≠ k) : upd f k x j = f j := if_neg h
theorem pk_sub {a b : Nat} (h : b ≤ a) : nI a - nI b = nI (a - b) := by
  obtain ⟨c, rfl⟩ : ∃ c, a = c + b := ⟨a - b, by omega⟩
  rw [← nI_add, Int32.add_sub_cancel, Nat.add_sub_cancel]
theorem pk_mul (a b : Nat) : nI a * nI b = nI (a * b) := (Int32.ofNat_mul a b).symm
theorem pk_div {a d : Nat} (ha : a < 2 ^ 31) (h0 : 0 < d) (hd : d < 2 ^ 31) : nI a / nI d = nI (a / d) := by
  apply Int32.toInt_inj.mp
  rw [lg_idiv_nonneg (by rw [nI_toInt ha]; omega) (by rw [nI_toInt hd]; omega), nI_toInt ha, nI_toInt hd, nI_toInt (Nat.lt_of_le_of_lt (Nat.div_le_self a d) ha)]
  first | rfl | exact (Int.natCast_ediv _ _).symm
theorem pk_rem {a d : Nat} (ha : a < 2 ^ 31) (h0 : 0 < d) (hd : d < 2 ^ 31) : nI a - nI a / nI d * nI d = nI (a % d) := by
  rw [pk_div ha h0 hd, pk_mul, pk_sub (Nat.div_mul_le_self a d)]
  exact congrArg nI (by have := Nat.div_add_mod' a d; omega)
theorem pk_tn {n : Nat} (h : n < 2 ^ 32) : (nI n).toBitVec.toNat = n := Nat.mod_eq_of_lt h
theorem pk_and (x : Int32) {m : Int32} (k : Nat) (hm : m.toBitVec.toNat = 2 ^ k - 1) : x &&& m = nI (x.toBitVec.toNat % 2 ^ k) := by
  apply Int32.toBitVec_inj.mp
  apply BitVec.eq_of_toNat_eq
  rw [Int32.toBitVec_and, BitVec.toNat_and, hm, Nat.and_two_pow_sub_one_eq_mod]
  show _ = (BitVec.ofNat 32 _).toNat
  rw [BitVec.toNat_ofNat]
  exact (Nat.mod_eq_of_lt (Nat.lt_of_le_of_lt (Nat.mod_le _ _) x.toBitVec.isLt)).symm
theorem pk_andN {n : Nat} (h : n < 2 ^ 32) {m : Int32} (k : Nat) (hm : m.toBitVec.toNat = 2 ^ k - 1) : nI n &&& m = nI (n % 2 ^ k) := by
  rw [pk_and _ k hm, pk_tn h]
theorem pk_shr (a s : Int32) (k : Nat) (hs : (s.toBitVec.smod 32).toNat = k) : (a >>> s).toInt = a.toInt >>> k := by
  show (a.toBitVec.sshiftRight (s.toBitVec.smod 32).toNat).toInt = _
  rw [hs, BitVec.toInt_sshiftRight]
  rfl
theorem pk_shrN {n : Nat} (h : n < 2 ^ 31) (s : Int32) (k : Nat) (hs : (s.toBitVec.smod 32).toNat = k) : nI n >>> s = nI (n / 2 ^ k) := by
  apply Int32.toInt_inj.mp
  have h2 : n / 2 ^ k ≤ n := Nat.div_le_self _ _
  rw [pk_shr _ _ k hs, nI_toInt h, nI_toInt (by omega), Int.shiftRight_eq_div_pow]
  rfl
theorem pk_vb (z : Int32) : vp_nar .byte z.toInt8.toInt32 = z.toInt8.toInt32 := by rw [vp_nar_byte]; simp
/-- an array of ints as integers -/
def xt_i (f : Nat → Int32) (c : Nat) : Int := (f c).toInt
theorem xt_s {f : Nat → Int32} {k : Nat} {x : Int32} : xt_i (upd f k x) k = x.toInt := congrArg Int32.toInt pk_us
theorem xt_n {f : Nat → Int32} {k c : Nat} {x : Int32} (h : c ≠ k) : xt_i (upd f k x) c = xt_i f c := congrArg Int32.toInt (pk_un h)
theorem tb_b {n : Nat} (h : n < 128) : (nI n).toInt8.toInt32 = nI n := lg_i2b_small (by rw [nI_toInt (by omega)]; omega) (by rw [nI_toInt (by omega)]; omega)
theorem tb_nb {n : Nat} (h : n < 128) : vp_nar .byte (nI n) = nI n := by rw [vp_nar_byte, tb_b h]
theorem tb_nbb {n : Nat} (h : n < 128) : vp_nar .byte (nI n).toInt8.toInt32 = nI n := by rw [tb_b h, tb_nb h]
theorem tb_t {x : Int32} (h0 : 0 ≤ x.toInt) (h1 : x.toInt ≤ 15) : vp_nar .byte x.toInt8.toInt32 = x := by
  rw [pk_vb]; exact lg_i2b_small (by omega) (by omega)
theorem tb_1 : vp_nar .boolean 1 = 1 := rfl
theorem tb_0 : vp_nar .boolean 0 = 0 := rfl
theorem tb_b0 : vp_nar .byte 0 = 0 := rfl
/-- numbers as bits, small tables -/
theorem tb_bit : ∀ S, S < 32 → ∀ j, j < 5 → (((nI S >>> (nI j &&& 31)) &&& 1) = 0 ↔ S.testBit j = false) := by decide +kernel
theorem tb_or : ∀ S, S < 32 → ∀ j, j < 5 → nI S ||| ((1 : Int32) <<< (nI j &&& 31)) = nI (S ||| 2 ^ j) ∧ S ||| 2 ^ j < 32 ∧ ∀ i, i < 5 → (S ||| 2 ^ j).testBit i = (S.testBit i || decide (i = j)) := by decide +kernel
theorem tb_an : ∀ S, S < 32 → ∀ j, j < 5 → nI S &&& (((1 : Int32) <<< (nI j &&& 31)) ^^^ (-1)) = nI (S &&& (31 - 2 ^ j)) ∧ S &&& (31 - 2 ^ j) < 32 ∧ ∀ i, i < 5 → (S &&& (31 - 2 ^ j)).testBit i = (S.testBit i && decide (i ≠ j)) := by decide +kernel
theorem tb_sh : ∀ m, m < 3 → vp_nar .byte ((1 : Int32) <<< (nI m &&& 31)).toInt8.toInt32 = nI (2 ^ m) ∧ 2 ^ m < 8 ∧ ∀ i, i < 5 → (2 ^ m).testBit i = decide (i = m) := by decide +kernel
theorem tb_b1 : ∀ A, A < 16 → ∀ m, m < 4 → (((nI A >>> (nI m &&& 31)) &&& 1) = 1 ↔ A.testBit m = true) := by decide +kernel
theorem tb_all : ∀ M, M < 4 → ((1 : Int32) <<< (nI M &&& 31)) - 1 = nI (2 ^ M - 1) ∧ 2 ^ M - 1 < 8 ∧ ∀ m, m < 4 → (2 ^ M - 1).testBit m = decide (m < M) := by decide +kernel
theorem tb_8 : ∀ A, A < 8 → nI A ||| 8 = nI (A ||| 8) ∧ A ||| 8 < 16 ∧ ∀ m, m < 4 → (A ||| 8).testBit m = (A.testBit m || decide (m = 3)) := by decide +kernel
theorem tb_no : ∀ A, A < 8 → ∀ m, m < 3 → nI A &&& (((1 : Int32) <<< (nI m &&& 31)) ^^^ (-1)) = nI (A &&& (7 - 2 ^ m)) ∧ A &&& (7 - 2 ^ m) < 8 ∧ ∀ i, i < 5 → (A &&& (7 - 2 ^ m)).testBit i = (A.testBit i && decide (i ≠ m)) := by decide +kernel
theorem tb_hi : ∀ A, A < 8 → ∀ i, i < 5 → A.testBit i = true → i < 3 := by decide +kernel
theorem tb_3 (j m : Nat) : nI j * 3 + nI m = nI (3 * j + m) := by
  show nI j * nI 3 + nI m = _
  rw [pk_mul, nI_add, Nat.mul_comm]
theorem tb_30 (j : Nat) : nI j * 3 = nI (3 * j) := by
  show nI j * nI 3 = _
  rw [pk_mul, Nat.mul_comm]
theorem tb_31 (j : Nat) : nI j * 3 + 1 = nI (3 * j + 1) := tb_3 j 1
theorem tb_32 (j : Nat) : nI j * 3 + 2 = nI (3 * j + 2) := tb_3 j 2
theorem tb_4 (j m : Nat) : 4 * nI j + nI m = nI (4 * j + m) := by
  show nI 4 * nI j + nI m = _
  rw [pk_mul, nI_add]
theorem tb_40 (j : Nat) : 4 * nI j = nI (4 * j) := by
  show nI 4 * nI j = _
  rw [pk_mul]
theorem tb_41 (j : Nat) : 4 * nI j + 1 = nI (4 * j + 1) := tb_4 j 1
theorem tb_42 (j : Nat) : 4 * nI j + 2 = nI (4 * j + 2) := tb_4 j 2
theorem tb_43 (j : Nat) : 4 * nI j + 3 = nI (4 * j + 3) := tb_4 j 3
theorem tb_dv {c : Nat} (h1 : 1 ≤ c) (h2 : c < 100) : (nI c - 1) / 5 = nI ((c - 1) / 5) := by
  show (nI c - nI 1) / nI 5 = _
  rw [pk_sub h1, pk_div (by omega) (by decide) (by decide)]
theorem tb_pl {c : Nat} (h1 : 1 ≤ c) (h2 : c < 100) : ((nI c - 1) - (nI c - 1) / 5 * 5) + 1 = nI ((c - 1) % 5 + 1) := by
  show ((nI c - nI 1) - (nI c - nI 1) / nI 5 * nI 5) + 1 = _
  rw [pk_sub h1, pk_rem (by omega) (by decide) (by decide), nI_1]
/-- two bits of a way's number -/
def fd_on (c j : Nat) : Nat := c / 2 ^ (8 - 2 * j) % 4
theorem tb_s8 : ∀ j, j < 5 → (((8 - (2 * nI j)) &&& 31).toBitVec.smod 32).toNat = 8 - 2 * j := by decide +kernel
theorem tb_on {c j : Nat} (hc : c < 1024) (hj : j < 5) : (nI c >>> ((8 - (2 * nI j)) &&& 31)) &&& 3 = nI (fd_on c j) := by
  rw [pk_shrN (by omega) _ _ (tb_s8 j hj), pk_andN (Nat.lt_of_le_of_lt (Nat.div_le_self _ _) (by omega)) 2 (by decide)]
  rfl
theorem tb_on4 (c j : Nat) : fd_on c j < 4 := Nat.mod_lt _ (by decide)
/-- a comparison by integers -/
theorem tb_le {x y : Int32} {A B : Prop} (f : x.toInt ≤ y.toInt → A) (g : y.toInt < x.toInt → B) : (x ≤ y → A) ∧ (¬ x ≤ y → B) := by
  rw [Int32.le_iff_toInt_le]
  exact ⟨f, fun z => g (by omega)⟩
theorem tb_lt {x y : Int32} {A B : Prop} (f : x.toInt < y.toInt → A) (g : y.toInt ≤ x.toInt → B) : (x < y → A) ∧ (¬ x < y → B) := by
  rw [Int32.lt_iff_toInt_lt]
  exact ⟨f, fun z => g (by omega)⟩
theorem tb_eq {x y : Int32} {A B : Prop} (f : x.toInt = y.toInt → A) (g : x.toInt ≠ y.toInt → B) : (x = y → A) ∧ (¬ x = y → B) := by
  rw [← Int32.toInt_inj]
  exact ⟨f, g⟩
end
section
/-! the component's costs -/
/-- costOf answers K -/
def xc_ok (mc db lk : Int32) (tm op rj : Nat → Int32) (R C : Nat) (K : Nat → Nat → Int) : Prop :=
  ∀ (ps rs cs kn lt : Int32) (rp cp ro cf sl re bm : Nat → Int32) (post : Int32 → Prop) (r c : Nat), 1 ≤ r → r ≤ R → 1 ≤ c → c ≤ C → (∀ y : Int32, y.toInt = K r c → post y) → wpX_costOf post (mc, ps, db, lk, rs, cs, kn, lt, tm, op, rj, rp, cp, ro, cf, sl, re, bm) (nI r) (nI c)
/-- the question at hand, as the component's state holds it -/
def xq_i (M C : Nat) (db lk : Int32) (tm op : Nat → Int32) (al : Nat → Nat → Bool) (T : Nat → Nat → Int) (l : Nat) : Prop :=
  fd_hyp M C al T ∧
  (∀ j m, j < 5 → m < M → (((op j >>> (nI m &&& 31)) &&& 1) = 0 ↔ al j m = false) ∧ (tm (3 * j + m)).toInt = T j m ∧ (nI m = lk ↔ m = l)) ∧
  ((db = -1 ∧ C = 5 * M) ∨ ∃ d, d < M ∧ db = nI d ∧ C = 5 * (M + 1) ∧ l ≠ 3 ∧ ¬ nI d = lk ∧ ∀ j, j < 5 → (((op j >>> (nI d &&& 31)) &&& 1) = 0 ↔ al j 3 = false) ∧ T j 3 = T j d)
section
variable {mc ps db lk rs cs kn lt : Int32} {tm op rj rp cp ro cf sl re bm : Nat → Int32}
theorem xc_mach {M C l : Nat} {al : Nat → Nat → Bool} {T : Nat → Nat → Int} (Q : xq_i M C db lk tm op al T l) {c : Nat} (c1 : 1 ≤ c) (c2 : c ≤ C) (P : Int32 → Prop) (H : ∀ m, m < M → (∀ j, j < 5 → (((op j >>> (nI m &&& 31)) &&& 1) = 0 ↔ al j (fd_mc M c) = false) ∧ (tm (3 * j + m)).toInt = T j (fd_mc M c)) → (nI m = lk ↔ fd_mc M c = l) → P (nI m)) : wpX_machineAt P (nI M, ps, db, lk, rs, cs, kn, lt, tm, op, rj, rp, cp, ro, cf, sl, re, bm) (nI c) := by
  obtain ⟨h0, h1, h2⟩ := Q
  obtain ⟨M1, M3, _, _⟩ := h0
  have cC : c ≤ 20 := by
    rcases h2 with h | ⟨d, h⟩
    · omega
    · omega
  refine And.intro (by decide) (nm_r (tb_dv c1 (by omega)) ?_)
  by_cases b : (c - 1) / 5 < M
  · refine br_f (nI_ge b (by omega)) ?_
    have e : fd_mc M c = (c - 1) / 5 := if_pos b
    refine H _ b (fun j hj => ?_) ?_
    · rw [e]; exact ⟨(h1 j _ hj b).1, (h1 j _ hj b).2.1⟩
    · rw [e]; exact (h1 0 _ (by omega) b).2.2
  · refine br_t (nI_le (by omega) (by omega)) ?_
    have e : fd_mc M c = 3 := if_neg b
    rcases h2 with h | ⟨d, hd, hdb, hC, l3, hl, hh⟩
    · omega
    · rw [hdb]
      refine H d hd (fun j hj => ?_) ?_
      · rw [e]; exact ⟨(hh j hj).1, by rw [(hh j hj).2]; exact (h1 j d hj hd).2.1⟩
      · rw [e]; exact ⟨fun z => absurd z hl, fun z => absurd z.symm l3⟩
theorem xc_mk {M C l R : Nat} {al : Nat → Nat → Bool} {T : Nat → Nat → Int} (Q : xq_i M C db lk tm op al T l) {jb : Nat → Nat} (hR : R ≤ 5) (hj : ∀ r, 1 ≤ r → r ≤ R → rj r = nI (jb r) ∧ jb r < 5) : xc_ok (nI M) db lk tm op rj R C (fun r c => fd_cost M al T l (jb r) c) := by
  intro ps rs cs kn lt rp cp ro cf sl re bm post r c r1 r2 c1 c2 H
  obtain ⟨ej, j5⟩ := hj r r1 r2
  have cC : c ≤ 20 := by
    rcases Q.2.2 with h | ⟨d, h⟩
    · have := Q.1.2.1; omega
    · have := Q.1.2.1; omega
  have M3 := Q.1.2.1
  refine And.intro (vp_in_nI (by omega) (by omega)) (nm_r (e' := nI (jb r)) (by rw [nI_clamp (by omega)]; exact ej) ?_)
  refine xc_mach Q c1 c2 _ (fun m hm hb hl => ?_)
  refine br_f (nI_pos (by omega)) ⟨vp_in_nI j5 (by omega), ?_⟩
  have b := hb (jb r) j5
  have ec : (nI (jb r)).toNatClampNeg = jb r := nI_clamp (by omega)
  by_cases z : al (jb r) (fd_mc M c) = true
  · refine br_f (by rw [ec, b.1, z]; decide) ⟨by decide, nm_r (tb_pl c1 (by omega)) ⟨?_, ?_⟩⟩
    · rw [tb_3]; exact vp_in_nI (by omega) (by omega)
    · have t := Q.1.2.2.2 (jb r) (fd_mc M c) j5 (fd_mc_lt M3 c) z
      have e3 : (nI (jb r) * 3 + nI m).toNatClampNeg = 3 * jb r + m := by rw [tb_3, nI_clamp (by omega)]
      have p8 : (8 : Int32) * nI ((c - 1) % 5 + 1) = nI (8 * ((c - 1) % 5 + 1)) := pk_mul 8 _
      have y : ((8 : Int32) * nI ((c - 1) % 5 + 1) * tm (nI (jb r) * 3 + nI m).toNatClampNeg).toInt = 8 * ((((c - 1) % 5 + 1 : Nat) : Int) * T (jb r) (fd_mc M c)) := by
        have q1 : (1 : Int) ≤ (((c - 1) % 5 + 1 : Nat) : Int) := by omega
        have q2 : (((c - 1) % 5 + 1 : Nat) : Int) ≤ 5 := by omega
        have a1 := Int.mul_le_mul q1 t.1 (by decide) (by omega)
        have a2 := Int.mul_le_mul q2 t.2.1 (by omega) (by decide)
        have e8 : (nI (8 * ((c - 1) % 5 + 1))).toInt * (tm (3 * jb r + m)).toInt = 8 * ((((c - 1) % 5 + 1 : Nat) : Int) * T (jb r) (fd_mc M c)) := by
          rw [nI_toInt (by omega), b.2, Int.natCast_mul, Int.mul_assoc]
          rfl
        rw [p8, e3, Jvm.Kit.i32_mul (by rw [e8]; omega) (by rw [e8]; omega), e8]
      have y1 : 8 * ((((c - 1) % 5 + 1 : Nat) : Int) * T (jb r) (fd_mc M c)) ≤ 600 ∧ 8 ≤ 8 * ((((c - 1) % 5 + 1 : Nat) : Int) * T (jb r) (fd_mc M c)) := by
        have q1 : (1 : Int) ≤ (((c - 1) % 5 + 1 : Nat) : Int) := by omega
        have q2 : (((c - 1) % 5 + 1 : Nat) : Int) ≤ 5 := by omega
        have a1 := Int.mul_le_mul q1 t.1 (by decide) (by omega)
        have a2 := Int.mul_le_mul q2 t.2.1 (by omega) (by decide)
        omega
      refine nm_e ?_
      by_cases lkd : fd_mc M c = l
      · refine br_t (hl.mpr lkd) (H _ ?_)
        show _ = fd_cost M al T l (jb r) c
        have i1 : (1 : Int32).toInt = 1 := by decide
        rw [fd_cost_1 z, if_pos lkd, Jvm.Kit.i32_sub (by rw [y, i1]; omega) (by rw [y, i1]; omega), y, i1]
      · refine br_f (fun q => lkd (hl.mp q)) (H _ ?_)
        show _ = fd_cost M al T l (jb r) c
        rw [fd_cost_1 z, if_neg lkd, y, Int.sub_zero]
  · refine br_t (by rw [ec]; exact b.1.mpr (by cases q : al (jb r) (fd_mc M c) with | false => rfl | true => exact absurd q z)) (H _ ?_)
    show _ = fd_cost M al T l (jb r) c
    rw [fd_cost_0 z]
    decide
end
end
section
/-! advance: its two loops, then the whole -/
section
variable {rc : Nat → Prop} {q s s1 s2 u v u' v' s' u2 v2 : Nat → Int} {g g1 g2 p : Nat → Nat} {a nx nx2 x : Nat} {D D2 : Int}
theorem l1_re (h : hu_l1 rc q a s g s1 g1 D nx x) (hr : rc x) : hu_l1 rc q a s g s1 g1 D nx (x + 1) := by
  obtain ⟨h1, h2, h3, h4⟩ := h
  refine ⟨fun c c1 c2 n => h1 c c1 ?_ n, fun c z => h2 c ?_, fun c c1 c2 n => h3 c c1 ?_ n, ?_⟩
  · by_cases e : c = x
    · exact absurd (e ▸ hr) n
    · omega
  · rcases z with z | z | z
    · exact Or.inl z
    · exact Or.inr (Or.inl (by omega))
    · exact Or.inr (Or.inr z)
  · by_cases e : c = x
    · exact absurd (e ▸ hr) n
    · omega
  · rcases h4 with z | ⟨z1, z2, z3⟩
    · exact Or.inl z
    · exact Or.inr ⟨z1, by omega, z3⟩
theorem l1_un (h : hu_l1 rc q a s g s1 g1 D nx x) (x1 : 1 ≤ x) (hn : ¬ rc x) (hx : (s2 x = q x ∧ g2 x = a ∧ q x < s1 x) ∨ (s2 x = s1 x ∧ g2 x = g1 x ∧ s1 x ≤ q x)) (ho : ∀ c, c ≠ x → s2 c = s1 c ∧ g2 c = g1 c) (hd : (D ≤ s2 x ∧ D2 = D ∧ nx2 = nx) ∨ (s2 x < D ∧ D2 = s2 x ∧ nx2 = x)) : hu_l1 rc q a s g s2 g2 D2 nx2 (x + 1) := by
  obtain ⟨h1, h2, h3, h4⟩ := h
  have hs := h2 x (Or.inr (Or.inl (Nat.le_refl _)))
  have D2le : D2 ≤ D ∧ D2 ≤ s2 x := by omega
  refine ⟨fun c c1 c2 n => ?_, fun c z => ?_, fun c c1 c2 n => ?_, ?_⟩
  · by_cases e : c = x
    · subst e
      rcases hx with ⟨e1, e2, e3⟩ | ⟨e1, e2, e3⟩
      · exact Or.inl ⟨e1, e2, by omega⟩
      · exact Or.inr ⟨by omega, by rw [e2]; exact hs.2, by omega⟩
    · rw [(ho c e).1, (ho c e).2]
      exact h1 c c1 (by omega) n
  · have e : c ≠ x := fun e => by
      rcases z with z | z | z
      · omega
      · omega
      · exact hn (e ▸ z)
    rw [(ho c e).1, (ho c e).2]
    refine h2 c ?_
    rcases z with z | z | z
    · exact Or.inl z
    · exact Or.inr (Or.inl (by omega))
    · exact Or.inr (Or.inr z)
  · by_cases e : c = x
    · subst e; omega
    · rw [(ho c e).1]
      have := h3 c c1 (by omega) n
      omega
  · rcases hd with ⟨d1, d2, d3⟩ | ⟨d1, d2, d3⟩
    · rw [d2, d3]
      rcases h4 with z | ⟨z1, z2, z3, z4⟩
      · exact Or.inl z
      · exact Or.inr ⟨z1, by omega, z3, by rw [(ho nx (by omega)).1]; exact z4⟩
    · rw [d2, d3]
      exact Or.inr ⟨x1, by omega, hn, rfl⟩
theorem l2_un (h : hu_l2 rc p D u v s u' v' s' x) (x1 : 1 ≤ x) (hn : ¬ rc x) (hs : s2 x = s' x - D) (ho : ∀ c, c ≠ x → s2 c = s' c) : hu_l2 rc p D u v s u' v' s2 (x + 1) := by
  obtain ⟨h1, h2, h3, h4, h5⟩ := h
  have nx : ∀ c, c < x + 1 → rc c → c < x := fun c hc z => by
    by_cases e : c = x
    · exact absurd (e ▸ z) hn
    · omega
  refine ⟨fun c hc z => h1 c (nx c hc z) z, fun r z => h2 r (fun c hc y => z c (by omega) y), fun c c1 hc z => h3 c c1 (nx c hc z) z, fun c c1 hc z => ?_, fun c c1 hc => ?_⟩
  · by_cases e : c = x
    · subst e
      have := h5 c c1 (Nat.le_refl _)
      exact ⟨this.1, by rw [hs, this.2]⟩
    · rw [ho c e]
      exact h4 c c1 (by omega) z
  · rw [ho c (by omega)]
    exact h5 c c1 (by omega)
theorem l2_re (h : hu_l2 rc p D u v s u' v' s' x) (hr : rc x) (inj : ∀ c, c < x → rc c → p c ≠ p x) (hu : u2 (p x) = u' (p x) + D) (huo : ∀ r, r ≠ p x → u2 r = u' r) (hv : 1 ≤ x → v2 x = v' x - D) (hvo : ∀ c, c ≠ x → v2 c = v' c) : hu_l2 rc p D u v s u2 v2 s' (x + 1) := by
  obtain ⟨h1, h2, h3, h4, h5⟩ := h
  refine ⟨fun c hc z => ?_, fun r z => ?_, fun c c1 hc z => ?_, fun c c1 hc z => ?_, fun c c1 hc => ?_⟩
  · by_cases e : c = x
    · rw [e, hu, h2 (p x) inj]
    · rw [huo _ (inj c (by omega) z)]
      exact h1 c (by omega) z
  · rw [huo r (fun e => z x (by omega) hr e.symm)]
    exact h2 r (fun c hc y => z c (by omega) y)
  · by_cases e : c = x
    · subst e
      rw [hv c1, (h5 c c1 (Nat.le_refl _)).1]
    · rw [hvo c e]
      exact h3 c c1 (by omega) z
  · have e : c ≠ x := fun e => z (e ▸ hr)
    rw [hvo c e]
    exact h4 c c1 (by omega) z
  · rw [hvo c (by omega)]
    exact h5 c c1 (by omega)
end
section
variable {mc ps db lk rs cs kn lt : Int32} {tm op rj rp cp ro cf sl re bm : Nat → Int32} {post : Int32 → SX → Prop} {R C : Nat} {K : Nat → Nat → Int} {p g : Nat → Nat}
theorem xa_121 {D nx : Int32} (hC : C ≤ 20) (hp : ∀ c, c ≤ C → re c ≠ 0 → ro c = nI (p c) ∧ p c < 6) (hi : ∀ c c', c ≤ C → c' ≤ C → re c ≠ 0 → re c' ≠ 0 → p c = p c' → c = c') (hu : ∀ c, c ≤ C → re c ≠ 0 → 0 ≤ xt_i rp (p c) ∧ xt_i rp (p c) ≤ 100000) (hv : ∀ c, 1 ≤ c → c ≤ C → -100000 ≤ xt_i cp c ∧ xt_i cp c ≤ 0) (hs : ∀ c, 1 ≤ c → c ≤ C → re c = 0 → 0 ≤ xt_i sl c ∧ xt_i sl c ≤ 268435456) (h0 : re 0 ≠ 0) (hD : 0 ≤ D.toInt ∧ D.toInt ≤ 100000)
    (H : ∀ rp' cp' sl', hu_l2 (fun c => re c ≠ 0) p D.toInt (xt_i rp) (xt_i cp) (xt_i sl) (xt_i rp') (xt_i cp') (xt_i sl') (C + 1) → post nx (mc, ps, db, lk, rs, nI C, kn, lt, tm, op, rj, rp', cp', ro, cf, sl', re, bm)) :
    ∀ n x rp' cp' sl', x ≤ C + 1 → C + 2 ≤ n + x → hu_l2 (fun c => re c ≠ 0) p D.toInt (xt_i rp) (xt_i cp) (xt_i sl) (xt_i rp') (xt_i cp') (xt_i sl') x → wX_advance_121 post D nx mc ps db lk rs (nI C) kn lt n (nI x) tm op rj rp' cp' ro cf sl' re bm := by
  intro n
  induction n with
  | zero => intro x rp' cp' sl' hx hn; omega
  | succ n ih =>
    intro x rp' cp' sl' hx hn L
    by_cases e : x = C + 1
    · subst e
      exact br_t (nI_lt (by omega) (by omega)) (H rp' cp' sl' L)
    · have ec : (nI x).toNatClampNeg = x := nI_clamp (by omega)
      have hin : vp_in (nI x) 24 := vp_in_nI (by omega) (by omega)
      refine br_f (nI_nlt (by omega) (by omega)) ⟨hin, ?_⟩
      by_cases z : re x = 0
      · have x1 : 1 ≤ x := by
          by_cases y : x = 0
          · subst y; exact absurd z h0
          · omega
        have b := hs x x1 (by omega) z
        have l5 := (L.2.2.2.2 x x1 (Nat.le_refl _)).2
        have es : (sl' x - D).toInt = xt_i sl' x - D.toInt := Jvm.Kit.i32_sub (x := sl' x) (by show -2 ^ 31 ≤ xt_i sl' x - D.toInt; omega) (by show xt_i sl' x - D.toInt < 2 ^ 31; omega)
        refine br_t (by rw [ec]; exact z) ⟨hin, hin, nm_r (e' := upd sl' x (sl' x - D)) (by rw [ec]) (nm_r (nI_1 x) ?_)⟩
        refine ih (x + 1) rp' cp' _ (by omega) (by omega) (l2_un L x1 (fun y => y z) ?_ (fun c hc => xt_n hc))
        rw [xt_s]; exact es
      · obtain ⟨e1, p6⟩ := hp x (by omega) z
        have b := hu x (by omega) z
        have inj : ∀ c, c < x → re c ≠ 0 → p c ≠ p x := fun c hc zc ee => by
          have := hi c x (by omega) (by omega) zc z ee
          omega
        have l2 := L.2.1 (p x) inj
        have eu : (rp' (p x) + D).toInt = xt_i rp' (p x) + D.toInt := Jvm.Kit.i32_add (x := rp' (p x)) (by show -2 ^ 31 ≤ xt_i rp' (p x) + D.toInt; omega) (by show xt_i rp' (p x) + D.toInt < 2 ^ 31; omega)
        have ep : (ro (nI x).toNatClampNeg).toNatClampNeg = p x := by rw [ec, e1, nI_clamp (by omega)]
        have hin2 : vp_in (ro (nI x).toNatClampNeg) 6 := by rw [ec, e1]; exact vp_in_nI p6 (by omega)
        refine br_f (by rw [ec]; exact z) ⟨hin, hin2, hin2, nm_r (e' := upd rp' (p x) (rp' (p x) + D)) (by rw [ep]) ⟨hin, hin, nm_r (e' := upd cp' x (cp' x - D)) (by rw [ec]) (nm_r (nI_1 x) ?_)⟩⟩
        refine ih (x + 1) _ _ sl' (by omega) (by omega) (l2_re L z inj ?_ (fun r hr => xt_n hr) (fun x1 => ?_) (fun c hc => xt_n hc))
        · rw [xt_s]; exact eu
        · have bv := hv x x1 (by omega)
          have l5 := (L.2.2.2.2 x x1 (Nat.le_refl _)).1
          rw [xt_s]
          exact Jvm.Kit.i32_sub (x := cp' x) (by show -2 ^ 31 ≤ xt_i cp' x - D.toInt; omega) (by show xt_i cp' x - D.toInt < 2 ^ 31; omega)
theorem xa_16 {a i : Nat} (HC : xc_ok mc db lk tm op rj R C K) (hC : C ≤ 20) (hK : ∀ c, 1 ≤ c → c ≤ C → 0 ≤ K i c ∧ K i c ≤ 100000) (i1 : 1 ≤ i) (i2 : i ≤ R) (hR : R ≤ 5) (ha : a ≤ C) (hu : 0 ≤ xt_i rp i ∧ xt_i rp i ≤ 100000) (hv : ∀ c, 1 ≤ c → c ≤ C → -100000 ≤ xt_i cp c ∧ xt_i cp c ≤ 0)
    (H : ∀ (D : Int32) (nx : Nat) (cf' sl' : Nat → Int32) (g' : Nat → Nat), nx ≤ C → (∀ c, c ≤ C → cf' c = nI (g' c)) → hu_l1 (fun c => re c ≠ 0) (fun c => K i c - xt_i rp i - xt_i cp c) a (xt_i sl) g (xt_i sl') g' D.toInt nx (C + 1) → ∃ n, wX_advance_121 post D (nI nx) mc ps db lk rs (nI C) kn lt n 0 tm op rj rp cp ro cf' sl' re bm) :
    ∀ n x (D : Int32) nx cf' sl' g', 1 ≤ x → x ≤ C + 1 → C + 2 ≤ n + x → nx ≤ C → (∀ c, c ≤ C → cf' c = nI (g' c)) → hu_l1 (fun c => re c ≠ 0) (fun c => K i c - xt_i rp i - xt_i cp c) a (xt_i sl) g (xt_i sl') g' D.toInt nx x → wX_advance_16 post (nI a) (nI i) mc ps db lk rs (nI C) kn lt n D (nI nx) (nI x) tm op rj rp cp ro cf' sl' re bm := by
  intro n
  induction n with
  | zero => intro x D nx cf' sl' g' x1 hx hn; omega
  | succ n ih =>
    intro x D nx cf' sl' g' x1 hx hn hnx hg L
    by_cases e : x = C + 1
    · subst e
      exact br_t (nI_lt (by omega) (by omega)) (H D nx cf' sl' g' hnx hg L)
    · have ec : (nI x).toNatClampNeg = x := nI_clamp (by omega)
      have ei : (nI i).toNatClampNeg = i := nI_clamp (by omega)
      have hin : vp_in (nI x) 24 := vp_in_nI (by omega) (by omega)
      refine br_f (nI_nlt (by omega) (by omega)) ⟨hin, ?_⟩
      by_cases z : re x = 0
      · refine br_t (by rw [ec]; exact z) (HC _ _ _ _ _ _ _ _ _ _ _ _ _ i x i1 i2 x1 (by omega) (fun y hy => ⟨vp_in_nI (by omega) (by omega), hin, ?_⟩))
        have k := hK x x1 (by omega)
        have b := hv x x1 (by omega)
        have r1 : (y - rp i).toInt = K i x - xt_i rp i := by
          rw [← hy]
          exact Jvm.Kit.i32_sub (x := y) (y := rp i) (by show -2 ^ 31 ≤ y.toInt - xt_i rp i; omega) (by show y.toInt - xt_i rp i < 2 ^ 31; omega)
        have r2 : (y - rp i - cp x).toInt = K i x - xt_i rp i - xt_i cp x := by
          rw [← r1]
          exact Jvm.Kit.i32_sub (x := y - rp i) (y := cp x) (by show -2 ^ 31 ≤ (y - rp i).toInt - xt_i cp x; omega) (by show (y - rp i).toInt - xt_i cp x < 2 ^ 31; omega)
        refine nm_r (e' := y - rp i - cp x) (by rw [ec, ei]) ⟨hin, ?_⟩
        rw [ec]
        have nz : ¬ re x ≠ 0 := fun q => q z
        refine tb_le (fun le => ?_) (fun gt => ?_)
        · rw [r2] at le
          refine And.intro hin ?_
          rw [ec]
          refine tb_le (fun d => nm_r (nI_1 x) ?_) (fun d => ⟨hin, nm_e (nm_r (nI_1 x) ?_)⟩)
          · exact ih (x + 1) D nx cf' sl' g' (by omega) (by omega) (by omega) hnx hg (l1_un L x1 nz (Or.inr ⟨rfl, rfl, le⟩) (fun c hc => ⟨rfl, rfl⟩) (Or.inl ⟨d, rfl, rfl⟩))
          · exact ih (x + 1) (sl' x) x cf' sl' g' (by omega) (by omega) (by omega) (by omega) hg (l1_un L x1 nz (Or.inr ⟨rfl, rfl, le⟩) (fun c hc => ⟨rfl, rfl⟩) (Or.inr ⟨d, rfl, rfl⟩))
        · rw [r2] at gt
          refine ⟨hin, nm_e ⟨hin, nm_r (e' := upd cf' x (nI a)) (by rw [tb_nbb (by omega)]) ?_⟩⟩
          have hg' : ∀ c, c ≤ C → upd cf' x (nI a) c = nI (hu_u g' x a c) := fun c hc => by
            by_cases e : c = x
            · rw [e, pk_us, hu_u_s]
            · rw [pk_un e, hu_u_n e]; exact hg c hc
          have sx : xt_i (upd sl' x (y - rp i - cp x)) x = K i x - xt_i rp i - xt_i cp x := by rw [xt_s]; exact r2
          refine And.intro hin ?_
          rw [ec]
          have LL : ∀ D2 nx2, ((D.toInt ≤ xt_i (upd sl' x (y - rp i - cp x)) x ∧ D2 = D.toInt ∧ nx2 = nx) ∨ (xt_i (upd sl' x (y - rp i - cp x)) x < D.toInt ∧ D2 = xt_i (upd sl' x (y - rp i - cp x)) x ∧ nx2 = x)) → hu_l1 (fun c => re c ≠ 0) (fun c => K i c - xt_i rp i - xt_i cp c) a (xt_i sl) g (xt_i (upd sl' x (y - rp i - cp x))) (hu_u g' x a) D2 nx2 (x + 1) := fun D2 nx2 hd => l1_un L x1 nz (Or.inl ⟨sx, hu_u_s, gt⟩) (fun c hc => ⟨xt_n hc, hu_u_n hc⟩) hd
          refine tb_le (fun d => nm_r (nI_1 x) ?_) (fun d => ⟨hin, nm_e (nm_r (nI_1 x) ?_)⟩)
          · exact ih (x + 1) D nx _ _ _ (by omega) (by omega) (by omega) hnx hg' (LL _ _ (Or.inl ⟨d, rfl, rfl⟩))
          · exact ih (x + 1) _ x _ _ _ (by omega) (by omega) (by omega) (by omega) hg' (LL _ _ (Or.inr ⟨d, rfl, rfl⟩))
      · refine br_f (by rw [ec]; exact z) (nm_r (nI_1 x) ?_)
        exact ih (x + 1) D nx cf' sl' g' (by omega) (by omega) (by omega) hnx hg (l1_re L z)
/-- advance from column a, which is reached now -/
theorem xa_adv {k t a : Nat} {o : Nat → Nat} (HK : hu_K R C K) (hk : k + 1 ≤ R) (HC : xc_ok mc db lk tm op rj R C K) (I : hu_i R C K k t a (xt_i rp) (xt_i cp) (xt_i sl) p g o) (pa : p a ≠ 0) (hro : ∀ c, c ≤ C → ro c = nI (p c)) (hcf : ∀ c, c ≤ C → cf c = nI (g c)) (hre : ∀ c, c ≤ C → (re c ≠ 0 ↔ ∃ i, i < t + 1 ∧ hu_o t a o i = c))
    (H : ∀ nx rp' cp' cf' sl' g', nx ≤ C → (∀ c, c ≤ C → cf' c = nI (g' c)) → hu_i R C K k (t + 1) nx (xt_i rp') (xt_i cp') (xt_i sl') p g' (hu_o t a o) → post (nI nx) (mc, ps, db, lk, rs, nI C, kn, lt, tm, op, rj, rp', cp', ro, cf', sl', re, bm)) : wpX_advance post (mc, ps, db, lk, rs, nI C, kn, lt, tm, op, rj, rp, cp, ro, cf, sl, re, bm) (nI a) := by
  obtain ⟨w1, w2, w3, w4, w5⟩ := hu_pa hk I pa
  have at1 := w1 t (by omega)
  have aC := w2 t (by omega)
  rw [hu_o_t] at at1 aC
  obtain ⟨bu, bv⟩ := hu_bd HK hk I.1
  have HK' := HK
  obtain ⟨h5, h20, hR, hK⟩ := HK'
  refine And.intro (vp_in_nI (by omega) (by omega)) (nm_r (e' := nI (p a)) (by rw [nI_clamp (by omega)]; exact hro a aC) ?_)
  refine ⟨C + 1, xa_16 (g := g) (sl := sl) HC h20 (fun c c1 c2 => hK (p a) c (by omega) (by omega) c1 c2) at1.1 (by omega) hR aC (bu (p a) at1.1 (by omega)) bv (fun D nx cf' sl' g' hnx hg' L1 => ?_) (C + 1) 1 268435456 0 cf sl g (by omega) (by omega) (by omega) (by omega) hcf ?_⟩
  · obtain ⟨n1, n2, n3, n4, D0, D1⟩ := hu_D HK hk I pa hre L1
    have r0 : re 0 ≠ 0 := (hre 0 (by omega)).mpr ⟨0, by omega, w4⟩
    refine ⟨C + 2, xa_121 (p := p) (rp := rp) (cp := cp) (sl := sl') h20 (fun c hc z => ⟨hro c hc, ?_⟩) (fun c c' hc hc' z z' ee => ?_) (fun c hc z => ?_) bv (fun c c1 c2 z => ?_) r0 ⟨D0, D1⟩ (fun rp' cp' sl'' L2 => ?_) (C + 2) 0 rp cp sl' (by omega) (by omega) ?_⟩
    · obtain ⟨i, hi, e⟩ := (hre c hc).mp z
      have := w1 i hi
      rw [e] at this
      omega
    · obtain ⟨i, hi, e⟩ := (hre c hc).mp z
      obtain ⟨i', hi', e'⟩ := (hre c' hc').mp z'
      by_cases y : c = 0
      · by_cases y' : c' = 0
        · omega
        · have q1 := I.1.1 c' (by omega) hc'
          rw [y, I.2.1] at ee
          omega
      · by_cases y' : c' = 0
        · have q1 := I.1.1 c (by omega) hc
          rw [y', I.2.1] at ee
          omega
        · have q := w1 i hi
          rw [e] at q
          exact I.1.2.2.1 c c' (by omega) hc (by omega) hc' ee (by omega)
    · obtain ⟨i, hi, e⟩ := (hre c hc).mp z
      have := w1 i hi
      rw [e] at this
      exact bu (p c) (by omega) (by omega)
    · have q := I.2.2.2.2.2.2.2 c c1 c2 (fun i hi e => ((hre c c2).mpr ⟨i, by omega, by rw [hu_o_l hi]; exact e⟩) z)
      have q2 := bv c c1 c2
      have q3 := I.1.2.2.2.1 (p a) c (by omega) (by omega) c1 c2
      rcases L1.1 c c1 (by omega) (fun y => y z) with ⟨e1, e2, e3⟩ | ⟨e1, e2, e3⟩
      · (try dsimp only at e1 e3)
        omega
      · omega
    · exact H nx rp' cp' cf' sl'' g' hnx hg' (hu_step HK hk I pa hre L1 L2)
    · exact ⟨fun c hc => by omega, fun r _ => rfl, fun c c1 hc => by omega, fun c c1 hc => by omega, fun c c1 hc => ⟨rfl, rfl⟩⟩
  · refine ⟨fun c c1 c2 => by omega, fun c _ => ⟨rfl, rfl⟩, fun c c1 c2 => by omega, Or.inl ⟨rfl, by decide⟩⟩
end
end
section
/-! insert -/
theorem hu_m_c {R C k : Nat} {K : Nat → Nat → Int} {u v : Nat → Int} {p p' : Nat → Nat} (I : hu_m R C K k u v p) (h : ∀ c, 1 ≤ c → c ≤ C → p' c = p c) : hu_m R C K k u v p' := by
  obtain ⟨i1, i2, i3, i4, i5, i6, i7⟩ := I
  refine ⟨fun c c1 c2 => by rw [h c c1 c2]; exact i1 c c1 c2, fun r r1 r2 => ?_, fun c c' c1 c2 c3 c4 e z => ?_, i4, fun c c1 c2 z => ?_, fun c c1 c2 => by rw [h c c1 c2]; exact i6 c c1 c2, i7⟩
  · obtain ⟨c, c1, c2, e⟩ := i2 r r1 r2
    exact ⟨c, c1, c2, by rw [h c c1 c2]; exact e⟩
  · rw [h c c1 c2, h c' c3 c4] at e
    rw [h c c1 c2] at z
    exact i3 c c' c1 c2 c3 c4 e z
  · rw [h c c1 c2] at z ⊢
    exact i5 c c1 c2 z
section
variable {mc ps db lk rs cs kn lt : Int32} {tm op rj rp cp ro cf sl re bm : Nat → Int32} {post : SX → Prop} {R C k : Nat} {K : Nat → Nat → Int} {p g : Nat → Nat}
theorem xi_89 {t : Nat} {u v : Nat → Int} {o : Nat → Nat} (hC : C ≤ 20) (hk : k ≤ 4) (Hc : hu_c C K k t u v p g o) (hcf : ∀ c, c ≤ C → cf c = nI (g c))
    (H : ∀ ro' p', (∀ c, c ≤ C → ro' c = nI (p' c)) → hu_a C K k t u v p o 0 p' → post (mc, ps, db, lk, rs, nI C, kn, lt, tm, op, rj, rp, cp, ro', cf, sl, re, bm)) :
    ∀ n m x ro' p', m < n → x + m ≤ 5 → (∀ c, c ≤ C → ro' c = nI (p' c)) → hu_a C K k t u v p o m p' → wX_insert_89 post mc ps db lk rs (nI C) kn lt n (nI (o m)) (nI x) tm op rj rp cp ro' cf sl re bm := by
  intro n
  induction n with
  | zero => intro m x ro' p' hm; omega
  | succ n ih =>
    intro m x ro' p' hm hx hro A
    refine br_f (nI_nlt (a := 5) (by omega) (by omega)) ?_
    by_cases m0 : m = 0
    · subst m0
      exact br_t (by rw [Hc.1]; exact nI_0) (H ro' p' hro A)
    · have mt := A.1
      have om := Hc.2.1 m (by omega) (by omega)
      obtain ⟨i, hi, e1, iC, e2, e3, e4, A'⟩ := hu_c1 Hc A (by omega)
      have ec : (nI (o m)).toNatClampNeg = o m := nI_clamp (by omega)
      have ei : (nI (o i)).toNatClampNeg = o i := nI_clamp (by omega)
      have hin : vp_in (nI (o m)) 24 := vp_in_nI (by omega) (by omega)
      have ev : vp_nar .byte (ro' (o i)) = nI (p (o i)) := by rw [hro _ iC, e2]; exact tb_nb (by omega)
      refine br_f (nI_ne0 (by omega) (by omega)) ⟨hin, nm_r (e' := nI (o i)) (by rw [ec, hcf _ om.2, e1]) ⟨vp_in_nI (by omega) (by omega), hin, nm_r (e' := upd ro' (o m) (nI (p (o i)))) (by rw [ec, ei, ev]) (nm_r (nI_1 x) ?_)⟩⟩
      refine ih i (x + 1) _ _ (by omega) (by omega) (fun c hc => ?_) A'
      by_cases e : c = o m
      · rw [e, pk_us, hu_u_s]
      · rw [pk_un e, hu_u_n e]; exact hro c hc
theorem xi_50 (HK : hu_K R C K) (hk : k + 1 ≤ R) (HC : xc_ok mc db lk tm op rj R C K) (hro : ∀ c, c ≤ C → ro c = nI (p c))
    (H : ∀ rp' cp' ro' cf' sl' re' p', (∀ c, c ≤ C → ro' c = nI (p' c)) → hu_m R C K (k + 1) (xt_i rp') (xt_i cp') p' → post (mc, ps, db, lk, rs, nI C, kn, lt, tm, op, rj, rp', cp', ro', cf', sl', re', bm)) :
    ∀ n t a rp cp cf sl re g o, 6 ≤ n + t → (∀ c, c ≤ C → cf c = nI (g c)) → (∀ c, c ≤ C → (re c ≠ 0 ↔ ∃ i, i < t ∧ o i = c)) → a ≤ C → hu_i R C K k t a (xt_i rp) (xt_i cp) (xt_i sl) p g o → wX_insert_50 post n (nI a) (nI t) mc ps db lk rs (nI C) kn lt tm op rj rp cp ro cf sl re bm := by
  intro n
  induction n with
  | zero =>
    intro t a rp cp cf sl re g o hn _ _ _ I
    have := hu_t I
    have := HK.2.2.1
    omega
  | succ n ih =>
    intro t a rp cp cf sl re g o hn hcf hre aC I
    have t5 := hu_t I
    have hR := HK.2.2.1
    have h20 := HK.2.1
    have ea : (nI a).toNatClampNeg = a := nI_clamp (by omega)
    have hin : vp_in (nI a) 24 := vp_in_nI (by omega) (by omega)
    refine br_f (nI_nlt (a := 5) (by omega) (by omega)) ?_
    have body : p a ≠ 0 → wX_insert_68 post (wX_insert_50 post n) (nI a) (nI t) mc ps db lk rs (nI C) kn lt tm op rj rp cp ro cf sl re bm := by
      intro pa
      obtain ⟨w1, w2, w3, w4, w5⟩ := hu_pa hk I pa
      refine And.intro hin (nm_r (e' := upd re a 1) (by rw [ea, tb_1]) ?_)
      refine xa_adv HK hk HC I pa hro hcf (fun c hc => ?_) (fun nx rp' cp' cf' sl' g' hnx hcf' I' => nm_r (nI_1 t) ?_)
      · by_cases e : c = a
        · rw [e, pk_us]
          exact ⟨fun _ => ⟨t, by omega, hu_o_t⟩, fun _ => by decide⟩
        · rw [pk_un e, hre c hc]
          constructor
          · rintro ⟨i, hi, q⟩
            exact ⟨i, by omega, by rw [hu_o_l hi]; exact q⟩
          · rintro ⟨i, hi, q⟩
            by_cases y : i = t
            · rw [y, hu_o_t] at q
              exact absurd q.symm e
            · rw [hu_o_l (by omega)] at q
              exact ⟨i, by omega, q⟩
      · refine ih (t + 1) nx rp' cp' cf' sl' (upd re a 1) g' (hu_o t a o) (by omega) hcf' (fun c hc => ?_) hnx I'
        by_cases e : c = a
        · rw [e, pk_us]
          exact ⟨fun _ => ⟨t, by omega, hu_o_t⟩, fun _ => by decide⟩
        · rw [pk_un e, hre c hc]
          constructor
          · rintro ⟨i, hi, q⟩
            exact ⟨i, by omega, by rw [hu_o_l hi]; exact q⟩
          · rintro ⟨i, hi, q⟩
            by_cases y : i = t
            · rw [y, hu_o_t] at q
              exact absurd q.symm e
            · rw [hu_o_l (by omega)] at q
              exact ⟨i, by omega, q⟩
    by_cases t0 : t = 0
    · have pa : p a ≠ 0 := by
        rcases I.2.2.2.1 with ⟨_, a0⟩ | ⟨t1, _⟩
        · rw [a0, I.2.1]; omega
        · omega
      exact br_t (by rw [t0]; exact nI_0) (body pa)
    · refine br_f (nI_ne0 (by omega) (by omega)) ⟨hin, ?_⟩
      by_cases pa : p a = 0
      · obtain ⟨Hc, A⟩ := hu_c0 I (by omega) pa
        refine br_t (by rw [ea, hro a aC, pa]; exact nI_0) ⟨t + 1, ?_⟩
        have K89 := xi_89 (post := post) (rp := rp) (cp := cp) (sl := sl) (re := re) (mc := mc) (ps := ps) (db := db) (lk := lk) (rs := rs) (kn := kn) (lt := lt) (tm := tm) (op := op) (rj := rj) (bm := bm) (by omega) (by omega) Hc hcf (fun ro' p' hro' A' => H rp cp ro' cf sl re p' hro' (hu_c2 I Hc A')) (t + 1) t 0 ro p (by omega) (by omega) hro A
        rw [hu_o_t] at K89
        exact K89
      · have pl := I.1.1
        have p5 : p a ≤ 5 := by
          rcases I.2.2.2.1 with ⟨_, a0⟩ | ⟨t1, a1, a2, _⟩
          · omega
          · have := pl a a1 a2; omega
        exact br_f (by rw [ea, hro a aC]; exact nI_ne0 (by omega) (by omega)) (body pa)
theorem xi_10 (hC : C ≤ 20)
    (H : ∀ cf' sl' re', (∀ c, c ≤ C → cf' c = 0 ∧ sl' c = 268435456 ∧ re' c = 0) → ∃ n, wX_insert_50 post n 0 0 mc ps db lk rs (nI C) kn lt tm op rj rp cp ro cf' sl' re' bm) :
    ∀ n x cf' sl' re', x ≤ C + 1 → C + 2 ≤ n + x → (∀ c, c < x → cf' c = 0 ∧ sl' c = 268435456 ∧ re' c = 0) → wX_insert_10 post mc ps db lk rs (nI C) kn lt n (nI x) tm op rj rp cp ro cf' sl' re' bm := by
  intro n
  induction n with
  | zero => intro x cf' sl' re' hx hn; omega
  | succ n ih =>
    intro x cf' sl' re' hx hn L
    by_cases e : x = C + 1
    · subst e
      exact br_t (nI_lt (by omega) (by omega)) (H cf' sl' re' (fun c hc => L c (by omega)))
    · have ec : (nI x).toNatClampNeg = x := nI_clamp (by omega)
      have hin : vp_in (nI x) 24 := vp_in_nI (by omega) (by omega)
      refine br_f (nI_nlt (by omega) (by omega)) ⟨hin, nm_r (e' := upd sl' x 268435456) (by rw [ec]) ⟨hin, nm_r (e' := upd re' x 0) (by rw [ec, tb_0]) ⟨hin, nm_r (e' := upd cf' x 0) (by rw [ec, tb_b0]) (nm_r (nI_1 x) ?_)⟩⟩⟩
      refine ih (x + 1) _ _ _ (by omega) (by omega) (fun c hc => ?_)
      by_cases y : c = x
      · rw [y, pk_us, pk_us, pk_us]; exact ⟨rfl, rfl, rfl⟩
      · rw [pk_un y, pk_un y, pk_un y]; exact L c (by omega)
/-- insert brings in row k + 1 -/
theorem xi_ins (HK : hu_K R C K) (hk : k + 1 ≤ R) (HC : xc_ok mc db lk tm op rj R C K) (hro : ∀ c, 1 ≤ c → c ≤ C → ro c = nI (p c)) (I : hu_m R C K k (xt_i rp) (xt_i cp) p)
    (H : ∀ rp' cp' ro' cf' sl' re' p', (∀ c, c ≤ C → ro' c = nI (p' c)) → hu_m R C K (k + 1) (xt_i rp') (xt_i cp') p' → post (mc, ps, db, lk, rs, nI C, kn, lt, tm, op, rj, rp', cp', ro', cf', sl', re', bm)) : wpX_insert post (mc, ps, db, lk, rs, nI C, kn, lt, tm, op, rj, rp, cp, ro, cf, sl, re, bm) (nI (k + 1)) := by
  have h20 := HK.2.1
  have hR := HK.2.2.1
  refine nm_r (e' := upd ro 0 (nI (k + 1))) (by rw [tb_nbb (by omega)]) ?_
  refine ⟨C + 2, xi_10 h20 (fun cf' sl' re' L => ?_) (C + 2) 0 cf sl re (by omega) (by omega) (fun c hc => by omega)⟩
  have hro' : ∀ c, c ≤ C → upd ro 0 (nI (k + 1)) c = nI (hu_u p 0 (k + 1) c) := fun c hc => by
    by_cases e : c = 0
    · rw [e, pk_us, hu_u_s]
    · rw [pk_un e, hu_u_n e]; exact hro c (by omega) hc
  refine ⟨6, xi_50 (p := hu_u p 0 (k + 1)) HK hk HC hro' H 6 0 0 rp cp cf' sl' re' (fun _ => 0) (fun _ => 0) (by omega) (fun c hc => (L c hc).1) (fun c hc => ?_) (by omega) ?_⟩
  · rw [(L c hc).2.2]
    exact ⟨fun z => absurd rfl z, fun ⟨i, hi, _⟩ => by omega⟩
  · refine ⟨hu_m_c I (fun c c1 _ => hu_u_n (by omega)), hu_u_s, rfl, Or.inl ⟨rfl, rfl⟩, fun i _ hi => by omega, fun i j hi => by omega, fun i _ hi => by omega, fun c c1 c2 _ => ?_⟩
    have e : xt_i sl' c = 268435456 := by
      show (sl' c).toInt = _
      rw [(L c c2).2.1]; decide
    exact ⟨by omega, by omega, fun _ => e, fun z => by omega, fun i hi => by omega⟩
end
end
section
/-! match and totalOf -/
section
variable {mc ps db lk rs cs kn lt : Int32} {tm op rj rp cp ro cf sl re bm : Nat → Int32} {post : Int32 → SX → Prop} {R C : Nat} {K : Nat → Nat → Int} {p : Nat → Nat}
theorem xm_151 (HK : hu_K R C K) (HC : xc_ok mc db lk tm op rj R C K) (hro : ∀ c, 1 ≤ c → c ≤ C → ro c = nI (p c) ∧ p c ≤ R) (H : ∀ V : Int32, V.toInt = sm_s (fun c => if p (c + 1) = 0 then 0 else K (p (c + 1)) (c + 1)) C → post V (mc, ps, db, lk, rs, nI C, kn, lt, tm, op, rj, rp, cp, ro, cf, sl, re, bm)) :
    ∀ n y (V : Int32), y ≤ C → C + 1 ≤ n + y → V.toInt = sm_s (fun c => if p (c + 1) = 0 then 0 else K (p (c + 1)) (c + 1)) y → wX_match_151 post mc ps db lk rs (nI C) kn lt tm op rj rp cp ro cf sl re bm n V (nI (y + 1)) := by
  intro n
  obtain ⟨h5, h20, hR, hK⟩ := HK
  induction n with
  | zero => intro y V hy hn; omega
  | succ n ih =>
    intro y V hy hn hV
    by_cases e : y = C
    · subst e
      exact br_t (nI_lt (by omega) (by omega)) (H V hV)
    · have ec : (nI (y + 1)).toNatClampNeg = y + 1 := nI_clamp (by omega)
      have hin : vp_in (nI (y + 1)) 24 := vp_in_nI (by omega) (by omega)
      obtain ⟨er, pR⟩ := hro (y + 1) (by omega) (by omega)
      refine br_f (nI_nlt (by omega) (by omega)) ⟨hin, ?_⟩
      have st : sm_s (fun c => if p (c + 1) = 0 then 0 else K (p (c + 1)) (c + 1)) (y + 1) = sm_s (fun c => if p (c + 1) = 0 then 0 else K (p (c + 1)) (c + 1)) y + (if p (y + 1) = 0 then 0 else K (p (y + 1)) (y + 1)) := rfl
      by_cases z : p (y + 1) = 0
      · refine br_t (by rw [ec, er, z]; decide) (nm_r (nI_1 (y + 1)) ?_)
        refine ih (y + 1) V (by omega) (by omega) ?_
        rw [st, if_pos z, hV]; omega
      · refine br_f (by rw [ec, er]; exact nI_nle (by omega) (by omega)) ⟨hin, ?_⟩
        rw [ec, er]
        refine HC _ _ _ _ _ _ _ _ _ _ _ _ _ (p (y + 1)) (y + 1) (by omega) pR (by omega) (by omega) (fun w hw => nm_e (nm_r (nI_1 (y + 1)) ?_))
        refine ih (y + 1) (V + w) (by omega) (by omega) ?_
        have k := hK (p (y + 1)) (y + 1) (by omega) pR (by omega) (by omega)
        have b1 := sm_pos (f := fun c => if p (c + 1) = 0 then 0 else K (p (c + 1)) (c + 1)) (n := y) (fun c hc => by
          have r := hro (c + 1) (by omega) (by omega)
          (try dsimp only)
          by_cases q : p (c + 1) = 0
          · rw [if_pos q]; omega
          · rw [if_neg q]; exact (hK _ _ (by omega) r.2 (by omega) (by omega)).1)
        have b2 := sm_le (f := fun c => if p (c + 1) = 0 then 0 else K (p (c + 1)) (c + 1)) (g := fun _ => 100000 * 1) (n := y) (fun c hc => by
          have r := hro (c + 1) (by omega) (by omega)
          (try dsimp only)
          by_cases q : p (c + 1) = 0
          · rw [if_pos q]; omega
          · rw [if_neg q]; exact (hK _ _ (by omega) r.2 (by omega) (by omega)).2)
        rw [sm_mul] at b2
        have b3 : sm_s (fun _ => (1 : Int)) y = y := by
          clear b1 b2 k hw st z er pR hin ec hV ih H hro hy hn e
          induction y with
          | zero => rfl
          | succ y ih => show sm_s (fun _ => (1 : Int)) y + 1 = _; rw [ih]; omega
        rw [b3] at b2
        rw [st, if_neg z, Jvm.Kit.i32_add (by omega) (by omega), hV, hw]
theorem xm_128 (HK : hu_K R C K) (HC : xc_ok mc db lk tm op rj R C K)
    (H : ∀ (V : Int32) rp' cp' ro' cf' sl' re' p', hu_m R C K R (xt_i rp') (xt_i cp') p' → V.toInt = sm_s (fun c => if p' (c + 1) = 0 then 0 else K (p' (c + 1)) (c + 1)) C → post V (mc, ps, db, lk, nI R, nI C, kn, lt, tm, op, rj, rp', cp', ro', cf', sl', re', bm)) :
    ∀ n k rp cp ro cf sl re p, k ≤ R → R + 1 ≤ n + k → (∀ c, 1 ≤ c → c ≤ C → ro c = nI (p c)) → hu_m R C K k (xt_i rp) (xt_i cp) p → wX_match_128 post n (nI (k + 1)) mc ps db lk (nI R) (nI C) kn lt tm op rj rp cp ro cf sl re bm := by
  intro n
  have hR := HK.2.2.1
  induction n with
  | zero => intro k rp cp ro cf sl re p hk hn; omega
  | succ n ih =>
    intro k rp cp ro cf sl re p hk hn hro I
    by_cases e : k = R
    · subst e
      refine br_t (nI_lt (by omega) (by omega)) ⟨C + 1, ?_⟩
      exact xm_151 (p := p) HK HC (fun c c1 c2 => ⟨hro c c1 c2, I.1 c c1 c2⟩) (fun V hV => H V rp cp ro cf sl re p I hV) (C + 1) 0 0 (by omega) (by omega) (show (0 : Int32).toInt = 0 by decide)
    · refine br_f (nI_nlt (by omega) (by omega)) ?_
      exact xi_ins HK (by omega) HC hro I (fun rp' cp' ro' cf' sl' re' p' hro' I' => nm_r (nI_1 (k + 1)) (ih (k + 1) rp' cp' ro' cf' sl' re' p' (by omega) (by omega) (fun c c1 c2 => hro' c c2) I'))
theorem xm_98 (hC : C ≤ 20) (H : ∀ cp' ro', (∀ c, c ≤ C → cp' c = 0 ∧ ro' c = 0) → ∃ n, wX_match_128 post n 1 mc ps db lk rs (nI C) kn lt tm op rj rp cp' ro' cf sl re bm) :
    ∀ n x cp' ro', x ≤ C + 1 → C + 2 ≤ n + x → (∀ c, c < x → cp' c = 0 ∧ ro' c = 0) → wX_match_98 post mc ps db lk rs (nI C) kn lt n (nI x) tm op rj rp cp' ro' cf sl re bm := by
  intro n
  induction n with
  | zero => intro x cp' ro' hx hn; omega
  | succ n ih =>
    intro x cp' ro' hx hn L
    by_cases e : x = C + 1
    · subst e
      exact br_t (nI_lt (by omega) (by omega)) (H cp' ro' (fun c hc => L c (by omega)))
    · have ec : (nI x).toNatClampNeg = x := nI_clamp (by omega)
      have hin : vp_in (nI x) 24 := vp_in_nI (by omega) (by omega)
      refine br_f (nI_nlt (by omega) (by omega)) ⟨hin, nm_r (e' := upd cp' x 0) (by rw [ec]) ⟨hin, nm_r (e' := upd ro' x 0) (by rw [ec, tb_b0]) (nm_r (nI_1 x) ?_)⟩⟩
      refine ih (x + 1) _ _ (by omega) (by omega) (fun c hc => ?_)
      by_cases y : c = x
      · rw [y, pk_us, pk_us]; exact ⟨rfl, rfl⟩
      · rw [pk_un y, pk_un y]; exact L c (by omega)
theorem xm_75 (hR : R ≤ 5) (H : ∀ rp', (∀ c, c ≤ R → rp' c = 0) → ∃ n, wX_match_98 post mc ps db lk (nI R) cs kn lt n 0 tm op rj rp' cp ro cf sl re bm) :
    ∀ n x rp', x ≤ R + 1 → R + 2 ≤ n + x → (∀ c, c < x → rp' c = 0) → wX_match_75 post mc ps db lk (nI R) cs kn lt n (nI x) tm op rj rp' cp ro cf sl re bm := by
  intro n
  induction n with
  | zero => intro x rp' hx hn; omega
  | succ n ih =>
    intro x rp' hx hn L
    by_cases e : x = R + 1
    · subst e
      exact br_t (nI_lt (by omega) (by omega)) (H rp' (fun c hc => L c (by omega)))
    · have ec : (nI x).toNatClampNeg = x := nI_clamp (by omega)
      have hin : vp_in (nI x) 6 := vp_in_nI (by omega) (by omega)
      refine br_f (nI_nlt (by omega) (by omega)) ⟨hin, nm_r (e' := upd rp' x 0) (by rw [ec]) (nm_r (nI_1 x) ?_)⟩
      refine ih (x + 1) _ (by omega) (by omega) (fun c hc => ?_)
      by_cases y : c = x
      · rw [y, pk_us]
      · rw [pk_un y]; exact L c (by omega)
/-- rows 1 .. q are the jobs of S below j -/
def xm_j (S j q : Nat) (rj : Nat → Int32) (jb : Nat → Nat) : Prop :=
  (∀ r, 1 ≤ r → r ≤ q → rj r = nI (jb r) ∧ jb r < j ∧ S.testBit (jb r) = true) ∧ (∀ r r', 1 ≤ r → r ≤ q → 1 ≤ r' → r' ≤ q → jb r = jb r' → r = r') ∧ (∀ i, i < j → S.testBit i = true → ∃ r, 1 ≤ r ∧ r ≤ q ∧ jb r = i)
theorem xm_33 {S : Nat} (hS : S < 32) (H : ∀ R rj' jb, R ≤ 5 → xm_j S 5 R rj' jb → ∃ n, wX_match_75 post mc ps db lk (nI R) cs kn lt n 0 tm op rj' rp cp ro cf sl re bm) :
    ∀ n j q rj' jb, j ≤ 5 → 6 ≤ n + j → q ≤ j → xm_j S j q rj' jb → wX_match_33 post (nI S) mc ps db lk cs kn lt n (nI j) (nI q) tm op rj' rp cp ro cf sl re bm := by
  intro n
  induction n with
  | zero => intro j q rj' jb hj hn; omega
  | succ n ih =>
    intro j q rj' jb hj hn hq L
    by_cases e : j = 5
    · subst e
      exact br_t (nI_le (a := 5) (by omega) (by omega)) (H q rj' jb hq L)
    · refine br_f (nI_ge (b := 5) (by omega) (by omega)) ?_
      obtain ⟨l1, l2, l3⟩ := L
      have tb := tb_bit S hS j (by omega)
      cases z : S.testBit j with
      | false =>
        refine br_t (tb.mpr z) (nm_r (nI_1 j) (ih (j + 1) q rj' jb (by omega) (by omega) (by omega) ⟨fun r r1 r2 => ?_, l2, fun i hi si => ?_⟩))
        · have := l1 r r1 r2
          exact ⟨this.1, by omega, this.2.2⟩
        · by_cases y : i = j
          · rw [y, z] at si; exact absurd si (by decide)
          · exact l3 i (by omega) si
      | true =>
        have ec : (nI (q + 1)).toNatClampNeg = q + 1 := nI_clamp (by omega)
        refine br_f (fun y => by rw [tb, z] at y; exact absurd y (by decide)) (nm_r (nI_1 q) ⟨vp_in_nI (by omega) (by omega), nm_r (e' := upd rj' (q + 1) (nI j)) (by rw [ec, tb_nbb (by omega)]) (nm_r (nI_1 j) ?_)⟩)
        refine ih (j + 1) (q + 1) _ (hu_u jb (q + 1) j) (by omega) (by omega) (by omega) ⟨fun r r1 r2 => ?_, fun r r' r1 r2 r3 r4 ee => ?_, fun i hi si => ?_⟩
        · by_cases y : r = q + 1
          · rw [y, pk_us, hu_u_s]; exact ⟨rfl, by omega, z⟩
          · have := l1 r r1 (by omega)
            rw [pk_un y, hu_u_n y]; exact ⟨this.1, by omega, this.2.2⟩
        · by_cases y : r = q + 1
          · by_cases x : r' = q + 1
            · omega
            · have := l1 r' r3 (by omega)
              rw [y, hu_u_s, hu_u_n x] at ee
              omega
          · by_cases x : r' = q + 1
            · have := l1 r r1 (by omega)
              rw [x, hu_u_s, hu_u_n y] at ee
              omega
            · rw [hu_u_n x, hu_u_n y] at ee
              exact l2 r r' r1 (by omega) r3 (by omega) ee
        · by_cases y : i = j
          · exact ⟨q + 1, by omega, by omega, by rw [hu_u_s, y]⟩
          · obtain ⟨r, r1, r2, e⟩ := l3 i (by omega) si
            exact ⟨r, r1, by omega, by rw [hu_u_n (by omega)]; exact e⟩
/-- match answers the least sum -/
theorem xm_match {M S l : Nat} {al : Nat → Nat → Bool} {T : Nat → Nat → Int} (hS : S < 32) (Q : xq_i M C db lk tm op al T l)
    (H : ∀ (V : Int32) rs' cs' rj' rp' cp' ro' cf' sl' re', fd_mv M C al T l S V.toInt → post V (nI M, ps, db, lk, rs', cs', kn, lt, tm, op, rj', rp', cp', ro', cf', sl', re', bm)) : wpX_match post (nI M, ps, db, lk, rs, cs, kn, lt, tm, op, rj, rp, cp, ro, cf, sl, re, bm) (nI S) := by
  have M1 := Q.1.1
  have M3 := Q.1.2.1
  have hC : 5 ≤ C ∧ C ≤ 20 := by
    rcases Q.1.2.2.1 with h | h
    · omega
    · omega
  have main : ∃ n, wX_match_33 post (nI S) (nI M) ps db lk (nI C) kn lt n 0 0 tm op rj rp cp ro cf sl re bm := by
    refine ⟨6, xm_33 hS (fun R rj' jb hR J => ?_) 6 0 0 rj (fun _ => 0) (by omega) (by omega) (by omega) ⟨fun r r1 r2 => by omega, fun r r' r1 r2 => by omega, fun i hi => by omega⟩⟩
    have HC : xc_ok (nI M) db lk tm op rj' R C (fun r c => fd_cost M al T l (jb r) c) := xc_mk Q hR (fun r r1 r2 => ⟨(J.1 r r1 r2).1, (J.1 r r1 r2).2.1⟩)
    have HK : hu_K R C (fun r c => fd_cost M al T l (jb r) c) := ⟨hC.1, hC.2, hR, fun r c r1 r2 c1 c2 => fd_cost_b Q.1 l (J.1 r r1 r2).2.1 c⟩
    refine ⟨R + 2, xm_75 hR (fun rp' hrp => ?_) (R + 2) 0 rp (by omega) (by omega) (fun c hc => by omega)⟩
    refine ⟨C + 2, xm_98 hC.2 (fun cp' ro' hcr => ?_) (C + 2) 0 cp ro (by omega) (by omega) (fun c hc => by omega)⟩
    have z0 : (0 : Int32).toInt = 0 := by decide
    refine ⟨R + 1, xm_128 HK HC (fun V rp2 cp2 ro2 cf2 sl2 re2 p2 I2 hV => ?_) (R + 1) 0 rp' cp' ro' cf sl re (fun _ => 0) (by omega) (by omega) (fun c c1 c2 => (hcr c c2).2) ⟨fun c _ _ => Nat.le_refl _, fun r r1 r2 => by omega, fun c c' _ _ _ _ _ z => absurd rfl z, fun r c r1 r2 c1 c2 => ?_, fun c _ _ z => absurd rfl z, fun c c1 c2 => ?_, fun r r1 r2 => ?_⟩⟩
    · refine H V _ _ rj' rp2 cp2 ro2 cf2 sl2 re2 ?_
      rw [hV]
      exact hu_jobs (fun r r1 r2 => ⟨(J.1 r r1 r2).2.1, (J.1 r r1 r2).2.2⟩) J.2.1 J.2.2 I2
    · have k := (HK.2.2.2 r c r1 r2 c1 c2).1
      show (rp' r).toInt + (cp' c).toInt ≤ _
      rw [hrp r r2, (hcr c c2).1, z0]
      exact k
    · show (cp' c).toInt ≤ 0 ∧ (_ → (cp' c).toInt = 0)
      rw [(hcr c c2).1, z0]
      exact ⟨Int.le_refl _, fun _ => rfl⟩
    · show 0 ≤ (rp' r).toInt
      rw [hrp r r2, z0]
      exact Int.le_refl _
  rcases Q.2.2 with ⟨e, eC⟩ | ⟨d, hd, e, eC, _⟩
  · subst e
    refine br_t (by decide) (nm_r (e' := nI C) ?_ main)
    rw [eC]
    exact (pk_mul M 5).trans (congrArg nI (Nat.mul_comm _ _))
  · subst e
    refine br_f (nI_pos (by omega)) (nm_r (e' := nI C) ?_ main)
    rw [eC, nI_1]
    exact (pk_mul (M + 1) 5).trans (congrArg nI (Nat.mul_comm _ _))
theorem xm_shr {V : Int32} (h0 : 0 ≤ V.toInt) (h1 : V.toInt ≤ 3000000) : ((V + 7) >>> ((3 : Int32) &&& 31)).toInt = (V.toInt + 7) / 8 := by
  have e7 : (7 : Int32).toInt = 7 := by decide
  rw [pk_shr _ _ 3 (by decide), Jvm.Kit.i32_add (by omega) (by omega), e7, Int.shiftRight_eq_div_pow]
  rfl
/-- totalOf answers the least total -/
theorem xm_total {M S l : Nat} {al : Nat → Nat → Bool} {T : Nat → Nat → Int} (hS : S < 32) (hl : 4 ≤ l) (Q : xq_i M C db lk tm op al T l)
    (H : ∀ (r : Int32) rs' cs' rj' rp' cp' ro' cf' sl' re', fd_lst S T al r.toInt → post r (nI M, ps, db, lk, rs', cs', kn, lt, tm, op, rj', rp', cp', ro', cf', sl', re', bm)) : wpX_totalOf post (nI M, ps, db, lk, rs, cs, kn, lt, tm, op, rj, rp, cp, ro, cf, sl, re, bm) (nI S) := by
  refine xm_match (rs := rs) (cs := cs) hS Q (fun V rs' cs' rj' rp' cp' ro' cf' sl' re' hV => ?_)
  have e5 : (100000 : Int32).toInt = 100000 := by decide
  have e1 : (-1 : Int32).toInt = -1 := by decide
  refine tb_lt (fun lt1 => H _ _ _ _ _ _ _ _ _ _ ?_) (fun ge => H _ _ _ _ _ _ _ _ _ _ ?_)
  · rw [e5] at lt1
    rcases fd_main0 Q.1 hl hV with ⟨_, b, c⟩ | ⟨b, _⟩
    · rw [xm_shr b (by omega)]; exact c
    · omega
  · rw [e5] at ge
    rcases fd_main0 Q.1 hl hV with ⟨b, _⟩ | ⟨_, c⟩
    · omega
    · rw [e1]; exact c
end
end
section
/-! the reference: ways, ends, sums -/
/-- the question at hand, as the reference's state holds it -/
def yq_i (S : Nat) (aw mu mb : Int32) (th ti : Nat → Int32) (al : Nat → Nat → Bool) (T : Nat → Nat → Int) : Prop :=
  (∀ j, j < 5 → th j = if S.testBit j = true then 1 else 0) ∧
  (∀ j m, j < 5 → m < 4 → (ti (4 * j + m)).toInt = T j m ∧ 0 ≤ T j m ∧ T j m ≤ 15 ∧ (al j m = true ↔ 0 < T j m ∧ ((aw >>> (nI m &&& 31)) &&& 1) = 1 ∧ (nI j = mu → nI m = mb)))
/-- the first j jobs of a way are as asked for -/
def fd_okj (S : Nat) (al : Nat → Nat → Bool) (w : Nat → Nat) (j : Nat) : Prop := ∀ i, i < j → w i < 4 ∧ (S.testBit i = true → al i (w i) = true) ∧ (S.testBit i = false → w i = 0)
theorem fd_okj_s {S : Nat} {al : Nat → Nat → Bool} {w : Nat → Nat} {j : Nat} (hw : w j < 4) : fd_okj S al w (j + 1) ↔ fd_okj S al w j ∧ (S.testBit j = true → al j (w j) = true) ∧ (S.testBit j = false → w j = 0) := by
  constructor
  · exact fun h => ⟨fun i hi => h i (by omega), (h j (by omega)).2⟩
  · rintro ⟨h1, h2⟩ i hi
    by_cases e : i = j
    · rw [e]; exact ⟨hw, h2⟩
    · exact h1 i (by omega)
section
variable {cw aw mu mb : Int32} {th ti on : Nat → Int32} {S : Nat} {al : Nat → Nat → Bool} {T : Nat → Nat → Int}
theorem yw_86 {post : Int32 → SY → Prop} {J : Int32 → Int32 → (Nat → Int32) → (Nat → Int32) → (Nat → Int32) → Prop} {x1 b z0 : Int32} {w : Nat → Nat} {j : Nat} (hj : j < 5) (hw : w j < 4) (ht : th j = if S.testBit j = true then 1 else 0) (ho : on j = nI (w j)) (hb : (b = 1 ∧ fd_okj S al w j) ∨ (b = 0 ∧ ¬ fd_okj S al w j)) (hz : (z0 = 1 ∧ al j (w j) = true) ∨ (z0 = 0 ∧ ¬ al j (w j) = true))
    (H : ∀ b' : Int32, ((b' = 1 ∧ fd_okj S al w (j + 1)) ∨ (b' = 0 ∧ ¬ fd_okj S al w (j + 1))) → J b' (nI (j + 1)) th ti on) : wY_way_86 post J x1 b (nI j) z0 cw aw mu mb th ti on := by
  have ec : (nI j).toNatClampNeg = j := nI_clamp (by omega)
  have hin : vp_in (nI j) 5 := vp_in_nI (by omega) (by omega)
  rcases hb with ⟨rfl, h⟩ | ⟨rfl, h⟩
  · refine br_f (by decide) ⟨hin, ?_⟩
    rw [ec, ht, ho]
    cases s : S.testBit j with
    | false =>
      refine br_t (if_neg (by decide)) ⟨hin, ?_⟩
      by_cases z : w j = 0
      · refine br_t (by rw [z]; exact nI_0) (nm_r (nI_1 j) (H 1 (Or.inl ⟨rfl, (fd_okj_s hw).mpr ⟨h, fun q => ?_, fun _ => z⟩⟩)))
        rw [s] at q; exact absurd q (by decide)
      · exact br_f (nI_ne0 (by omega) (by omega)) (nm_r (nI_1 j) (H 0 (Or.inr ⟨rfl, fun q => z (((fd_okj_s hw).mp q).2.2 s)⟩)))
    | true =>
      refine br_f (by rw [if_pos rfl]; decide) ?_
      rcases hz with ⟨rfl, a⟩ | ⟨rfl, a⟩
      · refine br_f (by decide) (nm_r (nI_1 j) (H 1 (Or.inl ⟨rfl, (fd_okj_s hw).mpr ⟨h, fun _ => a, fun q => ?_⟩⟩)))
        rw [s] at q; exact absurd q (by decide)
      · exact br_t rfl (nm_r (nI_1 j) (H 0 (Or.inr ⟨rfl, fun q => a (((fd_okj_s hw).mp q).2.1 s)⟩)))
  · exact br_t rfl (nm_r (nI_1 j) (H 0 (Or.inr ⟨rfl, fun q => h ((fd_okj_s hw).mp q).1⟩)))
theorem yw_4 {post : Int32 → SY → Prop} {c : Nat} (hc : c < 1024) (Q : yq_i S aw mu mb th ti al T)
    (H : ∀ (b : Int32) on', ((b = 1 ∧ fd_ok S al (fd_on c)) ∨ (b = 0 ∧ ¬ fd_ok S al (fd_on c))) → (∀ j, j < 5 → on' j = nI (fd_on c j)) → post b (cw, aw, mu, mb, th, ti, on')) :
    ∀ n j (b : Int32) on', j ≤ 5 → 6 ≤ n + j → (∀ i, i < j → on' i = nI (fd_on c i)) → ((b = 1 ∧ fd_okj S al (fd_on c) j) ∨ (b = 0 ∧ ¬ fd_okj S al (fd_on c) j)) → wY_way_4 post (nI c) cw aw mu mb n b (nI j) th ti on' := by
  intro n
  induction n with
  | zero => intro j b on' hj hn; omega
  | succ n ih =>
    intro j b on' hj hn ho hb
    by_cases e : j = 5
    · subst e
      refine br_t (nI_le (a := 5) (by omega) (by omega)) ⟨?_, H b on' hb ho⟩
      rcases hb with ⟨rfl, _⟩ | ⟨rfl, _⟩
      · exact narrow_b1
      · exact narrow_b0
    · have j5 : j < 5 := by omega
      have ec : (nI j).toNatClampNeg = j := nI_clamp (by omega)
      have hin : vp_in (nI j) 5 := vp_in_nI (by omega) (by omega)
      have w4 := tb_on4 c j
      obtain ⟨q1, q2, q3, q4⟩ := Q.2 j (fd_on c j) j5 w4
      refine br_f (nI_ge (b := 5) (by omega) (by omega)) ⟨hin, nm_r (e' := upd on' j (nI (fd_on c j))) (by rw [ec, tb_on hc j5]) ?_⟩
      have eo : upd on' j (nI (fd_on c j)) (nI j).toNatClampNeg = nI (fd_on c j) := by rw [ec, pk_us]
      have ho' : ∀ i, i < j + 1 → upd on' j (nI (fd_on c j)) i = nI (fd_on c i) := fun i hi => by
        by_cases e : i = j
        · rw [e, pk_us]
        · rw [pk_un e]; exact ho i (by omega)
      have go : ∀ z0 : Int32, ((z0 = 1 ∧ al j (fd_on c j) = true) ∨ (z0 = 0 ∧ ¬ al j (fd_on c j) = true)) → wY_way_86 post (wY_way_4 post (nI c) cw aw mu mb n) (nI c) b (nI j) z0 cw aw mu mb th ti (upd on' j (nI (fd_on c j))) := fun z0 hz => yw_86 j5 w4 (Q.1 j j5) pk_us hb hz (fun b' hb' => ih (j + 1) b' _ (by omega) (by omega) ho' hb')
      rw [eo, tb_4]
      refine ⟨hin, vp_in_nI (by omega) (by omega), ?_⟩
      rw [nI_clamp (show 4 * j + fd_on c j < 2 ^ 31 by omega)]
      have z0 : (0 : Int32).toInt = 0 := by decide
      refine tb_le (fun h => ?_) (fun h => ⟨hin, ?_⟩)
      · rw [q1, z0] at h
        exact go 0 (Or.inr ⟨rfl, fun a => by have := (q4.mp a).1; omega⟩)
      · rw [q1, z0] at h
        refine br_c (fun h1 => br_c (fun h2 => ⟨hin, br_c (fun h3 => ?_) (fun h3 => ?_)⟩) (fun h2 => ?_)) (fun h1 => ?_)
        · exact go 1 (Or.inl ⟨rfl, q4.mpr ⟨h, h1, fun _ => h3⟩⟩)
        · exact go 0 (Or.inr ⟨rfl, fun a => h3 ((q4.mp a).2.2 h2)⟩)
        · exact go 1 (Or.inl ⟨rfl, q4.mpr ⟨h, h1, fun q => absurd q h2⟩⟩)
        · exact go 0 (Or.inr ⟨rfl, fun a => h1 (q4.mp a).2.1⟩)
/-- way writes way number c and says whether it is asked for -/
theorem yw_way {post : Int32 → SY → Prop} {c : Nat} (hc : c < 1024) (Q : yq_i S aw mu mb th ti al T)
    (H : ∀ (b : Int32) on', ((b = 1 ∧ fd_ok S al (fd_on c)) ∨ (b = 0 ∧ ¬ fd_ok S al (fd_on c))) → (∀ j, j < 5 → on' j = nI (fd_on c j)) → post b (cw, aw, mu, mb, th, ti, on')) : wpY_way post (cw, aw, mu, mb, th, ti, on) (nI c) :=
  ⟨6, yw_4 hc Q H 6 0 1 on (by omega) (by omega) (fun i hi => by omega) (Or.inl ⟨rfl, fun i hi => by omega⟩)⟩
/-- what finish and sum read -/
def yf_i (S : Nat) (th ti on : Nat → Int32) (T : Nat → Nat → Int) (w : Nat → Nat) : Prop := ∀ j, j < 5 → w j < 4 ∧ on j = nI (w j) ∧ (th j = if S.testBit j = true then 1 else 0) ∧ (ti (4 * j + w j)).toInt = T j (w j) ∧ 0 ≤ T j (w j) ∧ T j (w j) ≤ 15
theorem yf_mk {c : Nat} (Q : yq_i S aw mu mb th ti al T) (ho : ∀ j, j < 5 → on j = nI (fd_on c j)) : yf_i S th ti on T (fd_on c) := fun j hj =>
  ⟨tb_on4 c j, ho j hj, Q.1 j hj, (Q.2 j _ hj (tb_on4 c j)).1, (Q.2 j _ hj (tb_on4 c j)).2.1, (Q.2 j _ hj (tb_on4 c j)).2.2.1⟩
theorem yf_69 {post : Int32 → Prop} {J : Int32 → Int32 → Prop} {x2 V x5 z0 : Int32} {w : Nat → Nat} {i j : Nat} (F : yf_i S th ti on T w) (hi : i < 5) (hj : j < 5) (hx : x5.toInt = T i (w i)) (hV : 0 ≤ V.toInt ∧ V.toInt ≤ 1000) (hz : (z0 = 1 ∧ (T i (w i) < T j (w j) ∨ (T i (w i) = T j (w j) ∧ i < j))) ∨ (z0 = 0 ∧ ¬ (T i (w i) < T j (w j) ∨ (T i (w i) = T j (w j) ∧ i < j))))
    (H : ∀ V' : Int32, V'.toInt = V.toInt + (if fd_bf S T w i j = true then T i (w i) else 0) → J V' (nI (i + 1))) : wY_finish_69 post J (nI j) x2 V (nI i) x5 z0 cw aw mu mb th ti on := by
  have ei : (nI i).toNatClampNeg = i := nI_clamp (by omega)
  have ej : (nI j).toNatClampNeg = j := nI_clamp (by omega)
  obtain ⟨wi, oi, ti', tt, t0, t15⟩ := F i hi
  obtain ⟨wj, oj, _⟩ := F j hj
  have no : ¬ fd_bf S T w i j = true → J V (nI (i + 1)) := fun n => H V (by rw [if_neg n]; omega)
  refine And.intro (vp_in_nI hi (by omega)) ?_
  rw [ei, ti']
  by_cases s : S.testBit i = true
  · rw [if_pos s]
    refine br_f (by decide) ?_
    by_cases e : i = j
    · exact br_t (by rw [e]) (nm_r (Int32.add_zero V) (nm_r (nI_1 i) (no (fun q => (fd_bf_iff.mp q).2.1 e))))
    · refine br_f (fun q => e ((nI_eq (by omega) (by omega)).mp q)) ⟨vp_in_nI hi (by omega), vp_in_nI hj (by omega), ?_⟩
      rw [oi, ej, oj]
      by_cases ww : w i = w j
      · refine br_t (by rw [ww]) ?_
        rcases hz with ⟨rfl, o⟩ | ⟨rfl, o⟩
        · refine br_f (by decide) (nm_e (nm_r (nI_1 i) (H _ ?_)))
          rw [if_pos (fd_bf_iff.mpr ⟨s, e, ww, o⟩), ← hx]
          exact Jvm.Kit.i32_add (by omega) (by omega)
        · exact br_t rfl (nm_r (Int32.add_zero V) (nm_r (nI_1 i) (no (fun q => o (fd_bf_iff.mp q).2.2.2))))
      · exact br_f (fun q => ww ((nI_eq (by omega) (by omega)).mp q)) (nm_r (Int32.add_zero V) (nm_r (nI_1 i) (no (fun q => ww (fd_bf_iff.mp q).2.2.1))))
  · rw [if_neg s]
    exact br_t rfl (nm_r (Int32.add_zero V) (nm_r (nI_1 i) (no (fun q => s (fd_bf_iff.mp q).1))))
theorem yf_21 {post : Int32 → Prop} {w : Nat → Nat} {j : Nat} (F : yf_i S th ti on T w) (hj : j < 5) (H : ∀ r : Int32, r.toInt = fd_fin S T w j → 0 ≤ r.toInt ∧ r.toInt ≤ 90 → post r) :
    ∀ n i (V : Int32), i ≤ 5 → 6 ≤ n + i → V.toInt = T j (w j) + sm_s (fun i => if fd_bf S T w i j = true then T i (w i) else 0) i → 0 ≤ V.toInt ∧ V.toInt ≤ 15 + 15 * (i : Int) → wY_finish_21 post (nI j) (ti (4 * j + w j)) cw aw mu mb th ti on n V (nI i) := by
  intro n
  induction n with
  | zero => intro i V hi hn; omega
  | succ n ih =>
    intro i V hi hn hV hb
    by_cases e : i = 5
    · subst e
      exact br_t (nI_le (a := 5) (by omega) (by omega)) (H V hV (by omega))
    · have i5 : i < 5 := by omega
      have ei : (nI i).toNatClampNeg = i := nI_clamp (by omega)
      have hin : vp_in (nI i) 5 := vp_in_nI (by omega) (by omega)
      obtain ⟨wi, oi, _, tt, t0, t15⟩ := F i i5
      obtain ⟨wj, oj, _, tj, tj0, tj15⟩ := F j hj
      refine br_f (nI_ge (b := 5) (by omega) (by omega)) ⟨hin, ?_⟩
      rw [ei, oi, tb_4]
      refine ⟨vp_in_nI (by omega) (by omega), nm_r (e' := ti (4 * i + w i)) (by rw [nI_clamp (by omega)]) ?_⟩
      have go : ∀ z0 : Int32, ((z0 = 1 ∧ (T i (w i) < T j (w j) ∨ (T i (w i) = T j (w j) ∧ i < j))) ∨ (z0 = 0 ∧ ¬ (T i (w i) < T j (w j) ∨ (T i (w i) = T j (w j) ∧ i < j)))) → wY_finish_69 post (wY_finish_21 post (nI j) (ti (4 * j + w j)) cw aw mu mb th ti on n) (nI j) (ti (4 * j + w j)) V (nI i) (ti (4 * i + w i)) z0 cw aw mu mb th ti on := fun z0 hz => yf_69 F i5 hj tt (by omega) hz (fun V' hV' => ih (i + 1) V' (by omega) (by omega) (by
          show _ = T j (w j) + (sm_s (fun i => if fd_bf S T w i j = true then T i (w i) else 0) i + (if fd_bf S T w i j = true then T i (w i) else 0))
          omega) (by
          have : 0 ≤ (if fd_bf S T w i j = true then T i (w i) else 0) ∧ (if fd_bf S T w i j = true then T i (w i) else 0) ≤ 15 := by split <;> omega
          omega))
      refine tb_lt (fun h => ?_) (fun h => tb_eq (fun h2 => ?_) (fun h2 => ?_))
      · rw [tt, tj] at h
        exact go 1 (Or.inl ⟨rfl, Or.inl h⟩)
      · rw [tt, tj] at h2
        by_cases o : j ≤ i
        · exact br_t (nI_le o (by omega)) (go 0 (Or.inr ⟨rfl, by omega⟩))
        · exact br_f (nI_ge (by omega) (by omega)) (go 1 (Or.inl ⟨rfl, Or.inr ⟨h2, by omega⟩⟩))
      · rw [tt, tj] at h h2
        exact go 0 (Or.inr ⟨rfl, by omega⟩)
theorem yf_fin {post : Int32 → Prop} {w : Nat → Nat} {j : Nat} (F : yf_i S th ti on T w) (hj : j < 5) (H : ∀ r : Int32, r.toInt = fd_fin S T w j → 0 ≤ r.toInt ∧ r.toInt ≤ 90 → post r) : wpY_finish post (cw, aw, mu, mb, th, ti, on) (nI j) := by
  have ej : (nI j).toNatClampNeg = j := nI_clamp (by omega)
  obtain ⟨wj, oj, _, tj, tj0, tj15⟩ := F j hj
  refine And.intro (vp_in_nI hj (by omega)) ?_
  rw [ej, oj, tb_4]
  refine ⟨vp_in_nI (by omega) (by omega), nm_r (e' := ti (4 * j + w j)) (by rw [nI_clamp (by omega)]) ⟨6, ?_⟩⟩
  exact yf_21 F hj H 6 0 _ (by omega) (by omega) (by
    show _ = T j (w j) + 0
    omega) (by omega)
theorem ys_4 {post : Int32 → Prop} {w : Nat → Nat} (F : yf_i S th ti on T w) (H : ∀ r : Int32, r.toInt = fd_tot S T w → post r) :
    ∀ n j (V : Int32), j ≤ 5 → 6 ≤ n + j → V.toInt = sm_s (fun j => if S.testBit j = true then fd_fin S T w j else 0) j → 0 ≤ V.toInt ∧ V.toInt ≤ 90 * (j : Int) → wY_sum_4 post cw aw mu mb th ti on n V (nI j) := by
  intro n
  induction n with
  | zero => intro j V hj hn; omega
  | succ n ih =>
    intro j V hj hn hV hb
    by_cases e : j = 5
    · subst e
      exact br_t (nI_le (a := 5) (by omega) (by omega)) (H V hV)
    · have j5 : j < 5 := by omega
      have ej : (nI j).toNatClampNeg = j := nI_clamp (by omega)
      have hin : vp_in (nI j) 5 := vp_in_nI (by omega) (by omega)
      refine br_f (nI_ge (b := 5) (by omega) (by omega)) ⟨hin, ?_⟩
      rw [ej, (F j j5).2.2.1]
      have st : sm_s (fun j => if S.testBit j = true then fd_fin S T w j else 0) (j + 1) = sm_s (fun j => if S.testBit j = true then fd_fin S T w j else 0) j + (if S.testBit j = true then fd_fin S T w j else 0) := rfl
      by_cases s : S.testBit j = true
      · rw [if_pos s]
        refine br_f (by decide) (yf_fin F j5 (fun r hr hrb => nm_e (nm_r (nI_1 j) ?_)))
        have ea : (V + r).toInt = V.toInt + r.toInt := Jvm.Kit.i32_add (by omega) (by omega)
        refine ih (j + 1) (V + r) (by omega) (by omega) ?_ (by omega)
        rw [st, if_pos s, ea, hV, hr]
      · rw [if_neg s]
        refine br_t rfl (nm_r (Int32.add_zero V) (nm_r (nI_1 j) (ih (j + 1) V (by omega) (by omega) ?_ (by omega))))
        rw [st, if_neg s, hV]; omega
theorem ys_sum {post : Int32 → Prop} {w : Nat → Nat} (F : yf_i S th ti on T w) (H : ∀ r : Int32, r.toInt = fd_tot S T w → post r) : wpY_sum post (cw, aw, mu, mb, th, ti, on) :=
  ⟨6, ys_4 F H 6 0 0 (by omega) (by omega) (show (0 : Int32).toInt = 0 by decide) (by decide)⟩
end
end
section
/-! the reference: all ways in order -/
def fd_code (w : Nat → Nat) : Nat := 256 * w 0 + 64 * w 1 + 16 * w 2 + 4 * w 3 + w 4
theorem fd_j5 {P : Nat → Prop} (h0 : P 0) (h1 : P 1) (h2 : P 2) (h3 : P 3) (h4 : P 4) : ∀ j, j < 5 → P j := by
  intro j hj
  match j, hj with
  | 0, _ => exact h0
  | 1, _ => exact h1
  | 2, _ => exact h2
  | 3, _ => exact h3
  | 4, _ => exact h4
theorem fd_code_on {w : Nat → Nat} (h : ∀ j, j < 5 → w j < 4) : fd_code w < 1024 ∧ ∀ j, j < 5 → fd_on (fd_code w) j = w j := by
  have a0 := h 0 (by omega)
  have a1 := h 1 (by omega)
  have a2 := h 2 (by omega)
  have a3 := h 3 (by omega)
  have a4 := h 4 (by omega)
  unfold fd_code
  refine ⟨by omega, fd_j5 ?_ ?_ ?_ ?_ ?_⟩
  · show (256 * w 0 + 64 * w 1 + 16 * w 2 + 4 * w 3 + w 4) / 256 % 4 = w 0
    omega
  · show (256 * w 0 + 64 * w 1 + 16 * w 2 + 4 * w 3 + w 4) / 64 % 4 = w 1
    omega
  · show (256 * w 0 + 64 * w 1 + 16 * w 2 + 4 * w 3 + w 4) / 16 % 4 = w 2
    omega
  · show (256 * w 0 + 64 * w 1 + 16 * w 2 + 4 * w 3 + w 4) / 4 % 4 = w 3
    omega
  · show (256 * w 0 + 64 * w 1 + 16 * w 2 + 4 * w 3 + w 4) / 1 % 4 = w 4
    omega
theorem fd_dig {c : Nat} (h : c < 1024) : c = 256 * fd_on c 0 + 64 * fd_on c 1 + 16 * fd_on c 2 + 4 * fd_on c 3 + fd_on c 4 := by
  show c = 256 * (c / 256 % 4) + 64 * (c / 64 % 4) + 16 * (c / 16 % 4) + 4 * (c / 4 % 4) + c / 1 % 4
  omega
theorem fd_lex {c d : Nat} (h : c < d) (hd : d < 1024) : ∃ i, i < 5 ∧ (∀ i', i' < i → fd_on d i' = fd_on c i') ∧ fd_on c i < fd_on d i := by
  have ec := fd_dig (c := c) (by omega)
  have ed := fd_dig (c := d) (by omega)
  have c0 := tb_on4 c 0
  have c1 := tb_on4 c 1
  have c2 := tb_on4 c 2
  have c3 := tb_on4 c 3
  have c4 := tb_on4 c 4
  have d0 := tb_on4 d 0
  have d1 := tb_on4 d 1
  have d2 := tb_on4 d 2
  have d3 := tb_on4 d 3
  have d4 := tb_on4 d 4
  by_cases e0 : fd_on d 0 = fd_on c 0
  · by_cases e1 : fd_on d 1 = fd_on c 1
    · by_cases e2 : fd_on d 2 = fd_on c 2
      · by_cases e3 : fd_on d 3 = fd_on c 3
        · refine ⟨4, by omega, fun i hi => ?_, by omega⟩
          match i, hi with
          | 0, _ => exact e0
          | 1, _ => exact e1
          | 2, _ => exact e2
          | 3, _ => exact e3
        · refine ⟨3, by omega, fun i hi => ?_, by omega⟩
          match i, hi with
          | 0, _ => exact e0
          | 1, _ => exact e1
          | 2, _ => exact e2
      · refine ⟨2, by omega, fun i hi => ?_, by omega⟩
        match i, hi with
        | 0, _ => exact e0
        | 1, _ => exact e1
    · refine ⟨1, by omega, fun i hi => ?_, by omega⟩
      match i, hi with
      | 0, _ => exact e0
  · exact ⟨0, by omega, fun i hi => by omega, by omega⟩
theorem fd_ok_c {S : Nat} {al : Nat → Nat → Bool} {w w' : Nat → Nat} (h : ∀ j, j < 5 → w' j = w j) (o : fd_ok S al w) : fd_ok S al w' := fun j hj => by rw [h j hj]; exact o j hj
theorem fd_tot_w {S : Nat} {T : Nat → Nat → Int} {w w' : Nat → Nat} (h : ∀ j, j < 5 → w' j = w j) : fd_tot S T w' = fd_tot S T w := fd_tot_c (fun j hj _ => h j hj) (fun j hj _ => by rw [h j hj])
theorem fd_lk_w {S l : Nat} {w w' : Nat → Nat} (h : ∀ j, j < 5 → w' j = w j) : fd_lk S l w' = fd_lk S l w := sm_ext (fun j hj => by rw [h j hj])
/-- the first of the best ways -/
def fd_fst (S : Nat) (T : Nat → Nat → Int) (al : Nat → Nat → Bool) (w : Nat → Nat) : Prop :=
  fd_ok S al w ∧ (∀ w', fd_ok S al w' → fd_tot S T w ≤ fd_tot S T w') ∧ ∀ w', fd_ok S al w' → fd_tot S T w' = fd_tot S T w → (∀ j, j < 5 → w' j = w j) ∨ ∃ i, i < 5 ∧ (∀ i', i' < i → w' i' = w i') ∧ w i < w' i
theorem fd_fst_u {S : Nat} {T : Nat → Nat → Int} {al : Nat → Nat → Bool} {w w' : Nat → Nat} (h : fd_fst S T al w) (h' : fd_fst S T al w') : ∀ j, j < 5 → w j = w' j := by
  obtain ⟨o, m, f⟩ := h
  obtain ⟨o', m', f'⟩ := h'
  have a := m w' o'
  have b := m' w o
  rcases f w' o' (by omega) with e | ⟨i, hi, p, q⟩
  · exact fun j hj => (e j hj).symm
  · rcases f' w o (by omega) with e | ⟨i', hi', p', q'⟩
    · exact e
    · rcases Nat.lt_trichotomy i i' with z | z | z
      · have := p' i z
        omega
      · subst z
        omega
      · have := p i' z
        omega
/-- the least total of the ways below c -/
def fd_lc (S : Nat) (T : Nat → Nat → Int) (al : Nat → Nat → Bool) (c : Nat) (r : Int) : Prop :=
  (r = -1 ∧ ∀ c', c' < c → ¬ fd_ok S al (fd_on c')) ∨ ∃ c0, c0 < c ∧ fd_ok S al (fd_on c0) ∧ r = fd_tot S T (fd_on c0) ∧ ∀ c', c' < c → fd_ok S al (fd_on c') → r ≤ fd_tot S T (fd_on c')
theorem fd_lc_lst {S : Nat} {T : Nat → Nat → Int} {al : Nat → Nat → Bool} {r : Int} (h : fd_lc S T al 1024 r) : fd_lst S T al r := by
  have all : ∀ w, fd_ok S al w → ∃ c', c' < 1024 ∧ fd_ok S al (fd_on c') ∧ fd_tot S T (fd_on c') = fd_tot S T w := by
    intro w o
    obtain ⟨h1, h2⟩ := fd_code_on (w := w) (fun j hj => (o j hj).1)
    exact ⟨_, h1, fd_ok_c h2 o, fd_tot_w h2⟩
  rcases h with ⟨e, n⟩ | ⟨c0, h0, o, e, m⟩
  · refine Or.inl ⟨e, fun w o => ?_⟩
    obtain ⟨c', h1, h2, _⟩ := all w o
    exact n c' h1 h2
  · refine Or.inr ⟨_, o, e, fun w' o' => ?_⟩
    obtain ⟨c', h1, h2, h3⟩ := all w' o'
    rw [← h3]
    exact m c' h1 h2
theorem fd_lc_no {S : Nat} {T : Nat → Nat → Int} {al : Nat → Nat → Bool} {c : Nat} {r : Int} (h : fd_lc S T al c r) (n : ¬ fd_ok S al (fd_on c)) : fd_lc S T al (c + 1) r := by
  rcases h with ⟨e, m⟩ | ⟨c0, h0, o, e, m⟩
  · refine Or.inl ⟨e, fun c' hc => ?_⟩
    by_cases z : c' = c
    · rw [z]; exact n
    · exact m c' (by omega)
  · refine Or.inr ⟨c0, by omega, o, e, fun c' hc o' => ?_⟩
    by_cases z : c' = c
    · rw [z] at o'; exact absurd o' n
    · exact m c' (by omega) o'
theorem fd_lc_keep {S : Nat} {T : Nat → Nat → Int} {al : Nat → Nat → Bool} {c : Nat} {r : Int} (h : fd_lc S T al c r) (r0 : 0 ≤ r) (hr : r ≤ fd_tot S T (fd_on c)) : fd_lc S T al (c + 1) r := by
  rcases h with ⟨e, m⟩ | ⟨c0, h0, o, e, m⟩
  · omega
  · refine Or.inr ⟨c0, by omega, o, e, fun c' hc o' => ?_⟩
    by_cases z : c' = c
    · rw [z]; exact hr
    · exact m c' (by omega) o'
theorem fd_lc_new {S : Nat} {T : Nat → Nat → Int} {al : Nat → Nat → Bool} {c : Nat} {r : Int} (h : fd_lc S T al c r) (o : fd_ok S al (fd_on c)) (hr : r < 0 ∨ fd_tot S T (fd_on c) < r) (pos : ∀ c', 0 ≤ fd_tot S T (fd_on c')) : fd_lc S T al (c + 1) (fd_tot S T (fd_on c)) := by
  refine Or.inr ⟨c, by omega, o, rfl, fun c' hc o' => ?_⟩
  by_cases z : c' = c
  · rw [z]; exact Int.le_refl _
  · rcases h with ⟨e, m⟩ | ⟨c0, h0, o0, e, m⟩
    · exact absurd o' (m c' (by omega))
    · have := m c' (by omega) o'
      have := pos c0
      omega
section
variable {cw aw mu mb : Int32} {th ti on : Nat → Int32} {S : Nat} {al : Nat → Nat → Bool} {T : Nat → Nat → Int}
theorem yl_pos (Q : yq_i S aw mu mb th ti al T) (c : Nat) : 0 ≤ fd_tot S T (fd_on c) ∧ fd_tot S T (fd_on c) ≤ 450 := fd_tot_b (fun j hj _ => ⟨(Q.2 j _ hj (tb_on4 c j)).2.1, (Q.2 j _ hj (tb_on4 c j)).2.2.1⟩)
theorem yl_21 {post : Int32 → SY → Prop} (Q : yq_i S aw mu mb th ti al T) (H : ∀ (r : Int32) on', fd_lst S T al r.toInt → post r (cw, aw, mu, mb, th, ti, on')) :
    ∀ n c (r : Int32) on', c ≤ 1024 → 1025 ≤ n + c → fd_lc S T al c r.toInt → wY_leastOf_21 post n r (nI c) cw aw mu mb th ti on' := by
  intro n
  induction n with
  | zero => intro c r on' hc hn; omega
  | succ n ih =>
    intro c r on' hc hn L
    by_cases e : c = 1024
    · subst e
      exact br_t (nI_le (a := 1024) (by omega) (by omega)) (H r on' (fd_lc_lst L))
    · refine br_f (nI_ge (b := 1024) (by omega) (by omega)) (yw_way (by omega) Q (fun b on2 hb ho => ?_))
      rcases hb with ⟨rfl, o⟩ | ⟨rfl, o⟩
      · refine br_f (by decide) (ys_sum (yf_mk Q ho) (fun v hv => ?_))
        have z0 : (0 : Int32).toInt = 0 := by decide
        have pc := fun c' => (yl_pos Q c').1
        refine tb_lt (fun h => nm_r (nI_1 c) (ih (c + 1) v on2 (by omega) (by omega) ?_)) (fun h => tb_le (fun h2 => nm_r (nI_1 c) (ih (c + 1) r on2 (by omega) (by omega) ?_)) (fun h2 => nm_r (nI_1 c) (ih (c + 1) v on2 (by omega) (by omega) ?_)))
        · rw [hv]; exact fd_lc_new L o (Or.inl (by omega)) pc
        · exact fd_lc_keep L (by omega) (by omega)
        · rw [hv]; exact fd_lc_new L o (Or.inr (by omega)) pc
      · exact br_t rfl (nm_r (nI_1 c) (ih (c + 1) r on2 (by omega) (by omega) (fd_lc_no L o)))
/-- leastOf answers the least total -/
theorem yl_least {post : Int32 → SY → Prop} {p0 p1 p2 : Int32} (Q : yq_i S p0 p1 p2 th ti al T) (H : ∀ (r : Int32) on', fd_lst S T al r.toInt → post r (cw, p0, p1, p2, th, ti, on')) : wpY_leastOf post (cw, aw, mu, mb, th, ti, on) p0 p1 p2 :=
  ⟨1025, yl_21 Q H 1025 0 (-1) on (by omega) (by omega) (Or.inl ⟨by decide, fun c hc => by omega⟩)⟩
theorem yp_13 {post : SY → Prop} {L : Int32} (Q : yq_i S aw mu mb th ti al T) (hL : ∃ c, c < 1024 ∧ fd_ok S al (fd_on c) ∧ fd_tot S T (fd_on c) = L.toInt) (H : ∀ on' c, c < 1024 → fd_ok S al (fd_on c) → fd_tot S T (fd_on c) = L.toInt → (∀ c', c' < c → ¬ (fd_ok S al (fd_on c') ∧ fd_tot S T (fd_on c') = L.toInt)) → (∀ j, j < 5 → on' j = nI (fd_on c j)) → post (cw, aw, mu, mb, th, ti, on')) :
    ∀ n c on', c ≤ 1024 → 1025 ≤ n + c → (∀ c', c' < c → ¬ (fd_ok S al (fd_on c') ∧ fd_tot S T (fd_on c') = L.toInt)) → wY_plan_13 post L n (nI c) cw aw mu mb th ti on' := by
  intro n
  induction n with
  | zero => intro c on' hc hn; omega
  | succ n ih =>
    intro c on' hc hn N
    by_cases e : c = 1024
    · subst e
      obtain ⟨c0, h0, h1⟩ := hL
      exact absurd h1 (N c0 h0)
    · have step : ¬ (fd_ok S al (fd_on c) ∧ fd_tot S T (fd_on c) = L.toInt) → ∀ c', c' < c + 1 → ¬ (fd_ok S al (fd_on c') ∧ fd_tot S T (fd_on c') = L.toInt) := fun z c' h => by
        by_cases q : c' = c
        · rw [q]; exact z
        · exact N c' (by omega)
      refine br_f (nI_ge (b := 1024) (by omega) (by omega)) (yw_way (by omega) Q (fun b on2 hb ho => ?_))
      rcases hb with ⟨rfl, o⟩ | ⟨rfl, o⟩
      · refine br_f (by decide) (ys_sum (yf_mk Q ho) (fun v hv => ?_))
        refine tb_eq (fun h => H on2 c (by omega) o (by omega) N ho) (fun h => nm_r (nI_1 c) (ih (c + 1) on2 (by omega) (by omega) (step (fun z => ?_))))
        exact h (by omega)
      · exact br_t rfl (nm_r (nI_1 c) (ih (c + 1) on2 (by omega) (by omega) (step (fun z => o z.1))))
/-- plan writes the first of the best ways -/
theorem yp_plan {post : SY → Prop} {M : Nat} (hM : cw = nI M) (M3 : M < 4) (Q : yq_i S (nI (2 ^ M - 1)) (-1) 0 th ti al T) (ne : ∃ w, fd_ok S al w) (H : ∀ on' w, fd_fst S T al w → yf_i S th ti on' T w → post (cw, nI (2 ^ M - 1), -1, 0, th, ti, on')) : wpY_plan post (cw, aw, mu, mb, th, ti, on) := by
  subst hM
  unfold wpY_plan wpY_all
  (try dsimp only)
  rw [(tb_all M M3).1]
  refine yl_least Q (fun r on' hr => ⟨1025, ?_⟩)
  rcases hr with ⟨_, n⟩ | ⟨w, o, e, m⟩
  · obtain ⟨w, o⟩ := ne
    exact absurd o (n w)
  · obtain ⟨h1, h2⟩ := fd_code_on (w := w) (fun j hj => (o j hj).1)
    refine yp_13 Q ⟨fd_code w, h1, fd_ok_c h2 o, by rw [fd_tot_w h2, e]⟩ (fun on2 c hc o2 e2 N ho => ?_) 1025 0 on' (by omega) (by omega) (fun c' h => by omega)
    refine H on2 (fd_on c) ⟨o2, fun w' o' => by rw [e2]; exact m w' o', fun w' o' e' => ?_⟩ (yf_mk Q ho)
    obtain ⟨k1, k2⟩ := fd_code_on (w := w') (fun j hj => (o' j hj).1)
    have n := N (fd_code w')
    rcases Nat.lt_trichotomy c (fd_code w') with z | z | z
    · obtain ⟨i, hi, p, q⟩ := fd_lex z k1
      refine Or.inr ⟨i, hi, fun i' hi' => ?_, ?_⟩
      · rw [← k2 i' (by omega)]; exact p i' hi'
      · rw [← k2 i hi]; exact q
    · exact Or.inl (fun j hj => by rw [← k2 j hj, ← z])
    · exact absurd ⟨fd_ok_c k2 o', by rw [fd_tot_w k2, e', e2]⟩ (n z)
end
end
section
/-! the reference: most jobs on a machine -/
def fd_mo (S : Nat) (T : Nat → Nat → Int) (al : Nat → Nat → Bool) (l : Nat) (L : Int) (c : Nat) (q : Int) : Prop :=
  0 ≤ q ∧ (∀ c', c' < c → fd_ok S al (fd_on c') → fd_tot S T (fd_on c') = L → fd_lk S l (fd_on c') ≤ q) ∧ (q = 0 ∨ ∃ c', c' < c ∧ fd_ok S al (fd_on c') ∧ fd_tot S T (fd_on c') = L ∧ fd_lk S l (fd_on c') = q)
theorem fd_mo_no {S : Nat} {T : Nat → Nat → Int} {al : Nat → Nat → Bool} {l : Nat} {L : Int} {c : Nat} {q : Int} (h : fd_mo S T al l L c q) (n : ¬ (fd_ok S al (fd_on c) ∧ fd_tot S T (fd_on c) = L) ∨ fd_lk S l (fd_on c) ≤ q) : fd_mo S T al l L (c + 1) q := by
  obtain ⟨h0, h1, h2⟩ := h
  refine ⟨h0, fun c' hc o e => ?_, ?_⟩
  · by_cases z : c' = c
    · rw [z] at o e ⊢
      rcases n with n | n
      · exact absurd ⟨o, e⟩ n
      · exact n
    · exact h1 c' (by omega) o e
  · rcases h2 with h2 | ⟨c', hc, h3⟩
    · exact Or.inl h2
    · exact Or.inr ⟨c', by omega, h3⟩
theorem fd_mo_new {S : Nat} {T : Nat → Nat → Int} {al : Nat → Nat → Bool} {l : Nat} {L : Int} {c : Nat} {q : Int} (h : fd_mo S T al l L c q) (o : fd_ok S al (fd_on c)) (e : fd_tot S T (fd_on c) = L) (n : q < fd_lk S l (fd_on c)) : fd_mo S T al l L (c + 1) (fd_lk S l (fd_on c)) := by
  obtain ⟨h0, h1, h2⟩ := h
  refine ⟨by omega, fun c' hc o' e' => ?_, Or.inr ⟨c, by omega, o, e, rfl⟩⟩
  by_cases z : c' = c
  · rw [z]; exact Int.le_refl _
  · have := h1 c' (by omega) o' e'
    omega
/-- it is the count of a best way with most jobs on the machine -/
theorem fd_mo_u {S : Nat} {T : Nat → Nat → Int} {al : Nat → Nat → Bool} {l : Nat} {q : Int} {w : Nat → Nat} (o : fd_ok S al w) (mx : ∀ w', fd_ok S al w' → fd_tot S T w' = fd_tot S T w → fd_lk S l w' ≤ fd_lk S l w) (h : fd_mo S T al l (fd_tot S T w) 1024 q) : q = fd_lk S l w := by
  obtain ⟨h0, h1, h2⟩ := h
  obtain ⟨k1, k2⟩ := fd_code_on (w := w) (fun j hj => (o j hj).1)
  have a := h1 (fd_code w) k1 (fd_ok_c k2 o) (fd_tot_w k2)
  rw [fd_lk_w k2] at a
  have b := fd_lk_b S l w
  rcases h2 with h2 | ⟨c', hc, o', e', f'⟩
  · omega
  · have := mx _ o' e'
    omega
section
variable {cw aw mu mb : Int32} {th ti on : Nat → Int32} {S : Nat} {al : Nat → Nat → Bool} {T : Nat → Nat → Int}
theorem ym_57 {post : Int32 → SY → Prop} {J : Int32 → Int32 → Int32 → Int32 → Int32 → Int32 → (Nat → Int32) → (Nat → Int32) → (Nat → Int32) → Prop} {x2 x3 x4 : Int32} {w : Nat → Nat} {l : Nat} (hl : l < 4) (F : yf_i S th ti on T w) (H : ∀ V : Int32, V.toInt = fd_lk S l w → wY_mostJobs_100 post J (nI l) x2 x3 x4 V cw aw mu mb th ti on) :
    ∀ n j (V : Int32), j ≤ 5 → 6 ≤ n + j → V.toInt = sm_s (fun j => if S.testBit j = true then (if w j = l then 1 else 0) else 0) j → 0 ≤ V.toInt ∧ V.toInt ≤ (j : Int) → wY_mostJobs_57 post J (nI l) x2 x3 x4 cw aw mu mb th ti on n V (nI j) := by
  intro n
  induction n with
  | zero => intro j V hj hn; omega
  | succ n ih =>
    intro j V hj hn hV hb
    by_cases e : j = 5
    · subst e
      exact br_t (nI_le (a := 5) (by omega) (by omega)) (H V hV)
    · have j5 : j < 5 := by omega
      have ej : (nI j).toNatClampNeg = j := nI_clamp (by omega)
      have hin : vp_in (nI j) 5 := vp_in_nI (by omega) (by omega)
      obtain ⟨wj, oj, tj, _⟩ := F j j5
      refine br_f (nI_ge (b := 5) (by omega) (by omega)) ⟨hin, ?_⟩
      rw [ej, tj, oj]
      have st : sm_s (fun j => if S.testBit j = true then (if w j = l then (1 : Int) else 0) else 0) (j + 1) = sm_s (fun j => if S.testBit j = true then (if w j = l then 1 else 0) else 0) j + (if S.testBit j = true then (if w j = l then 1 else 0) else 0) := rfl
      by_cases s : S.testBit j = true
      · rw [if_pos s] at st ⊢
        refine br_f (by decide) ⟨hin, ?_⟩
        by_cases z : w j = l
        · rw [if_pos z] at st
          have i1 : (1 : Int32).toInt = 1 := by decide
          have ea : (V + 1).toInt = V.toInt + 1 := by rw [Jvm.Kit.i32_add (by omega) (by omega), i1]
          refine br_t (by rw [z]) (nm_e (nm_r (nI_1 j) (ih (j + 1) (V + 1) (by omega) (by omega) ?_ (by omega))))
          rw [st, ea, hV]
        · rw [if_neg z] at st
          refine br_f (fun q => z ((nI_eq (by omega) (by omega)).mp q)) (nm_r (Int32.add_zero V) (nm_r (nI_1 j) (ih (j + 1) V (by omega) (by omega) ?_ (by omega))))
          rw [st, hV]; omega
      · rw [if_neg s] at st ⊢
        refine br_t rfl (nm_r (Int32.add_zero V) (nm_r (nI_1 j) (ih (j + 1) V (by omega) (by omega) ?_ (by omega))))
        rw [st, hV]; omega
theorem ym_26 {post : Int32 → SY → Prop} {L : Int32} {l : Nat} (hl : l < 4) (Q : yq_i S aw mu mb th ti al T) (H : ∀ (q : Int32) on', fd_mo S T al l L.toInt 1024 q.toInt → post q (cw, aw, mu, mb, th, ti, on')) :
    ∀ n c (q : Int32) on', c ≤ 1024 → 1025 ≤ n + c → fd_mo S T al l L.toInt c q.toInt → wY_mostJobs_26 post (nI l) L n q (nI c) cw aw mu mb th ti on' := by
  intro n
  induction n with
  | zero => intro c q on' hc hn; omega
  | succ n ih =>
    intro c q on' hc hn G
    by_cases e : c = 1024
    · subst e
      exact br_t (nI_le (a := 1024) (by omega) (by omega)) (H q on' G)
    · have z0 : (0 : Int32).toInt = 0 := by decide
      have zero : ∀ on2, ¬ (fd_ok S al (fd_on c) ∧ fd_tot S T (fd_on c) = L.toInt) → wY_mostJobs_100 post (wY_mostJobs_26 post (nI l) L n) (nI l) L q (nI c) 0 cw aw mu mb th ti on2 := fun on2 N => br_t (by rw [Int32.le_iff_toInt_le, z0]; exact G.1) (nm_r (nI_1 c) (ih (c + 1) q on2 (by omega) (by omega) (fd_mo_no G (Or.inl N))))
      refine br_f (nI_ge (b := 1024) (by omega) (by omega)) (yw_way (by omega) Q (fun b on2 hb ho => ?_))
      rcases hb with ⟨rfl, o⟩ | ⟨rfl, o⟩
      · refine br_f (by decide) (ys_sum (yf_mk Q ho) (fun v hv => ?_))
        refine tb_eq (fun h => ⟨6, ?_⟩) (fun h => zero on2 (fun z => h (by omega)))
        refine ym_57 hl (yf_mk Q ho) (fun V hV => ?_) 6 0 0 (by omega) (by omega) (show (0 : Int32).toInt = 0 by decide) (by decide)
        refine tb_le (fun h2 => nm_r (nI_1 c) (ih (c + 1) q on2 (by omega) (by omega) (fd_mo_no G (Or.inr (by omega))))) (fun h2 => nm_r (nI_1 c) (ih (c + 1) V on2 (by omega) (by omega) ?_))
        rw [hV]
        exact fd_mo_new G o (by omega) (by omega)
      · exact br_t rfl (zero on2 (fun z => o z.1))
end
end
section
/-! the component: has, isMachine, able, askPlainly; the reference: is, machine -/
def hs_i (S : Nat) (v : Int32) : Prop := ∃ j, j < 5 ∧ v = nI j ∧ S.testBit j = true
theorem tb_ix (x : Int32) {n : Nat} (hn : n < 2 ^ 31) : x < 0 ∨ nI n ≤ x ∨ ∃ j : Nat, j < n ∧ x = nI j := by
  by_cases h : x < 0
  · exact Or.inl h
  · obtain ⟨j, hj, rfl⟩ := nI_of h
    by_cases h2 : j < n
    · exact Or.inr (Or.inr ⟨j, h2, rfl⟩)
    · exact Or.inr (Or.inl (nI_le (by omega) hj))
/-- the plain question: machines that can do a job -/
def fd_al (M : Nat) (T : Nat → Nat → Int) (j m : Nat) : Bool := decide (m < M) && decide (0 < T j m)
theorem fd_al_iff {M : Nat} {T : Nat → Nat → Int} {j m : Nat} : fd_al M T j m = true ↔ m < M ∧ 0 < T j m := by
  unfold fd_al
  rw [Bool.and_eq_true, decide_eq_true_eq, decide_eq_true_eq]
/-- an int as a set of machines -/
def xo_i (x : Int32) (f : Nat → Bool) : Prop := ∃ O, O < 8 ∧ x = nI O ∧ ∀ i, i < 5 → O.testBit i = f i
theorem xo_bit {x : Int32} {f : Nat → Bool} (h : xo_i x f) {m : Nat} (hm : m < 5) : ((x >>> (nI m &&& 31)) &&& 1) = 0 ↔ f m = false := by
  obtain ⟨O, h8, e, hb⟩ := h
  rw [e, tb_bit O (by omega) m hm, hb m hm]
theorem tb_o3 : ∀ S, S < 8 → ∀ j, j < 3 → S ||| 2 ^ j < 8 := by decide +kernel
section
variable {mc ps db lk rs cs kn lt : Int32} {tm op rj rp cp ro cf sl re bm : Nat → Int32}
theorem xh_1 {post : Int32 → Prop} {S j : Nat} (hS : S < 32) (hj : j < 5) (s : S.testBit j = true) (h : post 1) : wpX_has post (mc, nI S, db, lk, rs, cs, kn, lt, tm, op, rj, rp, cp, ro, cf, sl, re, bm) (nI j) := by
  refine br_f (nI_pos (by omega)) (br_f (nI_ge (b := 5) hj (by omega)) (br_f ?_ h))
  rw [tb_bit S hS j hj, s]; decide
theorem xh_0 {post : Int32 → Prop} {S : Nat} {v : Int32} (hS : S < 32) (n : ¬ hs_i S v) (h : post 0) : wpX_has post (mc, nI S, db, lk, rs, cs, kn, lt, tm, op, rj, rp, cp, ro, cf, sl, re, bm) v := by
  rcases tb_ix v (n := 5) (by omega) with q | q | ⟨j, hj, rfl⟩
  · exact br_t q h
  · refine br_c (fun _ => h) (fun _ => br_t q h)
  · refine br_f (nI_pos (by omega)) (br_f (nI_ge (b := 5) hj (by omega)) (br_t ?_ h))
    rw [tb_bit S hS j hj]
    cases s : S.testBit j with
    | false => rfl
    | true => exact absurd ⟨j, hj, rfl, s⟩ n
theorem hs_no {S j : Nat} (hj : j < 5) (s : S.testBit j = false) : ¬ hs_i S (nI j) := by
  rintro ⟨i, hi, e, q⟩
  rw [(nI_eq (by omega) (by omega)).mp e] at s
  rw [s] at q
  exact absurd q (by decide)
theorem xg_1 {post : Int32 → Prop} {M m : Nat} (hM : M ≤ 3) (hm : m < M) (h : post 1) : wpX_isMachine post (nI M, ps, db, lk, rs, cs, kn, lt, tm, op, rj, rp, cp, ro, cf, sl, re, bm) (nI m) :=
  br_f (nI_pos (by omega)) (br_f (nI_ge hm (by omega)) h)
theorem xg_0 {post : Int32 → Prop} {M : Nat} {v : Int32} (hM : M ≤ 3) (n : ¬ ∃ m, m < M ∧ v = nI m) (h : post 0) : wpX_isMachine post (nI M, ps, db, lk, rs, cs, kn, lt, tm, op, rj, rp, cp, ro, cf, sl, re, bm) v := by
  rcases tb_ix v (n := M) (by omega) with q | q | q
  · exact br_t q h
  · exact br_c (fun _ => h) (fun _ => br_t q h)
  · exact absurd q n
theorem xb_4 {post : Int32 → Prop} {M j : Nat} {T : Nat → Nat → Int} (hM : M ≤ 3) (hj : j < 5) (hT : ∀ m, m < 3 → (tm (3 * j + m)).toInt = T j m) (H : ∀ O, O < 8 → (∀ i, i < 5 → O.testBit i = fd_al M T j i) → post (nI O)) :
    ∀ n m O, m ≤ M → M + 1 ≤ n + m → O < 8 → (∀ i, i < 5 → O.testBit i = fd_al m T j i) → wX_able_4 post (nI j) (nI M) ps db lk rs cs kn lt tm op rj rp cp ro cf sl re bm n (nI O) (nI m) := by
  intro n
  induction n with
  | zero => intro m O hm hn; omega
  | succ n ih =>
    intro m O hm hn h8 hO
    by_cases e : m = M
    · subst e
      exact br_t (nI_le (Nat.le_refl _) (by omega)) (H O h8 hO)
    · refine br_f (nI_ge (by omega) (by omega)) ?_
      rw [tb_3]
      refine ⟨vp_in_nI (by omega) (by omega), ?_⟩
      rw [nI_clamp (show 3 * j + m < 2 ^ 31 by omega)]
      have z0 : (0 : Int32).toInt = 0 := by decide
      have ht := hT m (by omega)
      have st : ∀ i, fd_al (m + 1) T j i = (fd_al m T j i || (decide (i = m) && decide (0 < T j m))) := fun i => by
        unfold fd_al
        by_cases q : i = m
        · subst q
          rw [decide_eq_true (show i < i + 1 by omega), decide_eq_false (show ¬ i < i by omega), decide_eq_true rfl]
          rfl
        · rw [decide_eq_false q]
          by_cases y : i < m
          · rw [decide_eq_true y, decide_eq_true (show i < m + 1 by omega)]
            simp
          · rw [decide_eq_false y, decide_eq_false (show ¬ i < m + 1 by omega)]
            rfl
      refine tb_le (fun h => nm_r (nI_1 m) (ih (m + 1) O (by omega) (by omega) h8 (fun i hi => ?_))) (fun h => ?_)
      · rw [st, hO i hi, decide_eq_false (show ¬ 0 < T j m by omega)]
        simp
      · have t := tb_or O (by omega) m (by omega)
        refine nm_r t.1 (nm_r (nI_1 m) (ih (m + 1) _ (by omega) (by omega) (tb_o3 O h8 m (by omega)) (fun i hi => ?_)))
        rw [t.2.2 i hi, st, hO i hi, decide_eq_true (show 0 < T j m by omega), Bool.and_true]
theorem xb_able {post : Int32 → Prop} {M j : Nat} {T : Nat → Nat → Int} (hM : M ≤ 3) (hj : j < 5) (hT : ∀ m, m < 3 → (tm (3 * j + m)).toInt = T j m) (H : ∀ O, O < 8 → (∀ i, i < 5 → O.testBit i = fd_al M T j i) → post (nI O)) : wpX_able post (nI M, ps, db, lk, rs, cs, kn, lt, tm, op, rj, rp, cp, ro, cf, sl, re, bm) (nI j) :=
  ⟨M + 1, xb_4 hM hj hT H (M + 1) 0 0 (by omega) (by omega) (by omega) (fun i hi => by
    rw [Nat.zero_testBit]
    unfold fd_al
    rw [decide_eq_false (by omega)]
    rfl)⟩
theorem xk_2 {post : SX → Prop} {M : Nat} {T : Nat → Nat → Int} (hM : M ≤ 3) (hT : ∀ j m, j < 5 → m < 3 → (tm (3 * j + m)).toInt = T j m) (H : ∀ op', (∀ j, j < 5 → xo_i (op' j) (fd_al M T j)) → post (nI M, ps, -1, -1, rs, cs, kn, lt, tm, op', rj, rp, cp, ro, cf, sl, re, bm)) :
    ∀ n j op', j ≤ 5 → 6 ≤ n + j → (∀ i, i < j → xo_i (op' i) (fd_al M T i)) → wX_askPlainly_2 post (nI M) ps db lk rs cs kn lt n (nI j) tm op' rj rp cp ro cf sl re bm := by
  intro n
  induction n with
  | zero => intro j op' hj hn; omega
  | succ n ih =>
    intro j op' hj hn L
    by_cases e : j = 5
    · subst e
      exact br_t (nI_le (a := 5) (by omega) (by omega)) (H op' L)
    · have ej : (nI j).toNatClampNeg = j := nI_clamp (by omega)
      refine br_f (nI_ge (b := 5) (by omega) (by omega)) (xb_able hM (by omega) (fun m hm => hT j m (by omega) hm) (fun O h8 hO => ⟨vp_in_nI (by omega) (by omega), nm_r (e' := upd op' j (nI O)) (by rw [ej, tb_nbb (by omega)]) (nm_r (nI_1 j) ?_)⟩))
      refine ih (j + 1) _ (by omega) (by omega) (fun i hi => ?_)
      by_cases q : i = j
      · rw [q, pk_us]; exact ⟨O, h8, rfl, hO⟩
      · rw [pk_un q]; exact L i (by omega)
/-- askPlainly opens to each job the machines that can do it -/
theorem xk_ask {post : SX → Prop} {M : Nat} {T : Nat → Nat → Int} (hM : M ≤ 3) (hT : ∀ j m, j < 5 → m < 3 → (tm (3 * j + m)).toInt = T j m) (H : ∀ op', (∀ j, j < 5 → xo_i (op' j) (fd_al M T j)) → post (nI M, ps, -1, -1, rs, cs, kn, lt, tm, op', rj, rp, cp, ro, cf, sl, re, bm)) : wpX_askPlainly post (nI M, ps, db, lk, rs, cs, kn, lt, tm, op, rj, rp, cp, ro, cf, sl, re, bm) :=
  ⟨6, xk_2 hM hT H 6 0 op (by omega) (by omega) (fun i hi => by omega)⟩
end
/-- the times, as both sides hold them -/
def tm_i (M : Nat) (tm : Nat → Int32) (T : Nat → Nat → Int) : Prop := 1 ≤ M ∧ M ≤ 3 ∧ ∀ j m, j < 5 → m < 3 → (tm (3 * j + m)).toInt = T j m ∧ 0 ≤ T j m ∧ T j m ≤ 15
/-- a question without doubled machine -/
theorem xq_mk {M l : Nat} {lk : Int32} {tm op : Nat → Int32} {al : Nat → Nat → Bool} {T : Nat → Nat → Int} (hT : tm_i M tm T) (ho : ∀ j, j < 5 → xo_i (op j) (al j)) (hal : ∀ j m, j < 5 → m < 4 → al j m = true → m < M ∧ 0 < T j m) (hl : ∀ m, m < M → (nI m = lk ↔ m = l)) : xq_i M (5 * M) (-1) lk tm op al T l := by
  obtain ⟨M1, M3, ht⟩ := hT
  refine ⟨⟨M1, M3, Or.inl rfl, fun j m hj hm a => ?_⟩, fun j m hj hm => ⟨xo_bit (ho j hj) (by omega), (ht j m hj (by omega)).1, hl m hm⟩, Or.inl ⟨rfl, rfl⟩⟩
  have b := hal j m hj hm a
  have c := ht j m hj (by omega)
  exact ⟨by omega, by omega, Or.inl b.1⟩
theorem xq_m1 {M m : Nat} (hM : M ≤ 3) (hm : m < M) : nI m = (-1 : Int32) ↔ m = 4 := by
  constructor
  · intro e
    have := congrArg Int32.toInt e
    rw [nI_toInt (by omega), show (-1 : Int32).toInt = -1 by decide] at this
    omega
  · intro e
    omega
section
variable {cw aw mu mb : Int32} {th ti on : Nat → Int32}
theorem yh_1 {post : Int32 → Prop} {S j : Nat} (hj : j < 5) (ht : ∀ j, j < 5 → th j = if S.testBit j = true then 1 else 0) (s : S.testBit j = true) (h : post 1) : wpY_is post (cw, aw, mu, mb, th, ti, on) (nI j) := by
  refine br_f (nI_pos (by omega)) (br_f (nI_ge (b := 5) hj (by omega)) ⟨vp_in_nI hj (by omega), br_f ?_ h⟩)
  rw [nI_clamp (by omega), ht j hj, if_pos s]; decide
theorem yh_0 {post : Int32 → Prop} {S : Nat} {v : Int32} (ht : ∀ j, j < 5 → th j = if S.testBit j = true then 1 else 0) (n : ¬ hs_i S v) (h : post 0) : wpY_is post (cw, aw, mu, mb, th, ti, on) v := by
  rcases tb_ix v (n := 5) (by omega) with q | q | ⟨j, hj, rfl⟩
  · exact br_t q h
  · refine br_c (fun _ => h) (fun _ => br_t q h)
  · refine br_f (nI_pos (by omega)) (br_f (nI_ge (b := 5) hj (by omega)) ⟨vp_in_nI hj (by omega), br_t ?_ h⟩)
    rw [nI_clamp (by omega), ht j hj]
    cases s : S.testBit j with
    | false => rfl
    | true => exact absurd ⟨j, hj, rfl, s⟩ n
theorem yg_1 {post : Int32 → Prop} {M m : Nat} (hM : M ≤ 3) (hm : m < M) (h : post 1) : wpY_machine post (nI M, aw, mu, mb, th, ti, on) (nI m) :=
  br_f (nI_pos (by omega)) (br_f (nI_ge hm (by omega)) h)
theorem yg_0 {post : Int32 → Prop} {M : Nat} {v : Int32} (hM : M ≤ 3) (n : ¬ ∃ m, m < M ∧ v = nI m) (h : post 0) : wpY_machine post (nI M, aw, mu, mb, th, ti, on) v := by
  rcases tb_ix v (n := M) (by omega) with q | q | q
  · exact br_t q h
  · exact br_c (fun _ => h) (fun _ => br_t q h)
  · exact absurd q n
end
end
section
/-! the component: learn finds the first of the best ways, job by job -/
def ln_i (S : Nat) (T : Nat → Nat → Int) (M : Nat) (L : Int) (b : Nat → Nat) (j : Nat) : Prop :=
  (∃ w, fd_ok S (fd_al M T) w ∧ fd_tot S T w = L ∧ ∀ i, i < j → S.testBit i = true → w i = b i) ∧
  (∀ w, fd_ok S (fd_al M T) w → L ≤ fd_tot S T w) ∧
  (∀ w, fd_ok S (fd_al M T) w → fd_tot S T w = L → (∀ i, i < j → S.testBit i = true → w i = b i) ∨ ∃ i, i < j ∧ S.testBit i = true ∧ (∀ i', i' < i → S.testBit i' = true → w i' = b i') ∧ b i < w i)
/-- a best way goes on with machine m -/
def ln_w (S : Nat) (T : Nat → Nat → Int) (M : Nat) (L : Int) (b : Nat → Nat) (j m : Nat) : Prop := ∃ w, fd_ok S (fd_al M T) w ∧ fd_tot S T w = L ∧ (∀ i, i < j → S.testBit i = true → w i = b i) ∧ w j = m
section
variable {S M : Nat} {T : Nat → Nat → Int} {L : Int} {b : Nat → Nat} {j : Nat}
theorem ln_0 (h : fd_lst S T (fd_al M T) L) (ne : ∃ w, fd_ok S (fd_al M T) w) : ln_i S T M L b 0 := by
  rcases h with ⟨_, n⟩ | ⟨w, o, e, m⟩
  · obtain ⟨w, o⟩ := ne
    exact absurd o (n w)
  · exact ⟨⟨w, o, e.symm, fun i hi => by omega⟩, m, fun w' _ _ => Or.inl (fun i hi => by omega)⟩
theorem ln_no (h : ln_i S T M L b j) (s : S.testBit j = false) : ln_i S T M L b (j + 1) := by
  obtain ⟨⟨w, o, e, p⟩, h2, h3⟩ := h
  have ex : ∀ w : Nat → Nat, (∀ i, i < j → S.testBit i = true → w i = b i) → ∀ i, i < j + 1 → S.testBit i = true → w i = b i := fun w p i hi si => by
    by_cases q : i = j
    · rw [q, s] at si; exact absurd si (by decide)
    · exact p i (by omega) si
  refine ⟨⟨w, o, e, ex w p⟩, h2, fun w' o' e' => ?_⟩
  rcases h3 w' o' e' with p' | ⟨i, hi, q⟩
  · exact Or.inl (ex w' p')
  · exact Or.inr ⟨i, by omega, q⟩
theorem ln_yes {m : Nat} (h : ln_i S T M L b j) (s : S.testBit j = true) (hm : ln_w S T M L b j m) (hn : ∀ m', m' < m → ¬ ln_w S T M L b j m') : ln_i S T M L (hu_u b j m) (j + 1) := by
  obtain ⟨_, h2, h3⟩ := h
  obtain ⟨w, o, e, p, wj⟩ := hm
  refine ⟨⟨w, o, e, fun i hi si => ?_⟩, h2, fun w' o' e' => ?_⟩
  · by_cases q : i = j
    · rw [q, hu_u_s]; exact wj
    · rw [hu_u_n q]; exact p i (by omega) si
  · rcases h3 w' o' e' with p' | ⟨i, hi, si, pi, qi⟩
    · rcases Nat.lt_trichotomy (w' j) m with z | z | z
      · exact absurd ⟨w', o', e', p', rfl⟩ (hn _ z)
      · refine Or.inl (fun i hi si => ?_)
        by_cases q : i = j
        · rw [q, hu_u_s]; exact z
        · rw [hu_u_n q]; exact p' i (by omega) si
      · refine Or.inr ⟨j, by omega, s, fun i hi si => ?_, by rw [hu_u_s]; exact z⟩
        rw [hu_u_n (by omega)]; exact p' i hi si
    · refine Or.inr ⟨i, by omega, si, fun i' hi' si' => ?_, by rw [hu_u_n (by omega)]; exact qi⟩
      rw [hu_u_n (by omega)]; exact pi i' hi' si'
theorem ln_5 (h : ln_i S T M L b 5) : ∃ w, fd_fst S T (fd_al M T) w ∧ L = fd_tot S T w ∧ ∀ j, j < 5 → S.testBit j = true → w j = b j := by
  obtain ⟨⟨w, o, e, p⟩, h2, h3⟩ := h
  have eq : ∀ w', fd_ok S (fd_al M T) w' → ∀ i, i < 5 → (S.testBit i = true → w' i = b i) → w' i = w i := fun w' o' i hi q => by
    cases s : S.testBit i with
    | false => rw [(o' i hi).2.2 s, (o i hi).2.2 s]
    | true => rw [q s, p i hi s]
  refine ⟨w, ⟨o, fun w' o' => by rw [e]; exact h2 w' o', fun w' o' e' => ?_⟩, e.symm, p⟩
  rcases h3 w' o' (by omega) with p' | ⟨i, hi, si, pi, qi⟩
  · exact Or.inl (fun i hi => eq w' o' i hi (p' i hi))
  · exact Or.inr ⟨i, hi, fun i' hi' => eq w' o' i' (by omega) (pi i' hi'), by rw [p i hi si]; exact qi⟩
/-- what is open to the jobs when j is at hand -/
def ln_o (S M : Nat) (T : Nat → Nat → Int) (b : Nat → Nat) (j i m : Nat) : Bool := fd_al M T i m && (decide (j ≤ i) || (!S.testBit i || decide (m = b i)))
def ln_a (S M : Nat) (T : Nat → Nat → Int) (b : Nat → Nat) (j m0 i m : Nat) : Bool := if i = j then fd_al M T i m && decide (m = m0) else ln_o S M T b j i m
theorem ln_ok {m0 : Nat} {w : Nat → Nat} (hj : j < 5) (s : S.testBit j = true) : fd_ok S (ln_a S M T b j m0) w ↔ fd_ok S (fd_al M T) w ∧ (∀ i, i < j → S.testBit i = true → w i = b i) ∧ w j = m0 := by
  constructor
  · intro h
    refine ⟨fun i hi => ⟨(h i hi).1, fun si => ?_, (h i hi).2.2⟩, fun i hi si => ?_, ?_⟩
    · have q := (h i hi).2.1 si
      unfold ln_a ln_o at q
      split at q
      · rw [Bool.and_eq_true] at q; exact q.1
      · rw [Bool.and_eq_true] at q; exact q.1
    · have q := (h i (by omega)).2.1 si
      unfold ln_a ln_o at q
      rw [if_neg (by omega), si, decide_eq_false (show ¬ j ≤ i by omega), Bool.and_eq_true] at q
      exact decide_eq_true_eq.mp q.2
    · have q := (h j hj).2.1 s
      unfold ln_a at q
      rw [if_pos rfl, Bool.and_eq_true, decide_eq_true_eq] at q
      exact q.2
  · rintro ⟨o, p, e⟩ i hi
    refine ⟨(o i hi).1, fun si => ?_, (o i hi).2.2⟩
    have q := (o i hi).2.1 si
    unfold ln_a ln_o
    by_cases z : i = j
    · rw [if_pos z, Bool.and_eq_true, decide_eq_true_eq]
      exact ⟨q, by rw [z]; exact e⟩
    · rw [if_neg z, q, si]
      by_cases y : j ≤ i
      · rw [decide_eq_true y]; rfl
      · rw [decide_eq_true (p i (by omega) si)]
        cases decide (j ≤ i) <;> rfl
theorem ln_eq {m0 : Nat} {r : Int} (hj : j < 5) (s : S.testBit j = true) (h : ln_i S T M L b j) (L0 : 0 ≤ L) (hr : fd_lst S T (ln_a S M T b j m0) r) : r = L ↔ ln_w S T M L b j m0 := by
  constructor
  · intro e
    rcases hr with ⟨e', _⟩ | ⟨w, o, e', _⟩
    · omega
    · obtain ⟨o1, o2, o3⟩ := (ln_ok hj s).mp o
      exact ⟨w, o1, by omega, o2, o3⟩
  · rintro ⟨w, o, e, p, wj⟩
    have o' := (ln_ok (T := T) (M := M) (b := b) hj s).mpr ⟨o, p, wj⟩
    rcases hr with ⟨_, n⟩ | ⟨w1, o1, e1, m1⟩
    · exact absurd o' (n w)
    · have a := m1 w o'
      have c := h.2.1 w1 ((ln_ok hj s).mp o1).1
      omega
end
/-- what the component remembers -/
def kl_i (M S : Nat) (T : Nat → Nat → Int) (lt : Int32) (bm : Nat → Int32) : Prop := ∃ w, fd_fst S T (fd_al M T) w ∧ lt.toInt = fd_tot S T w ∧ ∀ j, j < 5 → S.testBit j = true → bm j = nI (w j)
theorem xo_c {x : Int32} {f g : Nat → Bool} (h : xo_i x f) (e : ∀ i, i < 5 → f i = g i) : xo_i x g := by
  obtain ⟨O, h8, ex, hb⟩ := h
  exact ⟨O, h8, ex, fun i hi => by rw [hb i hi, e i hi]⟩
theorem xo_sh {f : Nat → Bool} {m : Nat} (hm : m < 3) (e : ∀ i, i < 5 → f i = decide (i = m)) : xo_i (nI (2 ^ m)) f := ⟨2 ^ m, (tb_sh m hm).2.1, rfl, fun i hi => by rw [(tb_sh m hm).2.2 i hi, e i hi]⟩
section
variable {mc ps db lk rs cs kn lt : Int32} {tm op rj rp cp ro cf sl re bm : Nat → Int32} {S M : Nat} {T : Nat → Nat → Int} {b : Nat → Nat} {j : Nat}
theorem xf_9 {post : Int32 → SX → Prop} {O : Nat} {op0 : Nat → Int32} (hT : tm_i M tm T) (hS : S < 32) (hj : j < 5) (s : S.testBit j = true) (LI : ln_i S T M lt.toInt b j) (L0 : 0 ≤ lt.toInt) (h8 : O < 8) (hO : ∀ i, i < 5 → O.testBit i = fd_al M T j i) (hop : ∀ i, i < 5 → i ≠ j → xo_i (op0 i) (ln_o S M T b j i))
    (H : ∀ m rs' cs' op' rj' rp' cp' ro' cf' sl' re', m < M → ln_w S T M lt.toInt b j m → (∀ m', m' < m → ¬ ln_w S T M lt.toInt b j m') → (∀ i, i < 5 → i ≠ j → op' i = op0 i) → post (nI m) (nI M, nI S, -1, -1, rs', cs', kn, lt, tm, op', rj', rp', cp', ro', cf', sl', re', bm)) :
    ∀ n m rs cs op rj rp cp ro cf sl re, m ≤ M → M + 1 ≤ n + m → (∀ i, i < 5 → i ≠ j → op i = op0 i) → (∀ m', m' < m → ¬ ln_w S T M lt.toInt b j m') → wX_firstMachine_9 post (nI j) (nI O) n (nI m) (nI M) (nI S) (-1) (-1) rs cs kn lt tm op rj rp cp ro cf sl re bm := by
  intro n
  have M3 := hT.2.1
  induction n with
  | zero => intro m rs cs op rj rp cp ro cf sl re hm hn; omega
  | succ n ih =>
    intro m rs cs op rj rp cp ro cf sl re hm hn ho N
    have up : ¬ ln_w S T M lt.toInt b j m → ∀ m', m' < m + 1 → ¬ ln_w S T M lt.toInt b j m' := fun z m' h => by
      by_cases q : m' = m
      · rw [q]; exact z
      · exact N m' (by omega)
    by_cases e : m = M
    · obtain ⟨w, o, t, p⟩ := LI.1
      have a := (fd_al_iff.mp ((o j hj).2.1 s)).1
      exact absurd ⟨w, o, t, p, rfl⟩ (N (w j) (by omega))
    · refine br_f (nI_ge (by omega) (by omega)) ?_
      have tb := tb_bit O (by omega) m (by omega)
      cases z : O.testBit m with
      | false =>
        refine br_t (tb.mpr z) (nm_r (nI_1 m) (ih (m + 1) rs cs op rj rp cp ro cf sl re (by omega) (by omega) ho (up ?_)))
        rintro ⟨w, o, t, p, wj⟩
        have a := (o j hj).2.1 s
        rw [wj, ← hO m (by omega), z] at a
        exact absurd a (by decide)
      | true =>
        have ej : (nI j).toNatClampNeg = j := nI_clamp (by omega)
        have alm : fd_al M T j m = true := by rw [← hO m (by omega)]; exact z
        refine br_f (fun y => by rw [tb, z] at y; exact absurd y (by decide)) ⟨vp_in_nI hj (by omega), nm_r (e' := upd op j (nI (2 ^ m))) (by rw [ej, (tb_sh m (by omega)).1]) ?_⟩
        have ho' : ∀ i, i < 5 → i ≠ j → upd op j (nI (2 ^ m)) i = op0 i := fun i hi n => by rw [pk_un n]; exact ho i hi n
        refine xm_total hS (Nat.le_refl 4) (xq_mk (al := ln_a S M T b j m) hT (fun i hi => ?_) (fun i k hi hk a => ?_) (fun k hk => xq_m1 M3 hk)) (fun r rs' cs' rj' rp' cp' ro' cf' sl' re' hr => ?_)
        · by_cases q : i = j
          · rw [q, pk_us]
            refine xo_sh (by omega) (fun k hk => ?_)
            unfold ln_a
            rw [if_pos rfl]
            by_cases y : k = m
            · rw [y, alm]; rfl
            · rw [decide_eq_false y, Bool.and_false]
          · rw [ho' i hi q]
            refine xo_c (hop i hi q) (fun k hk => ?_)
            unfold ln_a
            rw [if_neg q]
        · refine fd_al_iff.mp ?_
          unfold ln_a ln_o at a
          split at a
          · rw [Bool.and_eq_true] at a; exact a.1
          · rw [Bool.and_eq_true] at a; exact a.1
        · have q := ln_eq hj s LI L0 hr
          refine tb_eq (fun h => H m rs' cs' _ rj' rp' cp' ro' cf' sl' re' (by omega) (q.mp h) N ho') (fun h => nm_r (nI_1 m) (ih (m + 1) rs' cs' _ rj' rp' cp' ro' cf' sl' re' (by omega) (by omega) ho' (up (fun y => h (q.mpr y)))))
theorem xe_31 {post : SX → Prop} (hT : tm_i M tm T) (hS : S < 32) (L0 : 0 ≤ lt.toInt)
    (H : ∀ rs' cs' op' rj' rp' cp' ro' cf' sl' re' bm', kl_i M S T lt bm' → post (nI M, nI S, -1, -1, rs', cs', kn, lt, tm, op', rj', rp', cp', ro', cf', sl', re', bm')) :
    ∀ n j b rs cs op rj rp cp ro cf sl re bm, j ≤ 5 → 6 ≤ n + j → ln_i S T M lt.toInt b j → (∀ i, i < 5 → xo_i (op i) (ln_o S M T b j i)) → (∀ i, i < j → S.testBit i = true → bm i = nI (b i)) → wX_learn_31 post n (nI j) (nI M) (nI S) (-1) (-1) rs cs kn lt tm op rj rp cp ro cf sl re bm := by
  intro n
  have M3 := hT.2.1
  induction n with
  | zero => intro j b rs cs op rj rp cp ro cf sl re bm hj hn; omega
  | succ n ih =>
    intro j b rs cs op rj rp cp ro cf sl re bm hj hn LI hop hbm
    by_cases e : j = 5
    · subst e
      obtain ⟨w, f, t, q⟩ := ln_5 LI
      refine br_t (nI_le (a := 5) (by omega) (by omega)) (H rs cs op rj rp cp ro cf sl re bm ⟨w, f, t, fun i hi si => ?_⟩)
      rw [q i hi si]; exact hbm i hi si
    · have j5 : j < 5 := by omega
      have ej : (nI j).toNatClampNeg = j := nI_clamp (by omega)
      have hin : vp_in (nI j) 5 := vp_in_nI j5 (by omega)
      refine br_f (nI_ge (b := 5) (by omega) (by omega)) ?_
      cases s : S.testBit j with
      | false =>
        refine xh_0 hS (hs_no j5 s) (br_t rfl (nm_r (nI_1 j) (ih (j + 1) b rs cs op rj rp cp ro cf sl re bm (by omega) (by omega) (ln_no LI s) (fun i hi => xo_c (hop i hi) (fun k _ => ?_)) (fun i hi si => ?_))))
        · unfold ln_o
          by_cases q : i = j
          · rw [q, s]
            cases decide (j ≤ j) <;> cases decide (j + 1 ≤ j) <;> rfl
          · by_cases y : j ≤ i
            · rw [decide_eq_true y, decide_eq_true (show j + 1 ≤ i by omega)]
            · rw [decide_eq_false y, decide_eq_false (show ¬ j + 1 ≤ i by omega)]
        · by_cases q : i = j
          · rw [q, s] at si; exact absurd si (by decide)
          · exact hbm i (by omega) si
      | true =>
        refine xh_1 hS j5 s (br_f (by decide) ?_)
        obtain ⟨O, h8, eO, hO⟩ := hop j j5
        refine And.intro hin (nm_r (e' := nI O) (by rw [ej]; exact eO) ⟨M + 1, ?_⟩)
        refine xf_9 (op0 := op) hT hS j5 s LI L0 h8 (fun i hi => ?_) (fun i hi _ => hop i hi) (fun m rs' cs' op' rj' rp' cp' ro' cf' sl' re' hm hw hn' ho' => ?_) (M + 1) 0 rs cs op rj rp cp ro cf sl re (by omega) (by omega) (fun _ _ _ => rfl) (fun m' h => by omega)
        · rw [hO i hi]
          unfold ln_o
          rw [decide_eq_true (Nat.le_refl j)]
          exact Bool.and_true _
        · have alm : fd_al M T j m = true := by
            obtain ⟨w, o, _, _, wj⟩ := hw
            rw [← wj]; exact (o j j5).2.1 s
          refine And.intro hin (nm_r (e' := upd bm j (nI m)) (by rw [ej, tb_nbb (by omega)]) ⟨hin, hin, nm_r (e' := upd op' j (nI (2 ^ m))) (by rw [ej, pk_us, (tb_sh m (by omega)).1]) (nm_r (nI_1 j) ?_)⟩)
          refine ih (j + 1) (hu_u b j m) rs' cs' _ rj' rp' cp' ro' cf' sl' re' _ (by omega) (by omega) (ln_yes LI s hw hn') (fun i hi => ?_) (fun i hi si => ?_)
          · by_cases q : i = j
            · rw [q, pk_us]
              refine xo_sh (by omega) (fun k hk => ?_)
              unfold ln_o
              rw [s, hu_u_s, decide_eq_false (show ¬ j + 1 ≤ j by omega)]
              by_cases y : k = m
              · rw [y, alm]; rfl
              · rw [decide_eq_false y]; exact Bool.and_false _
            · rw [pk_un q, ho' i hi q]
              refine xo_c (hop i hi) (fun k hk => ?_)
              unfold ln_o
              rw [hu_u_n q]
              by_cases y : j ≤ i
              · rw [decide_eq_true y, decide_eq_true (show j + 1 ≤ i by omega)]
              · rw [decide_eq_false y, decide_eq_false (show ¬ j + 1 ≤ i by omega)]
          · by_cases q : i = j
            · rw [q, pk_us, hu_u_s]
            · rw [pk_un q, hu_u_n q]; exact hbm i (by omega) si
/-- learn -/
theorem xe_learn {post : SX → Prop} (hT : tm_i M tm T) (hS : S < 32) (ne : ∃ w, fd_ok S (fd_al M T) w) (kl : kn = 0 ∨ kl_i M S T lt bm)
    (H : ∀ db' lk' rs' cs' kn' lt' op' rj' rp' cp' ro' cf' sl' re' bm', kl_i M S T lt' bm' → post (nI M, nI S, db', lk', rs', cs', kn', lt', tm, op', rj', rp', cp', ro', cf', sl', re', bm')) : wpX_learn post (nI M, nI S, db, lk, rs, cs, kn, lt, tm, op, rj, rp, cp, ro, cf, sl, re, bm) := by
  have M3 := hT.2.1
  by_cases k : kn = 0
  · refine br_t k (xk_ask M3 (fun j m hj hm => (hT.2.2 j m hj hm).1) (fun op' hop => ?_))
    refine xm_total hS (Nat.le_refl 4) (xq_mk (al := fd_al M T) hT hop (fun i k hi hk a => fd_al_iff.mp a) (fun k hk => xq_m1 M3 hk)) (fun r rs' cs' rj' rp' cp' ro' cf' sl' re' hr => ⟨6, ?_⟩)
    have L0 : 0 ≤ r.toInt := by
      rcases hr with ⟨_, n⟩ | ⟨w, o, e, _⟩
      · obtain ⟨w, o⟩ := ne
        exact absurd o (n w)
      · rw [e]
        refine (fd_tot_b (fun j hj sj => ?_)).1
        have a := fd_al_iff.mp ((o j hj).2.1 sj)
        have c := hT.2.2 j (w j) hj (by omega)
        omega
    refine xe_31 hT hS L0 (fun rs2 cs2 op2 rj2 rp2 cp2 ro2 cf2 sl2 re2 bm2 hk => H _ _ rs2 cs2 _ _ op2 rj2 rp2 cp2 ro2 cf2 sl2 re2 bm2 hk) 6 0 (fun _ => 0) rs' cs' op' rj' rp' cp' ro' cf' sl' re' bm (by omega) (by omega) (ln_0 hr ne) (fun i hi => xo_c (hop i hi) (fun k hk => ?_)) (fun i hi => by omega)
    unfold ln_o
    rw [decide_eq_true (Nat.zero_le i)]
    exact (Bool.and_true _).symm
  · refine br_f k (H _ _ _ _ _ _ _ _ _ _ _ _ _ _ _ ?_)
    rcases kl with q | q
    · exact absurd q k
    · exact q
end
end
section
/-! further loops of both sides -/
theorem fd_fin_j {S : Nat} {T : Nat → Nat → Int} {w : Nat → Nat} {j : Nat} (hj : j < 5) : sm_s (fun i => if i = j then T j (w j) else if fd_bf S T w i j = true then T i (w i) else 0) 5 = fd_fin S T w j := by
  unfold fd_fin
  have a : sm_s (fun i => if i = j then T j (w j) else 0) 5 = T j (w j) := by
    rw [sm_one (k := j) hj (fun i _ n => if_neg n)]
    exact if_pos rfl
  rw [← a, ← sm_add]
  refine sm_ext (fun i _ => ?_)
  by_cases e : i = j
  · rw [if_pos e, if_pos e, if_neg (fun q => (fd_bf_iff.mp q).2.1 e)]; omega
  · rw [if_neg e, if_neg e]; omega
section
variable {mc ps db lk rs cs kn lt : Int32} {tm op rj rp cp ro cf sl re bm : Nat → Int32} {S M : Nat} {T : Nat → Nat → Int} {j : Nat}
theorem xn_38 {post : Int32 → SX → Prop} {w : Nat → Nat} (hT : tm_i M tm T) (hS : S < 32) (hj : j < 5) (sj : S.testBit j = true) (hw : ∀ i, i < 5 → S.testBit i = true → w i < M ∧ bm i = nI (w i)) (H : ∀ V : Int32, V.toInt = fd_fin S T w j → post V (nI M, nI S, db, lk, rs, cs, kn, lt, tm, op, rj, rp, cp, ro, cf, sl, re, bm)) :
    ∀ n i (V : Int32), i ≤ 5 → 6 ≤ n + i → V.toInt = sm_s (fun i => if i = j then T j (w j) else if fd_bf S T w i j = true then T i (w i) else 0) i → 0 ≤ V.toInt ∧ V.toInt ≤ 15 * (i : Int) → wX_finishOf_38 post (nI j) (nI (w j)) (tm (3 * j + w j)) (nI M) (nI S) db lk rs cs kn lt tm op rj rp cp ro cf sl re bm n V (nI i) := by
  intro n
  obtain ⟨M1, M3, ht⟩ := hT
  induction n with
  | zero => intro i V hi hn; omega
  | succ n ih =>
    intro i V hi hn hV hb
    by_cases e : i = 5
    · subst e
      exact br_t (nI_le (a := 5) (by omega) (by omega)) (H V (by rw [hV]; exact fd_fin_j hj))
    · have i5 : i < 5 := by omega
      have ei : (nI i).toNatClampNeg = i := nI_clamp (by omega)
      have st : sm_s (fun i => if i = j then T j (w j) else if fd_bf S T w i j = true then T i (w i) else 0) (i + 1) = sm_s (fun i => if i = j then T j (w j) else if fd_bf S T w i j = true then T i (w i) else 0) i + (if i = j then T j (w j) else if fd_bf S T w i j = true then T i (w i) else 0) := rfl
      have no : (i ≠ j ∧ ¬ fd_bf S T w i j = true) → wX_finishOf_38 post (nI j) (nI (w j)) (tm (3 * j + w j)) (nI M) (nI S) db lk rs cs kn lt tm op rj rp cp ro cf sl re bm n V (nI (i + 1)) := fun z => ih (i + 1) V (by omega) (by omega) (by rw [st, if_neg z.1, if_neg z.2]; omega) (by omega)
      refine br_f (nI_ge (b := 5) (by omega) (by omega)) ?_
      cases s : S.testBit i with
      | false =>
        refine xh_0 hS (hs_no i5 s) (br_t rfl (nm_r (nI_1 i) (no ⟨fun q => ?_, fun q => ?_⟩)))
        · rw [q, sj] at s; exact absurd s (by decide)
        · rw [(fd_bf_iff.mp q).1] at s; exact absurd s (by decide)
      | true =>
        obtain ⟨wi, bi⟩ := hw i i5 s
        obtain ⟨wj, _⟩ := hw j hj sj
        refine xh_1 hS i5 s (br_f (by decide) ⟨vp_in_nI i5 (by omega), ?_⟩)
        rw [ei, bi]
        by_cases ww : w i = w j
        · refine br_t (by rw [ww]) ?_
          rw [tb_3]
          refine ⟨vp_in_nI (by omega) (by omega), nm_r (e' := tm (3 * i + w j)) (by rw [nI_clamp (by omega)]) ?_⟩
          have ti := ht i (w j) i5 (by omega)
          have tj := ht j (w j) hj (by omega)
          have go1 : (i = j ∨ (T i (w j) < T j (w j) ∨ (T i (w j) = T j (w j) ∧ i < j))) → wX_finishOf_100 post (wX_finishOf_38 post (nI j) (nI (w j)) (tm (3 * j + w j)) (nI M) (nI S) db lk rs cs kn lt tm op rj rp cp ro cf sl re bm n) (nI j) (nI (w j)) (tm (3 * j + w j)) V (nI i) (tm (3 * i + w j)) 1 (nI M) (nI S) db lk rs cs kn lt tm op rj rp cp ro cf sl re bm := fun z => by
            have ea : (V + tm (3 * i + w j)).toInt = V.toInt + T i (w j) := by rw [Jvm.Kit.i32_add (by omega) (by omega), ti.1]
            refine br_f (by decide) (nm_e (nm_r (nI_1 i) (ih (i + 1) _ (by omega) (by omega) ?_ (by omega))))
            rw [st, ea, hV]
            by_cases q : i = j
            · rw [if_pos q, q]
            · rw [if_neg q, if_pos (fd_bf_iff.mpr ⟨s, q, ww, by rw [ww]; omega⟩), ww]
          have go0 : i ≠ j → ¬ (T i (w j) < T j (w j) ∨ (T i (w j) = T j (w j) ∧ i < j)) → wX_finishOf_100 post (wX_finishOf_38 post (nI j) (nI (w j)) (tm (3 * j + w j)) (nI M) (nI S) db lk rs cs kn lt tm op rj rp cp ro cf sl re bm n) (nI j) (nI (w j)) (tm (3 * j + w j)) V (nI i) (tm (3 * i + w j)) 0 (nI M) (nI S) db lk rs cs kn lt tm op rj rp cp ro cf sl re bm := fun q z => br_t rfl (nm_r (Int32.add_zero V) (nm_r (nI_1 i) (no ⟨q, fun y => z (by
              have := (fd_bf_iff.mp y).2.2.2
              rw [ww] at this
              exact this)⟩)))
          refine tb_lt (fun h => ?_) (fun h => tb_eq (fun h2 => ?_) (fun h2 => ?_))
          · exact go1 (Or.inr (Or.inl (by omega)))
          · by_cases o : j < i
            · exact br_t (nI_lt o (by omega)) (go0 (by omega) (by omega))
            · exact br_f (nI_nlt (by omega) (by omega)) (go1 (by omega))
          · exact go0 (fun q => by subst q; exact h2 rfl) (by omega)
        · refine br_f (fun q => ww ((nI_eq (by omega) (by omega)).mp q)) (nm_r (nI_1 i) (no ⟨fun q => ww (by rw [q]), fun q => ww (fd_bf_iff.mp q).2.2.1⟩))
/-- leastIdle closes machine d to all jobs -/
theorem xd_16 {post : Int32 → SX → Prop} {d : Nat} (hT : tm_i M tm T) (hd : d < M) (hS : S < 32)
    (H : ∀ (r : Int32) rs' cs' op' rj' rp' cp' ro' cf' sl' re', fd_lst S T (fun j m => fd_al M T j m && decide (m ≠ d)) r.toInt → post r (nI M, nI S, -1, -1, rs', cs', kn, lt, tm, op', rj', rp', cp', ro', cf', sl', re', bm)) :
    ∀ n j op, j ≤ 5 → 6 ≤ n + j → (∀ i, i < 5 → j ≤ i → xo_i (op i) (fd_al M T i)) → (∀ i, i < j → xo_i (op i) (fun m => fd_al M T i m && decide (m ≠ d))) → wX_leastIdle_16 post (nI d) (nI M) (nI S) (-1) (-1) rs cs kn lt n (nI j) tm op rj rp cp ro cf sl re bm := by
  intro n
  have M3 := hT.2.1
  induction n with
  | zero => intro j op hj hn; omega
  | succ n ih =>
    intro j op hj hn h1 h2
    by_cases e : j = 5
    · subst e
      refine br_t (nI_le (a := 5) (by omega) (by omega)) (xm_total hS (Nat.le_refl 4) (xq_mk (al := fun j m => fd_al M T j m && decide (m ≠ d)) hT h2 (fun i k hi hk a => ?_) (fun k hk => xq_m1 M3 hk)) (fun r rs' cs' rj' rp' cp' ro' cf' sl' re' hr => H r rs' cs' op rj' rp' cp' ro' cf' sl' re' hr))
      rw [Bool.and_eq_true] at a
      exact fd_al_iff.mp a.1
    · have ej : (nI j).toNatClampNeg = j := nI_clamp (by omega)
      have hin : vp_in (nI j) 5 := vp_in_nI (by omega) (by omega)
      obtain ⟨O, h8, eO, hO⟩ := h1 j (by omega) (Nat.le_refl _)
      have t := tb_no O h8 d (by omega)
      refine br_f (nI_ge (b := 5) (by omega) (by omega)) ⟨hin, hin, nm_r (e' := upd op j (nI (O &&& (7 - 2 ^ d)))) (by rw [ej, eO, t.1, tb_nbb (by omega)]) (nm_r (nI_1 j) (ih (j + 1) _ (by omega) (by omega) (fun i hi hji => ?_) (fun i hi => ?_)))⟩
      · rw [pk_un (by omega)]; exact h1 i hi (by omega)
      · by_cases q : i = j
        · rw [q, pk_us]
          exact ⟨_, t.2.1, rfl, fun k hk => by rw [t.2.2 k hk, hO k hk]⟩
        · rw [pk_un q]; exact h2 i (by omega)
/-- add: the first free job -/
theorem xj_68 {post : Int32 → SX → Prop} {x1 x4 x5 : Int32} (hS : S < 32) (hj : j < 5) (hb : ∀ i, i < j → S.testBit i = true) (s : S.testBit j = false) (a1 : vp_nar .byte x1.toInt8.toInt32 = x1) (a4 : vp_nar .byte x4.toInt8.toInt32 = x4) (a5 : vp_nar .byte x5.toInt8.toInt32 = x5) (H : post (nI j) (mc, nI (S ||| 2 ^ j), db, lk, rs, cs, 0, lt, upd (upd (upd tm (3 * j) x1) (3 * j + 1) x4) (3 * j + 2) x5, op, rj, rp, cp, ro, cf, sl, re, bm)) :
    ∀ n i, i ≤ j → 6 ≤ n + i → wX_add_68 post x1 x4 x5 mc (nI S) db lk rs cs kn lt tm op rj rp cp ro cf sl re bm n (nI i) := by
  intro n
  induction n with
  | zero => intro i hi hn; omega
  | succ n ih =>
    intro i hi hn
    refine br_f (nI_ge (b := 5) (by omega) (by omega)) ?_
    by_cases e : i = j
    · subst e
      refine xh_0 hS (hs_no hj s) (br_t rfl (nm_r (tb_or S hS i hj).1 ?_))
      rw [tb_31, tb_32, tb_30]
      refine ⟨vp_in_nI (by omega) (by omega), nm_r (e' := upd tm (3 * i) x1) (by rw [a1, nI_clamp (by omega)]) ⟨vp_in_nI (by omega) (by omega), nm_r (e' := upd (upd tm (3 * i) x1) (3 * i + 1) x4) (by rw [a4, nI_clamp (by omega)]) ⟨vp_in_nI (by omega) (by omega), nm_r (e' := upd (upd (upd tm (3 * i) x1) (3 * i + 1) x4) (3 * i + 2) x5) (by rw [a5, nI_clamp (by omega)]) H⟩⟩⟩
    · exact xh_1 hS (by omega) (hb i (by omega)) (br_f (by decide) (nm_r (nI_1 i) (ih (i + 1) (by omega) (by omega))))
theorem xj_full {post : Int32 → SX → Prop} {x1 x4 x5 : Int32} (hS : S < 32) (hb : ∀ i, i < 5 → S.testBit i = true) (H : post (-2) (mc, nI S, db, lk, rs, cs, kn, lt, tm, op, rj, rp, cp, ro, cf, sl, re, bm)) :
    ∀ n i, i ≤ 5 → 6 ≤ n + i → wX_add_68 post x1 x4 x5 mc (nI S) db lk rs cs kn lt tm op rj rp cp ro cf sl re bm n (nI i) := by
  intro n
  induction n with
  | zero => intro i hi hn; omega
  | succ n ih =>
    intro i hi hn
    by_cases e : i = 5
    · subst e
      exact br_t (nI_le (a := 5) (by omega) (by omega)) H
    · exact br_f (nI_ge (b := 5) (by omega) (by omega)) (xh_1 hS (by omega) (hb i (by omega)) (br_f (by decide) (nm_r (nI_1 i) (ih (i + 1) (by omega) (by omega)))))
end
section
variable {cw aw mu mb : Int32} {th ti on : Nat → Int32} {S : Nat} {j : Nat}
theorem yj_89 {post : Int32 → SY → Prop} {x4 x5 x6 : Int32} (ht : ∀ j, j < 5 → th j = if S.testBit j = true then 1 else 0) (hj : j < 5) (hb : ∀ i, i < j → S.testBit i = true) (s : S.testBit j = false) (H : post (nI j) (cw, aw, mu, mb, upd th j 1, upd (upd (upd ti (4 * j) x4) (4 * j + 1) x5) (4 * j + 2) x6, on)) :
    ∀ n i, i ≤ j → 6 ≤ n + i → wY_add_89 post x4 x5 x6 cw aw mu mb th ti on n (nI i) := by
  intro n
  induction n with
  | zero => intro i hi hn; omega
  | succ n ih =>
    intro i hi hn
    have ei : (nI i).toNatClampNeg = i := nI_clamp (by omega)
    have hin : vp_in (nI i) 5 := vp_in_nI (by omega) (by omega)
    refine br_f (nI_ge (b := 5) (by omega) (by omega)) ⟨hin, ?_⟩
    rw [ei, ht i (by omega)]
    by_cases e : i = j
    · subst e
      rw [s, tb_41, tb_42, tb_40]
      refine br_t rfl ⟨hin, nm_r (e' := upd th i 1) (by rw [tb_1]) ⟨vp_in_nI (by omega) (by omega), nm_r (e' := upd ti (4 * i) x4) (by rw [nI_clamp (by omega)]) ⟨vp_in_nI (by omega) (by omega), nm_r (e' := upd (upd ti (4 * i) x4) (4 * i + 1) x5) (by rw [nI_clamp (by omega)]) ⟨vp_in_nI (by omega) (by omega), nm_r (e' := upd (upd (upd ti (4 * i) x4) (4 * i + 1) x5) (4 * i + 2) x6) (by rw [nI_clamp (by omega)]) H⟩⟩⟩⟩
    · rw [if_pos (hb i (by omega))]
      exact br_f (by decide) (nm_r (nI_1 i) (ih (i + 1) (by omega) (by omega)))
theorem yj_full {post : Int32 → SY → Prop} {x4 x5 x6 : Int32} (ht : ∀ j, j < 5 → th j = if S.testBit j = true then 1 else 0) (hb : ∀ i, i < 5 → S.testBit i = true) (H : post (-2) (cw, aw, mu, mb, th, ti, on)) :
    ∀ n i, i ≤ 5 → 6 ≤ n + i → wY_add_89 post x4 x5 x6 cw aw mu mb th ti on n (nI i) := by
  intro n
  induction n with
  | zero => intro i hi hn; omega
  | succ n ih =>
    intro i hi hn
    by_cases e : i = 5
    · subst e
      exact br_t (nI_le (a := 5) (by omega) (by omega)) H
    · have ei : (nI i).toNatClampNeg = i := nI_clamp (by omega)
      refine br_f (nI_ge (b := 5) (by omega) (by omega)) ⟨vp_in_nI (by omega) (by omega), ?_⟩
      rw [ei, ht i (by omega), if_pos (hb i (by omega))]
      exact br_f (by decide) (nm_r (nI_1 i) (ih (i + 1) (by omega) (by omega)))
theorem tb_same : ∀ A, A < 32 → ∀ B, B < 32 → (∀ i, i < 5 → A.testBit i = B.testBit i) → A = B := by decide +kernel
theorem yb_4 {post : Int32 → Prop} (hS : S < 32) (ht : ∀ j, j < 5 → th j = if S.testBit j = true then 1 else 0) (H : post (nI S)) :
    ∀ n j A, j ≤ 5 → 6 ≤ n + j → A < 32 → (∀ i, i < 5 → A.testBit i = (S.testBit i && decide (i < j))) → wY_jobs_4 post cw aw mu mb th ti on n (nI A) (nI j) := by
  intro n
  induction n with
  | zero => intro j A hj hn; omega
  | succ n ih =>
    intro j A hj hn hA hb
    by_cases e : j = 5
    · subst e
      have q : A = S := tb_same A hA S hS (fun i hi => by rw [hb i hi, decide_eq_true hi, Bool.and_true])
      rw [q]
      exact br_t (nI_le (a := 5) (by omega) (by omega)) H
    · have ej : (nI j).toNatClampNeg = j := nI_clamp (by omega)
      refine br_f (nI_ge (b := 5) (by omega) (by omega)) ⟨vp_in_nI (by omega) (by omega), ?_⟩
      rw [ej, ht j (by omega)]
      have t := tb_or A hA j (by omega)
      cases s : S.testBit j with
      | false =>
        refine br_t rfl (nm_r (e' := nI A) (Int32.or_zero) (nm_r (nI_1 j) (ih (j + 1) A (by omega) (by omega) hA (fun i hi => ?_))))
        rw [hb i hi]
        by_cases q : i = j
        · rw [q, s]; rfl
        · by_cases y : i < j
          · rw [decide_eq_true y, decide_eq_true (show i < j + 1 by omega)]
          · rw [decide_eq_false y, decide_eq_false (show ¬ i < j + 1 by omega)]
      | true =>
        refine br_f (by rw [if_pos rfl]; decide) (nm_r t.1 (nm_r (nI_1 j) (ih (j + 1) _ (by omega) (by omega) t.2.1 (fun i hi => ?_))))
        rw [t.2.2 i hi, hb i hi]
        by_cases q : i = j
        · rw [q, s, decide_eq_true rfl, decide_eq_true (show j < j + 1 by omega)]
          cases decide (j < j) <;> rfl
        · rw [decide_eq_false q]
          by_cases y : i < j
          · rw [decide_eq_true y, decide_eq_true (show i < j + 1 by omega), Bool.or_false]
          · rw [decide_eq_false y, decide_eq_false (show ¬ i < j + 1 by omega), Bool.or_false]
/-- leastDoubled copies machine d's times to machine 3 -/
theorem yd_12 {post : Int32 → SY → Prop} {d : Nat} (hd : d < 3)
    (H : ∀ ti', (∀ j, j < 5 → ti' (4 * j + 3) = ti (4 * j + d) ∧ ∀ m, m < 3 → ti' (4 * j + m) = ti (4 * j + m)) → wpY_all (fun r => wpY_leastOf (fun r' u => match u with | (cw, aw, mu, mb, th, ti, on) => post r' (cw, aw, mu, mb, th, ti, on)) (cw, aw, mu, mb, th, ti', on) (r ||| 8) (-1) 0) (cw, aw, mu, mb, th, ti', on)) :
    ∀ n j ti', j ≤ 5 → 6 ≤ n + j → (∀ i, i < j → ti' (4 * i + 3) = ti (4 * i + d)) → (∀ i m, i < 5 → m < 3 → ti' (4 * i + m) = ti (4 * i + m)) → wY_leastDoubled_12 post (nI d) cw aw mu mb n (nI j) th ti' on := by
  intro n
  induction n with
  | zero => intro j ti' hj hn; omega
  | succ n ih =>
    intro j ti' hj hn h1 h2
    by_cases e : j = 5
    · subst e
      exact br_t (nI_le (a := 5) (by omega) (by omega)) (H ti' (fun i hi => ⟨h1 i hi, fun m hm => h2 i m hi hm⟩))
    · refine br_f (nI_ge (b := 5) (by omega) (by omega)) ?_
      rw [tb_4, tb_43]
      refine ⟨vp_in_nI (by omega) (by omega), vp_in_nI (by omega) (by omega), nm_r (e' := upd ti' (4 * j + 3) (ti (4 * j + d))) (by rw [nI_clamp (by omega), nI_clamp (by omega), h2 j d (by omega) hd]) (nm_r (nI_1 j) (ih (j + 1) _ (by omega) (by omega) (fun i hi => ?_) (fun i m hi hm => ?_)))⟩
      · by_cases q : i = j
        · rw [q, pk_us]
        · rw [pk_un (by omega)]; exact h1 i (by omega)
      · rw [pk_un (by omega)]; exact h2 i m hi hm
end
end
section
/-! the relation -/
def ty_i (ti : Nat → Int32) (j m : Nat) : Int := (ti (4 * j + m)).toInt
def rf_i (M S : Nat) (tm th ti : Nat → Int32) : Prop :=
  (1 ≤ M ∧ M ≤ 3 ∧ S < 32) ∧
  (∀ j, j < 5 → th j = if S.testBit j = true then 1 else 0) ∧
  (∀ j m, j < 5 → m < 4 → 0 ≤ ty_i ti j m ∧ ty_i ti j m ≤ 15) ∧
  (∀ j m, j < 5 → m < 3 → tm (3 * j + m) = ti (4 * j + m)) ∧
  (∀ j m, j < 5 → m < 3 → M ≤ m → ty_i ti j m = 0) ∧
  (∀ j, j < 5 → S.testBit j = true → ∃ m, m < M ∧ 0 < ty_i ti j m)
def rl_i (mc ps kn lt : Int32) (tm bm : Nat → Int32) (cw : Int32) (th ti : Nat → Int32) : Prop :=
  ∃ M S, mc = nI M ∧ cw = nI M ∧ ps = nI S ∧ rf_i M S tm th ti ∧ (kn = 0 ∨ kl_i M S (ty_i ti) lt bm)
/-- the same machines, jobs and times; and what the component remembers is the first of the best ways -/
def i_Rel (k : Nat) (u : SX) (v : SY) : Prop := match u, v with
  | (mc, ps, db, lk, rs, cs, kn, lt, tm, op, rj, rp, cp, ro, cf, sl, re, bm), (cw, aw, mu, mb, th, ti, on) => rl_i mc ps kn lt tm bm cw th ti
theorem i_up {k : Nat} {u : SX} {v : SY} (h : i_Rel k u v) : i_Rel (k + 4) u v := h
theorem rl_in {k M S : Nat} {db lk rs cs kn lt : Int32} {tm op rj rp cp ro cf sl re bm : Nat → Int32} {aw mu mb : Int32} {th ti on : Nat → Int32} (F : rf_i M S tm th ti) (K : kn = 0 ∨ kl_i M S (ty_i ti) lt bm) : i_Rel k (nI M, nI S, db, lk, rs, cs, kn, lt, tm, op, rj, rp, cp, ro, cf, sl, re, bm) (nI M, aw, mu, mb, th, ti, on) := ⟨M, S, rfl, rfl, rfl, F, K⟩
theorem rl_el {P : SX → SY → Prop} {k : Nat} {u : SX} {v : SY} (I : i_Rel k u v) (h : ∀ (M S : Nat) (mc ps db lk rs cs kn lt : Int32) (tm op rj rp cp ro cf sl re bm : Nat → Int32) (cw aw mu mb : Int32) (th ti on : Nat → Int32), rf_i M S tm th ti → (kn = 0 ∨ kl_i M S (ty_i ti) lt bm) → P (nI M, nI S, db, lk, rs, cs, kn, lt, tm, op, rj, rp, cp, ro, cf, sl, re, bm) (nI M, aw, mu, mb, th, ti, on)) : P u v := by
  obtain ⟨mc, ps, db, lk, rs, cs, kn, lt, tm, op, rj, rp, cp, ro, cf, sl, re, bm⟩ := u
  obtain ⟨cw, aw, mu, mb, th, ti, on⟩ := v
  obtain ⟨M, S, rfl, rfl, rfl, F, K⟩ := I
  exact h M S (nI M) (nI S) db lk rs cs kn lt tm op rj rp cp ro cf sl re bm (nI M) aw mu mb th ti on F K
section
variable {M S : Nat} {tm th ti : Nat → Int32}
theorem rf_tm (F : rf_i M S tm th ti) : tm_i M tm (ty_i ti) := by
  obtain ⟨⟨M1, M3, S32⟩, ht, hb, he, hz, hp⟩ := F
  refine ⟨M1, M3, fun j m hj hm => ⟨?_, hb j m hj (by omega)⟩⟩
  rw [he j m hj hm]; rfl
theorem rf_ne (F : rf_i M S tm th ti) : ∃ w, fd_ok S (fd_al M (ty_i ti)) w := by
  obtain ⟨⟨M1, M3, S32⟩, ht, hb, he, hz, hp⟩ := F
  have sk : ∀ j, ∃ m, j < 5 → S.testBit j = true → m < M ∧ 0 < ty_i ti j m := fun j => by
    by_cases z : j < 5 ∧ S.testBit j = true
    · obtain ⟨m, h⟩ := hp j z.1 z.2
      exact ⟨m, fun _ _ => h⟩
    · exact ⟨0, fun a b => absurd ⟨a, b⟩ z⟩
  obtain ⟨f, hf⟩ := Classical.skolem.mp sk
  refine ⟨fun j => if S.testBit j = true then f j else 0, fun j hj => ?_⟩
  cases s : S.testBit j with
  | false =>
    (try dsimp only)
    rw [s]
    exact ⟨show (0 : Nat) < 4 by decide, fun q => absurd q (by decide), fun _ => rfl⟩
  | true =>
    have h := hf j hj s
    (try dsimp only)
    rw [s, if_pos rfl]
    exact ⟨by omega, fun _ => fd_al_iff.mpr h, fun q => absurd q (by decide)⟩
theorem yq_mk {A : Nat} {mu mb : Int32} {al : Nat → Nat → Bool} (ht : ∀ j, j < 5 → th j = if S.testBit j = true then 1 else 0) (hb : ∀ j m, j < 5 → m < 4 → 0 ≤ ty_i ti j m ∧ ty_i ti j m ≤ 15) (hA : A < 16) (hal : ∀ j m, j < 5 → m < 4 → (al j m = true ↔ 0 < ty_i ti j m ∧ A.testBit m = true ∧ (nI j = mu → nI m = mb))) : yq_i S (nI A) mu mb th ti al (ty_i ti) := by
  refine ⟨ht, fun j m hj hm => ⟨rfl, (hb j m hj hm).1, (hb j m hj hm).2, ?_⟩⟩
  rw [hal j m hj hm, tb_b1 A hA m hm]
theorem tb_ne1 {j : Nat} (hj : j < 5) : ¬ nI j = (-1 : Int32) := fun e => by
  have := congrArg Int32.toInt e
  rw [nI_toInt (by omega), show (-1 : Int32).toInt = -1 by decide] at this
  omega
theorem rf_yq (F : rf_i M S tm th ti) : yq_i S (nI (2 ^ M - 1)) (-1) 0 th ti (fd_al M (ty_i ti)) (ty_i ti) := by
  obtain ⟨⟨M1, M3, S32⟩, ht, hb, he, hz, hp⟩ := F
  have t := tb_all M (by omega)
  refine yq_mk ht hb (by omega) (fun j m hj hm => ?_)
  rw [t.2.2 m hm, decide_eq_true_eq, fd_al_iff]
  exact ⟨fun h => ⟨h.2, h.1, fun e => absurd e (tb_ne1 hj)⟩, fun h => ⟨h.2.1, h.1⟩⟩
end
theorem rl_0 {k M : Nat} (M1 : 1 ≤ M) (M3 : M ≤ 3) : i_Rel k (nI M, 0, 0, 0, 0, 0, 0, 0, (fun _ => 0), (fun _ => 0), (fun _ => 0), (fun _ => 0), (fun _ => 0), (fun _ => 0), (fun _ => 0), (fun _ => 0), (fun _ => 0), (fun _ => 0)) (nI M, 0, 0, 0, (fun _ => 0), (fun _ => 0), (fun _ => 0)) := by
  have z0 : ∀ j m, ty_i (fun _ => 0) j m = 0 := fun j m => (by decide : (0 : Int32).toInt = 0)
  refine ⟨M, 0, rfl, rfl, rfl, ⟨⟨M1, M3, by omega⟩, fun j _ => ?_, fun j m _ _ => ?_, fun j m _ _ => rfl, fun j m _ _ _ => z0 j m, fun j _ q => ?_⟩, Or.inl rfl⟩
  · rw [Nat.zero_testBit]; rfl
  · rw [z0]; decide
  · rw [Nat.zero_testBit] at q; exact absurd q (by decide)
theorem i_vc0 (k0 : Int32) : wpX_init (fun u => wpY_init (fun v => i_Rel 1 u v) k0) k0 := by
  by_cases h1 : 1 ≤ k0
  · by_cases h3 : k0 ≤ 3
    · obtain ⟨M, hM, rfl⟩ := nI_of2 (x := k0) (M := 3) (n := 3) (by decide) (fun z => by
        rw [Int32.lt_iff_toInt_lt, show (0 : Int32).toInt = 0 by decide] at z
        rw [Int32.le_iff_toInt_le, show (1 : Int32).toInt = 1 by decide] at h1
        omega) h3
      have M1 : 1 ≤ M := (nI_leI (a := 1) (by omega) (by omega)).mp h1
      exact br_t h1 (br_t h3 (br_t h1 (br_t h3 (rl_0 M1 hM))))
    · exact br_t h1 (br_f h3 (br_t h1 (br_f h3 (rl_0 (M := 3) (by omega) (by omega)))))
  · exact br_f h1 (br_f h1 (rl_0 (M := 1) (by omega) (by omega)))
end
section
/-! add, remove, setTime, jobs, time -/
theorem xt_t1 {post : Int32 → Prop} {v : Int32} (h : 0 ≤ v.toInt ∧ v.toInt ≤ 15) (p : post 1) : wpX_isTime post v := by
  have z0 : (0 : Int32).toInt = 0 := by decide
  have z15 : (15 : Int32).toInt = 15 := by decide
  exact tb_lt (fun q => by omega) (fun _ => tb_lt (fun q => by omega) (fun _ => p))
theorem xt_t0 {post : Int32 → Prop} {v : Int32} (h : ¬ (0 ≤ v.toInt ∧ v.toInt ≤ 15)) (p : post 0) : wpX_isTime post v := by
  have z0 : (0 : Int32).toInt = 0 := by decide
  have z15 : (15 : Int32).toInt = 15 := by decide
  exact tb_lt (fun q => p) (fun _ => tb_lt (fun q => p) (fun _ => by omega))
def av_i (a b c : Int32) : Prop := (0 ≤ a.toInt ∧ a.toInt ≤ 15) ∧ (0 ≤ b.toInt ∧ b.toInt ≤ 15) ∧ (0 ≤ c.toInt ∧ c.toInt ≤ 15) ∧ ¬ (a = 0 ∧ b = 0 ∧ c = 0)
section
variable {mc ps db lk rs cs kn lt : Int32} {tm op rj rp cp ro cf sl re bm : Nat → Int32} {post : Int32 → SX → Prop} {M : Nat} {v1 v2 v3 a b c : Int32}
theorem xa_in (M1 : 1 ≤ M) (M3 : M ≤ 3) (h : wX_add_28 post v1 (if M ≤ 1 then 0 else v2) (if M ≤ 2 then 0 else v3) (nI M) ps db lk rs cs kn lt tm op rj rp cp ro cf sl re bm) : wpX_add post (nI M, ps, db, lk, rs, cs, kn, lt, tm, op, rj, rp, cp, ro, cf, sl, re, bm) v1 v2 v3 := by
  by_cases p : M ≤ 1
  · rw [if_pos p, if_pos (by omega)] at h
    exact br_t (nI_le (b := 1) p (by omega)) (br_t (nI_le (b := 2) (by omega) (by omega)) h)
  · rw [if_neg p] at h
    refine br_f (nI_ge (a := 1) (by omega) (by omega)) ?_
    by_cases q : M ≤ 2
    · rw [if_pos q] at h
      exact br_t (nI_le (b := 2) q (by omega)) h
    · rw [if_neg q] at h
      exact br_f (nI_ge (a := 2) (by omega) (by omega)) h
theorem xa_ok (A : av_i a b c) (h : ∃ n, wX_add_68 post a b c mc ps db lk rs cs kn lt tm op rj rp cp ro cf sl re bm n 0) : wX_add_28 post a b c mc ps db lk rs cs kn lt tm op rj rp cp ro cf sl re bm := by
  refine xt_t1 A.1 (br_f (by decide) (xt_t1 A.2.1 (br_f (by decide) (xt_t1 A.2.2.1 (br_f (by decide) (br_f ?_ h))))))
  rw [Int32.or_eq_zero_iff, Int32.or_eq_zero_iff]
  exact fun z => A.2.2.2 ⟨z.1.1, z.1.2, z.2⟩
theorem xa_bad (A : ¬ av_i a b c) (h : post (-1) (mc, ps, db, lk, rs, cs, kn, lt, tm, op, rj, rp, cp, ro, cf, sl, re, bm)) : wX_add_28 post a b c mc ps db lk rs cs kn lt tm op rj rp cp ro cf sl re bm := by
  by_cases ha : 0 ≤ a.toInt ∧ a.toInt ≤ 15
  · refine xt_t1 ha (br_f (by decide) ?_)
    by_cases hb : 0 ≤ b.toInt ∧ b.toInt ≤ 15
    · refine xt_t1 hb (br_f (by decide) ?_)
      by_cases hc : 0 ≤ c.toInt ∧ c.toInt ≤ 15
      · refine xt_t1 hc (br_f (by decide) (br_c (fun _ => h) (fun z => absurd ⟨ha, hb, hc, fun q => z ?_⟩ A)))
        rw [Int32.or_eq_zero_iff, Int32.or_eq_zero_iff]
        exact ⟨⟨q.1, q.2.1⟩, q.2.2⟩
      · exact xt_t0 hc (br_t rfl h)
    · exact xt_t0 hb (br_t rfl h)
  · exact xt_t0 ha (br_t rfl h)
end
section
variable {cw aw mu mb : Int32} {th ti on : Nat → Int32} {post : Int32 → SY → Prop} {M : Nat} {v1 v2 v3 a b c : Int32}
theorem ya_in (M1 : 1 ≤ M) (M3 : M ≤ 3) (h : wY_add_31 post v1 (if M ≤ 1 then 0 else v2) (if M ≤ 2 then 0 else v3) (nI M) aw mu mb th ti on) : wpY_add post (nI M, aw, mu, mb, th, ti, on) v1 v2 v3 := by
  by_cases p : M ≤ 1
  · rw [if_pos p, if_pos (by omega)] at h
    exact br_t (nI_le (b := 1) p (by omega)) (br_t (nI_le (b := 2) (by omega) (by omega)) h)
  · rw [if_neg p] at h
    refine br_f (nI_ge (a := 1) (by omega) (by omega)) ?_
    by_cases q : M ≤ 2
    · rw [if_pos q] at h
      exact br_t (nI_le (b := 2) q (by omega)) h
    · rw [if_neg q] at h
      exact br_f (nI_ge (a := 2) (by omega) (by omega)) h
theorem ya_ok (A : av_i a b c) (h : ∃ n, wY_add_89 post a b c cw aw mu mb th ti on n 0) : wY_add_31 post a b c cw aw mu mb th ti on := by
  have z0 : (0 : Int32).toInt = 0 := by decide
  have z15 : (15 : Int32).toInt = 15 := by decide
  obtain ⟨h1, h2, h3, h4⟩ := A
  exact tb_lt (fun q => by omega) (fun _ => tb_lt (fun q => by omega) (fun _ => tb_lt (fun q => by omega) (fun _ => tb_lt (fun q => by omega) (fun _ => tb_lt (fun q => by omega) (fun _ => tb_lt (fun q => by omega) (fun _ => br_c (fun e1 => br_c (fun e2 => br_c (fun e3 => absurd ⟨e1, e2, e3⟩ h4) (fun _ => h)) (fun _ => h)) (fun _ => h)))))))
theorem ya_bad (A : ¬ av_i a b c) (h : post (-1) (cw, aw, mu, mb, th, ti, on)) : wY_add_31 post a b c cw aw mu mb th ti on := by
  have z0 : (0 : Int32).toInt = 0 := by decide
  have z15 : (15 : Int32).toInt = 15 := by decide
  exact tb_lt (fun q => h) (fun g1 => tb_lt (fun q => h) (fun g2 => tb_lt (fun q => h) (fun g3 => tb_lt (fun q => h) (fun g4 => tb_lt (fun q => h) (fun g5 => tb_lt (fun q => h) (fun g6 => br_c (fun e1 => br_c (fun e2 => br_c (fun e3 => h) (fun n => absurd ⟨by omega, by omega, by omega, fun y => n y.2.2⟩ A)) (fun n => absurd ⟨by omega, by omega, by omega, fun y => n y.2.1⟩ A)) (fun n => absurd ⟨by omega, by omega, by omega, fun y => n y.1⟩ A)))))))
end
theorem ad_j (S : Nat) : ∃ j, j ≤ 5 ∧ (∀ i, i < j → S.testBit i = true) ∧ (j < 5 → S.testBit j = false) := by
  have go : ∀ d j, j + d = 5 → (∀ i, i < j → S.testBit i = true) → ∃ j, j ≤ 5 ∧ (∀ i, i < j → S.testBit i = true) ∧ (j < 5 → S.testBit j = false) := by
    intro d
    induction d with
    | zero => intro j e h; exact ⟨j, by omega, h, fun q => by omega⟩
    | succ d ih =>
      intro j e h
      cases s : S.testBit j with
      | false => exact ⟨j, by omega, h, fun _ => s⟩
      | true => exact ih (j + 1) (by omega) (fun i hi => by
          by_cases q : i = j
          · rw [q]; exact s
          · exact h i (by omega))
  exact go 5 0 (by omega) (fun i hi => by omega)
theorem ad_r3 {f : Nat → Int32} {a b c : Int32} {i j m : Nat} (hm : m < 3) : upd (upd (upd f (3 * j) a) (3 * j + 1) b) (3 * j + 2) c (3 * i + m) = if i = j then (if m = 0 then a else if m = 1 then b else c) else f (3 * i + m) := by
  by_cases e : i = j
  · subst e
    rw [if_pos rfl]
    by_cases m0 : m = 0
    · subst m0
      rw [if_pos rfl, pk_un (by omega), pk_un (by omega)]; exact pk_us
    · by_cases m1 : m = 1
      · subst m1
        rw [if_neg m0, if_pos rfl, pk_un (by omega), pk_us]
      · have m2 : m = 2 := by omega
        subst m2
        rw [if_neg m0, if_neg m1, pk_us]
  · rw [if_neg e, pk_un (by omega), pk_un (by omega), pk_un (by omega)]
theorem ad_r4 {f : Nat → Int32} {a b c : Int32} {i j m : Nat} (hm : m < 4) : upd (upd (upd f (4 * j) a) (4 * j + 1) b) (4 * j + 2) c (4 * i + m) = if i = j then (if m = 0 then a else if m = 1 then b else if m = 2 then c else f (4 * i + m)) else f (4 * i + m) := by
  by_cases e : i = j
  · subst e
    rw [if_pos rfl]
    by_cases m0 : m = 0
    · subst m0
      rw [if_pos rfl, pk_un (by omega), pk_un (by omega)]; exact pk_us
    · by_cases m1 : m = 1
      · subst m1
        rw [if_neg m0, if_pos rfl, pk_un (by omega), pk_us]
      · by_cases m2 : m = 2
        · subst m2
          rw [if_neg m0, if_neg m1, if_pos rfl, pk_us]
        · rw [if_neg m0, if_neg m1, if_neg m2, pk_un (by omega), pk_un (by omega), pk_un (by omega)]
  · rw [if_neg e, pk_un (by omega), pk_un (by omega), pk_un (by omega)]
theorem rf_add {M S j : Nat} {tm th ti : Nat → Int32} {a b c : Int32} (F : rf_i M S tm th ti) (hj : j < 5) (A : av_i a b c) (hb : M ≤ 1 → b = 0) (hc : M ≤ 2 → c = 0) : rf_i M (S ||| 2 ^ j) (upd (upd (upd tm (3 * j) a) (3 * j + 1) b) (3 * j + 2) c) (upd th j 1) (upd (upd (upd ti (4 * j) a) (4 * j + 1) b) (4 * j + 2) c) := by
  obtain ⟨⟨M1, M3, S32⟩, ht, hbd, he, hz, hp⟩ := F
  obtain ⟨h1, h2, h3, h4⟩ := A
  have z0 : (0 : Int32).toInt = 0 := by decide
  have t := tb_or S S32 j hj
  refine ⟨⟨M1, M3, t.2.1⟩, fun i hi => ?_, fun i m hi hm => ?_, fun i m hi hm => ?_, fun i m hi hm hM => ?_, fun i hi si => ?_⟩
  · rw [t.2.2 i hi]
    by_cases e : i = j
    · rw [e, pk_us, decide_eq_true rfl, Bool.or_true, if_pos rfl]
    · rw [pk_un e, decide_eq_false e, Bool.or_false]; exact ht i hi
  · have q := hbd i m hi hm
    unfold ty_i at q ⊢
    rw [ad_r4 hm]
    split
    · split
      · exact h1
      · split
        · exact h2
        · split
          · exact h3
          · exact q
    · exact q
  · rw [ad_r3 hm, ad_r4 (by omega)]
    by_cases e : i = j
    · rw [if_pos e, if_pos e]
      by_cases m0 : m = 0
      · rw [if_pos m0, if_pos m0]
      · rw [if_neg m0, if_neg m0]
        by_cases m1 : m = 1
        · rw [if_pos m1, if_pos m1]
        · rw [if_neg m1, if_neg m1, if_pos (by omega)]
    · rw [if_neg e, if_neg e]; exact he i m hi hm
  · have q := hz i m hi hm hM
    unfold ty_i at q ⊢
    rw [ad_r4 (by omega)]
    by_cases e : i = j
    · rw [if_pos e, if_neg (by omega)]
      by_cases m1 : m = 1
      · rw [if_pos m1, hb (by omega)]; exact z0
      · rw [if_neg m1, if_pos (by omega), hc (by omega)]; exact z0
    · rw [if_neg e]; exact q
  · by_cases e : i = j
    · subst e
      have nz : ∀ x : Int32, 0 ≤ x.toInt → ¬ x = 0 → 0 < x.toInt := fun x p n => by
        have : x.toInt ≠ (0 : Int32).toInt := fun q => n (Int32.toInt_inj.mp q)
        omega
      unfold ty_i
      by_cases a0 : a = 0
      · by_cases b0 : b = 0
        · have c0 : ¬ c = 0 := fun q => h4 ⟨a0, b0, q⟩
          have M2 : ¬ M ≤ 2 := fun q => c0 (hc q)
          refine ⟨2, by omega, ?_⟩
          rw [ad_r4 (by omega), if_pos rfl]
          exact nz c h3.1 c0
        · have M2 : ¬ M ≤ 1 := fun q => b0 (hb q)
          refine ⟨1, by omega, ?_⟩
          rw [ad_r4 (by omega), if_pos rfl]
          exact nz b h2.1 b0
      · refine ⟨0, by omega, ?_⟩
        rw [ad_r4 (by omega), if_pos rfl]
        exact nz a h1.1 a0
    · rw [t.2.2 i hi, decide_eq_false e, Bool.or_false] at si
      obtain ⟨m, hm, q⟩ := hp i hi si
      refine ⟨m, hm, ?_⟩
      unfold ty_i at q ⊢
      rw [ad_r4 (by omega), if_neg e]
      exact q
theorem i_vc_add {k : Nat} {u : SX} {v : SY} (I : i_Rel k u v) (hk : k + 4 ≤ 2049) (v1 : Int32) (v2 : Int32) (v3 : Int32) : wpX_add (fun r u' => wpY_add (fun r' v' => r' = r ∧ i_Rel (k + 4) u' v') v v1 v2 v3) u v1 v2 v3 := by
  refine rl_el (P := fun u v => wpX_add (fun r u' => wpY_add (fun r' v' => r' = r ∧ i_Rel (k + 4) u' v') v v1 v2 v3) u v1 v2 v3) I ?_
  intro M S mc ps db lk rs cs kn lt tm op rj rp cp ro cf sl re bm cw aw mu mb th ti on F KL
  have M1 := F.1.1
  have M3 := F.1.2.1
  have hS := F.1.2.2
  refine xa_in M1 M3 ?_
  have hb : M ≤ 1 → (if M ≤ 1 then (0 : Int32) else v2) = 0 := fun q => if_pos q
  have hc : M ≤ 2 → (if M ≤ 2 then (0 : Int32) else v3) = 0 := fun q => if_pos q
  by_cases A : av_i v1 (if M ≤ 1 then 0 else v2) (if M ≤ 2 then 0 else v3)
  · obtain ⟨j, j5, jb, js⟩ := ad_j S
    refine xa_ok A ⟨6, ?_⟩
    by_cases e : j = 5
    · subst e
      refine xj_full hS jb ?_ 6 0 (by omega) (by omega)
      refine ya_in M1 M3 (ya_ok A ⟨6, yj_full F.2.1 jb ⟨rfl, rl_in F KL⟩ 6 0 (by omega) (by omega)⟩)
    · refine xj_68 hS (by omega) jb (js (by omega)) (tb_t A.1.1 A.1.2) (tb_t A.2.1.1 A.2.1.2) (tb_t A.2.2.1.1 A.2.2.1.2) ?_ 6 0 (by omega) (by omega)
      refine ya_in M1 M3 (ya_ok A ⟨6, yj_89 F.2.1 (by omega) jb (js (by omega)) ⟨rfl, rl_in (rf_add F (by omega) A hb hc) (Or.inl rfl)⟩ 6 0 (by omega) (by omega)⟩)
  · exact xa_bad A (ya_in M1 M3 (ya_bad A ⟨rfl, rl_in F KL⟩))
theorem rf_rem {M S j : Nat} {tm th ti : Nat → Int32} (F : rf_i M S tm th ti) (hj : j < 5) : rf_i M (S &&& (31 - 2 ^ j)) tm (upd th j 0) ti := by
  obtain ⟨⟨M1, M3, S32⟩, ht, hbd, he, hz, hp⟩ := F
  have t := tb_an S S32 j hj
  refine ⟨⟨M1, M3, t.2.1⟩, fun i hi => ?_, hbd, he, hz, fun i hi si => ?_⟩
  · rw [t.2.2 i hi]
    by_cases e : i = j
    · rw [e, pk_us, decide_eq_false (fun z => z rfl), Bool.and_false]; rfl
    · rw [pk_un e, decide_eq_true e, Bool.and_true]; exact ht i hi
  · rw [t.2.2 i hi, Bool.and_eq_true] at si
    exact hp i hi si.1
theorem i_vc_remove {k : Nat} {u : SX} {v : SY} (I : i_Rel k u v) (hk : k + 4 ≤ 2049) (v1 : Int32) : wpX_remove (fun r u' => wpY_remove (fun r' v' => r' = r ∧ i_Rel (k + 4) u' v') v v1) u v1 := by
  refine rl_el (P := fun u v => wpX_remove (fun r u' => wpY_remove (fun r' v' => r' = r ∧ i_Rel (k + 4) u' v') v v1) u v1) I ?_
  intro M S mc ps db lk rs cs kn lt tm op rj rp cp ro cf sl re bm cw aw mu mb th ti on F KL
  unfold wpX_remove wpY_remove
  (try dsimp only)
  have hS := F.1.2.2
  by_cases h : hs_i S v1
  · obtain ⟨j, hj, rfl, s⟩ := h
    refine xh_1 hS hj s (br_f (by decide) (nm_r (tb_an S hS j hj).1 ?_))
    refine yh_1 hj F.2.1 s (br_f (by decide) ⟨vp_in_nI hj (by omega), nm_r (e' := upd th j 0) (by rw [nI_clamp (by omega), tb_0]) ⟨rfl, rl_in (rf_rem F hj) (Or.inl rfl)⟩⟩)
  · exact xh_0 hS h (br_t rfl (yh_0 F.2.1 h (br_t rfl ⟨rfl, rl_in F KL⟩)))
theorem i_vc_jobs {k : Nat} {u : SX} {v : SY} (I : i_Rel k u v) (hk : k + 4 ≤ 2049) : wpX_jobs (fun r => wpY_jobs (fun r' => r' = r ∧ i_Rel (k + 4) u v) v) u := by
  refine rl_el (P := fun u v => wpX_jobs (fun r => wpY_jobs (fun r' => r' = r ∧ i_Rel (k + 4) u v) v) u) I ?_
  intro M S mc ps db lk rs cs kn lt tm op rj rp cp ro cf sl re bm cw aw mu mb th ti on F KL
  exact ⟨6, yb_4 F.1.2.2 F.2.1 ⟨rfl, rl_in F KL⟩ 6 0 0 (by omega) (by omega) (by omega) (fun i hi => by
    rw [Nat.zero_testBit, decide_eq_false (by omega), Bool.and_false])⟩
theorem i_vc_time {k : Nat} {u : SX} {v : SY} (I : i_Rel k u v) (hk : k + 4 ≤ 2049) (v1 : Int32) (v2 : Int32) : wpX_time (fun r => wpY_time (fun r' => r' = r ∧ i_Rel (k + 4) u v) v v1 v2) u v1 v2 := by
  refine rl_el (P := fun u v => wpX_time (fun r => wpY_time (fun r' => r' = r ∧ i_Rel (k + 4) u v) v v1 v2) u v1 v2) I ?_
  intro M S mc ps db lk rs cs kn lt tm op rj rp cp ro cf sl re bm cw aw mu mb th ti on F KL
  unfold wpX_time wpY_time
  (try dsimp only)
  have hS := F.1.2.2
  have M3 := F.1.2.1
  by_cases h : hs_i S v1
  · obtain ⟨j, hj, rfl, s⟩ := h
    refine xh_1 hS hj s (br_f (by decide) ?_)
    by_cases g : ∃ m, m < M ∧ v2 = nI m
    · obtain ⟨m, hm, rfl⟩ := g
      refine xg_1 M3 hm (br_f (by decide) ?_)
      rw [tb_3]
      refine ⟨vp_in_nI (by omega) (by omega), ?_⟩
      refine yh_1 hj F.2.1 s (br_f (by decide) (yg_1 M3 hm (br_f (by decide) ?_)))
      rw [tb_4]
      refine ⟨vp_in_nI (by omega) (by omega), ?_, rl_in F KL⟩
      rw [nI_clamp (by omega), nI_clamp (by omega), F.2.2.2.1 j m hj (by omega)]
    · exact xg_0 M3 g (br_t rfl (yh_1 hj F.2.1 s (br_f (by decide) (yg_0 M3 g (br_t rfl ⟨rfl, rl_in F KL⟩)))))
  · exact xh_0 hS h (br_t rfl (yh_0 F.2.1 h (br_t rfl ⟨rfl, rl_in F KL⟩)))
end
section
/-! setTime -/
theorem ud_back {f : Nat → Int32} {k : Nat} {x : Int32} : upd (upd f k x) k (f k) = f := by
  funext i
  by_cases e : i = k
  · rw [e, pk_us]
  · rw [pk_un e, pk_un e]
theorem rf_set {M S j m : Nat} {tm th ti : Nat → Int32} {t : Int32} (F : rf_i M S tm th ti) (hj : j < 5) (hm : m < M) (h0 : 0 ≤ t.toInt ∧ t.toInt ≤ 15) (hp' : ∃ m', m' < M ∧ 0 < ty_i (upd ti (4 * j + m) t) j m') : rf_i M S (upd tm (3 * j + m) t) th (upd ti (4 * j + m) t) := by
  obtain ⟨⟨M1, M3, S32⟩, ht, hbd, he, hz, hp⟩ := F
  refine ⟨⟨M1, M3, S32⟩, ht, fun i k hi hk => ?_, fun i k hi hk => ?_, fun i k hi hk hM => ?_, fun i hi si => ?_⟩
  · have q := hbd i k hi hk
    unfold ty_i at q ⊢
    by_cases e : 4 * i + k = 4 * j + m
    · rw [e, pk_us]; exact h0
    · rw [pk_un e]; exact q
  · by_cases e : i = j ∧ k = m
    · rw [e.1, e.2, pk_us, pk_us]
    · rw [pk_un (by omega), pk_un (by omega)]; exact he i k hi hk
  · have q := hz i k hi hk hM
    unfold ty_i at q ⊢
    rw [pk_un (by omega)]; exact q
  · by_cases e : i = j
    · rw [e]; exact hp'
    · obtain ⟨k, hk, q⟩ := hp i hi si
      refine ⟨k, hk, ?_⟩
      unfold ty_i at q ⊢
      rw [pk_un (by omega)]; exact q
theorem i_vc_setTime {k : Nat} {u : SX} {v : SY} (I : i_Rel k u v) (hk : k + 4 ≤ 2049) (v1 : Int32) (v2 : Int32) (v3 : Int32) : wpX_setTime (fun r u' => wpY_setTime (fun r' v' => r' = r ∧ i_Rel (k + 4) u' v') v v1 v2 v3) u v1 v2 v3 := by
  refine rl_el (P := fun u v => wpX_setTime (fun r u' => wpY_setTime (fun r' v' => r' = r ∧ i_Rel (k + 4) u' v') v v1 v2 v3) u v1 v2 v3) I ?_
  intro M S mc ps db lk rs cs kn lt tm op rj rp cp ro cf sl re bm cw aw mu mb th ti on F KL
  have hS := F.1.2.2
  have M1 := F.1.1
  have M3 := F.1.2.1
  have z0 : (0 : Int32).toInt = 0 := by decide
  have z15 : (15 : Int32).toInt = 15 := by decide
  unfold wpX_setTime wpY_setTime
  (try dsimp only)
  by_cases h : hs_i S v1
  · obtain ⟨j, hj, rfl, s⟩ := h
    refine xh_1 hS hj s (br_f (by decide) ?_)
    by_cases g : ∃ m, m < M ∧ v2 = nI m
    · obtain ⟨m, hm, rfl⟩ := g
      refine xg_1 M3 hm (br_f (by decide) ?_)
      by_cases t : 0 ≤ v3.toInt ∧ v3.toInt ≤ 15
      · refine xt_t1 t (br_f (by decide) ?_)
        rw [tb_3, nI_clamp (show 3 * j + m < 2 ^ 31 by omega)]
        have in3 : vp_in (nI (3 * j + m)) 15 := vp_in_nI (by omega) (by omega)
        have in4 : vp_in (nI (4 * j + m)) 20 := vp_in_nI (by omega) (by omega)
        have hr := F.2.2.1 j m hj (by omega)
        have eq34 := F.2.2.2.1 j m hj (by omega)
        have et : (tm (3 * j + m)).toInt = ty_i ti j m := by rw [eq34]; rfl
        refine ⟨in3, nm_e ⟨in3, nm_r (e' := upd tm (3 * j + m) v3) (by rw [tb_t t.1 t.2]) ?_⟩⟩
        refine xb_able (T := ty_i (upd ti (4 * j + m) v3)) M3 hj (fun m' hm' => ?_) (fun O h8 hO => br_c (fun hz => ?_) (fun hz => ?_))
        · unfold ty_i
          by_cases e : m' = m
          · rw [e, pk_us, pk_us]
          · rw [pk_un (by omega), pk_un (by omega), F.2.2.2.1 j m' hj hm']
        · -- no machine is left: both restore
          have O0 : O = 0 := (nI_eq (b := 0) (by omega) (by omega)).mp hz
          have none : ∀ m', m' < 3 → ty_i (upd ti (4 * j + m) v3) j m' ≤ 0 := fun m' hm' => by
            by_cases y : m' < M
            · have q := hO m' (by omega)
              rw [O0, Nat.zero_testBit] at q
              by_cases x : 0 < ty_i (upd ti (4 * j + m) v3) j m'
              · rw [fd_al_iff.mpr ⟨y, x⟩] at q; exact absurd q (by decide)
              · omega
            · have q := F.2.2.2.2.1 j m' hj hm' (by omega)
              unfold ty_i at q ⊢
              rw [pk_un (by omega)]; omega
          refine ⟨in3, nm_r (e' := tm) (by rw [tb_t (by omega) (by omega)]; exact ud_back) ?_⟩
          refine yh_1 hj F.2.1 s (br_f (by decide) (yg_1 M3 hm (br_f (by decide) (tb_lt (fun q => by omega) (fun _ => tb_le (fun _ => ?_) (fun q => by omega))))))
          rw [tb_4, tb_41, tb_42, tb_40, nI_clamp (show 4 * j + m < 2 ^ 31 by omega), nI_clamp (show 4 * j < 2 ^ 31 by omega), nI_clamp (show 4 * j + 1 < 2 ^ 31 by omega), nI_clamp (show 4 * j + 2 < 2 ^ 31 by omega)]
          refine ⟨in4, nm_e ⟨in4, nm_e ⟨vp_in_nI (by omega) (by omega), vp_in_nI (by omega) (by omega), vp_in_nI (by omega) (by omega), ?_⟩⟩⟩
          have b : ∀ m', m' < 3 → 0 ≤ ty_i (upd ti (4 * j + m) v3) j m' := fun m' hm' => by
            have q := F.2.2.1 j m' hj (by omega)
            unfold ty_i at q ⊢
            by_cases e : m' = m
            · rw [e, pk_us]; exact t.1
            · rw [pk_un (by omega)]; exact q.1
          have y0 : (upd ti (4 * j + m) v3 (4 * j)).toInt = 0 := Int.le_antisymm (none 0 (by omega)) (b 0 (by omega))
          have y1 : (upd ti (4 * j + m) v3 (4 * j + 1)).toInt = 0 := Int.le_antisymm (none 1 (by omega)) (b 1 (by omega))
          have y2 : (upd ti (4 * j + m) v3 (4 * j + 2)).toInt = 0 := Int.le_antisymm (none 2 (by omega)) (b 2 (by omega))
          have e1 : (upd ti (4 * j + m) v3 (4 * j) + upd ti (4 * j + m) v3 (4 * j + 1)).toInt = 0 := by rw [Jvm.Kit.i32_add (by omega) (by omega)]; omega
          refine tb_le (fun _ => ⟨in4, nm_r (e' := ti) ud_back ⟨rfl, rl_in F KL⟩⟩) (fun q => ?_)
          rw [Jvm.Kit.i32_add (by omega) (by omega)] at q
          omega
        · -- some machine is left
          have some : ∃ m', m' < M ∧ 0 < ty_i (upd ti (4 * j + m) v3) j m' := by
            refine Classical.byContradiction (fun n => hz ?_)
            have O0 : O = 0 := tb_same O (by omega) 0 (by omega) (fun i hi => by
              rw [hO i hi, Nat.zero_testBit]
              cases q : fd_al M (ty_i (upd ti (4 * j + m) v3)) j i with
              | false => rfl
              | true => exact absurd ⟨i, fd_al_iff.mp q⟩ n)
            rw [O0]; exact nI_0
          refine yh_1 hj F.2.1 s (br_f (by decide) (yg_1 M3 hm (br_f (by decide) (tb_lt (fun q => by omega) (fun _ => tb_le (fun _ => ?_) (fun q => by omega))))))
          rw [tb_4, tb_41, tb_42, tb_40, nI_clamp (show 4 * j + m < 2 ^ 31 by omega), nI_clamp (show 4 * j < 2 ^ 31 by omega), nI_clamp (show 4 * j + 1 < 2 ^ 31 by omega), nI_clamp (show 4 * j + 2 < 2 ^ 31 by omega)]
          refine ⟨in4, nm_e ⟨in4, nm_e ⟨vp_in_nI (by omega) (by omega), vp_in_nI (by omega) (by omega), vp_in_nI (by omega) (by omega), ?_⟩⟩⟩
          have F' := rf_set F hj hm t some
          have y0 : 0 ≤ (upd ti (4 * j + m) v3 (4 * j)).toInt ∧ (upd ti (4 * j + m) v3 (4 * j)).toInt ≤ 15 := F'.2.2.1 j 0 hj (by omega)
          have y1 : 0 ≤ (upd ti (4 * j + m) v3 (4 * j + 1)).toInt ∧ (upd ti (4 * j + m) v3 (4 * j + 1)).toInt ≤ 15 := F'.2.2.1 j 1 hj (by omega)
          have y2 : 0 ≤ (upd ti (4 * j + m) v3 (4 * j + 2)).toInt ∧ (upd ti (4 * j + m) v3 (4 * j + 2)).toInt ≤ 15 := F'.2.2.1 j 2 hj (by omega)
          have e1 : (upd ti (4 * j + m) v3 (4 * j) + upd ti (4 * j + m) v3 (4 * j + 1)).toInt = (upd ti (4 * j + m) v3 (4 * j)).toInt + (upd ti (4 * j + m) v3 (4 * j + 1)).toInt := Jvm.Kit.i32_add (by omega) (by omega)
          refine tb_le (fun q => ?_) (fun _ => ⟨rfl, rl_in F' (Or.inl rfl)⟩)
          rw [Jvm.Kit.i32_add (by omega) (by omega), e1] at q
          obtain ⟨m', hm', q'⟩ := some
          have c : m' = 0 ∨ m' = 1 ∨ m' = 2 := by omega
          rcases c with rfl | rfl | rfl
          · have q2 : 0 < (upd ti (4 * j + m) v3 (4 * j)).toInt := q'
            omega
          · have q2 : 0 < (upd ti (4 * j + m) v3 (4 * j + 1)).toInt := q'
            omega
          · have q2 : 0 < (upd ti (4 * j + m) v3 (4 * j + 2)).toInt := q'
            omega
      · refine xt_t0 t (br_t rfl ?_)
        refine yh_1 hj F.2.1 s (br_f (by decide) (yg_1 M3 hm (br_f (by decide) (tb_lt (fun _ => ⟨rfl, rl_in F KL⟩) (fun _ => tb_le (fun _ => by omega) (fun _ => ⟨rfl, rl_in F KL⟩))))))
    · exact xg_0 M3 g (br_t rfl (yh_1 hj F.2.1 s (br_f (by decide) (yg_0 M3 g (br_t rfl ⟨rfl, rl_in F KL⟩)))))
  · exact xh_0 hS h (br_t rfl (yh_0 F.2.1 h (br_t rfl ⟨rfl, rl_in F KL⟩)))
end
section
/-! least, machineOf, finishOf, leastWith, leastWithout, leastIdle -/
theorem kl_lst {M S : Nat} {T : Nat → Nat → Int} {lt : Int32} {bm : Nat → Int32} (h : kl_i M S T lt bm) : fd_lst S T (fd_al M T) lt.toInt := by
  obtain ⟨w, f, e, _⟩ := h
  exact Or.inr ⟨w, f.1, e, fun w' o' => by rw [e]; exact f.2.1 w' o'⟩
theorem i_vc_least {k : Nat} {u : SX} {v : SY} (I : i_Rel k u v) (hk : k + 4 ≤ 2049) : wpX_least (fun r u' => wpY_least (fun r' v' => r' = r ∧ i_Rel (k + 4) u' v') v) u := by
  refine rl_el (P := fun u v => wpX_least (fun r u' => wpY_least (fun r' v' => r' = r ∧ i_Rel (k + 4) u' v') v) u) I ?_
  intro M S mc ps db lk rs cs kn lt tm op rj rp cp ro cf sl re bm cw aw mu mb th ti on F KL
  have M3 := F.1.2.1
  unfold wpX_least wpY_least wpY_all
  (try dsimp only)
  rw [(tb_all M (by omega)).1]
  refine xe_learn (rf_tm F) F.1.2.2 (rf_ne F) KL (fun db' lk' rs' cs' kn' lt' op' rj' rp' cp' ro' cf' sl' re' bm' hkl => ?_)
  refine yl_least (rf_yq F) (fun r on' hr => ⟨?_, rl_in F (Or.inr hkl)⟩)
  exact Int32.toInt_inj.mp (fd_lst_u hr (kl_lst hkl))
theorem i_vc_machineOf {k : Nat} {u : SX} {v : SY} (I : i_Rel k u v) (hk : k + 4 ≤ 2049) (v1 : Int32) : wpX_machineOf (fun r u' => wpY_machineOf (fun r' v' => r' = r ∧ i_Rel (k + 4) u' v') v v1) u v1 := by
  refine rl_el (P := fun u v => wpX_machineOf (fun r u' => wpY_machineOf (fun r' v' => r' = r ∧ i_Rel (k + 4) u' v') v v1) u v1) I ?_
  intro M S mc ps db lk rs cs kn lt tm op rj rp cp ro cf sl re bm cw aw mu mb th ti on F KL
  have M3 := F.1.2.1
  have hS := F.1.2.2
  unfold wpX_machineOf wpY_machineOf
  (try dsimp only)
  by_cases h : hs_i S v1
  · obtain ⟨j, hj, rfl, s⟩ := h
    have ej : (nI j).toNatClampNeg = j := nI_clamp (by omega)
    refine xh_1 hS hj s (br_f (by decide) ?_)
    refine xe_learn (rf_tm F) hS (rf_ne F) KL (fun db' lk' rs' cs' kn' lt' op' rj' rp' cp' ro' cf' sl' re' bm' hkl => ⟨vp_in_nI hj (by omega), ?_⟩)
    refine yp_plan rfl (by omega) (rf_yq F) (rf_ne F) (fun on' w hw hf => yh_1 hj F.2.1 s (br_f (by decide) ⟨vp_in_nI hj (by omega), ?_, rl_in F (Or.inr hkl)⟩))
    obtain ⟨w', f', _, b'⟩ := hkl
    show on' (nI j).toNatClampNeg = bm' (nI j).toNatClampNeg
    rw [ej, (hf j hj).2.1, b' j hj s, fd_fst_u hw f' j hj]
  · refine xh_0 hS h (br_t rfl ?_)
    exact yp_plan rfl (by omega) (rf_yq F) (rf_ne F) (fun on' w hw hf => yh_0 F.2.1 h (br_t rfl ⟨rfl, rl_in F KL⟩))
theorem i_vc_finishOf {k : Nat} {u : SX} {v : SY} (I : i_Rel k u v) (hk : k + 4 ≤ 2049) (v1 : Int32) : wpX_finishOf (fun r u' => wpY_finishOf (fun r' v' => r' = r ∧ i_Rel (k + 4) u' v') v v1) u v1 := by
  refine rl_el (P := fun u v => wpX_finishOf (fun r u' => wpY_finishOf (fun r' v' => r' = r ∧ i_Rel (k + 4) u' v') v v1) u v1) I ?_
  intro M S mc ps db lk rs cs kn lt tm op rj rp cp ro cf sl re bm cw aw mu mb th ti on F KL
  have M3 := F.1.2.1
  have hS := F.1.2.2
  unfold wpX_finishOf wpY_finishOf
  (try dsimp only)
  by_cases h : hs_i S v1
  · obtain ⟨j, hj, rfl, s⟩ := h
    have ej : (nI j).toNatClampNeg = j := nI_clamp (by omega)
    refine xh_1 hS hj s (br_f (by decide) ?_)
    refine xe_learn (rf_tm F) hS (rf_ne F) KL (fun db' lk' rs' cs' kn' lt' op' rj' rp' cp' ro' cf' sl' re' bm' hkl => ⟨vp_in_nI hj (by omega), ?_⟩)
    have hkl' := hkl
    obtain ⟨w', f', _, b'⟩ := hkl'
    have wM : ∀ i, i < 5 → S.testBit i = true → w' i < M ∧ bm' i = nI (w' i) := fun i hi si => ⟨(fd_al_iff.mp ((f'.1 i hi).2.1 si)).1, b' i hi si⟩
    have wj := (wM j hj s).1
    refine nm_r (e' := nI (w' j)) (by
      show bm' (nI j).toNatClampNeg = _
      rw [ej, b' j hj s]) ?_
    rw [tb_3]
    refine ⟨vp_in_nI (by omega) (by omega), nm_r (e' := tm (3 * j + w' j)) (by
      show tm (nI (3 * j + w' j)).toNatClampNeg = _
      rw [nI_clamp (by omega)]) ⟨6, ?_⟩⟩
    refine xn_38 (rf_tm F) hS hj s wM (fun V hV => ?_) 6 0 0 (by omega) (by omega) (show (0 : Int32).toInt = 0 by decide) (by decide)
    refine yp_plan rfl (by omega) (rf_yq F) (rf_ne F) (fun on' w hw hf => yh_1 hj F.2.1 s (br_f (by decide) (yf_fin hf hj (fun r hr _ => ⟨?_, rl_in F (Or.inr hkl)⟩))))
    refine Int32.toInt_inj.mp ?_
    rw [hr, hV]
    have ew := fd_fst_u hw f'
    exact fd_fin_c (fun i hi _ => ew i hi) (fun i hi _ => by rw [ew i hi]) hj s
  · refine xh_0 hS h (br_t rfl ?_)
    exact yp_plan rfl (by omega) (rf_yq F) (rf_ne F) (fun on' w hw hf => yh_0 F.2.1 h (br_t rfl ⟨rfl, rl_in F KL⟩))
/-- the question with a job that must be on a machine -/
def al_w (M : Nat) (T : Nat → Nat → Int) (j0 m0 j m : Nat) : Bool := fd_al M T j m && (decide (j ≠ j0) || decide (m = m0))
theorem al_w_iff {M : Nat} {T : Nat → Nat → Int} {j0 m0 j m : Nat} : al_w M T j0 m0 j m = true ↔ m < M ∧ 0 < T j m ∧ (j = j0 → m = m0) := by
  unfold al_w
  rw [Bool.and_eq_true, fd_al_iff, Bool.or_eq_true, decide_eq_true_eq, decide_eq_true_eq]
  constructor
  · rintro ⟨⟨a, b⟩, c⟩
    refine ⟨a, b, fun e => ?_⟩
    rcases c with c | c
    · exact absurd e c
    · exact c
  · rintro ⟨a, b, c⟩
    refine ⟨⟨a, b⟩, ?_⟩
    by_cases e : j = j0
    · exact Or.inr (c e)
    · exact Or.inl e
theorem i_vc_leastWith {k : Nat} {u : SX} {v : SY} (I : i_Rel k u v) (hk : k + 4 ≤ 2049) (v1 : Int32) (v2 : Int32) : wpX_leastWith (fun r u' => wpY_leastWith (fun r' v' => r' = r ∧ i_Rel (k + 4) u' v') v v1 v2) u v1 v2 := by
  refine rl_el (P := fun u v => wpX_leastWith (fun r u' => wpY_leastWith (fun r' v' => r' = r ∧ i_Rel (k + 4) u' v') v v1 v2) u v1 v2) I ?_
  intro M S mc ps db lk rs cs kn lt tm op rj rp cp ro cf sl re bm cw aw mu mb th ti on F KL
  have M3 := F.1.2.1
  have hS := F.1.2.2
  unfold wpX_leastWith wpY_leastWith wpY_all
  (try dsimp only)
  rw [(tb_all M (by omega)).1]
  by_cases h : hs_i S v1
  · obtain ⟨j, hj, rfl, s⟩ := h
    have ej : (nI j).toNatClampNeg = j := nI_clamp (by omega)
    refine xh_1 hS hj s (br_f (by decide) ?_)
    by_cases g : ∃ m, m < M ∧ v2 = nI m
    · obtain ⟨m, hm, rfl⟩ := g
      refine xg_1 M3 hm (br_f (by decide) ?_)
      rw [tb_3, nI_clamp (show 3 * j + m < 2 ^ 31 by omega)]
      have z0 : (0 : Int32).toInt = 0 := by decide
      have et : (tm (3 * j + m)).toInt = ty_i ti j m := by rw [F.2.2.2.1 j m hj (by omega)]; rfl
      have Q : yq_i S (nI (2 ^ M - 1)) (nI j) (nI m) th ti (al_w M (ty_i ti) j m) (ty_i ti) := by
        have t := tb_all M (by omega)
        refine yq_mk F.2.1 F.2.2.1 (by omega) (fun i n hi hn => ?_)
        rw [t.2.2 n hn, decide_eq_true_eq, al_w_iff, nI_eq (by omega) (by omega), nI_eq (by omega) (by omega)]
        exact ⟨fun q => ⟨q.2.1, q.1, q.2.2⟩, fun q => ⟨q.2.1, q.1, q.2.2⟩⟩
      refine ⟨vp_in_nI (by omega) (by omega), tb_eq (fun z => ?_) (fun z => ?_)⟩
      · refine yh_1 hj F.2.1 s (br_f (by decide) (yg_1 M3 hm (br_f (by decide) (yl_least Q (fun r on' hr => ⟨?_, rl_in F KL⟩)))))
        rcases hr with ⟨e, _⟩ | ⟨w, o, _⟩
        · exact Int32.toInt_inj.mp (by rw [e]; decide)
        · have q := al_w_iff.mp ((o j hj).2.1 s)
          rw [q.2.2 rfl] at q
          omega
      · refine xk_ask M3 (fun j m hj hm => ((rf_tm F).2.2 j m hj hm).1) (fun op' hop => ⟨vp_in_nI hj (by omega), nm_r (e' := upd op' j (nI (2 ^ m))) (by rw [ej, (tb_sh m (by omega)).1]) ?_⟩)
        have hb := F.2.2.1 j m hj (by omega)
        refine xm_total hS (Nat.le_refl 4) (xq_mk (al := al_w M (ty_i ti) j m) (rf_tm F) (fun i hi => ?_) (fun i n hi hn a => ?_) (fun n hn => xq_m1 M3 hn)) (fun r rs' cs' rj' rp' cp' ro' cf' sl' re' hr => ?_)
        · by_cases e : i = j
          · rw [e, pk_us]
            refine xo_sh (by omega) (fun n hn => ?_)
            by_cases y : n = m
            · rw [decide_eq_true y]
              exact al_w_iff.mpr ⟨by omega, by rw [y]; omega, fun _ => y⟩
            · rw [decide_eq_false y]
              cases q : al_w M (ty_i ti) j m j n with
              | false => rfl
              | true => exact absurd ((al_w_iff.mp q).2.2 rfl) y
          · rw [pk_un e]
            refine xo_c (hop i hi) (fun n hn => ?_)
            unfold al_w
            rw [decide_eq_true e]
            exact (Bool.and_true _).symm
        · have q := al_w_iff.mp a
          exact ⟨q.1, q.2.1⟩
        · exact yh_1 hj F.2.1 s (br_f (by decide) (yg_1 M3 hm (br_f (by decide) (yl_least Q (fun r2 on' hr2 => ⟨Int32.toInt_inj.mp (fd_lst_u hr2 hr), rl_in F KL⟩)))))
    · exact xg_0 M3 g (br_t rfl (yh_1 hj F.2.1 s (br_f (by decide) (yg_0 M3 g (br_t rfl ⟨rfl, rl_in F KL⟩)))))
  · exact xh_0 hS h (br_t rfl (yh_0 F.2.1 h (br_t rfl ⟨rfl, rl_in F KL⟩)))
theorem i_vc_leastWithout {k : Nat} {u : SX} {v : SY} (I : i_Rel k u v) (hk : k + 4 ≤ 2049) (v1 : Int32) : wpX_leastWithout (fun r u' => wpY_leastWithout (fun r' v' => r' = r ∧ i_Rel (k + 4) u' v') v v1) u v1 := by
  refine rl_el (P := fun u v => wpX_leastWithout (fun r u' => wpY_leastWithout (fun r' v' => r' = r ∧ i_Rel (k + 4) u' v') v v1) u v1) I ?_
  intro M S mc ps db lk rs cs kn lt tm op rj rp cp ro cf sl re bm cw aw mu mb th ti on F KL
  have M3 := F.1.2.1
  have hS := F.1.2.2
  unfold wpX_leastWithout wpY_leastWithout wpY_all
  (try dsimp only)
  rw [(tb_all M (by omega)).1]
  by_cases h : hs_i S v1
  · obtain ⟨j, hj, rfl, s⟩ := h
    have ej : (nI j).toNatClampNeg = j := nI_clamp (by omega)
    have t := tb_an S hS j hj
    have F' := rf_rem F hj
    refine xh_1 hS hj s (br_f (by decide) (xk_ask M3 (fun j m hj hm => ((rf_tm F).2.2 j m hj hm).1) (fun op' hop => ?_)))
    (try dsimp only)
    rw [t.1]
    refine xm_total t.2.1 (Nat.le_refl 4) (xq_mk (al := fd_al M (ty_i ti)) (rf_tm F) hop (fun i n hi hn a => fd_al_iff.mp a) (fun n hn => xq_m1 M3 hn)) (fun r rs' cs' rj' rp' cp' ro' cf' sl' re' hr => ?_)
    refine yh_1 hj F.2.1 s (br_f (by decide) ⟨vp_in_nI hj (by omega), nm_r (e' := upd th j 0) (by rw [ej, tb_0]) ?_⟩)
    refine yl_least (rf_yq F') (fun r2 on' hr2 => ⟨vp_in_nI hj (by omega), nm_r (e' := th) ?_ ⟨Int32.toInt_inj.mp (fd_lst_u hr2 hr), rl_in F KL⟩⟩)
    rw [ej, tb_1]
    have e1 : th j = 1 := by rw [F.2.1 j hj, if_pos s]
    rw [← e1]
    exact ud_back
  · exact xh_0 hS h (br_t rfl (yh_0 F.2.1 h (br_t rfl ⟨rfl, rl_in F KL⟩)))
theorem i_vc_leastIdle {k : Nat} {u : SX} {v : SY} (I : i_Rel k u v) (hk : k + 4 ≤ 2049) (v1 : Int32) : wpX_leastIdle (fun r u' => wpY_leastIdle (fun r' v' => r' = r ∧ i_Rel (k + 4) u' v') v v1) u v1 := by
  refine rl_el (P := fun u v => wpX_leastIdle (fun r u' => wpY_leastIdle (fun r' v' => r' = r ∧ i_Rel (k + 4) u' v') v v1) u v1) I ?_
  intro M S mc ps db lk rs cs kn lt tm op rj rp cp ro cf sl re bm cw aw mu mb th ti on F KL
  have M3 := F.1.2.1
  have hS := F.1.2.2
  unfold wpX_leastIdle wpY_leastIdle wpY_all
  (try dsimp only)
  rw [(tb_all M (by omega)).1]
  by_cases g : ∃ m, m < M ∧ v1 = nI m
  · obtain ⟨m, hm, rfl⟩ := g
    have a := tb_all M (by omega)
    have t := tb_no (2 ^ M - 1) a.2.1 m (by omega)
    refine xg_1 M3 hm (br_f (by decide) (xk_ask M3 (fun j m hj hm => ((rf_tm F).2.2 j m hj hm).1) (fun op' hop => ⟨6, ?_⟩)))
    refine xd_16 (rf_tm F) hm hS (fun r rs' cs' op' rj' rp' cp' ro' cf' sl' re' hr => ?_) 6 0 op' (by omega) (by omega) (fun i hi _ => hop i hi) (fun i hi => by omega)
    refine yg_1 M3 hm (br_f (by decide) ?_)
    (try dsimp only)
    rw [t.1]
    refine yl_least (yq_mk (al := fun j n => fd_al M (ty_i ti) j n && decide (n ≠ m)) F.2.1 F.2.2.1 (by omega) (fun j n hj hn => ?_)) (fun r2 on' hr2 => ⟨Int32.toInt_inj.mp (fd_lst_u hr2 hr), rl_in F KL⟩)
    (try dsimp only)
    rw [t.2.2 n (by omega), a.2.2 n hn, Bool.and_eq_true, Bool.and_eq_true, fd_al_iff, decide_eq_true_eq, decide_eq_true_eq]
    exact ⟨fun q => ⟨q.1.2, ⟨q.1.1, q.2⟩, fun e => absurd e (tb_ne1 hj)⟩, fun q => ⟨⟨q.2.1.1, q.1⟩, q.2.1.2⟩⟩
  · exact xg_0 M3 g (br_t rfl (yg_0 M3 g (br_t rfl ⟨rfl, rl_in F KL⟩)))
end
section
/-! leastDoubled, mostJobs -/
theorem kl_c {M S : Nat} {T T' : Nat → Nat → Int} {lt : Int32} {bm : Nat → Int32} (M3 : M ≤ 3) (hT : ∀ j m, j < 5 → m < 3 → T' j m = T j m) (h : kl_i M S T lt bm) : kl_i M S T' lt bm := by
  have ea : ∀ j m, j < 5 → fd_al M T' j m = fd_al M T j m := fun j m hj => by
    unfold fd_al
    by_cases y : m < M
    · rw [hT j m hj (by omega)]
    · rw [decide_eq_false y, Bool.false_and, Bool.false_and]
  have ok : ∀ w, fd_ok S (fd_al M T') w ↔ fd_ok S (fd_al M T) w := fun w =>
    ⟨fun o j hj => by rw [← ea j _ hj]; exact o j hj, fun o j hj => by rw [ea j _ hj]; exact o j hj⟩
  have tot : ∀ w, fd_ok S (fd_al M T) w → fd_tot S T' w = fd_tot S T w := fun w o => fd_tot_c (fun _ _ _ => rfl) (fun j hj s => hT j _ hj (by
    have := (fd_al_iff.mp ((o j hj).2.1 s)).1
    omega))
  obtain ⟨w, ⟨f1, f2, f3⟩, e, b⟩ := h
  refine ⟨w, ⟨(ok w).mpr f1, fun w' o' => ?_, fun w' o' e' => ?_⟩, by rw [tot w f1]; exact e, b⟩
  · have o := (ok w').mp o'
    rw [tot w f1, tot w' o]; exact f2 w' o
  · have o := (ok w').mp o'
    rw [tot w f1, tot w' o] at e'
    exact f3 w' o e'
def al_d (M : Nat) (T : Nat → Nat → Int) (j m : Nat) : Bool := decide (m < M ∨ m = 3) && decide (0 < T j m)
theorem al_d_iff {M : Nat} {T : Nat → Nat → Int} {j m : Nat} : al_d M T j m = true ↔ (m < M ∨ m = 3) ∧ 0 < T j m := by
  unfold al_d
  rw [Bool.and_eq_true, decide_eq_true_eq, decide_eq_true_eq]
theorem i_vc_leastDoubled {k : Nat} {u : SX} {v : SY} (I : i_Rel k u v) (hk : k + 4 ≤ 2049) (v1 : Int32) : wpX_leastDoubled (fun r u' => wpY_leastDoubled (fun r' v' => r' = r ∧ i_Rel (k + 4) u' v') v v1) u v1 := by
  refine rl_el (P := fun u v => wpX_leastDoubled (fun r u' => wpY_leastDoubled (fun r' v' => r' = r ∧ i_Rel (k + 4) u' v') v v1) u v1) I ?_
  intro M S mc ps db lk rs cs kn lt tm op rj rp cp ro cf sl re bm cw aw mu mb th ti on F KL
  have M1 := F.1.1
  have M3 := F.1.2.1
  have hS := F.1.2.2
  unfold wpX_leastDoubled wpY_leastDoubled
  (try dsimp only)
  by_cases g : ∃ m, m < M ∧ v1 = nI m
  · obtain ⟨d, hd, rfl⟩ := g
    have a := tb_all M (by omega)
    have t := tb_8 (2 ^ M - 1) a.2.1
    -- the times with machine d twice
    have key : ∀ ti', (∀ j, j < 5 → ti' (4 * j + 3) = ti (4 * j + d) ∧ ∀ m, m < 3 → ti' (4 * j + m) = ti (4 * j + m)) → rf_i M S tm th ti' ∧ (∀ j m, j < 5 → m < 3 → ty_i ti' j m = ty_i ti j m) ∧ (∀ j, j < 5 → ty_i ti' j 3 = ty_i ti j d) := by
      intro ti' h
      have e3 : ∀ j m, j < 5 → m < 3 → ty_i ti' j m = ty_i ti j m := fun j m hj hm => by
        unfold ty_i; rw [(h j hj).2 m hm]
      have ed : ∀ j, j < 5 → ty_i ti' j 3 = ty_i ti j d := fun j hj => by
        unfold ty_i; rw [(h j hj).1]
      obtain ⟨hb, ht, hbd, he, hz, hp⟩ := F
      refine ⟨⟨hb, ht, fun j m hj hm => ?_, fun j m hj hm => ?_, fun j m hj hm hM => ?_, fun j hj s => ?_⟩, e3, ed⟩
      · by_cases q : m < 3
        · rw [e3 j m hj q]; exact hbd j m hj hm
        · have q3 : m = 3 := by omega
          rw [q3, ed j hj]; exact hbd j d hj (by omega)
      · rw [(h j hj).2 m hm]; exact he j m hj hm
      · rw [e3 j m hj hm]; exact hz j m hj hm hM
      · obtain ⟨m, hm, q⟩ := hp j hj s
        exact ⟨m, hm, by rw [e3 j m hj (by omega)]; exact q⟩
    let ti0 : Nat → Int32 := fun i => if i % 4 = 3 then ti (i - 3 + d) else ti i
    have h0 : ∀ j, j < 5 → ti0 (4 * j + 3) = ti (4 * j + d) ∧ ∀ m, m < 3 → ti0 (4 * j + m) = ti (4 * j + m) := fun j hj => by
      refine ⟨?_, fun m hm => ?_⟩
      · show (if (4 * j + 3) % 4 = 3 then ti (4 * j + 3 - 3 + d) else _) = _
        rw [if_pos (by omega), show 4 * j + 3 - 3 + d = 4 * j + d by omega]
      · show (if (4 * j + m) % 4 = 3 then _ else ti (4 * j + m)) = _
        rw [if_neg (by omega)]
    obtain ⟨F0, e30, ed0⟩ := key ti0 h0
    refine xg_1 M3 hd (br_f (by decide) (xk_ask (T := ty_i ti0) M3 (fun j m hj hm => ((rf_tm F0).2.2 j m hj hm).1) (fun op' hop => ?_)))
    have Q : xq_i M (5 * (M + 1)) (nI d) (-1) tm op' (al_d M (ty_i ti0)) (ty_i ti0) 4 := by
      refine ⟨⟨M1, M3, Or.inr rfl, fun j m hj hm q => ?_⟩, fun j m hj hm => ⟨?_, ((rf_tm F0).2.2 j m hj (by omega)).1, xq_m1 M3 hm⟩, Or.inr ⟨d, hd, rfl, rfl, by omega, tb_ne1 (by omega), fun j hj => ⟨?_, ?_⟩⟩⟩
      · have p := al_d_iff.mp q
        have b := F0.2.2.1 j m hj hm
        refine ⟨by omega, b.2, ?_⟩
        rcases p.1 with p | p
        · exact Or.inl p
        · exact Or.inr ⟨p, rfl⟩
      · rw [xo_bit (hop j hj) (by omega)]
        unfold fd_al al_d
        rw [decide_eq_true hm, decide_eq_true (Or.inl hm)]
      · rw [xo_bit (hop j hj) (by omega)]
        unfold fd_al al_d
        rw [decide_eq_true hd, decide_eq_true (Or.inr rfl), ed0 j hj, e30 j d hj (by omega)]
      · rw [ed0 j hj, e30 j d hj (by omega)]
    refine xm_total hS (Nat.le_refl 4) Q (fun r rs' cs' rj' rp' cp' ro' cf' sl' re' hr => ?_)
    refine yg_1 M3 hd (br_f (by decide) ⟨6, ?_⟩)
    refine yd_12 (by omega) (fun ti' h => ?_) 6 0 ti (by omega) (by omega) (fun i hi => by omega) (fun i m hi hm => rfl)
    obtain ⟨F', e3, ed⟩ := key ti' h
    unfold wpY_all
    (try dsimp only)
    rw [a.1, t.1]
    have same : ∀ j m, j < 5 → m < 4 → ty_i ti' j m = ty_i ti0 j m := fun j m hj hm => by
      by_cases q : m < 3
      · rw [e3 j m hj q, e30 j m hj q]
      · have q3 : m = 3 := by omega
        rw [q3, ed j hj, ed0 j hj]
    refine yl_least (al := al_d M (ty_i ti')) (yq_mk F'.2.1 F'.2.2.1 t.2.1 (fun j n hj hn => ?_)) (fun r2 on' hr2 => ⟨?_, rl_in F' ?_⟩)
    · rw [t.2.2 n hn, a.2.2 n hn, Bool.or_eq_true, decide_eq_true_eq, decide_eq_true_eq, al_d_iff]
      exact ⟨fun q => ⟨q.2, q.1, fun e => absurd e (tb_ne1 hj)⟩, fun q => ⟨q.2.1, q.1⟩⟩
    · refine Int32.toInt_inj.mp (fd_lst_u hr2 ?_)
      have ok : ∀ w, fd_ok S (al_d M (ty_i ti')) w ↔ fd_ok S (al_d M (ty_i ti0)) w := fun w => by
        have ea : ∀ j m, j < 5 → m < 4 → al_d M (ty_i ti') j m = al_d M (ty_i ti0) j m := fun j m hj hm => by
          unfold al_d; rw [same j m hj hm]
        constructor
        · intro o j hj
          have := o j hj
          rw [ea j _ hj this.1] at this
          exact this
        · intro o j hj
          have := o j hj
          rw [← ea j _ hj this.1] at this
          exact this
      have tot : ∀ w, fd_ok S (al_d M (ty_i ti0)) w → fd_tot S (ty_i ti') w = fd_tot S (ty_i ti0) w := fun w o => fd_tot_c (fun _ _ _ => rfl) (fun j hj s => same j _ hj (o j hj).1)
      rcases hr with ⟨e, n⟩ | ⟨w, o, e, m⟩
      · exact Or.inl ⟨e, fun w o => n w ((ok w).mp o)⟩
      · exact Or.inr ⟨w, (ok w).mpr o, by rw [tot w o]; exact e, fun w' o' => by
          have o2 := (ok w').mp o'
          rw [tot w' o2]; exact m w' o2⟩
    · rcases KL with q | q
      · exact Or.inl q
      · exact Or.inr (kl_c M3 e3 q)
  · exact xg_0 M3 g (br_t rfl (yg_0 M3 g (br_t rfl ⟨rfl, rl_in F KL⟩)))
theorem i_vc_mostJobs {k : Nat} {u : SX} {v : SY} (I : i_Rel k u v) (hk : k + 4 ≤ 2049) (v1 : Int32) : wpX_mostJobs (fun r u' => wpY_mostJobs (fun r' v' => r' = r ∧ i_Rel (k + 4) u' v') v v1) u v1 := by
  refine rl_el (P := fun u v => wpX_mostJobs (fun r u' => wpY_mostJobs (fun r' v' => r' = r ∧ i_Rel (k + 4) u' v') v v1) u v1) I ?_
  intro M S mc ps db lk rs cs kn lt tm op rj rp cp ro cf sl re bm cw aw mu mb th ti on F KL
  have M3 := F.1.2.1
  have hS := F.1.2.2
  unfold wpX_mostJobs wpY_mostJobs wpY_all
  (try dsimp only)
  rw [(tb_all M (by omega)).1]
  by_cases g : ∃ m, m < M ∧ v1 = nI m
  · obtain ⟨l, hl, rfl⟩ := g
    refine xg_1 M3 hl (br_f (by decide) (xk_ask M3 (fun j m hj hm => ((rf_tm F).2.2 j m hj hm).1) (fun op' hop => ?_)))
    have Q : xq_i M (5 * M) (-1) (nI l) tm op' (fd_al M (ty_i ti)) (ty_i ti) l := xq_mk (rf_tm F) hop (fun i n hi hn a => fd_al_iff.mp a) (fun n hn => nI_eq (by omega) (by omega))
    refine xm_match (cs := cs) (rs := rs) hS Q (fun V rs' cs' rj' rp' cp' ro' cf' sl' re' hV => ?_)
    obtain ⟨w, o, V0, V1, e1, e2, mn, mx⟩ := fd_main1 Q.1 hV (rf_ne F)
    have eX : (((V + 7) >>> ((3 : Int32) &&& 31)) * 8 - V).toInt = fd_lk S l w := by
      have s := xm_shr V0 (by omega)
      have e8 : (8 : Int32).toInt = 8 := by decide
      have m8 : (((V + 7) >>> ((3 : Int32) &&& 31)) * 8).toInt = (V.toInt + 7) / 8 * 8 := by
        rw [Jvm.Kit.i32_mul (by rw [s, e8]; omega) (by rw [s, e8]; omega), s, e8]
      rw [Jvm.Kit.i32_sub (by rw [m8]; omega) (by rw [m8]; omega), m8]
      exact e2
    refine yg_1 M3 hl (br_f (by decide) (yl_least (rf_yq F) (fun r on' hr => ⟨1025, ?_⟩)))
    have eL : r.toInt = fd_tot S (ty_i ti) w := fd_lst_u hr (Or.inr ⟨w, o, rfl, mn⟩)
    refine ym_26 (L := r) (by omega) (rf_yq F) (fun q on2 hq => ⟨?_, rl_in F KL⟩) 1025 0 0 on' (by omega) (by omega) ⟨by decide, fun c' hc => by omega, Or.inl (by decide)⟩
    rw [eL] at hq
    refine Int32.toInt_inj.mp ?_
    rw [fd_mo_u o mx hq, eX]
  · exact xg_0 M3 g (br_t rfl (yg_0 M3 g (br_t rfl ⟨rfl, rl_in F KL⟩)))
end
