section
theorem pk_us {f : Nat → Int32} {k : Nat} {x : Int32} : upd f k x k = x := if_pos rfl
theorem pk_un {f : Nat → Int32} {k j : Nat} {x : Int32} (h : j ≠ k) : upd f k x j = f j := if_neg h
theorem pk_sub {a b : Nat} (h : b ≤ a) : nI a - nI b = nI (a - b) := by
  obtain ⟨c, rfl⟩ : ∃ c, a = c + b := ⟨a - b, by omega⟩
  rw [← nI_add, Int32.add_sub_cancel, Nat.add_sub_cancel]
theorem pk_mul (a b : Nat) : nI a * nI b = nI (a * b) := (Int32.ofNat_mul a b).symm
theorem pk_div {a d : Nat} (ha : a < 2 ^ 31) (h0 : 0 < d) (hd : d < 2 ^ 31) : nI a / nI d = nI (a / d) := by
  apply Int32.toInt_inj.mp
  rw [lg_idiv_nonneg (by rw [nI_toInt ha]; omega) (by rw [nI_toInt hd]; omega), nI_toInt ha, nI_toInt hd, nI_toInt (Nat.lt_of_le_of_lt (Nat.div_le_self a d) ha)]
  first | rfl | exact (Int.natCast_ediv _ _).symm
theorem pk_rem {a d : Nat} (ha : a < 2 ^ 31) (h0 : 0 < d) (hd : d < 2 ^ 31) : nI a - nI a / nI d * nI d = nI (a % d) := by
  rw [pk_div ha h0 hd, pk_mul, pk_sub (Nat.div_mul_le_self a d)]
  exact congrArg nI (by have := Nat.div_add_mod' a d; omega)
theorem pk_ix (x : Int32) {n : Nat} (hn : n < 2 ^ 31) : x < 0 ∨ nI n ≤ x ∨ ∃ j : Nat, j < n ∧ x = nI j := by
  by_cases h : x < 0
  · exact Or.inl h
  · obtain ⟨j, hj, rfl⟩ := nI_of h
    by_cases h2 : j < n
    · exact Or.inr (Or.inr ⟨j, h2, rfl⟩)
    · exact Or.inr (Or.inl (nI_le (by omega) hj))
theorem pk_le {x y : Int32} {A B : Prop} (a b : Nat) (f : a ≤ b → A) (g : b < a → B) (hx : x = nI a := by rfl) (hy : y = nI b := by rfl) (ha : a < 2 ^ 31 := by omega) (hb : b < 2 ^ 31 := by omega) : (x ≤ y → A) ∧ (¬ x ≤ y → B) := by
  subst hx hy
  rw [nI_leI ha hb]
  exact ⟨f, fun z => g (by omega)⟩
theorem pk_lt {x y : Int32} {A B : Prop} (a b : Nat) (f : a < b → A) (g : b ≤ a → B) (hx : x = nI a := by rfl) (hy : y = nI b := by rfl) (ha : a < 2 ^ 31 := by omega) (hb : b < 2 ^ 31 := by omega) : (x < y → A) ∧ (¬ x < y → B) := by
  subst hx hy
  rw [nI_ltI ha hb]
  exact ⟨f, fun z => g (by omega)⟩
theorem pk_eq {x y : Int32} {A B : Prop} (a b : Nat) (f : a = b → A) (g : a ≠ b → B) (hx : x = nI a := by rfl) (hy : y = nI b := by rfl) (ha : a < 2 ^ 31 := by omega) (hb : b < 2 ^ 31 := by omega) : (x = y → A) ∧ (¬ x = y → B) := by
  subst hx hy
  rw [nI_eq ha hb]
  exact ⟨f, g⟩
theorem pk_in {x : Int32} (n N : Nat) (h : n < N) (hx : x = nI n := by rfl) (hN : N < 2 ^ 31 := by omega) : vp_in x N := by
  subst hx
  exact vp_in_nI h hN
theorem pk_cl {x : Int32} (n : Nat) (hx : x = nI n := by rfl) (h : n < 2 ^ 31 := by omega) : x.toNatClampNeg = n := by
  subst hx
  exact nI_clamp h
theorem pk_vb (z : Int32) : vp_nar .byte z.toInt8.toInt32 = z.toInt8.toInt32 := by rw [vp_nar_byte]; simp
end
section
/-! sums over cells, widths of sides, one edge pushed -/
def tf_sm (f : Nat → Nat) : Nat → Nat
  | 0 => 0
  | n + 1 => tf_sm f n + f n
theorem tf_sm_s (f : Nat → Nat) (n : Nat) : tf_sm f (n + 1) = tf_sm f n + f n := rfl
theorem tf_sm_le {f g : Nat → Nat} : ∀ n, (∀ i, i < n → f i ≤ g i) → tf_sm f n ≤ tf_sm g n := by
  intro n
  induction n with
  | zero => intro _; exact Nat.le_refl _
  | succ n ih =>
    intro h
    have h1 := ih fun i hi => h i (by omega)
    have h2 := h n (by omega)
    rw [tf_sm_s, tf_sm_s]
    omega
theorem tf_sm_eq {f g : Nat → Nat} : ∀ n, (∀ i, i < n → f i = g i) → tf_sm f n = tf_sm g n := by
  intro n
  induction n with
  | zero => intro _; rfl
  | succ n ih =>
    intro h
    have h1 := ih fun i hi => h i (by omega)
    have h2 := h n (by omega)
    rw [tf_sm_s, tf_sm_s]
    omega
theorem tf_sm_lt {f g : Nat → Nat} (j : Nat) (hl : f j < g j) : ∀ n, j < n → (∀ i, i < n → f i ≤ g i) → tf_sm f n < tf_sm g n := by
  intro n
  induction n with
  | zero => intro h; omega
  | succ n ih =>
    intro hj h
    rw [tf_sm_s, tf_sm_s]
    by_cases e : j = n
    · subst e
      have h1 := tf_sm_le j fun i hi => h i (by omega)
      omega
    · have h1 := ih (by omega) fun i hi => h i (by omega)
      have h2 := h n (by omega)
      omega
theorem tf_sm_upd {f g : Nat → Nat} (j : Nat) : ∀ n, j < n → (∀ i, i < n → i ≠ j → g i = f i) → tf_sm g n + f j = tf_sm f n + g j := by
  intro n
  induction n with
  | zero => intro h; omega
  | succ n ih =>
    intro hj h
    rw [tf_sm_s, tf_sm_s]
    by_cases e : j = n
    · subst e
      have h1 : tf_sm g j = tf_sm f j := tf_sm_eq j fun i hi => h i (by omega) (by omega)
      omega
    · have h1 := ih (by omega) fun i hi hn => h i (by omega) hn
      have h2 := h n (by omega) (by omega)
      omega
theorem tf_sm_0 {f : Nat → Nat} : ∀ n, (∀ i, i < n → f i = 0) → tf_sm f n = 0 := by
  intro n
  induction n with
  | zero => intro _; rfl
  | succ n ih =>
    intro h
    rw [tf_sm_s, ih fun i hi => h i (by omega), h n (by omega)]
def tf_cut (s i : Nat) : Bool := s.testBit (i / 6) && !s.testBit (i % 6)
def tf_w (c : Nat → Nat) (s i : Nat) : Nat := if tf_cut s i = true then c i else 0
def tf_W (c : Nat → Nat) (s : Nat) : Nat := tf_sm (tf_w c s) 36
theorem tf_cut_ab {s a b : Nat} (hb : b < 6) : tf_cut s (a * 6 + b) = (s.testBit a && !s.testBit b) := by
  have h1 : (a * 6 + b) / 6 = a := by omega
  have h2 : (a * 6 + b) % 6 = b := by omega
  rw [tf_cut, h1, h2]
theorem tf_cell {i : Nat} (h : i < 36) : ∃ a b, a < 6 ∧ b < 6 ∧ i = a * 6 + b := ⟨i / 6, i % 6, by omega, by omega, by omega⟩
def tf_ed (R : Nat → Nat) (a b m i : Nat) : Nat := if i = b * 6 + a then R i + m else if i = a * 6 + b then R i - m else R i
def tf_ef (R : Nat → Nat) (a b m i : Nat) : Nat := if i = a * 6 + b then R i - m else R i
theorem tf_ed_ba {R : Nat → Nat} {a b m : Nat} : tf_ed R a b m (b * 6 + a) = R (b * 6 + a) + m := if_pos rfl
theorem tf_ed_ab {R : Nat → Nat} {a b m : Nat} (ha : a < 6) (hb : b < 6) (h : a ≠ b) : tf_ed R a b m (a * 6 + b) = R (a * 6 + b) - m := by
  rw [tf_ed, if_neg (by omega), if_pos rfl]
theorem tf_ed_n {R : Nat → Nat} {a b m i : Nat} (h1 : i ≠ b * 6 + a) (h2 : i ≠ a * 6 + b) : tf_ed R a b m i = R i := by
  rw [tf_ed, if_neg h1, if_neg h2]
theorem tf_W_ed {R : Nat → Nat} {a b m : Nat} (s : Nat) (ha : a < 6) (hb : b < 6) (h : a ≠ b) (hm : m ≤ R (a * 6 + b)) :
    tf_W (tf_ed R a b m) s + (if s.testBit a = true then m else 0) = tf_W R s + (if s.testBit b = true then m else 0) := by
  have n1 : b * 6 + a ≠ a * 6 + b := by omega
  have e1 := tf_sm_upd (f := tf_w R s) (g := tf_w (tf_ef R a b m) s) (a * 6 + b) 36 (by omega) (fun i _ hi => by
    rw [tf_w, tf_w, tf_ef, if_neg hi])
  have e2 := tf_sm_upd (f := tf_w (tf_ef R a b m) s) (g := tf_w (tf_ed R a b m) s) (b * 6 + a) 36 (by omega) (fun i _ hi => by
    rw [tf_w, tf_w, tf_ed, if_neg hi, tf_ef])
  have v1 : tf_w R s (a * 6 + b) = if (s.testBit a && !s.testBit b) = true then R (a * 6 + b) else 0 := by
    rw [tf_w, tf_cut_ab hb]
  have v2 : tf_w (tf_ef R a b m) s (a * 6 + b) = if (s.testBit a && !s.testBit b) = true then R (a * 6 + b) - m else 0 := by
    rw [tf_w, tf_cut_ab hb, tf_ef, if_pos rfl]
  have v3 : tf_w (tf_ef R a b m) s (b * 6 + a) = if (s.testBit b && !s.testBit a) = true then R (b * 6 + a) else 0 := by
    rw [tf_w, tf_cut_ab ha, tf_ef, if_neg n1]
  have v4 : tf_w (tf_ed R a b m) s (b * 6 + a) = if (s.testBit b && !s.testBit a) = true then R (b * 6 + a) + m else 0 := by
    rw [tf_w, tf_cut_ab ha, tf_ed_ba]
  rw [v1, v2] at e1
  rw [v3, v4] at e2
  rw [tf_W, tf_W]
  generalize tf_sm (tf_w R s) 36 = A at *
  generalize tf_sm (tf_w (tf_ef R a b m) s) 36 = B at *
  generalize tf_sm (tf_w (tf_ed R a b m) s) 36 = C at *
  clear v1 v2 v3 v4
  generalize s.testBit a = p at *
  generalize s.testBit b = q at *
  cases p <;> cases q <;> simp at e1 e2 ⊢ <;> omega
theorem tf_ed_pair {R : Nat → Nat} {a b m x y : Nat} (ha : a < 6) (hb : b < 6) (h : a ≠ b) (hm : m ≤ R (a * 6 + b)) (hx : x < 6) (hy : y < 6) :
    tf_ed R a b m (x * 6 + y) + tf_ed R a b m (y * 6 + x) = R (x * 6 + y) + R (y * 6 + x) := by
  by_cases h1 : x = a ∧ y = b
  · obtain ⟨rfl, rfl⟩ := h1
    rw [tf_ed_ba, tf_ed_ab ha hb h]
    omega
  · by_cases h2 : x = b ∧ y = a
    · obtain ⟨rfl, rfl⟩ := h2
      rw [tf_ed_ba, tf_ed_ab ha hb h]
      omega
    · rw [tf_ed_n (by omega) (by omega), tf_ed_n (by omega) (by omega)]
end
section
/-! paths: a place b and the list l of those before it -/
def tf_ch (cf : Nat → Int32) : Nat → List Nat → Prop
  | b, [] => b < 6 ∧ cf b = -1
  | b, a :: l => b < 6 ∧ cf b = nI a ∧ tf_ch cf a l
def tf_psh (m : Nat) : (Nat → Nat) → Nat → List Nat → (Nat → Nat)
  | R, _, [] => R
  | R, b, a :: l => tf_psh m (tf_ed R a b m) a l
def tf_mn (R : Nat → Nat) : Nat → Nat → List Nat → Nat
  | m, _, [] => m
  | m, b, a :: l => tf_mn R (if m ≤ R (a * 6 + b) then m else R (a * 6 + b)) a l
def tf_eg : Nat → List Nat → Nat → Nat → Prop
  | _, [], _, _ => False
  | b, a :: l, x, y => (x = b ∧ y = a) ∨ tf_eg a l x y
def tf_ls : Nat → List Nat → Nat
  | b, [] => b
  | _, a :: l => tf_ls a l
theorem tf_eg_mem : ∀ (l : List Nat) (b x y : Nat), tf_eg b l x y → (x = b ∨ x ∈ l) ∧ y ∈ l := by
  intro l
  induction l with
  | nil => intro b x y h; exact h.elim
  | cons a l ih =>
    intro b x y h
    rcases h with ⟨rfl, rfl⟩ | h
    · exact ⟨Or.inl rfl, List.mem_cons_self⟩
    · have h1 := ih a x y h
      refine ⟨Or.inr ?_, List.mem_cons_of_mem _ h1.2⟩
      rcases h1.1 with rfl | h2
      · exact List.mem_cons_self
      · exact List.mem_cons_of_mem _ h2
theorem tf_mn_le (R : Nat → Nat) : ∀ (l : List Nat) (m b : Nat), tf_mn R m b l ≤ m := by
  intro l
  induction l with
  | nil => intro m b; exact Nat.le_refl m
  | cons a l ih =>
    intro m b
    have h := ih (if m ≤ R (a * 6 + b) then m else R (a * 6 + b)) a
    show tf_mn R (if m ≤ R (a * 6 + b) then m else R (a * 6 + b)) a l ≤ m
    split at h <;> split <;> omega
theorem tf_mn_eg (R : Nat → Nat) : ∀ (l : List Nat) (m b x y : Nat), tf_eg b l x y → tf_mn R m b l ≤ R (y * 6 + x) := by
  intro l
  induction l with
  | nil => intro m b x y h; exact h.elim
  | cons a l ih =>
    intro m b x y h
    show tf_mn R (if m ≤ R (a * 6 + b) then m else R (a * 6 + b)) a l ≤ R (y * 6 + x)
    rcases h with ⟨rfl, rfl⟩ | h
    · have h1 := tf_mn_le R l (if m ≤ R (y * 6 + x) then m else R (y * 6 + x)) y
      split at h1 <;> split <;> omega
    · exact ih _ a x y h
theorem tf_mn_at (R : Nat → Nat) : ∀ (l : List Nat) (m b : Nat), tf_mn R m b l = m ∨ ∃ x y, tf_eg b l x y ∧ tf_mn R m b l = R (y * 6 + x) := by
  intro l
  induction l with
  | nil => intro m b; exact Or.inl rfl
  | cons a l ih =>
    intro m b
    have e : tf_mn R m b (a :: l) = tf_mn R (if m ≤ R (a * 6 + b) then m else R (a * 6 + b)) a l := rfl
    rw [e]
    rcases ih (if m ≤ R (a * 6 + b) then m else R (a * 6 + b)) a with h | ⟨x, y, h1, h2⟩
    · rw [h]
      by_cases hc : m ≤ R (a * 6 + b)
      · rw [if_pos hc]
        exact Or.inl rfl
      · rw [if_neg hc]
        exact Or.inr ⟨b, a, Or.inl ⟨rfl, rfl⟩, rfl⟩
    · exact Or.inr ⟨x, y, Or.inr h1, h2⟩
/-- what pushing does: for every side, and for every cell -/
theorem tf_psh_W (m : Nat) : ∀ (l : List Nat) (b : Nat) (R : Nat → Nat) (s : Nat), (b :: l).Nodup → (∀ x, x ∈ b :: l → x < 6) → (∀ x y, tf_eg b l x y → m ≤ R (y * 6 + x)) →
    tf_W (tf_psh m R b l) s + (if s.testBit (tf_ls b l) = true then m else 0) = tf_W R s + (if s.testBit b = true then m else 0) := by
  intro l
  induction l with
  | nil => intro b R s _ _ _; rfl
  | cons a l ih =>
    intro b R s hn h6 hm
    have hb : b < 6 := h6 b List.mem_cons_self
    have ha : a < 6 := h6 a (List.mem_cons_of_mem _ List.mem_cons_self)
    rw [List.nodup_cons] at hn
    have hab : a ≠ b := fun e => hn.1 (by rw [e]; exact List.mem_cons_self)
    have h1 := ih a (tf_ed R a b m) s hn.2 (fun x hx => h6 x (List.mem_cons_of_mem _ hx)) (fun x y h => by
      have q := tf_eg_mem l a x y h
      have xb : x ≠ b := by
        rintro rfl
        apply hn.1
        rcases q.1 with q1 | q1
        · rw [q1]; exact List.mem_cons_self
        · exact List.mem_cons_of_mem _ q1
      have yb : y ≠ b := by
        rintro rfl
        exact hn.1 (List.mem_cons_of_mem _ q.2)
      have hx6 : x < 6 := by
        rcases q.1 with q1 | q1
        · omega
        · exact h6 x (List.mem_cons_of_mem _ (List.mem_cons_of_mem _ q1))
      have hy6 : y < 6 := h6 y (List.mem_cons_of_mem _ (List.mem_cons_of_mem _ q.2))
      rw [tf_ed_n (by omega) (by omega)]
      exact hm x y (Or.inr h))
    have h2 := tf_W_ed s ha hb hab (hm b a (Or.inl ⟨rfl, rfl⟩))
    show tf_W (tf_psh m (tf_ed R a b m) a l) s + (if s.testBit (tf_ls a l) = true then m else 0) = _
    rw [h1, h2]
/-- a cell of two places of which one is not on the path stays -/
theorem tf_psh_n (m : Nat) : ∀ (l : List Nat) (b : Nat) (R : Nat → Nat) (x y : Nat), (∀ z, z ∈ b :: l → z < 6) → x < 6 → y < 6 → (x ∉ b :: l ∨ y ∉ b :: l) →
    tf_psh m R b l (x * 6 + y) = R (x * 6 + y) := by
  intro l
  induction l with
  | nil => intro b R x y _ _ _ _; rfl
  | cons a l ih =>
    intro b R x y h6 hx hy h
    have hb : b < 6 := h6 b List.mem_cons_self
    have ha : a < 6 := h6 a (List.mem_cons_of_mem _ List.mem_cons_self)
    show tf_psh m (tf_ed R a b m) a l (x * 6 + y) = _
    rw [ih a _ x y (fun z hz => h6 z (List.mem_cons_of_mem _ hz)) hx hy (h.imp (fun q z => q (List.mem_cons_of_mem _ z)) (fun q z => q (List.mem_cons_of_mem _ z)))]
    have : ¬ (x = a ∧ y = b) ∧ ¬ (x = b ∧ y = a) := by
      constructor
      · rintro ⟨rfl, rfl⟩
        rcases h with h | h
        · exact h (List.mem_cons_of_mem _ List.mem_cons_self)
        · exact h List.mem_cons_self
      · rintro ⟨rfl, rfl⟩
        rcases h with h | h
        · exact h List.mem_cons_self
        · exact h (List.mem_cons_of_mem _ List.mem_cons_self)
    exact tf_ed_n (by omega) (by omega)
/-- a cell that rises is an edge's other way -/
theorem tf_psh_up (m : Nat) : ∀ (l : List Nat) (b : Nat) (R : Nat → Nat) (x y : Nat), (∀ z, z ∈ b :: l → z < 6) → x < 6 → y < 6 → ¬ tf_eg b l x y →
    tf_psh m R b l (x * 6 + y) ≤ R (x * 6 + y) := by
  intro l
  induction l with
  | nil => intro b R x y _ _ _ _; exact Nat.le_refl _
  | cons a l ih =>
    intro b R x y h6 hx hy h
    have hb : b < 6 := h6 b List.mem_cons_self
    have ha : a < 6 := h6 a (List.mem_cons_of_mem _ List.mem_cons_self)
    have h1 := ih a (tf_ed R a b m) x y (fun z hz => h6 z (List.mem_cons_of_mem _ hz)) hx hy (fun q => h (Or.inr q))
    have h2 : ¬ (x = b ∧ y = a) := fun q => h (Or.inl q)
    have h3 : tf_ed R a b m (x * 6 + y) ≤ R (x * 6 + y) := by
      rw [tf_ed, if_neg (by omega)]
      split <;> omega
    show tf_psh m (tf_ed R a b m) a l (x * 6 + y) ≤ _
    omega
/-- an edge's own cell falls by the amount -/
theorem tf_psh_eg (m : Nat) : ∀ (l : List Nat) (b : Nat) (R : Nat → Nat) (x y : Nat), (b :: l).Nodup → (∀ z, z ∈ b :: l → z < 6) → tf_eg b l x y →
    tf_psh m R b l (y * 6 + x) = R (y * 6 + x) - m := by
  intro l
  induction l with
  | nil => intro b R x y _ _ h; exact h.elim
  | cons a l ih =>
    intro b R x y hn h6 h
    have hb : b < 6 := h6 b List.mem_cons_self
    have ha : a < 6 := h6 a (List.mem_cons_of_mem _ List.mem_cons_self)
    rw [List.nodup_cons] at hn
    have hab : a ≠ b := fun e => hn.1 (by rw [e]; exact List.mem_cons_self)
    have h6' : ∀ z, z ∈ a :: l → z < 6 := fun z hz => h6 z (List.mem_cons_of_mem _ hz)
    show tf_psh m (tf_ed R a b m) a l (y * 6 + x) = _
    rcases h with ⟨rfl, rfl⟩ | h
    · rw [tf_psh_n m l y _ y x h6' ha hb (Or.inr hn.1), tf_ed_ab ha hb hab]
    · have q := tf_eg_mem l a x y h
      have xb : x ∈ a :: l := by
        rcases q.1 with q1 | q1
        · rw [q1]; exact List.mem_cons_self
        · exact List.mem_cons_of_mem _ q1
      have yb : y ∈ a :: l := List.mem_cons_of_mem _ q.2
      have x6 := h6' x xb
      have y6 := h6' y yb
      have xn : x ≠ b := fun e => hn.1 (e ▸ xb)
      have yn : y ≠ b := fun e => hn.1 (e ▸ yb)
      rw [ih a _ x y hn.2 h6' h, tf_ed_n (by omega) (by omega)]
theorem tf_psh_pair (m : Nat) : ∀ (l : List Nat) (b : Nat) (R : Nat → Nat) (x y : Nat), (b :: l).Nodup → (∀ z, z ∈ b :: l → z < 6) → (∀ x y, tf_eg b l x y → m ≤ R (y * 6 + x)) → x < 6 → y < 6 →
    tf_psh m R b l (x * 6 + y) + tf_psh m R b l (y * 6 + x) = R (x * 6 + y) + R (y * 6 + x) := by
  intro l
  induction l with
  | nil => intro b R x y _ _ _ _ _; rfl
  | cons a l ih =>
    intro b R x y hn h6 hm hx hy
    have hb : b < 6 := h6 b List.mem_cons_self
    have ha : a < 6 := h6 a (List.mem_cons_of_mem _ List.mem_cons_self)
    rw [List.nodup_cons] at hn
    have hab : a ≠ b := fun e => hn.1 (by rw [e]; exact List.mem_cons_self)
    have h6' : ∀ z, z ∈ a :: l → z < 6 := fun z hz => h6 z (List.mem_cons_of_mem _ hz)
    show tf_psh m (tf_ed R a b m) a l (x * 6 + y) + tf_psh m (tf_ed R a b m) a l (y * 6 + x) = _
    rw [ih a _ x y hn.2 h6' (fun u v h => by
      have q := tf_eg_mem l a u v h
      have ub : u ∈ a :: l := by
        rcases q.1 with q1 | q1
        · rw [q1]; exact List.mem_cons_self
        · exact List.mem_cons_of_mem _ q1
      have vb : v ∈ a :: l := List.mem_cons_of_mem _ q.2
      have u6 := h6' u ub
      have v6 := h6' v vb
      have un : u ≠ b := fun e => hn.1 (e ▸ ub)
      have vn : v ≠ b := fun e => hn.1 (e ▸ vb)
      rw [tf_ed_n (by omega) (by omega)]
      exact hm u v (Or.inr h)) hx hy]
    exact tf_ed_pair ha hb hab (hm b a (Or.inl ⟨rfl, rfl⟩)) hx hy
end
section
/-! the pure law of the flow: a path keeps the balance of every separating side, and something falls -/
abbrev tf_sep (s g S : Nat) : Prop := ∀ p, p < 6 → (s.testBit p = true → S.testBit p = true) ∧ (g.testBit p = true → S.testBit p = false)
def tf_path (s g : Nat) (R : Nat → Nat) (b : Nat) (l : List Nat) : Prop :=
  (b :: l).Nodup ∧ (∀ x, x ∈ b :: l → x < 6) ∧ l ≠ [] ∧ g.testBit b = true ∧ (∀ x, x ∈ l → g.testBit x = false) ∧ s.testBit (tf_ls b l) = true ∧
  (∀ x y, tf_eg b l x y → s.testBit x = false ∧ 0 < R (y * 6 + x)) ∧
  (∀ x y, tf_eg b l x y → x ≠ b → ∀ t, t < 6 → g.testBit t = true → R (y * 6 + t) = 0)
noncomputable def tf_b01 (p : Prop) : Nat := @ite Nat p (Classical.propDecidable p) 1 0
theorem tf_b01_t {p : Prop} (h : p) : tf_b01 p = 1 := if_pos h
theorem tf_b01_f {p : Prop} (h : ¬ p) : tf_b01 p = 0 := if_neg h
theorem tf_b01_le (p : Prop) : tf_b01 p ≤ 1 := by
  by_cases h : p
  · rw [tf_b01_t h]; exact Nat.le_refl 1
  · rw [tf_b01_f h]; exact Nat.zero_le 1
def tf_al (s g : Nat) (R : Nat → Nat) (a b : Nat) : Prop :=
  0 < R (a * 6 + b) ∧ g.testBit a = false ∧ s.testBit b = false ∧ (s.testBit a = true ∨ g.testBit b = true ∨ ∃ t, t < 6 ∧ g.testBit t = true ∧ 0 < R (b * 6 + t))
noncomputable def tf_ac (s g : Nat) (R : Nat → Nat) : Nat := tf_sm (fun i => tf_b01 (tf_al s g R (i / 6) (i % 6))) 36
theorem tf_ac_36 (s g : Nat) (R : Nat → Nat) : tf_ac s g R ≤ 36 := by
  have h : tf_ac s g R ≤ tf_sm (fun _ => 1) 36 := tf_sm_le 36 fun i _ => tf_b01_le _
  have e : tf_sm (fun _ => 1) 36 = 36 := by decide
  omega
theorem tf_al_mono {s g : Nat} {R : Nat → Nat} {b : Nat} {l : List Nat} (m : Nat) (P : tf_path s g R b l) {x y : Nat} (hx : x < 6) (hy : y < 6)
    (h : tf_al s g (tf_psh m R b l) x y) : tf_al s g R x y := by
  obtain ⟨hn, h6, _, hg, hgl, hs, he, hz⟩ := P
  obtain ⟨h1, h2, h3, h4⟩ := h
  have D : s.testBit x = true ∨ g.testBit y = true ∨ ∃ t, t < 6 ∧ g.testBit t = true ∧ 0 < R (y * 6 + t) := by
    rcases h4 with h4 | h4 | ⟨t, ht, gt, rt⟩
    · exact Or.inl h4
    · exact Or.inr (Or.inl h4)
    · refine Or.inr (Or.inr ⟨t, ht, gt, ?_⟩)
      have q := tf_psh_up m l b R y t h6 hy ht (fun e => by
        have := hgl t (tf_eg_mem l b y t e).2
        rw [gt] at this
        exact Bool.noConfusion this)
      omega
  refine ⟨?_, h2, h3, D⟩
  by_cases e : tf_eg b l x y
  · exfalso
    have xb : x ≠ b := by
      rintro rfl
      rw [hg] at h2
      exact Bool.noConfusion h2
    have gy := hgl y (tf_eg_mem l b x y e).2
    rcases D with D | D | ⟨t, ht, gt, rt⟩
    · rw [(he x y e).1] at D
      exact Bool.noConfusion D
    · rw [gy] at D
      exact Bool.noConfusion D
    · have := hz x y e xb t ht gt
      omega
  · have := tf_psh_up m l b R x y h6 hx hy e
    omega
theorem tf_al_eg {s g : Nat} {R : Nat → Nat} {b : Nat} {l : List Nat} (P : tf_path s g R b l) (hl : l.length ≤ 3) {x y : Nat} (h : tf_eg b l x y) : tf_al s g R y x := by
  obtain ⟨hn, h6, _, hg, hgl, hs, he, hz⟩ := P
  refine ⟨(he x y h).2, hgl y (tf_eg_mem l b x y h).2, (he x y h).1, ?_⟩
  match l, hl, h, hs, he, h6 with
  | [], _, h, _, _, _ => exact h.elim
  | a1 :: l1, hl, h, hs, he, h6 =>
    rcases h with ⟨rfl, rfl⟩ | h
    · exact Or.inr (Or.inl hg)
    · match l1, hl, h, hs, he with
      | [], _, h, _, _ => exact h.elim
      | a2 :: l2, hl, h, hs, he =>
        rcases h with ⟨rfl, rfl⟩ | h
        · exact Or.inr (Or.inr ⟨b, h6 b List.mem_cons_self, hg, (he b x (Or.inl ⟨rfl, rfl⟩)).2⟩)
        · match l2, hl, h, hs with
          | [], _, h, _ => exact h.elim
          | [a3], _, h, hs =>
            rcases h with ⟨rfl, rfl⟩ | h
            · exact Or.inl hs
            · exact h.elim
          | a3 :: a4 :: l4, hl, _, _ => simp only [List.length_cons] at hl; omega
theorem tf_ac_lt {s g : Nat} {R : Nat → Nat} {b : Nat} {l : List Nat} {m : Nat} (P : tf_path s g R b l) (hl : l.length ≤ 3)
    (h0 : ∃ x y, tf_eg b l x y ∧ m = R (y * 6 + x)) : tf_ac s g (tf_psh m R b l) < tf_ac s g R := by
  obtain ⟨x, y, e, hm⟩ := h0
  have M := tf_eg_mem l b x y e
  have h6 := P.2.1
  have hx : x < 6 := h6 x (by
    rcases M.1 with q | q
    · rw [q]; exact List.mem_cons_self
    · exact List.mem_cons_of_mem _ q)
  have hy : y < 6 := h6 y (List.mem_cons_of_mem _ M.2)
  have d1 : (y * 6 + x) / 6 = y := by omega
  have d2 : (y * 6 + x) % 6 = x := by omega
  refine tf_sm_lt (y * 6 + x) ?_ 36 (by omega) ?_
  · show tf_b01 (tf_al s g (tf_psh m R b l) ((y * 6 + x) / 6) ((y * 6 + x) % 6)) < tf_b01 (tf_al s g R ((y * 6 + x) / 6) ((y * 6 + x) % 6))
    rw [d1, d2, tf_b01_t (tf_al_eg P hl e), tf_b01_f]
    · exact Nat.zero_lt_one
    · intro q
      have z := q.1
      rw [tf_psh_eg m l b R x y P.1 h6 e] at z
      omega
  · intro i hi
    show tf_b01 (tf_al s g (tf_psh m R b l) (i / 6) (i % 6)) ≤ tf_b01 (tf_al s g R (i / 6) (i % 6))
    by_cases q : tf_al s g (tf_psh m R b l) (i / 6) (i % 6)
    · rw [tf_b01_t q, tf_b01_t (tf_al_mono m P (by omega) (by omega) q)]
      exact Nat.le_refl 1
    · rw [tf_b01_f q]
      exact Nat.zero_le _
theorem tf_len {s g : Nat} {R : Nat → Nat} {b : Nat} {l : List Nat} (P : tf_path s g R b l)
    (H : ∀ x, x < 6 → ∀ y, y < 6 → ∀ z, z < 6 → s.testBit x = false → s.testBit y = false → s.testBit z = false → g.testBit x = false → g.testBit y = false → g.testBit z = false → x = y ∨ x = z ∨ y = z) : l.length ≤ 3 := by
  obtain ⟨hn, h6, _, hg, hgl, hs, he, hz⟩ := P
  match l, hn, h6, hgl, he with
  | [], _, _, _, _ => exact Nat.zero_le 3
  | [_], _, _, _, _ => exact Nat.le_of_ble_eq_true rfl
  | [_, _], _, _, _, _ => exact Nat.le_of_ble_eq_true rfl
  | [_, _, _], _, _, _, _ => exact Nat.le_of_ble_eq_true rfl
  | x :: y :: z :: w :: l4, hn, h6, hgl, he =>
    exfalso
    have q := H x (h6 x (by simp)) y (h6 y (by simp)) z (h6 z (by simp)) (he x y (Or.inr (Or.inl ⟨rfl, rfl⟩))).1 (he y z (Or.inr (Or.inr (Or.inl ⟨rfl, rfl⟩)))).1 (he z w (Or.inr (Or.inr (Or.inr (Or.inl ⟨rfl, rfl⟩))))).1 (hgl x (by simp)) (hgl y (by simp)) (hgl z (by simp))
    simp only [List.nodup_cons, List.mem_cons, not_or] at hn
    rcases q with q | q | q
    · exact hn.2.1.1 q
    · exact hn.2.1.2.1 q
    · exact hn.2.2.1.1 q
def tf_FI (c : Nat → Nat) (s g : Nat) (R : Nat → Nat) (t : Nat) : Prop :=
  (∀ a b, a < 6 → b < 6 → R (a * 6 + b) + R (b * 6 + a) = c (a * 6 + b) + c (b * 6 + a)) ∧
  (∀ S, S < 64 → tf_sep s g S → t + tf_W R S = tf_W c S)
theorem tf_FI_0 (c : Nat → Nat) (s g : Nat) : tf_FI c s g c 0 := ⟨fun _ _ _ _ => rfl, fun _ _ _ => Nat.zero_add _⟩
theorem tf_FI_le {c : Nat → Nat} {s g : Nat} {R : Nat → Nat} {t : Nat} (h : tf_FI c s g R t) (hc : ∀ i, c i ≤ 21) {i : Nat} (hi : i < 36) : R i ≤ 42 := by
  obtain ⟨a, b, ha, hb, rfl⟩ := tf_cell hi
  have h1 := h.1 a b ha hb
  have h2 := hc (a * 6 + b)
  have h3 := hc (b * 6 + a)
  omega
theorem tf_ls_mem : ∀ (l : List Nat) (b : Nat), tf_ls b l ∈ b :: l := by
  intro l
  induction l with
  | nil => intro b; exact List.mem_cons_self
  | cons a l ih => intro b; exact List.mem_cons_of_mem _ (ih a)
/-- the amount: an edge's room, and no more than any -/
theorem tf_amt {c : Nat → Nat} {s g : Nat} {R : Nat → Nat} {t : Nat} (h : tf_FI c s g R t) (hc : ∀ i, c i ≤ 21) {b : Nat} {l : List Nat} (P : tf_path s g R b l) :
    (∃ x y, tf_eg b l x y ∧ tf_mn R 1048576 b l = R (y * 6 + x)) ∧ 0 < tf_mn R 1048576 b l := by
  obtain ⟨hn, h6, h0, hg, hgl, hs, he, hz⟩ := P
  have A : ∃ x y, tf_eg b l x y ∧ tf_mn R 1048576 b l = R (y * 6 + x) := by
    rcases tf_mn_at R l 1048576 b with q | q
    · exfalso
      match l, h0, h6, q with
      | a :: l, _, h6, q =>
        have hb : b < 6 := h6 b (by simp)
        have ha : a < 6 := h6 a (by simp)
        have h1 := tf_mn_eg R (a :: l) 1048576 b b a (Or.inl ⟨rfl, rfl⟩)
        have h2 := tf_FI_le h hc (i := a * 6 + b) (by omega)
        omega
    · exact q
  refine ⟨A, ?_⟩
  obtain ⟨x, y, e, q⟩ := A
  rw [q]
  exact (he x y e).2
theorem tf_FI_step {c : Nat → Nat} {s g : Nat} {R : Nat → Nat} {t : Nat} (h : tf_FI c s g R t) {b : Nat} {l : List Nat} (P : tf_path s g R b l) :
    tf_FI c s g (tf_psh (tf_mn R 1048576 b l) R b l) (t + tf_mn R 1048576 b l) := by
  obtain ⟨hn, h6, h0, hg, hgl, hs, he, hz⟩ := P
  have hm := tf_mn_eg R l 1048576 b
  constructor
  · intro x y hx hy
    rw [tf_psh_pair _ l b R x y hn h6 hm hx hy]
    exact h.1 x y hx hy
  · intro S hS sp
    have w := tf_psh_W (tf_mn R 1048576 b l) l b R S hn h6 hm
    have i1 := (sp b (h6 b List.mem_cons_self)).2 hg
    have i2 := (sp _ (h6 _ (tf_ls_mem l b))).1 hs
    rw [i1, i2, if_pos rfl, if_neg Bool.noConfusion] at w
    have k := h.2 S hS sp
    omega
def tf_mc (c : Nat → Nat) (s g v : Nat) : Prop := (∃ S, S < 64 ∧ tf_sep s g S ∧ tf_W c S = v) ∧ ∀ S, S < 64 → tf_sep s g S → v ≤ tf_W c S
theorem tf_W_0 {R : Nat → Nat} {S : Nat} (h : ∀ a b, a < 6 → b < 6 → S.testBit a = true → S.testBit b = false → R (a * 6 + b) = 0) : tf_W R S = 0 := by
  refine tf_sm_0 36 fun i hi => ?_
  obtain ⟨a, b, ha, hb, rfl⟩ := tf_cell hi
  rw [tf_w, tf_cut_ab hb]
  by_cases q : (S.testBit a && !S.testBit b) = true
  · rw [if_pos q]
    rw [Bool.and_eq_true, Bool.not_eq_true'] at q
    exact h a b ha hb q.1 q.2
  · exact if_neg q
theorem tf_FI_end {c : Nat → Nat} {s g : Nat} {R : Nat → Nat} {t S : Nat} (h : tf_FI c s g R t) (hS : S < 64) (sp : tf_sep s g S)
    (z : ∀ a b, a < 6 → b < 6 → S.testBit a = true → S.testBit b = false → R (a * 6 + b) = 0) : tf_mc c s g t := by
  constructor
  · refine ⟨S, hS, sp, ?_⟩
    have := h.2 S hS sp
    rw [tf_W_0 z] at this
    omega
  · intro T hT q
    have := h.2 T hT q
    omega
/-- the two measures -/
theorem tf_W_le {c : Nat → Nat} {M : Nat} (hc : ∀ i, c i ≤ M) (s : Nat) : tf_W c s ≤ tf_W (fun _ => M) s := tf_sm_le 36 fun i _ => by
  rw [tf_w, tf_w]
  split
  · exact hc i
  · exact Nat.le_refl 0
theorem tf_W_1 : tf_W (fun _ => 21) 1 = 105 := by decide +kernel
theorem tf_W_4 : tf_W (fun _ => 21) 4 = 105 := by decide +kernel
theorem tf_H5m : ∀ x, x < 6 → Nat.testBit 5 x = false → Nat.testBit 10 x = false → x = 4 ∨ x = 5 := by decide +kernel
theorem tf_H5 : ∀ x, x < 6 → ∀ y, y < 6 → ∀ z, z < 6 → Nat.testBit 5 x = false → Nat.testBit 5 y = false → Nat.testBit 5 z = false → Nat.testBit 10 x = false → Nat.testBit 10 y = false → Nat.testBit 10 z = false → x = y ∨ x = z ∨ y = z := by
  intro x hx y hy z hz a1 a2 a3 b1 b2 b3
  have h1 := tf_H5m x hx a1 b1
  have h2 := tf_H5m y hy a2 b2
  have h3 := tf_H5m z hz a3 b3
  omega
theorem tf_H9m : ∀ x, x < 6 → Nat.testBit 9 x = false → Nat.testBit 6 x = false → x = 4 ∨ x = 5 := by decide +kernel
theorem tf_H9 : ∀ x, x < 6 → ∀ y, y < 6 → ∀ z, z < 6 → Nat.testBit 9 x = false → Nat.testBit 9 y = false → Nat.testBit 9 z = false → Nat.testBit 6 x = false → Nat.testBit 6 y = false → Nat.testBit 6 z = false → x = y ∨ x = z ∨ y = z := by
  intro x hx y hy z hz a1 a2 a3 b1 b2 b3
  have h1 := tf_H9m x hx a1 b1
  have h2 := tf_H9m y hy a2 b2
  have h3 := tf_H9m z hz a3 b3
  omega
/-- a measure that falls with every push, below 128 at the start -/
def tf_ms (c : Nat → Nat) (s g : Nat) (μ : (Nat → Nat) → Nat → Nat) : Prop :=
  μ c 0 < 128 ∧ ∀ R t b l, tf_FI c s g R t → tf_path s g R b l → μ (tf_psh (tf_mn R 1048576 b l) R b l) (t + tf_mn R 1048576 b l) < μ R t
theorem tf_ms_one {c : Nat → Nat} {s g : Nat} (hc : ∀ i, c i ≤ 21) (hs : s < 64) (hsg : tf_sep s g s) (hw : tf_W (fun _ => 21) s = 105) : tf_ms c s g (fun _ t => 105 - t) := by
  refine ⟨by show 105 - 0 < 128; omega, fun R t b l h P => ?_⟩
  show 105 - (t + tf_mn R 1048576 b l) < 105 - t
  have h1 := (tf_FI_step h P).2 s hs hsg
  have h2 := tf_W_le hc s
  have h3 := (tf_amt h hc P).2
  rw [hw] at h2
  omega
theorem tf_ms_two {c : Nat → Nat} {s g : Nat} (hc : ∀ i, c i ≤ 21)
    (H : ∀ x, x < 6 → ∀ y, y < 6 → ∀ z, z < 6 → s.testBit x = false → s.testBit y = false → s.testBit z = false → g.testBit x = false → g.testBit y = false → g.testBit z = false → x = y ∨ x = z ∨ y = z) :
    tf_ms c s g (fun R _ => tf_ac s g R) :=
  ⟨Nat.lt_of_le_of_lt (tf_ac_36 s g c) (by decide), fun _ _ _ _ h P => tf_ac_lt P (tf_len P H) (tf_amt h hc P).1⟩
end
section
/-! widths written out, kinds of sides, least widths (written by gen05.py) -/
theorem tf_We_0 (c : Nat → Nat) : tf_W c 0 = 0 + 0 + 0 + 0 + 0 + 0 + 0 + 0 + 0 + 0 + 0 + 0 + 0 + 0 + 0 + 0 + 0 + 0 + 0 + 0 + 0 + 0 + 0 + 0 + 0 + 0 + 0 + 0 + 0 + 0 + 0 + 0 + 0 + 0 + 0 + 0 + 0 := rfl
theorem tf_We_1 (c : Nat → Nat) : tf_W c 1 = 0 + 0 + c 1 + c 2 + c 3 + c 4 + c 5 + 0 + 0 + 0 + 0 + 0 + 0 + 0 + 0 + 0 + 0 + 0 + 0 + 0 + 0 + 0 + 0 + 0 + 0 + 0 + 0 + 0 + 0 + 0 + 0 + 0 + 0 + 0 + 0 + 0 + 0 := rfl
theorem tf_We_2 (c : Nat → Nat) : tf_W c 2 = 0 + 0 + 0 + 0 + 0 + 0 + 0 + c 6 + 0 + c 8 + c 9 + c 10 + c 11 + 0 + 0 + 0 + 0 + 0 + 0 + 0 + 0 + 0 + 0 + 0 + 0 + 0 + 0 + 0 + 0 + 0 + 0 + 0 + 0 + 0 + 0 + 0 + 0 := rfl
theorem tf_We_3 (c : Nat → Nat) : tf_W c 3 = 0 + 0 + 0 + c 2 + c 3 + c 4 + c 5 + 0 + 0 + c 8 + c 9 + c 10 + c 11 + 0 + 0 + 0 + 0 + 0 + 0 + 0 + 0 + 0 + 0 + 0 + 0 + 0 + 0 + 0 + 0 + 0 + 0 + 0 + 0 + 0 + 0 + 0 + 0 := rfl
theorem tf_We_4 (c : Nat → Nat) : tf_W c 4 = 0 + 0 + 0 + 0 + 0 + 0 + 0 + 0 + 0 + 0 + 0 + 0 + 0 + c 12 + c 13 + 0 + c 15 + c 16 + c 17 + 0 + 0 + 0 + 0 + 0 + 0 + 0 + 0 + 0 + 0 + 0 + 0 + 0 + 0 + 0 + 0 + 0 + 0 := rfl
theorem tf_We_5 (c : Nat → Nat) : tf_W c 5 = 0 + 0 + c 1 + 0 + c 3 + c 4 + c 5 + 0 + 0 + 0 + 0 + 0 + 0 + 0 + c 13 + 0 + c 15 + c 16 + c 17 + 0 + 0 + 0 + 0 + 0 + 0 + 0 + 0 + 0 + 0 + 0 + 0 + 0 + 0 + 0 + 0 + 0 + 0 := rfl
theorem tf_We_6 (c : Nat → Nat) : tf_W c 6 = 0 + 0 + 0 + 0 + 0 + 0 + 0 + c 6 + 0 + 0 + c 9 + c 10 + c 11 + c 12 + 0 + 0 + c 15 + c 16 + c 17 + 0 + 0 + 0 + 0 + 0 + 0 + 0 + 0 + 0 + 0 + 0 + 0 + 0 + 0 + 0 + 0 + 0 + 0 := rfl
theorem tf_We_7 (c : Nat → Nat) : tf_W c 7 = 0 + 0 + 0 + 0 + c 3 + c 4 + c 5 + 0 + 0 + 0 + c 9 + c 10 + c 11 + 0 + 0 + 0 + c 15 + c 16 + c 17 + 0 + 0 + 0 + 0 + 0 + 0 + 0 + 0 + 0 + 0 + 0 + 0 + 0 + 0 + 0 + 0 + 0 + 0 := rfl
theorem tf_We_8 (c : Nat → Nat) : tf_W c 8 = 0 + 0 + 0 + 0 + 0 + 0 + 0 + 0 + 0 + 0 + 0 + 0 + 0 + 0 + 0 + 0 + 0 + 0 + 0 + c 18 + c 19 + c 20 + 0 + c 22 + c 23 + 0 + 0 + 0 + 0 + 0 + 0 + 0 + 0 + 0 + 0 + 0 + 0 := rfl
theorem tf_We_9 (c : Nat → Nat) : tf_W c 9 = 0 + 0 + c 1 + c 2 + 0 + c 4 + c 5 + 0 + 0 + 0 + 0 + 0 + 0 + 0 + 0 + 0 + 0 + 0 + 0 + 0 + c 19 + c 20 + 0 + c 22 + c 23 + 0 + 0 + 0 + 0 + 0 + 0 + 0 + 0 + 0 + 0 + 0 + 0 := rfl
theorem tf_We_10 (c : Nat → Nat) : tf_W c 10 = 0 + 0 + 0 + 0 + 0 + 0 + 0 + c 6 + 0 + c 8 + 0 + c 10 + c 11 + 0 + 0 + 0 + 0 + 0 + 0 + c 18 + 0 + c 20 + 0 + c 22 + c 23 + 0 + 0 + 0 + 0 + 0 + 0 + 0 + 0 + 0 + 0 + 0 + 0 := rfl
theorem tf_We_11 (c : Nat → Nat) : tf_W c 11 = 0 + 0 + 0 + c 2 + 0 + c 4 + c 5 + 0 + 0 + c 8 + 0 + c 10 + c 11 + 0 + 0 + 0 + 0 + 0 + 0 + 0 + 0 + c 20 + 0 + c 22 + c 23 + 0 + 0 + 0 + 0 + 0 + 0 + 0 + 0 + 0 + 0 + 0 + 0 := rfl
theorem tf_We_12 (c : Nat → Nat) : tf_W c 12 = 0 + 0 + 0 + 0 + 0 + 0 + 0 + 0 + 0 + 0 + 0 + 0 + 0 + c 12 + c 13 + 0 + 0 + c 16 + c 17 + c 18 + c 19 + 0 + 0 + c 22 + c 23 + 0 + 0 + 0 + 0 + 0 + 0 + 0 + 0 + 0 + 0 + 0 + 0 := rfl
theorem tf_We_13 (c : Nat → Nat) : tf_W c 13 = 0 + 0 + c 1 + 0 + 0 + c 4 + c 5 + 0 + 0 + 0 + 0 + 0 + 0 + 0 + c 13 + 0 + 0 + c 16 + c 17 + 0 + c 19 + 0 + 0 + c 22 + c 23 + 0 + 0 + 0 + 0 + 0 + 0 + 0 + 0 + 0 + 0 + 0 + 0 := rfl
theorem tf_We_14 (c : Nat → Nat) : tf_W c 14 = 0 + 0 + 0 + 0 + 0 + 0 + 0 + c 6 + 0 + 0 + 0 + c 10 + c 11 + c 12 + 0 + 0 + 0 + c 16 + c 17 + c 18 + 0 + 0 + 0 + c 22 + c 23 + 0 + 0 + 0 + 0 + 0 + 0 + 0 + 0 + 0 + 0 + 0 + 0 := rfl
theorem tf_We_15 (c : Nat → Nat) : tf_W c 15 = 0 + 0 + 0 + 0 + 0 + c 4 + c 5 + 0 + 0 + 0 + 0 + c 10 + c 11 + 0 + 0 + 0 + 0 + c 16 + c 17 + 0 + 0 + 0 + 0 + c 22 + c 23 + 0 + 0 + 0 + 0 + 0 + 0 + 0 + 0 + 0 + 0 + 0 + 0 := rfl
theorem tf_We_16 (c : Nat → Nat) : tf_W c 16 = 0 + 0 + 0 + 0 + 0 + 0 + 0 + 0 + 0 + 0 + 0 + 0 + 0 + 0 + 0 + 0 + 0 + 0 + 0 + 0 + 0 + 0 + 0 + 0 + 0 + c 24 + c 25 + c 26 + c 27 + 0 + c 29 + 0 + 0 + 0 + 0 + 0 + 0 := rfl
theorem tf_We_17 (c : Nat → Nat) : tf_W c 17 = 0 + 0 + c 1 + c 2 + c 3 + 0 + c 5 + 0 + 0 + 0 + 0 + 0 + 0 + 0 + 0 + 0 + 0 + 0 + 0 + 0 + 0 + 0 + 0 + 0 + 0 + 0 + c 25 + c 26 + c 27 + 0 + c 29 + 0 + 0 + 0 + 0 + 0 + 0 := rfl
theorem tf_We_18 (c : Nat → Nat) : tf_W c 18 = 0 + 0 + 0 + 0 + 0 + 0 + 0 + c 6 + 0 + c 8 + c 9 + 0 + c 11 + 0 + 0 + 0 + 0 + 0 + 0 + 0 + 0 + 0 + 0 + 0 + 0 + c 24 + 0 + c 26 + c 27 + 0 + c 29 + 0 + 0 + 0 + 0 + 0 + 0 := rfl
theorem tf_We_19 (c : Nat → Nat) : tf_W c 19 = 0 + 0 + 0 + c 2 + c 3 + 0 + c 5 + 0 + 0 + c 8 + c 9 + 0 + c 11 + 0 + 0 + 0 + 0 + 0 + 0 + 0 + 0 + 0 + 0 + 0 + 0 + 0 + 0 + c 26 + c 27 + 0 + c 29 + 0 + 0 + 0 + 0 + 0 + 0 := rfl
theorem tf_We_20 (c : Nat → Nat) : tf_W c 20 = 0 + 0 + 0 + 0 + 0 + 0 + 0 + 0 + 0 + 0 + 0 + 0 + 0 + c 12 + c 13 + 0 + c 15 + 0 + c 17 + 0 + 0 + 0 + 0 + 0 + 0 + c 24 + c 25 + 0 + c 27 + 0 + c 29 + 0 + 0 + 0 + 0 + 0 + 0 := rfl
theorem tf_We_21 (c : Nat → Nat) : tf_W c 21 = 0 + 0 + c 1 + 0 + c 3 + 0 + c 5 + 0 + 0 + 0 + 0 + 0 + 0 + 0 + c 13 + 0 + c 15 + 0 + c 17 + 0 + 0 + 0 + 0 + 0 + 0 + 0 + c 25 + 0 + c 27 + 0 + c 29 + 0 + 0 + 0 + 0 + 0 + 0 := rfl
theorem tf_We_22 (c : Nat → Nat) : tf_W c 22 = 0 + 0 + 0 + 0 + 0 + 0 + 0 + c 6 + 0 + 0 + c 9 + 0 + c 11 + c 12 + 0 + 0 + c 15 + 0 + c 17 + 0 + 0 + 0 + 0 + 0 + 0 + c 24 + 0 + 0 + c 27 + 0 + c 29 + 0 + 0 + 0 + 0 + 0 + 0 := rfl
theorem tf_We_23 (c : Nat → Nat) : tf_W c 23 = 0 + 0 + 0 + 0 + c 3 + 0 + c 5 + 0 + 0 + 0 + c 9 + 0 + c 11 + 0 + 0 + 0 + c 15 + 0 + c 17 + 0 + 0 + 0 + 0 + 0 + 0 + 0 + 0 + 0 + c 27 + 0 + c 29 + 0 + 0 + 0 + 0 + 0 + 0 := rfl
theorem tf_We_24 (c : Nat → Nat) : tf_W c 24 = 0 + 0 + 0 + 0 + 0 + 0 + 0 + 0 + 0 + 0 + 0 + 0 + 0 + 0 + 0 + 0 + 0 + 0 + 0 + c 18 + c 19 + c 20 + 0 + 0 + c 23 + c 24 + c 25 + c 26 + 0 + 0 + c 29 + 0 + 0 + 0 + 0 + 0 + 0 := rfl
theorem tf_We_25 (c : Nat → Nat) : tf_W c 25 = 0 + 0 + c 1 + c 2 + 0 + 0 + c 5 + 0 + 0 + 0 + 0 + 0 + 0 + 0 + 0 + 0 + 0 + 0 + 0 + 0 + c 19 + c 20 + 0 + 0 + c 23 + 0 + c 25 + c 26 + 0 + 0 + c 29 + 0 + 0 + 0 + 0 + 0 + 0 := rfl
theorem tf_We_26 (c : Nat → Nat) : tf_W c 26 = 0 + 0 + 0 + 0 + 0 + 0 + 0 + c 6 + 0 + c 8 + 0 + 0 + c 11 + 0 + 0 + 0 + 0 + 0 + 0 + c 18 + 0 + c 20 + 0 + 0 + c 23 + c 24 + 0 + c 26 + 0 + 0 + c 29 + 0 + 0 + 0 + 0 + 0 + 0 := rfl
theorem tf_We_27 (c : Nat → Nat) : tf_W c 27 = 0 + 0 + 0 + c 2 + 0 + 0 + c 5 + 0 + 0 + c 8 + 0 + 0 + c 11 + 0 + 0 + 0 + 0 + 0 + 0 + 0 + 0 + c 20 + 0 + 0 + c 23 + 0 + 0 + c 26 + 0 + 0 + c 29 + 0 + 0 + 0 + 0 + 0 + 0 := rfl
theorem tf_We_28 (c : Nat → Nat) : tf_W c 28 = 0 + 0 + 0 + 0 + 0 + 0 + 0 + 0 + 0 + 0 + 0 + 0 + 0 + c 12 + c 13 + 0 + 0 + 0 + c 17 + c 18 + c 19 + 0 + 0 + 0 + c 23 + c 24 + c 25 + 0 + 0 + 0 + c 29 + 0 + 0 + 0 + 0 + 0 + 0 := rfl
theorem tf_We_29 (c : Nat → Nat) : tf_W c 29 = 0 + 0 + c 1 + 0 + 0 + 0 + c 5 + 0 + 0 + 0 + 0 + 0 + 0 + 0 + c 13 + 0 + 0 + 0 + c 17 + 0 + c 19 + 0 + 0 + 0 + c 23 + 0 + c 25 + 0 + 0 + 0 + c 29 + 0 + 0 + 0 + 0 + 0 + 0 := rfl
theorem tf_We_30 (c : Nat → Nat) : tf_W c 30 = 0 + 0 + 0 + 0 + 0 + 0 + 0 + c 6 + 0 + 0 + 0 + 0 + c 11 + c 12 + 0 + 0 + 0 + 0 + c 17 + c 18 + 0 + 0 + 0 + 0 + c 23 + c 24 + 0 + 0 + 0 + 0 + c 29 + 0 + 0 + 0 + 0 + 0 + 0 := rfl
theorem tf_We_31 (c : Nat → Nat) : tf_W c 31 = 0 + 0 + 0 + 0 + 0 + 0 + c 5 + 0 + 0 + 0 + 0 + 0 + c 11 + 0 + 0 + 0 + 0 + 0 + c 17 + 0 + 0 + 0 + 0 + 0 + c 23 + 0 + 0 + 0 + 0 + 0 + c 29 + 0 + 0 + 0 + 0 + 0 + 0 := rfl
theorem tf_We_32 (c : Nat → Nat) : tf_W c 32 = 0 + 0 + 0 + 0 + 0 + 0 + 0 + 0 + 0 + 0 + 0 + 0 + 0 + 0 + 0 + 0 + 0 + 0 + 0 + 0 + 0 + 0 + 0 + 0 + 0 + 0 + 0 + 0 + 0 + 0 + 0 + c 30 + c 31 + c 32 + c 33 + c 34 + 0 := rfl
theorem tf_We_33 (c : Nat → Nat) : tf_W c 33 = 0 + 0 + c 1 + c 2 + c 3 + c 4 + 0 + 0 + 0 + 0 + 0 + 0 + 0 + 0 + 0 + 0 + 0 + 0 + 0 + 0 + 0 + 0 + 0 + 0 + 0 + 0 + 0 + 0 + 0 + 0 + 0 + 0 + c 31 + c 32 + c 33 + c 34 + 0 := rfl
theorem tf_We_34 (c : Nat → Nat) : tf_W c 34 = 0 + 0 + 0 + 0 + 0 + 0 + 0 + c 6 + 0 + c 8 + c 9 + c 10 + 0 + 0 + 0 + 0 + 0 + 0 + 0 + 0 + 0 + 0 + 0 + 0 + 0 + 0 + 0 + 0 + 0 + 0 + 0 + c 30 + 0 + c 32 + c 33 + c 34 + 0 := rfl
theorem tf_We_35 (c : Nat → Nat) : tf_W c 35 = 0 + 0 + 0 + c 2 + c 3 + c 4 + 0 + 0 + 0 + c 8 + c 9 + c 10 + 0 + 0 + 0 + 0 + 0 + 0 + 0 + 0 + 0 + 0 + 0 + 0 + 0 + 0 + 0 + 0 + 0 + 0 + 0 + 0 + 0 + c 32 + c 33 + c 34 + 0 := rfl
theorem tf_We_36 (c : Nat → Nat) : tf_W c 36 = 0 + 0 + 0 + 0 + 0 + 0 + 0 + 0 + 0 + 0 + 0 + 0 + 0 + c 12 + c 13 + 0 + c 15 + c 16 + 0 + 0 + 0 + 0 + 0 + 0 + 0 + 0 + 0 + 0 + 0 + 0 + 0 + c 30 + c 31 + 0 + c 33 + c 34 + 0 := rfl
theorem tf_We_37 (c : Nat → Nat) : tf_W c 37 = 0 + 0 + c 1 + 0 + c 3 + c 4 + 0 + 0 + 0 + 0 + 0 + 0 + 0 + 0 + c 13 + 0 + c 15 + c 16 + 0 + 0 + 0 + 0 + 0 + 0 + 0 + 0 + 0 + 0 + 0 + 0 + 0 + 0 + c 31 + 0 + c 33 + c 34 + 0 := rfl
theorem tf_We_38 (c : Nat → Nat) : tf_W c 38 = 0 + 0 + 0 + 0 + 0 + 0 + 0 + c 6 + 0 + 0 + c 9 + c 10 + 0 + c 12 + 0 + 0 + c 15 + c 16 + 0 + 0 + 0 + 0 + 0 + 0 + 0 + 0 + 0 + 0 + 0 + 0 + 0 + c 30 + 0 + 0 + c 33 + c 34 + 0 := rfl
theorem tf_We_39 (c : Nat → Nat) : tf_W c 39 = 0 + 0 + 0 + 0 + c 3 + c 4 + 0 + 0 + 0 + 0 + c 9 + c 10 + 0 + 0 + 0 + 0 + c 15 + c 16 + 0 + 0 + 0 + 0 + 0 + 0 + 0 + 0 + 0 + 0 + 0 + 0 + 0 + 0 + 0 + 0 + c 33 + c 34 + 0 := rfl
theorem tf_We_40 (c : Nat → Nat) : tf_W c 40 = 0 + 0 + 0 + 0 + 0 + 0 + 0 + 0 + 0 + 0 + 0 + 0 + 0 + 0 + 0 + 0 + 0 + 0 + 0 + c 18 + c 19 + c 20 + 0 + c 22 + 0 + 0 + 0 + 0 + 0 + 0 + 0 + c 30 + c 31 + c 32 + 0 + c 34 + 0 := rfl
theorem tf_We_41 (c : Nat → Nat) : tf_W c 41 = 0 + 0 + c 1 + c 2 + 0 + c 4 + 0 + 0 + 0 + 0 + 0 + 0 + 0 + 0 + 0 + 0 + 0 + 0 + 0 + 0 + c 19 + c 20 + 0 + c 22 + 0 + 0 + 0 + 0 + 0 + 0 + 0 + 0 + c 31 + c 32 + 0 + c 34 + 0 := rfl
theorem tf_We_42 (c : Nat → Nat) : tf_W c 42 = 0 + 0 + 0 + 0 + 0 + 0 + 0 + c 6 + 0 + c 8 + 0 + c 10 + 0 + 0 + 0 + 0 + 0 + 0 + 0 + c 18 + 0 + c 20 + 0 + c 22 + 0 + 0 + 0 + 0 + 0 + 0 + 0 + c 30 + 0 + c 32 + 0 + c 34 + 0 := rfl
theorem tf_We_43 (c : Nat → Nat) : tf_W c 43 = 0 + 0 + 0 + c 2 + 0 + c 4 + 0 + 0 + 0 + c 8 + 0 + c 10 + 0 + 0 + 0 + 0 + 0 + 0 + 0 + 0 + 0 + c 20 + 0 + c 22 + 0 + 0 + 0 + 0 + 0 + 0 + 0 + 0 + 0 + c 32 + 0 + c 34 + 0 := rfl
theorem tf_We_44 (c : Nat → Nat) : tf_W c 44 = 0 + 0 + 0 + 0 + 0 + 0 + 0 + 0 + 0 + 0 + 0 + 0 + 0 + c 12 + c 13 + 0 + 0 + c 16 + 0 + c 18 + c 19 + 0 + 0 + c 22 + 0 + 0 + 0 + 0 + 0 + 0 + 0 + c 30 + c 31 + 0 + 0 + c 34 + 0 := rfl
theorem tf_We_45 (c : Nat → Nat) : tf_W c 45 = 0 + 0 + c 1 + 0 + 0 + c 4 + 0 + 0 + 0 + 0 + 0 + 0 + 0 + 0 + c 13 + 0 + 0 + c 16 + 0 + 0 + c 19 + 0 + 0 + c 22 + 0 + 0 + 0 + 0 + 0 + 0 + 0 + 0 + c 31 + 0 + 0 + c 34 + 0 := rfl
theorem tf_We_46 (c : Nat → Nat) : tf_W c 46 = 0 + 0 + 0 + 0 + 0 + 0 + 0 + c 6 + 0 + 0 + 0 + c 10 + 0 + c 12 + 0 + 0 + 0 + c 16 + 0 + c 18 + 0 + 0 + 0 + c 22 + 0 + 0 + 0 + 0 + 0 + 0 + 0 + c 30 + 0 + 0 + 0 + c 34 + 0 := rfl
theorem tf_We_47 (c : Nat → Nat) : tf_W c 47 = 0 + 0 + 0 + 0 + 0 + c 4 + 0 + 0 + 0 + 0 + 0 + c 10 + 0 + 0 + 0 + 0 + 0 + c 16 + 0 + 0 + 0 + 0 + 0 + c 22 + 0 + 0 + 0 + 0 + 0 + 0 + 0 + 0 + 0 + 0 + 0 + c 34 + 0 := rfl
theorem tf_We_48 (c : Nat → Nat) : tf_W c 48 = 0 + 0 + 0 + 0 + 0 + 0 + 0 + 0 + 0 + 0 + 0 + 0 + 0 + 0 + 0 + 0 + 0 + 0 + 0 + 0 + 0 + 0 + 0 + 0 + 0 + c 24 + c 25 + c 26 + c 27 + 0 + 0 + c 30 + c 31 + c 32 + c 33 + 0 + 0 := rfl
theorem tf_We_49 (c : Nat → Nat) : tf_W c 49 = 0 + 0 + c 1 + c 2 + c 3 + 0 + 0 + 0 + 0 + 0 + 0 + 0 + 0 + 0 + 0 + 0 + 0 + 0 + 0 + 0 + 0 + 0 + 0 + 0 + 0 + 0 + c 25 + c 26 + c 27 + 0 + 0 + 0 + c 31 + c 32 + c 33 + 0 + 0 := rfl
theorem tf_We_50 (c : Nat → Nat) : tf_W c 50 = 0 + 0 + 0 + 0 + 0 + 0 + 0 + c 6 + 0 + c 8 + c 9 + 0 + 0 + 0 + 0 + 0 + 0 + 0 + 0 + 0 + 0 + 0 + 0 + 0 + 0 + c 24 + 0 + c 26 + c 27 + 0 + 0 + c 30 + 0 + c 32 + c 33 + 0 + 0 := rfl
theorem tf_We_51 (c : Nat → Nat) : tf_W c 51 = 0 + 0 + 0 + c 2 + c 3 + 0 + 0 + 0 + 0 + c 8 + c 9 + 0 + 0 + 0 + 0 + 0 + 0 + 0 + 0 + 0 + 0 + 0 + 0 + 0 + 0 + 0 + 0 + c 26 + c 27 + 0 + 0 + 0 + 0 + c 32 + c 33 + 0 + 0 := rfl
theorem tf_We_52 (c : Nat → Nat) : tf_W c 52 = 0 + 0 + 0 + 0 + 0 + 0 + 0 + 0 + 0 + 0 + 0 + 0 + 0 + c 12 + c 13 + 0 + c 15 + 0 + 0 + 0 + 0 + 0 + 0 + 0 + 0 + c 24 + c 25 + 0 + c 27 + 0 + 0 + c 30 + c 31 + 0 + c 33 + 0 + 0 := rfl
theorem tf_We_53 (c : Nat → Nat) : tf_W c 53 = 0 + 0 + c 1 + 0 + c 3 + 0 + 0 + 0 + 0 + 0 + 0 + 0 + 0 + 0 + c 13 + 0 + c 15 + 0 + 0 + 0 + 0 + 0 + 0 + 0 + 0 + 0 + c 25 + 0 + c 27 + 0 + 0 + 0 + c 31 + 0 + c 33 + 0 + 0 := rfl
theorem tf_We_54 (c : Nat → Nat) : tf_W c 54 = 0 + 0 + 0 + 0 + 0 + 0 + 0 + c 6 + 0 + 0 + c 9 + 0 + 0 + c 12 + 0 + 0 + c 15 + 0 + 0 + 0 + 0 + 0 + 0 + 0 + 0 + c 24 + 0 + 0 + c 27 + 0 + 0 + c 30 + 0 + 0 + c 33 + 0 + 0 := rfl
theorem tf_We_55 (c : Nat → Nat) : tf_W c 55 = 0 + 0 + 0 + 0 + c 3 + 0 + 0 + 0 + 0 + 0 + c 9 + 0 + 0 + 0 + 0 + 0 + c 15 + 0 + 0 + 0 + 0 + 0 + 0 + 0 + 0 + 0 + 0 + 0 + c 27 + 0 + 0 + 0 + 0 + 0 + c 33 + 0 + 0 := rfl
theorem tf_We_56 (c : Nat → Nat) : tf_W c 56 = 0 + 0 + 0 + 0 + 0 + 0 + 0 + 0 + 0 + 0 + 0 + 0 + 0 + 0 + 0 + 0 + 0 + 0 + 0 + c 18 + c 19 + c 20 + 0 + 0 + 0 + c 24 + c 25 + c 26 + 0 + 0 + 0 + c 30 + c 31 + c 32 + 0 + 0 + 0 := rfl
theorem tf_We_57 (c : Nat → Nat) : tf_W c 57 = 0 + 0 + c 1 + c 2 + 0 + 0 + 0 + 0 + 0 + 0 + 0 + 0 + 0 + 0 + 0 + 0 + 0 + 0 + 0 + 0 + c 19 + c 20 + 0 + 0 + 0 + 0 + c 25 + c 26 + 0 + 0 + 0 + 0 + c 31 + c 32 + 0 + 0 + 0 := rfl
theorem tf_We_58 (c : Nat → Nat) : tf_W c 58 = 0 + 0 + 0 + 0 + 0 + 0 + 0 + c 6 + 0 + c 8 + 0 + 0 + 0 + 0 + 0 + 0 + 0 + 0 + 0 + c 18 + 0 + c 20 + 0 + 0 + 0 + c 24 + 0 + c 26 + 0 + 0 + 0 + c 30 + 0 + c 32 + 0 + 0 + 0 := rfl
theorem tf_We_59 (c : Nat → Nat) : tf_W c 59 = 0 + 0 + 0 + c 2 + 0 + 0 + 0 + 0 + 0 + c 8 + 0 + 0 + 0 + 0 + 0 + 0 + 0 + 0 + 0 + 0 + 0 + c 20 + 0 + 0 + 0 + 0 + 0 + c 26 + 0 + 0 + 0 + 0 + 0 + c 32 + 0 + 0 + 0 := rfl
theorem tf_We_60 (c : Nat → Nat) : tf_W c 60 = 0 + 0 + 0 + 0 + 0 + 0 + 0 + 0 + 0 + 0 + 0 + 0 + 0 + c 12 + c 13 + 0 + 0 + 0 + 0 + c 18 + c 19 + 0 + 0 + 0 + 0 + c 24 + c 25 + 0 + 0 + 0 + 0 + c 30 + c 31 + 0 + 0 + 0 + 0 := rfl
theorem tf_We_61 (c : Nat → Nat) : tf_W c 61 = 0 + 0 + c 1 + 0 + 0 + 0 + 0 + 0 + 0 + 0 + 0 + 0 + 0 + 0 + c 13 + 0 + 0 + 0 + 0 + 0 + c 19 + 0 + 0 + 0 + 0 + 0 + c 25 + 0 + 0 + 0 + 0 + 0 + c 31 + 0 + 0 + 0 + 0 := rfl
theorem tf_We_62 (c : Nat → Nat) : tf_W c 62 = 0 + 0 + 0 + 0 + 0 + 0 + 0 + c 6 + 0 + 0 + 0 + 0 + 0 + c 12 + 0 + 0 + 0 + 0 + 0 + c 18 + 0 + 0 + 0 + 0 + 0 + c 24 + 0 + 0 + 0 + 0 + 0 + c 30 + 0 + 0 + 0 + 0 + 0 := rfl
theorem tf_We_63 (c : Nat → Nat) : tf_W c 63 = 0 + 0 + 0 + 0 + 0 + 0 + 0 + 0 + 0 + 0 + 0 + 0 + 0 + 0 + 0 + 0 + 0 + 0 + 0 + 0 + 0 + 0 + 0 + 0 + 0 + 0 + 0 + 0 + 0 + 0 + 0 + 0 + 0 + 0 + 0 + 0 + 0 := rfl
theorem tf_tr {f g : Nat → Nat} (h : ∀ a b, a < 6 → b < 6 → f (a * 6 + b) = g (b * 6 + a)) : tf_sm f 36 = tf_sm g 36 := by
  have h00 : f 0 = g 0 := h 0 0 (by decide) (by decide)
  have h01 : f 1 = g 6 := h 0 1 (by decide) (by decide)
  have h02 : f 2 = g 12 := h 0 2 (by decide) (by decide)
  have h03 : f 3 = g 18 := h 0 3 (by decide) (by decide)
  have h04 : f 4 = g 24 := h 0 4 (by decide) (by decide)
  have h05 : f 5 = g 30 := h 0 5 (by decide) (by decide)
  have h10 : f 6 = g 1 := h 1 0 (by decide) (by decide)
  have h11 : f 7 = g 7 := h 1 1 (by decide) (by decide)
  have h12 : f 8 = g 13 := h 1 2 (by decide) (by decide)
  have h13 : f 9 = g 19 := h 1 3 (by decide) (by decide)
  have h14 : f 10 = g 25 := h 1 4 (by decide) (by decide)
  have h15 : f 11 = g 31 := h 1 5 (by decide) (by decide)
  have h20 : f 12 = g 2 := h 2 0 (by decide) (by decide)
  have h21 : f 13 = g 8 := h 2 1 (by decide) (by decide)
  have h22 : f 14 = g 14 := h 2 2 (by decide) (by decide)
  have h23 : f 15 = g 20 := h 2 3 (by decide) (by decide)
  have h24 : f 16 = g 26 := h 2 4 (by decide) (by decide)
  have h25 : f 17 = g 32 := h 2 5 (by decide) (by decide)
  have h30 : f 18 = g 3 := h 3 0 (by decide) (by decide)
  have h31 : f 19 = g 9 := h 3 1 (by decide) (by decide)
  have h32 : f 20 = g 15 := h 3 2 (by decide) (by decide)
  have h33 : f 21 = g 21 := h 3 3 (by decide) (by decide)
  have h34 : f 22 = g 27 := h 3 4 (by decide) (by decide)
  have h35 : f 23 = g 33 := h 3 5 (by decide) (by decide)
  have h40 : f 24 = g 4 := h 4 0 (by decide) (by decide)
  have h41 : f 25 = g 10 := h 4 1 (by decide) (by decide)
  have h42 : f 26 = g 16 := h 4 2 (by decide) (by decide)
  have h43 : f 27 = g 22 := h 4 3 (by decide) (by decide)
  have h44 : f 28 = g 28 := h 4 4 (by decide) (by decide)
  have h45 : f 29 = g 34 := h 4 5 (by decide) (by decide)
  have h50 : f 30 = g 5 := h 5 0 (by decide) (by decide)
  have h51 : f 31 = g 11 := h 5 1 (by decide) (by decide)
  have h52 : f 32 = g 17 := h 5 2 (by decide) (by decide)
  have h53 : f 33 = g 23 := h 5 3 (by decide) (by decide)
  have h54 : f 34 = g 29 := h 5 4 (by decide) (by decide)
  have h55 : f 35 = g 35 := h 5 5 (by decide) (by decide)
  simp only [tf_sm]
  omega
theorem tf_cmp : ∀ s, s < 64 → ∀ p, p < 6 → Nat.testBit (63 - s) p = !Nat.testBit s p := by decide +kernel
theorem tf_W_cmp {c : Nat → Nat} (hc : ∀ a b, a < 6 → b < 6 → c (a * 6 + b) = c (b * 6 + a)) {s : Nat} (hs : s < 64) : tf_W c (63 - s) = tf_W c s := by
  refine tf_tr fun a b ha hb => ?_
  rw [tf_w, tf_w, tf_cut_ab hb, tf_cut_ab ha, tf_cmp s hs a ha, tf_cmp s hs b hb, hc a b ha hb]
  cases s.testBit a <;> cases s.testBit b <;> rfl
def tf_kd (s : Nat) : Nat := (s ^^^ s / 2) % 2 + (s ^^^ s / 2) / 4 % 2 * 2
def tf_mw (c : Nat → Nat) (k : Nat) : Nat → Nat
  | 0 => 1000
  | s + 1 => if tf_kd s = k then (if tf_mw c k s ≤ tf_W c s then tf_mw c k s else tf_W c s) else tf_mw c k s
def tf_L (c : Nat → Nat) (k : Nat) : Nat := tf_mw c k 64
theorem tf_mw_s (c : Nat → Nat) (k s : Nat) : tf_mw c k (s + 1) = if tf_kd s = k then (if tf_mw c k s ≤ tf_W c s then tf_mw c k s else tf_W c s) else tf_mw c k s := rfl
theorem tf_mw_1000 (c : Nat → Nat) (k : Nat) : ∀ n, tf_mw c k n ≤ 1000 := by
  intro n
  induction n with
  | zero => exact Nat.le_refl 1000
  | succ n ih =>
    rw [tf_mw_s]
    split
    · split <;> omega
    · exact ih
theorem tf_mw_le (c : Nat → Nat) (k S : Nat) (hk : tf_kd S = k) : ∀ n, S < n → tf_mw c k n ≤ tf_W c S := by
  intro n
  induction n with
  | zero => intro h; omega
  | succ n ih =>
    intro h
    rw [tf_mw_s]
    by_cases e : S = n
    · subst e
      rw [if_pos hk]
      split <;> omega
    · have := ih (by omega)
      split
      · split <;> omega
      · exact this
theorem tf_mw_at (c : Nat → Nat) (k : Nat) : ∀ n, tf_mw c k n = 1000 ∨ ∃ S, S < n ∧ tf_kd S = k ∧ tf_W c S = tf_mw c k n := by
  intro n
  induction n with
  | zero => exact Or.inl rfl
  | succ n ih =>
    have ih' : tf_mw c k n = 1000 ∨ ∃ S, S < n + 1 ∧ tf_kd S = k ∧ tf_W c S = tf_mw c k n := by
      rcases ih with h | ⟨S, h1, h2, h3⟩
      · exact Or.inl h
      · exact Or.inr ⟨S, by omega, h2, h3⟩
    rw [tf_mw_s]
    by_cases e : tf_kd n = k
    · rw [if_pos e]
      by_cases q : tf_mw c k n ≤ tf_W c n
      · rw [if_pos q]
        exact ih'
      · rw [if_neg q]
        exact Or.inr ⟨n, by omega, e, rfl⟩
    · rw [if_neg e]
      exact ih'
theorem tf_W_756 : ∀ s, s < 64 → tf_W (fun _ => 21) s ≤ 756 := by decide +kernel
theorem tf_W_lt {c : Nat → Nat} (hc : ∀ i, c i ≤ 21) {s : Nat} (hs : s < 64) : tf_W c s ≤ 756 := Nat.le_trans (tf_W_le hc s) (tf_W_756 s hs)
theorem tf_L_le {c : Nat → Nat} {k S : Nat} (hS : S < 64) (hk : tf_kd S = k) : tf_L c k ≤ tf_W c S := tf_mw_le c k S hk 64 hS
theorem tf_L_at {c : Nat → Nat} (hc : ∀ i, c i ≤ 21) {k T : Nat} (hT : T < 64) (hk : tf_kd T = k) : ∃ S, S < 64 ∧ tf_kd S = k ∧ tf_W c S = tf_L c k := by
  rcases tf_mw_at c k 64 with h | h
  · have h1 : tf_L c k = 1000 := h
    have h2 := tf_L_le (c := c) hT hk
    have h3 := tf_W_lt hc hT
    omega
  · exact h
theorem tf_L_756 {c : Nat → Nat} (hc : ∀ i, c i ≤ 21) {k T : Nat} (hT : T < 64) (hk : tf_kd T = k) : tf_L c k ≤ 756 := Nat.le_trans (tf_L_le hT hk) (tf_W_lt hc hT)
theorem tf_K1 : ∀ S, S < 64 → tf_sep 1 2 S → tf_kd S = 1 ∨ tf_kd S = 3 := by decide +kernel
def tf_sb (s g S : Nat) : Bool := (S &&& s == s) && (S &&& g == 0)
theorem tf_sb1 : ∀ S, S < 64 → tf_sb 1 2 S = true → tf_sep 1 2 S := by decide +kernel
theorem tf_sb2 : ∀ S, S < 64 → tf_sb 4 8 S = true → tf_sep 4 8 S := by decide +kernel
theorem tf_sb3 : ∀ S, S < 64 → tf_sb 5 10 S = true → tf_sep 5 10 S := by decide +kernel
theorem tf_sb4 : ∀ S, S < 64 → tf_sb 9 6 S = true → tf_sep 9 6 S := by decide +kernel
theorem tf_K1b : ∀ S, S < 64 → (tf_kd S = 1 ∨ tf_kd S = 3) → tf_sb 1 2 S = true ∨ tf_sb 1 2 (63 - S) = true := by decide +kernel
theorem tf_K2b : ∀ S, S < 64 → (tf_kd S = 2 ∨ tf_kd S = 3) → tf_sb 4 8 S = true ∨ tf_sb 4 8 (63 - S) = true := by decide +kernel
theorem tf_K3b : ∀ S, S < 64 → tf_kd S = 3 → (tf_sb 5 10 S = true ∨ tf_sb 5 10 (63 - S) = true) ∨ (tf_sb 9 6 S = true ∨ tf_sb 9 6 (63 - S) = true) := by decide +kernel
theorem tf_K1' (S : Nat) (hS : S < 64) (h : tf_kd S = 1 ∨ tf_kd S = 3) : tf_sep 1 2 S ∨ tf_sep 1 2 (63 - S) := (tf_K1b S hS h).imp (tf_sb1 S hS) (tf_sb1 (63 - S) (by omega))
theorem tf_K2 : ∀ S, S < 64 → tf_sep 4 8 S → tf_kd S = 2 ∨ tf_kd S = 3 := by decide +kernel
theorem tf_K2' (S : Nat) (hS : S < 64) (h : tf_kd S = 2 ∨ tf_kd S = 3) : tf_sep 4 8 S ∨ tf_sep 4 8 (63 - S) := (tf_K2b S hS h).imp (tf_sb2 S hS) (tf_sb2 (63 - S) (by omega))
theorem tf_K3 : ∀ S, S < 64 → tf_sep 5 10 S → tf_kd S = 3 := by decide +kernel
theorem tf_K4 : ∀ S, S < 64 → tf_sep 9 6 S → tf_kd S = 3 := by decide +kernel
theorem tf_K3' (S : Nat) (hS : S < 64) (h : tf_kd S = 3) : (tf_sep 5 10 S ∨ tf_sep 5 10 (63 - S)) ∨ (tf_sep 9 6 S ∨ tf_sep 9 6 (63 - S)) :=
  (tf_K3b S hS h).imp (fun q => q.imp (tf_sb3 S hS) (tf_sb3 (63 - S) (by omega))) (fun q => q.imp (tf_sb4 S hS) (tf_sb4 (63 - S) (by omega)))
/-- all at most M, the same both ways -/
def tf_OK (M : Nat) (c : Nat → Nat) : Prop := (∀ i, c i ≤ M) ∧ ∀ a b, a < 6 → b < 6 → c (a * 6 + b) = c (b * 6 + a)
theorem tf_mc_le {c : Nat → Nat} {s g v : Nat} (hc : tf_OK 21 c) (h : tf_mc c s g v) {S : Nat} (hS : S < 64) (q : tf_sep s g S ∨ tf_sep s g (63 - S)) : v ≤ tf_W c S := by
  rcases q with q | q
  · exact h.2 S hS q
  · have := h.2 (63 - S) (by omega) q
    rw [tf_W_cmp hc.2 hS] at this
    exact this
theorem tf_mc_1 {c : Nat → Nat} {v : Nat} (hc : tf_OK 21 c) (h : tf_mc c 1 2 v) : v = min (tf_L c 1) (tf_L c 3) := by
  obtain ⟨S1, a1, a2, a3⟩ := tf_L_at hc.1 (k := 1) (T := 1) (by decide) (by decide)
  obtain ⟨S3, b1, b2, b3⟩ := tf_L_at hc.1 (k := 3) (T := 5) (by decide) (by decide)
  have h1 := tf_mc_le hc h a1 (tf_K1' S1 a1 (Or.inl a2))
  have h3 := tf_mc_le hc h b1 (tf_K1' S3 b1 (Or.inr b2))
  obtain ⟨S, c1, c2, c3⟩ := h.1
  rcases tf_K1 S c1 c2 with q | q
  · have := tf_L_le (c := c) c1 q
    omega
  · have := tf_L_le (c := c) c1 q
    omega
theorem tf_mc_2 {c : Nat → Nat} {v : Nat} (hc : tf_OK 21 c) (h : tf_mc c 4 8 v) : v = min (tf_L c 2) (tf_L c 3) := by
  obtain ⟨S1, a1, a2, a3⟩ := tf_L_at hc.1 (k := 2) (T := 4) (by decide) (by decide)
  obtain ⟨S3, b1, b2, b3⟩ := tf_L_at hc.1 (k := 3) (T := 5) (by decide) (by decide)
  have h1 := tf_mc_le hc h a1 (tf_K2' S1 a1 (Or.inl a2))
  have h3 := tf_mc_le hc h b1 (tf_K2' S3 b1 (Or.inr b2))
  obtain ⟨S, c1, c2, c3⟩ := h.1
  rcases tf_K2 S c1 c2 with q | q
  · have := tf_L_le (c := c) c1 q
    omega
  · have := tf_L_le (c := c) c1 q
    omega
theorem tf_mc_3 {c : Nat → Nat} {v w : Nat} (hc : tf_OK 21 c) (h : tf_mc c 5 10 v) (h' : tf_mc c 9 6 w) : min v w = tf_L c 3 := by
  obtain ⟨S3, b1, b2, b3⟩ := tf_L_at hc.1 (k := 3) (T := 5) (by decide) (by decide)
  obtain ⟨S, c1, c2, c3⟩ := h.1
  obtain ⟨T, d1, d2, d3⟩ := h'.1
  have e1 := tf_L_le (c := c) c1 (tf_K3 S c1 c2)
  have e2 := tf_L_le (c := c) d1 (tf_K4 T d1 d2)
  rcases tf_K3' S3 b1 b2 with q | q
  · have := tf_mc_le hc h b1 q
    omega
  · have := tf_mc_le hc h' b1 q
    omega
theorem tf_tga_e : ∀ S, S < 64 → tf_kd S = 2 → S ∈ [4, 7, 8, 11, 20, 23, 24, 27, 36, 39, 40, 43, 52, 55, 56, 59] := by decide +kernel
theorem tf_tga_4 {c : Nat → Nat} (h1 : c 1 + c 2 + c 3 + c 4 + c 5 ≤ 101) (h2 : 1 ≤ c 2) (h3 : 1 ≤ c 3) (h4 : c 6 = c 1) (h5 : c 12 = c 2) (h6 : c 18 = c 3) (h7 : c 24 = c 4) (h8 : c 30 = c 5) : tf_W c 5 ≤ tf_W c 4 + 100 := by
  rw [tf_We_5, tf_We_4]
  omega
theorem tf_tga_7 {c : Nat → Nat} (h1 : c 1 + c 2 + c 3 + c 4 + c 5 ≤ 101) (h2 : 1 ≤ c 2) (h3 : 1 ≤ c 3) (h4 : c 6 = c 1) (h5 : c 12 = c 2) (h6 : c 18 = c 3) (h7 : c 24 = c 4) (h8 : c 30 = c 5) : tf_W c 6 ≤ tf_W c 7 + 100 := by
  rw [tf_We_6, tf_We_7]
  omega
theorem tf_tga_8 {c : Nat → Nat} (h1 : c 1 + c 2 + c 3 + c 4 + c 5 ≤ 101) (h2 : 1 ≤ c 2) (h3 : 1 ≤ c 3) (h4 : c 6 = c 1) (h5 : c 12 = c 2) (h6 : c 18 = c 3) (h7 : c 24 = c 4) (h8 : c 30 = c 5) : tf_W c 9 ≤ tf_W c 8 + 100 := by
  rw [tf_We_9, tf_We_8]
  omega
theorem tf_tga_11 {c : Nat → Nat} (h1 : c 1 + c 2 + c 3 + c 4 + c 5 ≤ 101) (h2 : 1 ≤ c 2) (h3 : 1 ≤ c 3) (h4 : c 6 = c 1) (h5 : c 12 = c 2) (h6 : c 18 = c 3) (h7 : c 24 = c 4) (h8 : c 30 = c 5) : tf_W c 10 ≤ tf_W c 11 + 100 := by
  rw [tf_We_10, tf_We_11]
  omega
theorem tf_tga_20 {c : Nat → Nat} (h1 : c 1 + c 2 + c 3 + c 4 + c 5 ≤ 101) (h2 : 1 ≤ c 2) (h3 : 1 ≤ c 3) (h4 : c 6 = c 1) (h5 : c 12 = c 2) (h6 : c 18 = c 3) (h7 : c 24 = c 4) (h8 : c 30 = c 5) : tf_W c 21 ≤ tf_W c 20 + 100 := by
  rw [tf_We_21, tf_We_20]
  omega
theorem tf_tga_23 {c : Nat → Nat} (h1 : c 1 + c 2 + c 3 + c 4 + c 5 ≤ 101) (h2 : 1 ≤ c 2) (h3 : 1 ≤ c 3) (h4 : c 6 = c 1) (h5 : c 12 = c 2) (h6 : c 18 = c 3) (h7 : c 24 = c 4) (h8 : c 30 = c 5) : tf_W c 22 ≤ tf_W c 23 + 100 := by
  rw [tf_We_22, tf_We_23]
  omega
theorem tf_tga_24 {c : Nat → Nat} (h1 : c 1 + c 2 + c 3 + c 4 + c 5 ≤ 101) (h2 : 1 ≤ c 2) (h3 : 1 ≤ c 3) (h4 : c 6 = c 1) (h5 : c 12 = c 2) (h6 : c 18 = c 3) (h7 : c 24 = c 4) (h8 : c 30 = c 5) : tf_W c 25 ≤ tf_W c 24 + 100 := by
  rw [tf_We_25, tf_We_24]
  omega
theorem tf_tga_27 {c : Nat → Nat} (h1 : c 1 + c 2 + c 3 + c 4 + c 5 ≤ 101) (h2 : 1 ≤ c 2) (h3 : 1 ≤ c 3) (h4 : c 6 = c 1) (h5 : c 12 = c 2) (h6 : c 18 = c 3) (h7 : c 24 = c 4) (h8 : c 30 = c 5) : tf_W c 26 ≤ tf_W c 27 + 100 := by
  rw [tf_We_26, tf_We_27]
  omega
theorem tf_tga_36 {c : Nat → Nat} (h1 : c 1 + c 2 + c 3 + c 4 + c 5 ≤ 101) (h2 : 1 ≤ c 2) (h3 : 1 ≤ c 3) (h4 : c 6 = c 1) (h5 : c 12 = c 2) (h6 : c 18 = c 3) (h7 : c 24 = c 4) (h8 : c 30 = c 5) : tf_W c 37 ≤ tf_W c 36 + 100 := by
  rw [tf_We_37, tf_We_36]
  omega
theorem tf_tga_39 {c : Nat → Nat} (h1 : c 1 + c 2 + c 3 + c 4 + c 5 ≤ 101) (h2 : 1 ≤ c 2) (h3 : 1 ≤ c 3) (h4 : c 6 = c 1) (h5 : c 12 = c 2) (h6 : c 18 = c 3) (h7 : c 24 = c 4) (h8 : c 30 = c 5) : tf_W c 38 ≤ tf_W c 39 + 100 := by
  rw [tf_We_38, tf_We_39]
  omega
theorem tf_tga_40 {c : Nat → Nat} (h1 : c 1 + c 2 + c 3 + c 4 + c 5 ≤ 101) (h2 : 1 ≤ c 2) (h3 : 1 ≤ c 3) (h4 : c 6 = c 1) (h5 : c 12 = c 2) (h6 : c 18 = c 3) (h7 : c 24 = c 4) (h8 : c 30 = c 5) : tf_W c 41 ≤ tf_W c 40 + 100 := by
  rw [tf_We_41, tf_We_40]
  omega
theorem tf_tga_43 {c : Nat → Nat} (h1 : c 1 + c 2 + c 3 + c 4 + c 5 ≤ 101) (h2 : 1 ≤ c 2) (h3 : 1 ≤ c 3) (h4 : c 6 = c 1) (h5 : c 12 = c 2) (h6 : c 18 = c 3) (h7 : c 24 = c 4) (h8 : c 30 = c 5) : tf_W c 42 ≤ tf_W c 43 + 100 := by
  rw [tf_We_42, tf_We_43]
  omega
theorem tf_tga_52 {c : Nat → Nat} (h1 : c 1 + c 2 + c 3 + c 4 + c 5 ≤ 101) (h2 : 1 ≤ c 2) (h3 : 1 ≤ c 3) (h4 : c 6 = c 1) (h5 : c 12 = c 2) (h6 : c 18 = c 3) (h7 : c 24 = c 4) (h8 : c 30 = c 5) : tf_W c 53 ≤ tf_W c 52 + 100 := by
  rw [tf_We_53, tf_We_52]
  omega
theorem tf_tga_55 {c : Nat → Nat} (h1 : c 1 + c 2 + c 3 + c 4 + c 5 ≤ 101) (h2 : 1 ≤ c 2) (h3 : 1 ≤ c 3) (h4 : c 6 = c 1) (h5 : c 12 = c 2) (h6 : c 18 = c 3) (h7 : c 24 = c 4) (h8 : c 30 = c 5) : tf_W c 54 ≤ tf_W c 55 + 100 := by
  rw [tf_We_54, tf_We_55]
  omega
theorem tf_tga_56 {c : Nat → Nat} (h1 : c 1 + c 2 + c 3 + c 4 + c 5 ≤ 101) (h2 : 1 ≤ c 2) (h3 : 1 ≤ c 3) (h4 : c 6 = c 1) (h5 : c 12 = c 2) (h6 : c 18 = c 3) (h7 : c 24 = c 4) (h8 : c 30 = c 5) : tf_W c 57 ≤ tf_W c 56 + 100 := by
  rw [tf_We_57, tf_We_56]
  omega
theorem tf_tga_59 {c : Nat → Nat} (h1 : c 1 + c 2 + c 3 + c 4 + c 5 ≤ 101) (h2 : 1 ≤ c 2) (h3 : 1 ≤ c 3) (h4 : c 6 = c 1) (h5 : c 12 = c 2) (h6 : c 18 = c 3) (h7 : c 24 = c 4) (h8 : c 30 = c 5) : tf_W c 58 ≤ tf_W c 59 + 100 := by
  rw [tf_We_58, tf_We_59]
  omega
theorem tf_tga {c : Nat → Nat} (h1 : c 1 + c 2 + c 3 + c 4 + c 5 ≤ 101) (h2 : 1 ≤ c 2) (h3 : 1 ≤ c 3) (h4 : c 6 = c 1) (h5 : c 12 = c 2) (h6 : c 18 = c 3) (h7 : c 24 = c 4) (h8 : c 30 = c 5) : tf_L c 3 ≤ tf_L c 2 + 100 ∨ ¬ ∃ S, S < 64 ∧ tf_kd S = 2 ∧ tf_W c S = tf_L c 2 := by
  by_cases h : ∃ S, S < 64 ∧ tf_kd S = 2 ∧ tf_W c S = tf_L c 2
  · refine Or.inl ?_
    obtain ⟨S, k1, k2, k3⟩ := h
    rw [← k3]
    have k4 := tf_tga_e S k1 k2
    simp only [List.mem_cons, List.not_mem_nil, or_false] at k4
    clear k1 k2 k3
    rcases k4 with rfl | rfl | rfl | rfl | rfl | rfl | rfl | rfl | rfl | rfl | rfl | rfl | rfl | rfl | rfl | rfl
    · exact Nat.le_trans (tf_L_le (S := 5) (by decide) (by decide)) (tf_tga_4 h1 h2 h3 h4 h5 h6 h7 h8)
    · exact Nat.le_trans (tf_L_le (S := 6) (by decide) (by decide)) (tf_tga_7 h1 h2 h3 h4 h5 h6 h7 h8)
    · exact Nat.le_trans (tf_L_le (S := 9) (by decide) (by decide)) (tf_tga_8 h1 h2 h3 h4 h5 h6 h7 h8)
    · exact Nat.le_trans (tf_L_le (S := 10) (by decide) (by decide)) (tf_tga_11 h1 h2 h3 h4 h5 h6 h7 h8)
    · exact Nat.le_trans (tf_L_le (S := 21) (by decide) (by decide)) (tf_tga_20 h1 h2 h3 h4 h5 h6 h7 h8)
    · exact Nat.le_trans (tf_L_le (S := 22) (by decide) (by decide)) (tf_tga_23 h1 h2 h3 h4 h5 h6 h7 h8)
    · exact Nat.le_trans (tf_L_le (S := 25) (by decide) (by decide)) (tf_tga_24 h1 h2 h3 h4 h5 h6 h7 h8)
    · exact Nat.le_trans (tf_L_le (S := 26) (by decide) (by decide)) (tf_tga_27 h1 h2 h3 h4 h5 h6 h7 h8)
    · exact Nat.le_trans (tf_L_le (S := 37) (by decide) (by decide)) (tf_tga_36 h1 h2 h3 h4 h5 h6 h7 h8)
    · exact Nat.le_trans (tf_L_le (S := 38) (by decide) (by decide)) (tf_tga_39 h1 h2 h3 h4 h5 h6 h7 h8)
    · exact Nat.le_trans (tf_L_le (S := 41) (by decide) (by decide)) (tf_tga_40 h1 h2 h3 h4 h5 h6 h7 h8)
    · exact Nat.le_trans (tf_L_le (S := 42) (by decide) (by decide)) (tf_tga_43 h1 h2 h3 h4 h5 h6 h7 h8)
    · exact Nat.le_trans (tf_L_le (S := 53) (by decide) (by decide)) (tf_tga_52 h1 h2 h3 h4 h5 h6 h7 h8)
    · exact Nat.le_trans (tf_L_le (S := 54) (by decide) (by decide)) (tf_tga_55 h1 h2 h3 h4 h5 h6 h7 h8)
    · exact Nat.le_trans (tf_L_le (S := 57) (by decide) (by decide)) (tf_tga_56 h1 h2 h3 h4 h5 h6 h7 h8)
    · exact Nat.le_trans (tf_L_le (S := 58) (by decide) (by decide)) (tf_tga_59 h1 h2 h3 h4 h5 h6 h7 h8)
  · exact Or.inr h
theorem tf_tgb_e : ∀ S, S < 64 → tf_kd S = 1 → S ∈ [1, 2, 13, 14, 17, 18, 29, 30, 33, 34, 45, 46, 49, 50, 61, 62] := by decide +kernel
theorem tf_tgb_1 {c : Nat → Nat} (h1 : c 12 + c 13 + c 15 + c 16 + c 17 ≤ 101) (h2 : 1 ≤ c 12) (h3 : 1 ≤ c 13) (h4 : c 2 = c 12) (h5 : c 8 = c 13) (h6 : c 20 = c 15) (h7 : c 26 = c 16) (h8 : c 32 = c 17) : tf_W c 5 ≤ tf_W c 1 + 100 := by
  rw [tf_We_5, tf_We_1]
  omega
theorem tf_tgb_2 {c : Nat → Nat} (h1 : c 12 + c 13 + c 15 + c 16 + c 17 ≤ 101) (h2 : 1 ≤ c 12) (h3 : 1 ≤ c 13) (h4 : c 2 = c 12) (h5 : c 8 = c 13) (h6 : c 20 = c 15) (h7 : c 26 = c 16) (h8 : c 32 = c 17) : tf_W c 6 ≤ tf_W c 2 + 100 := by
  rw [tf_We_6, tf_We_2]
  omega
theorem tf_tgb_13 {c : Nat → Nat} (h1 : c 12 + c 13 + c 15 + c 16 + c 17 ≤ 101) (h2 : 1 ≤ c 12) (h3 : 1 ≤ c 13) (h4 : c 2 = c 12) (h5 : c 8 = c 13) (h6 : c 20 = c 15) (h7 : c 26 = c 16) (h8 : c 32 = c 17) : tf_W c 9 ≤ tf_W c 13 + 100 := by
  rw [tf_We_9, tf_We_13]
  omega
theorem tf_tgb_14 {c : Nat → Nat} (h1 : c 12 + c 13 + c 15 + c 16 + c 17 ≤ 101) (h2 : 1 ≤ c 12) (h3 : 1 ≤ c 13) (h4 : c 2 = c 12) (h5 : c 8 = c 13) (h6 : c 20 = c 15) (h7 : c 26 = c 16) (h8 : c 32 = c 17) : tf_W c 10 ≤ tf_W c 14 + 100 := by
  rw [tf_We_10, tf_We_14]
  omega
theorem tf_tgb_17 {c : Nat → Nat} (h1 : c 12 + c 13 + c 15 + c 16 + c 17 ≤ 101) (h2 : 1 ≤ c 12) (h3 : 1 ≤ c 13) (h4 : c 2 = c 12) (h5 : c 8 = c 13) (h6 : c 20 = c 15) (h7 : c 26 = c 16) (h8 : c 32 = c 17) : tf_W c 21 ≤ tf_W c 17 + 100 := by
  rw [tf_We_21, tf_We_17]
  omega
theorem tf_tgb_18 {c : Nat → Nat} (h1 : c 12 + c 13 + c 15 + c 16 + c 17 ≤ 101) (h2 : 1 ≤ c 12) (h3 : 1 ≤ c 13) (h4 : c 2 = c 12) (h5 : c 8 = c 13) (h6 : c 20 = c 15) (h7 : c 26 = c 16) (h8 : c 32 = c 17) : tf_W c 22 ≤ tf_W c 18 + 100 := by
  rw [tf_We_22, tf_We_18]
  omega
theorem tf_tgb_29 {c : Nat → Nat} (h1 : c 12 + c 13 + c 15 + c 16 + c 17 ≤ 101) (h2 : 1 ≤ c 12) (h3 : 1 ≤ c 13) (h4 : c 2 = c 12) (h5 : c 8 = c 13) (h6 : c 20 = c 15) (h7 : c 26 = c 16) (h8 : c 32 = c 17) : tf_W c 25 ≤ tf_W c 29 + 100 := by
  rw [tf_We_25, tf_We_29]
  omega
theorem tf_tgb_30 {c : Nat → Nat} (h1 : c 12 + c 13 + c 15 + c 16 + c 17 ≤ 101) (h2 : 1 ≤ c 12) (h3 : 1 ≤ c 13) (h4 : c 2 = c 12) (h5 : c 8 = c 13) (h6 : c 20 = c 15) (h7 : c 26 = c 16) (h8 : c 32 = c 17) : tf_W c 26 ≤ tf_W c 30 + 100 := by
  rw [tf_We_26, tf_We_30]
  omega
theorem tf_tgb_33 {c : Nat → Nat} (h1 : c 12 + c 13 + c 15 + c 16 + c 17 ≤ 101) (h2 : 1 ≤ c 12) (h3 : 1 ≤ c 13) (h4 : c 2 = c 12) (h5 : c 8 = c 13) (h6 : c 20 = c 15) (h7 : c 26 = c 16) (h8 : c 32 = c 17) : tf_W c 37 ≤ tf_W c 33 + 100 := by
  rw [tf_We_37, tf_We_33]
  omega
theorem tf_tgb_34 {c : Nat → Nat} (h1 : c 12 + c 13 + c 15 + c 16 + c 17 ≤ 101) (h2 : 1 ≤ c 12) (h3 : 1 ≤ c 13) (h4 : c 2 = c 12) (h5 : c 8 = c 13) (h6 : c 20 = c 15) (h7 : c 26 = c 16) (h8 : c 32 = c 17) : tf_W c 38 ≤ tf_W c 34 + 100 := by
  rw [tf_We_38, tf_We_34]
  omega
theorem tf_tgb_45 {c : Nat → Nat} (h1 : c 12 + c 13 + c 15 + c 16 + c 17 ≤ 101) (h2 : 1 ≤ c 12) (h3 : 1 ≤ c 13) (h4 : c 2 = c 12) (h5 : c 8 = c 13) (h6 : c 20 = c 15) (h7 : c 26 = c 16) (h8 : c 32 = c 17) : tf_W c 41 ≤ tf_W c 45 + 100 := by
  rw [tf_We_41, tf_We_45]
  omega
theorem tf_tgb_46 {c : Nat → Nat} (h1 : c 12 + c 13 + c 15 + c 16 + c 17 ≤ 101) (h2 : 1 ≤ c 12) (h3 : 1 ≤ c 13) (h4 : c 2 = c 12) (h5 : c 8 = c 13) (h6 : c 20 = c 15) (h7 : c 26 = c 16) (h8 : c 32 = c 17) : tf_W c 42 ≤ tf_W c 46 + 100 := by
  rw [tf_We_42, tf_We_46]
  omega
theorem tf_tgb_49 {c : Nat → Nat} (h1 : c 12 + c 13 + c 15 + c 16 + c 17 ≤ 101) (h2 : 1 ≤ c 12) (h3 : 1 ≤ c 13) (h4 : c 2 = c 12) (h5 : c 8 = c 13) (h6 : c 20 = c 15) (h7 : c 26 = c 16) (h8 : c 32 = c 17) : tf_W c 53 ≤ tf_W c 49 + 100 := by
  rw [tf_We_53, tf_We_49]
  omega
theorem tf_tgb_50 {c : Nat → Nat} (h1 : c 12 + c 13 + c 15 + c 16 + c 17 ≤ 101) (h2 : 1 ≤ c 12) (h3 : 1 ≤ c 13) (h4 : c 2 = c 12) (h5 : c 8 = c 13) (h6 : c 20 = c 15) (h7 : c 26 = c 16) (h8 : c 32 = c 17) : tf_W c 54 ≤ tf_W c 50 + 100 := by
  rw [tf_We_54, tf_We_50]
  omega
theorem tf_tgb_61 {c : Nat → Nat} (h1 : c 12 + c 13 + c 15 + c 16 + c 17 ≤ 101) (h2 : 1 ≤ c 12) (h3 : 1 ≤ c 13) (h4 : c 2 = c 12) (h5 : c 8 = c 13) (h6 : c 20 = c 15) (h7 : c 26 = c 16) (h8 : c 32 = c 17) : tf_W c 57 ≤ tf_W c 61 + 100 := by
  rw [tf_We_57, tf_We_61]
  omega
theorem tf_tgb_62 {c : Nat → Nat} (h1 : c 12 + c 13 + c 15 + c 16 + c 17 ≤ 101) (h2 : 1 ≤ c 12) (h3 : 1 ≤ c 13) (h4 : c 2 = c 12) (h5 : c 8 = c 13) (h6 : c 20 = c 15) (h7 : c 26 = c 16) (h8 : c 32 = c 17) : tf_W c 58 ≤ tf_W c 62 + 100 := by
  rw [tf_We_58, tf_We_62]
  omega
theorem tf_tgb {c : Nat → Nat} (h1 : c 12 + c 13 + c 15 + c 16 + c 17 ≤ 101) (h2 : 1 ≤ c 12) (h3 : 1 ≤ c 13) (h4 : c 2 = c 12) (h5 : c 8 = c 13) (h6 : c 20 = c 15) (h7 : c 26 = c 16) (h8 : c 32 = c 17) : tf_L c 3 ≤ tf_L c 1 + 100 ∨ ¬ ∃ S, S < 64 ∧ tf_kd S = 1 ∧ tf_W c S = tf_L c 1 := by
  by_cases h : ∃ S, S < 64 ∧ tf_kd S = 1 ∧ tf_W c S = tf_L c 1
  · refine Or.inl ?_
    obtain ⟨S, k1, k2, k3⟩ := h
    rw [← k3]
    have k4 := tf_tgb_e S k1 k2
    simp only [List.mem_cons, List.not_mem_nil, or_false] at k4
    clear k1 k2 k3
    rcases k4 with rfl | rfl | rfl | rfl | rfl | rfl | rfl | rfl | rfl | rfl | rfl | rfl | rfl | rfl | rfl | rfl
    · exact Nat.le_trans (tf_L_le (S := 5) (by decide) (by decide)) (tf_tgb_1 h1 h2 h3 h4 h5 h6 h7 h8)
    · exact Nat.le_trans (tf_L_le (S := 6) (by decide) (by decide)) (tf_tgb_2 h1 h2 h3 h4 h5 h6 h7 h8)
    · exact Nat.le_trans (tf_L_le (S := 9) (by decide) (by decide)) (tf_tgb_13 h1 h2 h3 h4 h5 h6 h7 h8)
    · exact Nat.le_trans (tf_L_le (S := 10) (by decide) (by decide)) (tf_tgb_14 h1 h2 h3 h4 h5 h6 h7 h8)
    · exact Nat.le_trans (tf_L_le (S := 21) (by decide) (by decide)) (tf_tgb_17 h1 h2 h3 h4 h5 h6 h7 h8)
    · exact Nat.le_trans (tf_L_le (S := 22) (by decide) (by decide)) (tf_tgb_18 h1 h2 h3 h4 h5 h6 h7 h8)
    · exact Nat.le_trans (tf_L_le (S := 25) (by decide) (by decide)) (tf_tgb_29 h1 h2 h3 h4 h5 h6 h7 h8)
    · exact Nat.le_trans (tf_L_le (S := 26) (by decide) (by decide)) (tf_tgb_30 h1 h2 h3 h4 h5 h6 h7 h8)
    · exact Nat.le_trans (tf_L_le (S := 37) (by decide) (by decide)) (tf_tgb_33 h1 h2 h3 h4 h5 h6 h7 h8)
    · exact Nat.le_trans (tf_L_le (S := 38) (by decide) (by decide)) (tf_tgb_34 h1 h2 h3 h4 h5 h6 h7 h8)
    · exact Nat.le_trans (tf_L_le (S := 41) (by decide) (by decide)) (tf_tgb_45 h1 h2 h3 h4 h5 h6 h7 h8)
    · exact Nat.le_trans (tf_L_le (S := 42) (by decide) (by decide)) (tf_tgb_46 h1 h2 h3 h4 h5 h6 h7 h8)
    · exact Nat.le_trans (tf_L_le (S := 53) (by decide) (by decide)) (tf_tgb_49 h1 h2 h3 h4 h5 h6 h7 h8)
    · exact Nat.le_trans (tf_L_le (S := 54) (by decide) (by decide)) (tf_tgb_50 h1 h2 h3 h4 h5 h6 h7 h8)
    · exact Nat.le_trans (tf_L_le (S := 57) (by decide) (by decide)) (tf_tgb_61 h1 h2 h3 h4 h5 h6 h7 h8)
    · exact Nat.le_trans (tf_L_le (S := 58) (by decide) (by decide)) (tf_tgb_62 h1 h2 h3 h4 h5 h6 h7 h8)
  · exact Or.inr h
theorem tf_b0 {c : Nat → Nat} {a b : Nat} (hb : ∀ i, i ≠ a * 6 + b → i ≠ b * 6 + a → c i ≤ 20) (ha6 : a < 6) (hb6 : b < 6) (h1 : a ≠ 0) (h2 : b ≠ 0) : tf_W c 1 ≤ 100 := by
  have q1 := hb 1 (by omega) (by omega)
  have q2 := hb 2 (by omega) (by omega)
  have q3 := hb 3 (by omega) (by omega)
  have q4 := hb 4 (by omega) (by omega)
  have q5 := hb 5 (by omega) (by omega)
  rw [tf_We_1]
  omega
theorem tf_b1 {c : Nat → Nat} {a b : Nat} (hb : ∀ i, i ≠ a * 6 + b → i ≠ b * 6 + a → c i ≤ 20) (ha6 : a < 6) (hb6 : b < 6) (h1 : a ≠ 1) (h2 : b ≠ 1) : tf_W c 2 ≤ 100 := by
  have q6 := hb 6 (by omega) (by omega)
  have q8 := hb 8 (by omega) (by omega)
  have q9 := hb 9 (by omega) (by omega)
  have q10 := hb 10 (by omega) (by omega)
  have q11 := hb 11 (by omega) (by omega)
  rw [tf_We_2]
  omega
theorem tf_b2 {c : Nat → Nat} {a b : Nat} (hb : ∀ i, i ≠ a * 6 + b → i ≠ b * 6 + a → c i ≤ 20) (ha6 : a < 6) (hb6 : b < 6) (h1 : a ≠ 2) (h2 : b ≠ 2) : tf_W c 4 ≤ 100 := by
  have q12 := hb 12 (by omega) (by omega)
  have q13 := hb 13 (by omega) (by omega)
  have q15 := hb 15 (by omega) (by omega)
  have q16 := hb 16 (by omega) (by omega)
  have q17 := hb 17 (by omega) (by omega)
  rw [tf_We_4]
  omega
theorem tf_b3 {c : Nat → Nat} {a b : Nat} (hb : ∀ i, i ≠ a * 6 + b → i ≠ b * 6 + a → c i ≤ 20) (ha6 : a < 6) (hb6 : b < 6) (h1 : a ≠ 3) (h2 : b ≠ 3) : tf_W c 8 ≤ 100 := by
  have q18 := hb 18 (by omega) (by omega)
  have q19 := hb 19 (by omega) (by omega)
  have q20 := hb 20 (by omega) (by omega)
  have q22 := hb 22 (by omega) (by omega)
  have q23 := hb 23 (by omega) (by omega)
  rw [tf_We_8]
  omega
/-- the sum that Y finds among amounts up to 100 is the sum that there is -/
theorem tf_best {c : Nat → Nat} {a b : Nat} (hc : tf_OK 21 c) (hb : ∀ i, i ≠ a * 6 + b → i ≠ b * 6 + a → c i ≤ 20) (ha6 : a < 6) (hb6 : b < 6) (hab : a ≠ b) :
    min (tf_L c 1 + tf_L c 2) (tf_L c 3) ≤ min (tf_L c 1) 100 + min (tf_L c 2) 100 := by
  have l1 : tf_L c 1 ≤ tf_W c 1 := tf_L_le (by decide) (by decide)
  have l1' : tf_L c 1 ≤ tf_W c 2 := tf_L_le (by decide) (by decide)
  have l2 : tf_L c 2 ≤ tf_W c 4 := tf_L_le (by decide) (by decide)
  have l2' : tf_L c 2 ≤ tf_W c 8 := tf_L_le (by decide) (by decide)
  have s1 : c 6 = c 1 := hc.2 1 0 (by decide) (by decide)
  have s2 : c 12 = c 2 := hc.2 2 0 (by decide) (by decide)
  have s3 : c 18 = c 3 := hc.2 3 0 (by decide) (by decide)
  have s4 : c 24 = c 4 := hc.2 4 0 (by decide) (by decide)
  have s5 : c 30 = c 5 := hc.2 5 0 (by decide) (by decide)
  have s6 : c 8 = c 13 := hc.2 1 2 (by decide) (by decide)
  have s7 : c 20 = c 15 := hc.2 3 2 (by decide) (by decide)
  have s8 : c 26 = c 16 := hc.2 4 2 (by decide) (by decide)
  have s9 : c 32 = c 17 := hc.2 5 2 (by decide) (by decide)
  have A1 := tf_L_at hc.1 (k := 1) (T := 1) (by decide) (by decide)
  have A2 := tf_L_at hc.1 (k := 2) (T := 4) (by decide) (by decide)
  by_cases q1 : tf_L c 1 ≤ 100
  · by_cases q2 : tf_L c 2 ≤ 100
    · omega
    · have p2 : a = 2 ∨ b = 2 := by
        by_cases z : a = 2 ∨ b = 2
        · exact z
        · have := tf_b2 hb ha6 hb6 (by omega) (by omega)
          omega
      have p3 : a = 3 ∨ b = 3 := by
        by_cases z : a = 3 ∨ b = 3
        · exact z
        · have := tf_b3 hb ha6 hb6 (by omega) (by omega)
          omega
      have q12 := hb 12 (by omega) (by omega)
      have q13 := hb 13 (by omega) (by omega)
      have q15 := hc.1 15
      have q16 := hb 16 (by omega) (by omega)
      have q17 := hb 17 (by omega) (by omega)
      rw [tf_We_4] at l2
      rcases tf_tgb (c := c) (by omega) (by omega) (by omega) s2.symm s6 s7 s8 s9 with T | T
      · omega
      · exact absurd A1 T
  · have p0 : a = 0 ∨ b = 0 := by
      by_cases z : a = 0 ∨ b = 0
      · exact z
      · have := tf_b0 hb ha6 hb6 (by omega) (by omega)
        omega
    have p1 : a = 1 ∨ b = 1 := by
      by_cases z : a = 1 ∨ b = 1
      · exact z
      · have := tf_b1 hb ha6 hb6 (by omega) (by omega)
        omega
    have b2 := tf_b2 hb ha6 hb6 (by omega) (by omega)
    have q1 := hc.1 1
    have q2 := hb 2 (by omega) (by omega)
    have q3 := hb 3 (by omega) (by omega)
    have q4 := hb 4 (by omega) (by omega)
    have q5 := hb 5 (by omega) (by omega)
    rw [tf_We_1] at l1
    rcases tf_tga (c := c) (by omega) (by omega) (by omega) s1 s2 s3 s4 s5 with T | T
    · omega
    · exact absurd A2 T
theorem tf_L_100 {c : Nat → Nat} (hc : ∀ i, c i ≤ 20) : tf_L c 1 ≤ 100 ∧ tf_L c 2 ≤ 100 := by
  have l1 : tf_L c 1 ≤ tf_W c 1 := tf_L_le (by decide) (by decide)
  have l2 : tf_L c 2 ≤ tf_W c 4 := tf_L_le (by decide) (by decide)
  have w1 := tf_b0 (c := c) (a := 1) (b := 2) (fun i _ _ => hc i) (by decide) (by decide) (by decide) (by decide)
  have w2 := tf_b2 (c := c) (a := 0) (b := 1) (fun i _ _ => hc i) (by decide) (by decide) (by decide) (by decide)
  omega
end
section
/-! bits of masks, bytes, cells -/
theorem tf_bit : ∀ s, s < 64 → ∀ p, p < 6 → ((nI s >>> (nI p &&& 31)) &&& 1) = (if Nat.testBit s p = true then 1 else 0) := by decide +kernel
theorem tf_bit0 {s p : Nat} (hs : s < 64) (hp : p < 6) (h : s.testBit p = false) : ((nI s >>> (nI p &&& 31)) &&& 1) = 0 := by
  rw [tf_bit s hs p hp, h]; rfl
theorem tf_bit1 {s p : Nat} (hs : s < 64) (hp : p < 6) (h : s.testBit p = true) : ((nI s >>> (nI p &&& 31)) &&& 1) = 1 := by
  rw [tf_bit s hs p hp, h]; rfl
theorem tf_10 : ¬ (1 : Int32) = 0 := by decide
theorem tf_in {post : Int32 → Prop} {s p : Nat} (hs : s < 64) (hp : p < 6) (h0 : s.testBit p = false → post 0) (h1 : s.testBit p = true → post 1) : wpX_in post (nI s) (nI p) := by
  cases q : s.testBit p with
  | false => exact br_t (tf_bit0 hs hp q) (h0 q)
  | true => exact br_f (by rw [tf_bit1 hs hp q]; exact tf_10) (h1 q)
theorem tf_or : ∀ F, F < 64 → ∀ b, b < 6 → nI F ||| ((1 : Int32) <<< (nI b &&& 31)) = nI (F ||| 2 ^ b) := by decide +kernel
theorem tf_or_64 : ∀ F, F < 64 → ∀ b, b < 6 → F ||| 2 ^ b < 64 := by decide +kernel
theorem tf_or_b : ∀ F, F < 64 → ∀ b, b < 6 → ∀ p, p < 6 → Nat.testBit (F ||| 2 ^ b) p = (Nat.testBit F p || decide (p = b)) := by decide +kernel
def tf_bn (F p : Nat) : Nat := if F.testBit p = true then 1 else 0
def tf_cnt (F : Nat) : Nat := tf_sm (tf_bn F) 6
theorem tf_cnt_or : ∀ F, F < 64 → ∀ b, b < 6 → Nat.testBit F b = false → tf_cnt (F ||| 2 ^ b) = tf_cnt F + 1 := by decide +kernel
theorem tf_cnt_6 : ∀ F, F < 64 → tf_cnt F ≤ 6 := by decide +kernel
theorem tf_bn_le (F : Nat) : ∀ n, tf_sm (tf_bn F) n ≤ n := by
  intro n
  induction n with
  | zero => exact Nat.le_refl 0
  | succ n ih =>
    rw [tf_sm_s, tf_bn]
    split <;> omega
theorem tf_by : ∀ p, p < 128 → (nI p).toInt8.toInt32 = nI p := by decide +kernel
theorem tf_nar {p : Nat} (h : p < 128) : vp_nar .byte (nI p).toInt8.toInt32 = nI p := by rw [pk_vb, tf_by p h]
theorem tf_nar_m : vp_nar .byte (-1) = -1 := by rw [vp_nar_byte]; decide
theorem tf_ix (a b : Nat) : nI a * 6 + nI b = nI (a * 6 + b) := by rw [show (6 : Int32) = nI 6 from rfl, pk_mul, nI_add]
theorem tf_iy (a b : Nat) : 6 * nI a + nI b = nI (a * 6 + b) := by rw [show (6 : Int32) = nI 6 from rfl, pk_mul, nI_add, Nat.mul_comm]
theorem tf_xin {a b : Nat} (ha : a < 6) (hb : b < 6) : vp_in (nI a * 6 + nI b) 36 := by rw [tf_ix]; exact vp_in_nI (by omega) (by omega)
theorem tf_xcl {a b : Nat} (ha : a < 6) (hb : b < 6) : (nI a * 6 + nI b).toNatClampNeg = a * 6 + b := by rw [tf_ix]; exact nI_clamp (by omega)
theorem tf_yin {a b : Nat} (ha : a < 6) (hb : b < 6) : vp_in (6 * nI a + nI b) 36 := by rw [tf_iy]; exact vp_in_nI (by omega) (by omega)
theorem tf_ycl {a b : Nat} (ha : a < 6) (hb : b < 6) : (6 * nI a + nI b).toNatClampNeg = a * 6 + b := by rw [tf_iy]; exact nI_clamp (by omega)
end
section
/-! the search: what its line and its parents hold -/
def tf_BF (s g : Nat) (R : Nat → Nat) (F e : Nat) (L : Nat → Nat) (cf ln : Nat → Int32) : Prop :=
  F < 64 ∧ e = tf_cnt F ∧
  (∀ j, j < e → L j < 6 ∧ F.testBit (L j) = true ∧ g.testBit (L j) = false ∧ ln j = nI (L j)) ∧
  (∀ i j, i < j → j < e → L i ≠ L j) ∧
  (∀ p, p < 6 → F.testBit p = true → ∃ j, j < e ∧ L j = p) ∧
  (∀ p, p < 6 → s.testBit p = true → F.testBit p = true) ∧
  (∀ j, j < e → (s.testBit (L j) = true ∧ cf (L j) = -1) ∨ (s.testBit (L j) = false ∧ ∃ i, i < j ∧ cf (L j) = nI (L i) ∧ 0 < R (L i * 6 + L j)))
def tf_DN (R : Nat → Nat) (F k : Nat) (L : Nat → Nat) : Prop := ∀ i, i < k → ∀ p, p < 6 → F.testBit p = false → R (L i * 6 + p) = 0
def tf_Ls (L : Nat → Nat) (e b j : Nat) : Nat := if j = e then b else L j
theorem tf_Ls_e {L : Nat → Nat} {e b : Nat} : tf_Ls L e b e = b := if_pos rfl
theorem tf_Ls_n {L : Nat → Nat} {e b j : Nat} (h : j < e) : tf_Ls L e b j = L j := if_neg (by omega)
theorem tf_or_t {F b p : Nat} (hF : F < 64) (hb : b < 6) (hp : p < 6) (h : F.testBit p = true) : (F ||| 2 ^ b).testBit p = true := by
  rw [tf_or_b F hF b hb p hp, h]; rfl
theorem tf_or_f {F b p : Nat} (hF : F < 64) (hb : b < 6) (hp : p < 6) (h : (F ||| 2 ^ b).testBit p = false) : F.testBit p = false := by
  rw [tf_or_b F hF b hb p hp, Bool.or_eq_false_iff] at h
  exact h.1
theorem tf_or_s {F b : Nat} (hF : F < 64) (hb : b < 6) : (F ||| 2 ^ b).testBit b = true := by
  rw [tf_or_b F hF b hb b hb, decide_eq_true rfl, Bool.or_true]
theorem tf_BF_add {s g : Nat} {R : Nat → Nat} {F e : Nat} {L : Nat → Nat} {cf ln : Nat → Int32} {k b : Nat} (I : tf_BF s g R F e L cf ln) (hk : k < e) (hb : b < 6)
    (hF : F.testBit b = false) (hg : g.testBit b = false) (hr : 0 < R (L k * 6 + b)) :
    tf_BF s g R (F ||| 2 ^ b) (e + 1) (tf_Ls L e b) (upd cf b (nI (L k))) (upd ln e (nI b)) := by
  obtain ⟨h1, h2, h3, h4, h5, h6, h7⟩ := I
  have nb : ∀ j, j < e → L j ≠ b := by
    intro j hj q
    have := (h3 j hj).2.1
    rw [q, hF] at this
    exact Bool.noConfusion this
  refine ⟨tf_or_64 F h1 b hb, ?_, ?_, ?_, ?_, ?_, ?_⟩
  · rw [tf_cnt_or F h1 b hb hF, h2]
  · intro j hj
    by_cases q : j = e
    · subst q
      rw [tf_Ls_e]
      exact ⟨hb, tf_or_s h1 hb, hg, pk_us⟩
    · rw [tf_Ls_n (by omega), pk_un q]
      obtain ⟨a1, a2, a3, a4⟩ := h3 j (by omega)
      exact ⟨a1, tf_or_t h1 hb a1 a2, a3, a4⟩
  · intro i j hij hj
    by_cases q : j = e
    · subst q
      rw [tf_Ls_e, tf_Ls_n (by omega)]
      exact nb i (by omega)
    · rw [tf_Ls_n (by omega), tf_Ls_n (by omega)]
      exact h4 i j hij (by omega)
  · intro p hp hq
    by_cases q : p = b
    · exact ⟨e, by omega, by rw [tf_Ls_e, q]⟩
    · rw [tf_or_b F h1 b hb p hp, decide_eq_false q, Bool.or_false] at hq
      obtain ⟨j, hj, e1⟩ := h5 p hp hq
      exact ⟨j, by omega, by rw [tf_Ls_n hj, e1]⟩
  · intro p hp hq
    exact tf_or_t h1 hb hp (h6 p hp hq)
  · intro j hj
    by_cases q : j = e
    · subst q
      rw [tf_Ls_e]
      refine Or.inr ⟨?_, k, hk, ?_, ?_⟩
      · cases z : s.testBit b with
        | false => rfl
        | true =>
          have := h6 b hb z
          rw [hF] at this
          exact this.symm
      · rw [pk_us, tf_Ls_n hk]
      · rw [tf_Ls_n hk]
        exact hr
    · rw [tf_Ls_n (by omega), pk_un (nb j (by omega))]
      rcases h7 j (by omega) with z | ⟨z1, i, z2, z3, z4⟩
      · exact Or.inl z
      · exact Or.inr ⟨z1, i, z2, by rw [tf_Ls_n (by omega)]; exact z3, by rw [tf_Ls_n (by omega)]; exact z4⟩
theorem tf_DN_add {R : Nat → Nat} {F e : Nat} {L : Nat → Nat} {k b : Nat} (hF : F < 64) (hb : b < 6) (hk : k ≤ e) (h : tf_DN R F k L) : tf_DN R (F ||| 2 ^ b) k (tf_Ls L e b) := by
  intro i hi p hp q
  rw [tf_Ls_n (by omega)]
  exact h i hi p hp (tf_or_f hF hb hp q)
theorem tf_ch_upd {cf : Nat → Int32} {b : Nat} {v : Int32} : ∀ (l : List Nat) (a : Nat), (∀ x, x ∈ a :: l → x ≠ b) → tf_ch cf a l → tf_ch (upd cf b v) a l := by
  intro l
  induction l with
  | nil =>
    intro a h q
    exact ⟨q.1, by rw [pk_un (h a List.mem_cons_self)]; exact q.2⟩
  | cons y l ih =>
    intro a h q
    exact ⟨q.1, by rw [pk_un (h a List.mem_cons_self)]; exact q.2.1, ih y (fun x hx => h x (List.mem_cons_of_mem _ hx)) q.2.2⟩
theorem tf_up {s g : Nat} {R : Nat → Nat} {F e : Nat} {L : Nat → Nat} {cf ln : Nat → Int32} (I : tf_BF s g R F e L cf ln) :
    ∀ j, j < e → ∃ l : List Nat, (∀ x, x ∈ l → ∃ i, i < j ∧ x = L i) ∧ (L j :: l).Nodup ∧ s.testBit (tf_ls (L j) l) = true ∧
      (∀ x y, tf_eg (L j) l x y → s.testBit x = false ∧ 0 < R (y * 6 + x) ∧ ∃ i, i < j ∧ y = L i) ∧ tf_ch cf (L j) l := by
  obtain ⟨h1, h2, h3, h4, h5, h6, h7⟩ := I
  intro j
  induction j using Nat.strongRecOn with
  | ind j ih =>
    intro hj
    rcases h7 j hj with z | ⟨z1, i, z2, z3, z4⟩
    · refine ⟨[], fun x hx => ?_, ?_, z.1, fun x y q => q.elim, (h3 j hj).1, z.2⟩
      · simp at hx
      · simp
    · obtain ⟨l, a1, a2, a3, a4, a5⟩ := ih i z2 (by omega)
      have mem : ∀ x, x ∈ L i :: l → ∃ i', i' < j ∧ x = L i' := by
        intro x hx
        rcases List.mem_cons.mp hx with q | q
        · exact ⟨i, z2, q⟩
        · obtain ⟨i', b1, b2⟩ := a1 x q
          exact ⟨i', by omega, b2⟩
      refine ⟨L i :: l, mem, ?_, a3, ?_, (h3 j hj).1, z3, a5⟩
      · rw [List.nodup_cons]
        refine ⟨fun q => ?_, a2⟩
        obtain ⟨i', b1, b2⟩ := mem _ q
        exact h4 i' j b1 hj b2.symm
      · intro x y q
        rcases q with ⟨rfl, rfl⟩ | q
        · exact ⟨z1, z4, i, z2, rfl⟩
        · obtain ⟨b1, b2, i', b3, b4⟩ := a4 x y q
          exact ⟨b1, b2, i', by omega, b4⟩
theorem tf_found {s g : Nat} {R : Nat → Nat} {F e : Nat} {L : Nat → Nat} {cf ln : Nat → Int32} {k b : Nat} (I : tf_BF s g R F e L cf ln) (D : tf_DN R F k L) (hk : k < e) (hb : b < 6)
    (hF : F.testBit b = false) (hg : g.testBit b = true) (hr : 0 < R (L k * 6 + b)) :
    ∃ l, tf_path s g R b l ∧ tf_ch (upd cf b (nI (L k))) b l := by
  obtain ⟨l, a1, a2, a3, a4, a5⟩ := tf_up I k hk
  obtain ⟨h1, h2, h3, h4, h5, h6, h7⟩ := I
  have mem : ∀ x, x ∈ L k :: l → ∃ i, i ≤ k ∧ x = L i := by
    intro x hx
    rcases List.mem_cons.mp hx with q | q
    · exact ⟨k, Nat.le_refl k, q⟩
    · obtain ⟨i', b1, b2⟩ := a1 x q
      exact ⟨i', by omega, b2⟩
  have nb : ∀ x, x ∈ L k :: l → x ≠ b := by
    intro x hx q
    obtain ⟨i, b1, b2⟩ := mem x hx
    have := (h3 i (by omega)).2.1
    rw [← b2, q, hF] at this
    exact Bool.noConfusion this
  refine ⟨L k :: l, ⟨?_, ?_, ?_, hg, ?_, a3, ?_, ?_⟩, hb, pk_us, tf_ch_upd l (L k) nb a5⟩
  · rw [List.nodup_cons]
    exact ⟨fun q => nb b q rfl, a2⟩
  · intro x hx
    rcases List.mem_cons.mp hx with q | q
    · rw [q]; exact hb
    · obtain ⟨i, b1, b2⟩ := mem x q
      rw [b2]
      exact (h3 i (by omega)).1
  · exact List.cons_ne_nil _ _
  · intro x hx
    obtain ⟨i, b1, b2⟩ := mem x hx
    rw [b2]
    exact (h3 i (by omega)).2.2.1
  · intro x y q
    rcases q with ⟨rfl, rfl⟩ | q
    · refine ⟨?_, hr⟩
      cases z : s.testBit x with
      | false => rfl
      | true =>
        have := h6 x hb z
        rw [hF] at this
        exact this.symm
    · exact ⟨(a4 x y q).1, (a4 x y q).2.1⟩
  · intro x y q xb t ht gt
    rcases q with ⟨q1, q2⟩ | q
    · exact absurd q1 xb
    · obtain ⟨i, b1, b2⟩ := (a4 x y q).2.2
      rw [b2]
      refine D i b1 t ht ?_
      cases z : F.testBit t with
      | false => rfl
      | true =>
        obtain ⟨j, c1, c2⟩ := h5 t ht z
        have := (h3 j c1).2.2.1
        rw [c2, gt] at this
        exact this
theorem tf_closed {s g : Nat} {R : Nat → Nat} {F e : Nat} {L : Nat → Nat} {cf ln : Nat → Int32} {k : Nat} (I : tf_BF s g R F e L cf ln) (D : tf_DN R F k L) (hk : e ≤ k) :
    F < 64 ∧ tf_sep s g F ∧ ∀ a b, a < 6 → b < 6 → F.testBit a = true → F.testBit b = false → R (a * 6 + b) = 0 := by
  obtain ⟨h1, h2, h3, h4, h5, h6, h7⟩ := I
  refine ⟨h1, fun p hp => ⟨h6 p hp, fun q => ?_⟩, fun a b ha hb fa fb => ?_⟩
  · cases z : F.testBit p with
    | false => rfl
    | true =>
      obtain ⟨j, c1, c2⟩ := h5 p hp z
      have := (h3 j c1).2.2.1
      rw [c2, q] at this
      exact this
  · obtain ⟨j, c1, c2⟩ := h5 a ha fa
    rw [← c2]
    exact D j (by omega) b hb fb
end
section
/-! X: the search's walk -/
section
variable {post : Int32 → SX → Prop} {s g : Nat} {R : Nat → Nat} {fk f1 f2 fb : Int32} {caps room : Nat → Int32}
theorem tf_sp80 {J : Int32 → Int32 → Int32 → (Nat → Int32) → (Nat → Int32) → (Nat → Int32) → (Nat → Int32) → Prop} (hg : g < 64) (hR : ∀ i, i < 36 → room i = nI (R i) ∧ R i < 2 ^ 31) {k a : Nat}
    (hJ : ∀ F e L cf ln, tf_BF s g R F e L cf ln → tf_DN R F (k + 1) L → J (nI F) (nI e) (nI (k + 1)) caps room cf ln)
    (hP : ∀ b l cf ln, tf_path s g R b l → tf_ch cf b l → post (nI b) (fk, f1, f2, fb, caps, room, cf, ln)) :
    ∀ d b F e L cf ln, b + d = 6 → L k = a → tf_BF s g R F e L cf ln → k < e → tf_DN R F k L → (∀ p, p < b → F.testBit p = false → R (L k * 6 + p) = 0) →
      wX_spread_80 post J (nI g) (nI k) (nI a) fk f1 f2 fb (d + 1) (nI F) (nI e) (nI b) caps room cf ln := by
  intro d
  induction d with
  | zero =>
    intro b F e L cf ln hb hL I hk D hp
    have hb6 : b = 6 := by omega
    subst hb6
    refine br_t (nI_le (a := 6) (by omega) (by omega)) (nm_r (nI_1 k) (hJ F e L cf ln I ?_))
    intro i hi p hp6 q
    by_cases z : i = k
    · subst z
      exact hp p hp6 q
    · exact D i (by omega) p hp6 q
  | succ d ih =>
    intro b F e L cf ln hb hL I hk D hp
    have hb6 : b < 6 := by omega
    have hF : F < 64 := I.1
    have he : e ≤ 6 := by rw [I.2.1]; exact tf_cnt_6 F hF
    have ha : a < 6 := by rw [← hL]; exact (I.2.2.1 k hk).1
    refine br_f (nI_ge (b := 6) hb6 (by omega)) (tf_in hF hb6 (fun fb0 => br_t rfl ⟨tf_xin ha hb6, ?_⟩) (fun fb1 => br_f tf_10 (nm_r (nI_1 b) ?_)))
    · have hr := hR (a * 6 + b) (by omega)
      refine pk_le (R (a * 6 + b)) 0 (fun z => nm_r (nI_1 b) ?_) (fun z => nm_r (tf_or F hF b hb6) ⟨vp_in_nI hb6 (by omega), nm_r (e' := upd cf b (nI a)) ?_ (tf_in hg hb6 (fun g0 => br_t rfl ?_) (fun g1 => br_f tf_10 ?_))⟩) (by rw [tf_xcl ha hb6]; exact hr.1) rfl hr.2 (by omega)
      · refine ih (b + 1) F e L cf ln (by omega) hL I hk D ?_
        intro p hp1 q
        by_cases y : p = b
        · rw [y, hL]
          omega
        · exact hp p (by omega) q
      · rw [nI_clamp (by omega), tf_nar (by omega)]
      · have I' := tf_BF_add I hk hb6 fb0 g0 (by rw [hL]; exact z)
        have D' := tf_DN_add (b := b) hF hb6 (Nat.le_of_lt hk) D
        have e6 : e + 1 ≤ 6 := by rw [I'.2.1]; exact tf_cnt_6 _ I'.1
        refine ⟨vp_in_nI (by omega) (by omega), nm_r (e' := upd ln e (nI b)) ?_ (nm_r (nI_1 e) (nm_r (nI_1 b) ?_))⟩
        · rw [nI_clamp (by omega), tf_nar (by omega)]
        · rw [hL] at I'
          refine ih (b + 1) (F ||| 2 ^ b) (e + 1) (tf_Ls L e b) _ _ (by omega) (by rw [tf_Ls_n hk, hL]) I' (by omega) D' ?_
          intro p hp1 q
          rw [tf_Ls_n hk]
          by_cases y : p = b
          · rw [y, tf_or_s hF hb6] at q
            exact Bool.noConfusion q
          · exact hp p (by omega) (tf_or_f hF hb6 (by omega) q)
      · obtain ⟨l, P, C⟩ := tf_found I D hk hb6 fb0 g1 (by rw [hL]; exact z)
        rw [hL] at C
        exact hP b l _ ln P C
    · refine ih (b + 1) F e L cf ln (by omega) hL I hk D ?_
      intro p hp1 q
      by_cases y : p = b
      · rw [y, fb1] at q
        exact Bool.noConfusion q
      · exact hp p (by omega) q
theorem tf_sp54 (hg : g < 64) (hR : ∀ i, i < 36 → room i = nI (R i) ∧ R i < 2 ^ 31)
    (hN : ∀ S cf ln, S < 64 → tf_sep s g S → (∀ a b, a < 6 → b < 6 → S.testBit a = true → S.testBit b = false → R (a * 6 + b) = 0) → post (-1) (fk, f1, f2, fb, caps, room, cf, ln))
    (hP : ∀ b l cf ln, tf_path s g R b l → tf_ch cf b l → post (nI b) (fk, f1, f2, fb, caps, room, cf, ln)) :
    ∀ d k F e L cf ln, k + d = 6 → tf_BF s g R F e L cf ln → tf_DN R F k L →
      wX_spread_54 post (nI g) fk f1 f2 fb (d + 1) (nI F) (nI e) (nI k) caps room cf ln := by
  intro d
  induction d with
  | zero =>
    intro k F e L cf ln hk I D
    have he : e ≤ 6 := by rw [I.2.1]; exact tf_cnt_6 F I.1
    have C := tf_closed I D (by omega)
    exact br_t (nI_le (by omega) (by omega)) (hN F cf ln C.1 C.2.1 C.2.2)
  | succ d ih =>
    intro k F e L cf ln hk I D
    have he : e ≤ 6 := by rw [I.2.1]; exact tf_cnt_6 F I.1
    refine pk_le e k (fun z => ?_) (fun z => br_f (nI_ge (b := 6) (by omega) (by omega)) ⟨vp_in_nI (by omega) (by omega), nm_r (e' := nI (L k)) ?_ ⟨7, ?_⟩⟩)
    · have C := tf_closed I D z
      exact hN F cf ln C.1 C.2.1 C.2.2
    · rw [nI_clamp (by omega)]
      exact (I.2.2.1 k z).2.2.2
    · refine tf_sp80 hg hR ?_ hP 6 0 F e L cf ln rfl rfl I z D (fun p hp => absurd hp (Nat.not_lt_zero p))
      intro F' e' L' cf' ln' I' D'
      exact ih (k + 1) F' e' L' cf' ln' (by omega) I' D'
theorem tf_sp8 (hs : s < 64) (hg : g < 64) (hsg : ∀ p, p < 6 → s.testBit p = true → g.testBit p = false) (hR : ∀ i, i < 36 → room i = nI (R i) ∧ R i < 2 ^ 31)
    (hN : ∀ S cf ln, S < 64 → tf_sep s g S → (∀ a b, a < 6 → b < 6 → S.testBit a = true → S.testBit b = false → R (a * 6 + b) = 0) → post (-1) (fk, f1, f2, fb, caps, room, cf, ln))
    (hP : ∀ b l cf ln, tf_path s g R b l → tf_ch cf b l → post (nI b) (fk, f1, f2, fb, caps, room, cf, ln)) :
    ∀ (d a e : Nat) (L : Nat → Nat) (cf ln : Nat → Int32), a + d = 6 → e = tf_sm (tf_bn s) a → (∀ j, j < e → L j < a ∧ s.testBit (L j) = true ∧ ln j = nI (L j) ∧ cf (L j) = -1) →
      (∀ i j, i < j → j < e → L i ≠ L j) → (∀ p, p < a → s.testBit p = true → ∃ j, j < e ∧ L j = p) →
      wX_spread_8 post (nI s) (nI g) (nI s) fk f1 f2 fb (d + 1) (nI e) (nI a) caps room cf ln := by
  intro d
  induction d with
  | zero =>
    intro a e L cf ln ha he h1 h2 h3
    have ha6 : a = 6 := by omega
    subst ha6
    refine br_t (nI_le (a := 6) (by omega) (by omega)) ⟨7, tf_sp54 hg hR hN hP 6 0 s e L cf ln rfl ⟨hs, he, ?_, h2, h3, fun p _ q => q, ?_⟩ (fun i hi => absurd hi (Nat.not_lt_zero i))⟩
    · intro j hj
      obtain ⟨a1, a2, a3, a4⟩ := h1 j hj
      exact ⟨a1, a2, hsg _ a1 a2, a3⟩
    · intro j hj
      obtain ⟨a1, a2, a3, a4⟩ := h1 j hj
      exact Or.inl ⟨a2, a4⟩
  | succ d ih =>
    intro a e L cf ln ha he h1 h2 h3
    have ha6 : a < 6 := by omega
    have e6 : e ≤ a := by rw [he]; exact tf_bn_le s a
    refine br_f (nI_ge (b := 6) ha6 (by omega)) (tf_in hs ha6 (fun z => br_t rfl (nm_r (nI_1 a) ?_)) (fun z => br_f tf_10 ⟨vp_in_nI ha6 (by omega), nm_r (e' := upd cf a (-1)) ?_ ⟨vp_in_nI (by omega) (by omega), nm_r (e' := upd ln e (nI a)) ?_ (nm_r (nI_1 e) (nm_r (nI_1 a) ?_))⟩⟩))
    · refine ih (a + 1) e L cf ln (by omega) ?_ ?_ h2 ?_
      · rw [tf_sm_s, tf_bn, z, he]
        rfl
      · intro j hj
        obtain ⟨a1, a2⟩ := h1 j hj
        exact ⟨by omega, a2⟩
      · intro p hp q
        by_cases y : p = a
        · rw [y, z] at q
          exact Bool.noConfusion q
        · exact h3 p (by omega) q
    · rw [nI_clamp (by omega), tf_nar_m]
    · rw [nI_clamp (by omega), tf_nar (by omega)]
    · refine ih (a + 1) (e + 1) (tf_Ls L e a) _ _ (by omega) ?_ ?_ ?_ ?_
      · rw [tf_sm_s, tf_bn, z, he]
        rfl
      · intro j hj
        by_cases q : j = e
        · subst q
          rw [tf_Ls_e]
          exact ⟨by omega, z, pk_us, pk_us⟩
        · rw [tf_Ls_n (by omega), pk_un q]
          obtain ⟨a1, a2, a3, a4⟩ := h1 j (by omega)
          exact ⟨by omega, a2, a3, by rw [pk_un (by omega)]; exact a4⟩
      · intro i j hij hj
        by_cases q : j = e
        · subst q
          rw [tf_Ls_e, tf_Ls_n (by omega)]
          have := (h1 i (by omega)).1
          omega
        · rw [tf_Ls_n (by omega), tf_Ls_n (by omega)]
          exact h2 i j hij (by omega)
      · intro p hp q
        by_cases y : p = a
        · exact ⟨e, by omega, by rw [tf_Ls_e, y]⟩
        · obtain ⟨j, c1, c2⟩ := h3 p (by omega) q
          exact ⟨j, by omega, by rw [tf_Ls_n c1, c2]⟩
theorem tf_spread {cf ln : Nat → Int32} (hs : s < 64) (hg : g < 64) (hsg : ∀ p, p < 6 → s.testBit p = true → g.testBit p = false) (hR : ∀ i, i < 36 → room i = nI (R i) ∧ R i < 2 ^ 31)
    (hN : ∀ S cf ln, S < 64 → tf_sep s g S → (∀ a b, a < 6 → b < 6 → S.testBit a = true → S.testBit b = false → R (a * 6 + b) = 0) → post (-1) (fk, f1, f2, fb, caps, room, cf, ln))
    (hP : ∀ b l cf ln, tf_path s g R b l → tf_ch cf b l → post (nI b) (fk, f1, f2, fb, caps, room, cf, ln)) :
    wpX_spread post (fk, f1, f2, fb, caps, room, cf, ln) (nI s) (nI g) :=
  ⟨7, tf_sp8 hs hg hsg hR hN hP 6 0 0 (fun _ => 0) cf ln rfl rfl (fun j hj => absurd hj (Nat.not_lt_zero j)) (fun _ j _ hj => absurd hj (Nat.not_lt_zero j)) (fun p hp => absurd hp (Nat.not_lt_zero p))⟩
end
end
section
/-! X: push, flow, learn -/
section
variable {post : Int32 → SX → Prop} {fk f1 f2 fb : Int32} {caps cf ln : Nat → Int32}
theorem tf_m1 : (-1 : Int32) < 0 := by decide
/-- the second pass: the edges of the path are pushed -/
theorem tf_pu57 {m : Nat} (hm : m < 2 ^ 30) : ∀ (l : List Nat) (b : Nat) (R : Nat → Nat) (room : Nat → Int32), tf_ch cf b l → (b :: l).Nodup → (∀ x, x ∈ b :: l → x < 6) →
    (∀ i, i < 36 → room i = nI (R i)) → (∀ x y, tf_eg b l x y → m ≤ R (y * 6 + x)) →
    (∀ room', (∀ i, i < 36 → room' i = nI (tf_psh m R b l i)) → post (nI m) (fk, f1, f2, fb, caps, room', cf, ln)) →
    wX_push_57 post (nI m) fk f1 f2 fb (l.length + 1) (nI b) caps room cf ln := by
  intro l
  induction l with
  | nil =>
    intro b R room C _ _ hR _ K
    have cl : (nI b).toNatClampNeg = b := nI_clamp (Nat.lt_trans C.1 (by decide))
    refine ⟨vp_in_nI C.1 (by omega), br_t ?_ (K room hR)⟩
    rw [cl, C.2]
    exact tf_m1
  | cons a l ih =>
    intro b R room C hn h6 hR hm' K
    have hb : b < 6 := C.1
    have ha : a < 6 := h6 a (List.mem_cons_of_mem _ List.mem_cons_self)
    have cl : (nI b).toNatClampNeg = b := nI_clamp (by omega)
    have cb : cf (nI b).toNatClampNeg = nI a := by rw [cl]; exact C.2.1
    rw [List.nodup_cons] at hn
    have hab : a ≠ b := fun e => hn.1 (by rw [e]; exact List.mem_cons_self)
    have hi := vp_in_nI (N := 6) hb (by omega)
    have h6' : ∀ z, z ∈ a :: l → z < 6 := fun z hz => h6 z (List.mem_cons_of_mem _ hz)
    have mb : m ≤ R (a * 6 + b) := hm' b a (Or.inl ⟨rfl, rfl⟩)
    refine ⟨hi, br_f (by rw [cb]; exact nI_pos (by omega)) ⟨hi, nm_r cb ⟨tf_xin ha hb, tf_xin ha hb, nm_r (e' := upd room (a * 6 + b) (nI (R (a * 6 + b) - m))) ?_ ⟨tf_xin hb ha, tf_xin hb ha, nm_r (e' := upd (upd room (a * 6 + b) (nI (R (a * 6 + b) - m))) (b * 6 + a) (nI (R (b * 6 + a) + m))) ?_ ⟨hi, nm_r cb ?_⟩⟩⟩⟩⟩
    · rw [tf_xcl ha hb, hR _ (by omega), pk_sub mb]
    · rw [tf_xcl hb ha, pk_un (by omega), hR _ (by omega), nI_add]
    · refine ih a (tf_ed R a b m) _ C.2.2 hn.2 h6' ?_ ?_ K
      · intro i hi36
        by_cases e1 : i = b * 6 + a
        · rw [e1, pk_us, tf_ed_ba]
        · rw [pk_un e1]
          by_cases e2 : i = a * 6 + b
          · rw [e2, pk_us, tf_ed_ab ha hb hab]
          · rw [pk_un e2, tf_ed_n e1 e2, hR i hi36]
      · intro x y q
        have Q := tf_eg_mem l a x y q
        have xb : x ∈ a :: l := by
          rcases Q.1 with q1 | q1
          · rw [q1]; exact List.mem_cons_self
          · exact List.mem_cons_of_mem _ q1
        have yb : y ∈ a :: l := List.mem_cons_of_mem _ Q.2
        have x6 := h6' x xb
        have y6 := h6' y yb
        have xn : x ≠ b := fun e => hn.1 (e ▸ xb)
        have yn : y ≠ b := fun e => hn.1 (e ▸ yb)
        rw [tf_ed_n (by omega) (by omega)]
        exact hm' x y (Or.inr q)
/-- the first pass: the least room on the path -/
theorem tf_pu5 {R : Nat → Nat} {room : Nat → Int32} (hR : ∀ i, i < 36 → room i = nI (R i) ∧ R i < 2 ^ 31) {b0 : Int32} : ∀ (l : List Nat) (b m : Nat), m < 2 ^ 30 → tf_ch cf b l → (∀ x, x ∈ b :: l → x < 6) →
    (∃ n, wX_push_57 post (nI (tf_mn R m b l)) fk f1 f2 fb n b0 caps room cf ln) →
    wX_push_5 post b0 fk f1 f2 fb caps room cf ln (l.length + 1) (nI m) (nI b) := by
  intro l
  induction l with
  | nil =>
    intro b m hm C h6 K
    have cl : (nI b).toNatClampNeg = b := nI_clamp (Nat.lt_trans C.1 (by decide))
    refine ⟨vp_in_nI C.1 (by omega), br_t ?_ K⟩
    rw [cl, C.2]
    exact tf_m1
  | cons a l ih =>
    intro b m hm C h6 K
    have hb : b < 6 := C.1
    have ha : a < 6 := h6 a (List.mem_cons_of_mem _ List.mem_cons_self)
    have cl : (nI b).toNatClampNeg = b := nI_clamp (by omega)
    have cb : cf (nI b).toNatClampNeg = nI a := by rw [cl]; exact C.2.1
    have hi := vp_in_nI (N := 6) hb (by omega)
    have h6' : ∀ z, z ∈ a :: l → z < 6 := fun z hz => h6 z (List.mem_cons_of_mem _ hz)
    have hr := hR (a * 6 + b) (by omega)
    refine ⟨hi, br_f (by rw [cb]; exact nI_pos (by omega)) ⟨hi, by rw [cb]; exact tf_xin ha hb, nm_r (e' := nI (R (a * 6 + b))) (by rw [cb, tf_xcl ha hb]; exact hr.1) ?_⟩⟩
    refine pk_le m (R (a * 6 + b)) (fun z => ⟨hi, nm_r cb ?_⟩) (fun z => ⟨hi, nm_r cb ?_⟩) rfl rfl (by omega) hr.2
    · refine ih a m hm C.2.2 h6' ?_
      rw [tf_mn, if_pos z] at K
      exact K
    · refine ih a (R (a * 6 + b)) (by omega) C.2.2 h6' ?_
      rw [tf_mn, if_neg (by omega)] at K
      exact K
theorem tf_push {s g : Nat} {R : Nat → Nat} {room : Nat → Int32} {b : Nat} {l : List Nat} (hR : ∀ i, i < 36 → room i = nI (R i) ∧ R i < 2 ^ 31) (P : tf_path s g R b l) (C : tf_ch cf b l)
    (K : ∀ room', (∀ i, i < 36 → room' i = nI (tf_psh (tf_mn R 1048576 b l) R b l i)) → post (nI (tf_mn R 1048576 b l)) (fk, f1, f2, fb, caps, room', cf, ln)) :
    wpX_push post (fk, f1, f2, fb, caps, room, cf, ln) (nI b) :=
  ⟨l.length + 1, tf_pu5 hR l b 1048576 (by decide) C P.2.1 ⟨l.length + 1, tf_pu57 (Nat.lt_of_le_of_lt (tf_mn_le R l 1048576 b) (by decide)) l b R room C P.1 P.2.1 (fun i hi => (hR i hi).1) (tf_mn_eg R l 1048576 b) K⟩⟩
theorem tf_fl31 {c : Nat → Nat} {s g : Nat} {μ : (Nat → Nat) → Nat → Nat} (hc : ∀ i, c i ≤ 21) (hs : s < 64) (hg : g < 64) (hsg : ∀ p, p < 6 → s.testBit p = true → g.testBit p = false) (hμ : tf_ms c s g μ)
    (K : ∀ v room cf ln, tf_mc c s g v → post (nI v) (fk, f1, f2, fb, caps, room, cf, ln)) :
    ∀ n r t R room cf ln, μ R t < n → r + μ R t < 128 → (∀ i, i < 36 → room i = nI (R i)) → tf_FI c s g R t →
      wX_flow_31 post (nI s) (nI g) n (nI t) (nI r) fk f1 f2 fb caps room cf ln := by
  intro n
  induction n with
  | zero => intro r t R room cf ln h; omega
  | succ n ih =>
    intro r t R room cf ln h1 h2 hR F
    have hR' : ∀ i, i < 36 → room i = nI (R i) ∧ R i < 2 ^ 31 := fun i hi => ⟨hR i hi, Nat.lt_of_le_of_lt (tf_FI_le F hc hi) (by decide)⟩
    refine br_f (nI_ge (b := 128) (by omega) (by omega)) (tf_spread hs hg hsg hR' ?_ ?_)
    · intro S cf' ln' hS sp z
      exact br_f (by decide) (K t room cf' ln' (tf_FI_end F hS sp z))
    · intro b l cf' ln' P C
      have hb : b < 6 := P.2.1 b List.mem_cons_self
      refine br_t (nI_pos' (by omega)) (tf_push hR' P C ?_)
      intro room' hr'
      have q := hμ.2 R t b l F P
      exact nm_r (nI_add _ _) (nm_r (nI_1 r) (ih (r + 1) (t + tf_mn R 1048576 b l) _ room' cf' ln' (by omega) (by omega) hr' (tf_FI_step F P)))
theorem tf_fl2 {c : Nat → Nat} {s g : Nat} {μ : (Nat → Nat) → Nat → Nat} (hc : ∀ i, c i ≤ 21) (hs : s < 64) (hg : g < 64) (hsg : ∀ p, p < 6 → s.testBit p = true → g.testBit p = false) (hμ : tf_ms c s g μ)
    (K : ∀ v room cf ln, tf_mc c s g v → post (nI v) (fk, f1, f2, fb, (fun i => nI (c i)), room, cf, ln)) :
    ∀ d i room, i + d = 36 → (∀ j, j < i → room j = nI (c j)) →
      wX_flow_2 post (nI s) (nI g) fk f1 f2 fb (d + 1) (nI i) (fun i => nI (c i)) room cf ln := by
  intro d
  induction d with
  | zero =>
    intro i room hi hr
    have hi36 : i = 36 := by omega
    subst hi36
    refine br_t (nI_le (a := 36) (by omega) (by omega)) ⟨128, tf_fl31 hc hs hg hsg hμ K 128 0 0 c room cf ln hμ.1 ?_ hr (tf_FI_0 c s g)⟩
    have := hμ.1
    omega
  | succ d ih =>
    intro i room hi hr
    have hv := vp_in_nI (n := i) (N := 36) (by omega) (by omega)
    refine br_f (nI_ge (b := 36) (by omega) (by omega)) ⟨hv, hv, nm_r (e' := upd room i (nI (c i))) ?_ (nm_r (nI_1 i) (ih (i + 1) _ (by omega) ?_))⟩
    · rw [nI_clamp (by omega)]
    · intro j hj
      by_cases q : j = i
      · rw [q, pk_us]
      · rw [pk_un q]
        exact hr j (by omega)
theorem tf_flow {c : Nat → Nat} {s g : Nat} {room : Nat → Int32} {μ : (Nat → Nat) → Nat → Nat} (hc : ∀ i, c i ≤ 21) (hs : s < 64) (hg : g < 64) (hsg : ∀ p, p < 6 → s.testBit p = true → g.testBit p = false) (hμ : tf_ms c s g μ)
    (K : ∀ v room cf ln, tf_mc c s g v → post (nI v) (fk, f1, f2, fb, (fun i => nI (c i)), room, cf, ln)) :
    wpX_flow post (fk, f1, f2, fb, (fun i => nI (c i)), room, cf, ln) (nI s) (nI g) :=
  ⟨37, tf_fl2 hc hs hg hsg hμ K 36 0 room rfl (fun j hj => absurd hj (Nat.not_lt_zero j))⟩
end
/-- X's state once it has learnt -/
abbrev tf_st (c : Nat → Nat) (room cf ln : Nat → Int32) : SX := (1, nI (min (tf_L c 1) (tf_L c 3)), nI (min (tf_L c 2) (tf_L c 3)), nI (tf_L c 3), (fun i => nI (c i)), room, cf, ln)
def tf_XS (c : Nat → Nat) (u : SX) : Prop := ∃ fk f1 f2 fb room cf ln, u = (fk, f1, f2, fb, (fun i => nI (c i)), room, cf, ln) ∧
  (fk = 0 ∨ (fk = 1 ∧ f1 = nI (min (tf_L c 1) (tf_L c 3)) ∧ f2 = nI (min (tf_L c 2) (tf_L c 3)) ∧ fb = nI (tf_L c 3)))
theorem tf_XS_st (c : Nat → Nat) (room cf ln : Nat → Int32) : tf_XS c (tf_st c room cf ln) := ⟨_, _, _, _, _, _, _, rfl, Or.inr ⟨rfl, rfl, rfl, rfl⟩⟩
theorem tf_sg1 : ∀ p, p < 6 → Nat.testBit 1 p = true → Nat.testBit 2 p = false := by decide
theorem tf_sg2 : ∀ p, p < 6 → Nat.testBit 4 p = true → Nat.testBit 8 p = false := by decide
theorem tf_sg3 : ∀ p, p < 6 → Nat.testBit 5 p = true → Nat.testBit 10 p = false := by decide
theorem tf_sg4 : ∀ p, p < 6 → Nat.testBit 9 p = true → Nat.testBit 6 p = false := by decide
theorem tf_se1 : tf_sep 1 2 1 := by decide
theorem tf_se2 : tf_sep 4 8 4 := by decide
theorem tf_learn {post : SX → Prop} {c : Nat → Nat} {u : SX} (hc : tf_OK 21 c) (hu : tf_XS c u) (K : ∀ room cf ln, post (tf_st c room cf ln)) : wpX_learn post u := by
  obtain ⟨fk, f1, f2, fb, room, cf, ln, rfl, h⟩ := hu
  rcases h with rfl | ⟨rfl, rfl, rfl, rfl⟩
  · refine br_t rfl (tf_flow (s := 1) (g := 2) hc.1 (by decide) (by decide) tf_sg1 (tf_ms_one hc.1 (by decide) tf_se1 tf_W_1) ?_)
    intro v1 room1 cf1 ln1 m1
    refine tf_flow (s := 4) (g := 8) hc.1 (by decide) (by decide) tf_sg2 (tf_ms_one hc.1 (by decide) tf_se2 tf_W_4) ?_
    intro v2 room2 cf2 ln2 m2
    refine tf_flow (s := 5) (g := 10) hc.1 (by decide) (by decide) tf_sg3 (tf_ms_two hc.1 tf_H5) ?_
    intro v3 room3 cf3 ln3 m3
    refine tf_flow (s := 9) (g := 6) hc.1 (by decide) (by decide) tf_sg4 (tf_ms_two hc.1 tf_H9) ?_
    intro v4 room4 cf4 ln4 m4
    have e1 := tf_mc_1 hc m1
    have e2 := tf_mc_2 hc m2
    have e3 := tf_mc_3 hc m3 m4
    have b3 : v3 ≤ 756 := by
      obtain ⟨S, q1, _, q3⟩ := m3.1
      rw [← q3]
      exact tf_W_lt hc.1 q1
    have b4 : v4 ≤ 756 := by
      obtain ⟨S, q1, _, q3⟩ := m4.1
      rw [← q3]
      exact tf_W_lt hc.1 q1
    have k := K room4 cf4 ln4
    rw [tf_st, ← e1, ← e2, ← e3] at k
    refine pk_le v4 v3 (fun z => ?_) (fun z => ?_)
    · rw [Nat.min_eq_right z] at k
      exact k
    · rw [Nat.min_eq_left (Nat.le_of_lt z)] at k
      exact k
  · exact br_f tf_10 (K room cf ln)
end
section
/-! width on both sides; Y's work -/
section
variable {c : Nat → Nat} {s : Nat}
theorem tf_w_0 {a b : Nat} (hb : b < 6) (h : s.testBit a = false) : tf_w c s (a * 6 + b) = 0 := by
  rw [tf_w, tf_cut_ab hb, h]; rfl
theorem tf_w_1 {a b : Nat} (hb : b < 6) (h : s.testBit b = true) : tf_w c s (a * 6 + b) = 0 := by
  rw [tf_w, tf_cut_ab hb, h, Bool.not_true, Bool.and_false]; rfl
theorem tf_w_2 {a b : Nat} (hb : b < 6) (h : s.testBit a = true) (h' : s.testBit b = false) : tf_w c s (a * 6 + b) = c (a * 6 + b) := by
  rw [tf_w, tf_cut_ab hb, h, h']; rfl
theorem tf_add0 (n : Nat) : nI n + 0 = nI n := Int32.add_zero _
section
variable {post : Int32 → Prop} {fk f1 f2 fb : Int32} {room cf ln : Nat → Int32}
theorem tf_xw25 {J : Int32 → Int32 → Prop} (hs : s < 64) {a : Nat} (ha : a < 6) (K : J (nI (tf_sm (tf_w c s) (a * 6 + 6))) (nI (a + 1))) :
    ∀ d b, b + d = 6 → wX_width_25 post J (nI s) (nI a) fk f1 f2 fb (fun i => nI (c i)) room cf ln (d + 1) (nI (tf_sm (tf_w c s) (a * 6 + b))) (nI b) := by
  intro d
  induction d with
  | zero =>
    intro b hb
    have hb6 : b = 6 := by omega
    subst hb6
    exact br_t (nI_le (a := 6) (by omega) (by omega)) (nm_r (nI_1 a) K)
  | succ d ih =>
    intro b hb
    have hb6 : b < 6 := by omega
    have k := ih (b + 1) (by omega)
    have e : tf_sm (tf_w c s) (a * 6 + (b + 1)) = tf_sm (tf_w c s) (a * 6 + b) + tf_w c s (a * 6 + b) := rfl
    refine br_f (nI_ge (b := 6) hb6 (by omega)) (tf_in hs ha (fun q => br_t rfl (nm_r (tf_add0 _) (nm_r (nI_1 b) ?_))) (fun q => br_f tf_10 (tf_in hs hb6 (fun q' => br_t rfl ⟨tf_xin ha hb6, nm_r (e' := nI (tf_sm (tf_w c s) (a * 6 + b) + c (a * 6 + b))) ?_ (nm_r (nI_1 b) ?_)⟩) (fun q' => br_f tf_10 (nm_r (tf_add0 _) (nm_r (nI_1 b) ?_))))))
    · rw [e, tf_w_0 hb6 q] at k
      exact k
    · rw [tf_xcl ha hb6, nI_add]
    · rw [e, tf_w_2 hb6 q q'] at k
      exact k
    · rw [e, tf_w_1 hb6 q'] at k
      exact k
theorem tf_xw16 (hs : s < 64) (K : post (nI (tf_W c s))) :
    ∀ d a, a + d = 6 → wX_width_16 post (nI s) fk f1 f2 fb (fun i => nI (c i)) room cf ln (d + 1) (nI (tf_sm (tf_w c s) (a * 6))) (nI a) := by
  intro d
  induction d with
  | zero =>
    intro a ha
    have ha6 : a = 6 := by omega
    subst ha6
    exact br_t (nI_le (a := 6) (by omega) (by omega)) K
  | succ d ih =>
    intro a ha
    refine br_f (nI_ge (b := 6) (by omega) (by omega)) ⟨7, tf_xw25 hs (by omega) ?_ 6 0 rfl⟩
    have k := ih (a + 1) (by omega)
    rw [Nat.add_mul] at k
    exact k
theorem tf_xw (hs : s < 64) (K : post (nI (tf_W c s))) : wpX_width post (fk, f1, f2, fb, (fun i => nI (c i)), room, cf, ln) (nI s) :=
  br_f (nI_pos (by omega)) (br_t (nI_le (b := 63) (by omega) (by omega)) ⟨7, tf_xw16 hs K 6 0 rfl⟩)
end
section
variable {post : Int32 → Prop} {lim : Nat → Int32}
theorem tf_60 : ¬ (6 : Int32) = 0 := by decide
theorem tf_d6 {i : Nat} (h : i < 36) : nI i / 6 = nI (i / 6) := pk_div (d := 6) (by omega) (by omega) (by omega)
theorem tf_r6 {i : Nat} (h : i < 36) : nI i - nI i / 6 * 6 = nI (i % 6) := pk_rem (d := 6) (by omega) (by omega) (by omega)
theorem tf_yw4 (hs : s < 64) (K : post (nI (tf_W c s))) :
    ∀ d i, i + d = 36 → wY_width_4 post (nI s) (fun i => nI (c i)) lim (d + 1) (nI (tf_sm (tf_w c s) i)) (nI i) := by
  intro d
  induction d with
  | zero =>
    intro i hi
    have h36 : i = 36 := by omega
    subst h36
    exact br_t (nI_le (a := 36) (by omega) (by omega)) (br_f (nI_pos (by omega)) (br_t (nI_le (b := 63) (by omega) (by omega)) K))
  | succ d ih =>
    intro i hi
    have h36 : i < 36 := by omega
    have hd : i / 6 < 6 := by omega
    have hr : i % 6 < 6 := by omega
    have k := ih (i + 1) (by omega)
    have e : tf_sm (tf_w c s) (i + 1) = tf_sm (tf_w c s) i + tf_w c s i := rfl
    refine br_f (nI_ge (b := 36) h36 (by omega)) ⟨tf_60, ?_⟩
    cases q : s.testBit (i / 6) with
    | false =>
      have z : tf_w c s i = 0 := by rw [tf_w, tf_cut, q]; rfl
      rw [e, z] at k
      exact br_f (by rw [tf_d6 h36, tf_bit0 hs hd q]; decide) (br_t rfl (nm_r (nI_1 i) k))
    | true =>
      refine br_t (by rw [tf_d6 h36, tf_bit1 hs hd q]) ⟨tf_60, ?_⟩
      cases q' : s.testBit (i % 6) with
      | false =>
        have z : tf_w c s i = c i := by rw [tf_w, tf_cut, q, q']; rfl
        rw [e, z] at k
        exact br_t (by rw [tf_r6 h36, tf_bit0 hs hr q']) (br_f tf_10 ⟨vp_in_nI h36 (by omega), nm_r (by rw [nI_clamp (by omega), nI_add]) (nm_r (nI_1 i) k)⟩)
      | true =>
        have z : tf_w c s i = 0 := by rw [tf_w, tf_cut, q, q']; rfl
        rw [e, z] at k
        exact br_f (by rw [tf_r6 h36, tf_bit1 hs hr q']; exact tf_10) (br_t rfl (nm_r (nI_1 i) k))
theorem tf_yw (hs : s < 64) (K : post (nI (tf_W c s))) : wpY_width post ((fun i => nI (c i)), lim) (nI s) := ⟨37, tf_yw4 hs K 36 0 rfl⟩
theorem tf_ywb {x : Int32} {caps : Nat → Int32} (hx : x < 0 ∨ ¬ x ≤ 63) (K : post (-1)) : ∀ d i (t : Int32), i + d = 36 → wY_width_4 post x caps lim (d + 1) t (nI i) := by
  intro d
  induction d with
  | zero =>
    intro i t hi
    have h36 : i = 36 := by omega
    subst h36
    refine br_t (nI_le (a := 36) (by omega) (by omega)) (br_c (fun _ => K) (fun h => br_f ?_ K))
    rcases hx with q | q
    · exact absurd q h
    · exact q
  | succ d ih =>
    intro i t hi
    have A : ∀ t : Int32, wY_width_37 post (wY_width_4 post x caps lim (d + 1)) x t (nI i) caps lim := fun t => br_t rfl (nm_r (nI_1 i) (ih (i + 1) t (by omega)))
    have B : ∀ t : Int32, wY_width_38 post (wY_width_4 post x caps lim (d + 1)) x t (nI i) 1 caps lim := fun t => br_f tf_10 ⟨vp_in_nI (by omega) (by omega), nm_e (nm_r (nI_1 i) (ih (i + 1) _ (by omega)))⟩
    exact br_f (nI_ge (b := 36) (by omega) (by omega)) ⟨tf_60, br_c (fun _ => ⟨tf_60, br_c (fun _ => B t) (fun _ => A t)⟩) (fun _ => A t)⟩
end
end
theorem tf_kdI : ∀ s, s < 64 → ((nI s ^^^ (nI s >>> ((1 : Int32) &&& 31))) &&& 1) ||| ((((nI s ^^^ (nI s >>> ((1 : Int32) &&& 31))) >>> ((2 : Int32) &&& 31)) &&& 1) <<< ((1 : Int32) &&& 31)) = nI (tf_kd s) := by decide +kernel
theorem tf_kd4 : ∀ s, s < 64 → tf_kd s < 4 := by decide +kernel
def tf_LM (c : Nat → Nat) (lim : Nat → Int32) : Prop := ∀ k, k < 4 → lim k = nI (tf_L c k)
section
variable {post : SY → Prop} {c : Nat → Nat}
theorem tf_wk24 (hc : ∀ i, c i ≤ 21) (K : ∀ lim, tf_LM c lim → post ((fun i => nI (c i)), lim)) :
    ∀ d s lim, s + d = 64 → (∀ k, k < 4 → lim k = nI (tf_mw c k s)) → wY_work_24 post (d + 1) (nI s) (fun i => nI (c i)) lim := by
  intro d
  induction d with
  | zero =>
    intro s lim hs hl
    have h64 : s = 64 := by omega
    subst h64
    exact br_t (nI_le (a := 64) (by omega) (by omega)) (K lim hl)
  | succ d ih =>
    intro s lim hs hl
    have h64 : s < 64 := by omega
    have hk := tf_kd4 s h64
    have hi : vp_in (nI (tf_kd s)) 4 := vp_in_nI hk (by omega)
    have cl : (nI (tf_kd s)).toNatClampNeg = tf_kd s := nI_clamp (by omega)
    have b1 := tf_mw_1000 c (tf_kd s) s
    have b2 := tf_W_lt hc h64
    refine br_f (nI_ge (b := 64) h64 (by omega)) (nm_e (nm_r (tf_kdI s h64) (tf_yw h64 ⟨hi, ?_⟩)))
    refine pk_le (tf_mw c (tf_kd s) s) (tf_W c s) (fun z => ⟨hi, hi, nm_e (nm_r (nI_1 s) ?_)⟩) (fun z => ⟨hi, nm_e (nm_r (nI_1 s) ?_)⟩) (by rw [cl]; exact hl _ hk) rfl (by omega) (by omega)
    · refine ih (s + 1) _ (by omega) ?_
      intro k hk4
      rw [cl, tf_mw_s]
      by_cases q : tf_kd s = k
      · rw [if_pos q, ← q, if_pos z, pk_us, hl _ hk]
      · rw [if_neg q, pk_un (fun y => q y.symm), hl k hk4]
    · refine ih (s + 1) _ (by omega) ?_
      intro k hk4
      rw [cl, tf_mw_s]
      by_cases q : tf_kd s = k
      · rw [if_pos q, ← q, if_neg (by omega), pk_us]
      · rw [if_neg q, pk_un (fun y => q y.symm), hl k hk4]
theorem tf_wk2 (hc : ∀ i, c i ≤ 21) (K : ∀ lim, tf_LM c lim → post ((fun i => nI (c i)), lim)) :
    ∀ d k lim, k + d = 4 → (∀ j, j < k → lim j = nI 1000) → wY_work_2 post (d + 1) (nI k) (fun i => nI (c i)) lim := by
  intro d
  induction d with
  | zero =>
    intro k lim hk hl
    have h4 : k = 4 := by omega
    subst h4
    exact br_t (nI_le (a := 4) (by omega) (by omega)) ⟨65, tf_wk24 hc K 64 0 lim rfl hl⟩
  | succ d ih =>
    intro k lim hk hl
    refine br_f (nI_ge (b := 4) (by omega) (by omega)) ⟨vp_in_nI (by omega) (by omega), nm_e (nm_r (nI_1 k) (ih (k + 1) _ (by omega) ?_))⟩
    intro j hj
    rw [nI_clamp (by omega)]
    by_cases q : j = k
    · rw [q, pk_us]
      rfl
    · rw [pk_un q]
      exact hl j (by omega)
theorem tf_work {lim : Nat → Int32} (hc : tf_OK 21 c) (K : ∀ lim, tf_LM c lim → post ((fun i => nI (c i)), lim)) : wpY_work post ((fun i => nI (c i)), lim) :=
  ⟨5, tf_wk2 hc.1 K 4 0 lim rfl (fun j hj => absurd hj (Nat.not_lt_zero j))⟩
end
end
section
/-! Y's answers: loops over what fits -/
abbrev tf_fit (c : Nat → Nat) (x y : Nat) : Prop := x ≤ tf_L c 1 ∧ y ≤ tf_L c 2 ∧ x + y ≤ tf_L c 3
theorem tf_L_1000 (c : Nat → Nat) (k : Nat) : tf_L c k ≤ 1000 := tf_mw_1000 c k 64
theorem tf_fits {post : Int32 → Prop} {c : Nat → Nat} {caps lim : Nat → Int32} {x y : Nat} (hl : tf_LM c lim) (hx : x < 2 ^ 30) (hy : y < 2 ^ 30) (h1 : tf_fit c x y → post 1) (h0 : ¬ tf_fit c x y → post 0) :
    wpY_fits post (caps, lim) (nI x) (nI y) := by
  have b1 := tf_L_1000 c 1
  have b2 := tf_L_1000 c 2
  have b3 := tf_L_1000 c 3
  refine br_f (nI_pos (by omega)) (br_f (nI_pos (by omega)) (pk_lt (tf_L c 1) x (fun z => h0 (by omega)) (fun z1 => pk_lt (tf_L c 2) y (fun z => h0 (by omega)) (fun z2 => pk_lt (tf_L c 3) (x + y) (fun z => h0 (by omega)) (fun z3 => h1 ⟨z1, z2, z3⟩) (hl 3 (by omega)) (nI_add x y) (by omega) (by omega)) (hl 2 (by omega)) rfl (by omega) (by omega)) (hl 1 (by omega)) rfl (by omega) (by omega)))
section
variable {post : Int32 → SY → Prop} {c : Nat → Nat} {lim : Nat → Int32}
theorem tf_ya0 {caps : Nat → Int32} (hl : tf_LM c lim) {v : Nat} (hv : v = min (tf_L c 1) (tf_L c 3)) (h100 : v ≤ 100) (K : post (nI v) (caps, lim)) :
    ∀ d n, n + d = 101 → wY_alone_8 post 0 caps lim (d + 1) (nI (min (n - 1) v)) (nI n) := by
  intro d
  induction d with
  | zero =>
    intro n hn
    have h : n = 101 := by omega
    subst h
    refine br_t (nI_lt (a := 100) (by omega) (by omega)) (br_t rfl ?_)
    rw [show min (101 - 1) v = v by omega]
    exact K
  | succ d ih =>
    intro n hn
    have k := ih (n + 1) (by omega)
    refine br_f (nI_nlt (a := 100) (by omega) (by omega)) (br_t rfl (tf_fits (y := 0) hl (by omega) (by omega) (fun f => br_f tf_10 (nm_r (nI_1 n) ?_)) (fun f => br_t rfl (br_f (by decide) (nm_r (nI_1 n) ?_)))))
    · rw [show min (n + 1 - 1) v = n by omega] at k
      exact k
    · rw [show min (n + 1 - 1) v = min (n - 1) v by omega] at k
      exact k
theorem tf_ya1 {caps : Nat → Int32} (hl : tf_LM c lim) {v : Nat} (hv : v = min (tf_L c 2) (tf_L c 3)) (h100 : v ≤ 100) (K : post (nI v) (caps, lim)) :
    ∀ d n, n + d = 101 → wY_alone_8 post 1 caps lim (d + 1) (nI (min (n - 1) v)) (nI n) := by
  intro d
  induction d with
  | zero =>
    intro n hn
    have h : n = 101 := by omega
    subst h
    refine br_t (nI_lt (a := 100) (by omega) (by omega)) (br_f tf_10 (br_t rfl ?_))
    rw [show min (101 - 1) v = v by omega]
    exact K
  | succ d ih =>
    intro n hn
    have k := ih (n + 1) (by omega)
    refine br_f (nI_nlt (a := 100) (by omega) (by omega)) (br_f tf_10 (br_t rfl (tf_fits (x := 0) hl (by omega) (by omega) (fun f => br_f tf_10 (nm_r (nI_1 n) ?_)) (fun f => br_t rfl (nm_r (nI_1 n) ?_)))))
    · rw [show min (n + 1 - 1) v = n by omega] at k
      exact k
    · rw [show min (n + 1 - 1) v = min (n - 1) v by omega] at k
      exact k
theorem tf_ya2 {caps : Nat → Int32} {w : Int32} (h0 : ¬ w = 0) (h1 : ¬ w = 1) {m : Int32} (K : post (-1) (caps, lim)) :
    ∀ d n, n + d = 101 → wY_alone_8 post w caps lim (d + 1) m (nI n) := by
  intro d
  induction d with
  | zero =>
    intro n hn
    have h : n = 101 := by omega
    subst h
    exact br_t (nI_lt (a := 100) (by omega) (by omega)) (br_f h0 (br_f h1 K))
  | succ d ih =>
    intro n hn
    exact br_f (nI_nlt (a := 100) (by omega) (by omega)) (br_f h0 (br_f h1 (nm_r (nI_1 n) (ih (n + 1) (by omega)))))
def tf_mI (c : Nat → Nat) (x y m : Nat) : Prop :=
  m ≤ 200 ∧ (m = 0 ∨ ∃ x' y', x' ≤ 100 ∧ y' ≤ 100 ∧ tf_fit c x' y' ∧ x' + y' = m) ∧ ∀ x' y', y' ≤ 100 → (x' < x ∨ (x' = x ∧ y' < y)) → tf_fit c x' y' → x' + y' ≤ m
theorem tf_mI_s {c : Nat → Nat} {x m : Nat} (h : tf_mI c x 101 m) : tf_mI c (x + 1) 0 m := by
  refine ⟨h.1, h.2.1, fun x' y' hy q f => h.2.2 x' y' hy ?_ f⟩
  omega
theorem tf_mI_n {c : Nat → Nat} {x y m : Nat} (h : tf_mI c x y m) (z : x + y ≤ m ∨ ¬ tf_fit c x y) : tf_mI c x (y + 1) m := by
  refine ⟨h.1, h.2.1, fun x' y' hy q f => ?_⟩
  by_cases e : x' = x ∧ y' = y
  · obtain ⟨rfl, rfl⟩ := e
    rcases z with z | z
    · exact z
    · exact absurd f z
  · exact h.2.2 x' y' hy (by omega) f
theorem tf_mI_y {c : Nat → Nat} {x y m : Nat} (h : tf_mI c x y m) (hx : x ≤ 100) (hy : y ≤ 100) (z : m < x + y) (f : tf_fit c x y) : tf_mI c x (y + 1) (x + y) := by
  refine ⟨by omega, Or.inr ⟨x, y, hx, hy, f, rfl⟩, fun x' y' hy' q f' => ?_⟩
  by_cases e : x' = x ∧ y' = y
  · omega
  · have := h.2.2 x' y' hy' (by omega) f'
    omega
theorem tf_ym16 {caps : Nat → Int32} {J : Int32 → Int32 → Prop} (hl : tf_LM c lim) {x : Nat} (hx : x ≤ 100) (K : ∀ m, tf_mI c (x + 1) 0 m → J (nI m) (nI (x + 1))) :
    ∀ d y m, y + d = 101 → tf_mI c x y m → wY_most_16 post J (nI x) caps lim (d + 1) (nI m) (nI y) := by
  intro d
  induction d with
  | zero =>
    intro y m hy I
    have h : y = 101 := by omega
    subst h
    exact br_t (nI_lt (a := 100) (by omega) (by omega)) (nm_r (nI_1 x) (K m (tf_mI_s I)))
  | succ d ih =>
    intro y m hy I
    have m200 := I.1
    refine br_f (nI_nlt (a := 100) (by omega) (by omega)) (pk_le (x + y) m (fun z => nm_r (nI_1 y) (ih (y + 1) m (by omega) (tf_mI_n I (Or.inl z)))) (fun z => tf_fits hl (by omega) (by omega) (fun f => br_f tf_10 (nm_r (nI_add x y) (nm_r (nI_1 y) (ih (y + 1) (x + y) (by omega) (tf_mI_y I hx (by omega) z f))))) (fun f => br_t rfl (nm_r (nI_1 y) (ih (y + 1) m (by omega) (tf_mI_n I (Or.inr f)))))) (nI_add x y) rfl (by omega) (by omega))
theorem tf_ym8 {caps : Nat → Int32} (hl : tf_LM c lim) (K : ∀ m, tf_mI c 101 0 m → post (nI m) (caps, lim)) :
    ∀ d x m, x + d = 101 → tf_mI c x 0 m → wY_most_8 post caps lim (d + 1) (nI m) (nI x) := by
  intro d
  induction d with
  | zero =>
    intro x m hx I
    have h : x = 101 := by omega
    subst h
    exact br_t (nI_lt (a := 100) (by omega) (by omega)) (K m I)
  | succ d ih =>
    intro x m hx I
    exact br_f (nI_nlt (a := 100) (by omega) (by omega)) ⟨102, tf_ym16 hl (by omega) (fun m' I' => ih (x + 1) m' (by omega) I') 101 0 m rfl I⟩
/-- all that can be carried -/
def tf_M (c : Nat → Nat) : Nat := min (tf_L c 1 + tf_L c 2) (tf_L c 3)
theorem tf_mI_e {m : Nat} (hb : tf_M c ≤ min (tf_L c 1) 100 + min (tf_L c 2) 100) (I : tf_mI c 101 0 m) : m = tf_M c := by
  have h : tf_M c ≤ tf_L c 3 := Nat.min_le_right _ _
  have up : m ≤ tf_M c := by
    rcases I.2.1 with q | ⟨x', y', _, _, f, e⟩
    · omega
    · rw [tf_M]
      omega
  by_cases z : tf_M c ≤ min (tf_L c 1) 100
  · have := I.2.2 (tf_M c) 0 (by omega) (by omega) (by omega)
    omega
  · have := I.2.2 (min (tf_L c 1) 100) (tf_M c - min (tf_L c 1) 100) (by omega) (by omega) (by omega)
    omega
theorem tf_Ymost (hc : tf_OK 21 c) (hb : tf_M c ≤ min (tf_L c 1) 100 + min (tf_L c 2) 100) (K : ∀ lim, post (nI (tf_M c)) ((fun i => nI (c i)), lim)) : wpY_most post ((fun i => nI (c i)), lim) := by
  unfold wpY_most
  refine tf_work hc fun lim hl => ⟨102, ?_⟩
  refine tf_ym8 hl ?_ 101 0 0 rfl ⟨by omega, Or.inl rfl, fun x' y' _ q => by omega⟩
  intro m I
  rw [tf_mI_e hb I]
  exact K lim
theorem tf_yb0 {caps : Nat → Int32} (hl : tf_LM c lim) {x : Nat} (hx : x ≤ 100) (hn : ¬ x ≤ min (tf_L c 1) (tf_L c 3)) (K : post (-1) (caps, lim)) :
    ∀ d y, y + d = 101 → wY_besides_8 post (nI x) caps lim (d + 1) (-1) (nI y) := by
  intro d
  induction d with
  | zero =>
    intro y hy
    have h : y = 101 := by omega
    subst h
    exact br_t (nI_lt (a := 100) (by omega) (by omega)) K
  | succ d ih =>
    intro y hy
    exact br_f (nI_nlt (a := 100) (by omega) (by omega)) (br_f (nI_pos (by omega)) (br_f (nI_nlt (a := 100) (by omega) (by omega)) (tf_fits hl (by omega) (by omega) (fun f => absurd f (by omega)) (fun f => br_t rfl (nm_r (nI_1 y) (ih (y + 1) (by omega)))))))
theorem tf_yb1 {caps : Nat → Int32} (hl : tf_LM c lim) {x v : Nat} (hx : x ≤ 100) (hn : x ≤ min (tf_L c 1) (tf_L c 3)) (hv : v = min (tf_L c 2) (tf_L c 3 - x)) (h100 : v ≤ 100) (K : post (nI v) (caps, lim)) :
    ∀ d y, y + d = 101 → 1 ≤ y → wY_besides_8 post (nI x) caps lim (d + 1) (nI (min (y - 1) v)) (nI y) := by
  intro d
  induction d with
  | zero =>
    intro y hy _
    have h : y = 101 := by omega
    subst h
    refine br_t (nI_lt (a := 100) (by omega) (by omega)) ?_
    rw [show min (101 - 1) v = v by omega]
    exact K
  | succ d ih =>
    intro y hy _
    have k := ih (y + 1) (by omega) (by omega)
    refine br_f (nI_nlt (a := 100) (by omega) (by omega)) (br_f (nI_pos (by omega)) (br_f (nI_nlt (a := 100) (by omega) (by omega)) (tf_fits hl (by omega) (by omega) (fun f => br_f tf_10 (nm_r (nI_1 y) ?_)) (fun f => br_t rfl (nm_r (nI_1 y) ?_)))))
    · rw [show min (y + 1 - 1) v = y by omega] at k
      exact k
    · rw [show min (y + 1 - 1) v = min (y - 1) v by omega] at k
      exact k
theorem tf_yb {caps : Nat → Int32} (hl : tf_LM c lim) {x v : Nat} (hx : x ≤ 100) (hn : x ≤ min (tf_L c 1) (tf_L c 3)) (hv : v = min (tf_L c 2) (tf_L c 3 - x)) (h100 : v ≤ 100) (K : post (nI v) (caps, lim)) :
    wY_besides_8 post (nI x) caps lim 102 (-1) 0 := by
  have k := tf_yb1 (post := post) hl hx hn hv h100 K 100 1 rfl (Nat.le_refl 1)
  refine br_f (nI_nlt (a := 100) (b := 0) (by omega) (by omega)) (br_f (nI_pos (by omega)) (br_f (nI_nlt (a := 100) (by omega) (by omega)) (tf_fits (y := 0) hl (by omega) (by omega) (fun f => br_f tf_10 (nm_r (nI_1 0) ?_)) (fun f => absurd (by omega) f))))
  rw [show min (1 - 1) v = 0 by omega] at k
  exact k
theorem tf_ye8 {caps : Nat → Int32} (hl : tf_LM c lim) {v : Nat} (hv : v = min (min (tf_L c 1) (tf_L c 2)) (tf_L c 3 / 2)) (h100 : v ≤ 100) (K : post (nI v) (caps, lim)) :
    ∀ d n, n + d = 101 → wY_evenly_8 post caps lim (d + 1) (nI (min (n - 1) v)) (nI n) := by
  intro d
  induction d with
  | zero =>
    intro n hn
    have h : n = 101 := by omega
    subst h
    refine br_t (nI_lt (a := 100) (by omega) (by omega)) ?_
    rw [show min (101 - 1) v = v by omega]
    exact K
  | succ d ih =>
    intro n hn
    have k := ih (n + 1) (by omega)
    refine br_f (nI_nlt (a := 100) (by omega) (by omega)) (tf_fits hl (by omega) (by omega) (fun f => br_f tf_10 (nm_r (nI_1 n) ?_)) (fun f => br_t rfl (nm_r (nI_1 n) ?_)))
    · rw [show min (n + 1 - 1) v = n by omega] at k
      exact k
    · rw [show min (n + 1 - 1) v = min (n - 1) v by omega] at k
      exact k
def tf_pb (c : Nat → Nat) (x : Nat) : Nat := if x ≤ min (tf_L c 1) (tf_L c 3) then min (tf_L c 2) (tf_L c 3 - x) + 1 else 0
theorem tf_pb_f {c : Nat → Nat} {x y : Nat} : tf_fit c x y ↔ y < tf_pb c x := by
  rw [tf_pb]
  split <;> omega
theorem tf_yp16 {caps : Nat → Int32} {J : Int32 → Int32 → Prop} (hl : tf_LM c lim) {x t : Nat} (hx : x ≤ 100) (h101 : tf_pb c x ≤ 101) (K : J (nI (t + tf_pb c x)) (nI (x + 1))) :
    ∀ d y, y + d = 101 → wY_pairs_16 post J (nI x) caps lim (d + 1) (nI (t + min y (tf_pb c x))) (nI y) := by
  intro d
  induction d with
  | zero =>
    intro y hy
    have h : y = 101 := by omega
    subst h
    refine br_t (nI_lt (a := 100) (by omega) (by omega)) (nm_r (nI_1 x) ?_)
    rw [show min 101 (tf_pb c x) = tf_pb c x by omega]
    exact K
  | succ d ih =>
    intro y hy
    have k := ih (y + 1) (by omega)
    refine br_f (nI_nlt (a := 100) (by omega) (by omega)) (tf_fits hl (by omega) (by omega) (fun f => br_f tf_10 (nm_r (nI_1 _) (nm_r (nI_1 y) ?_))) (fun f => br_t rfl (nm_r (nI_1 y) ?_)))
    · rw [tf_pb_f] at f
      rw [show t + min (y + 1) (tf_pb c x) = t + min y (tf_pb c x) + 1 by omega] at k
      exact k
    · rw [tf_pb_f] at f
      rw [show t + min (y + 1) (tf_pb c x) = t + min y (tf_pb c x) by omega] at k
      exact k
theorem tf_yp8 {caps : Nat → Int32} (hl : tf_LM c lim) (h101 : ∀ x, tf_pb c x ≤ 101) (K : post (nI (tf_sm (tf_pb c) 101)) (caps, lim)) :
    ∀ d x, x + d = 101 → wY_pairs_8 post caps lim (d + 1) (nI (tf_sm (tf_pb c) x)) (nI x) := by
  intro d
  induction d with
  | zero =>
    intro x hx
    have h : x = 101 := by omega
    subst h
    exact br_t (nI_lt (a := 100) (by omega) (by omega)) K
  | succ d ih =>
    intro x hx
    have k := ih (x + 1) (by omega)
    refine br_f (nI_nlt (a := 100) (by omega) (by omega)) ⟨102, ?_⟩
    have q := tf_yp16 (post := post) (caps := caps) (J := wY_pairs_8 post caps lim (d + 1)) (t := tf_sm (tf_pb c) x) hl (by omega) (h101 x) k 101 0 rfl
    rw [show tf_sm (tf_pb c) x + min 0 (tf_pb c x) = tf_sm (tf_pb c) x by omega] at q
    exact q
end
end
section
/-! X's answers; carries on both sides; put, change and mostWith -/
def tf_cq (c : Nat → Nat) (p q : Int32) : Prop := ∃ x y, p = nI x ∧ q = nI y ∧ tf_fit c x y
theorem tf_cq_n {c : Nat → Nat} {x y : Nat} (hx : x < 2 ^ 31) (hy : y < 2 ^ 31) : tf_cq c (nI x) (nI y) ↔ tf_fit c x y := by
  constructor
  · rintro ⟨x', y', e1, e2, f⟩
    have b1 := tf_L_1000 c 1
    have b2 := tf_L_1000 c 2
    rw [nI_eq hx (by omega)] at e1
    rw [nI_eq hy (by omega)] at e2
    rw [e1, e2]
    exact f
  · intro f
    exact ⟨x, y, rfl, rfl, f⟩
theorem tf_cq_p {c : Nat → Nat} {p q : Int32} (h : p < 0) : ¬ tf_cq c p q := by
  rintro ⟨x, y, rfl, rfl, f⟩
  have b1 := tf_L_1000 c 1
  exact nI_pos (by omega) h
theorem tf_cq_q {c : Nat → Nat} {p q : Int32} (h : q < 0) : ¬ tf_cq c p q := by
  rintro ⟨x, y, rfl, rfl, f⟩
  have b2 := tf_L_1000 c 2
  exact nI_pos (by omega) h
section
variable {post : Int32 → SX → Prop} {c : Nat → Nat} {u : SX}
theorem tf_Xcar {p q : Int32} (hc : tf_OK 21 c) (hu : tf_XS c u) (K1 : tf_cq c p q → ∀ room cf ln, post 1 (tf_st c room cf ln)) (K0 : ¬ tf_cq c p q → ∀ room cf ln, post 0 (tf_st c room cf ln)) : wpX_carries post u p q := by
  obtain ⟨fk, f1, f2, fb, room, cf, ln, rfl, h⟩ := hu
  unfold wpX_carries
  refine tf_learn hc ⟨fk, f1, f2, fb, room, cf, ln, rfl, h⟩ fun room cf ln => ?_
  have b1 := tf_L_1000 c 1
  have b2 := tf_L_1000 c 2
  have b3 := tf_L_1000 c 3
  refine br_c (fun z => K0 (tf_cq_p z) room cf ln) fun z => ?_
  obtain ⟨x, hx, rfl⟩ := nI_of z
  refine br_c (fun z => K0 (tf_cq_q z) room cf ln) fun z => ?_
  obtain ⟨y, hy, rfl⟩ := nI_of z
  rw [tf_cq_n hx hy] at K1 K0
  refine pk_lt (min (tf_L c 1) (tf_L c 3)) x (fun z => K0 (by omega) room cf ln) (fun z1 => ?_) rfl rfl (by omega) hx
  refine pk_lt (min (tf_L c 2) (tf_L c 3)) y (fun z => K0 (by omega) room cf ln) (fun z2 => ?_) rfl rfl (by omega) hy
  exact pk_lt (tf_L c 3 - y) x (fun z => K0 (by omega) room cf ln) (fun z3 => K1 (by omega) room cf ln) (pk_sub (by omega)) rfl (by omega) hx
theorem tf_Xalo {w : Int32} (hc : tf_OK 21 c) (hu : tf_XS c u) (K0 : w = 0 → ∀ room cf ln, post (nI (min (tf_L c 1) (tf_L c 3))) (tf_st c room cf ln)) (K1 : w = 1 → ∀ room cf ln, post (nI (min (tf_L c 2) (tf_L c 3))) (tf_st c room cf ln))
    (K2 : ¬ w = 0 → ¬ w = 1 → ∀ room cf ln, post (-1) (tf_st c room cf ln)) : wpX_alone post u w := by
  obtain ⟨fk, f1, f2, fb, room, cf, ln, rfl, h⟩ := hu
  unfold wpX_alone
  refine tf_learn hc ⟨fk, f1, f2, fb, room, cf, ln, rfl, h⟩ fun room cf ln => ?_
  exact br_c (fun z => K0 z room cf ln) fun z => br_c (fun z1 => K1 z1 room cf ln) fun z1 => K2 z z1 room cf ln
theorem tf_Xmost (hc : tf_OK 21 c) (hu : tf_XS c u) (K : ∀ room cf ln, post (nI (tf_M c)) (tf_st c room cf ln)) : wpX_most post u := by
  obtain ⟨fk, f1, f2, fb, room, cf, ln, rfl, h⟩ := hu
  unfold wpX_most
  refine tf_learn hc ⟨fk, f1, f2, fb, room, cf, ln, rfl, h⟩ fun room cf ln => ?_
  have b1 := tf_L_1000 c 1
  have b2 := tf_L_1000 c 2
  have b3 := tf_L_1000 c 3
  have k := K room cf ln
  have e := nI_add (min (tf_L c 1) (tf_L c 3)) (min (tf_L c 2) (tf_L c 3))
  refine pk_le (tf_L c 3) (min (tf_L c 1) (tf_L c 3) + min (tf_L c 2) (tf_L c 3)) (fun z => ?_) (fun z => ?_) rfl e (by omega) (by omega)
  · rw [show tf_M c = tf_L c 3 by rw [tf_M]; omega] at k
    exact k
  · rw [show tf_M c = min (tf_L c 1) (tf_L c 3) + min (tf_L c 2) (tf_L c 3) by rw [tf_M]; omega, ← e] at k
    exact k
theorem tf_Xbes {p : Int32} (hc : tf_OK 21 c) (hu : tf_XS c u) (K : ∀ x, p = nI x → x ≤ min (tf_L c 1) (tf_L c 3) → ∀ room cf ln, post (nI (min (tf_L c 2) (tf_L c 3 - x))) (tf_st c room cf ln))
    (K0 : (∀ x, p = nI x → x < 2 ^ 31 → ¬ x ≤ min (tf_L c 1) (tf_L c 3)) → ∀ room cf ln, post (-1) (tf_st c room cf ln)) : wpX_besides post u p := by
  obtain ⟨fk, f1, f2, fb, room, cf, ln, rfl, h⟩ := hu
  unfold wpX_besides
  refine tf_learn hc ⟨fk, f1, f2, fb, room, cf, ln, rfl, h⟩ fun room cf ln => ?_
  have b1 := tf_L_1000 c 1
  have b2 := tf_L_1000 c 2
  have b3 := tf_L_1000 c 3
  refine br_c (fun z => K0 (fun x e hx => ?_) room cf ln) fun z => ?_
  · rw [e] at z
    exact absurd z (nI_pos hx)
  obtain ⟨x, hx, rfl⟩ := nI_of z
  refine pk_le x (min (tf_L c 1) (tf_L c 3)) (fun z1 => ?_) (fun z1 => K0 (fun x' e hx' => ?_) room cf ln) rfl rfl hx (by omega)
  · have k := K x rfl z1 room cf ln
    have e := pk_sub (a := tf_L c 3) (b := x) (by omega)
    refine pk_le (tf_L c 3 - x) (min (tf_L c 2) (tf_L c 3)) (fun z2 => ?_) (fun z2 => ?_) e rfl (by omega) (by omega)
    · rw [show min (tf_L c 2) (tf_L c 3 - x) = tf_L c 3 - x by omega, ← e] at k
      exact k
    · rw [show min (tf_L c 2) (tf_L c 3 - x) = min (tf_L c 2) (tf_L c 3) by omega] at k
      exact k
  · rw [nI_eq hx hx'] at e
    omega
theorem tf_20 : ¬ (2 : Int32) = 0 := by decide
theorem tf_Xeve (hc : tf_OK 21 c) (hu : tf_XS c u) (K : ∀ room cf ln, post (nI (min (min (tf_L c 1) (tf_L c 2)) (tf_L c 3 / 2))) (tf_st c room cf ln)) : wpX_evenly post u := by
  obtain ⟨fk, f1, f2, fb, room, cf, ln, rfl, h⟩ := hu
  unfold wpX_evenly
  refine tf_learn hc ⟨fk, f1, f2, fb, room, cf, ln, rfl, h⟩ fun room cf ln => ?_
  have b1 := tf_L_1000 c 1
  have b2 := tf_L_1000 c 2
  have b3 := tf_L_1000 c 3
  have k := K room cf ln
  refine ⟨tf_20, nm_r (e' := nI (tf_L c 3 / 2)) (pk_div (d := 2) (by omega) (by omega) (by omega)) ?_⟩
  refine pk_le (tf_L c 3 / 2) (min (tf_L c 1) (tf_L c 3)) (fun z => ?_) (fun z => ?_) rfl rfl (by omega) (by omega)
  · refine pk_le (tf_L c 3 / 2) (min (tf_L c 2) (tf_L c 3)) (fun z1 => ?_) (fun z1 => ?_) rfl rfl (by omega) (by omega)
    · rw [show min (min (tf_L c 1) (tf_L c 2)) (tf_L c 3 / 2) = tf_L c 3 / 2 by omega] at k
      exact k
    · rw [show min (min (tf_L c 1) (tf_L c 2)) (tf_L c 3 / 2) = min (tf_L c 2) (tf_L c 3) by omega] at k
      exact k
  · refine pk_le (min (tf_L c 1) (tf_L c 3)) (min (tf_L c 2) (tf_L c 3)) (fun z1 => ?_) (fun z1 => ?_) rfl rfl (by omega) (by omega)
    · rw [show min (min (tf_L c 1) (tf_L c 2)) (tf_L c 3 / 2) = min (tf_L c 1) (tf_L c 3) by omega] at k
      exact k
    · rw [show min (min (tf_L c 1) (tf_L c 2)) (tf_L c 3 / 2) = min (tf_L c 2) (tf_L c 3) by omega] at k
      exact k
theorem tf_xp8 (hc : tf_OK 21 c) (K : ∀ room cf ln, post (nI (tf_sm (tf_pb c) (min (tf_L c 1) (tf_L c 3) + 1))) (tf_st c room cf ln)) :
    ∀ d x room cf ln, x + d = min (tf_L c 1) (tf_L c 3) + 1 →
      wX_pairs_8 post (d + 1) (nI (tf_sm (tf_pb c) x)) (nI x) 1 (nI (min (tf_L c 1) (tf_L c 3))) (nI (min (tf_L c 2) (tf_L c 3))) (nI (tf_L c 3)) (fun i => nI (c i)) room cf ln := by
  have b1 := tf_L_1000 c 1
  intro d
  induction d with
  | zero =>
    intro x room cf ln hx
    have e : x = min (tf_L c 1) (tf_L c 3) + 1 := by omega
    subst e
    exact br_t (nI_lt (by omega) (by omega)) (K room cf ln)
  | succ d ih =>
    intro x room cf ln hx
    refine br_f (nI_nlt (by omega) (by omega)) (tf_Xbes hc (tf_XS_st c room cf ln) ?_ ?_)
    · intro x' e hx' room cf ln
      rw [nI_eq (by omega) (by omega)] at e
      subst e
      have k := ih (x + 1) room cf ln (by omega)
      rw [tf_sm_s, tf_pb, if_pos hx'] at k
      refine nm_r (e' := nI (tf_sm (tf_pb c) x + (min (tf_L c 2) (tf_L c 3 - x) + 1))) ?_ (nm_r (nI_1 x) k)
      rw [show (1 : Int32) = nI 1 from rfl, nI_add, nI_add, Nat.add_comm 1]
    · intro q
      exact absurd (by omega) (q x rfl (by omega))
theorem tf_Xpai (hc : tf_OK 21 c) (hu : tf_XS c u) (K : ∀ room cf ln, post (nI (tf_sm (tf_pb c) (min (tf_L c 1) (tf_L c 3) + 1))) (tf_st c room cf ln)) : wpX_pairs post u := by
  obtain ⟨fk, f1, f2, fb, room, cf, ln, rfl, h⟩ := hu
  unfold wpX_pairs
  refine tf_learn hc ⟨fk, f1, f2, fb, room, cf, ln, rfl, h⟩ fun room cf ln => ?_
  exact ⟨min (tf_L c 1) (tf_L c 3) + 1 + 1, tf_xp8 hc K (min (tf_L c 1) (tf_L c 3) + 1) 0 room cf ln (by omega)⟩
end
theorem tf_sm_t {f : Nat → Nat} {m : Nat} (h : ∀ i, m ≤ i → f i = 0) : ∀ d, tf_sm f (m + d) = tf_sm f m := by
  intro d
  induction d with
  | zero => rfl
  | succ d ih =>
    show tf_sm f (m + d) + f (m + d) = _
    rw [ih, h (m + d) (by omega)]
    rfl
theorem tf_Ycar {post : Int32 → SY → Prop} {c : Nat → Nat} {lim : Nat → Int32} {p q : Int32} (hc : tf_OK 21 c) (K1 : tf_cq c p q → ∀ lim, post 1 ((fun i => nI (c i)), lim)) (K0 : ¬ tf_cq c p q → ∀ lim, post 0 ((fun i => nI (c i)), lim)) :
    wpY_carries post ((fun i => nI (c i)), lim) p q := by
  unfold wpY_carries
  refine tf_work hc fun lim hl => ?_
  have b1 := tf_L_1000 c 1
  have b2 := tf_L_1000 c 2
  refine br_c (fun z => K0 (tf_cq_p z) lim) fun z => ?_
  obtain ⟨x, hx, rfl⟩ := nI_of z
  refine pk_lt 1000 x (fun z1 => K0 ?_ lim) (fun z1 => ?_) rfl rfl (by omega) hx
  · rintro ⟨x', y', e1, e2, f⟩
    rw [nI_eq hx (by omega)] at e1
    omega
  refine br_c (fun z => K0 (tf_cq_q z) lim) fun z => ?_
  obtain ⟨y, hy, rfl⟩ := nI_of z
  rw [tf_cq_n hx hy] at K1 K0
  refine pk_lt 1000 y (fun z2 => K0 (by omega) lim) (fun z2 => ?_) rfl rfl (by omega) hy
  exact tf_fits hl (by omega) (by omega) (fun f => br_f tf_10 (K1 f lim)) (fun f => br_t rfl (K0 f lim))
/-! put -/
def tf_put (c : Nat → Nat) (a b v i : Nat) : Nat := if i = b * 6 + a then v else if i = a * 6 + b then v else c i
theorem tf_put_n {c : Nat → Nat} {a b v i : Nat} (h1 : i ≠ b * 6 + a) (h2 : i ≠ a * 6 + b) : tf_put c a b v i = c i := by rw [tf_put, if_neg h1, if_neg h2]
theorem tf_put_v {c : Nat → Nat} {a b v i : Nat} (h : i = b * 6 + a ∨ i = a * 6 + b) : tf_put c a b v i = v := by
  rw [tf_put]
  split
  · rfl
  · split
    · rfl
    · omega
theorem tf_put_ok {c : Nat → Nat} {M a b v : Nat} (hc : tf_OK M c) (ha : a < 6) (hb : b < 6) (N : Nat) (hN : M ≤ N) (hv : v ≤ N) : tf_OK N (tf_put c a b v) := by
  constructor
  · intro i
    have := hc.1 i
    rw [tf_put]
    split
    · exact hv
    · split
      · exact hv
      · omega
  · intro x y hx hy
    by_cases q : (x = a ∧ y = b) ∨ (x = b ∧ y = a)
    · rw [tf_put_v (by omega), tf_put_v (by omega)]
    · rw [tf_put_n (by omega) (by omega), tf_put_n (by omega) (by omega)]
      exact hc.2 x y hx hy
theorem tf_put_bk {c : Nat → Nat} {M a b v : Nat} (hc : tf_OK M c) (ha : a < 6) (hb : b < 6) : tf_put (tf_put c a b v) a b (c (a * 6 + b)) = c := by
  funext i
  by_cases h1 : i = b * 6 + a
  · rw [tf_put_v (Or.inl h1), h1]
    exact hc.2 a b ha hb
  · by_cases h2 : i = a * 6 + b
    · rw [tf_put_v (Or.inr h2), h2]
    · rw [tf_put_n h1 h2, tf_put_n h1 h2]
theorem tf_put_u (c : Nat → Nat) (a b v : Nat) : upd (upd (fun i => nI (c i)) (a * 6 + b) (nI v)) (b * 6 + a) (nI v) = fun i => nI (tf_put c a b v i) := by
  funext i
  by_cases h1 : i = b * 6 + a
  · rw [h1, pk_us, tf_put_v (Or.inl rfl)]
  · rw [pk_un h1]
    by_cases h2 : i = a * 6 + b
    · rw [h2, pk_us, tf_put_v (Or.inr rfl)]
    · rw [pk_un h2, tf_put_n h1 h2]
theorem tf_Xput {post : SX → Prop} {c : Nat → Nat} {a b v : Nat} {fk f1 f2 fb : Int32} {room cf ln : Nat → Int32} (ha : a < 6) (hb : b < 6) (hv : v < 128)
    (K : post (0, f1, f2, fb, (fun i => nI (tf_put c a b v i)), room, cf, ln)) : wpX_put post (fk, f1, f2, fb, (fun i => nI (c i)), room, cf, ln) (nI a) (nI b) (nI v) := by
  refine ⟨tf_xin ha hb, nm_e ⟨tf_xin hb ha, nm_r (e' := fun i => nI (tf_put c a b v i)) ?_ K⟩⟩
  rw [tf_xcl ha hb, tf_xcl hb ha, tf_nar hv, tf_put_u]
theorem tf_Yput {post : SY → Prop} {c : Nat → Nat} {a b v : Nat} {lim : Nat → Int32} (ha : a < 6) (hb : b < 6)
    (K : post ((fun i => nI (tf_put c a b v i)), lim)) : wpY_put post ((fun i => nI (c i)), lim) (nI a) (nI b) (nI v) := by
  refine ⟨tf_yin ha hb, nm_e ⟨tf_yin hb ha, nm_r (e' := fun i => nI (tf_put c a b v i)) ?_ K⟩⟩
  rw [tf_ycl ha hb, tf_ycl hb ha, tf_put_u]
theorem tf_OK_up {c : Nat → Nat} (hc : tf_OK 20 c) : tf_OK 21 c := ⟨fun i => Nat.le_trans (hc.1 i) (by decide), hc.2⟩
theorem tf_XS_0 (c : Nat → Nat) (f1 f2 fb : Int32) (room cf ln : Nat → Int32) : tf_XS c (0, f1, f2, fb, (fun i => nI (c i)), room, cf, ln) := ⟨_, _, _, _, _, _, _, rfl, Or.inl rfl⟩
theorem tf_Xchg {post : Int32 → SX → Prop} {c : Nat → Nat} {u : SX} {a b v : Nat} {w : Int32} (hw : w = nI v) (hc : tf_OK 20 c) (hu : tf_XS c u) (ha : a < 6) (hb : b < 6) (hv : v ≤ 21)
    (K : ∀ f1 f2 fb room cf ln, post (nI (tf_M (tf_put c a b v)) - nI (tf_M c)) (0, f1, f2, fb, (fun i => nI (c i)), room, cf, ln)) : wpX_change post u (nI a) (nI b) w := by
  subst hw
  obtain ⟨fk, f1, f2, fb, room, cf, ln, rfl, h⟩ := hu
  have ok := tf_put_ok hc ha hb (v := v) 21 (by omega) hv
  have c20 := hc.1 (a * 6 + b)
  unfold wpX_change
  refine tf_Xmost (tf_OK_up hc) ⟨fk, f1, f2, fb, room, cf, ln, rfl, h⟩ fun room cf ln => ?_
  refine ⟨tf_xin ha hb, nm_r (e' := nI (c (a * 6 + b))) (by rw [tf_xcl ha hb]) ?_⟩
  refine tf_Xput ha hb (by omega) ?_
  refine tf_Xmost ok (tf_XS_0 _ _ _ _ _ _ _) fun room cf ln => ?_
  refine tf_Xput ha hb (by omega) ?_
  rw [tf_put_bk hc ha hb]
  exact K _ _ _ _ _ _
theorem tf_Ymw {post : Int32 → SY → Prop} {c : Nat → Nat} {lim : Nat → Int32} {a b v : Nat} {w : Int32} (hw : w = nI v) (hc : tf_OK 20 c) (ha : a < 6) (hb : b < 6) (hab : a ≠ b) (hv : v ≤ 21)
    (K : ∀ lim, post (nI (tf_M (tf_put c a b v))) ((fun i => nI (c i)), lim)) : wpY_mostWith post ((fun i => nI (c i)), lim) (nI a) (nI b) w := by
  subst hw
  have ok := tf_put_ok hc ha hb (v := v) 21 (by omega) hv
  unfold wpY_mostWith
  refine ⟨tf_yin ha hb, nm_r (e' := nI (c (a * 6 + b))) (by rw [tf_ycl ha hb]) ?_⟩
  refine tf_Yput ha hb ?_
  refine tf_Ymost ok (tf_best ok (fun i h1 h2 => ?_) ha hb hab) fun lim => ?_
  · rw [tf_put_n h2 h1]
    exact hc.1 i
  refine tf_Yput ha hb ?_
  rw [tf_put_bk hc ha hb]
  exact K lim
theorem tf_Ymo {post : Int32 → SY → Prop} {c : Nat → Nat} {lim : Nat → Int32} (hc : tf_OK 20 c) (K : ∀ lim, post (nI (tf_M c)) ((fun i => nI (c i)), lim)) : wpY_most post ((fun i => nI (c i)), lim) :=
  tf_Ymost (tf_OK_up hc) (tf_best (a := 0) (b := 1) (tf_OK_up hc) (fun i _ _ => hc.1 i) (by decide) (by decide) (by decide)) K
/-! pairs of places -/
theorem tf_x6 {x : Nat} (hx : x < 2 ^ 31) (h : ¬ (6 : Int32) ≤ nI x) : x < 6 := by
  by_cases q : x < 6
  · exact q
  · exact absurd (nI_le (a := 6) (by omega) hx) h
theorem tf_x5 {x : Nat} (hx : x < 2 ^ 31) (h : ¬ (5 : Int32) < nI x) : x < 6 := by
  by_cases q : x < 6
  · exact q
  · exact absurd (nI_lt (a := 5) (by omega) hx) h
theorem tf_pc (p q : Int32) : (∃ a b, a < 6 ∧ b < 6 ∧ a ≠ b ∧ p = nI a ∧ q = nI b ∧ (∀ post : Int32 → Prop, post 1 → wpX_isPair post p q) ∧ (∀ (post : Int32 → Prop) caps lim, post 1 → wpY_pair post (caps, lim) p q)) ∨
    ((∀ post : Int32 → Prop, post 0 → wpX_isPair post p q) ∧ (∀ (post : Int32 → Prop) caps lim, post 0 → wpY_pair post (caps, lim) p q)) := by
  by_cases G : ∃ a b, a < 6 ∧ b < 6 ∧ a ≠ b ∧ p = nI a ∧ q = nI b
  · refine Or.inl ?_
    obtain ⟨a, b, ha, hb, hab, rfl, rfl⟩ := G
    have n1 : ¬ nI a = nI b := by rw [nI_eq (by omega) (by omega)]; exact hab
    refine ⟨a, b, ha, hb, hab, rfl, rfl, fun post h => ?_, fun post caps lim h => ?_⟩
    · exact br_f (nI_pos (by omega)) (br_f (nI_ge (b := 6) ha (by omega)) (br_f (nI_pos (by omega)) (br_f (nI_ge (b := 6) hb (by omega)) (br_f n1 h))))
    · exact br_f n1 (br_f (nI_pos (by omega)) (br_f (nI_nlt (a := 5) (b := a) (by omega) (by omega)) (br_f (nI_pos (by omega)) (br_f (nI_nlt (a := 5) (b := b) (by omega) (by omega)) h))))
  · refine Or.inr ⟨fun post h => ?_, fun post caps lim h => ?_⟩
    · refine br_c (fun _ => h) fun z1 => br_c (fun _ => h) fun z2 => br_c (fun _ => h) fun z3 => br_c (fun _ => h) fun z4 => br_c (fun _ => h) fun z5 => ?_
      exfalso
      obtain ⟨x, hx, rfl⟩ := nI_of z1
      obtain ⟨y, hy, rfl⟩ := nI_of z3
      exact G ⟨x, y, tf_x6 hx z2, tf_x6 hy z4, fun e => z5 (by rw [e]), rfl, rfl⟩
    · refine br_c (fun _ => h) fun z5 => br_c (fun _ => h) fun z1 => br_c (fun _ => h) fun z2 => br_c (fun _ => h) fun z3 => br_c (fun _ => h) fun z4 => ?_
      exfalso
      obtain ⟨x, hx, rfl⟩ := nI_of z1
      obtain ⟨y, hy, rfl⟩ := nI_of z3
      exact G ⟨x, y, tf_x5 hx z2, tf_x5 hy z4, fun e => z5 (by rw [e]), rfl, rfl⟩
end
section
/-! full on both sides -/
theorem tf_Xful {post : Int32 → SX → Prop} {c : Nat → Nat} {u : SX} {p q : Int32} (hc : tf_OK 21 c) (hu : tf_XS c u)
    (K00 : ¬ tf_cq c p q → ∀ room cf ln, post 0 (tf_st c room cf ln))
    (K1 : tf_cq c p q → ¬ tf_cq c (p + 1) q → ¬ tf_cq c p (q + 1) → ∀ room cf ln, post 1 (tf_st c room cf ln))
    (K0 : tf_cq c p q → (tf_cq c (p + 1) q ∨ tf_cq c p (q + 1)) → ∀ room cf ln, post 0 (tf_st c room cf ln)) : wpX_full post u p q := by
  obtain ⟨fk, f1, f2, fb, room, cf, ln, rfl, h⟩ := hu
  unfold wpX_full
  refine tf_Xcar hc ⟨fk, f1, f2, fb, room, cf, ln, rfl, h⟩ (fun Q room cf ln => br_f tf_10 ?_) (fun Q room cf ln => br_t rfl (K00 Q room cf ln))
  have Q' := Q
  obtain ⟨x, y, rfl, rfl, f⟩ := Q'
  have b1 := tf_L_1000 c 1
  have b2 := tf_L_1000 c 2
  have b3 := tf_L_1000 c 3
  have S59 : ∀ z room cf ln, ((z = 0 ∧ ¬ tf_cq c (nI x + 1) (nI y)) ∨ (z = 1 ∧ tf_cq c (nI x + 1) (nI y))) → ¬ tf_cq c (nI x) (nI y + 1) →
      wX_full_59 post z 1 (nI (min (tf_L c 1) (tf_L c 3))) (nI (min (tf_L c 2) (tf_L c 3))) (nI (tf_L c 3)) (fun i => nI (c i)) room cf ln := by
    intro z room cf ln hz hB
    rcases hz with ⟨rfl, hA⟩ | ⟨rfl, hA⟩
    · exact br_t rfl (br_t rfl (K1 Q hA hB room cf ln))
    · exact br_f tf_10 (K0 Q (Or.inl hA) room cf ln)
  have S60 : ∀ z room cf ln, ((z = 0 ∧ ¬ tf_cq c (nI x + 1) (nI y)) ∨ (z = 1 ∧ tf_cq c (nI x + 1) (nI y))) → tf_cq c (nI x) (nI y + 1) →
      wX_full_60 post z 1 1 (nI (min (tf_L c 1) (tf_L c 3))) (nI (min (tf_L c 2) (tf_L c 3))) (nI (tf_L c 3)) (fun i => nI (c i)) room cf ln := by
    intro z room cf ln hz hB
    rcases hz with ⟨rfl, hA⟩ | ⟨rfl, hA⟩
    · exact br_t rfl (br_f tf_10 (K0 Q (Or.inr hB) room cf ln))
    · exact br_f tf_10 (K0 Q (Or.inl hA) room cf ln)
  have S35 : ∀ z room cf ln, ((z = 0 ∧ ¬ tf_cq c (nI x + 1) (nI y)) ∨ (z = 1 ∧ tf_cq c (nI x + 1) (nI y))) →
      wX_full_35 post (nI x) (nI y) z 1 (nI (min (tf_L c 1) (tf_L c 3))) (nI (min (tf_L c 2) (tf_L c 3))) (nI (tf_L c 3)) (fun i => nI (c i)) room cf ln := by
    intro z room cf ln hz
    unfold wX_full_35
    refine pk_le (min (tf_L c 2) (tf_L c 3)) y (fun z1 => S59 z room cf ln hz ?_) (fun z1 => ?_) rfl rfl (by omega) (by omega)
    · rw [nI_1 y, tf_cq_n (by omega) (by omega)]
      omega
    · exact tf_Xcar hc (tf_XS_st c room cf ln) (fun B room cf ln => br_f tf_10 (S60 z room cf ln hz B)) (fun B room cf ln => br_t rfl (S59 z room cf ln hz B))
  have S34 : ∀ room cf ln, ¬ tf_cq c (nI x + 1) (nI y) →
      wX_full_34 post (nI x) (nI y) 1 (nI (min (tf_L c 1) (tf_L c 3))) (nI (min (tf_L c 2) (tf_L c 3))) (nI (tf_L c 3)) (fun i => nI (c i)) room cf ln :=
    fun room cf ln hA => S35 0 room cf ln (Or.inl ⟨rfl, hA⟩)
  refine pk_le (min (tf_L c 1) (tf_L c 3)) x (fun z1 => S34 room cf ln ?_) (fun z1 => ?_) rfl rfl (by omega) (by omega)
  · rw [nI_1 x, tf_cq_n (by omega) (by omega)]
    omega
  · exact tf_Xcar hc (tf_XS_st c room cf ln) (fun A room cf ln => br_f tf_10 (S35 1 room cf ln (Or.inr ⟨rfl, A⟩))) (fun A room cf ln => br_t rfl (S34 room cf ln A))
theorem tf_Yful {post : Int32 → SY → Prop} {c : Nat → Nat} {lim : Nat → Int32} {p q : Int32} (hc : tf_OK 21 c)
    (K00 : ¬ tf_cq c p q → ∀ lim, post 0 ((fun i => nI (c i)), lim))
    (K1 : tf_cq c p q → ¬ tf_cq c (p + 1) q → ¬ tf_cq c p (q + 1) → ∀ lim, post 1 ((fun i => nI (c i)), lim))
    (K0 : tf_cq c p q → (tf_cq c (p + 1) q ∨ tf_cq c p (q + 1)) → ∀ lim, post 0 ((fun i => nI (c i)), lim)) : wpY_full post ((fun i => nI (c i)), lim) p q := by
  unfold wpY_full
  refine tf_Ycar hc (fun Q lim => br_f tf_10 ?_) (fun Q lim => br_t rfl (K00 Q lim))
  refine tf_Ycar hc (fun A lim => br_f tf_10 (K0 Q (Or.inl A) lim)) (fun A lim => br_t rfl ?_)
  exact tf_Ycar hc (fun B lim => br_f tf_10 (K0 Q (Or.inr B) lim)) (fun B lim => br_t rfl (K1 Q A B lim))
end
section
/-! what is owed -/
/-- one table of capacities for both, at most 20, the same both ways; X's answers, where it knows them, are the least widths -/
def i_Rel (k : Nat) (u : SX) (v : SY) : Prop := ∃ c, tf_OK 20 c ∧ tf_XS c u ∧ ∃ lim, v = ((fun i => nI (c i)), lim)
theorem tf_rel {k : Nat} {c : Nat → Nat} {u : SX} {lim : Nat → Int32} (hc : tf_OK 20 c) (hu : tf_XS c u) : i_Rel k u ((fun i => nI (c i)), lim) := ⟨c, hc, hu, lim, rfl⟩
theorem i_up {k : Nat} {u : SX} {v : SY} (h : i_Rel k u v) : i_Rel (k + 4) u v := h
theorem i_vc0 : wpX_init (fun u => wpY_init (fun v => i_Rel 0 u v)) :=
  ⟨fun _ => 0, ⟨fun _ => Nat.zero_le 20, fun _ _ _ _ => rfl⟩, tf_XS_0 (fun _ => 0) 0 0 0 (fun _ => 0) (fun _ => 0) (fun _ => 0), (fun _ => 0), rfl⟩
theorem i_vc_set {k : Nat} {u : SX} {v : SY} (I : i_Rel k u v) (hk : k + 4 ≤ 2048) (v1 : Int32) (v2 : Int32) (v3 : Int32) : wpX_set (fun r u' => wpY_set (fun r' v' => r' = r ∧ i_Rel (k + 4) u' v') v v1 v2 v3) u v1 v2 v3 := by
  obtain ⟨c, hc, ⟨fk, f1, f2, fb, room, cf, ln, rfl, h⟩, lim, rfl⟩ := I
  have U : tf_XS c (fk, f1, f2, fb, (fun i => nI (c i)), room, cf, ln) := ⟨fk, f1, f2, fb, room, cf, ln, rfl, h⟩
  unfold wpX_set wpY_set
  rcases tf_pc v1 v2 with ⟨a, b, ha, hb, hab, rfl, rfl, PX, PY⟩ | ⟨PX, PY⟩
  · refine PX _ (br_f tf_10 (br_c (fun z => ?_) (fun z => br_c (fun z1 => ?_) (fun z1 => ?_))))
    · exact PY _ _ _ (br_f tf_10 (br_t z ⟨rfl, tf_rel hc U⟩))
    · obtain ⟨x, hx, rfl⟩ := nI_of2 (n := 20) (M := 20) (by decide) z z1
      refine tf_Xput ha hb (by omega) ?_
      exact PY _ _ _ (br_f tf_10 (br_f z (br_t z1 (tf_Yput ha hb ⟨rfl, tf_rel (tf_put_ok hc ha hb 20 (by omega) hx) (tf_XS_0 _ _ _ _ _ _ _)⟩))))
    · exact PY _ _ _ (br_f tf_10 (br_f z (br_f z1 ⟨rfl, tf_rel hc U⟩)))
  · exact PX _ (br_t rfl (PY _ _ _ (br_t rfl ⟨rfl, tf_rel hc U⟩)))
theorem i_vc_capacity {k : Nat} {u : SX} {v : SY} (I : i_Rel k u v) (hk : k + 4 ≤ 2048) (v1 : Int32) (v2 : Int32) : wpX_capacity (fun r => wpY_capacity (fun r' => r' = r ∧ i_Rel (k + 4) u v) v v1 v2) u v1 v2 := by
  obtain ⟨c, hc, ⟨fk, f1, f2, fb, room, cf, ln, rfl, h⟩, lim, rfl⟩ := I
  have U : tf_XS c (fk, f1, f2, fb, (fun i => nI (c i)), room, cf, ln) := ⟨fk, f1, f2, fb, room, cf, ln, rfl, h⟩
  unfold wpX_capacity wpY_capacity
  rcases tf_pc v1 v2 with ⟨a, b, ha, hb, hab, rfl, rfl, PX, PY⟩ | ⟨PX, PY⟩
  · refine PX _ (br_f tf_10 ⟨tf_xin ha hb, PY _ _ _ (br_f tf_10 ⟨tf_yin ha hb, ?_, tf_rel hc U⟩)⟩)
    rw [tf_xcl ha hb, tf_ycl ha hb]
  · exact PX _ (br_t rfl (PY _ _ _ (br_t rfl ⟨rfl, tf_rel hc U⟩)))
theorem i_vc_width {k : Nat} {u : SX} {v : SY} (I : i_Rel k u v) (hk : k + 4 ≤ 2048) (v1 : Int32) : wpX_width (fun r => wpY_width (fun r' => r' = r ∧ i_Rel (k + 4) u v) v v1) u v1 := by
  obtain ⟨c, hc, ⟨fk, f1, f2, fb, room, cf, ln, rfl, h⟩, lim, rfl⟩ := I
  have U : tf_XS c (fk, f1, f2, fb, (fun i => nI (c i)), room, cf, ln) := ⟨fk, f1, f2, fb, room, cf, ln, rfl, h⟩
  by_cases z : v1 < 0
  · exact br_t z ⟨37, tf_ywb (Or.inl z) ⟨rfl, tf_rel hc U⟩ 36 0 0 rfl⟩
  · by_cases z1 : v1 ≤ 63
    · obtain ⟨s, hs, rfl⟩ := nI_of2 (n := 63) (M := 63) (by decide) z z1
      exact tf_xw (by omega) (tf_yw (by omega) ⟨rfl, tf_rel hc U⟩)
    · exact br_f z (br_f z1 ⟨37, tf_ywb (Or.inr z1) ⟨rfl, tf_rel hc U⟩ 36 0 0 rfl⟩)
theorem i_vc_carries {k : Nat} {u : SX} {v : SY} (I : i_Rel k u v) (hk : k + 4 ≤ 2048) (v1 : Int32) (v2 : Int32) : wpX_carries (fun r u' => wpY_carries (fun r' v' => r' = r ∧ i_Rel (k + 4) u' v') v v1 v2) u v1 v2 := by
  obtain ⟨c, hc, hu, lim, rfl⟩ := I
  have h21 := tf_OK_up hc
  refine tf_Xcar h21 hu (fun Q room cf ln => ?_) (fun Q room cf ln => ?_)
  · exact tf_Ycar h21 (fun _ lim => ⟨rfl, tf_rel hc (tf_XS_st c room cf ln)⟩) (fun n => absurd Q n)
  · exact tf_Ycar h21 (fun n => absurd n Q) (fun _ lim => ⟨rfl, tf_rel hc (tf_XS_st c room cf ln)⟩)
theorem i_vc_alone {k : Nat} {u : SX} {v : SY} (I : i_Rel k u v) (hk : k + 4 ≤ 2048) (v1 : Int32) : wpX_alone (fun r u' => wpY_alone (fun r' v' => r' = r ∧ i_Rel (k + 4) u' v') v v1) u v1 := by
  obtain ⟨c, hc, hu, lim, rfl⟩ := I
  have h21 := tf_OK_up hc
  have h100 := tf_L_100 hc.1
  unfold wpY_alone
  refine tf_Xalo h21 hu (fun w room cf ln => ?_) (fun w room cf ln => ?_) (fun w0 w1 room cf ln => ?_)
  · subst w
    refine tf_work h21 fun lim hl => ⟨102, ?_⟩
    have q := tf_ya0 (post := fun r' v' => r' = nI (min (tf_L c 1) (tf_L c 3)) ∧ i_Rel (k + 4) (tf_st c room cf ln) v') (caps := fun i => nI (c i)) hl rfl (by omega) ⟨rfl, tf_rel hc (tf_XS_st c room cf ln)⟩ 101 0 rfl
    rw [show min (0 - 1) (min (tf_L c 1) (tf_L c 3)) = 0 by omega] at q
    exact q
  · subst w
    refine tf_work h21 fun lim hl => ⟨102, ?_⟩
    have q := tf_ya1 (post := fun r' v' => r' = nI (min (tf_L c 2) (tf_L c 3)) ∧ i_Rel (k + 4) (tf_st c room cf ln) v') (caps := fun i => nI (c i)) hl rfl (by omega) ⟨rfl, tf_rel hc (tf_XS_st c room cf ln)⟩ 101 0 rfl
    rw [show min (0 - 1) (min (tf_L c 2) (tf_L c 3)) = 0 by omega] at q
    exact q
  · refine tf_work h21 fun lim hl => ⟨102, ?_⟩
    exact tf_ya2 w0 w1 ⟨rfl, tf_rel hc (tf_XS_st c room cf ln)⟩ 101 0 rfl
theorem i_vc_most {k : Nat} {u : SX} {v : SY} (I : i_Rel k u v) (hk : k + 4 ≤ 2048) : wpX_most (fun r u' => wpY_most (fun r' v' => r' = r ∧ i_Rel (k + 4) u' v') v) u := by
  obtain ⟨c, hc, hu, lim, rfl⟩ := I
  exact tf_Xmost (tf_OK_up hc) hu fun room cf ln => tf_Ymo hc fun lim => ⟨rfl, tf_rel hc (tf_XS_st c room cf ln)⟩
theorem i_vc_besides {k : Nat} {u : SX} {v : SY} (I : i_Rel k u v) (hk : k + 4 ≤ 2048) (v1 : Int32) : wpX_besides (fun r u' => wpY_besides (fun r' v' => r' = r ∧ i_Rel (k + 4) u' v') v v1) u v1 := by
  obtain ⟨c, hc, hu, lim, rfl⟩ := I
  have h21 := tf_OK_up hc
  have h100 := tf_L_100 hc.1
  unfold wpY_besides
  refine tf_Xbes h21 hu (fun x e hx room cf ln => ?_) (fun hn room cf ln => ?_)
  · subst e
    refine tf_work h21 fun lim hl => ⟨102, ?_⟩
    exact tf_yb hl (by omega) hx rfl (by omega) ⟨rfl, tf_rel hc (tf_XS_st c room cf ln)⟩
  · refine tf_work h21 fun lim hl => ⟨102, ?_⟩
    by_cases z : v1 < 0
    · exact br_f (nI_nlt (a := 100) (b := 0) (by omega) (by omega)) (br_t z ⟨rfl, tf_rel hc (tf_XS_st c room cf ln)⟩)
    · obtain ⟨x, hx, rfl⟩ := nI_of z
      by_cases z1 : x ≤ 100
      · exact tf_yb0 hl z1 (hn x rfl hx) ⟨rfl, tf_rel hc (tf_XS_st c room cf ln)⟩ 101 0 rfl
      · exact br_f (nI_nlt (a := 100) (b := 0) (by omega) (by omega)) (br_f z (br_t (nI_lt (a := 100) (by omega) hx) ⟨rfl, tf_rel hc (tf_XS_st c room cf ln)⟩))
theorem i_vc_evenly {k : Nat} {u : SX} {v : SY} (I : i_Rel k u v) (hk : k + 4 ≤ 2048) : wpX_evenly (fun r u' => wpY_evenly (fun r' v' => r' = r ∧ i_Rel (k + 4) u' v') v) u := by
  obtain ⟨c, hc, hu, lim, rfl⟩ := I
  have h21 := tf_OK_up hc
  have h100 := tf_L_100 hc.1
  unfold wpY_evenly
  refine tf_Xeve h21 hu fun room cf ln => ?_
  refine tf_work h21 fun lim hl => ⟨102, ?_⟩
  have q := tf_ye8 (post := fun r' v' => r' = nI (min (min (tf_L c 1) (tf_L c 2)) (tf_L c 3 / 2)) ∧ i_Rel (k + 4) (tf_st c room cf ln) v') (caps := fun i => nI (c i)) hl rfl (by omega) ⟨rfl, tf_rel hc (tf_XS_st c room cf ln)⟩ 101 0 rfl
  rw [show min (0 - 1) (min (min (tf_L c 1) (tf_L c 2)) (tf_L c 3 / 2)) = 0 by omega] at q
  exact q
theorem i_vc_pairs {k : Nat} {u : SX} {v : SY} (I : i_Rel k u v) (hk : k + 4 ≤ 2048) : wpX_pairs (fun r u' => wpY_pairs (fun r' v' => r' = r ∧ i_Rel (k + 4) u' v') v) u := by
  obtain ⟨c, hc, hu, lim, rfl⟩ := I
  have h21 := tf_OK_up hc
  have h100 := tf_L_100 hc.1
  unfold wpY_pairs
  refine tf_Xpai h21 hu fun room cf ln => ?_
  refine tf_work h21 fun lim hl => ⟨102, ?_⟩
  have e : tf_sm (tf_pb c) 101 = tf_sm (tf_pb c) (min (tf_L c 1) (tf_L c 3) + 1) := by
    have t := tf_sm_t (f := tf_pb c) (m := min (tf_L c 1) (tf_L c 3) + 1) (fun i hi => by rw [tf_pb, if_neg (by omega)]) (100 - min (tf_L c 1) (tf_L c 3))
    rw [show min (tf_L c 1) (tf_L c 3) + 1 + (100 - min (tf_L c 1) (tf_L c 3)) = 101 by omega] at t
    exact t
  refine tf_yp8 hl (fun x => ?_) ⟨by rw [e], tf_rel hc (tf_XS_st c room cf ln)⟩ 101 0 rfl
  rw [tf_pb]
  split <;> omega
theorem i_vc_worth {k : Nat} {u : SX} {v : SY} (I : i_Rel k u v) (hk : k + 4 ≤ 2048) (v1 : Int32) (v2 : Int32) : wpX_worth (fun r u' => wpY_worth (fun r' v' => r' = r ∧ i_Rel (k + 4) u' v') v v1 v2) u v1 v2 := by
  obtain ⟨c, hc, ⟨fk, f1, f2, fb, room, cf, ln, rfl, h⟩, lim, rfl⟩ := I
  have U : tf_XS c (fk, f1, f2, fb, (fun i => nI (c i)), room, cf, ln) := ⟨fk, f1, f2, fb, room, cf, ln, rfl, h⟩
  unfold wpX_worth wpY_worth
  rcases tf_pc v1 v2 with ⟨a, b, ha, hb, hab, rfl, rfl, PX, PY⟩ | ⟨PX, PY⟩
  · have c20 := hc.1 (a * 6 + b)
    refine PX _ (br_f tf_10 ⟨tf_xin ha hb, tf_Xchg (v := c (a * 6 + b) + 1) ?_ hc U ha hb (by omega) fun f1 f2 fb room cf ln => ?_⟩)
    · rw [tf_xcl ha hb, nI_1]
    · refine PY _ _ _ (br_f tf_10 ⟨tf_yin ha hb, tf_Ymw (v := c (a * 6 + b) + 1) ?_ hc ha hb hab (by omega) fun lim => tf_Ymo hc fun lim => ⟨rfl, tf_rel hc (tf_XS_0 _ _ _ _ _ _ _)⟩⟩)
      rw [tf_ycl ha hb, nI_1]
  · exact PX _ (br_t rfl (PY _ _ _ (br_t rfl ⟨rfl, tf_rel hc U⟩)))
theorem i_vc_loss {k : Nat} {u : SX} {v : SY} (I : i_Rel k u v) (hk : k + 4 ≤ 2048) (v1 : Int32) (v2 : Int32) : wpX_loss (fun r u' => wpY_loss (fun r' v' => r' = r ∧ i_Rel (k + 4) u' v') v v1 v2) u v1 v2 := by
  obtain ⟨c, hc, ⟨fk, f1, f2, fb, room, cf, ln, rfl, h⟩, lim, rfl⟩ := I
  have U : tf_XS c (fk, f1, f2, fb, (fun i => nI (c i)), room, cf, ln) := ⟨fk, f1, f2, fb, room, cf, ln, rfl, h⟩
  unfold wpX_loss wpY_loss
  rcases tf_pc v1 v2 with ⟨a, b, ha, hb, hab, rfl, rfl, PX, PY⟩ | ⟨PX, PY⟩
  · refine PX _ (br_f tf_10 (tf_Xchg (v := 0) rfl hc U ha hb (by omega) fun f1 f2 fb room cf ln => ?_))
    refine PY _ _ _ (br_f tf_10 (tf_Ymo hc fun lim => tf_Ymw (v := 0) rfl hc ha hb hab (by omega) fun lim => ⟨?_, tf_rel hc (tf_XS_0 _ _ _ _ _ _ _)⟩))
    exact Int32.neg_sub.symm
  · exact PX _ (br_t rfl (PY _ _ _ (br_t rfl ⟨rfl, tf_rel hc U⟩)))
theorem i_vc_full {k : Nat} {u : SX} {v : SY} (I : i_Rel k u v) (hk : k + 4 ≤ 2048) (v1 : Int32) (v2 : Int32) : wpX_full (fun r u' => wpY_full (fun r' v' => r' = r ∧ i_Rel (k + 4) u' v') v v1 v2) u v1 v2 := by
  obtain ⟨c, hc, hu, lim, rfl⟩ := I
  have h21 := tf_OK_up hc
  refine tf_Xful h21 hu (fun Q room cf ln => ?_) (fun Q A B room cf ln => ?_) (fun Q AB room cf ln => ?_)
  · exact tf_Yful h21 (fun _ lim => ⟨rfl, tf_rel hc (tf_XS_st c room cf ln)⟩) (fun n => absurd n Q) (fun n => absurd n Q)
  · exact tf_Yful h21 (fun n => absurd Q n) (fun _ _ _ lim => ⟨rfl, tf_rel hc (tf_XS_st c room cf ln)⟩) (fun _ n => (n.elim (fun z => absurd z A) (fun z => absurd z B)))
  · exact tf_Yful h21 (fun n => absurd Q n) (fun _ A B => (AB.elim (fun z => absurd z A) (fun z => absurd z B))) (fun _ _ lim => ⟨rfl, tf_rel hc (tf_XS_st c room cf ln)⟩)
end
