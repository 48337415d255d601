section
/-! starting rows: taken from the kit's rows to paste -/
theorem pk_us {f : Nat → Int32} {k : Nat} {x : Int32} : upd f k x k = x := if_pos rfl
theorem pk_un {f : Nat → Int32} {k j : Nat} {x : Int32} (h : j ≠ k) : upd f k x j = f j := if_neg h
theorem pk_sub {a b : Nat} (h : b ≤ a) : nI a - nI b = nI (a - b) := by
  obtain ⟨c, rfl⟩ : ∃ c, a = c + b := ⟨a - b, by omega⟩
  rw [← nI_add, Int32.add_sub_cancel, Nat.add_sub_cancel]
theorem pk_m1 (n : Nat) : nI (n + 1) + (-1) = nI n := by
  rw [← nI_1, Int32.add_assoc, show (1 : Int32) + (-1) = 0 from rfl, Int32.add_zero]
theorem pk_mul (a b : Nat) : nI a * nI b = nI (a * b) := (Int32.ofNat_mul a b).symm
theorem pk_ix (x : Int32) {n : Nat} (hn : n < 2 ^ 31) : x < 0 ∨ nI n ≤ x ∨ ∃ j : Nat, j < n ∧ x = nI j := by
  by_cases h : x < 0
  · exact Or.inl h
  · obtain ⟨j, hj, rfl⟩ := nI_of h
    by_cases h2 : j < n
    · exact Or.inr (Or.inr ⟨j, h2, rfl⟩)
    · exact Or.inr (Or.inl (nI_le (by omega) hj))
theorem pk_le {x y : Int32} {A B : Prop} (a b : Nat) (f : a ≤ b → A) (g : b < a → B) (hx : x = nI a := by rfl) (hy : y = nI b := by rfl) (ha : a < 2 ^ 31 := by omega) (hb : b < 2 ^ 31 := by omega) : (x ≤ y → A) ∧ (¬ x ≤ y → B) := by
  subst hx hy
  rw [nI_leI ha hb]
  exact ⟨f, fun z => g (by omega)⟩
theorem pk_lt {x y : Int32} {A B : Prop} (a b : Nat) (f : a < b → A) (g : b ≤ a → B) (hx : x = nI a := by rfl) (hy : y = nI b := by rfl) (ha : a < 2 ^ 31 := by omega) (hb : b < 2 ^ 31 := by omega) : (x < y → A) ∧ (¬ x < y → B) := by
  subst hx hy
  rw [nI_ltI ha hb]
  exact ⟨f, fun z => g (by omega)⟩
theorem pk_eq {x y : Int32} {A B : Prop} (a b : Nat) (f : a = b → A) (g : a ≠ b → B) (hx : x = nI a := by rfl) (hy : y = nI b := by rfl) (ha : a < 2 ^ 31 := by omega) (hb : b < 2 ^ 31 := by omega) : (x = y → A) ∧ (¬ x = y → B) := by
  subst hx hy
  rw [nI_eq ha hb]
  exact ⟨f, g⟩
theorem pk_in {x : Int32} (n N : Nat) (h : n < N) (hx : x = nI n := by rfl) (hN : N < 2 ^ 31 := by omega) : vp_in x N := by
  subst hx
  exact vp_in_nI h hN
theorem pk_cl {x : Int32} (n : Nat) (hx : x = nI n := by rfl) (h : n < 2 ^ 31 := by omega) : x.toNatClampNeg = n := by
  subst hx
  exact nI_clamp h
theorem pk_vb (z : Int32) : vp_nar .byte z.toInt8.toInt32 = z.toInt8.toInt32 := by rw [vp_nar_byte]; simp
theorem pk_vs (z : Int32) : vp_nar .short z.toInt16.toInt32 = z.toInt16.toInt32 := by rw [vp_nar_short]; simp
def bt (x : Int32) (i : Nat) : Bool := x.toBitVec.getLsbD i
theorem b_ext {x y : Int32} (h : ∀ i, i < 32 → bt x i = bt y i) : x = y := Int32.toBitVec_inj.mp (BitVec.eq_of_getLsbD_eq (fun i hi => h i hi))
theorem b_or (x y : Int32) (i : Nat) : bt (x ||| y) i = (bt x i || bt y i) := by unfold bt; rw [Int32.toBitVec_or, BitVec.getLsbD_or]
theorem b_and (x y : Int32) (i : Nat) : bt (x &&& y) i = (bt x i && bt y i) := by unfold bt; rw [Int32.toBitVec_and, BitVec.getLsbD_and]
theorem b_xor (x y : Int32) (i : Nat) : bt (x ^^^ y) i = (bt x i ^^ bt y i) := by unfold bt; rw [Int32.toBitVec_xor, BitVec.getLsbD_xor]
theorem b_big {x : Int32} {i : Nat} (h : 32 ≤ i) : bt x i = false := BitVec.getLsbD_of_ge _ _ h
theorem b_m1 : ∀ i, i < 32 → bt (-1) i = true := by decide +kernel
theorem b_0 (i : Nat) : bt 0 i = false := BitVec.getLsbD_zero
theorem s_l : ∀ n, n < 32 → ((nI n &&& 31).toBitVec.smod 32).toNat = n := by decide +kernel
theorem b_shl (n : Nat) (hn : n < 32) (x : Int32) {i : Nat} (hi : i < 32) : bt (x <<< (nI n &&& 31)) i = (decide (n ≤ i) && bt x (i - n)) := by
  unfold bt
  rw [Int32.toBitVec_shiftLeft]
  show (x.toBitVec <<< ((nI n &&& 31).toBitVec.smod 32).toNat).getLsbD i = _
  rw [s_l n hn, BitVec.getLsbD_shiftLeft]
  rcases Nat.lt_or_ge i n with h | h
  · simp [h, Nat.not_le.mpr h]
  · simp [hi, h, Nat.not_lt.mpr h]
theorem b_sshr (n : Nat) (hn : n < 32) (x : Int32) {i : Nat} (hi : i < 32) : bt (x >>> (nI n &&& 31)) i = if n + i < 32 then bt x (n + i) else bt x 31 := by
  unfold bt
  rw [Int32.toBitVec_shiftRight]
  show (x.toBitVec.sshiftRight ((nI n &&& 31).toBitVec.smod 32).toNat).getLsbD i = _
  rw [s_l n hn, BitVec.getLsbD_sshiftRight, BitVec.msb_eq_getLsbD_last]
  simp [hi]
end
section
/-! counting marked places; views; insertion, cut and sweep of places; bits of lineages -/
/-- how many of the first n places are marked -/
def ws_cnt (p : Nat → Bool) : Nat → Nat
  | 0 => 0
  | n + 1 => ws_cnt p n + (if p n = true then 1 else 0)
theorem ws_cnt_t {p : Nat → Bool} {n : Nat} (h : p n = true) : ws_cnt p (n + 1) = ws_cnt p n + 1 := by
  show ws_cnt p n + (if p n = true then 1 else 0) = _
  rw [if_pos h]
theorem ws_cnt_f {p : Nat → Bool} {n : Nat} (h : p n = false) : ws_cnt p (n + 1) = ws_cnt p n := by
  show ws_cnt p n + (if p n = true then 1 else 0) = _
  rw [if_neg (by rw [h]; decide)]
  exact Nat.add_zero _
theorem ws_cnt_s (p : Nat → Bool) (n : Nat) : (p n = true ∧ ws_cnt p (n + 1) = ws_cnt p n + 1) ∨ (p n = false ∧ ws_cnt p (n + 1) = ws_cnt p n) := by
  cases h : p n
  · exact Or.inr ⟨rfl, ws_cnt_f h⟩
  · exact Or.inl ⟨rfl, ws_cnt_t h⟩
theorem ws_cnt_le (p : Nat → Bool) : ∀ n, ws_cnt p n ≤ n := by
  intro n
  induction n with
  | zero => exact Nat.le_refl _
  | succ n ih => rcases ws_cnt_s p n with ⟨_, e⟩ | ⟨_, e⟩ <;> omega
theorem ws_cnt_mono {p : Nat → Bool} {a b : Nat} (h : a ≤ b) : ws_cnt p a ≤ ws_cnt p b := by
  induction b with
  | zero =>
    have e : a = 0 := by omega
    rw [e]
    exact Nat.le_refl _
  | succ b ih =>
    rcases Nat.lt_or_ge a (b + 1) with h1 | h1
    · have h2 := ih (by omega)
      rcases ws_cnt_s p b with ⟨_, e⟩ | ⟨_, e⟩ <;> omega
    · have e : a = b + 1 := by omega
      rw [e]
      exact Nat.le_refl _
theorem ws_cnt_lt {p : Nat → Bool} {a b : Nat} (hp : p a = true) (h : a < b) : ws_cnt p a < ws_cnt p b := by
  have h1 := ws_cnt_t hp
  have h2 := ws_cnt_mono (p := p) (show a + 1 ≤ b from h)
  omega
theorem ws_cnt_inj {p : Nat → Bool} {a b : Nat} (ha : p a = true) (hb : p b = true) (e : ws_cnt p a = ws_cnt p b) : a = b := by
  rcases Nat.lt_trichotomy a b with h | h | h
  · have := ws_cnt_lt ha h
    omega
  · exact h
  · have := ws_cnt_lt hb h
    omega
theorem ws_cnt_ex {p : Nat → Bool} {j t : Nat} (h : j < ws_cnt p t) : ∃ a, a < t ∧ p a = true ∧ ws_cnt p a = j := by
  induction t with
  | zero => exact absurd h (Nat.not_lt_zero _)
  | succ t ih =>
    by_cases h1 : j < ws_cnt p t
    · obtain ⟨a, ha, hb⟩ := ih h1
      exact ⟨a, by omega, hb⟩
    · rcases ws_cnt_s p t with ⟨hp, e⟩ | ⟨_, e⟩
      · exact ⟨t, by omega, hp, by omega⟩
      · omega
theorem ws_cnt_congr {p q : Nat → Bool} {n : Nat} (h : ∀ a, a < n → p a = q a) : ws_cnt p n = ws_cnt q n := by
  induction n with
  | zero => rfl
  | succ n ih =>
    show ws_cnt p n + (if p n = true then 1 else 0) = ws_cnt q n + (if q n = true then 1 else 0)
    rw [ih (fun a ha => h a (by omega)), h n (by omega)]
theorem ws_cnt_all {p : Nat → Bool} {n : Nat} (h : ∀ a, a < n → p a = true) : ws_cnt p n = n := by
  induction n with
  | zero => rfl
  | succ n ih => rw [ws_cnt_t (h n (by omega)), ih (fun a ha => h a (by omega))]
theorem ws_cnt_and1 {p q : Nat → Bool} {a b : Nat} (h : a ≤ b) (e : ws_cnt p a = ws_cnt p b) : ws_cnt (fun k => p k && q k) a = ws_cnt (fun k => p k && q k) b := by
  induction b with
  | zero =>
    have e0 : a = 0 := by omega
    rw [e0]
  | succ b ih =>
    rcases Nat.lt_or_ge a (b + 1) with h1 | h1
    · have m := ws_cnt_mono (p := p) (show a ≤ b by omega)
      rcases ws_cnt_s p b with ⟨_, e1⟩ | ⟨hp, e1⟩
      · omega
      · rw [ih (by omega) (by omega)]
        have hb : (fun k => p k && q k) b = false := by
          show (p b && q b) = false
          rw [hp]
          rfl
        exact (ws_cnt_f (p := fun k => p k && q k) hb).symm
    · have e0 : a = b + 1 := by omega
      rw [e0]
theorem ws_cnt_and {p q : Nat → Bool} {a b : Nat} (e : ws_cnt p a = ws_cnt p b) : ws_cnt (fun k => p k && q k) a = ws_cnt (fun k => p k && q k) b := by
  rcases Nat.le_total a b with h | h
  · exact ws_cnt_and1 h e
  · exact (ws_cnt_and1 h e.symm).symm

/-- the places marked by p show, in order, the numbers that stand in T -/
def ws_V (p : Nat → Bool) (t : Nat) (num : Nat → Nat) (T : Nat → Int32) : Prop := ∀ a, a < t → p a = true → T (ws_cnt p a) = nI (num a)
theorem ws_V_congr {p p' : Nat → Bool} {t : Nat} {num : Nat → Nat} {T T' : Nat → Int32} (hp : ∀ a, a < t → p' a = p a) (hT : ∀ i, i < ws_cnt p t → T' i = T i) (V : ws_V p t num T) : ws_V p' t num T' := by
  intro a ha h
  have e : ws_cnt p' a = ws_cnt p a := ws_cnt_congr (fun j hj => hp j (by omega))
  have h' : p a = true := by rw [← hp a ha]; exact h
  rw [e, hT _ (ws_cnt_lt h' ha)]
  exact V a ha h'

/-! insertion of a place -/
def ws_ins {α : Type} (a : Nat) (x : α) (f : Nat → α) : Nat → α := fun k => if k < a then f k else if k = a then x else f (k - 1)
theorem ws_ins_lt {α : Type} {a k : Nat} {x : α} {f : Nat → α} (h : k < a) : ws_ins a x f k = f k := if_pos h
theorem ws_ins_eq {α : Type} {a : Nat} {x : α} {f : Nat → α} : ws_ins a x f a = x := by
  unfold ws_ins
  rw [if_neg (Nat.lt_irrefl a), if_pos rfl]
theorem ws_ins_gt {α : Type} {a k : Nat} {x : α} {f : Nat → α} (h : a ≤ k) : ws_ins a x f (k + 1) = f k := by
  unfold ws_ins
  rw [if_neg (by omega), if_neg (by omega)]
  rfl
theorem ws_tri (k a : Nat) : k < a ∨ k = a ∨ ∃ j, a ≤ j ∧ k = j + 1 := by
  rcases Nat.lt_trichotomy k a with h | h | h
  · exact Or.inl h
  · exact Or.inr (Or.inl h)
  · exact Or.inr (Or.inr ⟨k - 1, by omega, by omega⟩)
theorem ws_cnt_ins_lo {p p' : Nat → Bool} {a k : Nat} (h1 : ∀ k, k < a → p' k = p k) (hk : k ≤ a) : ws_cnt p' k = ws_cnt p k := ws_cnt_congr (fun j hj => h1 j (by omega))
theorem ws_cnt_ins_hi {p p' : Nat → Bool} {a t : Nat} (h1 : ∀ k, k < a → p' k = p k) (h2 : ∀ k, a ≤ k → k < t → p' (k + 1) = p k) : ∀ d, a + d ≤ t → ws_cnt p' (a + d + 1) = ws_cnt p (a + d) + (if p' a = true then 1 else 0) := by
  intro d
  induction d with
  | zero =>
    intro _
    show ws_cnt p' a + (if p' a = true then 1 else 0) = _
    rw [ws_cnt_ins_lo h1 (Nat.le_refl a)]
    rfl
  | succ d ih =>
    intro hd
    have e := ih (by omega)
    show ws_cnt p' (a + d + 1) + (if p' (a + d + 1) = true then 1 else 0) = ws_cnt p (a + d) + (if p (a + d) = true then 1 else 0) + _
    rw [e, h2 (a + d) (by omega) (by omega)]
    omega
theorem ws_cnt_ins {p p' : Nat → Bool} {a t k : Nat} (h1 : ∀ k, k < a → p' k = p k) (h2 : ∀ k, a ≤ k → k < t → p' (k + 1) = p k) (hk : a ≤ k) (ht : k ≤ t) : ws_cnt p' (k + 1) = ws_cnt p k + (if p' a = true then 1 else 0) := by
  obtain ⟨d, rfl⟩ : ∃ d, k = a + d := ⟨k - a, by omega⟩
  exact ws_cnt_ins_hi h1 h2 d ht
theorem ws_cnt_ins_0 {p p' : Nat → Bool} {a t k : Nat} (h1 : ∀ k, k < a → p' k = p k) (h2 : ∀ k, a ≤ k → k < t → p' (k + 1) = p k) (h3 : p' a = false) (hk : a ≤ k) (ht : k ≤ t) : ws_cnt p' (k + 1) = ws_cnt p k := by
  rw [ws_cnt_ins h1 h2 hk ht, if_neg (by rw [h3]; decide)]
  exact Nat.add_zero _
theorem ws_cnt_ins_1 {p p' : Nat → Bool} {a t k : Nat} (h1 : ∀ k, k < a → p' k = p k) (h2 : ∀ k, a ≤ k → k < t → p' (k + 1) = p k) (h3 : p' a = true) (hk : a ≤ k) (ht : k ≤ t) : ws_cnt p' (k + 1) = ws_cnt p k + 1 := by
  rw [ws_cnt_ins h1 h2 hk ht, if_pos h3]
theorem ws_V_ins0 {p p' : Nat → Bool} {a t x : Nat} {num : Nat → Nat} {T : Nat → Int32} (h1 : ∀ k, k < a → p' k = p k) (h2 : ∀ k, a ≤ k → k < t → p' (k + 1) = p k) (h3 : p' a = false) (ha : a ≤ t) (V : ws_V p t num T) : ws_V p' (t + 1) (ws_ins a x num) T := by
  intro k hk hp
  rcases ws_tri k a with h | rfl | ⟨j, hj, rfl⟩
  · rw [ws_cnt_ins_lo h1 (by omega), ws_ins_lt h]
    exact V k (by omega) (by rw [← h1 k h]; exact hp)
  · rw [h3] at hp
    exact absurd hp (by decide)
  · rw [ws_cnt_ins_0 h1 h2 h3 hj (by omega), ws_ins_gt hj]
    exact V j (by omega) (by rw [← h2 j hj (by omega)]; exact hp)
theorem ws_V_ins1 {p p' : Nat → Bool} {a t x : Nat} {num : Nat → Nat} {D D' : Nat → Int32} (h1 : ∀ k, k < a → p' k = p k) (h2 : ∀ k, a ≤ k → k < t → p' (k + 1) = p k) (h3 : p' a = true) (ha : a ≤ t) (hD : ∀ i, i ≤ ws_cnt p t → D' i = ws_ins (ws_cnt p a) (nI x) D i) (V : ws_V p t num D) : ws_V p' (t + 1) (ws_ins a x num) D' := by
  intro k hk hp
  rcases ws_tri k a with h | rfl | ⟨j, hj, rfl⟩
  · have hp' : p k = true := by rw [← h1 k h]; exact hp
    have l1 := ws_cnt_lt hp' h
    have l2 := ws_cnt_mono (p := p) ha
    rw [ws_cnt_ins_lo h1 (by omega), ws_ins_lt h, hD _ (by omega), ws_ins_lt l1]
    exact V k (by omega) hp'
  · have l2 := ws_cnt_mono (p := p) ha
    rw [ws_cnt_ins_lo h1 (Nat.le_refl _), ws_ins_eq, hD _ l2, ws_ins_eq]
  · have hp' : p j = true := by rw [← h2 j hj (by omega)]; exact hp
    have l1 := ws_cnt_lt hp' (show j < t by omega)
    have l2 := ws_cnt_mono (p := p) hj
    rw [ws_cnt_ins_1 h1 h2 h3 hj (by omega), ws_ins_gt hj, hD _ (by omega), ws_ins_gt l2]
    exact V j (by omega) hp'

/-! a cut -/
theorem ws_cnt_cut {p p' : Nat → Bool} {a : Nat} (h1 : ∀ k, k ≠ a → p' k = p k) (h2 : p' a = false) (h3 : p a = true) : ∀ k, (k ≤ a → ws_cnt p' k = ws_cnt p k) ∧ (a < k → ws_cnt p' k + 1 = ws_cnt p k) := by
  intro k
  induction k with
  | zero => exact ⟨fun _ => rfl, fun h => absurd h (Nat.not_lt_zero _)⟩
  | succ k ih =>
    refine ⟨fun h => ws_cnt_congr (fun j hj => h1 j (by omega)), fun h => ?_⟩
    by_cases e : k = a
    · rw [e, ws_cnt_f h2, ws_cnt_t h3, ← e, ih.1 (by omega)]
    · have e1 := ih.2 (by omega)
      rcases ws_cnt_s p k with ⟨hp, e2⟩ | ⟨hp, e2⟩
      · rw [e2, ws_cnt_t (by rw [h1 k e]; exact hp)]
        omega
      · rw [e2, ws_cnt_f (by rw [h1 k e]; exact hp)]
        omega
theorem ws_V_cut {p p' : Nat → Bool} {a t : Nat} {num : Nat → Nat} {D D' : Nat → Int32} (h1 : ∀ k, k ≠ a → p' k = p k) (h2 : p' a = false) (h3 : p a = true) (ha : a < t) (hD1 : ∀ i, i < ws_cnt p a → D' i = D i) (hD2 : ∀ i, ws_cnt p a ≤ i → i + 1 < ws_cnt p t → D' i = D (i + 1)) (V : ws_V p t num D) : ws_V p' t num D' := by
  intro k hk hp
  have hka : k ≠ a := by
    intro e
    rw [e, h2] at hp
    exact absurd hp (by decide)
  have hp' : p k = true := by rw [← h1 k hka]; exact hp
  have C := ws_cnt_cut h1 h2 h3 k
  have v := V k hk hp'
  rcases Nat.lt_trichotomy k a with h | h | h
  · rw [C.1 (by omega), hD1 _ (ws_cnt_lt hp' h)]
    exact v
  · exact absurd h hka
  · have c2 := C.2 h
    have l1 := ws_cnt_lt h3 h
    have l2 := ws_cnt_lt hp' hk
    rw [hD2 _ (by omega) (by omega), c2]
    exact v

/-! a sweep: the kept places, moved together -/
/-- the place of the j-th kept among the first t -/
def ws_nth (q : Nat → Bool) : Nat → Nat → Nat
  | 0, _ => 0
  | t + 1, j => if q t = true ∧ ws_cnt q t = j then t else ws_nth q t j
theorem ws_nth_k {q : Nat → Bool} {t k : Nat} (hk : k < t) (hq : q k = true) : ws_nth q t (ws_cnt q k) = k := by
  induction t with
  | zero => exact absurd hk (Nat.not_lt_zero _)
  | succ t ih =>
    show (if q t = true ∧ ws_cnt q t = ws_cnt q k then t else ws_nth q t (ws_cnt q k)) = k
    by_cases e : k = t
    · rw [if_pos ⟨by rw [← e]; exact hq, by rw [e]⟩, e]
    · have l := ws_cnt_lt hq (show k < t by omega)
      rw [if_neg (fun z => by have := z.2; omega)]
      exact ih (by omega)
theorem ws_nth_s {q : Nat → Bool} {t j : Nat} (h : j < ws_cnt q t) : ws_nth q t j < t ∧ q (ws_nth q t j) = true ∧ ws_cnt q (ws_nth q t j) = j := by
  obtain ⟨a, ha, hq, rfl⟩ := ws_cnt_ex h
  rw [ws_nth_k ha hq]
  exact ⟨ha, hq, rfl⟩
theorem ws_cnt_sw {p p' q : Nat → Bool} {t : Nat} (h1 : ∀ k, k < t → q k = true → p' (ws_cnt q k) = p k) (h2 : ∀ k, k < t → p k = true → q k = true) : ∀ k, k ≤ t → ws_cnt p' (ws_cnt q k) = ws_cnt p k := by
  intro k
  induction k with
  | zero => exact fun _ => rfl
  | succ k ih =>
    intro hk
    have e := ih (by omega)
    rcases ws_cnt_s q k with ⟨hq, e1⟩ | ⟨hq, e1⟩
    · rw [e1]
      show ws_cnt p' (ws_cnt q k) + (if p' (ws_cnt q k) = true then 1 else 0) = ws_cnt p k + (if p k = true then 1 else 0)
      rw [e, h1 k (by omega) hq]
    · have hp : p k = false := by
        cases hp : p k
        · rfl
        · have z := h2 k (by omega) hp
          rw [hq] at z
          exact absurd z (by decide)
      rw [e1, ws_cnt_f hp]
      exact e
theorem ws_V_sw {p p' q : Nat → Bool} {t : Nat} {num num' : Nat → Nat} {T : Nat → Int32} (h1 : ∀ k, k < t → q k = true → p' (ws_cnt q k) = p k) (h2 : ∀ k, k < t → p k = true → q k = true) (h3 : ∀ k, k < t → q k = true → num' (ws_cnt q k) = num k) (V : ws_V p t num T) : ws_V p' (ws_cnt q t) num' T := by
  intro j hj hp
  obtain ⟨k, hk, hq, rfl⟩ := ws_cnt_ex hj
  rw [ws_cnt_sw h1 h2 k (by omega), h3 k hk hq]
  exact V k hk (by rw [← h1 k hk hq]; exact hp)

/-! bits -/
theorem ws_one : ∀ i, i < 32 → bt 1 i = decide (i = 0) := by decide +kernel
theorem ws_bt1 {n : Nat} (hn : n < 32) (i : Nat) : bt ((1 : Int32) <<< (nI n &&& 31)) i = decide (i = n) := by
  rcases Nat.lt_or_ge i 32 with h | h
  · rw [b_shl n hn 1 h, ws_one (i - n) (by omega)]
    by_cases e : i = n
    · rw [e, decide_eq_true (Nat.le_refl n), decide_eq_true (Nat.sub_self n), decide_eq_true rfl]
      rfl
    · rw [decide_eq_false e]
      by_cases l : n ≤ i
      · rw [decide_eq_false (show ¬ i - n = 0 by omega), Bool.and_false]
      · rw [decide_eq_false l, Bool.false_and]
  · rw [b_big h, decide_eq_false (by omega)]
theorem ws_bit {v : Int32} {o : Nat} (ho : o < 32) : ((v >>> (nI o &&& 31)) &&& 1) = 0 ↔ bt v o = false := by
  have e : bt (v >>> (nI o &&& 31)) 0 = bt v o := by
    rw [b_sshr o ho v (by omega), if_pos (by omega)]
    rfl
  constructor
  · intro h
    have z : bt ((v >>> (nI o &&& 31)) &&& 1) 0 = bt 0 0 := by rw [h]
    rw [b_and, e, b_0, ws_one 0 (by omega), decide_eq_true rfl, Bool.and_true] at z
    exact z
  · intro h
    apply b_ext
    intro i hi
    rw [b_and, b_0, ws_one i hi]
    by_cases e0 : i = 0
    · rw [e0, e, h]
      rfl
    · rw [decide_eq_false e0, Bool.and_false]
/-- whether a line of this owner and these takers is shown to whoever has these versions -/
def ws_sh (o : Nat) (tk v : Int32) : Bool := bt v o && decide (tk &&& v = 0)
def ws_p (ow : Nat → Nat) (TK : Nat → Int32) (v : Int32) : Nat → Bool := fun a => ws_sh (ow a) (TK a) v
theorem ws_sh_congr {o : Nat} {tk v tk' v' : Int32} (h1 : bt v' o = bt v o) (h2 : ∀ i, (bt tk' i && bt v' i) = (bt tk i && bt v i)) : ws_sh o tk' v' = ws_sh o tk v := by
  have e : tk' &&& v' = tk &&& v := b_ext (fun i _ => by rw [b_and, b_and]; exact h2 i)
  unfold ws_sh
  rw [h1, e]
theorem ws_sh_own {o : Nat} {tk v : Int32} (h : bt v o = false) : ws_sh o tk v = false := by
  unfold ws_sh
  rw [h]
  rfl
theorem ws_sh_or {o c : Nat} {tk v : Int32} (hc : c < 32) (h : bt v c = false) : ws_sh o (tk ||| ((1 : Int32) <<< (nI c &&& 31))) v = ws_sh o tk v := by
  refine ws_sh_congr rfl (fun i => ?_)
  rw [b_or, ws_bt1 hc]
  by_cases e : i = c
  · rw [e, h, Bool.and_false, Bool.and_false]
  · rw [decide_eq_false e, Bool.or_false]
theorem ws_bta {c : Nat} {tk : Int32} (hc : c < 32) (i : Nat) : bt (tk &&& (((1 : Int32) <<< (nI c &&& 31)) ^^^ (-1))) i = (bt tk i && !decide (i = c)) := by
  rcases Nat.lt_or_ge i 32 with h | h
  · rw [b_and, b_xor, ws_bt1 hc, b_m1 i h, Bool.xor_true]
  · rw [b_big h, b_big h]
    rfl
theorem ws_sh_an {o c : Nat} {tk v : Int32} (hc : c < 32) (h : bt v c = false) : ws_sh o (tk &&& (((1 : Int32) <<< (nI c &&& 31)) ^^^ (-1))) v = ws_sh o tk v := by
  refine ws_sh_congr rfl (fun i => ?_)
  rw [ws_bta hc]
  by_cases e : i = c
  · rw [e, h, Bool.and_false, Bool.and_false]
  · rw [decide_eq_false e, Bool.not_false, Bool.and_true]
theorem ws_sh_new {o c : Nat} {tk v : Int32} (hc : c < 32) (ho : o < c) (h : bt tk c = false) : ws_sh o tk (v ||| ((1 : Int32) <<< (nI c &&& 31))) = ws_sh o tk v := by
  refine ws_sh_congr ?_ (fun i => ?_)
  · rw [b_or, ws_bt1 hc, decide_eq_false (by omega), Bool.or_false]
  · rw [b_or, ws_bt1 hc]
    by_cases e : i = c
    · rw [e, h, Bool.false_and, Bool.false_and]
    · rw [decide_eq_false e, Bool.or_false]
theorem ws_sh_0 {o : Nat} {v : Int32} (h : bt v o = true) : ws_sh o 0 v = true := by
  have e : (0 : Int32) &&& v = 0 := b_ext (fun i _ => by rw [b_and, b_0, Bool.false_and])
  unfold ws_sh
  rw [h, decide_eq_true e]
  rfl
theorem ws_sh_cut {o c : Nat} {tk v : Int32} (hc : c < 32) (h : bt v c = true) : ws_sh o (tk ||| ((1 : Int32) <<< (nI c &&& 31))) v = false := by
  have e : ¬ (tk ||| ((1 : Int32) <<< (nI c &&& 31))) &&& v = 0 := by
    intro z
    have z2 : bt ((tk ||| ((1 : Int32) <<< (nI c &&& 31))) &&& v) c = bt 0 c := by rw [z]
    rw [b_and, b_or, ws_bt1 hc, h, b_0, decide_eq_true rfl, Bool.or_true] at z2
    exact absurd z2 (by decide)
  unfold ws_sh
  rw [decide_eq_false e, Bool.and_false]
theorem ws_toInt {x : Int32} {k : Nat} (hk : k ≤ 30) (h : ∀ i, bt x i = true → i < k) : 0 ≤ x.toInt ∧ x.toInt < 2 ^ k := by
  have l : x.toBitVec.toNat < 2 ^ k := by
    apply Nat.lt_pow_two_of_testBit
    intro i hi
    cases hb : x.toBitVec.toNat.testBit i
    · rfl
    · have := h i hb
      omega
  have l2 : 2 ^ k ≤ 2 ^ 30 := Nat.pow_le_pow_right (by decide) hk
  have e : x.toInt = x.toBitVec.toInt := rfl
  rw [e, BitVec.toInt_eq_toNat_of_lt (by omega)]
  constructor
  · omega
  · have : ((x.toBitVec.toNat : Nat) : Int) < ((2 ^ k : Nat) : Int) := Int.ofNat_lt.mpr l
    rw [Int.natCast_pow] at this
    exact this
theorem ws_nar {x : Int32} {c : Nat} (hc : c ≤ 12) (h : ∀ i, bt x i = true → i ≤ c) : x.toInt16.toInt32 = x := by
  have b := ws_toInt (x := x) (k := 13) (by decide) (fun i hi => by have := h i hi; omega)
  have e : (2 : Int) ^ 13 = 8192 := by decide
  rw [e] at b
  exact lg_i2s_small (by omega) (by omega)
theorem ws_vnar {x : Int32} {c : Nat} (hc : c ≤ 12) (h : ∀ i, bt x i = true → i ≤ c) : vp_nar .short x = x := by
  rw [vp_nar_short]
  exact ws_nar hc h
theorem ws_byte {n : Nat} (h : n < 128) : (nI n).toInt8.toInt32 = nI n := by
  have e := nI_toInt (n := n) (by omega)
  exact lg_i2b_small (by rw [e]; omega) (by rw [e]; omega)
theorem ws_vbyte {n : Nat} (h : n < 128) : vp_nar .byte (nI n) = nI n := by
  rw [vp_nar_byte]
  exact ws_byte h
/-- the set of the marked among the first n, as bits -/
def ws_set (q : Nat → Bool) : Nat → Int32
  | 0 => 0
  | n + 1 => if q n = true then ws_set q n ||| ((1 : Int32) <<< (nI n &&& 31)) else ws_set q n
end
section
/-! the component's walks: each method, and each loop, with a general post -/
section
variable {C O TK B LIN : Nat → Int32} {t c : Nat} {fd ft : Int32} {ow : Nat → Nat}
theorem ws_xver_t {post : Int32 → Prop} {w : Nat} (h : w < c) (hc : c ≤ 12) (hp : post 1) : wpX_isVersion post (ft, nI c, fd, C, O, TK, B, LIN) (nI w) := br_f (nI_pos (by omega)) (br_f (nI_ge h (by omega)) hp)
theorem ws_xver_f {post : Int32 → Prop} {x : Int32} (h : x < 0 ∨ nI c ≤ x) (hp : post 0) : wpX_isVersion post (ft, nI c, fd, C, O, TK, B, LIN) x := by
  by_cases h0 : x < 0
  · exact br_t h0 hp
  · rcases h with h | h
    · exact absurd h h0
    · exact br_f h0 (br_t h hp)
theorem ws_xshows {post : Int32 → Prop} {a : Nat} {v : Int32} (ha : a < t) (ht : t ≤ 30) (hO : ∀ a, a < t → O a = nI (ow a) ∧ ow a < 32) (h1 : ws_p ow TK v a = true → post 1) (h0 : ws_p ow TK v a = false → post 0) : wpX_shows post (ft, nI c, fd, C, O, TK, B, LIN) (nI a) v := by
  have e : (nI a).toNatClampNeg = a := nI_clamp (by omega)
  have hi : vp_in (nI a) 30 := vp_in_nI (by omega) (by omega)
  unfold wpX_shows
  dsimp only
  rw [e, (hO a ha).1]
  refine ⟨hi, br_c (fun z => h0 ?_) (fun z => ⟨hi, br_c (fun y => h1 ?_) (fun y => h0 ?_)⟩)⟩
  · exact ws_sh_own ((ws_bit (hO a ha).2).mp z)
  · have hb : bt v (ow a) = true := by
      cases hb : bt v (ow a)
      · exact absurd ((ws_bit (hO a ha).2).mpr hb) z
      · rfl
    show (bt v (ow a) && decide (TK a &&& v = 0)) = true
    rw [hb, decide_eq_true y]
    rfl
  · show (bt v (ow a) && decide (TK a &&& v = 0)) = false
    rw [decide_eq_false y, Bool.and_false]
theorem ws_xlen_lp {post : Int32 → Prop} {v : Int32} (ht : t ≤ 30) (hO : ∀ a, a < t → O a = nI (ow a) ∧ ow a < 32) (h : post (nI (ws_cnt (ws_p ow TK v) t))) : ∀ n i : Nat, i ≤ t → t < n + i → wX_lengthOf_4 post v (nI t) (nI c) fd C O TK B LIN n (nI (ws_cnt (ws_p ow TK v) i)) (nI i) := by
  intro n
  induction n with
  | zero => intro i h1 h2; omega
  | succ n ih =>
    intro i h1 h2
    refine pk_le t i (fun hti => ?_) (fun hit => ?_)
    · have e : i = t := by omega
      rw [e]
      exact h
    · have E := ih (i + 1) (by omega) (by omega)
      refine ws_xshows hit ht hO (fun hp => ?_) (fun hp => ?_)
      · rw [ws_cnt_t hp] at E
        exact br_f (by decide) (nm_r (nI_1 _) (nm_r (nI_1 i) E))
      · rw [ws_cnt_f hp] at E
        exact br_t rfl (nm_r (Int32.add_zero _) (nm_r (nI_1 i) E))
theorem ws_xlen {post : Int32 → Prop} {v : Int32} (ht : t ≤ 30) (hO : ∀ a, a < t → O a = nI (ow a) ∧ ow a < 32) (h : post (nI (ws_cnt (ws_p ow TK v) t))) : wpX_lengthOf post (nI t, nI c, fd, C, O, TK, B, LIN) v := ⟨t + 1, ws_xlen_lp ht hO h (t + 1) 0 (by omega) (by omega)⟩
theorem ws_xfind_lp {post : Int32 → Prop} {v : Int32} {j : Nat} (hj : j < 2 ^ 31) (ht : t ≤ 30) (hO : ∀ a, a < t → O a = nI (ow a) ∧ ow a < 32) (hs : ∀ a, a < t → ws_p ow TK v a = true → ws_cnt (ws_p ow TK v) a = j → post (nI a)) (hn : ws_cnt (ws_p ow TK v) t ≤ j → post (-1)) : ∀ n i : Nat, i ≤ t → t < n + i → ws_cnt (ws_p ow TK v) i ≤ j → wX_find_5 post v (nI j) (nI t) (nI c) fd C O TK B LIN n (nI (ws_cnt (ws_p ow TK v) i)) (nI i) := by
  intro n
  induction n with
  | zero => intro i h1 h2 h3; omega
  | succ n ih =>
    intro i h1 h2 h3
    have hl := ws_cnt_le (ws_p ow TK v) i
    refine pk_le t i (fun hti => ?_) (fun hit => ?_)
    · have e : i = t := by omega
      rw [e] at h3
      exact hn h3
    · refine ws_xshows hit ht hO (fun hp => ?_) (fun hp => ?_)
      · refine br_f (by decide) (pk_eq (ws_cnt (ws_p ow TK v) i) j (fun e => hs i hit hp e) (fun e => ?_))
        have E := ih (i + 1) (by omega) (by omega) (by rw [ws_cnt_t hp]; omega)
        rw [ws_cnt_t hp] at E
        exact nm_r (nI_1 _) (nm_r (nI_1 i) E)
      · have E := ih (i + 1) (by omega) (by omega) (by rw [ws_cnt_f hp]; omega)
        rw [ws_cnt_f hp] at E
        exact br_t rfl (nm_r (nI_1 i) E)
theorem ws_xfind {post : Int32 → Prop} {v : Int32} {j : Nat} (hj : j < 2 ^ 31) (ht : t ≤ 30) (hO : ∀ a, a < t → O a = nI (ow a) ∧ ow a < 32) (hs : ∀ a, a < t → ws_p ow TK v a = true → ws_cnt (ws_p ow TK v) a = j → post (nI a)) (hn : ws_cnt (ws_p ow TK v) t ≤ j → post (-1)) : wpX_find post (nI t, nI c, fd, C, O, TK, B, LIN) v (nI j) := ⟨t + 1, ws_xfind_lp hj ht hO hs hn (t + 1) 0 (by omega) (by omega) (Nat.zero_le _)⟩
theorem ws_xshared_lp {post : Int32 → Prop} {v w : Nat} (hv : v < 13) (hw : w < 13) (ht : t ≤ 30) (hO : ∀ a, a < t → O a = nI (ow a) ∧ ow a < 32) (h : post (nI (ws_cnt (fun k => ws_p ow TK (LIN v) k && ws_p ow TK (LIN w) k) t))) : ∀ n i : Nat, i ≤ t → t < n + i → wX_shared_23 post (nI v) (nI w) (nI t) (nI c) fd C O TK B LIN n (nI (ws_cnt (fun k => ws_p ow TK (LIN v) k && ws_p ow TK (LIN w) k) i)) (nI i) := by
  have ev : (nI v).toNatClampNeg = v := nI_clamp (by omega)
  have ew : (nI w).toNatClampNeg = w := nI_clamp (by omega)
  have iv : vp_in (nI v) 13 := vp_in_nI hv (by omega)
  have iw : vp_in (nI w) 13 := vp_in_nI hw (by omega)
  intro n
  induction n with
  | zero => intro i h1 h2; omega
  | succ n ih =>
    intro i h1 h2
    refine pk_le t i (fun hti => ?_) (fun hit => ⟨iv, ?_⟩)
    · have e : i = t := by omega
      rw [e]
      exact h
    · have E := ih (i + 1) (by omega) (by omega)
      rw [ev]
      refine ws_xshows hit ht hO (fun hp => br_f (by decide) ⟨iw, ?_⟩) (fun hp => br_t rfl ?_)
      · rw [ew]
        refine ws_xshows hit ht hO (fun hp2 => br_f (by decide) ?_) (fun hp2 => br_t rfl ?_)
        · rw [ws_cnt_t (p := fun k => ws_p ow TK (LIN v) k && ws_p ow TK (LIN w) k) (by show (ws_p ow TK (LIN v) i && ws_p ow TK (LIN w) i) = true; rw [hp, hp2]; rfl)] at E
          exact nm_r (nI_1 _) (nm_r (nI_1 i) E)
        · rw [ws_cnt_f (p := fun k => ws_p ow TK (LIN v) k && ws_p ow TK (LIN w) k) (by show (ws_p ow TK (LIN v) i && ws_p ow TK (LIN w) i) = false; rw [hp2, Bool.and_false])] at E
          exact nm_r (Int32.add_zero _) (nm_r (nI_1 i) E)
      · rw [ws_cnt_f (p := fun k => ws_p ow TK (LIN v) k && ws_p ow TK (LIN w) k) (by show (ws_p ow TK (LIN v) i && ws_p ow TK (LIN w) i) = false; rw [hp, Bool.false_and])] at E
        exact nm_r (Int32.add_zero _) (nm_r (nI_1 i) E)
theorem ws_xplace_lp {post : Int32 → Prop} {w a : Nat} (hw : w < 13) (ha : a < t) (ht : t ≤ 30) (hO : ∀ a, a < t → O a = nI (ow a) ∧ ow a < 32) (h : post (nI (ws_cnt (ws_p ow TK (LIN w)) a))) : ∀ n i : Nat, i ≤ a → a < n + i → wX_placeIn_44 post (nI w) (nI a) (nI t) (nI c) fd C O TK B LIN n (nI (ws_cnt (ws_p ow TK (LIN w)) i)) (nI i) := by
  have ew : (nI w).toNatClampNeg = w := nI_clamp (by omega)
  have iw : vp_in (nI w) 13 := vp_in_nI hw (by omega)
  intro n
  induction n with
  | zero => intro i h1 h2; omega
  | succ n ih =>
    intro i h1 h2
    refine pk_le a i (fun hti => ?_) (fun hit => ⟨iw, ?_⟩)
    · have e : i = a := by omega
      rw [e]
      exact h
    · have E := ih (i + 1) (by omega) (by omega)
      rw [ew]
      refine ws_xshows (show i < t by omega) ht hO (fun hp => ?_) (fun hp => ?_)
      · rw [ws_cnt_t hp] at E
        exact br_f (by decide) (nm_r (nI_1 _) (nm_r (nI_1 i) E))
      · rw [ws_cnt_f hp] at E
        exact br_t rfl (nm_r (Int32.add_zero _) (nm_r (nI_1 i) E))
theorem ws_xhave_lp {post : Int32 → Prop} {a : Nat} (hc : c ≤ 12) (ha : a < t) (ht : t ≤ 30) (hO : ∀ a, a < t → O a = nI (ow a) ∧ ow a < 32) (h : post (ws_set (fun w => ws_p ow TK (LIN w) a) c)) : ∀ n w : Nat, w ≤ c → c < n + w → wX_having_13 post (nI a) (nI t) (nI c) fd C O TK B LIN n (ws_set (fun w => ws_p ow TK (LIN w) a) w) (nI w) := by
  have na : ¬ nI a < 0 := nI_pos (by omega)
  intro n
  induction n with
  | zero => intro i h1 h2; omega
  | succ n ih =>
    intro w h1 h2
    have ew : (nI w).toNatClampNeg = w := nI_clamp (by omega)
    refine pk_le c w (fun hti => ?_) (fun hit => br_f na ⟨vp_in_nI (by omega) (by omega), ?_⟩)
    · have e : w = c := by omega
      rw [e]
      exact h
    · have E := ih (w + 1) (by omega) (by omega)
      have e : ws_set (fun w => ws_p ow TK (LIN w) a) (w + 1) = if ws_p ow TK (LIN w) a = true then ws_set (fun w => ws_p ow TK (LIN w) a) w ||| ((1 : Int32) <<< (nI w &&& 31)) else ws_set (fun w => ws_p ow TK (LIN w) a) w := rfl
      rw [ew]
      refine ws_xshows ha ht hO (fun hp => br_f (by decide) ?_) (fun hp => br_t rfl ?_)
      · rw [e, if_pos hp] at E
        exact nm_e (nm_r (nI_1 w) E)
      · rw [e, if_neg (by rw [hp]; decide)] at E
        exact nm_r (Int32.or_zero) (nm_r (nI_1 w) E)
theorem ws_xdraft_lp {post : Int32 → Prop} {x : Int32} (hc : c ≤ 12) (ht : t ≤ 30) (hO : ∀ a, a < t → O a = nI (ow a) ∧ ow a < 32) (h0 : x = 0 → post (nI (ws_cnt (ws_p ow TK (LIN c)) t))) (h1 : ¬ x = 0 → x = 1 → post (nI (ws_cnt (ws_p ow TK (LIN c)) t) - nI (ws_cnt (fun k => ws_p ow TK (LIN c) k && decide (ow k = c)) t))) (h2 : ¬ x = 0 → ¬ x = 1 → post (nI (ws_cnt (fun k => ws_p ow TK (LIN c) k && decide (ow k = c)) t))) : ∀ n i : Nat, i ≤ t → t < n + i → wX_draft_25 post x (nI t) (nI c) fd C O TK B LIN n (nI (ws_cnt (ws_p ow TK (LIN c)) i)) (nI (ws_cnt (fun k => ws_p ow TK (LIN c) k && decide (ow k = c)) i)) (nI i) := by
  have ec : (nI c).toNatClampNeg = c := nI_clamp (by omega)
  have ic : vp_in (nI c) 13 := vp_in_nI (by omega) (by omega)
  intro n
  induction n with
  | zero => intro i h1 h2; omega
  | succ n ih =>
    intro i l1 l2
    refine pk_le t i (fun hti => ?_) (fun hit => ⟨ic, ?_⟩)
    · have e : i = t := by omega
      rw [e]
      exact br_c h0 (fun z => br_c (h1 z) (h2 z))
    · have E := ih (i + 1) (by omega) (by omega)
      have ei : (nI i).toNatClampNeg = i := nI_clamp (by omega)
      rw [ec]
      refine ws_xshows hit ht hO (fun hp => br_f (by decide) (nm_r (nI_1 _) ⟨vp_in_nI (by omega) (by omega), ?_⟩)) (fun hp => br_t rfl (nm_r (nI_1 i) ?_))
      · rw [ei]
        rw [ws_cnt_t hp] at E
        have o32 := (hO i hit).2
        refine pk_eq (ow i) c (fun e => ?_) (fun e => ?_) (hO i hit).1
        · rw [ws_cnt_t (p := fun k => ws_p ow TK (LIN c) k && decide (ow k = c)) (by show (ws_p ow TK (LIN c) i && decide (ow i = c)) = true; rw [hp, decide_eq_true e]; rfl)] at E
          exact nm_r (nI_1 _) (nm_r (nI_1 i) E)
        · rw [ws_cnt_f (p := fun k => ws_p ow TK (LIN c) k && decide (ow k = c)) (by show (ws_p ow TK (LIN c) i && decide (ow i = c)) = false; rw [decide_eq_false e, Bool.and_false])] at E
          exact nm_r (Int32.add_zero _) (nm_r (nI_1 i) E)
      · rw [ws_cnt_f hp, ws_cnt_f (p := fun k => ws_p ow TK (LIN c) k && decide (ow k = c)) (by show (ws_p ow TK (LIN c) i && decide (ow i = c)) = false; rw [hp, Bool.false_and])] at E
        exact E
end

/-! insertion: the array behind the shift -/
/-- the places from i on have moved up by one, place i free -/
def ws_SI (i t : Nat) (f0 f : Nat → Int32) : Prop := (∀ k, k ≤ i → f k = f0 k) ∧ (∀ k, i ≤ k → k < t → f (k + 1) = f0 k)
theorem ws_SI_0 {t : Nat} {f : Nat → Int32} : ws_SI t t f f := ⟨fun _ _ => rfl, fun k h1 h2 => by omega⟩
theorem ws_SI_s {i t : Nat} {f0 f : Nat → Int32} (h : ws_SI (i + 1) t f0 f) : ws_SI i t f0 (upd f (i + 1) (f0 i)) := by
  refine ⟨fun k hk => ?_, fun k h1 h2 => ?_⟩
  · rw [pk_un (by omega)]
    exact h.1 k (by omega)
  · by_cases e : k = i
    · rw [e, pk_us]
    · rw [pk_un (by omega)]
      exact h.2 k (by omega) h2
theorem ws_SI_e {a t : Nat} {x : Int32} {f0 f : Nat → Int32} (h : ws_SI a t f0 f) : ∀ k, k ≤ t → upd f a x k = ws_ins a x f0 k := by
  intro k hk
  rcases ws_tri k a with h1 | rfl | ⟨j, hj, rfl⟩
  · rw [pk_un (by omega), ws_ins_lt h1]
    exact h.1 k (by omega)
  · rw [pk_us, ws_ins_eq]
  · rw [pk_un (by omega), ws_ins_gt hj]
    exact h.2 j hj (by omega)
theorem ws_xins_lp {B LIN C0 O0 TK0 : Nat → Int32} {t c : Nat} {fd : Int32} {post : SX → Prop} {a x : Nat} (hx : x < 128) (hc : c ≤ 12) (ht : t < 30) (ha : a ≤ t)
    (hC : ∀ k, k < t → vp_nar .byte (C0 k) = C0 k) (hO : ∀ k, k < t → vp_nar .byte (O0 k) = O0 k) (hT : ∀ k, k < t → vp_nar .short (TK0 k) = TK0 k)
    (h : ∀ C' O' TK' : Nat → Int32, (∀ k, k ≤ t → C' k = ws_ins a (nI x) C0 k) → (∀ k, k ≤ t → O' k = ws_ins a (nI c) O0 k) → (∀ k, k ≤ t → TK' k = ws_ins a 0 TK0 k) → post (nI (t + 1), nI c, fd, C', O', TK', B, LIN)) :
    ∀ (n i : Nat) (C O TK : Nat → Int32), a ≤ i → i ≤ t → i < n + a → ws_SI i t C0 C → ws_SI i t O0 O → ws_SI i t TK0 TK → wX_insert_5 post (nI a) (nI x) (nI t) (nI c) fd n (nI i) C O TK B LIN := by
  have ea : (nI a).toNatClampNeg = a := nI_clamp (by omega)
  have ia : vp_in (nI a) 30 := vp_in_nI (by omega) (by omega)
  intro n
  induction n with
  | zero => intro i C O TK h1 h2 h3; omega
  | succ n ih =>
    intro i C O TK h1 h2 h3 sC sO sT
    refine pk_le i a (fun hia => ?_) (fun hai => ?_)
    · have e : i = a := by omega
      rw [e] at sC sO sT
      rw [ea, ws_byte hx, ws_vbyte hx, ws_byte (show c < 128 by omega), ws_vbyte (show c < 128 by omega), show vp_nar .short 0 = 0 from by rw [vp_nar_short]; decide]
      exact ⟨ia, nm_e ⟨ia, nm_e ⟨ia, nm_e (nm_r (nI_1 t) (h _ _ _ (ws_SI_e sC) (ws_SI_e sO) (ws_SI_e sT)))⟩⟩⟩
    · obtain ⟨j, rfl⟩ : ∃ j, i = j + 1 := ⟨i - 1, by omega⟩
      have ej : (nI j).toNatClampNeg = j := nI_clamp (by omega)
      have ej1 : (nI (j + 1)).toNatClampNeg = j + 1 := nI_clamp (by omega)
      have ij : vp_in (nI j) 30 := vp_in_nI (by omega) (by omega)
      have ij1 : vp_in (nI (j + 1)) 30 := vp_in_nI (by omega) (by omega)
      rw [nI_pred, ej, ej1, sC.1 j (by omega), sO.1 j (by omega), sT.1 j (by omega), hC j (by omega), hO j (by omega), hT j (by omega)]
      exact ⟨ij, ij1, nm_e ⟨ij, ij1, nm_e ⟨ij, ij1, nm_e (nm_r (pk_m1 j) (ih j _ _ _ (by omega) (by omega) (by omega) (ws_SI_s sC) (ws_SI_s sO) (ws_SI_s sT)))⟩⟩⟩
theorem ws_xins {B LIN C O TK : Nat → Int32} {t c : Nat} {fd : Int32} {post : SX → Prop} {a x : Nat} (hx : x < 128) (hc : c ≤ 12) (ht : t < 30) (ha : a ≤ t)
    (hC : ∀ k, k < t → vp_nar .byte (C k) = C k) (hO : ∀ k, k < t → vp_nar .byte (O k) = O k) (hT : ∀ k, k < t → vp_nar .short (TK k) = TK k)
    (h : ∀ C' O' TK' : Nat → Int32, (∀ k, k ≤ t → C' k = ws_ins a (nI x) C k) → (∀ k, k ≤ t → O' k = ws_ins a (nI c) O k) → (∀ k, k ≤ t → TK' k = ws_ins a 0 TK k) → post (nI (t + 1), nI c, fd, C', O', TK', B, LIN)) :
    wpX_insert post (nI t, nI c, fd, C, O, TK, B, LIN) (nI a) (nI x) := ⟨t + 1, ws_xins_lp hx hc ht ha hC hO hT h (t + 1) t C O TK ha (by omega) (by omega) ws_SI_0 ws_SI_0 ws_SI_0⟩

/-! the sweep: the arrays behind it -/
def ws_SW (q : Nat → Bool) (g : Int32 → Int32) (i : Nat) (f0 f : Nat → Int32) : Prop := (∀ j, i ≤ j → f j = f0 j) ∧ (∀ k, k < i → q k = true → f (ws_cnt q k) = g (f0 k))
theorem ws_SW_0 {q : Nat → Bool} {g : Int32 → Int32} {f : Nat → Int32} : ws_SW q g 0 f f := ⟨fun _ _ => rfl, fun k h => by omega⟩
theorem ws_SW_t {q : Nat → Bool} {g : Int32 → Int32} {i : Nat} {f0 f : Nat → Int32} (hq : q i = true) (h : ws_SW q g i f0 f) : ws_SW q g (i + 1) f0 (upd f (ws_cnt q i) (g (f0 i))) := by
  have l := ws_cnt_le q i
  refine ⟨fun j hj => ?_, fun k hk hqk => ?_⟩
  · rw [pk_un (by omega)]
    exact h.1 j (by omega)
  · by_cases e : k = i
    · rw [e, pk_us]
    · have l2 := ws_cnt_lt hqk (show k < i by omega)
      rw [pk_un (by omega)]
      exact h.2 k (by omega) hqk
theorem ws_SW_f {q : Nat → Bool} {g : Int32 → Int32} {i : Nat} {f0 f : Nat → Int32} (hq : q i = false) (h : ws_SW q g i f0 f) : ws_SW q g (i + 1) f0 f := by
  refine ⟨fun j hj => h.1 j (by omega), fun k hk hqk => ?_⟩
  by_cases e : k = i
  · rw [e, hq] at hqk
    exact absurd hqk (by decide)
  · exact h.2 k (by omega) hqk
def ws_mask (c : Nat) (x : Int32) : Int32 := x &&& (((1 : Int32) <<< (nI c &&& 31)) ^^^ (-1))
def ws_q (ow : Nat → Nat) (c : Nat) : Nat → Bool := fun a => decide (ow a < c)
theorem ws_xsw_lp {B LIN C0 O0 TK0 : Nat → Int32} {t c : Nat} {fd : Int32} {ow : Nat → Nat} {post : SX → Prop} (hc : c ≤ 12) (ht : t ≤ 30)
    (how : ∀ k, k < t → O0 k = nI (ow k) ∧ ow k ≤ c)
    (hC : ∀ k, k < t → vp_nar .byte (C0 k) = C0 k) (hO : ∀ k, k < t → vp_nar .byte (O0 k) = O0 k) (hT : ∀ k, k < t → (ws_mask c (TK0 k)).toInt16.toInt32 = ws_mask c (TK0 k))
    (h : ∀ C' O' TK' : Nat → Int32, ws_SW (ws_q ow c) (fun x => x) t C0 C' → ws_SW (ws_q ow c) (fun x => x) t O0 O' → ws_SW (ws_q ow c) (ws_mask c) t TK0 TK' → post (nI (ws_cnt (ws_q ow c) t), nI c, fd, C', O', TK', B, LIN)) :
    ∀ (n i : Nat) (C O TK : Nat → Int32), i ≤ t → t < n + i → ws_SW (ws_q ow c) (fun x => x) i C0 C → ws_SW (ws_q ow c) (fun x => x) i O0 O → ws_SW (ws_q ow c) (ws_mask c) i TK0 TK → wX_sweep_4 post (nI t) (nI c) fd n (nI (ws_cnt (ws_q ow c) i)) (nI i) C O TK B LIN := by
  intro n
  induction n with
  | zero => intro i C O TK h1 h2; omega
  | succ n ih =>
    intro i C O TK h1 h2 sC sO sT
    refine pk_le t i (fun hti => ?_) (fun hit => ⟨vp_in_nI (by omega) (by omega), ?_⟩)
    · have e : i = t := by omega
      rw [e] at sC sO sT ⊢
      exact h C O TK sC sO sT
    · have l := ws_cnt_le (ws_q ow c) i
      have ei : (nI i).toNatClampNeg = i := nI_clamp (by omega)
      have ek : (nI (ws_cnt (ws_q ow c) i)).toNatClampNeg = ws_cnt (ws_q ow c) i := nI_clamp (by omega)
      have ii : vp_in (nI i) 30 := vp_in_nI (by omega) (by omega)
      have ik : vp_in (nI (ws_cnt (ws_q ow c) i)) 30 := vp_in_nI (by omega) (by omega)
      have ho := how i hit
      have eT : vp_nar .short ((TK0 i &&& (((1 : Int32) <<< (nI c &&& 31)) ^^^ (-1))).toInt16.toInt32) = ws_mask c (TK0 i) := by
        rw [pk_vs]
        exact hT i hit
      rw [ei, ek, sC.1 i (by omega), sO.1 i (by omega), sT.1 i (by omega), hC i hit, hO i hit, eT]
      refine pk_eq (ow i) c (fun e => ?_) (fun e => ?_) ho.1
      · have hq : ws_q ow c i = false := decide_eq_false (by omega)
        have E := ih (i + 1) C O TK (by omega) (by omega) (ws_SW_f hq sC) (ws_SW_f hq sO) (ws_SW_f hq sT)
        rw [ws_cnt_f hq] at E
        exact nm_r (nI_1 i) E
      · have hq : ws_q ow c i = true := decide_eq_true (by omega)
        have E := ih (i + 1) _ _ _ (by omega) (by omega) (ws_SW_t hq sC) (ws_SW_t hq sO) (ws_SW_t hq sT)
        rw [ws_cnt_t hq] at E
        exact ⟨ii, ik, nm_e ⟨ii, ik, nm_e ⟨ii, ik, nm_e (nm_r (nI_1 _) (nm_r (nI_1 i) E))⟩⟩⟩
theorem ws_xsw {B LIN C O TK : Nat → Int32} {t c : Nat} {fd : Int32} {ow : Nat → Nat} {post : SX → Prop} (hc : c ≤ 12) (ht : t ≤ 30)
    (how : ∀ k, k < t → O k = nI (ow k) ∧ ow k ≤ c)
    (hC : ∀ k, k < t → vp_nar .byte (C k) = C k) (hO : ∀ k, k < t → vp_nar .byte (O k) = O k) (hT : ∀ k, k < t → (ws_mask c (TK k)).toInt16.toInt32 = ws_mask c (TK k))
    (h : ∀ C' O' TK' : Nat → Int32, ws_SW (ws_q ow c) (fun x => x) t C C' → ws_SW (ws_q ow c) (fun x => x) t O O' → ws_SW (ws_q ow c) (ws_mask c) t TK TK' → post (nI (ws_cnt (ws_q ow c) t), nI c, fd, C', O', TK', B, LIN)) :
    wpX_sweep post (nI t, nI c, fd, C, O, TK, B, LIN) := ⟨t + 1, ws_xsw_lp hc ht how hC hO hT h (t + 1) 0 C O TK (by omega) (by omega) ws_SW_0 ws_SW_0 ws_SW_0⟩
end
section
/-! the reference's walks: each method, and each loop, with a general post -/
theorem ws_yidx (w i : Nat) : (12 : Int32) * nI w + nI i = nI (12 * w + i) := by
  rw [show (12 : Int32) = nI 12 from rfl, pk_mul, nI_add]
section
variable {SZ YB T YC YO D : Nat → Int32} {t c : Nat} {gl gd gf glt gs : Int32} {num : Nat → Nat}
theorem ws_yver_t {post : Int32 → Prop} {w : Nat} (h : w < c) (hc : c ≤ 12) (hp : post 1) : wpY_version post (nI c, gl, gd, gf, glt, gs, SZ, YB, T, YC, YO, D) (nI w) := br_f (nI_pos (by omega)) (br_f (nI_ge h (by omega)) hp)
theorem ws_yver_f {post : Int32 → Prop} {x : Int32} (h : x < 0 ∨ nI c ≤ x) (hp : post 0) : wpY_version post (nI c, gl, gd, gf, glt, gs, SZ, YB, T, YC, YO, D) x := by
  by_cases h0 : x < 0
  · exact br_t h0 hp
  · rcases h with h | h
    · exact absurd h h0
    · exact br_f h0 (br_t h hp)
theorem ws_yfind_lp {post : Int32 → Prop} {p : Nat → Bool} {w a : Nat} (hw : w < 12) (ht : t ≤ 30) (hs : SZ w = nI (ws_cnt p t)) (h12 : ws_cnt p t ≤ 12) (V : ws_V p t num (fun i => T (12 * w + i))) (inj : ∀ a b, a < t → b < t → num a = num b → a = b) (hn : ∀ a, a < t → num a < t) (ha : a < t) (h1 : p a = true → post (nI (ws_cnt p a))) (h0 : p a = false → post (-1)) : ∀ n i : Nat, i ≤ ws_cnt p t → ws_cnt p t < n + i → (p a = true → i ≤ ws_cnt p a) → wY_find_2 post (nI (num a)) (nI w) (nI c) gl gd gf glt gs SZ YB T YC YO D n (nI i) := by
  have ew : (nI w).toNatClampNeg = w := nI_clamp (by omega)
  intro n
  induction n with
  | zero => intro i l1 l2 l3; omega
  | succ n ih =>
    intro i l1 l2 l3
    refine And.intro (vp_in_nI hw (by omega)) ?_
    rw [ew, hs, ws_yidx, nI_clamp (n := 12 * w + i) (by omega)]
    refine pk_le (ws_cnt p t) i (fun h => h0 ?_) (fun h => ⟨vp_in_nI (by omega) (by omega), ?_⟩)
    · cases hp : p a
      · rfl
      · have l4 := l3 hp
        have l5 := ws_cnt_lt hp ha
        omega
    · obtain ⟨b, hb, hpb, eb⟩ := ws_cnt_ex h
      have eT : T (12 * w + i) = nI (num b) := by
        rw [← eb]
        exact V b hb hpb
      have na := hn a ha
      have nb := hn b hb
      refine pk_eq (num b) (num a) (fun e => ?_) (fun e => nm_r (nI_1 i) (ih (i + 1) (by omega) (by omega) (fun hp => ?_))) eT
      · have e2 := inj b a hb ha e
        rw [e2] at hpb eb
        rw [← eb]
        exact h1 hpb
      · have l4 := l3 hp
        have l5 : i ≠ ws_cnt p a := by
          intro z
          exact e (congrArg num (ws_cnt_inj hpb hp (eb.trans z)))
        omega
theorem ws_yfind {post : Int32 → Prop} {p : Nat → Bool} {w a : Nat} (hw : w < 12) (ht : t ≤ 30) (hs : SZ w = nI (ws_cnt p t)) (h12 : ws_cnt p t ≤ 12) (V : ws_V p t num (fun i => T (12 * w + i))) (inj : ∀ a b, a < t → b < t → num a = num b → a = b) (hn : ∀ a, a < t → num a < t) (ha : a < t) (h1 : p a = true → post (nI (ws_cnt p a))) (h0 : p a = false → post (-1)) : wpY_find post (nI c, gl, gd, gf, glt, gs, SZ, YB, T, YC, YO, D) (nI (num a)) (nI w) := ⟨ws_cnt p t + 1, ws_yfind_lp hw ht hs h12 V inj hn ha h1 h0 (ws_cnt p t + 1) 0 (Nat.zero_le _) (by omega) (fun _ => Nat.zero_le _)⟩
theorem ws_yshared_lp {post : Int32 → Prop} {p q : Nat → Bool} {v w : Nat} (hv : v < 12) (hw : w < 12) (ht : t ≤ 30) (hs : SZ v = nI (ws_cnt p t)) (h12 : ws_cnt p t ≤ 12) (V : ws_V p t num (fun i => T (12 * v + i))) (hs2 : SZ w = nI (ws_cnt q t)) (h122 : ws_cnt q t ≤ 12) (V2 : ws_V q t num (fun i => T (12 * w + i))) (inj : ∀ a b, a < t → b < t → num a = num b → a = b) (hn : ∀ a, a < t → num a < t) (h : post (nI (ws_cnt (fun k => p k && q k) t))) : ∀ n i b : Nat, i ≤ ws_cnt p t → ws_cnt p t < n + i → ws_cnt p b = i → wY_shared_23 post (nI v) (nI w) (nI c) gl gd gf glt gs SZ YB T YC YO D n (nI (ws_cnt (fun k => p k && q k) b)) (nI i) := by
  have ev : (nI v).toNatClampNeg = v := nI_clamp (by omega)
  intro n
  induction n with
  | zero => intro i b l1 l2 l3; omega
  | succ n ih =>
    intro i b l1 l2 l3
    refine And.intro (vp_in_nI hv (by omega)) ?_
    rw [ev, hs, ws_yidx, nI_clamp (n := 12 * v + i) (by omega)]
    refine pk_le (ws_cnt p t) i (fun hl => ?_) (fun hl => ⟨vp_in_nI (by omega) (by omega), ?_⟩)
    · rw [ws_cnt_and (q := q) (l3.trans (show i = ws_cnt p t by omega))]
      exact h
    · obtain ⟨b', hb, hpb, eb⟩ := ws_cnt_ex hl
      have eT : T (12 * v + i) = nI (num b') := by
        rw [← eb]
        exact V b' hb hpb
      rw [ws_cnt_and (q := q) (l3.trans eb.symm), eT]
      have E := ih (i + 1) (b' + 1) (by omega) (by omega) (by rw [ws_cnt_t hpb, eb])
      refine ws_yfind hw ht hs2 h122 V2 inj hn hb (fun hq => ?_) (fun hq => ?_)
      · rw [ws_cnt_t (p := fun k => p k && q k) (by show (p b' && q b') = true; rw [hpb, hq]; rfl)] at E
        have l := ws_cnt_le q b'
        exact br_f (nI_pos (by omega)) (nm_r (nI_1 _) (nm_r (nI_1 i) E))
      · rw [ws_cnt_f (p := fun k => p k && q k) (by show (p b' && q b') = false; rw [hq, Bool.and_false])] at E
        exact br_t (by decide) (nm_r (nI_1 i) E)
theorem ws_yhave_lp {post : Int32 → Prop} {P : Nat → Nat → Bool} {a : Nat} (hc : c ≤ 12) (ht : t ≤ 30) (hs : ∀ w, w < c → SZ w = nI (ws_cnt (P w) t) ∧ ws_cnt (P w) t ≤ 12 ∧ ws_V (P w) t num (fun i => T (12 * w + i))) (inj : ∀ a b, a < t → b < t → num a = num b → a = b) (hn : ∀ a, a < t → num a < t) (ha : a < t) (h : post (ws_set (fun w => P w a) c)) : ∀ n w : Nat, w ≤ c → c < n + w → wY_having_13 post (nI (num a)) (nI c) gl gd gf glt gs SZ YB T YC YO D n (ws_set (fun w => P w a) w) (nI w) := by
  have l := hn a ha
  have na : ¬ nI (num a) < 0 := nI_pos (by omega)
  intro n
  induction n with
  | zero => intro i h1 h2; omega
  | succ n ih =>
    intro w h1 h2
    refine pk_le c w (fun hti => ?_) (fun hit => br_f na ?_)
    · have e : w = c := by omega
      rw [e]
      exact h
    · have E := ih (w + 1) (by omega) (by omega)
      have e : ws_set (fun w => P w a) (w + 1) = if P w a = true then ws_set (fun w => P w a) w ||| ((1 : Int32) <<< (nI w &&& 31)) else ws_set (fun w => P w a) w := rfl
      obtain ⟨s1, s2, s3⟩ := hs w hit
      refine ws_yfind (by omega) ht s1 s2 s3 inj hn ha (fun hp => ?_) (fun hp => ?_)
      · rw [e, if_pos hp] at E
        have l := ws_cnt_le (P w) a
        exact br_f (nI_pos (by omega)) (nm_e (nm_r (nI_1 w) E))
      · rw [e, if_neg (by rw [hp]; decide)] at E
        exact br_t (by decide) (nm_r (nI_1 w) E)
theorem ws_ydraft_lp {post : Int32 → Prop} {p : Nat → Bool} {ow : Nat → Nat} {m : Nat} {x : Int32} (ht : t ≤ 30) (hm : m ≤ 30) (h12 : ws_cnt p t ≤ 12) (V : ws_V p t num D) (hn : ∀ a, a < t → num a < t ∧ ow a ≤ c ∧ (num a < m ↔ ow a < c)) (h0 : x = 0 → post (nI (ws_cnt p t))) (h1 : ¬ x = 0 → x = 1 → post (nI (ws_cnt p t) - nI (ws_cnt (fun k => p k && decide (ow k = c)) t))) (h2 : ¬ x = 0 → ¬ x = 1 → post (nI (ws_cnt (fun k => p k && decide (ow k = c)) t))) : ∀ n i b : Nat, i ≤ ws_cnt p t → ws_cnt p t < n + i → ws_cnt p b = i → wY_draft_22 post x (nI c) gl gd gf (nI m) (nI (ws_cnt p t)) SZ YB T YC YO D n (nI (ws_cnt (fun k => p k && decide (ow k = c)) b)) (nI i) := by
  intro n
  induction n with
  | zero => intro i b l1 l2 l3; omega
  | succ n ih =>
    intro i b l1 l2 l3
    refine pk_le (ws_cnt p t) i (fun hl => ?_) (fun hl => ⟨vp_in_nI (by omega) (by omega), ?_⟩)
    · rw [ws_cnt_and (q := fun k => decide (ow k = c)) (l3.trans (show i = ws_cnt p t by omega))]
      exact br_c h0 (fun z => br_c (h1 z) (h2 z))
    · obtain ⟨b', hb, hpb, eb⟩ := ws_cnt_ex hl
      have ei : (nI i).toNatClampNeg = i := nI_clamp (by omega)
      have eT : D i = nI (num b') := by
        rw [← eb]
        exact V b' hb hpb
      obtain ⟨n1, n2, n3⟩ := hn b' hb
      rw [ws_cnt_and (q := fun k => decide (ow k = c)) (l3.trans eb.symm), ei]
      have E := ih (i + 1) (b' + 1) (by omega) (by omega) (by rw [ws_cnt_t hpb, eb])
      refine pk_lt (num b') m (fun l => ?_) (fun l => ?_) eT
      · have ne : ¬ ow b' = c := by
          have := n3.mp l
          omega
        rw [ws_cnt_f (p := fun k => p k && decide (ow k = c)) (by show (p b' && decide (ow b' = c)) = false; rw [decide_eq_false ne, Bool.and_false])] at E
        exact nm_r (nI_1 i) E
      · have eq : ow b' = c := by
          have : ¬ ow b' < c := fun z => by have := n3.mpr z; omega
          omega
        rw [ws_cnt_t (p := fun k => p k && decide (ow k = c)) (by show (p b' && decide (ow b' = c)) = true; rw [hpb, decide_eq_true eq]; rfl)] at E
        exact nm_r (nI_1 _) (nm_r (nI_1 i) E)
theorem ws_yanc_lp {post : Int32 → Prop} {LIN : Nat → Int32} (hc : c ≤ 12) (hL : ∀ w, w < c → (YB w = -1 ∧ LIN w = (1 : Int32) <<< (nI w &&& 31)) ∨ ∃ b, b < w ∧ YB w = nI b ∧ LIN w = LIN b ||| ((1 : Int32) <<< (nI w &&& 31))) : ∀ (n w : Nat) (s : Int32), w < c → w < n → post (s ||| LIN w) → wY_ancestors_16 post (nI c) gl gd gf glt gs SZ YB T YC YO D (n + 1) s (nI w) := by
  intro n
  induction n with
  | zero => intro w s h1 h2; omega
  | succ n ih =>
    intro w s h1 h2 hp
    have ew : (nI w).toNatClampNeg = w := nI_clamp (by omega)
    refine br_f (nI_pos (by omega)) (nm_e ⟨vp_in_nI (by omega) (by omega), ?_⟩)
    rw [ew]
    rcases hL w h1 with ⟨e1, e2⟩ | ⟨b, hb, e1, e2⟩
    · rw [e2] at hp
      exact nm_r e1 (br_t (by decide) hp)
    · rw [e2] at hp
      refine nm_r e1 (ih b _ (by omega) (by omega) ?_)
      rw [Int32.or_assoc, Int32.or_comm _ (LIN b)]
      exact hp
end

/-! the reference's storing loops -/
section
variable {SZ YB T YC YO : Nat → Int32} {t c : Nat} {gl gd gf glt : Int32}
theorem ws_yopen_lp {post : Int32 → SY → Prop} {v s : Nat} (hv : v < 12) (hs : s ≤ 12) (h : ∀ D' : Nat → Int32, (∀ k, k < s → D' k = T (12 * v + k)) → post (nI s) (nI c, gl, gd, gf, glt, nI s, SZ, YB, T, YC, YO, D')) : ∀ (n i : Nat) (D : Nat → Int32), i ≤ s → s < n + i → (∀ k, k < i → D k = T (12 * v + k)) → wY_open_45 post (nI v) (nI c) gl gd gf glt (nI s) n (nI i) SZ YB T YC YO D := by
  intro n
  induction n with
  | zero => intro i D h1 h2; omega
  | succ n ih =>
    intro i D h1 h2 hD
    refine pk_le s i (fun hl => ?_) (fun hl => ?_)
    · exact h D (fun k hk => hD k (by omega))
    · have ei : (nI i).toNatClampNeg = i := nI_clamp (by omega)
      rw [ws_yidx, nI_clamp (n := 12 * v + i) (by omega), ei]
      refine ⟨vp_in_nI (by omega) (by omega), vp_in_nI (by omega) (by omega), nm_e (nm_r (nI_1 i) (ih (i + 1) _ (by omega) (by omega) ?_))⟩
      intro k hk
      by_cases e : k = i
      · rw [e, pk_us]
      · rw [pk_un e]
        exact hD k (by omega)
theorem ws_yput_lp {post : Int32 → SY → Prop} {j s x : Nat} {D0 : Nat → Int32} (ht : t < 30) (hs : s < 12) (hj : j ≤ s) (h : ∀ D' : Nat → Int32, (∀ k, k ≤ s → D' k = ws_ins j (nI t) D0 k) → post (nI (s + 1)) (nI c, nI (t + 1), gd, gf, glt, nI (s + 1), SZ, YB, T, upd YC t (nI x), upd YO t (nI c), D')) : ∀ (n i : Nat) (D : Nat → Int32), j ≤ i → i ≤ s → i < n + j → ws_SI i s D0 D → wY_put_57 post (nI j) (nI x) (nI c) (nI t) gd gf glt (nI s) n (nI i) SZ YB T YC YO D := by
  intro n
  induction n with
  | zero => intro i D h1 h2 h3; omega
  | succ n ih =>
    intro i D h1 h2 h3 hD
    refine pk_le i j (fun hl => ?_) (fun hl => ?_)
    · have e : i = j := by omega
      rw [e] at hD
      rw [nI_clamp (n := j) (by omega), nI_clamp (n := t) (by omega)]
      exact ⟨vp_in_nI (by omega) (by omega), nm_e ⟨vp_in_nI ht (by omega), nm_e ⟨vp_in_nI ht (by omega), nm_e (nm_r (nI_1 t) (nm_r (nI_1 s) (h _ (ws_SI_e hD))))⟩⟩⟩
    · obtain ⟨k, rfl⟩ : ∃ k, i = k + 1 := ⟨i - 1, by omega⟩
      rw [nI_pred, nI_clamp (n := k) (by omega), nI_clamp (n := k + 1) (by omega), hD.1 k (by omega)]
      exact ⟨vp_in_nI (by omega) (by omega), vp_in_nI (by omega) (by omega), nm_e (nm_r (pk_m1 k) (ih k _ (by omega) (by omega) (by omega) (ws_SI_s hD)))⟩
theorem ws_ycut_lp {post : Int32 → SY → Prop} {j s : Nat} {x : Int32} {D0 : Nat → Int32} (hs : s < 12) (h : ∀ D' : Nat → Int32, (∀ k, k < j → D' k = D0 k) → (∀ k, j ≤ k → k < s → D' k = D0 (k + 1)) → post x (nI c, gl, gd, gf, glt, nI s, SZ, YB, T, YC, YO, D')) : ∀ (n i : Nat) (D : Nat → Int32), j ≤ i → i ≤ s → s < n + i → (∀ k, k < j → D k = D0 k) → (∀ k, j ≤ k → k < i → D k = D0 (k + 1)) → (∀ k, i ≤ k → D k = D0 k) → wY_cut_45 post x (nI c) gl gd gf glt (nI s) n (nI i) SZ YB T YC YO D := by
  intro n
  induction n with
  | zero => intro i D h1 h2 h3; omega
  | succ n ih =>
    intro i D h1 h2 h3 d1 d2 d3
    refine pk_le s i (fun hl => ?_) (fun hl => ?_)
    · exact h D d1 (fun k k1 k2 => d2 k k1 (by omega))
    · rw [nI_1 i, nI_clamp (n := i) (by omega), nI_clamp (n := i + 1) (by omega), d3 (i + 1) (by omega)]
      refine ⟨vp_in_nI (by omega) (by omega), vp_in_nI (by omega) (by omega), nm_e (nm_e (ih (i + 1) _ (by omega) (by omega) (by omega) ?_ ?_ ?_))⟩
      · intro k hk
        rw [pk_un (by omega)]
        exact d1 k hk
      · intro k k1 k2
        by_cases e : k = i
        · rw [e, pk_us]
        · rw [pk_un e]
          exact d2 k k1 (by omega)
      · intro k hk
        rw [pk_un (by omega)]
        exact d3 k (by omega)
theorem ws_yclose_lp {post : Int32 → SY → Prop} {s : Nat} {D T0 : Nat → Int32} (hc : c < 12) (hs : s ≤ 12) (h : ∀ T' : Nat → Int32, (∀ k, k < s → T' (12 * c + k) = D k) → (∀ k, k < 12 * c → T' k = T0 k) → post (nI c) (nI (c + 1), gl, 0, gf, glt, nI s, SZ, YB, T', YC, YO, D)) : ∀ (n i : Nat) (T : Nat → Int32), i ≤ s → s < n + i → (∀ k, k < i → T (12 * c + k) = D k) → (∀ k, k < 12 * c → T k = T0 k) → wY_close_49 post (nI c) gl gd gf glt (nI s) n (nI i) SZ YB T YC YO D := by
  intro n
  induction n with
  | zero => intro i T h1 h2; omega
  | succ n ih =>
    intro i T h1 h2 t1 t2
    refine pk_le s i (fun hl => ?_) (fun hl => ?_)
    · refine nm_r (nI_1 c) ?_
      rw [nI_pred]
      exact h T (fun k hk => t1 k (by omega)) t2
    · rw [ws_yidx, nI_clamp (n := 12 * c + i) (by omega), nI_clamp (n := i) (by omega)]
      refine ⟨vp_in_nI (by omega) (by omega), vp_in_nI (by omega) (by omega), nm_e (nm_r (nI_1 i) (ih (i + 1) _ (by omega) (by omega) ?_ ?_))⟩
      · intro k hk
        by_cases e : k = i
        · rw [e, pk_us]
        · rw [pk_un (by omega)]
          exact t1 k (by omega)
      · intro k hk
        rw [pk_un (by omega)]
        exact t2 k hk
end
end
section
/-! the relation: ow a: the owner of the line at place a of the component's list; num a: its number with the reference; m: how many lines the closed versions have -/
def ws_W (c t m : Nat) (ow num : Nat → Nat) (C O TK YC YO : Nat → Int32) : Prop :=
  (1 ≤ c ∧ c ≤ 12 ∧ t ≤ 30 ∧ m ≤ t) ∧
  (∀ a, a < t → (O a = nI (ow a) ∧ ow a ≤ c ∧ num a < t ∧ (num a < m ↔ ow a < c)) ∧ YO (num a) = nI (ow a) ∧ YC (num a) = C a ∧ (∃ x, x < 128 ∧ C a = nI x) ∧ (∀ i, bt (TK a) i = true → i ≤ c)) ∧
  (∀ a b, a < t → b < t → num a = num b → a = b) ∧
  ws_cnt (ws_q ow c) t = m
def ws_L (c : Nat) (B LIN YB : Nat → Int32) : Prop :=
  ∀ w, w < c → B w = YB w ∧ (∀ i, bt (LIN w) i = true → i ≤ w) ∧ ((YB w = -1 ∧ LIN w = (1 : Int32) <<< (nI w &&& 31)) ∨ ∃ b, b < w ∧ YB w = nI b ∧ LIN w = LIN b ||| ((1 : Int32) <<< (nI w &&& 31)))
def ws_T (c t : Nat) (ow num : Nat → Nat) (TK LIN SZ T : Nat → Int32) : Prop :=
  ∀ w, w < c → SZ w = nI (ws_cnt (ws_p ow TK (LIN w)) t) ∧ ws_cnt (ws_p ow TK (LIN w)) t ≤ 12 ∧ ws_V (ws_p ow TK (LIN w)) t num (fun i => T (12 * w + i))
/-- no draft -/
def ws_N (c t m : Nat) (ow : Nat → Nat) (TK : Nat → Int32) : Prop := m = t ∧ ∀ a, a < t → ow a < c ∧ bt (TK a) c = false
/-- a draft -/
def ws_D (c t m : Nat) (ow num : Nat → Nat) (TK B LIN D : Nat → Int32) (gf glt gs : Int32) : Prop :=
  (∃ v, v < c ∧ gf = nI v ∧ B c = nI v ∧ LIN c = LIN v ||| ((1 : Int32) <<< (nI c &&& 31))) ∧ glt = nI m ∧ gs = nI (ws_cnt (ws_p ow TK (LIN c)) t) ∧ ws_cnt (ws_p ow TK (LIN c)) t ≤ 12 ∧ ws_V (ws_p ow TK (LIN c)) t num D
def i_Rel (k : Nat) (u : SX) (v : SY) : Prop := match u, v with
  | (ft, fc, fd, C, O, TK, B, LIN), (gc, gl, gd, gf, glt, gs, SZ, YB, T, YC, YO, D) =>
    ∃ (c t m : Nat) (ow num : Nat → Nat), (ft = nI t ∧ fc = nI c ∧ gc = nI c ∧ gl = nI t ∧ gd = fd) ∧ ws_W c t m ow num C O TK YC YO ∧ ws_L c B LIN YB ∧ ws_T c t ow num TK LIN SZ T ∧ ((fd = 0 ∧ ws_N c t m ow TK) ∨ (fd = 1 ∧ ws_D c t m ow num TK B LIN D gf glt gs))
theorem i_up {k : Nat} {u : SX} {v : SY} (h : i_Rel k u v) : i_Rel (k + 4) u v := h
theorem ws_el {k : Nat} {u : SX} {v : SY} {P : SX → SY → Prop} (I : i_Rel k u v) (h : ∀ (c t m : Nat) (ow num : Nat → Nat) (fd gf glt gs : Int32) (C O TK B LIN SZ YB T YC YO D : Nat → Int32), ws_W c t m ow num C O TK YC YO → ws_L c B LIN YB → ws_T c t ow num TK LIN SZ T → ((fd = 0 ∧ ws_N c t m ow TK) ∨ (fd = 1 ∧ ws_D c t m ow num TK B LIN D gf glt gs)) → P (nI t, nI c, fd, C, O, TK, B, LIN) (nI c, nI t, fd, gf, glt, gs, SZ, YB, T, YC, YO, D)) : P u v := by
  obtain ⟨ft, fc, fd, C, O, TK, B, LIN⟩ := u
  obtain ⟨gc, gl, gd, gf, glt, gs, SZ, YB, T, YC, YO, D⟩ := v
  dsimp only [i_Rel] at I
  obtain ⟨c, t, m, ow, num, ⟨e1, e2, e3, e4, e5⟩, hW, hL, hT, hD⟩ := I
  subst e1 e2 e3 e4 e5
  exact h c t m ow num _ gf glt gs C O TK B LIN SZ YB T YC YO D hW hL hT hD
section
variable {k c t m : Nat} {ow num : Nat → Nat} {fd gf glt gs : Int32} {C O TK B LIN SZ YB T YC YO D : Nat → Int32}
theorem ws_in (hW : ws_W c t m ow num C O TK YC YO) (hL : ws_L c B LIN YB) (hT : ws_T c t ow num TK LIN SZ T) (hD : (fd = 0 ∧ ws_N c t m ow TK) ∨ (fd = 1 ∧ ws_D c t m ow num TK B LIN D gf glt gs)) : i_Rel k (nI t, nI c, fd, C, O, TK, B, LIN) (nI c, nI t, fd, gf, glt, gs, SZ, YB, T, YC, YO, D) := by
  dsimp only [i_Rel]
  exact ⟨c, t, m, ow, num, ⟨rfl, rfl, rfl, rfl, rfl⟩, hW, hL, hT, hD⟩
theorem ws_hO (hW : ws_W c t m ow num C O TK YC YO) : ∀ a, a < t → O a = nI (ow a) ∧ ow a < 32 := by
  intro a ha
  obtain ⟨⟨_, c2, _, _⟩, hA, _, _⟩ := hW
  obtain ⟨⟨o1, o2, _, _⟩, _⟩ := hA a ha
  exact ⟨o1, by omega⟩
theorem ws_hn (hW : ws_W c t m ow num C O TK YC YO) : ∀ a, a < t → num a < t := by
  intro a ha
  obtain ⟨_, hA, _, _⟩ := hW
  obtain ⟨⟨_, _, n1, _⟩, _⟩ := hA a ha
  exact n1
theorem ws_nC (hW : ws_W c t m ow num C O TK YC YO) : ∀ a, a < t → vp_nar .byte (C a) = C a := by
  intro a ha
  obtain ⟨_, hA, _, _⟩ := hW
  obtain ⟨_, _, _, ⟨x, hx, e⟩, _⟩ := hA a ha
  rw [e]
  exact ws_vbyte hx
theorem ws_nO (hW : ws_W c t m ow num C O TK YC YO) : ∀ a, a < t → vp_nar .byte (O a) = O a := by
  intro a ha
  obtain ⟨e, h⟩ := ws_hO hW a ha
  rw [e]
  exact ws_vbyte (by omega)
theorem ws_nT (hW : ws_W c t m ow num C O TK YC YO) : ∀ a, a < t → vp_nar .short (TK a) = TK a := by
  intro a ha
  obtain ⟨⟨_, c2, _, _⟩, hA, _, _⟩ := hW
  obtain ⟨_, _, _, _, h⟩ := hA a ha
  exact ws_vnar c2 h
theorem ws_bmask {x : Int32} (hc : c ≤ 12) (i : Nat) : bt (ws_mask c x) i = (bt x i && !decide (i = c)) := ws_bta (by omega) i
theorem ws_bmask_le {x : Int32} (hc : c ≤ 12) (h : ∀ i, bt x i = true → i ≤ c) : ∀ i, bt (ws_mask c x) i = true → i ≤ c := by
  intro i hi
  rw [ws_bmask hc, Bool.and_eq_true] at hi
  exact h i hi.1
theorem ws_nM (hW : ws_W c t m ow num C O TK YC YO) : ∀ a, a < t → (ws_mask c (TK a)).toInt16.toInt32 = ws_mask c (TK a) := by
  intro a ha
  obtain ⟨⟨_, c2, _, _⟩, hA, _, _⟩ := hW
  obtain ⟨_, _, _, _, h⟩ := hA a ha
  exact ws_nar c2 (ws_bmask_le c2 h)
theorem ws_Lc (hL : ws_L c B LIN YB) {w i : Nat} (hw : w < c) (hi : w < i) : bt (LIN w) i = false := by
  cases h : bt (LIN w) i
  · rfl
  · have := (hL w hw).2.1 i h
    omega
/-- the bits of the draft's lineage -/
theorem ws_Lb {v : Nat} (hc : c ≤ 12) (hL : ws_L c B LIN YB) (hv : v < c) (i : Nat) : bt (LIN v ||| ((1 : Int32) <<< (nI c &&& 31))) i = true → i ≤ c := by
  intro h
  rw [b_or, ws_bt1 (by omega), Bool.or_eq_true] at h
  rcases h with h | h
  · have := (hL v hv).2.1 i h
    omega
  · have := of_decide_eq_true h
    omega
theorem ws_Lbc {x : Int32} (hc : c ≤ 12) : bt (x ||| ((1 : Int32) <<< (nI c &&& 31))) c = true := by
  rw [b_or, ws_bt1 (by omega), decide_eq_true rfl, Bool.or_true]

/-! the sweep keeps the closed versions -/
theorem ws_sweepR (hW : ws_W c t m ow num C O TK YC YO) (hL : ws_L c B LIN YB) (hT : ws_T c t ow num TK LIN SZ T) {C' O' TK' : Nat → Int32} (sC : ws_SW (ws_q ow c) (fun x => x) t C C') (sO : ws_SW (ws_q ow c) (fun x => x) t O O') (sT : ws_SW (ws_q ow c) (ws_mask c) t TK TK') :
    ∃ ow' num' : Nat → Nat, ws_W c m m ow' num' C' O' TK' YC YO ∧ ws_T c m ow' num' TK' LIN SZ T ∧ ws_N c m m ow' TK' := by
  obtain ⟨⟨c1, c2, t1, m1⟩, hA, inj, hm⟩ := hW
  have hj : ∀ j, j < m → ws_nth (ws_q ow c) t j < t ∧ ws_q ow c (ws_nth (ws_q ow c) t j) = true ∧ ws_cnt (ws_q ow c) (ws_nth (ws_q ow c) t j) = j := fun j h => ws_nth_s (by rw [hm]; exact h)
  have ho : ∀ j, j < m → ow (ws_nth (ws_q ow c) t j) < c := fun j h => of_decide_eq_true (hj j h).2.1
  have eC : ∀ j, j < m → C' j = C (ws_nth (ws_q ow c) t j) := by
    intro j h
    obtain ⟨h1, h2, h3⟩ := hj j h
    have z := sC.2 _ h1 h2
    rw [h3] at z
    exact z
  have eO : ∀ j, j < m → O' j = O (ws_nth (ws_q ow c) t j) := by
    intro j h
    obtain ⟨h1, h2, h3⟩ := hj j h
    have z := sO.2 _ h1 h2
    rw [h3] at z
    exact z
  have eT : ∀ j, j < m → TK' j = ws_mask c (TK (ws_nth (ws_q ow c) t j)) := by
    intro j h
    obtain ⟨h1, h2, h3⟩ := hj j h
    have z := sT.2 _ h1 h2
    rw [h3] at z
    exact z
  refine ⟨fun j => ow (ws_nth (ws_q ow c) t j), fun j => num (ws_nth (ws_q ow c) t j), ⟨⟨c1, c2, by omega, Nat.le_refl _⟩, ?_, ?_, ?_⟩, ?_, rfl, ?_⟩
  · intro a ha
    obtain ⟨h1, h2, h3⟩ := hj a ha
    have h4 := ho a ha
    obtain ⟨⟨o1, o2, n1, n2⟩, y1, y2, x1, b1⟩ := hA _ h1
    have h5 := n2.mpr h4
    refine ⟨⟨by rw [eO a ha]; exact o1, o2, h5, ⟨fun _ => h4, fun _ => h5⟩⟩, y1, by rw [eC a ha]; exact y2, by rw [eC a ha]; exact x1, ?_⟩
    rw [eT a ha]
    exact ws_bmask_le c2 b1
  · intro a b ha hb e
    obtain ⟨h1, h2, h3⟩ := hj a ha
    obtain ⟨g1, g2, g3⟩ := hj b hb
    have z := inj _ _ h1 g1 e
    rw [← h3, ← g3, z]
  · exact ws_cnt_all (fun a ha => decide_eq_true (ho a ha))
  · intro w hw
    obtain ⟨s1, s2, s3⟩ := hT w hw
    have h1 : ∀ k, k < t → ws_q ow c k = true → ws_p (fun j => ow (ws_nth (ws_q ow c) t j)) TK' (LIN w) (ws_cnt (ws_q ow c) k) = ws_p ow TK (LIN w) k := by
      intro k hk hq
      show ws_sh (ow (ws_nth (ws_q ow c) t (ws_cnt (ws_q ow c) k))) (TK' (ws_cnt (ws_q ow c) k)) (LIN w) = ws_sh (ow k) (TK k) (LIN w)
      rw [ws_nth_k hk hq, sT.2 k hk hq]
      exact ws_sh_an (by omega) (ws_Lc hL hw hw)
    have h2 : ∀ k, k < t → ws_p ow TK (LIN w) k = true → ws_q ow c k = true := by
      intro k hk hp
      refine decide_eq_true ?_
      by_cases z : ow k < c
      · exact z
      · obtain ⟨⟨o1, o2, _⟩, _⟩ := hA k hk
        have e : ow k = c := by omega
        have f : ws_p ow TK (LIN w) k = false := ws_sh_own (by rw [e]; exact ws_Lc hL hw hw)
        rw [f] at hp
        exact absurd hp (by decide)
    have e := ws_cnt_sw h1 h2 t (Nat.le_refl t)
    have v := ws_V_sw (num' := fun j => num (ws_nth (ws_q ow c) t j)) h1 h2 (fun k hk hq => by show num (ws_nth (ws_q ow c) t (ws_cnt (ws_q ow c) k)) = num k; rw [ws_nth_k hk hq]) s3
    rw [hm] at e v
    rw [e]
    exact ⟨s1, s2, v⟩
  · intro a ha
    refine ⟨ho a ha, ?_⟩
    rw [eT a ha, ws_bmask c2, decide_eq_true rfl, Bool.not_true, Bool.and_false]
end
end
section
/-! what an insertion, a cut, a close and an open do to the relation's parts -/
theorem ws_ins_c {a t k : Nat} (ha : a ≤ t) (hk : k < t + 1) : k = a ∨ ∃ o, o < t ∧ ((k < a ∧ k = o) ∨ (a ≤ o ∧ k = o + 1)) := by
  rcases ws_tri k a with h | h | ⟨j, h1, h2⟩
  · exact Or.inr ⟨k, by omega, Or.inl ⟨h, rfl⟩⟩
  · exact Or.inl h
  · exact Or.inr ⟨j, by omega, Or.inr ⟨h1, h2⟩⟩
theorem ws_ins_o {α : Type} {a k o : Nat} {x : α} {f : Nat → α} (h : (k < a ∧ k = o) ∨ (a ≤ o ∧ k = o + 1)) : ws_ins a x f k = f o := by
  rcases h with ⟨h1, h2⟩ | ⟨h1, h2⟩
  · rw [ws_ins_lt h1, h2]
  · rw [h2, ws_ins_gt h1]
section
variable {k c t m : Nat} {ow num : Nat → Nat} {fd gf glt gs : Int32} {C O TK B LIN SZ YB T YC YO D : Nat → Int32}
theorem ws_putW (hW : ws_W c t m ow num C O TK YC YO) {a x : Nat} (hx : x < 128) (ht : t < 30) (ha : a ≤ t) {C' O' TK' : Nat → Int32} (eC : ∀ k, k ≤ t → C' k = ws_ins a (nI x) C k) (eO : ∀ k, k ≤ t → O' k = ws_ins a (nI c) O k) (eT : ∀ k, k ≤ t → TK' k = ws_ins a 0 TK k) :
    ws_W c (t + 1) m (ws_ins a c ow) (ws_ins a t num) C' O' TK' (upd YC t (nI x)) (upd YO t (nI c)) := by
  obtain ⟨⟨c1, c2, t1, m1⟩, hA, inj, hm⟩ := hW
  refine ⟨⟨c1, c2, by omega, by omega⟩, ?_, ?_, ?_⟩
  · intro k hk
    rw [eC k (by omega), eO k (by omega), eT k (by omega)]
    rcases ws_ins_c ha hk with rfl | ⟨o, ho, e⟩
    · rw [ws_ins_eq, ws_ins_eq, ws_ins_eq, ws_ins_eq, ws_ins_eq, pk_us, pk_us]
      exact ⟨⟨rfl, Nat.le_refl _, by omega, ⟨fun z => by omega, fun z => by omega⟩⟩, rfl, rfl, ⟨x, hx, rfl⟩, fun i hi => by rw [b_0] at hi; exact absurd hi (by decide)⟩
    · rw [ws_ins_o e, ws_ins_o e, ws_ins_o e, ws_ins_o e, ws_ins_o e]
      obtain ⟨⟨o1, o2, n1, n2⟩, y1, y2, x1, b1⟩ := hA o ho
      have ne : num o ≠ t := by omega
      rw [pk_un ne, pk_un ne]
      exact ⟨⟨o1, o2, by omega, n2⟩, y1, y2, x1, b1⟩
  · intro i j hi hj e
    rcases ws_ins_c ha hi with h1 | ⟨o, ho, h1⟩
    · rcases ws_ins_c ha hj with h2 | ⟨o2, ho2, h2⟩
      · rw [h1, h2]
      · rw [h1, ws_ins_eq, ws_ins_o h2] at e
        obtain ⟨⟨_, _, n1, _⟩, _⟩ := hA o2 ho2
        omega
    · rcases ws_ins_c ha hj with h2 | ⟨o2, ho2, h2⟩
      · rw [h2, ws_ins_eq, ws_ins_o h1] at e
        obtain ⟨⟨_, _, n1, _⟩, _⟩ := hA o ho
        omega
      · rw [ws_ins_o h1, ws_ins_o h2] at e
        have z := inj o o2 ho ho2 e
        omega
  · have h1 : ∀ k, k < a → ws_q (ws_ins a c ow) c k = ws_q ow c k := by
      intro k hk
      unfold ws_q
      rw [ws_ins_lt hk]
    have h2 : ∀ k, a ≤ k → k < t → ws_q (ws_ins a c ow) c (k + 1) = ws_q ow c k := by
      intro k hk _
      unfold ws_q
      rw [ws_ins_gt hk]
    have h3 : ws_q (ws_ins a c ow) c a = false := by
      unfold ws_q
      rw [ws_ins_eq]
      exact decide_eq_false (by omega)
    rw [ws_cnt_ins_0 h1 h2 h3 ha (Nat.le_refl t)]
    exact hm
theorem ws_putP {a : Nat} {TK' : Nat → Int32} (ha : a ≤ t) (eT : ∀ k, k ≤ t → TK' k = ws_ins a 0 TK k) (v : Int32) :
    (∀ k, k < a → ws_p (ws_ins a c ow) TK' v k = ws_p ow TK v k) ∧ (∀ k, a ≤ k → k < t → ws_p (ws_ins a c ow) TK' v (k + 1) = ws_p ow TK v k) ∧ ws_p (ws_ins a c ow) TK' v a = ws_sh c 0 v := by
  refine ⟨fun k hk => ?_, fun k h1 h2 => ?_, ?_⟩
  · show ws_sh (ws_ins a c ow k) (TK' k) v = ws_sh (ow k) (TK k) v
    rw [eT k (by omega), ws_ins_lt hk, ws_ins_lt hk]
  · show ws_sh (ws_ins a c ow (k + 1)) (TK' (k + 1)) v = ws_sh (ow k) (TK k) v
    rw [eT (k + 1) (by omega), ws_ins_gt h1, ws_ins_gt h1]
  · show ws_sh (ws_ins a c ow a) (TK' a) v = ws_sh c 0 v
    rw [eT a ha, ws_ins_eq, ws_ins_eq]
theorem ws_putT (hL : ws_L c B LIN YB) (hT : ws_T c t ow num TK LIN SZ T) {a : Nat} (ha : a ≤ t) {TK' : Nat → Int32} (eT : ∀ k, k ≤ t → TK' k = ws_ins a 0 TK k) : ws_T c (t + 1) (ws_ins a c ow) (ws_ins a t num) TK' LIN SZ T := by
  intro w hw
  obtain ⟨s1, s2, s3⟩ := hT w hw
  obtain ⟨h1, h2, h3⟩ := ws_putP (c := c) (ow := ow) ha eT (LIN w)
  rw [ws_sh_own (ws_Lc hL hw hw)] at h3
  have e := ws_cnt_ins_0 h1 h2 h3 ha (Nat.le_refl t)
  rw [e]
  exact ⟨s1, s2, ws_V_ins0 h1 h2 h3 ha s3⟩
theorem ws_putD (hc : c ≤ 12) (hD : ws_D c t m ow num TK B LIN D gf glt gs) {a : Nat} (ha : a ≤ t) (hs : ws_cnt (ws_p ow TK (LIN c)) t < 12) {TK' D' : Nat → Int32} (eT : ∀ k, k ≤ t → TK' k = ws_ins a 0 TK k) (eD : ∀ k, k ≤ ws_cnt (ws_p ow TK (LIN c)) t → D' k = ws_ins (ws_cnt (ws_p ow TK (LIN c)) a) (nI t) D k) : ws_D c (t + 1) m (ws_ins a c ow) (ws_ins a t num) TK' B LIN D' gf glt (nI (ws_cnt (ws_p ow TK (LIN c)) t + 1)) := by
  obtain ⟨⟨v, v1, v2, v3, v4⟩, d1, d2, d3, d4⟩ := hD
  obtain ⟨h1, h2, h3⟩ := ws_putP (c := c) (ow := ow) ha eT (LIN c)
  rw [ws_sh_0 (by rw [v4]; exact ws_Lbc hc)] at h3
  have e := ws_cnt_ins_1 h1 h2 h3 ha (Nat.le_refl t)
  refine ⟨⟨v, v1, v2, v3, v4⟩, d1, by rw [e], by rw [e]; omega, ws_V_ins1 h1 h2 h3 ha eD d4⟩
/-! a cut -/
theorem ws_cutW (hW : ws_W c t m ow num C O TK YC YO) (a : Nat) : ws_W c t m ow num C O (upd TK a (TK a ||| ((1 : Int32) <<< (nI c &&& 31)))) YC YO := by
  obtain ⟨⟨c1, c2, t1, m1⟩, hA, inj, hm⟩ := hW
  refine ⟨⟨c1, c2, t1, m1⟩, fun k hk => ?_, inj, hm⟩
  obtain ⟨h1, y1, y2, x1, b1⟩ := hA k hk
  refine ⟨h1, y1, y2, x1, fun i hi => ?_⟩
  by_cases e : k = a
  · rw [e, pk_us, b_or, ws_bt1 (by omega), Bool.or_eq_true] at hi
    rcases hi with hi | hi
    · rw [← e] at hi
      exact b1 i hi
    · have := of_decide_eq_true hi
      omega
  · rw [pk_un e] at hi
    exact b1 i hi
theorem ws_cutT (hc : c ≤ 12) (hL : ws_L c B LIN YB) (hT : ws_T c t ow num TK LIN SZ T) (a : Nat) : ws_T c t ow num (upd TK a (TK a ||| ((1 : Int32) <<< (nI c &&& 31)))) LIN SZ T := by
  intro w hw
  obtain ⟨s1, s2, s3⟩ := hT w hw
  have h : ∀ k, k < t → ws_p ow (upd TK a (TK a ||| ((1 : Int32) <<< (nI c &&& 31)))) (LIN w) k = ws_p ow TK (LIN w) k := by
    intro k _
    show ws_sh (ow k) (upd TK a (TK a ||| ((1 : Int32) <<< (nI c &&& 31))) k) (LIN w) = ws_sh (ow k) (TK k) (LIN w)
    by_cases e : k = a
    · rw [e, pk_us]
      exact ws_sh_or (by omega) (ws_Lc hL hw hw)
    · rw [pk_un e]
  rw [ws_cnt_congr h]
  exact ⟨s1, s2, ws_V_congr h (fun _ _ => rfl) s3⟩
theorem ws_cutD (hc : c ≤ 12) (hD : ws_D c t m ow num TK B LIN D gf glt gs) {a : Nat} (ha : a < t) (hp : ws_p ow TK (LIN c) a = true) {D' : Nat → Int32} {s : Nat} (hs : ws_cnt (ws_p ow TK (LIN c)) t = s + 1) (hD1 : ∀ i, i < ws_cnt (ws_p ow TK (LIN c)) a → D' i = D i) (hD2 : ∀ i, ws_cnt (ws_p ow TK (LIN c)) a ≤ i → i < s → D' i = D (i + 1)) : ws_D c t m ow num (upd TK a (TK a ||| ((1 : Int32) <<< (nI c &&& 31)))) B LIN D' gf glt (nI s) := by
  obtain ⟨⟨v, v1, v2, v3, v4⟩, d1, d2, d3, d4⟩ := hD
  have h1 : ∀ k, k ≠ a → ws_p ow (upd TK a (TK a ||| ((1 : Int32) <<< (nI c &&& 31)))) (LIN c) k = ws_p ow TK (LIN c) k := by
    intro k e
    show ws_sh (ow k) (upd TK a (TK a ||| ((1 : Int32) <<< (nI c &&& 31))) k) (LIN c) = ws_sh (ow k) (TK k) (LIN c)
    rw [pk_un e]
  have h2 : ws_p ow (upd TK a (TK a ||| ((1 : Int32) <<< (nI c &&& 31)))) (LIN c) a = false := by
    show ws_sh (ow a) (upd TK a (TK a ||| ((1 : Int32) <<< (nI c &&& 31))) a) (LIN c) = false
    rw [pk_us]
    exact ws_sh_cut (by omega) (by rw [v4]; exact ws_Lbc hc)
  have e := (ws_cnt_cut h1 h2 hp t).2 ha
  have e2 : ws_cnt (ws_p ow (upd TK a (TK a ||| ((1 : Int32) <<< (nI c &&& 31)))) (LIN c)) t = s := by omega
  refine ⟨⟨v, v1, v2, v3, v4⟩, d1, by rw [e2], by rw [e2]; omega, ws_V_cut h1 h2 hp ha hD1 (fun i i1 i2 => hD2 i i1 (by omega)) d4⟩
/-! a close -/
theorem ws_closeW (hW : ws_W c t m ow num C O TK YC YO) (hc : c < 12) : ws_W (c + 1) t t ow num C O TK YC YO ∧ ws_N (c + 1) t t ow TK := by
  obtain ⟨⟨c1, c2, t1, m1⟩, hA, inj, hm⟩ := hW
  refine ⟨⟨⟨by omega, by omega, t1, Nat.le_refl _⟩, fun k hk => ?_, inj, ws_cnt_all (fun k hk => ?_)⟩, rfl, fun k hk => ?_⟩
  · obtain ⟨⟨o1, o2, n1, n2⟩, y1, y2, x1, b1⟩ := hA k hk
    exact ⟨⟨o1, by omega, n1, ⟨fun _ => by omega, fun _ => n1⟩⟩, y1, y2, x1, fun i hi => by have := b1 i hi; omega⟩
  · obtain ⟨⟨o1, o2, n1, n2⟩, y1, y2, x1, b1⟩ := hA k hk
    exact decide_eq_true (by omega)
  · obtain ⟨⟨o1, o2, n1, n2⟩, y1, y2, x1, b1⟩ := hA k hk
    refine ⟨by omega, ?_⟩
    cases h : bt (TK k) (c + 1)
    · rfl
    · have := b1 _ h
      omega
theorem ws_closeL (hc : c < 12) (hL : ws_L c B LIN YB) (hD : ws_D c t m ow num TK B LIN D gf glt gs) : ws_L (c + 1) B LIN (upd YB c gf) := by
  obtain ⟨⟨v, v1, v2, v3, v4⟩, d1, d2, d3, d4⟩ := hD
  intro w hw
  by_cases e : w = c
  · rw [e, pk_us]
    exact ⟨v3.trans v2.symm, fun i hi => ws_Lb (by omega) hL v1 i (by rw [← v4]; exact hi), Or.inr ⟨v, v1, v2, v4⟩⟩
  · rw [pk_un e]
    exact hL w (by omega)
theorem ws_closeT (hc : c < 12) (hT : ws_T c t ow num TK LIN SZ T) (hD : ws_D c t m ow num TK B LIN D gf glt gs) {T' : Nat → Int32} (h1 : ∀ k, k < ws_cnt (ws_p ow TK (LIN c)) t → T' (12 * c + k) = D k) (h2 : ∀ k, k < 12 * c → T' k = T k) : ws_T (c + 1) t ow num TK LIN (upd SZ c gs) T' := by
  obtain ⟨⟨v, v1, v2, v3, v4⟩, d1, d2, d3, d4⟩ := hD
  intro w hw
  by_cases e : w = c
  · rw [e, pk_us]
    exact ⟨d2, d3, ws_V_congr (fun _ _ => rfl) h1 d4⟩
  · rw [pk_un e]
    obtain ⟨s1, s2, s3⟩ := hT w (by omega)
    exact ⟨s1, s2, ws_V_congr (fun _ _ => rfl) (fun i hi => h2 _ (by omega)) s3⟩
/-! an open -/
theorem ws_openP (hc : c ≤ 12) (hN : ws_N c t m ow TK) (x : Int32) : ∀ k, k < t → ws_p ow TK (x ||| ((1 : Int32) <<< (nI c &&& 31))) k = ws_p ow TK x k := by
  intro k hk
  obtain ⟨o, b⟩ := hN.2 k hk
  exact ws_sh_new (by omega) o b
theorem ws_openL {x y : Int32} (hL : ws_L c B LIN YB) : ws_L c (upd B c x) (upd LIN c y) YB := by
  intro w hw
  obtain ⟨l1, l2, l3⟩ := hL w hw
  rw [pk_un (show w ≠ c by omega), pk_un (show w ≠ c by omega)]
  refine ⟨l1, l2, ?_⟩
  rcases l3 with l3 | ⟨b, hb, b1, b2⟩
  · exact Or.inl l3
  · exact Or.inr ⟨b, hb, b1, by rw [pk_un (show b ≠ c by omega)]; exact b2⟩
theorem ws_openT {y : Int32} (hT : ws_T c t ow num TK LIN SZ T) : ws_T c t ow num TK (upd LIN c y) SZ T := by
  intro w hw
  rw [pk_un (show w ≠ c by omega)]
  exact hT w hw
theorem ws_openD (hc : c ≤ 12) (hT : ws_T c t ow num TK LIN SZ T) (hN : ws_N c t m ow TK) {v : Nat} (hv : v < c) {D' : Nat → Int32} (h : ∀ k, k < ws_cnt (ws_p ow TK (LIN v)) t → D' k = T (12 * v + k)) : ws_D c t m ow num TK (upd B c (nI v)) (upd LIN c (LIN v ||| ((1 : Int32) <<< (nI c &&& 31)))) D' (nI v) (nI m) (nI (ws_cnt (ws_p ow TK (LIN v)) t)) := by
  have P := ws_openP hc hN (LIN v)
  obtain ⟨s1, s2, s3⟩ := hT v hv
  refine ⟨⟨v, hv, rfl, pk_us, by rw [pk_us, pk_un (show v ≠ c by omega)]⟩, rfl, ?_, ?_, ?_⟩
  · rw [pk_us, ws_cnt_congr P]
  · rw [pk_us, ws_cnt_congr P]
    exact s2
  · rw [pk_us]
    exact ws_V_congr P h s3
end
end
section
/-! the calls that only read -/
theorem ws_ver {c : Nat} (hc : c ≤ 12) (x : Int32) : (x < 0 ∨ nI c ≤ x) ∨ ∃ w, w < c ∧ x = nI w := by
  rcases pk_ix x (n := c) (by omega) with z | z | z
  · exact Or.inl (Or.inl z)
  · exact Or.inl (Or.inr z)
  · exact Or.inr z
section
variable {k c t m : Nat} {ow num : Nat → Nat} {fd gl gd gf glt gs : Int32} {C O TK B LIN SZ YB T YC YO D : Nat → Int32}
theorem ws_at (hW : ws_W c t m ow num C O TK YC YO) (hT : ws_T c t ow num TK LIN SZ T) (v1 v2 : Int32) :
    ((∀ post : Int32 → Prop, post (-1) → wpX_lineAt post (nI t, nI c, fd, C, O, TK, B, LIN) v1 v2) ∧ (∀ post : Int32 → Prop, post (-1) → wpY_at post (nI c, gl, gd, gf, glt, gs, SZ, YB, T, YC, YO, D) v1 v2)) ∨
    ∃ a, a < t ∧ (∀ post : Int32 → Prop, post (nI a) → wpX_lineAt post (nI t, nI c, fd, C, O, TK, B, LIN) v1 v2) ∧ (∀ post : Int32 → Prop, post (nI (num a)) → wpY_at post (nI c, gl, gd, gf, glt, gs, SZ, YB, T, YC, YO, D) v1 v2) := by
  have hO := ws_hO hW
  obtain ⟨⟨c1, c2, t1, m1⟩, hA, inj, hm⟩ := hW
  unfold wpX_lineAt wpY_at
  dsimp only
  rcases ws_ver c2 v1 with hb | ⟨w, hw, rfl⟩
  · exact Or.inl ⟨fun post h => ws_xver_f hb (br_t rfl h), fun post h => ws_yver_f hb (br_t rfl h)⟩
  · have ew : (nI w).toNatClampNeg = w := nI_clamp (by omega)
    have i13 : vp_in (nI w) 13 := vp_in_nI (by omega) (by omega)
    have i12 : vp_in (nI w) 12 := vp_in_nI (by omega) (by omega)
    obtain ⟨s1, s2, s3⟩ := hT w hw
    rw [ew, s1]
    by_cases h2 : v2 < 0
    · exact Or.inl ⟨fun post h => ws_xver_t hw c2 (br_f (by decide) (br_t h2 h)), fun post h => ws_yver_t hw c2 (br_f (by decide) (br_t h2 h))⟩
    · obtain ⟨j, hj, rfl⟩ := nI_of h2
      rw [ws_yidx]
      by_cases h3 : j < ws_cnt (ws_p ow TK (LIN w)) t
      · obtain ⟨a, ha, hp, ea⟩ := ws_cnt_ex h3
        have eT : T (12 * w + j) = nI (num a) := by
          rw [← ea]
          exact s3 a ha hp
        rw [nI_clamp (n := 12 * w + j) (by omega), eT]
        refine Or.inr ⟨a, ha, fun post h => ws_xver_t hw c2 (br_f (by decide) (br_f h2 ⟨i13, ?_⟩)), fun post h => ws_yver_t hw c2 (br_f (by decide) (br_f h2 ⟨i12, br_f (nI_ge h3 (by omega)) ⟨vp_in_nI (by omega) (by omega), h⟩⟩))⟩
        refine ws_xfind hj t1 hO (fun a' ha' hp' ea' => ?_) (fun z => by omega)
        rw [ws_cnt_inj hp' hp (ea'.trans ea.symm)]
        exact h
      · refine Or.inl ⟨fun post h => ws_xver_t hw c2 (br_f (by decide) (br_f h2 ⟨i13, ?_⟩)), fun post h => ws_yver_t hw c2 (br_f (by decide) (br_f h2 ⟨i12, br_t (nI_le (by omega) hj) h⟩))⟩
        refine ws_xfind hj t1 hO (fun a' ha' hp' ea' => ?_) (fun z => h)
        have := ws_cnt_lt hp' ha'
        omega
end
theorem i_vc_versions {k : Nat} {u : SX} {v : SY} (I : i_Rel k u v) (hk : k + 4 ≤ 2048) : wpX_versions (fun r => wpY_versions (fun r' => r' = r ∧ i_Rel (k + 4) u v) v) u := by
  refine ws_el (P := fun u v => wpX_versions (fun r => wpY_versions (fun r' => r' = r ∧ i_Rel (k + 4) u v) v) u) I ?_
  intro c t m ow num fd gf glt gs C O TK B LIN SZ YB T YC YO D hW hL hT hD
  exact ⟨rfl, ws_in hW hL hT hD⟩
theorem i_vc_length {k : Nat} {u : SX} {v : SY} (I : i_Rel k u v) (hk : k + 4 ≤ 2048) (v1 : Int32) : wpX_length (fun r => wpY_length (fun r' => r' = r ∧ i_Rel (k + 4) u v) v v1) u v1 := by
  refine ws_el (P := fun u v => wpX_length (fun r => wpY_length (fun r' => r' = r ∧ i_Rel (k + 4) u v) v v1) u v1) I ?_
  intro c t m ow num fd gf glt gs C O TK B LIN SZ YB T YC YO D hW hL hT hD
  have R := ws_in (k := k + 4) hW hL hT hD
  have hO := ws_hO hW
  obtain ⟨⟨c1, c2, t1, m1⟩, hA, inj, hm⟩ := hW
  unfold wpX_length wpY_length
  dsimp only
  rcases ws_ver c2 v1 with hb | ⟨w, hw, rfl⟩
  · exact ws_xver_f hb (br_t rfl (ws_yver_f hb (br_t rfl ⟨rfl, R⟩)))
  · obtain ⟨s1, s2, s3⟩ := hT w hw
    rw [nI_clamp (n := w) (by omega), s1]
    exact ws_xver_t hw c2 (br_f (by decide) ⟨vp_in_nI (by omega) (by omega), ws_xlen t1 hO (ws_yver_t hw c2 (br_f (by decide) ⟨vp_in_nI (by omega) (by omega), rfl, R⟩))⟩)
theorem i_vc_line {k : Nat} {u : SX} {v : SY} (I : i_Rel k u v) (hk : k + 4 ≤ 2048) (v1 : Int32) (v2 : Int32) : wpX_line (fun r => wpY_line (fun r' => r' = r ∧ i_Rel (k + 4) u v) v v1 v2) u v1 v2 := by
  refine ws_el (P := fun u v => wpX_line (fun r => wpY_line (fun r' => r' = r ∧ i_Rel (k + 4) u v) v v1 v2) u v1 v2) I ?_
  intro c t m ow num fd gf glt gs C O TK B LIN SZ YB T YC YO D hW hL hT hD
  have R := ws_in (k := k + 4) hW hL hT hD
  have A := fun fd gl gd gf glt gs B YB D => ws_at (fd := fd) (gl := gl) (gd := gd) (gf := gf) (glt := glt) (gs := gs) (B := B) (YB := YB) (D := D) hW hT v1 v2
  obtain ⟨⟨c1, c2, t1, m1⟩, hA, inj, hm⟩ := hW
  unfold wpX_line wpY_line
  dsimp only
  rcases A fd (nI t) fd gf glt gs B YB D with ⟨hx, hy⟩ | ⟨a, ha, hx, hy⟩
  · exact hx _ (br_f (by decide) (hy _ (br_f (by decide) ⟨rfl, R⟩)))
  · obtain ⟨⟨o1, o2, n1, n2⟩, y1, y2, x1, b1⟩ := hA a ha
    refine hx _ (br_t (nI_pos' (by omega)) ⟨vp_in_nI (by omega) (by omega), hy _ (br_t (nI_pos' (by omega)) ⟨vp_in_nI (by omega) (by omega), ?_, R⟩)⟩)
    rw [nI_clamp (n := a) (by omega), nI_clamp (n := num a) (by omega)]
    exact y2
theorem i_vc_origin {k : Nat} {u : SX} {v : SY} (I : i_Rel k u v) (hk : k + 4 ≤ 2048) (v1 : Int32) (v2 : Int32) : wpX_origin (fun r => wpY_origin (fun r' => r' = r ∧ i_Rel (k + 4) u v) v v1 v2) u v1 v2 := by
  refine ws_el (P := fun u v => wpX_origin (fun r => wpY_origin (fun r' => r' = r ∧ i_Rel (k + 4) u v) v v1 v2) u v1 v2) I ?_
  intro c t m ow num fd gf glt gs C O TK B LIN SZ YB T YC YO D hW hL hT hD
  have R := ws_in (k := k + 4) hW hL hT hD
  have A := fun fd gl gd gf glt gs B YB D => ws_at (fd := fd) (gl := gl) (gd := gd) (gf := gf) (glt := glt) (gs := gs) (B := B) (YB := YB) (D := D) hW hT v1 v2
  obtain ⟨⟨c1, c2, t1, m1⟩, hA, inj, hm⟩ := hW
  unfold wpX_origin wpY_origin
  dsimp only
  rcases A fd (nI t) fd gf glt gs B YB D with ⟨hx, hy⟩ | ⟨a, ha, hx, hy⟩
  · exact hx _ (br_f (by decide) (hy _ (br_f (by decide) ⟨rfl, R⟩)))
  · obtain ⟨⟨o1, o2, n1, n2⟩, y1, y2, x1, b1⟩ := hA a ha
    refine hx _ (br_t (nI_pos' (by omega)) ⟨vp_in_nI (by omega) (by omega), hy _ (br_t (nI_pos' (by omega)) ⟨vp_in_nI (by omega) (by omega), ?_, R⟩)⟩)
    rw [nI_clamp (n := a) (by omega), nI_clamp (n := num a) (by omega)]
    exact y1.trans o1.symm
theorem i_vc_base {k : Nat} {u : SX} {v : SY} (I : i_Rel k u v) (hk : k + 4 ≤ 2048) (v1 : Int32) : wpX_base (fun r => wpY_base (fun r' => r' = r ∧ i_Rel (k + 4) u v) v v1) u v1 := by
  refine ws_el (P := fun u v => wpX_base (fun r => wpY_base (fun r' => r' = r ∧ i_Rel (k + 4) u v) v v1) u v1) I ?_
  intro c t m ow num fd gf glt gs C O TK B LIN SZ YB T YC YO D hW hL hT hD
  have R := ws_in (k := k + 4) hW hL hT hD
  obtain ⟨⟨c1, c2, t1, m1⟩, hA, inj, hm⟩ := hW
  unfold wpX_base wpY_base
  dsimp only
  rcases ws_ver c2 v1 with hb | ⟨w, hw, rfl⟩
  · exact ws_xver_f hb (br_t rfl (ws_yver_f hb (br_t rfl ⟨rfl, R⟩)))
  · rw [nI_clamp (n := w) (by omega)]
    exact ws_xver_t hw c2 (br_f (by decide) ⟨vp_in_nI (by omega) (by omega), ws_yver_t hw c2 (br_f (by decide) ⟨vp_in_nI (by omega) (by omega), (hL w hw).1.symm, R⟩)⟩)
theorem i_vc_ancestors {k : Nat} {u : SX} {v : SY} (I : i_Rel k u v) (hk : k + 4 ≤ 2048) (v1 : Int32) : wpX_ancestors (fun r => wpY_ancestors (fun r' => r' = r ∧ i_Rel (k + 4) u v) v v1) u v1 := by
  refine ws_el (P := fun u v => wpX_ancestors (fun r => wpY_ancestors (fun r' => r' = r ∧ i_Rel (k + 4) u v) v v1) u v1) I ?_
  intro c t m ow num fd gf glt gs C O TK B LIN SZ YB T YC YO D hW hL hT hD
  have R := ws_in (k := k + 4) hW hL hT hD
  obtain ⟨⟨c1, c2, t1, m1⟩, hA, inj, hm⟩ := hW
  unfold wpX_ancestors wpY_ancestors
  dsimp only
  rcases ws_ver c2 v1 with hb | ⟨w, hw, rfl⟩
  · exact ws_xver_f hb (br_t rfl (ws_yver_f hb (br_t rfl ⟨1, br_t (by decide) ⟨rfl, R⟩⟩)))
  · rw [nI_clamp (n := w) (by omega)]
    refine ws_xver_t hw c2 (br_f (by decide) ⟨vp_in_nI (by omega) (by omega), ws_yver_t hw c2 (br_f (by decide) ⟨w + 1 + 1, ?_⟩)⟩)
    exact ws_yanc_lp (LIN := LIN) c2 (fun w hw => (hL w hw).2.2) (w + 1) w 0 hw (by omega) ⟨Int32.zero_or, R⟩
theorem i_vc_shared {k : Nat} {u : SX} {v : SY} (I : i_Rel k u v) (hk : k + 4 ≤ 2048) (v1 : Int32) (v2 : Int32) : wpX_shared (fun r => wpY_shared (fun r' => r' = r ∧ i_Rel (k + 4) u v) v v1 v2) u v1 v2 := by
  refine ws_el (P := fun u v => wpX_shared (fun r => wpY_shared (fun r' => r' = r ∧ i_Rel (k + 4) u v) v v1 v2) u v1 v2) I ?_
  intro c t m ow num fd gf glt gs C O TK B LIN SZ YB T YC YO D hW hL hT hD
  have R := ws_in (k := k + 4) hW hL hT hD
  have hO := ws_hO hW
  have hn := ws_hn hW
  obtain ⟨⟨c1, c2, t1, m1⟩, hA, inj, hm⟩ := hW
  unfold wpX_shared wpY_shared
  dsimp only
  rcases ws_ver c2 v1 with hb | ⟨w, hw, rfl⟩
  · exact ws_xver_f hb (br_t rfl (ws_yver_f hb (br_t rfl ⟨rfl, R⟩)))
  · rcases ws_ver c2 v2 with hb | ⟨x, hx, rfl⟩
    · exact ws_xver_t hw c2 (br_f (by decide) (ws_xver_f hb (br_t rfl (ws_yver_t hw c2 (br_f (by decide) (ws_yver_f hb (br_t rfl ⟨rfl, R⟩)))))))
    · obtain ⟨s1, s2, s3⟩ := hT w hw
      obtain ⟨r1, r2, r3⟩ := hT x hx
      refine ws_xver_t hw c2 (br_f (by decide) (ws_xver_t hx c2 (br_f (by decide) ⟨t + 1, ?_⟩)))
      refine ws_xshared_lp (ow := ow) (show w < 13 by omega) (show x < 13 by omega) t1 hO ?_ (t + 1) 0 (by omega) (by omega)
      refine ws_yver_t hw c2 (br_f (by decide) (ws_yver_t hx c2 (br_f (by decide) ⟨ws_cnt (ws_p ow TK (LIN w)) t + 1, ?_⟩)))
      exact ws_yshared_lp (num := num) (show w < 12 by omega) (show x < 12 by omega) t1 s1 s2 s3 r1 r2 r3 inj hn ⟨rfl, R⟩ (ws_cnt (ws_p ow TK (LIN w)) t + 1) 0 0 (Nat.zero_le _) (by omega) rfl
theorem i_vc_placeIn {k : Nat} {u : SX} {v : SY} (I : i_Rel k u v) (hk : k + 4 ≤ 2048) (v1 : Int32) (v2 : Int32) (v3 : Int32) : wpX_placeIn (fun r => wpY_placeIn (fun r' => r' = r ∧ i_Rel (k + 4) u v) v v1 v2 v3) u v1 v2 v3 := by
  refine ws_el (P := fun u v => wpX_placeIn (fun r => wpY_placeIn (fun r' => r' = r ∧ i_Rel (k + 4) u v) v v1 v2 v3) u v1 v2 v3) I ?_
  intro c t m ow num fd gf glt gs C O TK B LIN SZ YB T YC YO D hW hL hT hD
  have R := ws_in (k := k + 4) hW hL hT hD
  have hO := ws_hO hW
  have hn := ws_hn hW
  have A := fun fd gl gd gf glt gs B YB D => ws_at (fd := fd) (gl := gl) (gd := gd) (gf := gf) (glt := glt) (gs := gs) (B := B) (YB := YB) (D := D) hW hT v1 v2
  obtain ⟨⟨c1, c2, t1, m1⟩, hA, inj, hm⟩ := hW
  unfold wpX_placeIn wpY_placeIn
  dsimp only
  rcases A fd (nI t) fd gf glt gs B YB D with ⟨hx, hy⟩ | ⟨a, ha, hx, hy⟩
  · exact hx _ (br_t (by decide) (hy _ (br_t (by decide) ⟨rfl, R⟩)))
  · have l := hn a ha
    have pa : ¬ nI a < 0 := nI_pos (by omega)
    have pn : ¬ nI (num a) < 0 := nI_pos (by omega)
    rcases ws_ver c2 v3 with hb | ⟨w, hw, rfl⟩
    · exact hx _ (br_f pa (ws_xver_f hb (br_t rfl (hy _ (br_f pn (ws_yver_f hb (br_t rfl ⟨rfl, R⟩)))))))
    · obtain ⟨s1, s2, s3⟩ := hT w hw
      rw [nI_clamp (n := w) (by omega)]
      refine hx _ (br_f pa (ws_xver_t hw c2 (br_f (by decide) ⟨vp_in_nI (by omega) (by omega), ?_⟩)))
      refine ws_xshows ha t1 hO (fun hp => br_f (by decide) ⟨a + 1, ?_⟩) (fun hp => br_t rfl ?_)
      · refine ws_xplace_lp (show w < 13 by omega) ha t1 hO ?_ (a + 1) 0 (by omega) (by omega)
        refine hy _ (br_f pn (ws_yver_t hw c2 (br_f (by decide) ?_)))
        exact ws_yfind (show w < 12 by omega) t1 s1 s2 s3 inj hn ha (fun _ => ⟨rfl, R⟩) (fun z => by rw [hp] at z; exact absurd z (by decide))
      · refine hy _ (br_f pn (ws_yver_t hw c2 (br_f (by decide) ?_)))
        exact ws_yfind (show w < 12 by omega) t1 s1 s2 s3 inj hn ha (fun z => by rw [hp] at z; exact absurd z (by decide)) (fun _ => ⟨rfl, R⟩)
theorem i_vc_having {k : Nat} {u : SX} {v : SY} (I : i_Rel k u v) (hk : k + 4 ≤ 2048) (v1 : Int32) (v2 : Int32) : wpX_having (fun r => wpY_having (fun r' => r' = r ∧ i_Rel (k + 4) u v) v v1 v2) u v1 v2 := by
  refine ws_el (P := fun u v => wpX_having (fun r => wpY_having (fun r' => r' = r ∧ i_Rel (k + 4) u v) v v1 v2) u v1 v2) I ?_
  intro c t m ow num fd gf glt gs C O TK B LIN SZ YB T YC YO D hW hL hT hD
  have R := ws_in (k := k + 4) hW hL hT hD
  have hO := ws_hO hW
  have hn := ws_hn hW
  have A := fun fd gl gd gf glt gs B YB D => ws_at (fd := fd) (gl := gl) (gd := gd) (gf := gf) (glt := glt) (gs := gs) (B := B) (YB := YB) (D := D) hW hT v1 v2
  obtain ⟨⟨c1, c2, t1, m1⟩, hA, inj, hm⟩ := hW
  unfold wpX_having wpY_having
  dsimp only
  rcases A fd (nI t) fd gf glt gs B YB D with ⟨hx, hy⟩ | ⟨a, ha, hx, hy⟩
  · have n0 : ¬ nI c ≤ 0 := nI_nle (by omega) (by omega)
    exact hx _ ⟨1, br_f n0 (br_t (by decide) (hy _ ⟨1, br_f n0 (br_t (by decide) ⟨rfl, R⟩)⟩))⟩
  · refine hx _ ⟨c + 1, ws_xhave_lp (ow := ow) c2 ha t1 hO ?_ (c + 1) 0 (by omega) (by omega)⟩
    exact hy _ ⟨c + 1, ws_yhave_lp (P := fun w => ws_p ow TK (LIN w)) c2 t1 hT inj hn ha ⟨rfl, R⟩ (c + 1) 0 (by omega) (by omega)⟩
theorem i_vc_draft {k : Nat} {u : SX} {v : SY} (I : i_Rel k u v) (hk : k + 4 ≤ 2048) (v1 : Int32) : wpX_draft (fun r => wpY_draft (fun r' => r' = r ∧ i_Rel (k + 4) u v) v v1) u v1 := by
  refine ws_el (P := fun u v => wpX_draft (fun r => wpY_draft (fun r' => r' = r ∧ i_Rel (k + 4) u v) v v1) u v1) I ?_
  intro c t m ow num fd gf glt gs C O TK B LIN SZ YB T YC YO D hW hL hT hD
  have R := ws_in (k := k + 4) hW hL hT hD
  have hO := ws_hO hW
  obtain ⟨⟨c1, c2, t1, m1⟩, hA, inj, hm⟩ := hW
  unfold wpX_draft wpY_draft
  dsimp only
  rcases hD with ⟨rfl, hN⟩ | ⟨rfl, v0, d1, d2, d3, d4⟩
  · exact br_t rfl (br_t rfl ⟨rfl, R⟩)
  · subst d1 d2
    refine br_f (by decide) (br_c (fun z => br_f (by decide) (br_t z ⟨rfl, R⟩)) (fun z => br_c (fun y => ⟨t + 1, ?_⟩) (fun y => br_f (by decide) (br_f z (br_f y ⟨rfl, R⟩)))))
    have hn : ∀ a, a < t → num a < t ∧ ow a ≤ c ∧ (num a < m ↔ ow a < c) := fun a ha => ⟨(hA a ha).1.2.2.1, (hA a ha).1.2.1, (hA a ha).1.2.2.2⟩
    refine ws_xdraft_lp (ow := ow) c2 t1 hO ?_ ?_ ?_ (t + 1) 0 (by omega) (by omega)
    · intro e0
      exact br_f (by decide) (br_f z (br_t y ⟨ws_cnt (ws_p ow TK (LIN c)) t + 1, ws_ydraft_lp t1 (by omega) d3 d4 hn (fun _ => ⟨rfl, R⟩) (fun z0 _ => absurd e0 z0) (fun z0 _ => absurd e0 z0) (ws_cnt (ws_p ow TK (LIN c)) t + 1) 0 0 (Nat.zero_le _) (by omega) rfl⟩))
    · intro e0 e1
      exact br_f (by decide) (br_f z (br_t y ⟨ws_cnt (ws_p ow TK (LIN c)) t + 1, ws_ydraft_lp t1 (by omega) d3 d4 hn (fun z0 => absurd z0 e0) (fun _ _ => ⟨rfl, R⟩) (fun _ z1 => absurd e1 z1) (ws_cnt (ws_p ow TK (LIN c)) t + 1) 0 0 (Nat.zero_le _) (by omega) rfl⟩))
    · intro e0 e1
      exact br_f (by decide) (br_f z (br_t y ⟨ws_cnt (ws_p ow TK (LIN c)) t + 1, ws_ydraft_lp t1 (by omega) d3 d4 hn (fun z0 => absurd z0 e0) (fun _ z1 => absurd z1 e1) (fun _ _ => ⟨rfl, R⟩) (ws_cnt (ws_p ow TK (LIN c)) t + 1) 0 0 (Nat.zero_le _) (by omega) rfl⟩))
end
section
/-! the calls that store, each side with a general post -/
section
variable {k c t m : Nat} {ow num : Nat → Nat} {fd gl gd gf glt gs : Int32} {C O TK B LIN SZ YB T YC YO D : Nat → Int32}
theorem ws_xopen21 {post : Int32 → SX → Prop} (hW : ws_W c t m ow num C O TK YC YO) (hL : ws_L c B LIN YB) (hN : ws_N c t m ow TK) {v : Nat} (hv : v < c) (h : post (nI (ws_cnt (ws_p ow TK (LIN v)) t)) (nI t, nI c, 1, C, O, TK, upd B c (nI v), upd LIN c (LIN v ||| ((1 : Int32) <<< (nI c &&& 31))))) : wX_open_21 post (nI v) (nI t) (nI c) fd C O TK B LIN := by
  have hO := ws_hO hW
  obtain ⟨⟨c1, c2, t1, m1⟩, _⟩ := hW
  have ic : vp_in (nI c) 13 := vp_in_nI (by omega) (by omega)
  have iv : vp_in (nI v) 13 := vp_in_nI (by omega) (by omega)
  unfold wX_open_21
  rw [nI_clamp (n := c) (by omega), nI_clamp (n := v) (by omega), ws_byte (n := v) (by omega), ws_vbyte (n := v) (by omega), pk_vs, ws_nar c2 (ws_Lb c2 hL hv)]
  refine ⟨ic, nm_e ⟨iv, ic, nm_e ⟨ic, ?_⟩⟩⟩
  rw [pk_us]
  refine ws_xlen t1 hO ?_
  rw [ws_cnt_congr (ws_openP c2 hN (LIN v))]
  exact h
theorem ws_yopen {post : Int32 → SY → Prop} {v s : Nat} (hv : v < c) (hc : c ≤ 12) (e : SZ v = nI s) (hs : s ≤ 12) (hd : (gd = 0 ∧ gl = nI t) ∨ (gd = 1 ∧ glt = nI t)) (h : ∀ D' : Nat → Int32, (∀ k, k < s → D' k = T (12 * v + k)) → post (nI s) (nI c, nI t, 1, nI v, nI t, nI s, SZ, YB, T, YC, YO, D')) : wpY_open post (nI c, gl, gd, gf, glt, gs, SZ, YB, T, YC, YO, D) (nI v) := by
  have iv : vp_in (nI v) 12 := vp_in_nI (by omega) (by omega)
  have e' : SZ (nI v).toNatClampNeg = nI s := by rw [nI_clamp (by omega)]; exact e
  have hl := ws_yopen_lp (gl := nI t) (gd := 1) (gf := nI v) (glt := nI t) (SZ := SZ) (YB := YB) (T := T) (YC := YC) (YO := YO) (show v < 12 by omega) hs h (s + 1) 0 D (by omega) (by omega) (fun k hk => by omega)
  unfold wpY_open wpY_discard
  dsimp only
  refine ws_yver_t hv hc (br_f (by decide) ?_)
  rcases hd with ⟨rfl, rfl⟩ | ⟨rfl, rfl⟩
  · exact br_t rfl ⟨iv, nm_r e' ⟨s + 1, hl⟩⟩
  · exact br_f (by decide) ⟨iv, nm_r e' ⟨s + 1, hl⟩⟩
theorem ws_xsweep (hW : ws_W c t m ow num C O TK YC YO) (hL : ws_L c B LIN YB) (hT : ws_T c t ow num TK LIN SZ T) {post : SX → Prop} (h : ∀ (ow' num' : Nat → Nat) (C' O' TK' : Nat → Int32), ws_W c m m ow' num' C' O' TK' YC YO → ws_T c m ow' num' TK' LIN SZ T → ws_N c m m ow' TK' → post (nI m, nI c, fd, C', O', TK', B, LIN)) : wpX_sweep post (nI t, nI c, fd, C, O, TK, B, LIN) := by
  have nC := ws_nC hW
  have nO := ws_nO hW
  have nM := ws_nM hW
  have hW' := hW
  obtain ⟨⟨c1, c2, t1, m1⟩, hA, inj, hm⟩ := hW'
  refine ws_xsw (ow := ow) c2 t1 (fun k hk => ⟨(hA k hk).1.1, (hA k hk).1.2.1⟩) nC nO nM (fun C' O' TK' sC sO sT => ?_)
  obtain ⟨ow', num', W', T', N'⟩ := ws_sweepR hW hL hT sC sO sT
  rw [hm]
  exact h ow' num' C' O' TK' W' T' N'
/-! put -/
theorem ws_xput_bad {post : Int32 → SX → Prop} {v1 v2 : Int32} (h : v2 < 0 ∨ 99 < v2 ∨ v1 < 0) (hp : post (-1) (nI t, nI c, fd, C, O, TK, B, LIN)) : wpX_put post (nI t, nI c, fd, C, O, TK, B, LIN) v1 v2 := by
  unfold wpX_put
  dsimp only
  refine br_c (fun _ => hp) (fun _ => br_c (fun _ => hp) (fun z1 => br_c (fun _ => hp) (fun z2 => ?_)))
  rcases h with h | h | h
  · exact absurd h z1
  · exact absurd h z2
  · exact br_f (Int32.not_le.mpr h) hp
theorem ws_yput_bad {post : Int32 → SY → Prop} {v1 v2 : Int32} (h : v2 < 0 ∨ 99 < v2 ∨ v1 < 0) (hp : post (-1) (nI c, gl, gd, gf, glt, gs, SZ, YB, T, YC, YO, D)) : wpY_put post (nI c, gl, gd, gf, glt, gs, SZ, YB, T, YC, YO, D) v1 v2 := by
  unfold wpY_put
  dsimp only
  refine br_c (fun _ => hp) (fun _ => br_c (fun _ => hp) (fun z1 => br_c (fun _ => hp) (fun z2 => br_c (fun _ => hp) (fun z3 => ?_))))
  rcases h with h | h | h
  · exact absurd h z1
  · exact absurd h z2
  · exact absurd h z3
theorem ws_yput {post : Int32 → SY → Prop} {j x s : Nat} (hj : j < 2 ^ 31) (hx : x ≤ 99) (hs : s ≤ 12) (ht : t ≤ 30)
    (hb : s < j → post (-1) (nI c, nI t, 1, gf, glt, nI s, SZ, YB, T, YC, YO, D)) (hf : j ≤ s → (12 ≤ s ∨ 30 ≤ t) → post (-2) (nI c, nI t, 1, gf, glt, nI s, SZ, YB, T, YC, YO, D))
    (ho : j ≤ s → s < 12 → t < 30 → ∀ D' : Nat → Int32, (∀ k, k ≤ s → D' k = ws_ins j (nI t) D k) → post (nI (s + 1)) (nI c, nI (t + 1), 1, gf, glt, nI (s + 1), SZ, YB, T, upd YC t (nI x), upd YO t (nI c), D')) :
    wpY_put post (nI c, nI t, 1, gf, glt, nI s, SZ, YB, T, YC, YO, D) (nI j) (nI x) := by
  have n99 : ¬ 99 < nI x := nI_nlt (b := x) (a := 99) hx (by decide)
  unfold wpY_put
  dsimp only
  refine br_f (by decide) (br_f (nI_pos (by omega)) (br_f n99 (br_f (nI_pos hj) (pk_le j s (fun l => pk_le 12 s (fun l2 => hf l (Or.inl l2)) (fun l2 => pk_lt t 30 (fun l3 => ⟨s + 1, ?_⟩) (fun l3 => hf l (Or.inr l3)))) (fun l => hb l)))))
  exact ws_yput_lp (gd := 1) l3 l2 l (ho l l2 l3) (s + 1) s D l (Nat.le_refl _) (by omega) ws_SI_0
theorem ws_xput83 {post : Int32 → SX → Prop} (hW : ws_W c t m ow num C O TK YC YO) {x a s : Nat} {z : Int32} (hx : x ≤ 99) (ht : t < 30) (ha : a ≤ t) (hz : z + 1 = nI a)
    (h : ∀ C' O' TK' : Nat → Int32, (∀ k, k ≤ t → C' k = ws_ins a (nI x) C k) → (∀ k, k ≤ t → O' k = ws_ins a (nI c) O k) → (∀ k, k ≤ t → TK' k = ws_ins a 0 TK k) → post (nI (s + 1)) (nI (t + 1), nI c, fd, C', O', TK', B, LIN)) : wX_put_83 post (nI x) (nI s) z (nI t) (nI c) fd C O TK B LIN := by
  have nC := ws_nC hW
  have nO := ws_nO hW
  have nT := ws_nT hW
  obtain ⟨⟨c1, c2, t1, m1⟩, _⟩ := hW
  unfold wX_put_83
  rw [hz, nI_1 s]
  exact ws_xins (by omega) c2 ht ha nC nO nT h
theorem ws_xput {post : Int32 → SX → Prop} (hW : ws_W c t m ow num C O TK YC YO) {j x s : Nat} (hj : j < 2 ^ 31) (hx : x ≤ 99) (es : ws_cnt (ws_p ow TK (LIN c)) t = s)
    (hb : s < j → post (-1) (nI t, nI c, 1, C, O, TK, B, LIN)) (hf : j ≤ s → (12 ≤ s ∨ 30 ≤ t) → post (-2) (nI t, nI c, 1, C, O, TK, B, LIN))
    (ho : j ≤ s → s < 12 → t < 30 → ∀ (a : Nat) (C' O' TK' : Nat → Int32), a ≤ t → ws_cnt (ws_p ow TK (LIN c)) a = j → (∀ k, k ≤ t → C' k = ws_ins a (nI x) C k) → (∀ k, k ≤ t → O' k = ws_ins a (nI c) O k) → (∀ k, k ≤ t → TK' k = ws_ins a 0 TK k) → post (nI (s + 1)) (nI (t + 1), nI c, 1, C', O', TK', B, LIN)) :
    wpX_put post (nI t, nI c, 1, C, O, TK, B, LIN) (nI j) (nI x) := by
  have hO := ws_hO hW
  have n99 : ¬ 99 < nI x := nI_nlt (b := x) (a := 99) hx (by decide)
  have hW' := hW
  obtain ⟨⟨c1, c2, t1, m1⟩, _⟩ := hW'
  have ls := ws_cnt_le (ws_p ow TK (LIN c)) t
  unfold wpX_put
  dsimp only
  refine br_f (by decide) (br_f (nI_pos (by omega)) (br_f n99 (br_t (nI_pos' hj) ⟨vp_in_nI (by omega) (by omega), nm_e ?_⟩)))
  rw [nI_clamp (n := c) (by omega)]
  refine ws_xlen t1 hO ?_
  rw [es]
  refine pk_le j s (fun l => pk_le 12 s (fun l2 => hf l (Or.inl l2)) (fun l2 => pk_lt t 30 (fun l3 => pk_eq j 0 (fun l4 => ?_) (fun l4 => ?_)) (fun l3 => hf l (Or.inr l3)))) (fun l => hb l)
  · exact ws_xput83 hW (a := 0) hx l3 (Nat.zero_le _) (by decide) (fun C' O' TK' => ho l l2 l3 0 C' O' TK' (Nat.zero_le _) l4.symm)
  · obtain ⟨i, rfl⟩ : ∃ i, j = i + 1 := ⟨j - 1, by omega⟩
    rw [nI_pred]
    refine ws_xfind (by omega) t1 hO (fun a ha hp ea => ?_) (fun z => by omega)
    exact ws_xput83 hW (a := a + 1) hx l3 ha (nI_1 a) (fun C' O' TK' => ho l l2 l3 (a + 1) C' O' TK' ha (by rw [ws_cnt_t hp, ea]))
/-! cut -/
theorem ws_xcut {post : Int32 → SX → Prop} (hW : ws_W c t m ow num C O TK YC YO) {j : Nat} (hj : j < 2 ^ 31)
    (hb : ws_cnt (ws_p ow TK (LIN c)) t ≤ j → post (-1) (nI t, nI c, 1, C, O, TK, B, LIN))
    (ho : ∀ a, a < t → ws_p ow TK (LIN c) a = true → ws_cnt (ws_p ow TK (LIN c)) a = j → post (C a) (nI t, nI c, 1, C, O, upd TK a (TK a ||| ((1 : Int32) <<< (nI c &&& 31))), B, LIN)) :
    wpX_cut post (nI t, nI c, 1, C, O, TK, B, LIN) (nI j) := by
  have hO := ws_hO hW
  have hW' := ws_cutW hW
  obtain ⟨⟨c1, c2, t1, m1⟩, _⟩ := hW
  unfold wpX_cut
  dsimp only
  refine br_f (by decide) (br_f (nI_pos hj) ⟨vp_in_nI (by omega) (by omega), ?_⟩)
  rw [nI_clamp (n := c) (by omega)]
  refine ws_xfind hj t1 hO (fun a ha hp ea => ?_) (fun z => ?_)
  · have ia : vp_in (nI a) 30 := vp_in_nI (by omega) (by omega)
    have b : ∀ i, bt (TK a ||| ((1 : Int32) <<< (nI c &&& 31))) i = true → i ≤ c := by
      obtain ⟨_, hA, _⟩ := hW' a
      obtain ⟨_, _, _, _, b⟩ := hA a ha
      rw [pk_us] at b
      exact b
    unfold wX_cut_29
    rw [nI_clamp (n := a) (by omega), pk_vs, ws_nar c2 b]
    exact br_t (nI_pos' (by omega)) ⟨ia, ia, nm_e ⟨ia, ho a ha hp ea⟩⟩
  · unfold wX_cut_29
    exact br_f (by decide) (hb z)
theorem ws_xcut_bad {post : Int32 → SX → Prop} {x : Int32} (h : x < 0) (hp : post (-1) (nI t, nI c, fd, C, O, TK, B, LIN)) : wpX_cut post (nI t, nI c, fd, C, O, TK, B, LIN) x := by
  have h29 : wX_cut_28 post (nI t) (nI c) fd C O TK B LIN := by
    unfold wX_cut_28 wX_cut_29
    exact br_f (by decide) hp
  unfold wpX_cut
  dsimp only
  exact br_c (fun _ => h29) (fun _ => br_t h h29)
theorem ws_xcut_0 {post : Int32 → SX → Prop} {x : Int32} (hp : post (-1) (nI t, nI c, 0, C, O, TK, B, LIN)) : wpX_cut post (nI t, nI c, 0, C, O, TK, B, LIN) x := by
  have h29 : wX_cut_28 post (nI t) (nI c) 0 C O TK B LIN := by
    unfold wX_cut_28 wX_cut_29
    exact br_f (by decide) hp
  unfold wpX_cut
  dsimp only
  exact br_t rfl h29
theorem ws_ycut {post : Int32 → SY → Prop} {j s n : Nat} (hj : j < s) (hs : s ≤ 12) (eD : D j = nI n) (hn : n < 30)
    (ho : ∀ D' : Nat → Int32, (∀ k, k < j → D' k = D k) → (∀ k, j ≤ k → k < s - 1 → D' k = D (k + 1)) → post (YC n) (nI c, gl, 1, gf, glt, nI (s - 1), SZ, YB, T, YC, YO, D')) :
    wpY_cut post (nI c, gl, 1, gf, glt, nI s, SZ, YB, T, YC, YO, D) (nI j) := by
  obtain ⟨r, rfl⟩ : ∃ r, s = r + 1 := ⟨s - 1, by omega⟩
  unfold wpY_cut
  dsimp only
  rw [nI_clamp (n := j) (by omega), eD, nI_clamp (n := n) (by omega), nI_pred]
  refine br_f (by decide) (br_f (nI_pos (by omega)) (br_t (nI_lt hj (by omega)) ⟨vp_in_nI (by omega) (by omega), vp_in_nI hn (by omega), nm_e (nm_e ⟨r + 1, ?_⟩)⟩))
  exact ws_ycut_lp (gd := 1) (D0 := D) (by omega) ho (r + 1) j D (Nat.le_refl _) (by omega) (by omega) (fun _ _ => rfl) (fun k k1 k2 => by omega) (fun _ _ => rfl)
end
theorem i_vc0 : wpX_init (fun u => wpY_init (fun v => i_Rel 0 u v)) := by
  have e1 : vp_nar .byte (-1) = -1 := by rw [vp_nar_byte]; decide
  have e2 : vp_nar .short 1 = 1 := by rw [vp_nar_short]; decide
  intro a ea b eb a2 ea2
  rw [e1] at ea
  rw [e2] at eb
  subst ea eb ea2
  refine ws_in (c := 1) (t := 0) (m := 0) (ow := fun _ => 0) (num := fun _ => 0) (fd := 0) ?_ ?_ ?_ ?_
  · exact ⟨⟨by omega, by omega, by omega, by omega⟩, fun a ha => by omega, fun a b ha => by omega, rfl⟩
  · intro w hw
    have e : w = 0 := by omega
    subst e
    rw [pk_us, pk_us]
    refine ⟨rfl, fun i hi => ?_, Or.inl ⟨rfl, by decide⟩⟩
    rcases Nat.lt_or_ge i 32 with h | h
    · rw [ws_one i h] at hi
      have := of_decide_eq_true hi
      omega
    · rw [b_big h] at hi
      exact absurd hi (by decide)
  · intro w hw
    exact ⟨rfl, Nat.zero_le _, fun a ha => by omega⟩
  · exact Or.inl ⟨rfl, rfl, fun a ha => by omega⟩
theorem i_vc_open {k : Nat} {u : SX} {v : SY} (I : i_Rel k u v) (hk : k + 4 ≤ 2048) (v1 : Int32) : wpX_open (fun r u' => wpY_open (fun r' v' => r' = r ∧ i_Rel (k + 4) u' v') v v1) u v1 := by
  refine ws_el (P := fun u v => wpX_open (fun r u' => wpY_open (fun r' v' => r' = r ∧ i_Rel (k + 4) u' v') v v1) u v1) I ?_
  intro c t m ow num fd gf glt gs C O TK B LIN SZ YB T YC YO D hW hL hT hD
  have R := ws_in (k := k + 4) hW hL hT hD
  have hW' := hW
  obtain ⟨⟨c1, c2, t1, m1⟩, _⟩ := hW'
  rcases ws_ver c2 v1 with hb | ⟨v, hv, rfl⟩
  · unfold wpX_open wpY_open
    dsimp only
    exact ws_xver_f hb (br_t rfl (ws_yver_f hb (br_t rfl ⟨rfl, R⟩)))
  · obtain ⟨s1, s2, s3⟩ := hT v hv
    unfold wpX_open
    dsimp only
    rcases hD with ⟨rfl, hN⟩ | ⟨rfl, hD⟩
    · have em := hN.1
      subst em
      refine ws_xver_t hv c2 (br_f (by decide) (br_t rfl (ws_xopen21 hW hL hN hv ?_)))
      refine ws_yopen hv c2 s1 s2 (Or.inl ⟨rfl, rfl⟩) (fun D' hD' => ⟨rfl, ?_⟩)
      exact ws_in hW (ws_openL hL) (ws_openT hT) (Or.inr ⟨rfl, ws_openD c2 hT hN hv hD'⟩)
    · obtain ⟨_, d1, _⟩ := hD
      refine ws_xver_t hv c2 (br_f (by decide) (br_f (by decide) (ws_xsweep hW hL hT (fun ow' num' C' O' TK' W' T' N' => ?_))))
      obtain ⟨r1, r2, r3⟩ := T' v hv
      refine ws_xopen21 W' hL N' hv ?_
      refine ws_yopen hv c2 r1 r2 (Or.inr ⟨rfl, d1⟩) (fun D' hD' => ⟨rfl, ?_⟩)
      exact ws_in W' (ws_openL hL) (ws_openT T') (Or.inr ⟨rfl, ws_openD c2 T' N' hv hD'⟩)
theorem i_vc_put {k : Nat} {u : SX} {v : SY} (I : i_Rel k u v) (hk : k + 4 ≤ 2048) (v1 : Int32) (v2 : Int32) : wpX_put (fun r u' => wpY_put (fun r' v' => r' = r ∧ i_Rel (k + 4) u' v') v v1 v2) u v1 v2 := by
  refine ws_el (P := fun u v => wpX_put (fun r u' => wpY_put (fun r' v' => r' = r ∧ i_Rel (k + 4) u' v') v v1 v2) u v1 v2) I ?_
  intro c t m ow num fd gf glt gs C O TK B LIN SZ YB T YC YO D hW hL hT hD
  have R := ws_in (k := k + 4) hW hL hT hD
  have hW' := hW
  obtain ⟨⟨c1, c2, t1, m1⟩, _⟩ := hW'
  by_cases hb : v2 < 0 ∨ 99 < v2 ∨ v1 < 0
  · exact ws_xput_bad hb (ws_yput_bad hb ⟨rfl, R⟩)
  · rcases hD with ⟨rfl, hN⟩ | ⟨rfl, hD⟩
    · unfold wpX_put wpY_put
      dsimp only
      exact br_t rfl (br_t rfl ⟨rfl, R⟩)
    · have hD0 := hD
      obtain ⟨_, d1, d2, d3, d4⟩ := hD0
      obtain ⟨j, hj, rfl⟩ := nI_of (x := v1) (fun z => hb (Or.inr (Or.inr z)))
      obtain ⟨x, hx, rfl⟩ := nI_of2 (x := v2) (M := 99) (n := 99) (by decide) (fun z => hb (Or.inl z)) (Int32.not_lt.mp (fun z => hb (Or.inr (Or.inl z))))
      subst d2
      refine ws_xput hW hj hx rfl (fun l => ?_) (fun l1 l2 => ?_) (fun l1 l2 l3 a C' O' TK' ha ea eC eO eT => ?_)
      · exact ws_yput hj hx d3 t1 (fun _ => ⟨rfl, R⟩) (fun _ _ => by omega) (fun _ => by omega)
      · exact ws_yput hj hx d3 t1 (fun _ => by omega) (fun _ _ => ⟨rfl, R⟩) (fun _ _ _ => by omega)
      · refine ws_yput hj hx d3 t1 (fun _ => by omega) (fun _ _ => by omega) (fun _ _ _ D' eD => ⟨rfl, ?_⟩)
        rw [← ea] at eD
        exact ws_in (ws_putW hW (by omega) l3 ha eC eO eT) hL (ws_putT hL hT ha eT) (Or.inr ⟨rfl, ws_putD c2 hD ha l2 eT eD⟩)
theorem i_vc_cut {k : Nat} {u : SX} {v : SY} (I : i_Rel k u v) (hk : k + 4 ≤ 2048) (v1 : Int32) : wpX_cut (fun r u' => wpY_cut (fun r' v' => r' = r ∧ i_Rel (k + 4) u' v') v v1) u v1 := by
  refine ws_el (P := fun u v => wpX_cut (fun r u' => wpY_cut (fun r' v' => r' = r ∧ i_Rel (k + 4) u' v') v v1) u v1) I ?_
  intro c t m ow num fd gf glt gs C O TK B LIN SZ YB T YC YO D hW hL hT hD
  have R := ws_in (k := k + 4) hW hL hT hD
  have hW' := hW
  obtain ⟨⟨c1, c2, t1, m1⟩, hA, inj, hm⟩ := hW'
  rcases hD with ⟨rfl, hN⟩ | ⟨rfl, hD⟩
  · refine ws_xcut_0 ?_
    unfold wpY_cut
    dsimp only
    exact br_t rfl ⟨rfl, R⟩
  · by_cases hb : v1 < 0
    · refine ws_xcut_bad hb ?_
      unfold wpY_cut
      dsimp only
      exact br_f (by decide) (br_t hb ⟨rfl, R⟩)
    · have hD0 := hD
      obtain ⟨_, d1, d2, d3, d4⟩ := hD0
      obtain ⟨j, hj, rfl⟩ := nI_of hb
      subst d2
      refine ws_xcut hW hj (fun l => ?_) (fun a ha hp ea => ?_)
      · unfold wpY_cut
        dsimp only
        exact br_f (by decide) (br_f hb (br_f (nI_nlt l hj) ⟨rfl, R⟩))
      · have l := ws_cnt_lt hp ha
        obtain ⟨⟨o1, o2, n1, n2⟩, y1, y2, x1, b1⟩ := hA a ha
        have eD : D j = nI (num a) := by
          rw [← ea]
          exact d4 a ha hp
        refine ws_ycut (n := num a) (by omega) d3 eD (by omega) (fun D' h1 h2 => ⟨y2, ?_⟩)
        rw [← ea] at h1 h2
        exact ws_in (ws_cutW hW a) hL (ws_cutT c2 hL hT a) (Or.inr ⟨rfl, ws_cutD c2 hD ha hp (by omega) h1 h2⟩)
theorem i_vc_close {k : Nat} {u : SX} {v : SY} (I : i_Rel k u v) (hk : k + 4 ≤ 2048) : wpX_close (fun r u' => wpY_close (fun r' v' => r' = r ∧ i_Rel (k + 4) u' v') v) u := by
  refine ws_el (P := fun u v => wpX_close (fun r u' => wpY_close (fun r' v' => r' = r ∧ i_Rel (k + 4) u' v') v) u) I ?_
  intro c t m ow num fd gf glt gs C O TK B LIN SZ YB T YC YO D hW hL hT hD
  have R := ws_in (k := k + 4) hW hL hT hD
  have hW' := hW
  obtain ⟨⟨c1, c2, t1, m1⟩, hA, inj, hm⟩ := hW'
  unfold wpX_close wpY_close
  dsimp only
  rcases hD with ⟨rfl, hN⟩ | ⟨rfl, hD⟩
  · exact br_t rfl (br_t rfl ⟨rfl, R⟩)
  · have hD0 := hD
    obtain ⟨_, d1, d2, d3, d4⟩ := hD0
    refine br_f (by decide) (pk_lt c 12 (fun l => nm_r (nI_1 c) ?_) (fun l => br_f (by decide) (br_f (nI_nlt (b := 12) l (by omega)) ⟨rfl, R⟩)))
    have ic : vp_in (nI c) 12 := vp_in_nI l (by omega)
    obtain ⟨W', N'⟩ := ws_closeW hW l
    have L' := ws_closeL l hL hD
    have T' := fun T' => ws_closeT (T' := T') l hT hD
    rw [nI_pred, nI_clamp (n := c) (by omega)]
    refine br_f (by decide) (br_t (nI_lt (b := 12) l (by decide)) ⟨ic, nm_e ⟨ic, nm_e ⟨ws_cnt (ws_p ow TK (LIN c)) t + 1, ?_⟩⟩⟩)
    subst d2
    refine ws_yclose_lp (gd := 1) (T0 := T) l d3 (fun T2 h1 h2 => ⟨rfl, ?_⟩) (ws_cnt (ws_p ow TK (LIN c)) t + 1) 0 T (Nat.zero_le _) (by omega) (fun k hk => by omega) (fun _ _ => rfl)
    exact ws_in W' L' (T' T2 h1 h2) (Or.inl ⟨rfl, N'⟩)
theorem i_vc_discard {k : Nat} {u : SX} {v : SY} (I : i_Rel k u v) (hk : k + 4 ≤ 2048) : wpX_discard (fun r u' => wpY_discard (fun r' v' => r' = r ∧ i_Rel (k + 4) u' v') v) u := by
  refine ws_el (P := fun u v => wpX_discard (fun r u' => wpY_discard (fun r' v' => r' = r ∧ i_Rel (k + 4) u' v') v) u) I ?_
  intro c t m ow num fd gf glt gs C O TK B LIN SZ YB T YC YO D hW hL hT hD
  have R := ws_in (k := k + 4) hW hL hT hD
  unfold wpX_discard wpY_discard
  dsimp only
  rcases hD with ⟨rfl, hN⟩ | ⟨rfl, hD⟩
  · exact br_t rfl (br_t rfl ⟨rfl, R⟩)
  · obtain ⟨_, d1, _⟩ := hD
    subst d1
    refine br_f (by decide) (ws_xsweep hW hL hT (fun ow' num' C' O' TK' W' T' N' => ?_))
    exact br_f (by decide) ⟨rfl, ws_in W' hL T' (Or.inl ⟨rfl, N'⟩)⟩
end
