section
/-! PURE 1: names joined, sets of lines, counts -/
/-- the class of b takes the name of a's -/
def tr_jn (N : Nat → Nat) (a b : Nat) : Nat → Nat := fun p => if N p = N b then N a else N p
/-- the same classes among the points below n -/
def tr_Kr (n : Nat) (h g : Nat → Nat) : Prop := ∀ p q, p < n → q < n → (h p = h q ↔ g p = g q)
/-- g: h with the classes u and v put together -/
def tr_Mg (n : Nat) (h g : Nat → Nat) (u v : Nat) : Prop := ∀ p q, p < n → q < n → (g p = g q ↔ (h p = h q ∨ (h p = u ∧ h q = v) ∨ (h p = v ∧ h q = u)))
theorem tr_jn_eq (N : Nat → Nat) (a b p q : Nat) : tr_jn N a b p = tr_jn N a b q ↔ (N p = N q ∨ (N p = N a ∧ N q = N b) ∨ (N p = N b ∧ N q = N a)) := by
  unfold tr_jn
  by_cases hp : N p = N b
  · by_cases hq : N q = N b
    · rw [if_pos hp, if_pos hq]
      exact ⟨fun _ => Or.inl (hp.trans hq.symm), fun _ => rfl⟩
    · rw [if_pos hp, if_neg hq]
      constructor
      · intro h
        exact Or.inr (Or.inr ⟨hp, h.symm⟩)
      · rintro (h | ⟨-, h⟩ | ⟨-, h⟩)
        · exact absurd (h.symm.trans hp) hq
        · exact absurd h hq
        · exact h.symm
  · by_cases hq : N q = N b
    · rw [if_neg hp, if_pos hq]
      constructor
      · intro h
        exact Or.inr (Or.inl ⟨h, hq⟩)
      · rintro (h | ⟨h, -⟩ | ⟨h, -⟩)
        · exact absurd (h.trans hq) hp
        · exact h
        · exact absurd h hp
    · rw [if_neg hp, if_neg hq]
      constructor
      · intro h
        exact Or.inl h
      · rintro (h | ⟨-, h⟩ | ⟨h, -⟩)
        · exact h
        · exact absurd h hq
        · exact absurd h hp
theorem tr_Kr_rf (n : Nat) (h : Nat → Nat) : tr_Kr n h h := fun _ _ _ _ => Iff.rfl
theorem tr_Kr_sy {n : Nat} {h g : Nat → Nat} (H : tr_Kr n h g) : tr_Kr n g h := fun p q hp hq => (H p q hp hq).symm
theorem tr_Kr_tr {n : Nat} {h g k : Nat → Nat} (H : tr_Kr n h g) (G : tr_Kr n g k) : tr_Kr n h k := fun p q hp hq => (H p q hp hq).trans (G p q hp hq)
theorem tr_Kr_jn {n a b : Nat} {h g : Nat → Nat} (H : tr_Kr n h g) (ha : a < n) (hb : b < n) : tr_Kr n (tr_jn h a b) (tr_jn g a b) := by
  intro p q hp hq
  rw [tr_jn_eq, tr_jn_eq, H p q hp hq, H p a hp ha, H q b hq hb, H p b hp hb, H q a hq ha]
/-- two joins in the one order and in the other -/
theorem tr_sw (P Q a b c d : Nat) :
    ((P = Q ∨ (P = a ∧ Q = b) ∨ (P = b ∧ Q = a)) ∨
      ((P = c ∨ (P = a ∧ c = b) ∨ (P = b ∧ c = a)) ∧ (Q = d ∨ (Q = a ∧ d = b) ∨ (Q = b ∧ d = a))) ∨
      ((P = d ∨ (P = a ∧ d = b) ∨ (P = b ∧ d = a)) ∧ (Q = c ∨ (Q = a ∧ c = b) ∨ (Q = b ∧ c = a)))) ↔
    ((P = Q ∨ (P = c ∧ Q = d) ∨ (P = d ∧ Q = c)) ∨
      ((P = a ∨ (P = c ∧ a = d) ∨ (P = d ∧ a = c)) ∧ (Q = b ∨ (Q = c ∧ b = d) ∨ (Q = d ∧ b = c))) ∨
      ((P = b ∨ (P = c ∧ b = d) ∨ (P = d ∧ b = c)) ∧ (Q = a ∨ (Q = c ∧ a = d) ∨ (Q = d ∧ a = c)))) := by
  grind
/-- the number of ringless sets of m edges, from the names N -/
def tr_T : List (Nat × Nat) → (Nat → Nat) → Nat → Nat
  | [], _, m => if m = 0 then 1 else 0
  | e :: F, N, m => tr_T F N m + (if N e.1 = N e.2 then 0 else if m = 0 then 0 else tr_T F (tr_jn N e.1 e.2) (m - 1))
theorem tr_T_kr {n : Nat} : ∀ (F : List (Nat × Nat)) (h g : Nat → Nat) (m : Nat), (∀ e ∈ F, e.1 < n ∧ e.2 < n) → tr_Kr n h g → tr_T F h m = tr_T F g m := by
  intro F
  induction F with
  | nil => intro h g m _ _; rfl
  | cons e F ih =>
    intro h g m hF H
    have he := hF e List.mem_cons_self
    have hF' : ∀ e ∈ F, e.1 < n ∧ e.2 < n := fun x hx => hF x (List.mem_cons_of_mem _ hx)
    have h1 := ih h g m hF' H
    have h2 := ih _ _ (m - 1) hF' (tr_Kr_jn H he.1 he.2)
    have h3 := H e.1 e.2 he.1 he.2
    simp only [tr_T]
    rw [h1, h2]
    by_cases h4 : h e.1 = h e.2
    · rw [if_pos h4, if_pos (h3.mp h4)]
    · rw [if_neg h4, if_neg (fun q => h4 (h3.mpr q))]
theorem tr_T_0 : ∀ (F : List (Nat × Nat)) (h : Nat → Nat), 0 < tr_T F h 0 := by
  intro F
  induction F with
  | nil => intro h; simp [tr_T]
  | cons e F ih =>
    intro h
    have := ih h
    simp only [tr_T]
    omega
theorem tr_mgq (p q a b u v : Nat) :
    ((p = q ∨ (p = u ∧ q = v) ∨ (p = v ∧ q = u)) ∨
      ((p = a ∨ (p = u ∧ a = v) ∨ (p = v ∧ a = u)) ∧ (q = b ∨ (q = u ∧ b = v) ∨ (q = v ∧ b = u))) ∨
      ((p = b ∨ (p = u ∧ b = v) ∨ (p = v ∧ b = u)) ∧ (q = a ∨ (q = u ∧ a = v) ∨ (q = v ∧ a = u)))) ↔
    ((p = q ∨ (p = a ∧ q = b) ∨ (p = b ∧ q = a)) ∨
      (((if p = b then a else p) = (if u = b then a else u)) ∧ ((if q = b then a else q) = (if v = b then a else v))) ∨
      (((if p = b then a else p) = (if v = b then a else v)) ∧ ((if q = b then a else q) = (if u = b then a else u)))) := by
  by_cases h1 : p = b <;> by_cases h2 : q = b <;> by_cases h3 : u = b <;> by_cases h4 : v = b <;> simp only [h1, h2, h3, h4, if_true, if_false] <;> grind
theorem tr_Mg_jn {n a b u v : Nat} {h g : Nat → Nat} (H : tr_Mg n h g u v) (ha : a < n) (hb : b < n) : tr_Mg n (tr_jn h a b) (tr_jn g a b) (if u = h b then h a else u) (if v = h b then h a else v) := by
  intro p q hp hq
  rw [tr_jn_eq, tr_jn_eq, H p q hp hq, H p a hp ha, H q b hq hb, H p b hp hb, H q a hq ha]
  exact tr_mgq (h p) (h q) (h a) (h b) u v
theorem tr_T_mg {n : Nat} : ∀ (F : List (Nat × Nat)) (h g : Nat → Nat) (u v m : Nat), (∀ e ∈ F, e.1 < n ∧ e.2 < n) → tr_Mg n h g u v → 0 < tr_T F h (m + 1) → 0 < tr_T F g m := by
  intro F
  induction F with
  | nil => intro h g u v m _ _ hp; simp [tr_T] at hp
  | cons e F ih =>
    intro h g u v m hF H hp
    have he := hF e List.mem_cons_self
    have hF' : ∀ e ∈ F, e.1 < n ∧ e.2 < n := fun x hx => hF x (List.mem_cons_of_mem _ hx)
    by_cases h1 : 0 < tr_T F h (m + 1)
    · have h2 := ih h g u v m hF' H h1
      simp only [tr_T]
      omega
    · have h3 : h e.1 ≠ h e.2 ∧ 0 < tr_T F (tr_jn h e.1 e.2) m := by
        simp only [tr_T] at hp
        by_cases h4 : h e.1 = h e.2
        · rw [if_pos h4] at hp
          omega
        · rw [if_neg h4, if_neg (by omega)] at hp
          exact ⟨h4, by simpa using (by omega : 0 < tr_T F (tr_jn h e.1 e.2) (m + 1 - 1))⟩
      by_cases h5 : g e.1 = g e.2
      · have h6 : tr_Kr n (tr_jn h e.1 e.2) g := by
          intro p q hp hq
          rw [tr_jn_eq, H p q hp hq]
          have h7 := (H e.1 e.2 he.1 he.2).mp h5
          rcases h7 with h7 | ⟨h7, h8⟩ | ⟨h7, h8⟩
          · exact absurd h7 h3.1
          · rw [h7, h8]
          · rw [h7, h8]
            constructor
            · rintro (x | x | x)
              · exact Or.inl x
              · exact Or.inr (Or.inr x)
              · exact Or.inr (Or.inl x)
            · rintro (x | x | x)
              · exact Or.inl x
              · exact Or.inr (Or.inr x)
              · exact Or.inr (Or.inl x)
        have h9 := tr_T_kr F _ _ m hF' h6
        have h10 := h3.2
        simp only [tr_T]
        omega
      · cases m with
        | zero => exact tr_T_0 _ _
        | succ k =>
          have h11 := ih _ _ _ _ k hF' (tr_Mg_jn H he.1 he.2) h3.2
          simp only [tr_T]
          rw [if_neg h5, if_neg (by omega)]
          simp only [Nat.add_sub_cancel]
          omega
/-- how many numbers below b have P -/
def tr_cnt (P : Nat → Bool) : Nat → Nat
  | 0 => 0
  | b + 1 => tr_cnt P b + (if P b = true then 1 else 0)
theorem tr_cnt_congr {P Q : Nat → Bool} : ∀ (b : Nat), (∀ s, s < b → P s = Q s) → tr_cnt P b = tr_cnt Q b := by
  intro b
  induction b with
  | zero => intro _; rfl
  | succ b ih =>
    intro h
    simp only [tr_cnt]
    rw [ih (fun s hs => h s (by omega)), h b (by omega)]
theorem tr_cnt_none {P : Nat → Bool} (b : Nat) (h : ∀ s, s < b → P s = false) : tr_cnt P b = 0 := by
  induction b with
  | zero => rfl
  | succ b ih =>
    simp only [tr_cnt]
    rw [ih (fun s hs => h s (by omega)), h b (by omega)]
    simp
theorem tr_cnt_two (P : Nat → Bool) (M : Nat) : tr_cnt P (2 * M) = tr_cnt (fun s => P (2 * s)) M + tr_cnt (fun s => P (2 * s + 1)) M := by
  induction M with
  | zero => rfl
  | succ M ih =>
    rw [show 2 * (M + 1) = 2 * M + 1 + 1 by omega]
    simp only [tr_cnt]
    rw [ih]
    omega
theorem tr_cnt_le (P : Nat → Bool) (b : Nat) : tr_cnt P b ≤ b := by
  induction b with
  | zero => exact Nat.le_refl _
  | succ b ih =>
    simp only [tr_cnt]
    split <;> omega
theorem tr_cnt_mono (P : Nat → Bool) {a b : Nat} (h : a ≤ b) : tr_cnt P a ≤ tr_cnt P b := by
  induction b with
  | zero => rw [show a = 0 by omega]; exact Nat.le_refl _
  | succ b ih =>
    by_cases h1 : a = b + 1
    · rw [h1]; exact Nat.le_refl _
    · have := ih (by omega)
      simp only [tr_cnt]
      omega
/-- the count between a and b, as a count from the start -/
theorem tr_cnt_mid {P Q : Nat → Bool} {a b : Nat} (hab : a ≤ b) : ∀ c : Nat, b ≤ c → (∀ s, s < c → (Q s = true ↔ (a ≤ s ∧ s < b ∧ P s = true))) → tr_cnt Q c + tr_cnt P a = tr_cnt P b := by
  have low : ∀ c : Nat, c ≤ a → (∀ s, s < c → (Q s = true ↔ (a ≤ s ∧ s < b ∧ P s = true))) → tr_cnt Q c = 0 := by
    intro c hc h
    refine tr_cnt_none c (fun s hs => ?_)
    cases hq : Q s with
    | false => rfl
    | true => exact absurd ((h s hs).mp hq).1 (by omega)
  have mid : ∀ c : Nat, a ≤ c → c ≤ b → (∀ s, s < c → (Q s = true ↔ (a ≤ s ∧ s < b ∧ P s = true))) → tr_cnt Q c + tr_cnt P a = tr_cnt P c := by
    intro c
    induction c with
    | zero => intro h1 _ _; rw [show a = 0 by omega]; simp [tr_cnt]
    | succ c ih =>
      intro h1 h2 h3
      by_cases h4 : a = c + 1
      · rw [low (c + 1) (by omega) h3, h4]
        omega
      · have h5 := ih (by omega) (by omega) (fun s hs => h3 s (by omega))
        have h6 := h3 c (by omega)
        simp only [tr_cnt]
        have h7 : Q c = P c := by
          cases hq : Q c with
          | true => exact (h6.mp hq).2.2.symm
          | false =>
            cases hp : P c with
            | false => rfl
            | true => exact absurd (h6.mpr ⟨by omega, by omega, hp⟩) (by rw [hq]; decide)
        rw [h7]
        omega
  intro c
  induction c with
  | zero =>
    intro h1 h2
    have hb : b = 0 := by omega
    have ha : a = 0 := by omega
    rw [ha, hb]
    simp [tr_cnt]
  | succ c ih =>
    intro h1 h2
    by_cases h3 : b = c + 1
    · rw [h3]
      rw [h3] at h2 mid
      exact mid (c + 1) (by omega) (Nat.le_refl _) h2
    · have h4 := ih (by omega) (fun s hs => h2 s (by omega))
      have h5 : Q c = false := by
        cases hq : Q c with
        | false => rfl
        | true => exact absurd ((h2 c (by omega)).mp hq).2.1 (by omega)
      simp only [tr_cnt]
      rw [h5]
      simpa using h4
theorem tr_cnt_rm {P : Nat → Bool} {x : Nat} (hx : P x = true) : ∀ n : Nat, x < n → tr_cnt (fun p => P p && decide (p ≠ x)) n + 1 = tr_cnt P n := by
  have low : ∀ n : Nat, n ≤ x → tr_cnt (fun p => P p && decide (p ≠ x)) n = tr_cnt P n := by
    intro n hn
    refine tr_cnt_congr n (fun s hs => ?_)
    simp [show s ≠ x by omega]
  intro n
  induction n with
  | zero => intro h; exact absurd h (by omega)
  | succ n ih =>
    intro h
    simp only [tr_cnt]
    by_cases h1 : n = x
    · rw [h1, low x (Nat.le_refl _)]
      simp [hx]
    · have h2 := ih (by omega)
      have h3 : (P n && decide (n ≠ x)) = P n := by simp [h1]
      simp only [h3]
      omega
end
section
/-! PURE 2: sets of lines as numbers, low bit first -/
def tr_on : Nat → Nat → Nat
  | 0, _ => 0
  | c + 1, s => s % 2 + tr_on c (s / 2)
/-- the lines of the set are there and none makes a ring -/
def tr_rl (T : Nat → Bool) (A B : Nat → Nat) : List Nat → (Nat → Nat) → Nat → Bool
  | [], _, _ => true
  | k :: ks, N, s => if s % 2 = 1 then (T k && decide (N (A k) ≠ N (B k)) && tr_rl T A B ks (tr_jn N (A k) (B k)) (s / 2)) else tr_rl T A B ks N (s / 2)
/-- the names behind the joins of the set's lines -/
def tr_in (T : Nat → Bool) (A B : Nat → Nat) : List Nat → (Nat → Nat) → Nat → Option (Nat → Nat)
  | [], N, _ => some N
  | k :: ks, N, i => if i % 2 = 1 then (if T k = true ∧ N (A k) ≠ N (B k) then tr_in T A B ks (tr_jn N (A k) (B k)) (i / 2) else none) else tr_in T A B ks N (i / 2)
/-- the free lines -/
def tr_fr (T : Nat → Bool) (A B : Nat → Nat) : List Nat → Nat → List (Nat × Nat)
  | [], _ => []
  | k :: ks, t => if T k = true ∧ t % 2 = 0 then (A k, B k) :: tr_fr T A B ks (t / 2) else tr_fr T A B ks (t / 2)
def tr_G (T : Nat → Bool) (A B : Nat → Nat) : List Nat → (Nat → Nat) → Nat → Nat → Nat → Nat
  | [], _, m, _, _ => if m = 0 then 1 else 0
  | k :: ks, N, m, i, o => (if i % 2 = 1 then 0 else tr_G T A B ks N m (i / 2) (o / 2)) + (if o % 2 = 1 ∨ T k = false ∨ N (A k) = N (B k) ∨ m = 0 then 0 else tr_G T A B ks (tr_jn N (A k) (B k)) (m - 1) (i / 2) (o / 2))
theorem tr_ande (s i : Nat) : (2 * s &&& i = i) ↔ (i % 2 = 0 ∧ s &&& (i / 2) = i / 2) := by
  have h1 := @Nat.and_mod_two_eq_one (2 * s) i
  have h2 : (2 * s &&& i) / 2 = s &&& (i / 2) := by rw [Nat.and_div_two, show 2 * s / 2 = s by omega]
  generalize 2 * s &&& i = x at h1 h2 ⊢
  generalize s &&& (i / 2) = y at h2 ⊢
  omega
theorem tr_ando (s i : Nat) : ((2 * s + 1) &&& i = i) ↔ (s &&& (i / 2) = i / 2) := by
  have h1 := @Nat.and_mod_two_eq_one (2 * s + 1) i
  have h2 : ((2 * s + 1) &&& i) / 2 = s &&& (i / 2) := by rw [Nat.and_div_two, show (2 * s + 1) / 2 = s by omega]
  generalize (2 * s + 1) &&& i = x at h1 h2 ⊢
  generalize s &&& (i / 2) = y at h2 ⊢
  omega
theorem tr_andze (s i : Nat) : (2 * s &&& i = 0) ↔ (s &&& (i / 2) = 0) := by
  have h1 := @Nat.and_mod_two_eq_one (2 * s) i
  have h2 : (2 * s &&& i) / 2 = s &&& (i / 2) := by rw [Nat.and_div_two, show 2 * s / 2 = s by omega]
  generalize 2 * s &&& i = x at h1 h2 ⊢
  generalize s &&& (i / 2) = y at h2 ⊢
  omega
theorem tr_andzo (s i : Nat) : ((2 * s + 1) &&& i = 0) ↔ (i % 2 = 0 ∧ s &&& (i / 2) = 0) := by
  have h1 := @Nat.and_mod_two_eq_one (2 * s + 1) i
  have h2 : ((2 * s + 1) &&& i) / 2 = s &&& (i / 2) := by rw [Nat.and_div_two, show (2 * s + 1) / 2 = s by omega]
  generalize (2 * s + 1) &&& i = x at h1 h2 ⊢
  generalize s &&& (i / 2) = y at h2 ⊢
  omega
/-- a set that holds i, keeps off o, has m lines and no ring -/
def tr_Q (T : Nat → Bool) (A B : Nat → Nat) (ks : List Nat) (N : Nat → Nat) (m i o s : Nat) : Bool := decide (s &&& i = i) && decide (s &&& o = 0) && (decide (tr_on ks.length s = m) && tr_rl T A B ks N s)
theorem tr_cnt_G (T : Nat → Bool) (A B : Nat → Nat) : ∀ (ks : List Nat) (N : Nat → Nat) (m i o : Nat), i < 2 ^ ks.length → tr_cnt (tr_Q T A B ks N m i o) (2 ^ ks.length) = tr_G T A B ks N m i o := by
  intro ks
  induction ks with
  | nil =>
    intro N m i o hi
    have hi0 : i = 0 := by simpa using hi
    subst hi0
    by_cases hm : m = 0
    · subst hm
      simp [tr_cnt, tr_Q, tr_G, tr_on, tr_rl]
    · simp [tr_cnt, tr_Q, tr_G, tr_on, tr_rl, hm, Ne.symm hm]
  | cons k ks ih =>
    intro N m i o hi
    have hi2 : i / 2 < 2 ^ ks.length := by
      rw [List.length_cons, Nat.pow_succ] at hi
      omega
    have hp : 2 ^ (k :: ks).length = 2 * 2 ^ ks.length := by
      rw [List.length_cons, Nat.pow_succ, Nat.mul_comm]
    rw [hp, tr_cnt_two]
    have he : tr_cnt (fun s => tr_Q T A B (k :: ks) N m i o (2 * s)) (2 ^ ks.length) = (if i % 2 = 1 then 0 else tr_G T A B ks N m (i / 2) (o / 2)) := by
      by_cases h1 : i % 2 = 1
      · rw [if_pos h1]
        refine tr_cnt_none _ (fun s _ => ?_)
        have h2 : ¬ (2 * s &&& i = i) := fun q => by have := ((tr_ande s i).mp q).1; omega
        simp [tr_Q, h2]
      · rw [if_neg h1, ← ih N m (i / 2) (o / 2) hi2]
        refine tr_cnt_congr _ (fun s _ => ?_)
        have h2 : (2 * s &&& i = i) ↔ (s &&& (i / 2) = i / 2) := by
          rw [tr_ande]
          exact ⟨fun q => q.2, fun q => ⟨by omega, q⟩⟩
        have h3 : tr_on (k :: ks).length (2 * s) = tr_on ks.length s := by
          rw [List.length_cons]
          simp only [tr_on]
          rw [show 2 * s % 2 = 0 by omega, show 2 * s / 2 = s by omega, Nat.zero_add]
        have h4 : tr_rl T A B (k :: ks) N (2 * s) = tr_rl T A B ks N s := by
          simp only [tr_rl]
          rw [if_neg (by omega), show 2 * s / 2 = s by omega]
        simp only [tr_Q, h2, h3, h4, tr_andze]
    have ho : tr_cnt (fun s => tr_Q T A B (k :: ks) N m i o (2 * s + 1)) (2 ^ ks.length) = (if o % 2 = 1 ∨ T k = false ∨ N (A k) = N (B k) ∨ m = 0 then 0 else tr_G T A B ks (tr_jn N (A k) (B k)) (m - 1) (i / 2) (o / 2)) := by
      have h3 : ∀ s, tr_on (k :: ks).length (2 * s + 1) = 1 + tr_on ks.length s := by
        intro s
        rw [List.length_cons]
        simp only [tr_on]
        rw [show (2 * s + 1) % 2 = 1 by omega, show (2 * s + 1) / 2 = s by omega]
      have h4 : ∀ s, tr_rl T A B (k :: ks) N (2 * s + 1) = (T k && decide (N (A k) ≠ N (B k)) && tr_rl T A B ks (tr_jn N (A k) (B k)) s) := by
        intro s
        simp only [tr_rl]
        rw [if_pos (by omega), show (2 * s + 1) / 2 = s by omega]
      by_cases h1 : o % 2 = 1 ∨ T k = false ∨ N (A k) = N (B k) ∨ m = 0
      · rw [if_pos h1]
        refine tr_cnt_none _ (fun s _ => ?_)
        simp only [tr_Q, h3, h4]
        rcases h1 with h1 | h1 | h1 | h1
        · have h2 : ¬ ((2 * s + 1) &&& o = 0) := fun q => by have := ((tr_andzo s o).mp q).1; omega
          simp [h2]
        · simp [h1]
        · simp [h1]
        · have h2 : ¬ (1 + tr_on ks.length s = m) := by omega
          simp [h2]
      · rw [if_neg h1, ← ih (tr_jn N (A k) (B k)) (m - 1) (i / 2) (o / 2) hi2]
        simp only [not_or] at h1
        obtain ⟨g1, g2, g3, g4⟩ := h1
        have g2' : T k = true := by
          cases h : T k with
          | true => rfl
          | false => exact absurd h g2
        refine tr_cnt_congr _ (fun s _ => ?_)
        have h5 : ((2 * s + 1) &&& o = 0) ↔ (s &&& (o / 2) = 0) := by
          rw [tr_andzo]
          exact ⟨fun q => q.2, fun q => ⟨by omega, q⟩⟩
        have h6 : (1 + tr_on ks.length s = m) ↔ (tr_on ks.length s = m - 1) := by omega
        simp only [tr_Q, h3, h4, tr_ando, h5, h6, g2', g3, ne_eq, not_false_eq_true, decide_true, Bool.true_and]
    rw [he, ho]
    rfl
theorem tr_in_mono {T : Nat → Bool} {A B : Nat → Nat} : ∀ (ks : List Nat) (N N' : Nat → Nat) (i : Nat), tr_in T A B ks N i = some N' → ∀ a b, N a = N b → N' a = N' b := by
  intro ks
  induction ks with
  | nil =>
    intro N N' i h a b hab
    have : N = N' := by simpa [tr_in] using h
    rw [← this]
    exact hab
  | cons k ks ih =>
    intro N N' i h a b hab
    simp only [tr_in] at h
    by_cases h1 : i % 2 = 1
    · rw [if_pos h1] at h
      by_cases h2 : T k = true ∧ N (A k) ≠ N (B k)
      · rw [if_pos h2] at h
        exact ih _ _ _ h a b ((tr_jn_eq _ _ _ _ _).mpr (Or.inl hab))
      · rw [if_neg h2] at h
        cases h
    · rw [if_neg h1] at h
      exact ih _ _ _ h a b hab
theorem tr_in_ex {T : Nat → Bool} {A B : Nat → Nat} {n a b : Nat} (ha : a < n) (hb : b < n) : ∀ (ks : List Nat), (∀ k ∈ ks, A k < n ∧ B k < n) → ∀ (N M : Nat → Nat) (i : Nat), tr_Kr n M (tr_jn N a b) → N a ≠ N b →
    (tr_in T A B ks N i = none → tr_in T A B ks M i = none) ∧ (∀ N', tr_in T A B ks N i = some N' → (N' a = N' b → tr_in T A B ks M i = none) ∧ (N' a ≠ N' b → ∃ M', tr_in T A B ks M i = some M' ∧ tr_Kr n M' (tr_jn N' a b))) := by
  intro ks
  induction ks with
  | nil =>
    intro _ N M i H hne
    refine ⟨fun h => by simp [tr_in] at h, fun N' h => ?_⟩
    have h1 : N = N' := by simpa [tr_in] using h
    subst h1
    exact ⟨fun q => absurd q hne, fun _ => ⟨M, rfl, H⟩⟩
  | cons k ks ih =>
    intro hks N M i H hne
    have hk := hks k List.mem_cons_self
    have hks' : ∀ k ∈ ks, A k < n ∧ B k < n := fun x hx => hks x (List.mem_cons_of_mem _ hx)
    simp only [tr_in]
    by_cases h1 : i % 2 = 1
    · simp only [if_pos h1]
      by_cases hT : T k = true
      · have HM := (H (A k) (B k) hk.1 hk.2).trans (tr_jn_eq N a b (A k) (B k))
        by_cases h2 : N (A k) = N (B k)
        · have h3 : M (A k) = M (B k) := HM.mpr (Or.inl h2)
          rw [if_neg (fun q => q.2 h2), if_neg (fun q => q.2 h3)]
          exact ⟨fun _ => rfl, fun N' h => by cases h⟩
        · rw [if_pos ⟨hT, h2⟩]
          by_cases h3 : M (A k) = M (B k)
          · rw [if_neg (fun q => q.2 h3)]
            refine ⟨fun _ => rfl, fun N' h => ⟨fun _ => rfl, fun q => ?_⟩⟩
            refine absurd (tr_in_mono ks _ _ _ h a b ((tr_jn_eq _ _ _ _ _).mpr ?_)) q
            rcases HM.mp h3 with g | ⟨g1, g2⟩ | ⟨g1, g2⟩
            · exact absurd g h2
            · exact Or.inr (Or.inl ⟨g1.symm, g2.symm⟩)
            · exact Or.inr (Or.inr ⟨g2.symm, g1.symm⟩)
          · rw [if_pos ⟨hT, h3⟩]
            refine ih hks' _ _ _ ?_ ?_
            · intro p q hp hq
              have Z : ∀ x y, x < n → y < n → (M x = M y ↔ (N x = N y ∨ (N x = N a ∧ N y = N b) ∨ (N x = N b ∧ N y = N a))) := fun x y hx hy => (H x y hx hy).trans (tr_jn_eq N a b x y)
              rw [tr_jn_eq M, tr_jn_eq (tr_jn N (A k) (B k)), tr_jn_eq N, tr_jn_eq N, tr_jn_eq N, tr_jn_eq N, tr_jn_eq N, Z p q hp hq, Z p _ hp hk.1, Z q _ hq hk.2, Z p _ hp hk.2, Z q _ hq hk.1]
              exact tr_sw (N p) (N q) (N a) (N b) (N (A k)) (N (B k))
            · intro q
              refine h3 (HM.mpr ?_)
              rcases (tr_jn_eq _ _ _ _ _).mp q with g | ⟨g1, g2⟩ | ⟨g1, g2⟩
              · exact absurd g hne
              · exact Or.inr (Or.inl ⟨g1.symm, g2.symm⟩)
              · exact Or.inr (Or.inr ⟨g2.symm, g1.symm⟩)
      · rw [if_neg (fun q => hT q.1), if_neg (fun q => hT q.1)]
        exact ⟨fun _ => rfl, fun N' h => by cases h⟩
    · simp only [if_neg h1]
      exact ih hks' N M (i / 2) H hne
/-- the count behind the joins of the in-lines -/
def tr_aft (F : List (Nat × Nat)) (m c : Nat) (r : Option (Nat → Nat)) : Nat := match r with
  | none => 0
  | some N' => if c ≤ m then tr_T F N' (m - c) else 0
theorem tr_G_in {T : Nat → Bool} {A B : Nat → Nat} {n : Nat} : ∀ (ks : List Nat), (∀ k ∈ ks, A k < n ∧ B k < n) → ∀ (N : Nat → Nat) (m i o : Nat), i &&& o = 0 →
    tr_G T A B ks N m i o = tr_aft (tr_fr T A B ks (i ||| o)) m (tr_on ks.length i) (tr_in T A B ks N i) := by
  have hFn : ∀ (ks : List Nat), (∀ k ∈ ks, A k < n ∧ B k < n) → ∀ t, ∀ e ∈ tr_fr T A B ks t, e.1 < n ∧ e.2 < n := by
    intro ks
    induction ks with
    | nil => intro _ t e he; simp [tr_fr] at he
    | cons k ks ih =>
      intro hks t e he
      have hks' : ∀ k ∈ ks, A k < n ∧ B k < n := fun x hx => hks x (List.mem_cons_of_mem _ hx)
      simp only [tr_fr] at he
      by_cases h : T k = true ∧ t % 2 = 0
      · rw [if_pos h] at he
        rcases List.mem_cons.mp he with q | q
        · rw [q]; exact hks k List.mem_cons_self
        · exact ih hks' _ e q
      · rw [if_neg h] at he
        exact ih hks' _ e he
  intro ks
  induction ks with
  | nil =>
    intro _ N m i o _
    simp [tr_G, tr_aft, tr_in, tr_fr, tr_T, tr_on]
  | cons k ks ih =>
    intro hks N m i o hio
    have hk := hks k List.mem_cons_self
    have hks' : ∀ k ∈ ks, A k < n ∧ B k < n := fun x hx => hks x (List.mem_cons_of_mem _ hx)
    have hio2 : i / 2 &&& o / 2 = 0 := by rw [← Nat.and_div_two, hio]
    have hor2 : (i ||| o) / 2 = i / 2 ||| o / 2 := Nat.or_div_two
    have hor1 := @Nat.or_mod_two_eq_one i o
    have hand1 := @Nat.and_mod_two_eq_one i o
    rw [hio] at hand1
    have hnot : ¬ (i % 2 = 1 ∧ o % 2 = 1) := fun q => by have := hand1.mpr q; omega
    have I1 := ih hks' N m (i / 2) (o / 2) hio2
    simp only [tr_G, tr_in, tr_fr, List.length_cons, tr_on, hor2]
    by_cases h1 : i % 2 = 1
    · have h2 : ¬ (T k = true ∧ (i ||| o) % 2 = 0) := fun q => by have := hor1.mpr (Or.inl h1); omega
      simp only [if_pos h1, if_neg h2, Nat.zero_add]
      by_cases h3 : T k = true ∧ N (A k) ≠ N (B k)
      · rw [if_pos h3]
        by_cases h4 : m = 0
        · rw [if_pos (Or.inr (Or.inr (Or.inr h4))), h1]
          unfold tr_aft
          split
          · rfl
          · rw [if_neg (by omega)]
        · rw [if_neg (by
            rintro (q | q | q | q)
            · exact hnot ⟨h1, q⟩
            · rw [h3.1] at q; cases q
            · exact h3.2 q
            · exact h4 q), ih hks' _ (m - 1) (i / 2) (o / 2) hio2, h1]
          unfold tr_aft
          split
          · rfl
          · by_cases h5 : tr_on ks.length (i / 2) ≤ m - 1
            · rw [if_pos h5, if_pos (by omega), show m - 1 - tr_on ks.length (i / 2) = m - (1 + tr_on ks.length (i / 2)) by omega]
            · rw [if_neg h5, if_neg (by omega)]
      · rw [if_neg h3, if_pos ?_]
        · rfl
        · by_cases h4 : T k = true
          · refine Or.inr (Or.inr (Or.inl ?_))
            by_cases h5 : N (A k) = N (B k)
            · exact h5
            · exact absurd ⟨h4, h5⟩ h3
          · refine Or.inr (Or.inl ?_)
            cases h5 : T k with
            | false => rfl
            | true => exact absurd h5 h4
    · have h1' : i % 2 = 0 := by omega
      simp only [if_neg h1]
      simp only [h1', Nat.zero_add]
      rw [I1]
      by_cases h2 : o % 2 = 1
      · have h3 : ¬ (T k = true ∧ (i ||| o) % 2 = 0) := fun q => by have := hor1.mpr (Or.inr h2); omega
        rw [if_pos (Or.inl h2), if_neg h3, Nat.add_zero]
      · have h3 : (i ||| o) % 2 = 0 := by
          have : ¬ ((i ||| o) % 2 = 1) := fun q => by
            rcases hor1.mp q with q | q
            · exact h1 q
            · exact h2 q
          omega
        by_cases hT : T k = true
        · rw [if_pos (⟨hT, h3⟩ : T k = true ∧ (i ||| o) % 2 = 0)]
          by_cases h4 : N (A k) = N (B k)
          · rw [if_pos (Or.inr (Or.inr (Or.inl h4))), Nat.add_zero]
            unfold tr_aft
            cases hq : tr_in T A B ks N (i / 2) with
            | none => rfl
            | some N' =>
              have h5 := tr_in_mono ks _ _ _ hq _ _ h4
              simp only [tr_T]
              rw [if_pos h5, Nat.add_zero]
          · have hE := tr_in_ex (T := T) (A := A) (B := B) hk.1 hk.2 ks hks' N (tr_jn N (A k) (B k)) (i / 2) (tr_Kr_rf _ _) h4
            by_cases h6 : m = 0
            · rw [if_pos (Or.inr (Or.inr (Or.inr h6))), Nat.add_zero]
              unfold tr_aft
              cases hq : tr_in T A B ks N (i / 2) with
              | none => rfl
              | some N' =>
                simp only [tr_T]
                by_cases h7 : tr_on ks.length (i / 2) ≤ m
                · rw [if_pos h7, if_pos h7, if_pos (show m - tr_on ks.length (i / 2) = 0 by omega)]
                  simp
                · rw [if_neg h7, if_neg h7]
            · rw [if_neg (by
                rintro (q | q | q | q)
                · exact h2 q
                · rw [hT] at q; cases q
                · exact h4 q
                · exact h6 q), ih hks' _ (m - 1) (i / 2) (o / 2) hio2]
              unfold tr_aft
              cases hq : tr_in T A B ks N (i / 2) with
              | none =>
                rw [hE.1 hq]
                rfl
              | some N' =>
                obtain ⟨e1, e2⟩ := hE.2 N' hq
                simp only [tr_T]
                by_cases h7 : N' (A k) = N' (B k)
                · rw [e1 h7, if_pos h7]
                  simp
                · obtain ⟨M', hM, hKr⟩ := e2 h7
                  rw [hM, if_neg h7]
                  simp only
                  rw [tr_T_kr _ _ _ _ (hFn ks hks' _) hKr]
                  by_cases h8 : tr_on ks.length (i / 2) ≤ m
                  · rw [if_pos h8, if_pos h8]
                    by_cases h9 : m - tr_on ks.length (i / 2) = 0
                    · rw [if_pos h9, if_neg (by omega)]
                    · rw [if_neg h9, if_pos (by omega), show m - 1 - tr_on ks.length (i / 2) = m - tr_on ks.length (i / 2) - 1 by omega]
                  · rw [if_neg h8, if_neg h8, if_neg (by omega)]
        · have hT' : T k = false := by
            cases h5 : T k with
            | false => rfl
            | true => exact absurd h5 hT
          rw [if_pos (Or.inr (Or.inl hT')), if_neg (fun q => hT q.1), Nat.add_zero]
theorem tr_fr_lt {T : Nat → Bool} {A B : Nat → Nat} {n : Nat} : ∀ (ks : List Nat), (∀ k ∈ ks, A k < n ∧ B k < n) → ∀ t, ∀ e ∈ tr_fr T A B ks t, e.1 < n ∧ e.2 < n := by
  intro ks
  induction ks with
  | nil => intro _ t e he; simp [tr_fr] at he
  | cons k ks ih =>
    intro hks t e he
    have hks' : ∀ k ∈ ks, A k < n ∧ B k < n := fun x hx => hks x (List.mem_cons_of_mem _ hx)
    simp only [tr_fr] at he
    by_cases h : T k = true ∧ t % 2 = 0
    · rw [if_pos h] at he
      rcases List.mem_cons.mp he with q | q
      · rw [q]; exact hks k List.mem_cons_self
      · exact ih hks' _ e q
    · rw [if_neg h] at he
      exact ih hks' _ e he
theorem tr_fr_len {T : Nat → Bool} {A B : Nat → Nat} : ∀ (ks : List Nat) (t : Nat), (tr_fr T A B ks t).length ≤ ks.length := by
  intro ks
  induction ks with
  | nil => intro t; exact Nat.le_refl _
  | cons k ks ih =>
    intro t
    have := ih (t / 2)
    simp only [tr_fr]
    split
    · simp only [List.length_cons]; omega
    · simp only [List.length_cons]; omega
/-- names that are of use: they lie below n and name themselves -/
def tr_Iv (n : Nat) (N : Nat → Nat) : Prop := ∀ p, p < n → N p < n ∧ N (N p) = N p
def tr_rt (n : Nat) (N : Nat → Nat) : Nat := tr_cnt (fun p => decide (N p = p)) n
theorem tr_Iv_jn {n a b : Nat} {N : Nat → Nat} (h : tr_Iv n N) (ha : a < n) (hb : b < n) : tr_Iv n (tr_jn N a b) := by
  intro p hp
  have h1 := h p hp
  have h2 := h a ha
  unfold tr_jn
  by_cases h3 : N p = N b
  · rw [if_pos h3]
    refine ⟨h2.1, ?_⟩
    rw [h2.2]
    split <;> rfl
  · rw [if_neg h3]
    refine ⟨h1.1, ?_⟩
    rw [h1.2, if_neg h3]
theorem tr_rt_jn {n a b : Nat} {N : Nat → Nat} (h : tr_Iv n N) (ha : a < n) (hb : b < n) (hne : N a ≠ N b) : tr_rt n (tr_jn N a b) + 1 = tr_rt n N := by
  have hb2 := h b hb
  have ha2 := h a ha
  have h1 := tr_cnt_rm (P := fun p => decide (N p = p)) (x := N b) (by simp [hb2.2]) n hb2.1
  unfold tr_rt
  rw [← h1]
  congr 1
  refine tr_cnt_congr n (fun p hp => ?_)
  unfold tr_jn
  by_cases h3 : N p = N b
  · rw [if_pos h3]
    by_cases h4 : N a = p
    · exact absurd (by rw [← h4, ha2.2] at h3; exact h3) hne
    · by_cases h5 : N p = p
      · have h6 : p = N b := by rw [← h5]; exact h3
        simp [h6, hne]
      · simp [h4, h5]
  · rw [if_neg h3]
    by_cases h5 : N p = p
    · have h6 : p ≠ N b := fun q => h3 (by rw [h5]; exact q)
      simp [h5, h6]
    · simp [h5]
theorem tr_in_iv {T : Nat → Bool} {A B : Nat → Nat} {n : Nat} : ∀ (ks : List Nat), (∀ k ∈ ks, A k < n ∧ B k < n) → ∀ (N N' : Nat → Nat) (i : Nat), tr_Iv n N → tr_in T A B ks N i = some N' → tr_Iv n N' ∧ tr_rt n N' + tr_on ks.length i = tr_rt n N := by
  intro ks
  induction ks with
  | nil =>
    intro _ N N' i h hq
    have : N = N' := by simpa [tr_in] using hq
    subst this
    exact ⟨h, rfl⟩
  | cons k ks ih =>
    intro hks N N' i h hq
    have hk := hks k List.mem_cons_self
    have hks' : ∀ k ∈ ks, A k < n ∧ B k < n := fun x hx => hks x (List.mem_cons_of_mem _ hx)
    simp only [tr_in] at hq
    simp only [List.length_cons, tr_on]
    by_cases h1 : i % 2 = 1
    · rw [if_pos h1] at hq
      by_cases h2 : T k = true ∧ N (A k) ≠ N (B k)
      · rw [if_pos h2] at hq
        have h3 := ih hks' _ _ _ (tr_Iv_jn h hk.1 hk.2) hq
        have h4 := tr_rt_jn h hk.1 hk.2 h2.2
        exact ⟨h3.1, by omega⟩
      · rw [if_neg h2] at hq
        cases hq
    · rw [if_neg h1] at hq
      have h3 := ih hks' _ _ _ h hq
      exact ⟨h3.1, by omega⟩
theorem tr_rt_id (n : Nat) : tr_rt n (fun p => p) = n := by
  unfold tr_rt
  induction n with
  | zero => rfl
  | succ n ih =>
    have ih' : tr_cnt (fun p => decide ((fun p => p) p = p)) n = n := ih
    show tr_cnt (fun p => decide ((fun p => p) p = p)) n + (if decide ((fun p : Nat => p) n = n) = true then 1 else 0) = n + 1
    rw [ih']
    simp
theorem tr_Iv_id (n : Nat) : tr_Iv n (fun p => p) := fun _ hp => ⟨hp, rfl⟩
/-- the row of a name -/
def tr_row (N : Nat → Nat) (p : Nat) : Nat := tr_cnt (fun q => decide (N q = q)) p
theorem tr_row_lt {n p q : Nat} {N : Nat → Nat} (hp : N p = p) (h : p < q) : tr_row N p < tr_row N q := by
  unfold tr_row
  have h1 := tr_cnt_mono (fun q => decide (N q = q)) (show p + 1 ≤ q from h)
  simp only [tr_cnt] at h1
  rw [if_pos (by simp [hp])] at h1
  omega
theorem tr_row_kr {n : Nat} {N : Nat → Nat} (h : tr_Iv n N) : tr_Kr n N (fun p => tr_row N (N p)) := by
  intro p q hp hq
  refine ⟨fun e => by simp only [e], fun e => ?_⟩
  have h1 := h p hp
  have h2 := h q hq
  rcases Nat.lt_trichotomy (N p) (N q) with g | g | g
  · have := tr_row_lt (n := n) h1.2 g
    simp only at e
    omega
  · exact g
  · have := tr_row_lt (n := n) h2.2 g
    simp only at e
    omega
theorem tr_row_le {n p : Nat} {N : Nat → Nat} (h : tr_Iv n N) (hp : p < n) : tr_row N (N p) < tr_rt n N := tr_row_lt (n := n) (h p hp).2 (h p hp).1
end
section
/-! PURE 3: determinants of at most 5 rows, written out (text by gen_det.py) -/
def tr_q2 (a b c d : Int) : Int := a * d - b * c
def tr_q3 (a00 a01 a02 a10 a11 a12 a20 a21 a22 : Int) : Int := a00 * tr_q2 a11 a12 a21 a22 - a01 * tr_q2 a10 a12 a20 a22 + a02 * tr_q2 a10 a11 a20 a21
def tr_q4 (a00 a01 a02 a03 a10 a11 a12 a13 a20 a21 a22 a23 a30 a31 a32 a33 : Int) : Int := a00 * tr_q3 a11 a12 a13 a21 a22 a23 a31 a32 a33 - a01 * tr_q3 a10 a12 a13 a20 a22 a23 a30 a32 a33 + a02 * tr_q3 a10 a11 a13 a20 a21 a23 a30 a31 a33 - a03 * tr_q3 a10 a11 a12 a20 a21 a22 a30 a31 a32
def tr_q5 (a00 a01 a02 a03 a04 a10 a11 a12 a13 a14 a20 a21 a22 a23 a24 a30 a31 a32 a33 a34 a40 a41 a42 a43 a44 : Int) : Int := a00 * tr_q4 a11 a12 a13 a14 a21 a22 a23 a24 a31 a32 a33 a34 a41 a42 a43 a44 - a01 * tr_q4 a10 a12 a13 a14 a20 a22 a23 a24 a30 a32 a33 a34 a40 a42 a43 a44 + a02 * tr_q4 a10 a11 a13 a14 a20 a21 a23 a24 a30 a31 a33 a34 a40 a41 a43 a44 - a03 * tr_q4 a10 a11 a12 a14 a20 a21 a22 a24 a30 a31 a32 a34 a40 a41 a42 a44 + a04 * tr_q4 a10 a11 a12 a13 a20 a21 a22 a23 a30 a31 a32 a33 a40 a41 a42 a43
def tr_det (m : Nat) (M : Nat → Nat → Int) : Int := match m with
  | 0 => 1
  | 1 => M 0 0
  | 2 => tr_q2 (M 0 0) (M 0 1) (M 1 0) (M 1 1)
  | 3 => tr_q3 (M 0 0) (M 0 1) (M 0 2) (M 1 0) (M 1 1) (M 1 2) (M 2 0) (M 2 1) (M 2 2)
  | 4 => tr_q4 (M 0 0) (M 0 1) (M 0 2) (M 0 3) (M 1 0) (M 1 1) (M 1 2) (M 1 3) (M 2 0) (M 2 1) (M 2 2) (M 2 3) (M 3 0) (M 3 1) (M 3 2) (M 3 3)
  | _ => tr_q5 (M 0 0) (M 0 1) (M 0 2) (M 0 3) (M 0 4) (M 1 0) (M 1 1) (M 1 2) (M 1 3) (M 1 4) (M 2 0) (M 2 1) (M 2 2) (M 2 3) (M 2 4) (M 3 0) (M 3 1) (M 3 2) (M 3 3) (M 3 4) (M 4 0) (M 4 1) (M 4 2) (M 4 3) (M 4 4)
/-- the minor of the first k rows and columns with row i and column j -/
def tr_D (k : Nat) (M : Nat → Nat → Int) (i j : Nat) : Int := match k with
  | 0 => M i j
  | 1 => tr_q2 (M 0 0) (M 0 j) (M i 0) (M i j)
  | 2 => tr_q3 (M 0 0) (M 0 1) (M 0 j) (M 1 0) (M 1 1) (M 1 j) (M i 0) (M i 1) (M i j)
  | 3 => tr_q4 (M 0 0) (M 0 1) (M 0 2) (M 0 j) (M 1 0) (M 1 1) (M 1 2) (M 1 j) (M 2 0) (M 2 1) (M 2 2) (M 2 j) (M i 0) (M i 1) (M i 2) (M i j)
  | _ => tr_q5 (M 0 0) (M 0 1) (M 0 2) (M 0 3) (M 0 j) (M 1 0) (M 1 1) (M 1 2) (M 1 3) (M 1 j) (M 2 0) (M 2 1) (M 2 2) (M 2 3) (M 2 j) (M 3 0) (M 3 1) (M 3 2) (M 3 3) (M 3 j) (M i 0) (M i 1) (M i 2) (M i 3) (M i j)
def tr_d (x i : Nat) : Int := if x = i then 1 else 0
def tr_e (x y i j : Nat) : Int := (tr_d x i - tr_d y i) * (tr_d x j - tr_d y j)
def tr_tau (x i : Nat) : Nat := if i < x then i else i + 1
def tr_mrg (x y : Nat) (M : Nat → Nat → Int) (i j : Nat) : Int := M (tr_tau y i) (tr_tau y j) + (if i = x then M y (tr_tau y j) else 0) + (if j = x then M (tr_tau y i) y else 0) + (if i = x ∧ j = x then M y y else 0)
theorem tr_ir_1_0 (a00 : Int) : a00 + 1 = a00 + 1 := by
  skip
  grind
theorem tr_ir_2_0 (a00 a01 a10 a11 : Int) : tr_q2 (a00 + 1) (a01 + 0) (a10 + 0) (a11 + 0) = tr_q2 a00 a01 a10 a11 + a11 := by
  simp only [tr_q2]
  grind
theorem tr_ir_2_1 (a00 a01 a10 a11 : Int) : tr_q2 (a00 + 0) (a01 + 0) (a10 + 0) (a11 + 1) = tr_q2 a00 a01 a10 a11 + a00 := by
  simp only [tr_q2]
  grind
theorem tr_ir_3_0 (a00 a01 a02 a10 a11 a12 a20 a21 a22 : Int) : tr_q3 (a00 + 1) (a01 + 0) (a02 + 0) (a10 + 0) (a11 + 0) (a12 + 0) (a20 + 0) (a21 + 0) (a22 + 0) = tr_q3 a00 a01 a02 a10 a11 a12 a20 a21 a22 + tr_q2 a11 a12 a21 a22 := by
  simp only [tr_q3, tr_q2]
  grind
theorem tr_ir_3_1 (a00 a01 a02 a10 a11 a12 a20 a21 a22 : Int) : tr_q3 (a00 + 0) (a01 + 0) (a02 + 0) (a10 + 0) (a11 + 1) (a12 + 0) (a20 + 0) (a21 + 0) (a22 + 0) = tr_q3 a00 a01 a02 a10 a11 a12 a20 a21 a22 + tr_q2 a00 a02 a20 a22 := by
  simp only [tr_q3, tr_q2]
  grind
theorem tr_ir_3_2 (a00 a01 a02 a10 a11 a12 a20 a21 a22 : Int) : tr_q3 (a00 + 0) (a01 + 0) (a02 + 0) (a10 + 0) (a11 + 0) (a12 + 0) (a20 + 0) (a21 + 0) (a22 + 1) = tr_q3 a00 a01 a02 a10 a11 a12 a20 a21 a22 + tr_q2 a00 a01 a10 a11 := by
  simp only [tr_q3, tr_q2]
  grind
theorem tr_ir_4_0 (a00 a01 a02 a03 a10 a11 a12 a13 a20 a21 a22 a23 a30 a31 a32 a33 : Int) : tr_q4 (a00 + 1) (a01 + 0) (a02 + 0) (a03 + 0) (a10 + 0) (a11 + 0) (a12 + 0) (a13 + 0) (a20 + 0) (a21 + 0) (a22 + 0) (a23 + 0) (a30 + 0) (a31 + 0) (a32 + 0) (a33 + 0) = tr_q4 a00 a01 a02 a03 a10 a11 a12 a13 a20 a21 a22 a23 a30 a31 a32 a33 + tr_q3 a11 a12 a13 a21 a22 a23 a31 a32 a33 := by
  simp only [tr_q4, tr_q3, tr_q2]
  grind
theorem tr_ir_4_1 (a00 a01 a02 a03 a10 a11 a12 a13 a20 a21 a22 a23 a30 a31 a32 a33 : Int) : tr_q4 (a00 + 0) (a01 + 0) (a02 + 0) (a03 + 0) (a10 + 0) (a11 + 1) (a12 + 0) (a13 + 0) (a20 + 0) (a21 + 0) (a22 + 0) (a23 + 0) (a30 + 0) (a31 + 0) (a32 + 0) (a33 + 0) = tr_q4 a00 a01 a02 a03 a10 a11 a12 a13 a20 a21 a22 a23 a30 a31 a32 a33 + tr_q3 a00 a02 a03 a20 a22 a23 a30 a32 a33 := by
  simp only [tr_q4, tr_q3, tr_q2]
  grind
theorem tr_ir_4_2 (a00 a01 a02 a03 a10 a11 a12 a13 a20 a21 a22 a23 a30 a31 a32 a33 : Int) : tr_q4 (a00 + 0) (a01 + 0) (a02 + 0) (a03 + 0) (a10 + 0) (a11 + 0) (a12 + 0) (a13 + 0) (a20 + 0) (a21 + 0) (a22 + 1) (a23 + 0) (a30 + 0) (a31 + 0) (a32 + 0) (a33 + 0) = tr_q4 a00 a01 a02 a03 a10 a11 a12 a13 a20 a21 a22 a23 a30 a31 a32 a33 + tr_q3 a00 a01 a03 a10 a11 a13 a30 a31 a33 := by
  simp only [tr_q4, tr_q3, tr_q2]
  grind
theorem tr_ir_4_3 (a00 a01 a02 a03 a10 a11 a12 a13 a20 a21 a22 a23 a30 a31 a32 a33 : Int) : tr_q4 (a00 + 0) (a01 + 0) (a02 + 0) (a03 + 0) (a10 + 0) (a11 + 0) (a12 + 0) (a13 + 0) (a20 + 0) (a21 + 0) (a22 + 0) (a23 + 0) (a30 + 0) (a31 + 0) (a32 + 0) (a33 + 1) = tr_q4 a00 a01 a02 a03 a10 a11 a12 a13 a20 a21 a22 a23 a30 a31 a32 a33 + tr_q3 a00 a01 a02 a10 a11 a12 a20 a21 a22 := by
  simp only [tr_q4, tr_q3, tr_q2]
  grind
theorem tr_ir_5_0 (a00 a01 a02 a03 a04 a10 a11 a12 a13 a14 a20 a21 a22 a23 a24 a30 a31 a32 a33 a34 a40 a41 a42 a43 a44 : Int) : tr_q5 (a00 + 1) (a01 + 0) (a02 + 0) (a03 + 0) (a04 + 0) (a10 + 0) (a11 + 0) (a12 + 0) (a13 + 0) (a14 + 0) (a20 + 0) (a21 + 0) (a22 + 0) (a23 + 0) (a24 + 0) (a30 + 0) (a31 + 0) (a32 + 0) (a33 + 0) (a34 + 0) (a40 + 0) (a41 + 0) (a42 + 0) (a43 + 0) (a44 + 0) = tr_q5 a00 a01 a02 a03 a04 a10 a11 a12 a13 a14 a20 a21 a22 a23 a24 a30 a31 a32 a33 a34 a40 a41 a42 a43 a44 + tr_q4 a11 a12 a13 a14 a21 a22 a23 a24 a31 a32 a33 a34 a41 a42 a43 a44 := by
  simp only [tr_q5, tr_q4, tr_q3, tr_q2]
  grind
theorem tr_ir_5_1 (a00 a01 a02 a03 a04 a10 a11 a12 a13 a14 a20 a21 a22 a23 a24 a30 a31 a32 a33 a34 a40 a41 a42 a43 a44 : Int) : tr_q5 (a00 + 0) (a01 + 0) (a02 + 0) (a03 + 0) (a04 + 0) (a10 + 0) (a11 + 1) (a12 + 0) (a13 + 0) (a14 + 0) (a20 + 0) (a21 + 0) (a22 + 0) (a23 + 0) (a24 + 0) (a30 + 0) (a31 + 0) (a32 + 0) (a33 + 0) (a34 + 0) (a40 + 0) (a41 + 0) (a42 + 0) (a43 + 0) (a44 + 0) = tr_q5 a00 a01 a02 a03 a04 a10 a11 a12 a13 a14 a20 a21 a22 a23 a24 a30 a31 a32 a33 a34 a40 a41 a42 a43 a44 + tr_q4 a00 a02 a03 a04 a20 a22 a23 a24 a30 a32 a33 a34 a40 a42 a43 a44 := by
  simp only [tr_q5, tr_q4, tr_q3, tr_q2]
  grind
theorem tr_ir_5_2 (a00 a01 a02 a03 a04 a10 a11 a12 a13 a14 a20 a21 a22 a23 a24 a30 a31 a32 a33 a34 a40 a41 a42 a43 a44 : Int) : tr_q5 (a00 + 0) (a01 + 0) (a02 + 0) (a03 + 0) (a04 + 0) (a10 + 0) (a11 + 0) (a12 + 0) (a13 + 0) (a14 + 0) (a20 + 0) (a21 + 0) (a22 + 1) (a23 + 0) (a24 + 0) (a30 + 0) (a31 + 0) (a32 + 0) (a33 + 0) (a34 + 0) (a40 + 0) (a41 + 0) (a42 + 0) (a43 + 0) (a44 + 0) = tr_q5 a00 a01 a02 a03 a04 a10 a11 a12 a13 a14 a20 a21 a22 a23 a24 a30 a31 a32 a33 a34 a40 a41 a42 a43 a44 + tr_q4 a00 a01 a03 a04 a10 a11 a13 a14 a30 a31 a33 a34 a40 a41 a43 a44 := by
  simp only [tr_q5, tr_q4, tr_q3, tr_q2]
  grind
theorem tr_ir_5_3 (a00 a01 a02 a03 a04 a10 a11 a12 a13 a14 a20 a21 a22 a23 a24 a30 a31 a32 a33 a34 a40 a41 a42 a43 a44 : Int) : tr_q5 (a00 + 0) (a01 + 0) (a02 + 0) (a03 + 0) (a04 + 0) (a10 + 0) (a11 + 0) (a12 + 0) (a13 + 0) (a14 + 0) (a20 + 0) (a21 + 0) (a22 + 0) (a23 + 0) (a24 + 0) (a30 + 0) (a31 + 0) (a32 + 0) (a33 + 1) (a34 + 0) (a40 + 0) (a41 + 0) (a42 + 0) (a43 + 0) (a44 + 0) = tr_q5 a00 a01 a02 a03 a04 a10 a11 a12 a13 a14 a20 a21 a22 a23 a24 a30 a31 a32 a33 a34 a40 a41 a42 a43 a44 + tr_q4 a00 a01 a02 a04 a10 a11 a12 a14 a20 a21 a22 a24 a40 a41 a42 a44 := by
  simp only [tr_q5, tr_q4, tr_q3, tr_q2]
  grind
theorem tr_ir_5_4 (a00 a01 a02 a03 a04 a10 a11 a12 a13 a14 a20 a21 a22 a23 a24 a30 a31 a32 a33 a34 a40 a41 a42 a43 a44 : Int) : tr_q5 (a00 + 0) (a01 + 0) (a02 + 0) (a03 + 0) (a04 + 0) (a10 + 0) (a11 + 0) (a12 + 0) (a13 + 0) (a14 + 0) (a20 + 0) (a21 + 0) (a22 + 0) (a23 + 0) (a24 + 0) (a30 + 0) (a31 + 0) (a32 + 0) (a33 + 0) (a34 + 0) (a40 + 0) (a41 + 0) (a42 + 0) (a43 + 0) (a44 + 1) = tr_q5 a00 a01 a02 a03 a04 a10 a11 a12 a13 a14 a20 a21 a22 a23 a24 a30 a31 a32 a33 a34 a40 a41 a42 a43 a44 + tr_q4 a00 a01 a02 a03 a10 a11 a12 a13 a20 a21 a22 a23 a30 a31 a32 a33 := by
  simp only [tr_q5, tr_q4, tr_q3, tr_q2]
  grind
theorem tr_in_2_0_1 (a00 a01 a10 a11 : Int) : tr_q2 (a00 + 1) (a01 + (-1)) (a10 + (-1)) (a11 + 1) = tr_q2 a00 a01 a10 a11 + (a00 + a10 + a01 + a11) := by
  simp only [tr_q2]
  grind
theorem tr_in_3_0_1 (a00 a01 a02 a10 a11 a12 a20 a21 a22 : Int) : tr_q3 (a00 + 1) (a01 + (-1)) (a02 + 0) (a10 + (-1)) (a11 + 1) (a12 + 0) (a20 + 0) (a21 + 0) (a22 + 0) = tr_q3 a00 a01 a02 a10 a11 a12 a20 a21 a22 + tr_q2 (a00 + a10 + a01 + a11) (a02 + a12 + 0 + 0) (a20 + 0 + a21 + 0) (a22 + 0 + 0 + 0) := by
  simp only [tr_q3, tr_q2]
  grind
theorem tr_in_3_0_2 (a00 a01 a02 a10 a11 a12 a20 a21 a22 : Int) : tr_q3 (a00 + 1) (a01 + 0) (a02 + (-1)) (a10 + 0) (a11 + 0) (a12 + 0) (a20 + (-1)) (a21 + 0) (a22 + 1) = tr_q3 a00 a01 a02 a10 a11 a12 a20 a21 a22 + tr_q2 (a00 + a20 + a02 + a22) (a01 + a21 + 0 + 0) (a10 + 0 + a12 + 0) (a11 + 0 + 0 + 0) := by
  simp only [tr_q3, tr_q2]
  grind
theorem tr_in_3_1_2 (a00 a01 a02 a10 a11 a12 a20 a21 a22 : Int) : tr_q3 (a00 + 0) (a01 + 0) (a02 + 0) (a10 + 0) (a11 + 1) (a12 + (-1)) (a20 + 0) (a21 + (-1)) (a22 + 1) = tr_q3 a00 a01 a02 a10 a11 a12 a20 a21 a22 + tr_q2 (a00 + 0 + 0 + 0) (a01 + 0 + a02 + 0) (a10 + a20 + 0 + 0) (a11 + a21 + a12 + a22) := by
  simp only [tr_q3, tr_q2]
  grind
theorem tr_in_4_0_1 (a00 a01 a02 a03 a10 a11 a12 a13 a20 a21 a22 a23 a30 a31 a32 a33 : Int) : tr_q4 (a00 + 1) (a01 + (-1)) (a02 + 0) (a03 + 0) (a10 + (-1)) (a11 + 1) (a12 + 0) (a13 + 0) (a20 + 0) (a21 + 0) (a22 + 0) (a23 + 0) (a30 + 0) (a31 + 0) (a32 + 0) (a33 + 0) = tr_q4 a00 a01 a02 a03 a10 a11 a12 a13 a20 a21 a22 a23 a30 a31 a32 a33 + tr_q3 (a00 + a10 + a01 + a11) (a02 + a12 + 0 + 0) (a03 + a13 + 0 + 0) (a20 + 0 + a21 + 0) (a22 + 0 + 0 + 0) (a23 + 0 + 0 + 0) (a30 + 0 + a31 + 0) (a32 + 0 + 0 + 0) (a33 + 0 + 0 + 0) := by
  simp only [tr_q4, tr_q3, tr_q2]
  grind
theorem tr_in_4_0_2 (a00 a01 a02 a03 a10 a11 a12 a13 a20 a21 a22 a23 a30 a31 a32 a33 : Int) : tr_q4 (a00 + 1) (a01 + 0) (a02 + (-1)) (a03 + 0) (a10 + 0) (a11 + 0) (a12 + 0) (a13 + 0) (a20 + (-1)) (a21 + 0) (a22 + 1) (a23 + 0) (a30 + 0) (a31 + 0) (a32 + 0) (a33 + 0) = tr_q4 a00 a01 a02 a03 a10 a11 a12 a13 a20 a21 a22 a23 a30 a31 a32 a33 + tr_q3 (a00 + a20 + a02 + a22) (a01 + a21 + 0 + 0) (a03 + a23 + 0 + 0) (a10 + 0 + a12 + 0) (a11 + 0 + 0 + 0) (a13 + 0 + 0 + 0) (a30 + 0 + a32 + 0) (a31 + 0 + 0 + 0) (a33 + 0 + 0 + 0) := by
  simp only [tr_q4, tr_q3, tr_q2]
  grind
theorem tr_in_4_0_3 (a00 a01 a02 a03 a10 a11 a12 a13 a20 a21 a22 a23 a30 a31 a32 a33 : Int) : tr_q4 (a00 + 1) (a01 + 0) (a02 + 0) (a03 + (-1)) (a10 + 0) (a11 + 0) (a12 + 0) (a13 + 0) (a20 + 0) (a21 + 0) (a22 + 0) (a23 + 0) (a30 + (-1)) (a31 + 0) (a32 + 0) (a33 + 1) = tr_q4 a00 a01 a02 a03 a10 a11 a12 a13 a20 a21 a22 a23 a30 a31 a32 a33 + tr_q3 (a00 + a30 + a03 + a33) (a01 + a31 + 0 + 0) (a02 + a32 + 0 + 0) (a10 + 0 + a13 + 0) (a11 + 0 + 0 + 0) (a12 + 0 + 0 + 0) (a20 + 0 + a23 + 0) (a21 + 0 + 0 + 0) (a22 + 0 + 0 + 0) := by
  simp only [tr_q4, tr_q3, tr_q2]
  grind
theorem tr_in_4_1_2 (a00 a01 a02 a03 a10 a11 a12 a13 a20 a21 a22 a23 a30 a31 a32 a33 : Int) : tr_q4 (a00 + 0) (a01 + 0) (a02 + 0) (a03 + 0) (a10 + 0) (a11 + 1) (a12 + (-1)) (a13 + 0) (a20 + 0) (a21 + (-1)) (a22 + 1) (a23 + 0) (a30 + 0) (a31 + 0) (a32 + 0) (a33 + 0) = tr_q4 a00 a01 a02 a03 a10 a11 a12 a13 a20 a21 a22 a23 a30 a31 a32 a33 + tr_q3 (a00 + 0 + 0 + 0) (a01 + 0 + a02 + 0) (a03 + 0 + 0 + 0) (a10 + a20 + 0 + 0) (a11 + a21 + a12 + a22) (a13 + a23 + 0 + 0) (a30 + 0 + 0 + 0) (a31 + 0 + a32 + 0) (a33 + 0 + 0 + 0) := by
  simp only [tr_q4, tr_q3, tr_q2]
  grind
theorem tr_in_4_1_3 (a00 a01 a02 a03 a10 a11 a12 a13 a20 a21 a22 a23 a30 a31 a32 a33 : Int) : tr_q4 (a00 + 0) (a01 + 0) (a02 + 0) (a03 + 0) (a10 + 0) (a11 + 1) (a12 + 0) (a13 + (-1)) (a20 + 0) (a21 + 0) (a22 + 0) (a23 + 0) (a30 + 0) (a31 + (-1)) (a32 + 0) (a33 + 1) = tr_q4 a00 a01 a02 a03 a10 a11 a12 a13 a20 a21 a22 a23 a30 a31 a32 a33 + tr_q3 (a00 + 0 + 0 + 0) (a01 + 0 + a03 + 0) (a02 + 0 + 0 + 0) (a10 + a30 + 0 + 0) (a11 + a31 + a13 + a33) (a12 + a32 + 0 + 0) (a20 + 0 + 0 + 0) (a21 + 0 + a23 + 0) (a22 + 0 + 0 + 0) := by
  simp only [tr_q4, tr_q3, tr_q2]
  grind
theorem tr_in_4_2_3 (a00 a01 a02 a03 a10 a11 a12 a13 a20 a21 a22 a23 a30 a31 a32 a33 : Int) : tr_q4 (a00 + 0) (a01 + 0) (a02 + 0) (a03 + 0) (a10 + 0) (a11 + 0) (a12 + 0) (a13 + 0) (a20 + 0) (a21 + 0) (a22 + 1) (a23 + (-1)) (a30 + 0) (a31 + 0) (a32 + (-1)) (a33 + 1) = tr_q4 a00 a01 a02 a03 a10 a11 a12 a13 a20 a21 a22 a23 a30 a31 a32 a33 + tr_q3 (a00 + 0 + 0 + 0) (a01 + 0 + 0 + 0) (a02 + 0 + a03 + 0) (a10 + 0 + 0 + 0) (a11 + 0 + 0 + 0) (a12 + 0 + a13 + 0) (a20 + a30 + 0 + 0) (a21 + a31 + 0 + 0) (a22 + a32 + a23 + a33) := by
  simp only [tr_q4, tr_q3, tr_q2]
  grind
theorem tr_in_5_0_1 (a00 a01 a02 a03 a04 a10 a11 a12 a13 a14 a20 a21 a22 a23 a24 a30 a31 a32 a33 a34 a40 a41 a42 a43 a44 : Int) : tr_q5 (a00 + 1) (a01 + (-1)) (a02 + 0) (a03 + 0) (a04 + 0) (a10 + (-1)) (a11 + 1) (a12 + 0) (a13 + 0) (a14 + 0) (a20 + 0) (a21 + 0) (a22 + 0) (a23 + 0) (a24 + 0) (a30 + 0) (a31 + 0) (a32 + 0) (a33 + 0) (a34 + 0) (a40 + 0) (a41 + 0) (a42 + 0) (a43 + 0) (a44 + 0) = tr_q5 a00 a01 a02 a03 a04 a10 a11 a12 a13 a14 a20 a21 a22 a23 a24 a30 a31 a32 a33 a34 a40 a41 a42 a43 a44 + tr_q4 (a00 + a10 + a01 + a11) (a02 + a12 + 0 + 0) (a03 + a13 + 0 + 0) (a04 + a14 + 0 + 0) (a20 + 0 + a21 + 0) (a22 + 0 + 0 + 0) (a23 + 0 + 0 + 0) (a24 + 0 + 0 + 0) (a30 + 0 + a31 + 0) (a32 + 0 + 0 + 0) (a33 + 0 + 0 + 0) (a34 + 0 + 0 + 0) (a40 + 0 + a41 + 0) (a42 + 0 + 0 + 0) (a43 + 0 + 0 + 0) (a44 + 0 + 0 + 0) := by
  simp only [tr_q5, tr_q4, tr_q3, tr_q2]
  grind
theorem tr_in_5_0_2 (a00 a01 a02 a03 a04 a10 a11 a12 a13 a14 a20 a21 a22 a23 a24 a30 a31 a32 a33 a34 a40 a41 a42 a43 a44 : Int) : tr_q5 (a00 + 1) (a01 + 0) (a02 + (-1)) (a03 + 0) (a04 + 0) (a10 + 0) (a11 + 0) (a12 + 0) (a13 + 0) (a14 + 0) (a20 + (-1)) (a21 + 0) (a22 + 1) (a23 + 0) (a24 + 0) (a30 + 0) (a31 + 0) (a32 + 0) (a33 + 0) (a34 + 0) (a40 + 0) (a41 + 0) (a42 + 0) (a43 + 0) (a44 + 0) = tr_q5 a00 a01 a02 a03 a04 a10 a11 a12 a13 a14 a20 a21 a22 a23 a24 a30 a31 a32 a33 a34 a40 a41 a42 a43 a44 + tr_q4 (a00 + a20 + a02 + a22) (a01 + a21 + 0 + 0) (a03 + a23 + 0 + 0) (a04 + a24 + 0 + 0) (a10 + 0 + a12 + 0) (a11 + 0 + 0 + 0) (a13 + 0 + 0 + 0) (a14 + 0 + 0 + 0) (a30 + 0 + a32 + 0) (a31 + 0 + 0 + 0) (a33 + 0 + 0 + 0) (a34 + 0 + 0 + 0) (a40 + 0 + a42 + 0) (a41 + 0 + 0 + 0) (a43 + 0 + 0 + 0) (a44 + 0 + 0 + 0) := by
  simp only [tr_q5, tr_q4, tr_q3, tr_q2]
  grind
theorem tr_in_5_0_3 (a00 a01 a02 a03 a04 a10 a11 a12 a13 a14 a20 a21 a22 a23 a24 a30 a31 a32 a33 a34 a40 a41 a42 a43 a44 : Int) : tr_q5 (a00 + 1) (a01 + 0) (a02 + 0) (a03 + (-1)) (a04 + 0) (a10 + 0) (a11 + 0) (a12 + 0) (a13 + 0) (a14 + 0) (a20 + 0) (a21 + 0) (a22 + 0) (a23 + 0) (a24 + 0) (a30 + (-1)) (a31 + 0) (a32 + 0) (a33 + 1) (a34 + 0) (a40 + 0) (a41 + 0) (a42 + 0) (a43 + 0) (a44 + 0) = tr_q5 a00 a01 a02 a03 a04 a10 a11 a12 a13 a14 a20 a21 a22 a23 a24 a30 a31 a32 a33 a34 a40 a41 a42 a43 a44 + tr_q4 (a00 + a30 + a03 + a33) (a01 + a31 + 0 + 0) (a02 + a32 + 0 + 0) (a04 + a34 + 0 + 0) (a10 + 0 + a13 + 0) (a11 + 0 + 0 + 0) (a12 + 0 + 0 + 0) (a14 + 0 + 0 + 0) (a20 + 0 + a23 + 0) (a21 + 0 + 0 + 0) (a22 + 0 + 0 + 0) (a24 + 0 + 0 + 0) (a40 + 0 + a43 + 0) (a41 + 0 + 0 + 0) (a42 + 0 + 0 + 0) (a44 + 0 + 0 + 0) := by
  simp only [tr_q5, tr_q4, tr_q3, tr_q2]
  grind
theorem tr_in_5_0_4 (a00 a01 a02 a03 a04 a10 a11 a12 a13 a14 a20 a21 a22 a23 a24 a30 a31 a32 a33 a34 a40 a41 a42 a43 a44 : Int) : tr_q5 (a00 + 1) (a01 + 0) (a02 + 0) (a03 + 0) (a04 + (-1)) (a10 + 0) (a11 + 0) (a12 + 0) (a13 + 0) (a14 + 0) (a20 + 0) (a21 + 0) (a22 + 0) (a23 + 0) (a24 + 0) (a30 + 0) (a31 + 0) (a32 + 0) (a33 + 0) (a34 + 0) (a40 + (-1)) (a41 + 0) (a42 + 0) (a43 + 0) (a44 + 1) = tr_q5 a00 a01 a02 a03 a04 a10 a11 a12 a13 a14 a20 a21 a22 a23 a24 a30 a31 a32 a33 a34 a40 a41 a42 a43 a44 + tr_q4 (a00 + a40 + a04 + a44) (a01 + a41 + 0 + 0) (a02 + a42 + 0 + 0) (a03 + a43 + 0 + 0) (a10 + 0 + a14 + 0) (a11 + 0 + 0 + 0) (a12 + 0 + 0 + 0) (a13 + 0 + 0 + 0) (a20 + 0 + a24 + 0) (a21 + 0 + 0 + 0) (a22 + 0 + 0 + 0) (a23 + 0 + 0 + 0) (a30 + 0 + a34 + 0) (a31 + 0 + 0 + 0) (a32 + 0 + 0 + 0) (a33 + 0 + 0 + 0) := by
  simp only [tr_q5, tr_q4, tr_q3, tr_q2]
  grind
theorem tr_in_5_1_2 (a00 a01 a02 a03 a04 a10 a11 a12 a13 a14 a20 a21 a22 a23 a24 a30 a31 a32 a33 a34 a40 a41 a42 a43 a44 : Int) : tr_q5 (a00 + 0) (a01 + 0) (a02 + 0) (a03 + 0) (a04 + 0) (a10 + 0) (a11 + 1) (a12 + (-1)) (a13 + 0) (a14 + 0) (a20 + 0) (a21 + (-1)) (a22 + 1) (a23 + 0) (a24 + 0) (a30 + 0) (a31 + 0) (a32 + 0) (a33 + 0) (a34 + 0) (a40 + 0) (a41 + 0) (a42 + 0) (a43 + 0) (a44 + 0) = tr_q5 a00 a01 a02 a03 a04 a10 a11 a12 a13 a14 a20 a21 a22 a23 a24 a30 a31 a32 a33 a34 a40 a41 a42 a43 a44 + tr_q4 (a00 + 0 + 0 + 0) (a01 + 0 + a02 + 0) (a03 + 0 + 0 + 0) (a04 + 0 + 0 + 0) (a10 + a20 + 0 + 0) (a11 + a21 + a12 + a22) (a13 + a23 + 0 + 0) (a14 + a24 + 0 + 0) (a30 + 0 + 0 + 0) (a31 + 0 + a32 + 0) (a33 + 0 + 0 + 0) (a34 + 0 + 0 + 0) (a40 + 0 + 0 + 0) (a41 + 0 + a42 + 0) (a43 + 0 + 0 + 0) (a44 + 0 + 0 + 0) := by
  simp only [tr_q5, tr_q4, tr_q3, tr_q2]
  grind
theorem tr_in_5_1_3 (a00 a01 a02 a03 a04 a10 a11 a12 a13 a14 a20 a21 a22 a23 a24 a30 a31 a32 a33 a34 a40 a41 a42 a43 a44 : Int) : tr_q5 (a00 + 0) (a01 + 0) (a02 + 0) (a03 + 0) (a04 + 0) (a10 + 0) (a11 + 1) (a12 + 0) (a13 + (-1)) (a14 + 0) (a20 + 0) (a21 + 0) (a22 + 0) (a23 + 0) (a24 + 0) (a30 + 0) (a31 + (-1)) (a32 + 0) (a33 + 1) (a34 + 0) (a40 + 0) (a41 + 0) (a42 + 0) (a43 + 0) (a44 + 0) = tr_q5 a00 a01 a02 a03 a04 a10 a11 a12 a13 a14 a20 a21 a22 a23 a24 a30 a31 a32 a33 a34 a40 a41 a42 a43 a44 + tr_q4 (a00 + 0 + 0 + 0) (a01 + 0 + a03 + 0) (a02 + 0 + 0 + 0) (a04 + 0 + 0 + 0) (a10 + a30 + 0 + 0) (a11 + a31 + a13 + a33) (a12 + a32 + 0 + 0) (a14 + a34 + 0 + 0) (a20 + 0 + 0 + 0) (a21 + 0 + a23 + 0) (a22 + 0 + 0 + 0) (a24 + 0 + 0 + 0) (a40 + 0 + 0 + 0) (a41 + 0 + a43 + 0) (a42 + 0 + 0 + 0) (a44 + 0 + 0 + 0) := by
  simp only [tr_q5, tr_q4, tr_q3, tr_q2]
  grind
theorem tr_in_5_1_4 (a00 a01 a02 a03 a04 a10 a11 a12 a13 a14 a20 a21 a22 a23 a24 a30 a31 a32 a33 a34 a40 a41 a42 a43 a44 : Int) : tr_q5 (a00 + 0) (a01 + 0) (a02 + 0) (a03 + 0) (a04 + 0) (a10 + 0) (a11 + 1) (a12 + 0) (a13 + 0) (a14 + (-1)) (a20 + 0) (a21 + 0) (a22 + 0) (a23 + 0) (a24 + 0) (a30 + 0) (a31 + 0) (a32 + 0) (a33 + 0) (a34 + 0) (a40 + 0) (a41 + (-1)) (a42 + 0) (a43 + 0) (a44 + 1) = tr_q5 a00 a01 a02 a03 a04 a10 a11 a12 a13 a14 a20 a21 a22 a23 a24 a30 a31 a32 a33 a34 a40 a41 a42 a43 a44 + tr_q4 (a00 + 0 + 0 + 0) (a01 + 0 + a04 + 0) (a02 + 0 + 0 + 0) (a03 + 0 + 0 + 0) (a10 + a40 + 0 + 0) (a11 + a41 + a14 + a44) (a12 + a42 + 0 + 0) (a13 + a43 + 0 + 0) (a20 + 0 + 0 + 0) (a21 + 0 + a24 + 0) (a22 + 0 + 0 + 0) (a23 + 0 + 0 + 0) (a30 + 0 + 0 + 0) (a31 + 0 + a34 + 0) (a32 + 0 + 0 + 0) (a33 + 0 + 0 + 0) := by
  simp only [tr_q5, tr_q4, tr_q3, tr_q2]
  grind
theorem tr_in_5_2_3 (a00 a01 a02 a03 a04 a10 a11 a12 a13 a14 a20 a21 a22 a23 a24 a30 a31 a32 a33 a34 a40 a41 a42 a43 a44 : Int) : tr_q5 (a00 + 0) (a01 + 0) (a02 + 0) (a03 + 0) (a04 + 0) (a10 + 0) (a11 + 0) (a12 + 0) (a13 + 0) (a14 + 0) (a20 + 0) (a21 + 0) (a22 + 1) (a23 + (-1)) (a24 + 0) (a30 + 0) (a31 + 0) (a32 + (-1)) (a33 + 1) (a34 + 0) (a40 + 0) (a41 + 0) (a42 + 0) (a43 + 0) (a44 + 0) = tr_q5 a00 a01 a02 a03 a04 a10 a11 a12 a13 a14 a20 a21 a22 a23 a24 a30 a31 a32 a33 a34 a40 a41 a42 a43 a44 + tr_q4 (a00 + 0 + 0 + 0) (a01 + 0 + 0 + 0) (a02 + 0 + a03 + 0) (a04 + 0 + 0 + 0) (a10 + 0 + 0 + 0) (a11 + 0 + 0 + 0) (a12 + 0 + a13 + 0) (a14 + 0 + 0 + 0) (a20 + a30 + 0 + 0) (a21 + a31 + 0 + 0) (a22 + a32 + a23 + a33) (a24 + a34 + 0 + 0) (a40 + 0 + 0 + 0) (a41 + 0 + 0 + 0) (a42 + 0 + a43 + 0) (a44 + 0 + 0 + 0) := by
  simp only [tr_q5, tr_q4, tr_q3, tr_q2]
  grind
theorem tr_in_5_2_4 (a00 a01 a02 a03 a04 a10 a11 a12 a13 a14 a20 a21 a22 a23 a24 a30 a31 a32 a33 a34 a40 a41 a42 a43 a44 : Int) : tr_q5 (a00 + 0) (a01 + 0) (a02 + 0) (a03 + 0) (a04 + 0) (a10 + 0) (a11 + 0) (a12 + 0) (a13 + 0) (a14 + 0) (a20 + 0) (a21 + 0) (a22 + 1) (a23 + 0) (a24 + (-1)) (a30 + 0) (a31 + 0) (a32 + 0) (a33 + 0) (a34 + 0) (a40 + 0) (a41 + 0) (a42 + (-1)) (a43 + 0) (a44 + 1) = tr_q5 a00 a01 a02 a03 a04 a10 a11 a12 a13 a14 a20 a21 a22 a23 a24 a30 a31 a32 a33 a34 a40 a41 a42 a43 a44 + tr_q4 (a00 + 0 + 0 + 0) (a01 + 0 + 0 + 0) (a02 + 0 + a04 + 0) (a03 + 0 + 0 + 0) (a10 + 0 + 0 + 0) (a11 + 0 + 0 + 0) (a12 + 0 + a14 + 0) (a13 + 0 + 0 + 0) (a20 + a40 + 0 + 0) (a21 + a41 + 0 + 0) (a22 + a42 + a24 + a44) (a23 + a43 + 0 + 0) (a30 + 0 + 0 + 0) (a31 + 0 + 0 + 0) (a32 + 0 + a34 + 0) (a33 + 0 + 0 + 0) := by
  simp only [tr_q5, tr_q4, tr_q3, tr_q2]
  grind
theorem tr_in_5_3_4 (a00 a01 a02 a03 a04 a10 a11 a12 a13 a14 a20 a21 a22 a23 a24 a30 a31 a32 a33 a34 a40 a41 a42 a43 a44 : Int) : tr_q5 (a00 + 0) (a01 + 0) (a02 + 0) (a03 + 0) (a04 + 0) (a10 + 0) (a11 + 0) (a12 + 0) (a13 + 0) (a14 + 0) (a20 + 0) (a21 + 0) (a22 + 0) (a23 + 0) (a24 + 0) (a30 + 0) (a31 + 0) (a32 + 0) (a33 + 1) (a34 + (-1)) (a40 + 0) (a41 + 0) (a42 + 0) (a43 + (-1)) (a44 + 1) = tr_q5 a00 a01 a02 a03 a04 a10 a11 a12 a13 a14 a20 a21 a22 a23 a24 a30 a31 a32 a33 a34 a40 a41 a42 a43 a44 + tr_q4 (a00 + 0 + 0 + 0) (a01 + 0 + 0 + 0) (a02 + 0 + 0 + 0) (a03 + 0 + a04 + 0) (a10 + 0 + 0 + 0) (a11 + 0 + 0 + 0) (a12 + 0 + 0 + 0) (a13 + 0 + a14 + 0) (a20 + 0 + 0 + 0) (a21 + 0 + 0 + 0) (a22 + 0 + 0 + 0) (a23 + 0 + a24 + 0) (a30 + a40 + 0 + 0) (a31 + a41 + 0 + 0) (a32 + a42 + 0 + 0) (a33 + a43 + a34 + a44) := by
  simp only [tr_q5, tr_q4, tr_q3, tr_q2]
  grind
end
section
/-! PURE 4: the matrix-tree theorem for at most 6 rows -/
/-- the Laplacian of the edges F, points named by h -/
def tr_L (h : Nat → Nat) : List (Nat × Nat) → Nat → Nat → Int
  | [], _, _ => 0
  | e :: F, i, j => tr_L h F i j + tr_e (h e.1) (h e.2) i j
theorem tr_dcr {m x : Nat} (M : Nat → Nat → Int) (hx : x < m) (hm : m ≤ 5) : tr_det m (fun i j => M i j + tr_e x m i j) = tr_det m M + tr_det (m - 1) (fun i j => M (tr_tau x i) (tr_tau x j)) := by
  have hc : m = 1 ∨ m = 2 ∨ m = 3 ∨ m = 4 ∨ m = 5 := by omega
  rcases hc with rfl | rfl | rfl | rfl | rfl
  · have hc : x = 0 := by omega
    rcases hc with rfl
    · exact tr_ir_1_0 (M 0 0)
  · have hc : x = 0 ∨ x = 1 := by omega
    rcases hc with rfl | rfl
    · exact tr_ir_2_0 (M 0 0) (M 0 1) (M 1 0) (M 1 1)
    · exact tr_ir_2_1 (M 0 0) (M 0 1) (M 1 0) (M 1 1)
  · have hc : x = 0 ∨ x = 1 ∨ x = 2 := by omega
    rcases hc with rfl | rfl | rfl
    · exact tr_ir_3_0 (M 0 0) (M 0 1) (M 0 2) (M 1 0) (M 1 1) (M 1 2) (M 2 0) (M 2 1) (M 2 2)
    · exact tr_ir_3_1 (M 0 0) (M 0 1) (M 0 2) (M 1 0) (M 1 1) (M 1 2) (M 2 0) (M 2 1) (M 2 2)
    · exact tr_ir_3_2 (M 0 0) (M 0 1) (M 0 2) (M 1 0) (M 1 1) (M 1 2) (M 2 0) (M 2 1) (M 2 2)
  · have hc : x = 0 ∨ x = 1 ∨ x = 2 ∨ x = 3 := by omega
    rcases hc with rfl | rfl | rfl | rfl
    · exact tr_ir_4_0 (M 0 0) (M 0 1) (M 0 2) (M 0 3) (M 1 0) (M 1 1) (M 1 2) (M 1 3) (M 2 0) (M 2 1) (M 2 2) (M 2 3) (M 3 0) (M 3 1) (M 3 2) (M 3 3)
    · exact tr_ir_4_1 (M 0 0) (M 0 1) (M 0 2) (M 0 3) (M 1 0) (M 1 1) (M 1 2) (M 1 3) (M 2 0) (M 2 1) (M 2 2) (M 2 3) (M 3 0) (M 3 1) (M 3 2) (M 3 3)
    · exact tr_ir_4_2 (M 0 0) (M 0 1) (M 0 2) (M 0 3) (M 1 0) (M 1 1) (M 1 2) (M 1 3) (M 2 0) (M 2 1) (M 2 2) (M 2 3) (M 3 0) (M 3 1) (M 3 2) (M 3 3)
    · exact tr_ir_4_3 (M 0 0) (M 0 1) (M 0 2) (M 0 3) (M 1 0) (M 1 1) (M 1 2) (M 1 3) (M 2 0) (M 2 1) (M 2 2) (M 2 3) (M 3 0) (M 3 1) (M 3 2) (M 3 3)
  · have hc : x = 0 ∨ x = 1 ∨ x = 2 ∨ x = 3 ∨ x = 4 := by omega
    rcases hc with rfl | rfl | rfl | rfl | rfl
    · exact tr_ir_5_0 (M 0 0) (M 0 1) (M 0 2) (M 0 3) (M 0 4) (M 1 0) (M 1 1) (M 1 2) (M 1 3) (M 1 4) (M 2 0) (M 2 1) (M 2 2) (M 2 3) (M 2 4) (M 3 0) (M 3 1) (M 3 2) (M 3 3) (M 3 4) (M 4 0) (M 4 1) (M 4 2) (M 4 3) (M 4 4)
    · exact tr_ir_5_1 (M 0 0) (M 0 1) (M 0 2) (M 0 3) (M 0 4) (M 1 0) (M 1 1) (M 1 2) (M 1 3) (M 1 4) (M 2 0) (M 2 1) (M 2 2) (M 2 3) (M 2 4) (M 3 0) (M 3 1) (M 3 2) (M 3 3) (M 3 4) (M 4 0) (M 4 1) (M 4 2) (M 4 3) (M 4 4)
    · exact tr_ir_5_2 (M 0 0) (M 0 1) (M 0 2) (M 0 3) (M 0 4) (M 1 0) (M 1 1) (M 1 2) (M 1 3) (M 1 4) (M 2 0) (M 2 1) (M 2 2) (M 2 3) (M 2 4) (M 3 0) (M 3 1) (M 3 2) (M 3 3) (M 3 4) (M 4 0) (M 4 1) (M 4 2) (M 4 3) (M 4 4)
    · exact tr_ir_5_3 (M 0 0) (M 0 1) (M 0 2) (M 0 3) (M 0 4) (M 1 0) (M 1 1) (M 1 2) (M 1 3) (M 1 4) (M 2 0) (M 2 1) (M 2 2) (M 2 3) (M 2 4) (M 3 0) (M 3 1) (M 3 2) (M 3 3) (M 3 4) (M 4 0) (M 4 1) (M 4 2) (M 4 3) (M 4 4)
    · exact tr_ir_5_4 (M 0 0) (M 0 1) (M 0 2) (M 0 3) (M 0 4) (M 1 0) (M 1 1) (M 1 2) (M 1 3) (M 1 4) (M 2 0) (M 2 1) (M 2 2) (M 2 3) (M 2 4) (M 3 0) (M 3 1) (M 3 2) (M 3 3) (M 3 4) (M 4 0) (M 4 1) (M 4 2) (M 4 3) (M 4 4)
theorem tr_dcn {m x y : Nat} (M : Nat → Nat → Int) (hx : x < y) (hy : y < m) (hm : m ≤ 5) : tr_det m (fun i j => M i j + tr_e x y i j) = tr_det m M + tr_det (m - 1) (tr_mrg x y M) := by
  have hc : m = 2 ∨ m = 3 ∨ m = 4 ∨ m = 5 := by omega
  rcases hc with rfl | rfl | rfl | rfl
  · have hc : y = 1 := by omega
    rcases hc with rfl
    · have hc : x = 0 := by omega
      rcases hc with rfl
      · exact tr_in_2_0_1 (M 0 0) (M 0 1) (M 1 0) (M 1 1)
  · have hc : y = 1 ∨ y = 2 := by omega
    rcases hc with rfl | rfl
    · have hc : x = 0 := by omega
      rcases hc with rfl
      · exact tr_in_3_0_1 (M 0 0) (M 0 1) (M 0 2) (M 1 0) (M 1 1) (M 1 2) (M 2 0) (M 2 1) (M 2 2)
    · have hc : x = 0 ∨ x = 1 := by omega
      rcases hc with rfl | rfl
      · exact tr_in_3_0_2 (M 0 0) (M 0 1) (M 0 2) (M 1 0) (M 1 1) (M 1 2) (M 2 0) (M 2 1) (M 2 2)
      · exact tr_in_3_1_2 (M 0 0) (M 0 1) (M 0 2) (M 1 0) (M 1 1) (M 1 2) (M 2 0) (M 2 1) (M 2 2)
  · have hc : y = 1 ∨ y = 2 ∨ y = 3 := by omega
    rcases hc with rfl | rfl | rfl
    · have hc : x = 0 := by omega
      rcases hc with rfl
      · exact tr_in_4_0_1 (M 0 0) (M 0 1) (M 0 2) (M 0 3) (M 1 0) (M 1 1) (M 1 2) (M 1 3) (M 2 0) (M 2 1) (M 2 2) (M 2 3) (M 3 0) (M 3 1) (M 3 2) (M 3 3)
    · have hc : x = 0 ∨ x = 1 := by omega
      rcases hc with rfl | rfl
      · exact tr_in_4_0_2 (M 0 0) (M 0 1) (M 0 2) (M 0 3) (M 1 0) (M 1 1) (M 1 2) (M 1 3) (M 2 0) (M 2 1) (M 2 2) (M 2 3) (M 3 0) (M 3 1) (M 3 2) (M 3 3)
      · exact tr_in_4_1_2 (M 0 0) (M 0 1) (M 0 2) (M 0 3) (M 1 0) (M 1 1) (M 1 2) (M 1 3) (M 2 0) (M 2 1) (M 2 2) (M 2 3) (M 3 0) (M 3 1) (M 3 2) (M 3 3)
    · have hc : x = 0 ∨ x = 1 ∨ x = 2 := by omega
      rcases hc with rfl | rfl | rfl
      · exact tr_in_4_0_3 (M 0 0) (M 0 1) (M 0 2) (M 0 3) (M 1 0) (M 1 1) (M 1 2) (M 1 3) (M 2 0) (M 2 1) (M 2 2) (M 2 3) (M 3 0) (M 3 1) (M 3 2) (M 3 3)
      · exact tr_in_4_1_3 (M 0 0) (M 0 1) (M 0 2) (M 0 3) (M 1 0) (M 1 1) (M 1 2) (M 1 3) (M 2 0) (M 2 1) (M 2 2) (M 2 3) (M 3 0) (M 3 1) (M 3 2) (M 3 3)
      · exact tr_in_4_2_3 (M 0 0) (M 0 1) (M 0 2) (M 0 3) (M 1 0) (M 1 1) (M 1 2) (M 1 3) (M 2 0) (M 2 1) (M 2 2) (M 2 3) (M 3 0) (M 3 1) (M 3 2) (M 3 3)
  · have hc : y = 1 ∨ y = 2 ∨ y = 3 ∨ y = 4 := by omega
    rcases hc with rfl | rfl | rfl | rfl
    · have hc : x = 0 := by omega
      rcases hc with rfl
      · exact tr_in_5_0_1 (M 0 0) (M 0 1) (M 0 2) (M 0 3) (M 0 4) (M 1 0) (M 1 1) (M 1 2) (M 1 3) (M 1 4) (M 2 0) (M 2 1) (M 2 2) (M 2 3) (M 2 4) (M 3 0) (M 3 1) (M 3 2) (M 3 3) (M 3 4) (M 4 0) (M 4 1) (M 4 2) (M 4 3) (M 4 4)
    · have hc : x = 0 ∨ x = 1 := by omega
      rcases hc with rfl | rfl
      · exact tr_in_5_0_2 (M 0 0) (M 0 1) (M 0 2) (M 0 3) (M 0 4) (M 1 0) (M 1 1) (M 1 2) (M 1 3) (M 1 4) (M 2 0) (M 2 1) (M 2 2) (M 2 3) (M 2 4) (M 3 0) (M 3 1) (M 3 2) (M 3 3) (M 3 4) (M 4 0) (M 4 1) (M 4 2) (M 4 3) (M 4 4)
      · exact tr_in_5_1_2 (M 0 0) (M 0 1) (M 0 2) (M 0 3) (M 0 4) (M 1 0) (M 1 1) (M 1 2) (M 1 3) (M 1 4) (M 2 0) (M 2 1) (M 2 2) (M 2 3) (M 2 4) (M 3 0) (M 3 1) (M 3 2) (M 3 3) (M 3 4) (M 4 0) (M 4 1) (M 4 2) (M 4 3) (M 4 4)
    · have hc : x = 0 ∨ x = 1 ∨ x = 2 := by omega
      rcases hc with rfl | rfl | rfl
      · exact tr_in_5_0_3 (M 0 0) (M 0 1) (M 0 2) (M 0 3) (M 0 4) (M 1 0) (M 1 1) (M 1 2) (M 1 3) (M 1 4) (M 2 0) (M 2 1) (M 2 2) (M 2 3) (M 2 4) (M 3 0) (M 3 1) (M 3 2) (M 3 3) (M 3 4) (M 4 0) (M 4 1) (M 4 2) (M 4 3) (M 4 4)
      · exact tr_in_5_1_3 (M 0 0) (M 0 1) (M 0 2) (M 0 3) (M 0 4) (M 1 0) (M 1 1) (M 1 2) (M 1 3) (M 1 4) (M 2 0) (M 2 1) (M 2 2) (M 2 3) (M 2 4) (M 3 0) (M 3 1) (M 3 2) (M 3 3) (M 3 4) (M 4 0) (M 4 1) (M 4 2) (M 4 3) (M 4 4)
      · exact tr_in_5_2_3 (M 0 0) (M 0 1) (M 0 2) (M 0 3) (M 0 4) (M 1 0) (M 1 1) (M 1 2) (M 1 3) (M 1 4) (M 2 0) (M 2 1) (M 2 2) (M 2 3) (M 2 4) (M 3 0) (M 3 1) (M 3 2) (M 3 3) (M 3 4) (M 4 0) (M 4 1) (M 4 2) (M 4 3) (M 4 4)
    · have hc : x = 0 ∨ x = 1 ∨ x = 2 ∨ x = 3 := by omega
      rcases hc with rfl | rfl | rfl | rfl
      · exact tr_in_5_0_4 (M 0 0) (M 0 1) (M 0 2) (M 0 3) (M 0 4) (M 1 0) (M 1 1) (M 1 2) (M 1 3) (M 1 4) (M 2 0) (M 2 1) (M 2 2) (M 2 3) (M 2 4) (M 3 0) (M 3 1) (M 3 2) (M 3 3) (M 3 4) (M 4 0) (M 4 1) (M 4 2) (M 4 3) (M 4 4)
      · exact tr_in_5_1_4 (M 0 0) (M 0 1) (M 0 2) (M 0 3) (M 0 4) (M 1 0) (M 1 1) (M 1 2) (M 1 3) (M 1 4) (M 2 0) (M 2 1) (M 2 2) (M 2 3) (M 2 4) (M 3 0) (M 3 1) (M 3 2) (M 3 3) (M 3 4) (M 4 0) (M 4 1) (M 4 2) (M 4 3) (M 4 4)
      · exact tr_in_5_2_4 (M 0 0) (M 0 1) (M 0 2) (M 0 3) (M 0 4) (M 1 0) (M 1 1) (M 1 2) (M 1 3) (M 1 4) (M 2 0) (M 2 1) (M 2 2) (M 2 3) (M 2 4) (M 3 0) (M 3 1) (M 3 2) (M 3 3) (M 3 4) (M 4 0) (M 4 1) (M 4 2) (M 4 3) (M 4 4)
      · exact tr_in_5_3_4 (M 0 0) (M 0 1) (M 0 2) (M 0 3) (M 0 4) (M 1 0) (M 1 1) (M 1 2) (M 1 3) (M 1 4) (M 2 0) (M 2 1) (M 2 2) (M 2 3) (M 2 4) (M 3 0) (M 3 1) (M 3 2) (M 3 3) (M 3 4) (M 4 0) (M 4 1) (M 4 2) (M 4 3) (M 4 4)
theorem tr_det_congr {m : Nat} {M M' : Nat → Nat → Int} (hm : m ≤ 5) (h : ∀ i j, i < m → j < m → M i j = M' i j) : tr_det m M = tr_det m M' := by
  have hc : m = 0 ∨ m = 1 ∨ m = 2 ∨ m = 3 ∨ m = 4 ∨ m = 5 := by omega
  rcases hc with rfl | rfl | rfl | rfl | rfl | rfl
  · rfl
  · exact h 0 0 (by decide) (by decide)
  · show tr_q2 (M 0 0) (M 0 1) (M 1 0) (M 1 1) = tr_q2 (M' 0 0) (M' 0 1) (M' 1 0) (M' 1 1)
    rw [h 0 0 (by decide) (by decide), h 0 1 (by decide) (by decide), h 1 0 (by decide) (by decide), h 1 1 (by decide) (by decide)]
  · show tr_q3 (M 0 0) (M 0 1) (M 0 2) (M 1 0) (M 1 1) (M 1 2) (M 2 0) (M 2 1) (M 2 2) = tr_q3 (M' 0 0) (M' 0 1) (M' 0 2) (M' 1 0) (M' 1 1) (M' 1 2) (M' 2 0) (M' 2 1) (M' 2 2)
    rw [h 0 0 (by decide) (by decide), h 0 1 (by decide) (by decide), h 0 2 (by decide) (by decide), h 1 0 (by decide) (by decide), h 1 1 (by decide) (by decide), h 1 2 (by decide) (by decide), h 2 0 (by decide) (by decide), h 2 1 (by decide) (by decide), h 2 2 (by decide) (by decide)]
  · show tr_q4 (M 0 0) (M 0 1) (M 0 2) (M 0 3) (M 1 0) (M 1 1) (M 1 2) (M 1 3) (M 2 0) (M 2 1) (M 2 2) (M 2 3) (M 3 0) (M 3 1) (M 3 2) (M 3 3) = tr_q4 (M' 0 0) (M' 0 1) (M' 0 2) (M' 0 3) (M' 1 0) (M' 1 1) (M' 1 2) (M' 1 3) (M' 2 0) (M' 2 1) (M' 2 2) (M' 2 3) (M' 3 0) (M' 3 1) (M' 3 2) (M' 3 3)
    rw [h 0 0 (by decide) (by decide), h 0 1 (by decide) (by decide), h 0 2 (by decide) (by decide), h 0 3 (by decide) (by decide), h 1 0 (by decide) (by decide), h 1 1 (by decide) (by decide), h 1 2 (by decide) (by decide), h 1 3 (by decide) (by decide), h 2 0 (by decide) (by decide), h 2 1 (by decide) (by decide), h 2 2 (by decide) (by decide), h 2 3 (by decide) (by decide), h 3 0 (by decide) (by decide), h 3 1 (by decide) (by decide), h 3 2 (by decide) (by decide), h 3 3 (by decide) (by decide)]
  · show tr_q5 (M 0 0) (M 0 1) (M 0 2) (M 0 3) (M 0 4) (M 1 0) (M 1 1) (M 1 2) (M 1 3) (M 1 4) (M 2 0) (M 2 1) (M 2 2) (M 2 3) (M 2 4) (M 3 0) (M 3 1) (M 3 2) (M 3 3) (M 3 4) (M 4 0) (M 4 1) (M 4 2) (M 4 3) (M 4 4) = tr_q5 (M' 0 0) (M' 0 1) (M' 0 2) (M' 0 3) (M' 0 4) (M' 1 0) (M' 1 1) (M' 1 2) (M' 1 3) (M' 1 4) (M' 2 0) (M' 2 1) (M' 2 2) (M' 2 3) (M' 2 4) (M' 3 0) (M' 3 1) (M' 3 2) (M' 3 3) (M' 3 4) (M' 4 0) (M' 4 1) (M' 4 2) (M' 4 3) (M' 4 4)
    rw [h 0 0 (by decide) (by decide), h 0 1 (by decide) (by decide), h 0 2 (by decide) (by decide), h 0 3 (by decide) (by decide), h 0 4 (by decide) (by decide), h 1 0 (by decide) (by decide), h 1 1 (by decide) (by decide), h 1 2 (by decide) (by decide), h 1 3 (by decide) (by decide), h 1 4 (by decide) (by decide), h 2 0 (by decide) (by decide), h 2 1 (by decide) (by decide), h 2 2 (by decide) (by decide), h 2 3 (by decide) (by decide), h 2 4 (by decide) (by decide), h 3 0 (by decide) (by decide), h 3 1 (by decide) (by decide), h 3 2 (by decide) (by decide), h 3 3 (by decide) (by decide), h 3 4 (by decide) (by decide), h 4 0 (by decide) (by decide), h 4 1 (by decide) (by decide), h 4 2 (by decide) (by decide), h 4 3 (by decide) (by decide), h 4 4 (by decide) (by decide)]
theorem tr_det_0 {m : Nat} (hm : m ≤ 5) : tr_det m (fun _ _ => 0) = if m = 0 then 1 else 0 := by
  have hc : m = 0 ∨ m = 1 ∨ m = 2 ∨ m = 3 ∨ m = 4 ∨ m = 5 := by omega
  rcases hc with rfl | rfl | rfl | rfl | rfl | rfl <;> decide
theorem tr_e_sy (x y i j : Nat) : tr_e x y i j = tr_e y x i j := by
  unfold tr_e
  grind
theorem tr_e_rf (x i j : Nat) : tr_e x x i j = 0 := by
  unfold tr_e
  simp
def tr_sgr (m x z : Nat) : Nat := if z = x then m - 1 else if x < z then z - 1 else z
def tr_sgn (x y z : Nat) : Nat := if z = y then x else if y < z then z - 1 else z
theorem tr_d_sgr {m x z i : Nat} (hx : x < m) (hz : z ≤ m) (hi : i < m - 1) : tr_d (tr_sgr m x z) i = tr_d z (tr_tau x i) := by
  unfold tr_d tr_sgr tr_tau
  repeat' split
  all_goals first | rfl | (exfalso; omega)
theorem tr_d_sgn {m x y z i : Nat} (hx : x < y) (hy : y < m) (hz : z ≤ m) (hi : i < m - 1) : tr_d (tr_sgn x y z) i = tr_d z (tr_tau y i) + (if i = x then tr_d z y else 0) := by
  unfold tr_d tr_sgn tr_tau
  repeat' split
  all_goals first | rfl | (exfalso; omega)
theorem tr_L_sgr {n m x : Nat} {h : Nat → Nat} (hx : x < m) (hh : ∀ p, p < n → h p ≤ m) : ∀ (F : List (Nat × Nat)), (∀ e ∈ F, e.1 < n ∧ e.2 < n) → ∀ i j, i < m - 1 → j < m - 1 → tr_L (fun p => tr_sgr m x (h p)) F i j = tr_L h F (tr_tau x i) (tr_tau x j) := by
  intro F
  induction F with
  | nil => intro _ i j _ _; rfl
  | cons e F ih =>
    intro hF i j hi hj
    have he := hF e List.mem_cons_self
    simp only [tr_L]
    rw [ih (fun x hx => hF x (List.mem_cons_of_mem _ hx)) i j hi hj]
    unfold tr_e
    rw [tr_d_sgr hx (hh _ he.1) hi, tr_d_sgr hx (hh _ he.2) hi, tr_d_sgr hx (hh _ he.1) hj, tr_d_sgr hx (hh _ he.2) hj]
theorem tr_L_sgn {n m x y : Nat} {h : Nat → Nat} (hx : x < y) (hy : y < m) (hh : ∀ p, p < n → h p ≤ m) : ∀ (F : List (Nat × Nat)), (∀ e ∈ F, e.1 < n ∧ e.2 < n) → ∀ i j, i < m - 1 → j < m - 1 → tr_L (fun p => tr_sgn x y (h p)) F i j = tr_mrg x y (tr_L h F) i j := by
  intro F
  induction F with
  | nil => intro _ i j _ _; simp [tr_L, tr_mrg]
  | cons e F ih =>
    intro hF i j hi hj
    have he := hF e List.mem_cons_self
    simp only [tr_L, tr_mrg]
    rw [ih (fun x hx => hF x (List.mem_cons_of_mem _ hx)) i j hi hj]
    unfold tr_e tr_mrg
    rw [tr_d_sgn hx hy (hh _ he.1) hi, tr_d_sgn hx hy (hh _ he.2) hi, tr_d_sgn hx hy (hh _ he.1) hj, tr_d_sgn hx hy (hh _ he.2) hj]
    by_cases h1 : i = x
    · by_cases h2 : j = x
      · simp only [if_pos h1, if_pos h2, if_pos (And.intro h1 h2)]
        grind
      · simp only [if_pos h1, if_neg h2, if_neg (fun q : i = x ∧ j = x => h2 q.2)]
        grind
    · by_cases h2 : j = x
      · simp only [if_neg h1, if_pos h2, if_neg (fun q : i = x ∧ j = x => h1 q.1)]
        grind
      · simp only [if_neg h1, if_neg h2, if_neg (fun q : i = x ∧ j = x => h1 q.1)]
        grind
theorem tr_sgr_kr {n m a b : Nat} {h : Nat → Nat} (ha : a < n) (hb : b < n) (hh : ∀ p, p < n → h p ≤ m) (hx : h a < m) (hm : h b = m) : tr_Kr n (tr_jn h a b) (fun p => tr_sgr m (h a) (h p)) ∧ tr_Kr n (tr_jn h b a) (fun p => tr_sgr m (h a) (h p)) := by
  have key : ∀ p q, p < n → q < n → (tr_sgr m (h a) (h p) = tr_sgr m (h a) (h q) ↔ (h p = h q ∨ (h p = h a ∧ h q = h b) ∨ (h p = h b ∧ h q = h a))) := by
    intro p q hp hq
    have h1 := hh p hp
    have h2 := hh q hq
    unfold tr_sgr
    repeat' split
    all_goals omega
  refine ⟨fun p q hp hq => ?_, fun p q hp hq => ?_⟩
  · rw [tr_jn_eq]
    exact (key p q hp hq).symm
  · rw [tr_jn_eq, key p q hp hq]
    constructor
    · rintro (x | x | x)
      · exact Or.inl x
      · exact Or.inr (Or.inr x)
      · exact Or.inr (Or.inl x)
    · rintro (x | x | x)
      · exact Or.inl x
      · exact Or.inr (Or.inr x)
      · exact Or.inr (Or.inl x)
theorem tr_sgn_kr {n m a b : Nat} {h : Nat → Nat} (ha : a < n) (hb : b < n) (hh : ∀ p, p < n → h p ≤ m) (hx : h a < h b) (hm : h b < m) : tr_Kr n (tr_jn h a b) (fun p => tr_sgn (h a) (h b) (h p)) ∧ tr_Kr n (tr_jn h b a) (fun p => tr_sgn (h a) (h b) (h p)) := by
  have key : ∀ p q, p < n → q < n → (tr_sgn (h a) (h b) (h p) = tr_sgn (h a) (h b) (h q) ↔ (h p = h q ∨ (h p = h a ∧ h q = h b) ∨ (h p = h b ∧ h q = h a))) := by
    intro p q hp hq
    have h1 := hh p hp
    have h2 := hh q hq
    unfold tr_sgn
    repeat' split
    all_goals omega
  refine ⟨fun p q hp hq => ?_, fun p q hp hq => ?_⟩
  · rw [tr_jn_eq]
    exact (key p q hp hq).symm
  · rw [tr_jn_eq, key p q hp hq]
    constructor
    · rintro (x | x | x)
      · exact Or.inl x
      · exact Or.inr (Or.inr x)
      · exact Or.inr (Or.inl x)
    · rintro (x | x | x)
      · exact Or.inl x
      · exact Or.inr (Or.inr x)
      · exact Or.inr (Or.inl x)
/-- one edge taken off, between different rows: what is left, and what is left with its rows made one -/
theorem tr_dc {n m : Nat} {h : Nat → Nat} {a b : Nat} (F : List (Nat × Nat)) (hF : ∀ e ∈ F, e.1 < n ∧ e.2 < n) (ha : a < n) (hb : b < n) (hm : m ≤ 5) (hh : ∀ p, p < n → h p ≤ m) (hab : h a < h b) :
    ∃ g : Nat → Nat, (∀ p, p < n → g p ≤ m - 1) ∧ tr_Kr n (tr_jn h a b) g ∧ tr_Kr n (tr_jn h b a) g ∧ tr_det m (fun i j => tr_L h F i j + tr_e (h a) (h b) i j) = tr_det m (tr_L h F) + tr_det (m - 1) (tr_L g F) := by
  have h1 := hh a ha
  have h2 := hh b hb
  by_cases hr : h b = m
  · refine ⟨fun p => tr_sgr m (h a) (h p), fun p hp => ?_, (tr_sgr_kr ha hb hh (by omega) hr).1, (tr_sgr_kr ha hb hh (by omega) hr).2, ?_⟩
    · have := hh p hp
      simp only [tr_sgr]
      repeat' split
      all_goals omega
    · rw [hr, tr_dcr _ (show h a < m by omega) hm]
      congr 1
      exact (tr_det_congr (by omega) (fun i j hi hj => tr_L_sgr (by omega) hh F hF i j hi hj)).symm
  · refine ⟨fun p => tr_sgn (h a) (h b) (h p), fun p hp => ?_, (tr_sgn_kr ha hb hh hab (by omega)).1, (tr_sgn_kr ha hb hh hab (by omega)).2, ?_⟩
    · have := hh p hp
      simp only [tr_sgn]
      repeat' split
      all_goals omega
    · rw [tr_dcn _ hab (by omega) hm]
      congr 1
      exact (tr_det_congr (by omega) (fun i j hi hj => tr_L_sgn hab (by omega) hh F hF i j hi hj)).symm
/-- THE MATRIX-TREE THEOREM -/
theorem tr_mtt {n : Nat} : ∀ (F : List (Nat × Nat)) (h : Nat → Nat) (m : Nat), m ≤ 5 → (∀ e ∈ F, e.1 < n ∧ e.2 < n) → (∀ p, p < n → h p ≤ m) → tr_det m (tr_L h F) = (tr_T F h m : Int) := by
  intro F
  induction F with
  | nil =>
    intro h m hm _ _
    have h1 : tr_L h [] = fun _ _ => 0 := by
      funext i j
      rfl
    rw [h1, tr_det_0 hm]
    simp only [tr_T]
    split <;> rfl
  | cons e F ih =>
    intro h m hm hF hh
    have he := hF e List.mem_cons_self
    have hF' : ∀ e ∈ F, e.1 < n ∧ e.2 < n := fun x hx => hF x (List.mem_cons_of_mem _ hx)
    have h0 : tr_L h (e :: F) = fun i j => tr_L h F i j + tr_e (h e.1) (h e.2) i j := by
      funext i j
      rfl
    rw [h0]
    simp only [tr_T]
    have g1 := hh e.1 he.1
    have g2 := hh e.2 he.2
    rcases Nat.lt_trichotomy (h e.1) (h e.2) with q | q | q
    · obtain ⟨g, k1, k2, k3, k4⟩ := tr_dc F hF' he.1 he.2 hm hh q
      rw [k4, ih h m hm hF' hh, ih g (m - 1) (by omega) hF' k1, if_neg (by omega), if_neg (by omega), tr_T_kr F _ _ _ hF' k2]
      simp
    · have h2 : (fun i j => tr_L h F i j + tr_e (h e.1) (h e.2) i j) = tr_L h F := by
        funext i j
        rw [q, tr_e_rf]
        simp
      rw [h2, ih h m hm hF' hh, if_pos q, Nat.add_zero]
    · obtain ⟨g, k1, k2, k3, k4⟩ := tr_dc F hF' he.2 he.1 hm hh q
      have h2 : (fun i j => tr_L h F i j + tr_e (h e.1) (h e.2) i j) = (fun i j => tr_L h F i j + tr_e (h e.2) (h e.1) i j) := by
        funext i j
        rw [tr_e_sy]
      rw [h2, k4, ih h m hm hF' hh, ih g (m - 1) (by omega) hF' k1, if_neg (by omega), if_neg (by omega), tr_T_kr F _ _ _ hF' k3]
      simp
theorem tr_L_min {k : Nat} {h : Nat → Nat} : ∀ (F : List (Nat × Nat)) (i j : Nat), i < k → j < k → tr_L (fun p => min (h p) k) F i j = tr_L h F i j := by
  have hd : ∀ z i, i < k → tr_d (min z k) i = tr_d z i := by
    intro z i hi
    unfold tr_d
    by_cases h1 : z = i
    · rw [if_pos h1, if_pos (by omega)]
    · rw [if_neg h1, if_neg (by omega)]
  intro F
  induction F with
  | nil => intro i j _ _; rfl
  | cons e F ih =>
    intro i j hi hj
    simp only [tr_L]
    rw [ih i j hi hj]
    unfold tr_e
    rw [hd _ i hi, hd _ i hi, hd _ j hj, hd _ j hj]
/-- a tree of the whole gives a tree of what is less fine -/
theorem tr_T_min {n : Nat} (F : List (Nat × Nat)) (h : Nat → Nat) (hF : ∀ e ∈ F, e.1 < n ∧ e.2 < n) (k : Nat) : ∀ d : Nat, (∀ p, p < n → h p ≤ k + d) → 0 < tr_T F h (k + d) → 0 < tr_T F (fun p => min (h p) k) k := by
  have step : ∀ d, 0 < tr_T F (fun p => min (h p) (k + d)) (k + d) → 0 < tr_T F (fun p => min (h p) k) k := by
    intro d
    induction d with
    | zero => intro q; exact q
    | succ d ih =>
      intro q
      refine ih (tr_T_mg (n := n) F (fun p => min (h p) (k + (d + 1))) (fun p => min (h p) (k + d)) (k + d) (k + d + 1) (k + d) hF ?_ q)
      intro p q _ _
      simp only
      omega
  intro d hh hp
  refine step d ?_
  rw [← tr_T_kr (n := n) F h _ _ hF ?_]
  · exact hp
  · intro p q hp hq
    have h1 := hh p hp
    have h2 := hh q hq
    simp only
    omega
/-- a leading part without value: the whole has none -/
theorem tr_det_lead {n : Nat} (F : List (Nat × Nat)) (h : Nat → Nat) (m k : Nat) (hm : m ≤ 5) (hk : k ≤ m) (hF : ∀ e ∈ F, e.1 < n ∧ e.2 < n) (hh : ∀ p, p < n → h p ≤ m) (h0 : tr_det k (tr_L h F) = 0) : tr_det m (tr_L h F) = 0 := by
  have h1 : tr_det k (tr_L (fun p => min (h p) k) F) = 0 := by
    rw [tr_det_congr (by omega) (fun i j hi hj => tr_L_min F i j hi hj)]
    exact h0
  rw [tr_mtt (n := n) F _ k (by omega) hF (fun p _ => Nat.min_le_right _ _)] at h1
  rw [tr_mtt (n := n) F h m hm hF hh]
  have h2 : tr_T F (fun p => min (h p) k) k = 0 := by omega
  have h3 : ¬ 0 < tr_T F h m := by
    intro q
    have h4 := tr_T_min (n := n) F h hF k (m - k) (by rw [show k + (m - k) = m by omega]; exact hh) (by rw [show k + (m - k) = m by omega]; exact q)
    omega
  have h5 : tr_T F h m = 0 := by omega
  rw [h5]
  rfl
theorem tr_L_abs {h : Nat → Nat} : ∀ (F : List (Nat × Nat)) (i j : Nat), (tr_L h F i j).natAbs ≤ F.length := by
  intro F
  induction F with
  | nil => intro i j; exact Nat.le_refl _
  | cons e F ih =>
    intro i j
    have h1 := ih i j
    have h2 : (tr_e (h e.1) (h e.2) i j).natAbs ≤ 1 := by
      unfold tr_e tr_d
      repeat' split
      all_goals decide
    simp only [tr_L, List.length_cons]
    omega
end
section
/-! PURE 5: elimination without fractions (text by gen_syl.py) -/
theorem tr_s0 (a00 a01 a10 a11 : Int) : a11 * a00 - a10 * a01 = 1 * tr_q2 a00 a01 a10 a11 := by
  simp only [tr_q2]
  grind
theorem tr_s1 (a00 a01 a02 a10 a11 a12 a20 a21 a22 : Int) : tr_q2 a00 a02 a20 a22 * tr_q2 a00 a01 a10 a11 - tr_q2 a00 a01 a20 a21 * tr_q2 a00 a02 a10 a12 = a00 * tr_q3 a00 a01 a02 a10 a11 a12 a20 a21 a22 := by
  simp only [tr_q3, tr_q2]
  grind
theorem tr_s2 (a00 a01 a02 a03 a10 a11 a12 a13 a20 a21 a22 a23 a30 a31 a32 a33 : Int) : tr_q3 a00 a01 a03 a10 a11 a13 a30 a31 a33 * tr_q3 a00 a01 a02 a10 a11 a12 a20 a21 a22 - tr_q3 a00 a01 a02 a10 a11 a12 a30 a31 a32 * tr_q3 a00 a01 a03 a10 a11 a13 a20 a21 a23 = tr_q2 a00 a01 a10 a11 * tr_q4 a00 a01 a02 a03 a10 a11 a12 a13 a20 a21 a22 a23 a30 a31 a32 a33 := by
  simp only [tr_q4, tr_q3, tr_q2]
  grind
theorem tr_c2 (a00 a01 a02 a10 a11 a12 a20 a21 a22 : Int) : tr_q2 (tr_q2 a00 a01 a10 a11) (tr_q2 a00 a02 a10 a12) (tr_q2 a00 a01 a20 a21) (tr_q2 a00 a02 a20 a22) = a00 * tr_q3 a00 a01 a02 a10 a11 a12 a20 a21 a22 := by
  simp only [tr_q3, tr_q2]
  grind
theorem tr_c3 (a00 a01 a02 a03 a10 a11 a12 a13 a20 a21 a22 a23 a30 a31 a32 a33 : Int) : tr_q3 (tr_q2 a00 a01 a10 a11) (tr_q2 a00 a02 a10 a12) (tr_q2 a00 a03 a10 a13) (tr_q2 a00 a01 a20 a21) (tr_q2 a00 a02 a20 a22) (tr_q2 a00 a03 a20 a23) (tr_q2 a00 a01 a30 a31) (tr_q2 a00 a02 a30 a32) (tr_q2 a00 a03 a30 a33) = a00 * a00 * tr_q4 a00 a01 a02 a03 a10 a11 a12 a13 a20 a21 a22 a23 a30 a31 a32 a33 := by
  simp only [tr_q4, tr_q3, tr_q2]
  grind
theorem tr_c4 (a00 a01 a02 a03 a04 a10 a11 a12 a13 a14 a20 a21 a22 a23 a24 a30 a31 a32 a33 a34 a40 a41 a42 a43 a44 : Int) : tr_q4 (tr_q2 a00 a01 a10 a11) (tr_q2 a00 a02 a10 a12) (tr_q2 a00 a03 a10 a13) (tr_q2 a00 a04 a10 a14) (tr_q2 a00 a01 a20 a21) (tr_q2 a00 a02 a20 a22) (tr_q2 a00 a03 a20 a23) (tr_q2 a00 a04 a20 a24) (tr_q2 a00 a01 a30 a31) (tr_q2 a00 a02 a30 a32) (tr_q2 a00 a03 a30 a33) (tr_q2 a00 a04 a30 a34) (tr_q2 a00 a01 a40 a41) (tr_q2 a00 a02 a40 a42) (tr_q2 a00 a03 a40 a43) (tr_q2 a00 a04 a40 a44) = a00 * a00 * a00 * tr_q5 a00 a01 a02 a03 a04 a10 a11 a12 a13 a14 a20 a21 a22 a23 a24 a30 a31 a32 a33 a34 a40 a41 a42 a43 a44 := by
  simp only [tr_q5, tr_q4, tr_q3, tr_q2]
  grind
theorem tr_s3 (a00 a01 a02 a03 a04 a10 a11 a12 a13 a14 a20 a21 a22 a23 a24 a30 a31 a32 a33 a34 a40 a41 a42 a43 a44 : Int) (ha : a00 ≠ 0) : tr_q4 a00 a01 a02 a04 a10 a11 a12 a14 a20 a21 a22 a24 a40 a41 a42 a44 * tr_q4 a00 a01 a02 a03 a10 a11 a12 a13 a20 a21 a22 a23 a30 a31 a32 a33 - tr_q4 a00 a01 a02 a03 a10 a11 a12 a13 a20 a21 a22 a23 a40 a41 a42 a43 * tr_q4 a00 a01 a02 a04 a10 a11 a12 a14 a20 a21 a22 a24 a30 a31 a32 a34 = tr_q3 a00 a01 a02 a10 a11 a12 a20 a21 a22 * tr_q5 a00 a01 a02 a03 a04 a10 a11 a12 a13 a14 a20 a21 a22 a23 a24 a30 a31 a32 a33 a34 a40 a41 a42 a43 a44 := by
  have h := tr_s2 (tr_q2 a00 a01 a10 a11) (tr_q2 a00 a02 a10 a12) (tr_q2 a00 a03 a10 a13) (tr_q2 a00 a04 a10 a14) (tr_q2 a00 a01 a20 a21) (tr_q2 a00 a02 a20 a22) (tr_q2 a00 a03 a20 a23) (tr_q2 a00 a04 a20 a24) (tr_q2 a00 a01 a30 a31) (tr_q2 a00 a02 a30 a32) (tr_q2 a00 a03 a30 a33) (tr_q2 a00 a04 a30 a34) (tr_q2 a00 a01 a40 a41) (tr_q2 a00 a02 a40 a42) (tr_q2 a00 a03 a40 a43) (tr_q2 a00 a04 a40 a44)
  rw [tr_c3 a00 a01 a02 a04 a10 a11 a12 a14 a20 a21 a22 a24 a40 a41 a42 a44, tr_c3 a00 a01 a02 a03 a10 a11 a12 a13 a20 a21 a22 a23 a30 a31 a32 a33, tr_c3 a00 a01 a02 a03 a10 a11 a12 a13 a20 a21 a22 a23 a40 a41 a42 a43, tr_c3 a00 a01 a02 a04 a10 a11 a12 a14 a20 a21 a22 a24 a30 a31 a32 a34, tr_c2 a00 a01 a02 a10 a11 a12 a20 a21 a22, tr_c4 a00 a01 a02 a03 a04 a10 a11 a12 a13 a14 a20 a21 a22 a23 a24 a30 a31 a32 a33 a34 a40 a41 a42 a43 a44] at h
  generalize tr_q4 a00 a01 a02 a04 a10 a11 a12 a14 a20 a21 a22 a24 a40 a41 a42 a44 = x1 at h ⊢
  generalize tr_q4 a00 a01 a02 a03 a10 a11 a12 a13 a20 a21 a22 a23 a30 a31 a32 a33 = x2 at h ⊢
  generalize tr_q4 a00 a01 a02 a03 a10 a11 a12 a13 a20 a21 a22 a23 a40 a41 a42 a43 = x3 at h ⊢
  generalize tr_q4 a00 a01 a02 a04 a10 a11 a12 a14 a20 a21 a22 a24 a30 a31 a32 a34 = x4 at h ⊢
  generalize tr_q3 a00 a01 a02 a10 a11 a12 a20 a21 a22 = x5 at h ⊢
  generalize tr_q5 a00 a01 a02 a03 a04 a10 a11 a12 a13 a14 a20 a21 a22 a23 a24 a30 a31 a32 a33 a34 a40 a41 a42 a43 a44 = x6 at h ⊢
  refine Int.eq_of_mul_eq_mul_left ha (Int.eq_of_mul_eq_mul_left ha (Int.eq_of_mul_eq_mul_left ha (Int.eq_of_mul_eq_mul_left ha ?_)))
  grind
theorem tr_ab {x y : Int} {X Y : Nat} (hx : x.natAbs ≤ X) (hy : y.natAbs ≤ Y) : (x * y).natAbs ≤ X * Y := by
  rw [Int.natAbs_mul]
  exact Nat.mul_le_mul hx hy
theorem tr_b2 {a00 a01 a10 a11 : Int} (h00 : a00.natAbs ≤ 10) (h01 : a01.natAbs ≤ 10) (h10 : a10.natAbs ≤ 10) (h11 : a11.natAbs ≤ 10) : (tr_q2 a00 a01 a10 a11).natAbs ≤ 200 := by
  have g0 := tr_ab h00 h11
  have g1 := tr_ab h01 h10
  unfold tr_q2
  omega
theorem tr_b3 {a00 a01 a02 a10 a11 a12 a20 a21 a22 : Int} (h00 : a00.natAbs ≤ 10) (h01 : a01.natAbs ≤ 10) (h02 : a02.natAbs ≤ 10) (h10 : a10.natAbs ≤ 10) (h11 : a11.natAbs ≤ 10) (h12 : a12.natAbs ≤ 10) (h20 : a20.natAbs ≤ 10) (h21 : a21.natAbs ≤ 10) (h22 : a22.natAbs ≤ 10) : (tr_q3 a00 a01 a02 a10 a11 a12 a20 a21 a22).natAbs ≤ 6000 := by
  have g0 := tr_ab h00 (tr_b2 h11 h12 h21 h22)
  have g1 := tr_ab h01 (tr_b2 h10 h12 h20 h22)
  have g2 := tr_ab h02 (tr_b2 h10 h11 h20 h21)
  unfold tr_q3
  omega
theorem tr_b4 {a00 a01 a02 a03 a10 a11 a12 a13 a20 a21 a22 a23 a30 a31 a32 a33 : Int} (h00 : a00.natAbs ≤ 10) (h01 : a01.natAbs ≤ 10) (h02 : a02.natAbs ≤ 10) (h03 : a03.natAbs ≤ 10) (h10 : a10.natAbs ≤ 10) (h11 : a11.natAbs ≤ 10) (h12 : a12.natAbs ≤ 10) (h13 : a13.natAbs ≤ 10) (h20 : a20.natAbs ≤ 10) (h21 : a21.natAbs ≤ 10) (h22 : a22.natAbs ≤ 10) (h23 : a23.natAbs ≤ 10) (h30 : a30.natAbs ≤ 10) (h31 : a31.natAbs ≤ 10) (h32 : a32.natAbs ≤ 10) (h33 : a33.natAbs ≤ 10) : (tr_q4 a00 a01 a02 a03 a10 a11 a12 a13 a20 a21 a22 a23 a30 a31 a32 a33).natAbs ≤ 240000 := by
  have g0 := tr_ab h00 (tr_b3 h11 h12 h13 h21 h22 h23 h31 h32 h33)
  have g1 := tr_ab h01 (tr_b3 h10 h12 h13 h20 h22 h23 h30 h32 h33)
  have g2 := tr_ab h02 (tr_b3 h10 h11 h13 h20 h21 h23 h30 h31 h33)
  have g3 := tr_ab h03 (tr_b3 h10 h11 h12 h20 h21 h22 h30 h31 h32)
  unfold tr_q4
  omega
theorem tr_b5 {a00 a01 a02 a03 a04 a10 a11 a12 a13 a14 a20 a21 a22 a23 a24 a30 a31 a32 a33 a34 a40 a41 a42 a43 a44 : Int} (h00 : a00.natAbs ≤ 10) (h01 : a01.natAbs ≤ 10) (h02 : a02.natAbs ≤ 10) (h03 : a03.natAbs ≤ 10) (h04 : a04.natAbs ≤ 10) (h10 : a10.natAbs ≤ 10) (h11 : a11.natAbs ≤ 10) (h12 : a12.natAbs ≤ 10) (h13 : a13.natAbs ≤ 10) (h14 : a14.natAbs ≤ 10) (h20 : a20.natAbs ≤ 10) (h21 : a21.natAbs ≤ 10) (h22 : a22.natAbs ≤ 10) (h23 : a23.natAbs ≤ 10) (h24 : a24.natAbs ≤ 10) (h30 : a30.natAbs ≤ 10) (h31 : a31.natAbs ≤ 10) (h32 : a32.natAbs ≤ 10) (h33 : a33.natAbs ≤ 10) (h34 : a34.natAbs ≤ 10) (h40 : a40.natAbs ≤ 10) (h41 : a41.natAbs ≤ 10) (h42 : a42.natAbs ≤ 10) (h43 : a43.natAbs ≤ 10) (h44 : a44.natAbs ≤ 10) : (tr_q5 a00 a01 a02 a03 a04 a10 a11 a12 a13 a14 a20 a21 a22 a23 a24 a30 a31 a32 a33 a34 a40 a41 a42 a43 a44).natAbs ≤ 12000000 := by
  have g0 := tr_ab h00 (tr_b4 h11 h12 h13 h14 h21 h22 h23 h24 h31 h32 h33 h34 h41 h42 h43 h44)
  have g1 := tr_ab h01 (tr_b4 h10 h12 h13 h14 h20 h22 h23 h24 h30 h32 h33 h34 h40 h42 h43 h44)
  have g2 := tr_ab h02 (tr_b4 h10 h11 h13 h14 h20 h21 h23 h24 h30 h31 h33 h34 h40 h41 h43 h44)
  have g3 := tr_ab h03 (tr_b4 h10 h11 h12 h14 h20 h21 h22 h24 h30 h31 h32 h34 h40 h41 h42 h44)
  have g4 := tr_ab h04 (tr_b4 h10 h11 h12 h13 h20 h21 h22 h23 h30 h31 h32 h33 h40 h41 h42 h43)
  unfold tr_q5
  omega
theorem tr_D_abs {k : Nat} {M : Nat → Nat → Int} (hk : k ≤ 4) (h : ∀ i j, (M i j).natAbs ≤ 10) (i j : Nat) : (tr_D k M i j).natAbs ≤ 12000000 := by
  have hc : k = 0 ∨ k = 1 ∨ k = 2 ∨ k = 3 ∨ k = 4 := by omega
  rcases hc with rfl | rfl | rfl | rfl | rfl
  · exact Nat.le_trans (h i j) (by decide)
  · exact Nat.le_trans (tr_b2 (h _ _) (h _ _) (h _ _) (h _ _)) (by decide)
  · exact Nat.le_trans (tr_b3 (h _ _) (h _ _) (h _ _) (h _ _) (h _ _) (h _ _) (h _ _) (h _ _) (h _ _)) (by decide)
  · exact Nat.le_trans (tr_b4 (h _ _) (h _ _) (h _ _) (h _ _) (h _ _) (h _ _) (h _ _) (h _ _) (h _ _) (h _ _) (h _ _) (h _ _) (h _ _) (h _ _) (h _ _) (h _ _)) (by decide)
  · exact Nat.le_trans (tr_b5 (h _ _) (h _ _) (h _ _) (h _ _) (h _ _) (h _ _) (h _ _) (h _ _) (h _ _) (h _ _) (h _ _) (h _ _) (h _ _) (h _ _) (h _ _) (h _ _) (h _ _) (h _ _) (h _ _) (h _ _) (h _ _) (h _ _) (h _ _) (h _ _) (h _ _)) (by decide)
theorem tr_det_abs {k : Nat} {M : Nat → Nat → Int} (hk : k ≤ 5) (h : ∀ i j, (M i j).natAbs ≤ 10) : (tr_det k M).natAbs ≤ 12000000 := by
  have hc : k = 0 ∨ k = 1 ∨ k = 2 ∨ k = 3 ∨ k = 4 ∨ k = 5 := by omega
  rcases hc with rfl | rfl | rfl | rfl | rfl | rfl
  · show (1 : Int).natAbs ≤ 12000000
    decide
  · exact tr_D_abs (k := 0) (by decide) h 0 0
  · exact tr_D_abs (k := 1) (by decide) h 1 1
  · exact tr_D_abs (k := 2) (by decide) h 2 2
  · exact tr_D_abs (k := 3) (by decide) h 3 3
  · exact tr_D_abs (k := 4) (by decide) h 4 4
theorem tr_D_kk {k : Nat} {M : Nat → Nat → Int} (hk : k ≤ 4) : tr_D k M k k = tr_det (k + 1) M := by
  have hc : k = 0 ∨ k = 1 ∨ k = 2 ∨ k = 3 ∨ k = 4 := by omega
  rcases hc with rfl | rfl | rfl | rfl | rfl <;> rfl
/-- one step of the elimination -/
theorem tr_syl {k : Nat} {M : Nat → Nat → Int} (hk : k ≤ 3) (h0 : k = 3 → M 0 0 ≠ 0) (i j : Nat) : tr_D k M i j * tr_D k M k k - tr_D k M i k * tr_D k M k j = tr_det k M * tr_D (k + 1) M i j := by
  have hc : k = 0 ∨ k = 1 ∨ k = 2 ∨ k = 3 := by omega
  rcases hc with rfl | rfl | rfl | rfl
  · exact tr_s0 (M 0 0) (M 0 j) (M i 0) (M i j)
  · exact tr_s1 (M 0 0) (M 0 1) (M 0 j) (M 1 0) (M 1 1) (M 1 j) (M i 0) (M i 1) (M i j)
  · exact tr_s2 (M 0 0) (M 0 1) (M 0 2) (M 0 j) (M 1 0) (M 1 1) (M 1 2) (M 1 j) (M 2 0) (M 2 1) (M 2 2) (M 2 j) (M i 0) (M i 1) (M i 2) (M i j)
  · exact tr_s3 (M 0 0) (M 0 1) (M 0 2) (M 0 3) (M 0 j) (M 1 0) (M 1 1) (M 1 2) (M 1 3) (M 1 j) (M 2 0) (M 2 1) (M 2 2) (M 2 3) (M 2 j) (M 3 0) (M 3 1) (M 3 2) (M 3 3) (M 3 j) (M i 0) (M i 1) (M i 2) (M i 3) (M i j) (h0 rfl)
theorem tr_l64 {x p f g d r : Int} (h : x * p - f * g = d * r) (hd : d ≠ 0) (bd : d.natAbs ≤ 12000000) (br : r.natAbs ≤ 12000000) : (Int64.ofInt x * Int64.ofInt p - Int64.ofInt f * Int64.ofInt g) / Int64.ofInt d = Int64.ofInt r := by
  rw [← Int64.ofInt_mul, ← Int64.ofInt_mul, ← Int64.ofInt_sub, h]
  have b1 := tr_ab bd br
  have m1 : Int64.minValue.toInt = -9223372036854775808 := by decide
  have m2 : Int64.maxValue.toInt = 9223372036854775807 := by decide
  rw [← Int64.ofInt_tdiv (by omega) (by omega) (by omega) (by omega)]
  congr 1
  exact Int.mul_tdiv_cancel_left r hd
theorem tr_l640 {d : Int} (bd : d.natAbs ≤ 12000000) : Int64.ofInt d = 0 ↔ d = 0 := by
  constructor
  · intro h
    have h1 : (Int64.ofInt d).toInt = (0 : Int64).toInt := by rw [h]
    rw [Int64.toInt_ofInt_of_le (by omega) (by omega)] at h1
    exact h1
  · intro h
    rw [h]
    rfl
end
section
/-! PURE 6: what the methods answer -/
/-- the lines from k on -/
def tr_lf (k : Nat) : List Nat := List.range' k (10 - k)
theorem tr_lf_10 : tr_lf 10 = [] := rfl
theorem tr_lf_c {k : Nat} (h : k < 10) : tr_lf k = k :: tr_lf (k + 1) := by
  unfold tr_lf
  rw [show 10 - k = (10 - (k + 1)) + 1 by omega, List.range'_succ]
theorem tr_lf_len (k : Nat) : (tr_lf k).length = 10 - k := by
  unfold tr_lf
  simp
theorem tr_lf_mem {k j : Nat} (h : j ∈ tr_lf k) : j < 10 := by
  unfold tr_lf at h
  rw [List.mem_range'_1] at h
  omega
/-- the set is a tree -/
def tr_isT (n : Nat) (T : Nat → Bool) (A B : Nat → Nat) (s : Nat) : Bool := decide (tr_on 10 s = n - 1) && tr_rl T A B (tr_lf 0) (fun p => p) s
/-- how many trees hold i and keep off o -/
def tr_cP (n : Nat) (T : Nat → Bool) (A B : Nat → Nat) (i o : Nat) : Nat := tr_cnt (fun s => decide (s &&& i = i) && decide (s &&& o = 0) && tr_isT n T A B s) 1024
theorem tr_cP_both {n : Nat} {T : Nat → Bool} {A B : Nat → Nat} {i o : Nat} (h : i &&& o ≠ 0) : tr_cP n T A B i o = 0 := by
  refine tr_cnt_none _ (fun s _ => ?_)
  by_cases h1 : s &&& i = i
  · have h2 : ¬ (s &&& o = 0) := by
      intro h2
      refine h ?_
      rw [← h1, Nat.and_comm s i, Nat.and_assoc, h2]
      simp
    simp [h2]
  · simp [h1]
theorem tr_cP_in {n : Nat} {T : Nat → Bool} {A B : Nat → Nat} {i o : Nat} (hAB : ∀ k, k < 10 → A k < n ∧ B k < n) (hi : i < 1024) (h : i &&& o = 0) : tr_cP n T A B i o = tr_aft (tr_fr T A B (tr_lf 0) (i ||| o)) (n - 1) (tr_on 10 i) (tr_in T A B (tr_lf 0) (fun p => p) i) := by
  have h1 := tr_cnt_G T A B (tr_lf 0) (fun p => p) (n - 1) i o hi
  have h2 := tr_G_in (T := T) (tr_lf 0) (fun k hk => hAB k (tr_lf_mem hk)) (fun p => p) (n - 1) i o h
  exact h1.trans h2
theorem tr_cP_none {n : Nat} {T : Nat → Bool} {A B : Nat → Nat} {i o : Nat} (hAB : ∀ k, k < 10 → A k < n ∧ B k < n) (hi : i < 1024) (h : i &&& o = 0) (hq : tr_in T A B (tr_lf 0) (fun p => p) i = none) : tr_cP n T A B i o = 0 := by
  rw [tr_cP_in hAB hi h, hq]
  rfl
theorem tr_cP_some {n : Nat} {T : Nat → Bool} {A B : Nat → Nat} {i o : Nat} {N : Nat → Nat} (h1n : 1 ≤ n) (hn6 : n ≤ 6) (hAB : ∀ k, k < 10 → A k < n ∧ B k < n) (hi : i < 1024) (h : i &&& o = 0) (hq : tr_in T A B (tr_lf 0) (fun p => p) i = some N) :
    tr_Iv n N ∧ 1 ≤ tr_rt n N ∧ tr_rt n N ≤ 6 ∧ tr_det (tr_rt n N - 1) (tr_L (fun p => tr_row N (N p)) (tr_fr T A B (tr_lf 0) (i ||| o))) = (tr_cP n T A B i o : Int) := by
  have hks : ∀ k ∈ tr_lf 0, A k < n ∧ B k < n := fun k hk => hAB k (tr_lf_mem hk)
  obtain ⟨h1, h2⟩ := tr_in_iv (tr_lf 0) hks _ _ _ (tr_Iv_id n) hq
  rw [tr_rt_id, tr_lf_len] at h2
  have h3 : 1 ≤ tr_rt n N := by
    have h4 := tr_row_le h1 (show 0 < n by omega)
    omega
  have h5 : tr_rt n N ≤ n := tr_cnt_le _ _
  refine ⟨h1, h3, by omega, ?_⟩
  rw [tr_mtt (n := n) _ _ _ (by omega) (tr_fr_lt _ hks _) (fun p hp => by have := tr_row_le h1 hp; omega), tr_cP_in hAB hi h, hq]
  have h6 : tr_on 10 i ≤ n - 1 := by
    have : tr_rt n N + tr_on 10 i = n := h2
    omega
  simp only [tr_aft]
  rw [if_pos h6, ← tr_T_kr (n := n) _ _ _ _ (tr_fr_lt _ hks _) (tr_row_kr h1)]
  have : tr_rt n N + tr_on 10 i = n := h2
  rw [show tr_rt n N - 1 = n - 1 - tr_on 10 i by omega]
/-- a range of numbers by its upper bits -/
theorem tr_modz {i c : Nat} (h : ∀ j, j < c → i.testBit j = false) : i % 2 ^ c = 0 := by
  refine Nat.eq_of_testBit_eq (fun j => ?_)
  rw [Nat.testBit_mod_two_pow, Nat.zero_testBit]
  by_cases hj : j < c
  · simp [h j hj]
  · simp [hj]
theorem tr_up {i k : Nat} (hk : k < 10) (hi : i < 1024) (hl : ∀ j, j ≤ k → i.testBit j = false) : i % 2 ^ (k + 1) = 0 ∧ i % 2 ^ k = 0 ∧ i + 2 ^ (k + 1) ≤ 1024 ∧ 2 ^ (k + 1) = 2 ^ k + 2 ^ k := by
  have h1 : i % 2 ^ (k + 1) = 0 := tr_modz (fun j hj => hl j (by omega))
  have h2 : i % 2 ^ k = 0 := tr_modz (fun j hj => hl j (by omega))
  refine ⟨h1, h2, ?_, by rw [Nat.pow_succ]; omega⟩
  have hc : k = 0 ∨ k = 1 ∨ k = 2 ∨ k = 3 ∨ k = 4 ∨ k = 5 ∨ k = 6 ∨ k = 7 ∨ k = 8 ∨ k = 9 := by omega
  rcases hc with rfl | rfl | rfl | rfl | rfl | rfl | rfl | rfl | rfl | rfl <;> simp at h1 ⊢ <;> omega
theorem tr_divq {i s k : Nat} (h : i % 2 ^ k = 0) : s / 2 ^ k = i / 2 ^ k ↔ (i ≤ s ∧ s < i + 2 ^ k) := by
  have h1 := Nat.div_add_mod i (2 ^ k)
  have h2 := Nat.div_add_mod s (2 ^ k)
  have h3 := Nat.mod_lt s (Nat.two_pow_pos k)
  have hp := Nat.two_pow_pos k
  rw [h] at h1
  constructor
  · intro e
    rw [e] at h2
    omega
  · rintro ⟨g1, g2⟩
    have h4 : s / 2 ^ k < i / 2 ^ k + 1 := by
      rw [Nat.div_lt_iff_lt_mul hp, Nat.add_mul, Nat.one_mul, Nat.mul_comm]
      omega
    have h5 : i / 2 ^ k ≤ s / 2 ^ k := Nat.div_le_div_right g1
    omega
theorem tr_bitq {s i k : Nat} (h : ∀ j, k ≤ j → s.testBit j = i.testBit j) : s / 2 ^ k = i / 2 ^ k := by
  refine Nat.eq_of_testBit_eq (fun j => ?_)
  rw [Nat.testBit_div_two_pow, Nat.testBit_div_two_pow]
  exact h _ (by omega)
theorem tr_qbit {s i k : Nat} (h : s / 2 ^ k = i / 2 ^ k) {j : Nat} (hj : k ≤ j) : s.testBit j = i.testBit j := by
  have h1 := Nat.testBit_div_two_pow (n := k) s (j - k)
  have h2 := Nat.testBit_div_two_pow (n := k) i (j - k)
  rw [show j - k + k = j by omega] at h1 h2
  rw [← h1, ← h2, h]
theorem tr_hi {s j : Nat} (h : s < 1024) (hj : 10 ≤ j) : s.testBit j = false := Nat.testBit_lt_two_pow (Nat.lt_of_lt_of_le h (Nat.pow_le_pow_right (by decide : 1 ≤ 2) hj))
theorem tr_rng {P : Nat → Bool} {k i o : Nat} (hk : k < 10) (hi : i < 1024) (hl : ∀ j, j ≤ k → i.testBit j = false) (hol : ∀ j, j ≤ k → o.testBit j = false)
    (hh : ∀ j, k < j → j < 10 → (i.testBit j = true ∧ o.testBit j = false) ∨ (i.testBit j = false ∧ (o.testBit j = true ∨ ∀ s, P s = true → s.testBit j = false))) :
    tr_cnt (fun s => decide (s &&& i = i) && decide (s &&& (o ||| 2 ^ k) = 0) && P s) 1024 + tr_cnt P i = tr_cnt P (i + 2 ^ k) := by
  obtain ⟨u1, u2, u3, u4⟩ := tr_up hk hi hl
  have hp := Nat.two_pow_pos k
  refine tr_cnt_mid (a := i) (b := i + 2 ^ k) (by omega) 1024 (by omega) (fun s hs => ?_)
  simp only [Bool.and_eq_true, decide_eq_true_eq]
  constructor
  · rintro ⟨⟨h1, h2⟩, h3⟩
    have h4 : s / 2 ^ k = i / 2 ^ k := by
      refine tr_bitq (fun j hj => ?_)
      have b1 : (s &&& i).testBit j = i.testBit j := by rw [h1]
      have b2 : (s &&& (o ||| 2 ^ k)).testBit j = false := by rw [h2]; simp
      rw [Nat.testBit_and] at b1 b2
      rw [Nat.testBit_or, Nat.testBit_two_pow] at b2
      rcases Nat.lt_or_ge j 10 with g | g
      · rcases Nat.lt_or_ge k j with g2 | g2
        · rcases hh j g2 g with ⟨c1, c2⟩ | ⟨c1, c2 | c2⟩
          · rw [c1] at b1 ⊢
            simpa using b1
          · rw [c1]
            rw [c2] at b2
            simpa using b2
          · rw [c1]
            exact c2 s h3
        · have : k = j := by omega
          subst this
          rw [hl k (Nat.le_refl _)]
          simpa using b2
      · rw [tr_hi hs g, tr_hi hi g]
    have h5 := (tr_divq u2).mp h4
    exact ⟨h5.1, h5.2, h3⟩
  · rintro ⟨h1, h2, h3⟩
    have h4 : s / 2 ^ k = i / 2 ^ k := (tr_divq u2).mpr ⟨h1, h2⟩
    refine ⟨⟨?_, ?_⟩, h3⟩
    · refine Nat.eq_of_testBit_eq (fun j => ?_)
      rw [Nat.testBit_and]
      rcases Nat.lt_or_ge k j with g | g
      · rw [tr_qbit h4 (by omega)]
        simp
      · rw [hl j g]
        simp
    · refine Nat.eq_of_testBit_eq (fun j => ?_)
      rw [Nat.testBit_and, Nat.testBit_or, Nat.testBit_two_pow, Nat.zero_testBit]
      rcases Nat.lt_trichotomy j k with g | g | g
      · rw [hol j (by omega)]
        simp [show ¬ k = j by omega]
      · subst g
        rw [tr_qbit h4 (Nat.le_refl _), hl j (Nat.le_refl _)]
        simp
      · rcases Nat.lt_or_ge j 10 with g2 | g2
        · rw [tr_qbit h4 (by omega)]
          rcases hh j g g2 with ⟨c1, c2⟩ | ⟨c1, c2⟩
          · rw [c1, c2]
            simp [show ¬ k = j by omega]
          · rw [c1]
            simp
        · rw [tr_hi hs g2]
          simp
theorem tr_orp {i k : Nat} (hl : ∀ j, j ≤ k → i.testBit j = false) : i ||| 2 ^ k = i + 2 ^ k := by
  have h1 : i % 2 ^ (k + 1) = 0 := tr_modz (fun j hj => hl j (by omega))
  have h2 := Nat.div_add_mod i (2 ^ (k + 1))
  rw [h1, Nat.add_zero] at h2
  have h3 : 2 ^ k < 2 ^ (k + 1) := by
    rw [Nat.pow_succ]
    have := Nat.two_pow_pos k
    omega
  have h4 := Nat.two_pow_add_eq_or_of_lt h3 (i / 2 ^ (k + 1))
  rw [h2] at h4
  exact h4.symm
/-- trees keep to the lines that are there -/
theorem tr_rl_T {T : Nat → Bool} {A B : Nat → Nat} : ∀ (ks : List Nat) (N : Nat → Nat) (s : Nat), tr_rl T A B ks N s = true → ∀ j (hj : j < ks.length), s.testBit j = true → T ks[j] = true := by
  intro ks
  induction ks with
  | nil => intro N s _ j hj; exact absurd hj (by simp)
  | cons k ks ih =>
    intro N s h j hj hb
    simp only [tr_rl] at h
    cases j with
    | zero =>
      rw [Nat.testBit_zero] at hb
      rw [if_pos (by simpa using hb)] at h
      simp only [Bool.and_eq_true] at h
      exact h.1.1
    | succ j =>
      rw [Nat.testBit_add_one] at hb
      have hj' : j < ks.length := by simpa using hj
      by_cases h1 : s % 2 = 1
      · rw [if_pos h1] at h
        simp only [Bool.and_eq_true] at h
        exact ih _ _ h.2 j hj' hb
      · rw [if_neg h1] at h
        exact ih _ _ h j hj' hb
theorem tr_isT_T {n : Nat} {T : Nat → Bool} {A B : Nat → Nat} {s j : Nat} (h : tr_isT n T A B s = true) (hj : j < 10) (hT : T j = false) : s.testBit j = false := by
  simp only [tr_isT, Bool.and_eq_true] at h
  cases hb : s.testBit j with
  | false => rfl
  | true =>
    have h1 := tr_rl_T _ _ _ h.2 j (by rw [tr_lf_len]; exact hj) hb
    have h2 : (tr_lf 0)[j]'(by rw [tr_lf_len]; exact hj) = j := by
      simp [tr_lf]
    rw [h2, hT] at h1
    cases h1
/-- below: the sum, the marked lines from c on, the others from c on -/
def tr_Bw (P : Nat → Bool) (mk c sum i o : Nat) : Prop := i < 1024 ∧ o < 1024 ∧ (∀ j, i.testBit j = (decide (c ≤ j) && mk.testBit j)) ∧ (∀ j, o.testBit j = (decide (c ≤ j ∧ j < 10) && !mk.testBit j)) ∧ sum = tr_cnt P i
theorem tr_Bw_0 {P : Nat → Bool} {mk : Nat} (hm : mk < 1024) : tr_Bw P mk 10 0 0 0 := by
  refine ⟨by decide, by decide, fun j => ?_, fun j => ?_, rfl⟩
  · rw [Nat.zero_testBit]
    rcases Nat.lt_or_ge j 10 with g | g
    · simp [show ¬ 10 ≤ j by omega]
    · simp [tr_hi hm g]
  · rw [Nat.zero_testBit]
    simp [show ¬ (10 ≤ j ∧ j < 10) by omega]
theorem tr_Bw_end {P : Nat → Bool} {mk sum i o : Nat} (h : tr_Bw P mk 0 sum i o) : sum = tr_cnt P mk := by
  obtain ⟨_, _, h1, _, h2⟩ := h
  have : i = mk := Nat.eq_of_testBit_eq (fun j => by rw [h1]; simp)
  rw [h2, this]
theorem tr_or_lt {a k : Nat} (ha : a < 1024) (hk : k < 10) : a ||| 2 ^ k < 1024 := Nat.or_lt_two_pow (n := 10) ha (Nat.pow_lt_pow_right (by decide) hk)
theorem tr_Bw_in {n : Nat} {T : Nat → Bool} {A B : Nat → Nat} {mk k sum i o : Nat} (hk : k < 10) (hb : mk.testBit k = true) (h : tr_Bw (tr_isT n T A B) mk (k + 1) sum i o) : tr_Bw (tr_isT n T A B) mk k (sum + tr_cP n T A B i (o ||| 2 ^ k)) (i ||| 2 ^ k) o := by
  obtain ⟨h1, h2, h3, h4, h5⟩ := h
  have hl : ∀ j, j ≤ k → i.testBit j = false := fun j hj => by rw [h3]; simp [show ¬ k + 1 ≤ j by omega]
  have hol : ∀ j, j ≤ k → o.testBit j = false := fun j hj => by rw [h4]; simp [show ¬ k + 1 ≤ j by omega]
  refine ⟨tr_or_lt h1 hk, h2, fun j => ?_, fun j => ?_, ?_⟩
  · rw [Nat.testBit_or, h3, Nat.testBit_two_pow]
    by_cases g : k = j
    · subst g
      simp [hb]
    · by_cases g2 : k + 1 ≤ j
      · simp [g, g2, show k ≤ j by omega]
      · simp [g, g2, show ¬ k ≤ j by omega]
  · rw [h4]
    by_cases g : k = j
    · subst g
      simp [hb]
    · by_cases g2 : k + 1 ≤ j
      · simp [g2, show k ≤ j by omega]
      · simp [g2, show ¬ k ≤ j by omega]
  · rw [tr_orp hl, h5, Nat.add_comm]
    refine tr_rng hk h1 hl hol (fun j hj hj2 => ?_)
    rw [h3, h4]
    cases hm : mk.testBit j with
    | true => exact Or.inl ⟨by simp [show k + 1 ≤ j by omega], by simp⟩
    | false => exact Or.inr ⟨by simp, Or.inl (by simp [show k + 1 ≤ j by omega, hj2])⟩
theorem tr_Bw_out {P : Nat → Bool} {mk k sum i o : Nat} (hk : k < 10) (hb : mk.testBit k = false) (h : tr_Bw P mk (k + 1) sum i o) : tr_Bw P mk k sum i (o ||| 2 ^ k) := by
  obtain ⟨h1, h2, h3, h4, h5⟩ := h
  refine ⟨h1, tr_or_lt h2 hk, fun j => ?_, fun j => ?_, h5⟩
  · rw [h3]
    by_cases g : k = j
    · subst g
      simp [hb]
    · by_cases g2 : k + 1 ≤ j
      · simp [g2, show k ≤ j by omega]
      · simp [g2, show ¬ k ≤ j by omega]
  · rw [Nat.testBit_or, h4, Nat.testBit_two_pow]
    by_cases g : k = j
    · subst g
      simp [hb, hk]
    · by_cases g2 : k + 1 ≤ j
      · simp [g, g2, show k ≤ j by omega]
      · simp [g, g2, show ¬ k ≤ j by omega]
/-- tree: what is left of the rank, the lines taken and left from c on -/
def tr_Tr (P : Nat → Bool) (T : Nat → Bool) (rk c rest i o : Nat) : Prop := i < 1024 ∧ o < 1024 ∧ (∀ j, j < c → i.testBit j = false ∧ o.testBit j = false) ∧ (∀ j, c ≤ j → j < 10 → (i.testBit j = true ∧ o.testBit j = false) ∨ (i.testBit j = false ∧ (o.testBit j = true ∨ T j = false))) ∧ rest + tr_cnt P i = rk ∧ rk < tr_cnt P (i + 2 ^ c)
theorem tr_Tr_0 {P T : Nat → Bool} {rk : Nat} (h : rk < tr_cnt P 1024) : tr_Tr P T rk 10 rk 0 0 := by
  refine ⟨by decide, by decide, fun j _ => ⟨Nat.zero_testBit j, Nat.zero_testBit j⟩, fun j h1 h2 => absurd h1 (by omega), rfl, ?_⟩
  simpa using h
theorem tr_Tr_end {P T : Nat → Bool} {rk rest i o : Nat} (h : tr_Tr P T rk 0 rest i o) : i < 1024 ∧ P i = true ∧ tr_cnt P i = rk := by
  obtain ⟨h1, h2, h3, h4, h5, h6⟩ := h
  simp only [Nat.pow_zero, tr_cnt] at h6
  refine ⟨h1, ?_, ?_⟩
  · cases hq : P i with
    | true => rfl
    | false =>
      rw [hq] at h6
      simp at h6
      omega
  · split at h6 <;> omega
theorem tr_Tr_rng {n : Nat} {T : Nat → Bool} {A B : Nat → Nat} {rk k rest i o : Nat} (hk : k < 10) (h : tr_Tr (tr_isT n T A B) T rk (k + 1) rest i o) : tr_cP n T A B i (o ||| 2 ^ k) + tr_cnt (tr_isT n T A B) i = tr_cnt (tr_isT n T A B) (i + 2 ^ k) ∧ (∀ j, j ≤ k → i.testBit j = false) ∧ 2 ^ (k + 1) = 2 ^ k + 2 ^ k := by
  obtain ⟨h1, h2, h3, h4, h5, h6⟩ := h
  have hl : ∀ j, j ≤ k → i.testBit j = false := fun j hj => (h3 j (by omega)).1
  refine ⟨tr_rng hk h1 hl (fun j hj => (h3 j (by omega)).2) (fun j hj hj2 => ?_), hl, by rw [Nat.pow_succ]; omega⟩
  rcases h4 j (by omega) hj2 with g | ⟨g1, g2 | g2⟩
  · exact Or.inl g
  · exact Or.inr ⟨g1, Or.inl g2⟩
  · exact Or.inr ⟨g1, Or.inr (fun s hs => tr_isT_T hs hj2 g2)⟩
theorem tr_Tr_out {n : Nat} {T : Nat → Bool} {A B : Nat → Nat} {rk k rest i o : Nat} (hk : k < 10) (hT : T k = true) (h : tr_Tr (tr_isT n T A B) T rk (k + 1) rest i o) (hlt : rest < tr_cP n T A B i (o ||| 2 ^ k)) : tr_Tr (tr_isT n T A B) T rk k rest i (o ||| 2 ^ k) := by
  obtain ⟨r1, r2, r3⟩ := tr_Tr_rng hk h
  obtain ⟨h1, h2, h3, h4, h5, h6⟩ := h
  refine ⟨h1, tr_or_lt h2 hk, fun j hj => ?_, fun j hj hj2 => ?_, h5, by omega⟩
  · have := h3 j (by omega)
    rw [Nat.testBit_or, Nat.testBit_two_pow]
    refine ⟨this.1, ?_⟩
    rw [this.2]
    simp [show ¬ k = j by omega]
  · rw [Nat.testBit_or, Nat.testBit_two_pow]
    by_cases g : k = j
    · subst g
      exact Or.inr ⟨r2 k (Nat.le_refl _), Or.inl (by simp)⟩
    · rcases h4 j (by omega) hj2 with ⟨g1, g2⟩ | ⟨g1, g2 | g2⟩
      · exact Or.inl ⟨g1, by rw [g2]; simp [g]⟩
      · exact Or.inr ⟨g1, Or.inl (by rw [g2]; simp)⟩
      · exact Or.inr ⟨g1, Or.inr g2⟩
theorem tr_Tr_in {n : Nat} {T : Nat → Bool} {A B : Nat → Nat} {rk k rest i o : Nat} (hk : k < 10) (hT : T k = true) (h : tr_Tr (tr_isT n T A B) T rk (k + 1) rest i o) (hge : tr_cP n T A B i (o ||| 2 ^ k) ≤ rest) : tr_Tr (tr_isT n T A B) T rk k (rest - tr_cP n T A B i (o ||| 2 ^ k)) (i ||| 2 ^ k) o := by
  obtain ⟨r1, r2, r3⟩ := tr_Tr_rng hk h
  obtain ⟨h1, h2, h3, h4, h5, h6⟩ := h
  have e := tr_orp r2
  refine ⟨tr_or_lt h1 hk, h2, fun j hj => ?_, fun j hj hj2 => ?_, by rw [e]; omega, ?_⟩
  · have := h3 j (by omega)
    rw [Nat.testBit_or, Nat.testBit_two_pow]
    refine ⟨?_, this.2⟩
    rw [this.1]
    simp [show ¬ k = j by omega]
  · rw [Nat.testBit_or, Nat.testBit_two_pow]
    by_cases g : k = j
    · subst g
      exact Or.inl ⟨by simp, (h3 k (by omega)).2⟩
    · rcases h4 j (by omega) hj2 with ⟨g1, g2⟩ | ⟨g1, g2⟩
      · exact Or.inl ⟨by rw [g1]; simp, g2⟩
      · exact Or.inr ⟨by rw [g1]; simp [g], g2⟩
  · rw [e, Nat.add_assoc, ← r3]
    exact h6
theorem tr_Tr_no {n : Nat} {T : Nat → Bool} {A B : Nat → Nat} {rk k rest i o : Nat} (hk : k < 10) (hT : T k = false) (h : tr_Tr (tr_isT n T A B) T rk (k + 1) rest i o) : tr_Tr (tr_isT n T A B) T rk k rest i o := by
  obtain ⟨r1, r2, r3⟩ := tr_Tr_rng hk h
  obtain ⟨h1, h2, h3, h4, h5, h6⟩ := h
  obtain ⟨u1, u2, u3, u4⟩ := tr_up hk h1 r2
  have hp := Nat.two_pow_pos k
  refine ⟨h1, h2, fun j hj => h3 j (by omega), fun j hj hj2 => ?_, h5, ?_⟩
  · by_cases g : k = j
    · subst g
      exact Or.inr ⟨r2 k (Nat.le_refl _), Or.inr hT⟩
    · exact h4 j (by omega) hj2
  · have h7 := tr_cnt_mid (P := tr_isT n T A B) (Q := fun _ => false) (a := i + 2 ^ k) (b := i + 2 ^ (k + 1)) (by omega) (i + 2 ^ (k + 1)) (Nat.le_refl _) (fun s hs => by
      constructor
      · intro q; cases q
      · rintro ⟨q1, q2, q3⟩
        have q4 := tr_isT_T q3 hk hT
        have q5 : s / 2 ^ k = (i + 2 ^ k) / 2 ^ k := (tr_divq (by rw [Nat.add_mod_right]; exact u2)).mpr ⟨q1, by omega⟩
        have q6 := tr_qbit q5 (Nat.le_refl k)
        rw [← tr_orp r2, Nat.testBit_or, Nat.testBit_two_pow, q4] at q6
        simp at q6)
    rw [tr_cnt_none _ (fun _ _ => rfl)] at h7
    omega
/-- the tree of a rank -/
def tr_Tree (P : Nat → Bool) (rank r : Int32) : Prop := (∃ s, s < 1024 ∧ P s = true ∧ nI (tr_cnt P s) = rank ∧ r = nI s) ∨ ((∀ s, s < 1024 → P s = true → nI (tr_cnt P s) ≠ rank) ∧ r = -1)
theorem tr_Tree_u {P : Nat → Bool} {rank r r' : Int32} (h : tr_Tree P rank r) (h' : tr_Tree P rank r') : r = r' := by
  rcases h with ⟨s, h1, h2, h3, h4⟩ | ⟨h1, h2⟩
  · rcases h' with ⟨s', g1, g2, g3, g4⟩ | ⟨g1, g2⟩
    · have c1 := tr_cnt_le P s
      have c2 := tr_cnt_le P s'
      have e : tr_cnt P s = tr_cnt P s' := (nI_eq (by omega) (by omega)).mp (h3.trans g3.symm)
      rcases Nat.lt_trichotomy s s' with q | q | q
      · have := tr_cnt_mono P (show s + 1 ≤ s' from q)
        simp only [tr_cnt] at this
        rw [if_pos h2] at this
        omega
      · rw [h4, g4, q]
      · have := tr_cnt_mono P (show s' + 1 ≤ s from q)
        simp only [tr_cnt] at this
        rw [if_pos g2] at this
        omega
    · exact absurd h3 (g1 s h1 h2)
  · rcases h' with ⟨s', g1, g2, g3, g4⟩ | ⟨g1, g2⟩
    · exact absurd g3 (h1 s' g1 g2)
    · rw [h2, g2]
theorem tr_cnt_0 {P : Nat → Bool} : ∀ (b : Nat), tr_cnt P b = 0 → ∀ s, s < b → P s = false := by
  intro b
  induction b with
  | zero => intro _ s hs; exact absurd hs (by omega)
  | succ b ih =>
    intro h s hs
    simp only [tr_cnt] at h
    by_cases h1 : s = b
    · subst h1
      cases hq : P s with
      | false => rfl
      | true => rw [hq] at h; simp at h
    · exact ih (by omega) s (by omega)
theorem tr_on_sub : ∀ (c s m : Nat), s < 2 ^ c → m < 2 ^ c → s &&& m = m → tr_on c m ≤ tr_on c s ∧ (tr_on c s = tr_on c m → s = m) := by
  intro c
  induction c with
  | zero => intro s m hs hm _; simp at hs hm; subst hs; subst hm; exact ⟨Nat.le_refl _, fun _ => rfl⟩
  | succ c ih =>
    intro s m hs hm h
    rw [Nat.pow_succ] at hs hm
    have h1 : s / 2 &&& m / 2 = m / 2 := by rw [← Nat.and_div_two, h]
    have h2 := ih (s / 2) (m / 2) (by omega) (by omega) h1
    have h3 := @Nat.and_mod_two_eq_one s m
    rw [h] at h3
    simp only [tr_on]
    refine ⟨by omega, fun q => ?_⟩
    have h4 := h2.2 (by omega)
    omega
theorem tr_on_le (c s : Nat) : tr_on c s ≤ c := by
  induction c generalizing s with
  | zero => exact Nat.le_refl _
  | succ c ih =>
    have := ih (s / 2)
    simp only [tr_on]
    omega
/-- of n - 1 lines: they are a tree if some tree has them -/
theorem tr_rank {n : Nat} {T : Nat → Bool} {A B : Nat → Nat} {mk : Nat} (hm : mk < 1024) (ho : tr_on 10 mk = n - 1) : tr_cP n T A B mk 0 = 0 ↔ tr_isT n T A B mk = false := by
  constructor
  · intro h
    have h1 := tr_cnt_0 1024 h mk hm
    simpa using h1
  · intro h
    refine tr_cnt_none _ (fun s hs => ?_)
    by_cases h1 : s &&& mk = mk
    · cases hq : tr_isT n T A B s with
      | false => simp
      | true =>
        have h2 : tr_on 10 s = n - 1 := by
          simp only [tr_isT, Bool.and_eq_true, decide_eq_true_eq] at hq
          exact hq.1
        have h3 := (tr_on_sub 10 s mk hs hm h1).2 (by rw [h2, ho])
        rw [h3, h] at hq
        cases hq
    · simp [h1]
end
section
/-! PURE 7: the surplus: lines put down one by one, against the least that must go -/
/-- the marked lines that are there, as a set -/
def tr_ln (T : Nat → Bool) : List Nat → Nat → Nat
  | [], _ => 0
  | k :: ks, s => (if T k = true ∧ s % 2 = 1 then 1 else 0) + 2 * tr_ln T ks (s / 2)
/-- rings -/
def tr_gr (T : Nat → Bool) (A B : Nat → Nat) : List Nat → (Nat → Nat) → Nat → Nat
  | [], _, _ => 0
  | k :: ks, N, s => if T k = true ∧ s % 2 = 1 then (if N (A k) = N (B k) then 1 + tr_gr T A B ks N (s / 2) else tr_gr T A B ks (tr_jn N (A k) (B k)) (s / 2)) else tr_gr T A B ks N (s / 2)
/-- joins -/
def tr_gj (T : Nat → Bool) (A B : Nat → Nat) : List Nat → (Nat → Nat) → Nat → Nat
  | [], _, _ => 0
  | k :: ks, N, s => if T k = true ∧ s % 2 = 1 then (if N (A k) = N (B k) then tr_gj T A B ks N (s / 2) else 1 + tr_gj T A B ks (tr_jn N (A k) (B k)) (s / 2)) else tr_gj T A B ks N (s / 2)
theorem tr_ln_lt {T : Nat → Bool} : ∀ (ks : List Nat) (s : Nat), tr_ln T ks s < 2 ^ ks.length := by
  intro ks
  induction ks with
  | nil => intro s; simp [tr_ln]
  | cons k ks ih =>
    intro s
    have := ih (s / 2)
    simp only [tr_ln, List.length_cons, Nat.pow_succ]
    split <;> omega
theorem tr_gjr {T : Nat → Bool} {A B : Nat → Nat} : ∀ (ks : List Nat) (N : Nat → Nat) (s : Nat), tr_gj T A B ks N s + tr_gr T A B ks N s = tr_on ks.length (tr_ln T ks s) := by
  intro ks
  induction ks with
  | nil => intro N s; rfl
  | cons k ks ih =>
    intro N s
    simp only [tr_gj, tr_gr, tr_ln, tr_on, List.length_cons]
    by_cases h1 : T k = true ∧ s % 2 = 1
    · simp only [if_pos h1]
      rw [show (1 + 2 * tr_ln T ks (s / 2)) % 2 = 1 by omega, show (1 + 2 * tr_ln T ks (s / 2)) / 2 = tr_ln T ks (s / 2) by omega]
      by_cases h2 : N (A k) = N (B k)
      · have := ih N (s / 2)
        simp only [if_pos h2]
        omega
      · have := ih (tr_jn N (A k) (B k)) (s / 2)
        simp only [if_neg h2]
        omega
    · have := ih N (s / 2)
      simp only [if_neg h1]
      rw [show (0 + 2 * tr_ln T ks (s / 2)) % 2 = 0 by omega, show (0 + 2 * tr_ln T ks (s / 2)) / 2 = tr_ln T ks (s / 2) by omega]
      omega
theorem tr_gj_kr {T : Nat → Bool} {A B : Nat → Nat} {n : Nat} : ∀ (ks : List Nat), (∀ k ∈ ks, A k < n ∧ B k < n) → ∀ (N M : Nat → Nat) (s : Nat), tr_Kr n N M → tr_gj T A B ks N s = tr_gj T A B ks M s := by
  intro ks
  induction ks with
  | nil => intro _ N M s _; rfl
  | cons k ks ih =>
    intro hks N M s H
    have hk := hks k List.mem_cons_self
    have hks' : ∀ k ∈ ks, A k < n ∧ B k < n := fun x hx => hks x (List.mem_cons_of_mem _ hx)
    have h1 := ih hks' N M (s / 2) H
    have h2 := ih hks' _ _ (s / 2) (tr_Kr_jn H hk.1 hk.2)
    have h3 := H (A k) (B k) hk.1 hk.2
    simp only [tr_gj]
    rw [h1, h2]
    by_cases h4 : N (A k) = N (B k)
    · rw [if_pos h4, if_pos (h3.mp h4)]
    · rw [if_neg h4, if_neg (fun q => h4 (h3.mpr q))]
/-- one join more costs one join at most -/
theorem tr_gj_mg {T : Nat → Bool} {A B : Nat → Nat} {n : Nat} : ∀ (ks : List Nat), (∀ k ∈ ks, A k < n ∧ B k < n) → ∀ (N M : Nat → Nat) (u v s : Nat), tr_Mg n N M u v → tr_gj T A B ks N s ≤ 1 + tr_gj T A B ks M s := by
  intro ks
  induction ks with
  | nil => intro _ N M u v s _; exact Nat.zero_le _
  | cons k ks ih =>
    intro hks N M u v s H
    have hk := hks k List.mem_cons_self
    have hks' : ∀ k ∈ ks, A k < n ∧ B k < n := fun x hx => hks x (List.mem_cons_of_mem _ hx)
    simp only [tr_gj]
    by_cases h1 : T k = true ∧ s % 2 = 1
    · simp only [if_pos h1]
      by_cases h2 : N (A k) = N (B k)
      · have h3 : M (A k) = M (B k) := (H _ _ hk.1 hk.2).mpr (Or.inl h2)
        rw [if_pos h2, if_pos h3]
        exact ih hks' N M u v _ H
      · rw [if_neg h2]
        by_cases h3 : M (A k) = M (B k)
        · rw [if_pos h3]
          have h6 : tr_Kr n (tr_jn N (A k) (B k)) M := by
            intro p q hp hq
            rw [tr_jn_eq, H p q hp hq]
            have h7 := (H (A k) (B k) hk.1 hk.2).mp h3
            rcases h7 with h7 | ⟨h7, h8⟩ | ⟨h7, h8⟩
            · exact absurd h7 h2
            · rw [h7, h8]
            · rw [h7, h8]
              constructor
              · rintro (x | x | x)
                · exact Or.inl x
                · exact Or.inr (Or.inr x)
                · exact Or.inr (Or.inl x)
              · rintro (x | x | x)
                · exact Or.inl x
                · exact Or.inr (Or.inr x)
                · exact Or.inr (Or.inl x)
          rw [tr_gj_kr ks hks' _ _ _ h6]
          exact Nat.le_refl _
        · rw [if_neg h3]
          have := ih hks' _ _ _ _ (s / 2) (tr_Mg_jn H hk.1 hk.2)
          omega
    · simp only [if_neg h1]
      exact ih hks' N M u v _ H
theorem tr_jn_mg (n : Nat) (N : Nat → Nat) (a b : Nat) : tr_Mg n N (tr_jn N a b) (N a) (N b) := fun p q _ _ => tr_jn_eq N a b p q
/-- no ringless set of the lines is greater -/
theorem tr_gj_max {T : Nat → Bool} {A B : Nat → Nat} {n : Nat} : ∀ (ks : List Nat), (∀ k ∈ ks, A k < n ∧ B k < n) → ∀ (N : Nat → Nat) (s t : Nat), tr_ln T ks s &&& t = t → tr_rl T A B ks N t = true → tr_on ks.length t ≤ tr_gj T A B ks N s := by
  intro ks
  induction ks with
  | nil => intro _ N s t _ _; exact Nat.zero_le _
  | cons k ks ih =>
    intro hks N s t hl hr
    have hk := hks k List.mem_cons_self
    have hks' : ∀ k ∈ ks, A k < n ∧ B k < n := fun x hx => hks x (List.mem_cons_of_mem _ hx)
    simp only [tr_ln] at hl
    simp only [tr_gj, tr_on, List.length_cons]
    simp only [tr_rl] at hr
    by_cases h1 : T k = true ∧ s % 2 = 1
    · rw [if_pos h1, Nat.add_comm, tr_ando] at hl
      rw [if_pos h1]
      by_cases h2 : t % 2 = 1
      · rw [if_pos h2] at hr
        simp only [Bool.and_eq_true, decide_eq_true_eq] at hr
        rw [if_neg hr.1.2, h2]
        have := ih hks' _ (s / 2) (t / 2) hl hr.2
        omega
      · rw [if_neg h2] at hr
        have h3 := ih hks' N (s / 2) (t / 2) hl hr
        by_cases h4 : N (A k) = N (B k)
        · rw [if_pos h4]
          omega
        · rw [if_neg h4]
          have := tr_gj_mg (T := T) ks hks' _ _ _ _ (s / 2) (tr_jn_mg n N (A k) (B k))
          omega
    · rw [if_neg h1, Nat.zero_add, tr_ande] at hl
      rw [if_neg h1]
      rw [if_neg (by omega)] at hr
      have h3 := ih hks' N (s / 2) (t / 2) hl.2 hr
      omega
/-- the lines put down make a ringless set -/
theorem tr_gj_set {T : Nat → Bool} {A B : Nat → Nat} : ∀ (ks : List Nat) (N : Nat → Nat) (s : Nat), ∃ t, t < 2 ^ ks.length ∧ tr_ln T ks s &&& t = t ∧ tr_rl T A B ks N t = true ∧ tr_on ks.length t = tr_gj T A B ks N s := by
  intro ks
  induction ks with
  | nil => intro N s; exact ⟨0, by simp, by simp, rfl, rfl⟩
  | cons k ks ih =>
    intro N s
    simp only [tr_gj, tr_on, List.length_cons, tr_ln, tr_rl, Nat.pow_succ]
    by_cases h1 : T k = true ∧ s % 2 = 1
    · rw [if_pos h1, if_pos h1]
      by_cases h2 : N (A k) = N (B k)
      · obtain ⟨t, g1, g2, g3, g4⟩ := ih N (s / 2)
        refine ⟨2 * t, by omega, ?_, ?_, ?_⟩
        · rw [Nat.add_comm, tr_ando, show 2 * t / 2 = t by omega]
          exact g2
        · rw [if_neg (by omega), show 2 * t / 2 = t by omega]
          exact g3
        · rw [if_pos h2, show 2 * t / 2 = t by omega, ← g4]
          omega
      · obtain ⟨t, g1, g2, g3, g4⟩ := ih (tr_jn N (A k) (B k)) (s / 2)
        refine ⟨2 * t + 1, by omega, ?_, ?_, ?_⟩
        · rw [Nat.add_comm, tr_ando, show (2 * t + 1) / 2 = t by omega]
          exact g2
        · rw [if_pos (by omega), show (2 * t + 1) / 2 = t by omega, g3, h1.1]
          simp [h2]
        · rw [if_neg h2, show (2 * t + 1) / 2 = t by omega, ← g4]
          omega
    · rw [if_neg h1, if_neg h1]
      obtain ⟨t, g1, g2, g3, g4⟩ := ih N (s / 2)
      refine ⟨2 * t, by omega, ?_, ?_, ?_⟩
      · rw [Nat.zero_add, tr_ande, show 2 * t / 2 = t by omega]
        exact ⟨by omega, g2⟩
      · rw [if_neg (by omega), show 2 * t / 2 = t by omega]
        exact g3
      · rw [show 2 * t / 2 = t by omega, ← g4]
        omega
/-- the least of g over the numbers with P, 10 at most -/
def tr_ls (P : Nat → Bool) (g : Nat → Nat) : Nat → Nat
  | 0 => 10
  | b + 1 => if P b = true ∧ g b < tr_ls P g b then g b else tr_ls P g b
theorem tr_ls_le {P : Nat → Bool} {g : Nat → Nat} : ∀ (b : Nat), tr_ls P g b ≤ 10 ∧ (∀ s, s < b → P s = true → tr_ls P g b ≤ g s) ∧ (tr_ls P g b = 10 ∨ ∃ s, s < b ∧ P s = true ∧ g s = tr_ls P g b) := by
  intro b
  induction b with
  | zero => exact ⟨Nat.le_refl _, fun s hs => absurd hs (by omega), Or.inl rfl⟩
  | succ b ih =>
    obtain ⟨h1, h2, h3⟩ := ih
    simp only [tr_ls]
    by_cases h4 : P b = true ∧ g b < tr_ls P g b
    · simp only [if_pos h4]
      refine ⟨by omega, fun s hs hp => ?_, Or.inr ⟨b, by omega, h4.1, rfl⟩⟩
      by_cases h5 : s = b
      · subst h5; exact Nat.le_refl _
      · have := h2 s (by omega) hp
        omega
    · simp only [if_neg h4]
      refine ⟨h1, fun s hs hp => ?_, ?_⟩
      · by_cases h5 : s = b
        · subst h5
          by_cases h6 : g s < tr_ls P g s
          · exact absurd ⟨hp, h6⟩ h4
          · omega
        · exact h2 s (by omega) hp
      · rcases h3 with h3 | ⟨s, g1, g2, g3⟩
        · exact Or.inl h3
        · exact Or.inr ⟨s, by omega, g2, g3⟩
/-- the sets that the reference goes through -/
def tr_kp (T : Nat → Bool) (A B : Nat → Nat) (ln s : Nat) : Bool := decide (ln &&& s = s) && tr_rl T A B (tr_lf 0) (fun p => p) s
theorem tr_surplus {n : Nat} {T : Nat → Bool} {A B : Nat → Nat} {mk : Nat} (hAB : ∀ k, k < 10 → A k < n ∧ B k < n) :
    tr_ls (tr_kp T A B (tr_ln T (tr_lf 0) mk)) (fun s => tr_on 10 (tr_ln T (tr_lf 0) mk) - tr_on 10 s) 1024 = tr_gr T A B (tr_lf 0) (fun p => p) mk := by
  have hks : ∀ k ∈ tr_lf 0, A k < n ∧ B k < n := fun k hk => hAB k (tr_lf_mem hk)
  have h1 : tr_gj T A B (tr_lf 0) (fun p => p) mk + tr_gr T A B (tr_lf 0) (fun p => p) mk = tr_on 10 (tr_ln T (tr_lf 0) mk) := tr_gjr (T := T) (A := A) (B := B) (tr_lf 0) (fun p => p) mk
  obtain ⟨t, g1, g2, g3, g4⟩ := tr_gj_set (T := T) (A := A) (B := B) (tr_lf 0) (fun p => p) mk
  have g1' : t < 1024 := g1
  have g4' : tr_on 10 t = tr_gj T A B (tr_lf 0) (fun p => p) mk := g4
  obtain ⟨l1, l2, l3⟩ := tr_ls_le (P := tr_kp T A B (tr_ln T (tr_lf 0) mk)) (g := fun s => tr_on 10 (tr_ln T (tr_lf 0) mk) - tr_on 10 s) 1024
  have l4 := l2 t g1' (by simp [tr_kp, g2, g3])
  have l5 := tr_on_le 10 (tr_ln T (tr_lf 0) mk)
  rcases l3 with l3 | ⟨s, m1, m2, m3⟩
  · omega
  · simp only [tr_kp, Bool.and_eq_true, decide_eq_true_eq] at m2
    have m4 : tr_on 10 s ≤ tr_gj T A B (tr_lf 0) (fun p => p) mk := tr_gj_max (T := T) (tr_lf 0) hks (fun p => p) mk s m2.1 m2.2
    omega
end
section
-- ===== PART A: goes FIRST, ahead of the names: the tables' words, and 'selects' of the private methods out of them =====
/-- a private method of a class that the tables say can be made, by its rows of tables_1 -/
def lw_okq (q : MethodName × Nat) : Prop := (q.1.cls ≠ "java/lang/invoke/MethodHandle" ∧ q.1.cls ≠ "java/lang/invoke/VarHandle") ∧ Cond.instantiable q.1.cls q.2 ∈ tables_1 ∧ Cond.privateMethod q.1 ∈ tables_1 ∧ Cond.instanceMethod q.1 ∈ tables_1
set_option maxRecDepth 100000
theorem lw_p0 : lw_okq (⟨"TreeRanker", "countTrees", "(II)I"⟩, 8) := ⟨⟨by decide +kernel, by decide +kernel⟩, List.mem_of_getElem? (i := 4) rfl, List.mem_of_getElem? (i := 55) rfl, List.mem_of_getElem? (i := 56) rfl⟩
theorem lw_p1 : lw_okq (⟨"TreeRanker", "freshNames", "()V"⟩, 8) := ⟨⟨by decide +kernel, by decide +kernel⟩, List.mem_of_getElem? (i := 4) rfl, List.mem_of_getElem? (i := 59) rfl, List.mem_of_getElem? (i := 60) rfl⟩
theorem lw_p2 : lw_okq (⟨"TreeRanker", "join", "(II)V"⟩, 8) := ⟨⟨by decide +kernel, by decide +kernel⟩, List.mem_of_getElem? (i := 4) rfl, List.mem_of_getElem? (i := 63) rfl, List.mem_of_getElem? (i := 64) rfl⟩
theorem lw_p3 : lw_okq (⟨"TreeRanker", "numberRows", "()I"⟩, 8) := ⟨⟨by decide +kernel, by decide +kernel⟩, List.mem_of_getElem? (i := 4) rfl, List.mem_of_getElem? (i := 67) rfl, List.mem_of_getElem? (i := 68) rfl⟩
theorem lw_p4 : lw_okq (⟨"TreeRanker", "fillMatrix", "(I)V"⟩, 8) := ⟨⟨by decide +kernel, by decide +kernel⟩, List.mem_of_getElem? (i := 4) rfl, List.mem_of_getElem? (i := 71) rfl, List.mem_of_getElem? (i := 72) rfl⟩
theorem lw_p5 : lw_okq (⟨"TreeRanker", "determinant", "(I)J"⟩, 8) := ⟨⟨by decide +kernel, by decide +kernel⟩, List.mem_of_getElem? (i := 4) rfl, List.mem_of_getElem? (i := 75) rfl, List.mem_of_getElem? (i := 76) rfl⟩
theorem lw_p6 : lw_okq (⟨"TreeRanker", "clearColumn", "(IIIJ)V"⟩, 8) := ⟨⟨by decide +kernel, by decide +kernel⟩, List.mem_of_getElem? (i := 4) rfl, List.mem_of_getElem? (i := 79) rfl, List.mem_of_getElem? (i := 80) rfl⟩
theorem lw_p7 : lw_okq (⟨"TreeRankerModel", "badPoint", "(I)Z"⟩, 6) := ⟨⟨by decide +kernel, by decide +kernel⟩, List.mem_of_getElem? (i := 120) rfl, List.mem_of_getElem? (i := 152) rfl, List.mem_of_getElem? (i := 153) rfl⟩
theorem lw_p8 : lw_okq (⟨"TreeRankerModel", "count", "(II)I"⟩, 6) := ⟨⟨by decide +kernel, by decide +kernel⟩, List.mem_of_getElem? (i := 120) rfl, List.mem_of_getElem? (i := 164) rfl, List.mem_of_getElem? (i := 165) rfl⟩
theorem lw_p9 : lw_okq (⟨"TreeRankerModel", "isTree", "(I)Z"⟩, 6) := ⟨⟨by decide +kernel, by decide +kernel⟩, List.mem_of_getElem? (i := 120) rfl, List.mem_of_getElem? (i := 168) rfl, List.mem_of_getElem? (i := 169) rfl⟩
theorem lw_p10 : lw_okq (⟨"TreeRankerModel", "ringless", "(I)Z"⟩, 6) := ⟨⟨by decide +kernel, by decide +kernel⟩, List.mem_of_getElem? (i := 120) rfl, List.mem_of_getElem? (i := 175) rfl, List.mem_of_getElem? (i := 176) rfl⟩
def lw_privs_1 : List (MethodName × Nat) := [(⟨"TreeRanker", "countTrees", "(II)I"⟩, 8), (⟨"TreeRanker", "freshNames", "()V"⟩, 8), (⟨"TreeRanker", "join", "(II)V"⟩, 8), (⟨"TreeRanker", "numberRows", "()I"⟩, 8), (⟨"TreeRanker", "fillMatrix", "(I)V"⟩, 8), (⟨"TreeRanker", "determinant", "(I)J"⟩, 8), (⟨"TreeRanker", "clearColumn", "(IIIJ)V"⟩, 8), (⟨"TreeRankerModel", "badPoint", "(I)Z"⟩, 6), (⟨"TreeRankerModel", "count", "(II)I"⟩, 6), (⟨"TreeRankerModel", "isTree", "(I)Z"⟩, 6), (⟨"TreeRankerModel", "ringless", "(I)Z"⟩, 6)]
theorem lw_r1 : ∀ q ∈ lw_privs_1, lw_okq q := List.forall_mem_cons.mpr ⟨lw_p0, List.forall_mem_cons.mpr ⟨lw_p1, List.forall_mem_cons.mpr ⟨lw_p2, List.forall_mem_cons.mpr ⟨lw_p3, List.forall_mem_cons.mpr ⟨lw_p4, List.forall_mem_cons.mpr ⟨lw_p5, List.forall_mem_cons.mpr ⟨lw_p6, List.forall_mem_cons.mpr ⟨lw_p7, List.forall_mem_cons.mpr ⟨lw_p8, List.forall_mem_cons.mpr ⟨lw_p9, List.forall_mem_cons.mpr ⟨lw_p10, fun _ h => absurd h List.not_mem_nil⟩⟩⟩⟩⟩⟩⟩⟩⟩⟩⟩
def lw_privs : List (MethodName × Nat) := lw_privs_1
def lw_tbl : List Cond := k2_sels lw_privs ++ tables_1
theorem lw_privs_ok : ∀ q ∈ lw_privs, lw_okq q := lw_r1
-- ===== ONE list of words for every method: the tables' words that hold all through a run =====
def lw_all : List Cond := lw_tbl.filter goodWord
/-- a word of the tables by its place: claim/WORDS.tsv -/
theorem lw_w {w : Cond} (i : Nat) (h : lw_tbl[i]? = some w) (g : goodWord w = true) : w ∈ lw_all := List.mem_filter.mpr ⟨List.mem_of_getElem? h, g⟩
theorem lw_all_tbl {w : Cond} (h : w ∈ lw_all) : w ∈ lw_tbl := (List.mem_filter.mp h).1
theorem lw_self : GoodIn lw_all lw_all := fun w h => ⟨h, good_of_word (List.mem_filter.mp h).2⟩
/-- a class's field words, by their places -/
theorem lw_in (ws : List Cond) (ps : List Nat) (hp : ws = ps.filterMap (fun i => lw_tbl[i]?)) (hg : ws.all goodWord = true) : ∀ w ∈ ws, w ∈ lw_all := by
  intro w h
  have h1 := List.all_eq_true.mp hg w h
  rw [hp] at h
  obtain ⟨i, -, hi⟩ := List.mem_filterMap.mp h
  exact lw_w i hi h1
/-- the words of a contract for the method y with code b, L locals, answer r -/
abbrev ws_ (y : MethodName) (b : ByteArray) (L : Nat) (r : Option FieldType) : List Cond := Cond.code y b L r :: lw_all
theorem lw_meth {y : MethodName} {b : ByteArray} {L : Nat} {r : Option FieldType} (h : Cond.code y b L r ∈ lw_all) : GoodIn lw_all (ws_ y b L r) := by
  intro w hw
  rcases List.mem_cons.mp hw with e | e
  · rw [e]
    exact lw_self _ h
  · exact lw_self _ e
theorem lw_app {a c : List Cond} (ha : ∀ w ∈ a, w ∈ lw_all) (hc : GoodIn lw_all c) : GoodIn lw_all (a ++ c) := by
  intro w hw
  rcases List.mem_append.mp hw with e | e
  · exact lw_self w (ha w e)
  · exact hc w e
/-- what a call through an object asks: cwV n hts (lw_V ..) -/
theorem lw_V {own : String} {idx : Nat} {C : String} {y : MethodName} {b : ByteArray} {L : Nat} {r : Option FieldType} (h1 : Cond.methodLink own idx y ∈ lw_all) (h2 : Cond.instanceMethod y ∈ lw_all) (h3 : Cond.selects C y y ∈ lw_all) (h4 : Cond.initialized C ∈ lw_all) (h5 : Cond.code y b L r ∈ lw_all) : GoodIn lw_all (wsV own idx C y (ws_ y b L r)) := by
  refine lw_app ?_ (lw_meth h5)
  intro w hw
  simp only [List.mem_cons, List.not_mem_nil, or_false] at hw
  rcases hw with e | e | e | e
  · rw [e]; exact h1
  · rw [e]; exact h2
  · rw [e]; exact h3
  · rw [e]; exact h4
/-- what a static call asks: va_cwS n hts (lw_S ..) -/
theorem lw_S {own : String} {idx : Nat} {y : MethodName} {b : ByteArray} {L : Nat} {r : Option FieldType} (h1 : Cond.methodLink own idx y ∈ lw_all) (h2 : Cond.static y ∈ lw_all) (h3 : Cond.initialized y.cls ∈ lw_all) (h4 : Cond.code y b L r ∈ lw_all) : GoodIn lw_all (va_wsS own idx y (ws_ y b L r)) := by
  refine lw_app ?_ (lw_meth h4)
  intro w hw
  simp only [List.mem_cons, List.not_mem_nil, or_false] at hw
  rcases hw with e | e | e
  · rw [e]; exact h1
  · rw [e]; exact h2
  · rw [e]; exact h3
/-- the words of a contract for a method WITH HANDLERS (hh: its table) -/
abbrev wsW_ (y : MethodName) (b : ByteArray) (L : Nat) (r : Option FieldType) (hh : List (Nat × Nat × Nat × Nat)) : List Cond := Cond.codeWith y b L r hh :: lw_all
theorem lw_methW {y : MethodName} {b : ByteArray} {L : Nat} {r : Option FieldType} {hh : List (Nat × Nat × Nat × Nat)} (h : Cond.codeWith y b L r hh ∈ lw_all) : GoodIn lw_all (wsW_ y b L r hh) := by
  intro w hw
  rcases List.mem_cons.mp hw with e | e
  · rw [e]
    exact lw_self _ h
  · exact lw_self _ e
/-- any list of words by their places (lw_in), good -/
theorem lw_good {ws : List Cond} (h : ∀ w ∈ ws, w ∈ lw_all) : GoodIn lw_all ws := fun w hw => lw_self w (h w hw)
/-- what a call of a method with handlers asks: vx_cwVW n hts (lw_VW ..), vx_cwSW n hts (lw_SW ..) -/
theorem lw_VW {own : String} {idx : Nat} {C : String} {y : MethodName} {b : ByteArray} {L : Nat} {r : Option FieldType} {hh : List (Nat × Nat × Nat × Nat)} (h1 : Cond.methodLink own idx y ∈ lw_all) (h2 : Cond.instanceMethod y ∈ lw_all) (h3 : Cond.selects C y y ∈ lw_all) (h4 : Cond.initialized C ∈ lw_all) (h5 : Cond.codeWith y b L r hh ∈ lw_all) : GoodIn lw_all (wsV own idx C y (wsW_ y b L r hh)) := by
  refine lw_app ?_ (lw_methW h5)
  intro w hw
  simp only [List.mem_cons, List.not_mem_nil, or_false] at hw
  rcases hw with e | e | e | e
  · rw [e]; exact h1
  · rw [e]; exact h2
  · rw [e]; exact h3
  · rw [e]; exact h4
theorem lw_SW {own : String} {idx : Nat} {y : MethodName} {b : ByteArray} {L : Nat} {r : Option FieldType} {hh : List (Nat × Nat × Nat × Nat)} (h1 : Cond.methodLink own idx y ∈ lw_all) (h2 : Cond.static y ∈ lw_all) (h3 : Cond.initialized y.cls ∈ lw_all) (h4 : Cond.codeWith y b L r hh ∈ lw_all) : GoodIn lw_all (va_wsS own idx y (wsW_ y b L r hh)) := by
  refine lw_app ?_ (lw_methW h4)
  intro w hw
  simp only [List.mem_cons, List.not_mem_nil, or_false] at hw
  rcases hw with e | e | e
  · rw [e]; exact h1
  · rw [e]; exact h2
  · rw [e]; exact h3
/-- a word by its place in its run of the tables -/
theorem lw_at {r : List Cond} (hr : ∀ w ∈ r, w ∈ lw_tbl) {w : Cond} (i : Nat) (h : r[i]? = some w) : w ∈ lw_tbl := hr w (List.mem_of_getElem? h)
theorem lw_g {w : Cond} (h : w ∈ lw_tbl) (g : goodWord w = true) : w ∈ lw_all := List.mem_filter.mpr ⟨h, g⟩
theorem lw_ms : ∀ w ∈ k2_sels lw_privs, w ∈ lw_tbl := fun w h => show w ∈ k2_sels lw_privs ++ tables_1 from List.mem_append_left _ h
theorem lw_m0 : ∀ w ∈ tables_1, w ∈ lw_tbl := fun w h => show w ∈ k2_sels lw_privs ++ tables_1 from List.mem_append_right (k2_sels lw_privs) h
theorem qs0 : (Cond.selects "TreeRanker" ⟨"TreeRanker", "countTrees", "(II)I"⟩ ⟨"TreeRanker", "countTrees", "(II)I"⟩) ∈ lw_all := lw_g (lw_at lw_ms 0 rfl) rfl
theorem qs1 : (Cond.selects "TreeRanker" ⟨"TreeRanker", "freshNames", "()V"⟩ ⟨"TreeRanker", "freshNames", "()V"⟩) ∈ lw_all := lw_g (lw_at lw_ms 1 rfl) rfl
theorem qs2 : (Cond.selects "TreeRanker" ⟨"TreeRanker", "join", "(II)V"⟩ ⟨"TreeRanker", "join", "(II)V"⟩) ∈ lw_all := lw_g (lw_at lw_ms 2 rfl) rfl
theorem qs3 : (Cond.selects "TreeRanker" ⟨"TreeRanker", "numberRows", "()I"⟩ ⟨"TreeRanker", "numberRows", "()I"⟩) ∈ lw_all := lw_g (lw_at lw_ms 3 rfl) rfl
theorem qs4 : (Cond.selects "TreeRanker" ⟨"TreeRanker", "fillMatrix", "(I)V"⟩ ⟨"TreeRanker", "fillMatrix", "(I)V"⟩) ∈ lw_all := lw_g (lw_at lw_ms 4 rfl) rfl
theorem qs5 : (Cond.selects "TreeRanker" ⟨"TreeRanker", "determinant", "(I)J"⟩ ⟨"TreeRanker", "determinant", "(I)J"⟩) ∈ lw_all := lw_g (lw_at lw_ms 5 rfl) rfl
theorem qs6 : (Cond.selects "TreeRanker" ⟨"TreeRanker", "clearColumn", "(IIIJ)V"⟩ ⟨"TreeRanker", "clearColumn", "(IIIJ)V"⟩) ∈ lw_all := lw_g (lw_at lw_ms 6 rfl) rfl
theorem qs7 : (Cond.selects "TreeRankerModel" ⟨"TreeRankerModel", "badPoint", "(I)Z"⟩ ⟨"TreeRankerModel", "badPoint", "(I)Z"⟩) ∈ lw_all := lw_g (lw_at lw_ms 7 rfl) rfl
theorem qs8 : (Cond.selects "TreeRankerModel" ⟨"TreeRankerModel", "count", "(II)I"⟩ ⟨"TreeRankerModel", "count", "(II)I"⟩) ∈ lw_all := lw_g (lw_at lw_ms 8 rfl) rfl
theorem qs9 : (Cond.selects "TreeRankerModel" ⟨"TreeRankerModel", "isTree", "(I)Z"⟩ ⟨"TreeRankerModel", "isTree", "(I)Z"⟩) ∈ lw_all := lw_g (lw_at lw_ms 9 rfl) rfl
theorem qs10 : (Cond.selects "TreeRankerModel" ⟨"TreeRankerModel", "ringless", "(I)Z"⟩ ⟨"TreeRankerModel", "ringless", "(I)Z"⟩) ∈ lw_all := lw_g (lw_at lw_ms 10 rfl) rfl
end
section
/-! TreeRanker -/
set_option maxRecDepth 100000
def RX1 : String := "TreeRanker"
def TX1 : u_T := fun k => match k with
  | 0 => ("TreeRanker", "n", "I", true)
  | 1 => ("TreeRanker", "there", "[Z", true)
  | 2 => ("TreeRanker", "endA", "[I", true)
  | 3 => ("TreeRanker", "endB", "[I", true)
  | 4 => ("TreeRanker", "marked", "I", false)
  | 5 => ("TreeRanker", "nameOf", "[I", true)
  | 6 => ("TreeRanker", "rowOf", "[I", true)
  | _ => ("TreeRanker", "matrix", "[J", true)
def tyX1 : Nat → FieldType := fun k => match k with
  | 0 => .int
  | 1 => .array .boolean
  | 2 => .array .int
  | 3 => .array .int
  | 4 => .int
  | 5 => .array .int
  | 6 => .array .int
  | _ => .array .long
abbrev wsX10 : List Cond := u_ws RX1 TX1 8
theorem nmX1 : ∀ a, a < 8 → ∀ b, b < 8 → a ≠ b → (TX1 a).2.1 ≠ (TX1 b).2.1 := by decide +kernel
theorem tyX1_ok : ∀ k, k < 8 → parseFieldDescriptor (TX1 k).2.2.1 = some (tyX1 k) := by decide +kernel
abbrev cX1_init : ByteArray := prog_1_method_1_code
def yX1_init : MethodName := ⟨RX1, "<init>", "(I)V"⟩
theorem dX1_init_0 : decode cX1_init 0 = .ok (.aload_n 0, 1) := by decide +kernel
theorem dX1_init_1 : decode cX1_init 1 = .ok (.invokespecial 1, 3) := by decide +kernel
theorem dX1_init_4 : decode cX1_init 4 = .ok (.aload_n 0, 1) := by decide +kernel
theorem dX1_init_5 : decode cX1_init 5 = .ok (.iload_n 1, 1) := by decide +kernel
theorem dX1_init_6 : decode cX1_init 6 = .ok (.iconst 1, 1) := by decide +kernel
theorem dX1_init_7 : decode cX1_init 7 = .ok (.if_icmp .ge 7, 3) := by decide +kernel
theorem dX1_init_10 : decode cX1_init 10 = .ok (.iconst 1, 1) := by decide +kernel
theorem dX1_init_11 : decode cX1_init 11 = .ok (.goto 15, 3) := by decide +kernel
theorem dX1_init_14 : decode cX1_init 14 = .ok (.iload_n 1, 1) := by decide +kernel
theorem dX1_init_15 : decode cX1_init 15 = .ok (.bipush 6, 2) := by decide +kernel
theorem dX1_init_17 : decode cX1_init 17 = .ok (.if_icmp .le 8, 3) := by decide +kernel
theorem dX1_init_20 : decode cX1_init 20 = .ok (.bipush 6, 2) := by decide +kernel
theorem dX1_init_22 : decode cX1_init 22 = .ok (.goto 4, 3) := by decide +kernel
theorem dX1_init_25 : decode cX1_init 25 = .ok (.iload_n 1, 1) := by decide +kernel
theorem dX1_init_26 : decode cX1_init 26 = .ok (.putfield 7, 3) := by decide +kernel
theorem dX1_init_29 : decode cX1_init 29 = .ok (.aload_n 0, 1) := by decide +kernel
theorem dX1_init_30 : decode cX1_init 30 = .ok (.bipush 10, 2) := by decide +kernel
theorem dX1_init_32 : decode cX1_init 32 = .ok (.newarray .boolean, 2) := by decide +kernel
theorem dX1_init_34 : decode cX1_init 34 = .ok (.putfield 13, 3) := by decide +kernel
theorem dX1_init_37 : decode cX1_init 37 = .ok (.aload_n 0, 1) := by decide +kernel
theorem dX1_init_38 : decode cX1_init 38 = .ok (.bipush 10, 2) := by decide +kernel
theorem dX1_init_40 : decode cX1_init 40 = .ok (.newarray .int, 2) := by decide +kernel
theorem dX1_init_42 : decode cX1_init 42 = .ok (.putfield 17, 3) := by decide +kernel
theorem dX1_init_45 : decode cX1_init 45 = .ok (.aload_n 0, 1) := by decide +kernel
theorem dX1_init_46 : decode cX1_init 46 = .ok (.bipush 10, 2) := by decide +kernel
theorem dX1_init_48 : decode cX1_init 48 = .ok (.newarray .int, 2) := by decide +kernel
theorem dX1_init_50 : decode cX1_init 50 = .ok (.putfield 21, 3) := by decide +kernel
theorem dX1_init_53 : decode cX1_init 53 = .ok (.aload_n 0, 1) := by decide +kernel
theorem dX1_init_54 : decode cX1_init 54 = .ok (.bipush 6, 2) := by decide +kernel
theorem dX1_init_56 : decode cX1_init 56 = .ok (.newarray .int, 2) := by decide +kernel
theorem dX1_init_58 : decode cX1_init 58 = .ok (.putfield 24, 3) := by decide +kernel
theorem dX1_init_61 : decode cX1_init 61 = .ok (.aload_n 0, 1) := by decide +kernel
theorem dX1_init_62 : decode cX1_init 62 = .ok (.bipush 6, 2) := by decide +kernel
theorem dX1_init_64 : decode cX1_init 64 = .ok (.newarray .int, 2) := by decide +kernel
theorem dX1_init_66 : decode cX1_init 66 = .ok (.putfield 27, 3) := by decide +kernel
theorem dX1_init_69 : decode cX1_init 69 = .ok (.aload_n 0, 1) := by decide +kernel
theorem dX1_init_70 : decode cX1_init 70 = .ok (.bipush 36, 2) := by decide +kernel
theorem dX1_init_72 : decode cX1_init 72 = .ok (.newarray .long, 2) := by decide +kernel
theorem dX1_init_74 : decode cX1_init 74 = .ok (.putfield 30, 3) := by decide +kernel
theorem dX1_init_77 : decode cX1_init 77 = .ok (.return_, 1) := by decide +kernel
abbrev cX1_draw : ByteArray := prog_1_method_2_code
def yX1_draw : MethodName := ⟨RX1, "draw", "(III)I"⟩
theorem dX1_draw_0 : decode cX1_draw 0 = .ok (.iload_n 1, 1) := by decide +kernel
theorem dX1_draw_1 : decode cX1_draw 1 = .ok (.invokestatic 34, 3) := by decide +kernel
theorem dX1_draw_4 : decode cX1_draw 4 = .ok (.ifCond .eq 32, 3) := by decide +kernel
theorem dX1_draw_7 : decode cX1_draw 7 = .ok (.iload_n 2, 1) := by decide +kernel
theorem dX1_draw_8 : decode cX1_draw 8 = .ok (.ifCond .lt 28, 3) := by decide +kernel
theorem dX1_draw_11 : decode cX1_draw 11 = .ok (.iload_n 2, 1) := by decide +kernel
theorem dX1_draw_12 : decode cX1_draw 12 = .ok (.aload_n 0, 1) := by decide +kernel
theorem dX1_draw_13 : decode cX1_draw 13 = .ok (.getfield 7, 3) := by decide +kernel
theorem dX1_draw_16 : decode cX1_draw 16 = .ok (.if_icmp .ge 20, 3) := by decide +kernel
theorem dX1_draw_19 : decode cX1_draw 19 = .ok (.iload_n 3, 1) := by decide +kernel
theorem dX1_draw_20 : decode cX1_draw 20 = .ok (.ifCond .lt 16, 3) := by decide +kernel
theorem dX1_draw_23 : decode cX1_draw 23 = .ok (.iload_n 3, 1) := by decide +kernel
theorem dX1_draw_24 : decode cX1_draw 24 = .ok (.aload_n 0, 1) := by decide +kernel
theorem dX1_draw_25 : decode cX1_draw 25 = .ok (.getfield 7, 3) := by decide +kernel
theorem dX1_draw_28 : decode cX1_draw 28 = .ok (.if_icmp .ge 8, 3) := by decide +kernel
theorem dX1_draw_31 : decode cX1_draw 31 = .ok (.iload_n 2, 1) := by decide +kernel
theorem dX1_draw_32 : decode cX1_draw 32 = .ok (.iload_n 3, 1) := by decide +kernel
theorem dX1_draw_33 : decode cX1_draw 33 = .ok (.if_icmp .ne 5, 3) := by decide +kernel
theorem dX1_draw_36 : decode cX1_draw 36 = .ok (.iconst (-1), 1) := by decide +kernel
theorem dX1_draw_37 : decode cX1_draw 37 = .ok (.ireturn, 1) := by decide +kernel
theorem dX1_draw_38 : decode cX1_draw 38 = .ok (.aload_n 0, 1) := by decide +kernel
theorem dX1_draw_39 : decode cX1_draw 39 = .ok (.getfield 13, 3) := by decide +kernel
theorem dX1_draw_42 : decode cX1_draw 42 = .ok (.iload_n 1, 1) := by decide +kernel
theorem dX1_draw_43 : decode cX1_draw 43 = .ok (.iconst 1, 1) := by decide +kernel
theorem dX1_draw_44 : decode cX1_draw 44 = .ok (.bastore, 1) := by decide +kernel
theorem dX1_draw_45 : decode cX1_draw 45 = .ok (.aload_n 0, 1) := by decide +kernel
theorem dX1_draw_46 : decode cX1_draw 46 = .ok (.getfield 17, 3) := by decide +kernel
theorem dX1_draw_49 : decode cX1_draw 49 = .ok (.iload_n 1, 1) := by decide +kernel
theorem dX1_draw_50 : decode cX1_draw 50 = .ok (.iload_n 2, 1) := by decide +kernel
theorem dX1_draw_51 : decode cX1_draw 51 = .ok (.iastore, 1) := by decide +kernel
theorem dX1_draw_52 : decode cX1_draw 52 = .ok (.aload_n 0, 1) := by decide +kernel
theorem dX1_draw_53 : decode cX1_draw 53 = .ok (.getfield 21, 3) := by decide +kernel
theorem dX1_draw_56 : decode cX1_draw 56 = .ok (.iload_n 1, 1) := by decide +kernel
theorem dX1_draw_57 : decode cX1_draw 57 = .ok (.iload_n 3, 1) := by decide +kernel
theorem dX1_draw_58 : decode cX1_draw 58 = .ok (.iastore, 1) := by decide +kernel
theorem dX1_draw_59 : decode cX1_draw 59 = .ok (.iconst 0, 1) := by decide +kernel
theorem dX1_draw_60 : decode cX1_draw 60 = .ok (.ireturn, 1) := by decide +kernel
abbrev cX1_isLine : ByteArray := prog_1_method_13_code
def yX1_isLine : MethodName := ⟨RX1, "isLine", "(I)Z"⟩
theorem dX1_isLine_0 : decode cX1_isLine 0 = .ok (.iload_n 0, 1) := by decide +kernel
theorem dX1_isLine_1 : decode cX1_isLine 1 = .ok (.ifCond .lt 13, 3) := by decide +kernel
theorem dX1_isLine_4 : decode cX1_isLine 4 = .ok (.iload_n 0, 1) := by decide +kernel
theorem dX1_isLine_5 : decode cX1_isLine 5 = .ok (.bipush 9, 2) := by decide +kernel
theorem dX1_isLine_7 : decode cX1_isLine 7 = .ok (.if_icmp .gt 7, 3) := by decide +kernel
theorem dX1_isLine_10 : decode cX1_isLine 10 = .ok (.iconst 1, 1) := by decide +kernel
theorem dX1_isLine_11 : decode cX1_isLine 11 = .ok (.goto 4, 3) := by decide +kernel
theorem dX1_isLine_14 : decode cX1_isLine 14 = .ok (.iconst 0, 1) := by decide +kernel
theorem dX1_isLine_15 : decode cX1_isLine 15 = .ok (.ireturn, 1) := by decide +kernel
abbrev cX1_cut : ByteArray := prog_1_method_3_code
def yX1_cut : MethodName := ⟨RX1, "cut", "(I)I"⟩
theorem dX1_cut_0 : decode cX1_cut 0 = .ok (.iload_n 1, 1) := by decide +kernel
theorem dX1_cut_1 : decode cX1_cut 1 = .ok (.invokestatic 34, 3) := by decide +kernel
theorem dX1_cut_4 : decode cX1_cut 4 = .ok (.ifCond .ne 5, 3) := by decide +kernel
theorem dX1_cut_7 : decode cX1_cut 7 = .ok (.iconst (-1), 1) := by decide +kernel
theorem dX1_cut_8 : decode cX1_cut 8 = .ok (.ireturn, 1) := by decide +kernel
theorem dX1_cut_9 : decode cX1_cut 9 = .ok (.aload_n 0, 1) := by decide +kernel
theorem dX1_cut_10 : decode cX1_cut 10 = .ok (.getfield 13, 3) := by decide +kernel
theorem dX1_cut_13 : decode cX1_cut 13 = .ok (.iload_n 1, 1) := by decide +kernel
theorem dX1_cut_14 : decode cX1_cut 14 = .ok (.baload, 1) := by decide +kernel
theorem dX1_cut_15 : decode cX1_cut 15 = .ok (.ifCond .eq 7, 3) := by decide +kernel
theorem dX1_cut_18 : decode cX1_cut 18 = .ok (.iconst 1, 1) := by decide +kernel
theorem dX1_cut_19 : decode cX1_cut 19 = .ok (.goto 4, 3) := by decide +kernel
theorem dX1_cut_22 : decode cX1_cut 22 = .ok (.iconst 0, 1) := by decide +kernel
theorem dX1_cut_23 : decode cX1_cut 23 = .ok (.istore_n 2, 1) := by decide +kernel
theorem dX1_cut_24 : decode cX1_cut 24 = .ok (.aload_n 0, 1) := by decide +kernel
theorem dX1_cut_25 : decode cX1_cut 25 = .ok (.getfield 13, 3) := by decide +kernel
theorem dX1_cut_28 : decode cX1_cut 28 = .ok (.iload_n 1, 1) := by decide +kernel
theorem dX1_cut_29 : decode cX1_cut 29 = .ok (.iconst 0, 1) := by decide +kernel
theorem dX1_cut_30 : decode cX1_cut 30 = .ok (.bastore, 1) := by decide +kernel
theorem dX1_cut_31 : decode cX1_cut 31 = .ok (.iload_n 2, 1) := by decide +kernel
theorem dX1_cut_32 : decode cX1_cut 32 = .ok (.ireturn, 1) := by decide +kernel
abbrev cX1_trees : ByteArray := prog_1_method_4_code
def yX1_trees : MethodName := ⟨RX1, "trees", "()I"⟩
theorem dX1_trees_0 : decode cX1_trees 0 = .ok (.aload_n 0, 1) := by decide +kernel
theorem dX1_trees_1 : decode cX1_trees 1 = .ok (.iconst 0, 1) := by decide +kernel
theorem dX1_trees_2 : decode cX1_trees 2 = .ok (.iconst 0, 1) := by decide +kernel
theorem dX1_trees_3 : decode cX1_trees 3 = .ok (.invokevirtual 38, 3) := by decide +kernel
theorem dX1_trees_6 : decode cX1_trees 6 = .ok (.ireturn, 1) := by decide +kernel
abbrev cX1_countTrees : ByteArray := prog_1_method_16_code
def yX1_countTrees : MethodName := ⟨RX1, "countTrees", "(II)I"⟩
theorem dX1_countTrees_0 : decode cX1_countTrees 0 = .ok (.iload_n 1, 1) := by decide +kernel
theorem dX1_countTrees_1 : decode cX1_countTrees 1 = .ok (.iload_n 2, 1) := by decide +kernel
theorem dX1_countTrees_2 : decode cX1_countTrees 2 = .ok (.iand, 1) := by decide +kernel
theorem dX1_countTrees_3 : decode cX1_countTrees 3 = .ok (.ifCond .eq 5, 3) := by decide +kernel
theorem dX1_countTrees_6 : decode cX1_countTrees 6 = .ok (.iconst 0, 1) := by decide +kernel
theorem dX1_countTrees_7 : decode cX1_countTrees 7 = .ok (.ireturn, 1) := by decide +kernel
theorem dX1_countTrees_8 : decode cX1_countTrees 8 = .ok (.aload_n 0, 1) := by decide +kernel
theorem dX1_countTrees_9 : decode cX1_countTrees 9 = .ok (.invokevirtual 52, 3) := by decide +kernel
theorem dX1_countTrees_12 : decode cX1_countTrees 12 = .ok (.iconst 0, 1) := by decide +kernel
theorem dX1_countTrees_13 : decode cX1_countTrees 13 = .ok (.istore_n 3, 1) := by decide +kernel
theorem dX1_countTrees_14 : decode cX1_countTrees 14 = .ok (.iload_n 3, 1) := by decide +kernel
theorem dX1_countTrees_15 : decode cX1_countTrees 15 = .ok (.bipush 10, 2) := by decide +kernel
theorem dX1_countTrees_17 : decode cX1_countTrees 17 = .ok (.if_icmp .ge 69, 3) := by decide +kernel
theorem dX1_countTrees_20 : decode cX1_countTrees 20 = .ok (.iload_n 1, 1) := by decide +kernel
theorem dX1_countTrees_21 : decode cX1_countTrees 21 = .ok (.iload_n 3, 1) := by decide +kernel
theorem dX1_countTrees_22 : decode cX1_countTrees 22 = .ok (.iushr, 1) := by decide +kernel
theorem dX1_countTrees_23 : decode cX1_countTrees 23 = .ok (.iconst 1, 1) := by decide +kernel
theorem dX1_countTrees_24 : decode cX1_countTrees 24 = .ok (.iand, 1) := by decide +kernel
theorem dX1_countTrees_25 : decode cX1_countTrees 25 = .ok (.ifCond .eq 55, 3) := by decide +kernel
theorem dX1_countTrees_28 : decode cX1_countTrees 28 = .ok (.aload_n 0, 1) := by decide +kernel
theorem dX1_countTrees_29 : decode cX1_countTrees 29 = .ok (.getfield 13, 3) := by decide +kernel
theorem dX1_countTrees_32 : decode cX1_countTrees 32 = .ok (.iload_n 3, 1) := by decide +kernel
theorem dX1_countTrees_33 : decode cX1_countTrees 33 = .ok (.baload, 1) := by decide +kernel
theorem dX1_countTrees_34 : decode cX1_countTrees 34 = .ok (.ifCond .eq 28, 3) := by decide +kernel
theorem dX1_countTrees_37 : decode cX1_countTrees 37 = .ok (.aload_n 0, 1) := by decide +kernel
theorem dX1_countTrees_38 : decode cX1_countTrees 38 = .ok (.getfield 24, 3) := by decide +kernel
theorem dX1_countTrees_41 : decode cX1_countTrees 41 = .ok (.aload_n 0, 1) := by decide +kernel
theorem dX1_countTrees_42 : decode cX1_countTrees 42 = .ok (.getfield 17, 3) := by decide +kernel
theorem dX1_countTrees_45 : decode cX1_countTrees 45 = .ok (.iload_n 3, 1) := by decide +kernel
theorem dX1_countTrees_46 : decode cX1_countTrees 46 = .ok (.iaload, 1) := by decide +kernel
theorem dX1_countTrees_47 : decode cX1_countTrees 47 = .ok (.iaload, 1) := by decide +kernel
theorem dX1_countTrees_48 : decode cX1_countTrees 48 = .ok (.aload_n 0, 1) := by decide +kernel
theorem dX1_countTrees_49 : decode cX1_countTrees 49 = .ok (.getfield 24, 3) := by decide +kernel
theorem dX1_countTrees_52 : decode cX1_countTrees 52 = .ok (.aload_n 0, 1) := by decide +kernel
theorem dX1_countTrees_53 : decode cX1_countTrees 53 = .ok (.getfield 21, 3) := by decide +kernel
theorem dX1_countTrees_56 : decode cX1_countTrees 56 = .ok (.iload_n 3, 1) := by decide +kernel
theorem dX1_countTrees_57 : decode cX1_countTrees 57 = .ok (.iaload, 1) := by decide +kernel
theorem dX1_countTrees_58 : decode cX1_countTrees 58 = .ok (.iaload, 1) := by decide +kernel
theorem dX1_countTrees_59 : decode cX1_countTrees 59 = .ok (.if_icmp .ne 5, 3) := by decide +kernel
theorem dX1_countTrees_62 : decode cX1_countTrees 62 = .ok (.iconst 0, 1) := by decide +kernel
theorem dX1_countTrees_63 : decode cX1_countTrees 63 = .ok (.ireturn, 1) := by decide +kernel
theorem dX1_countTrees_64 : decode cX1_countTrees 64 = .ok (.aload_n 0, 1) := by decide +kernel
theorem dX1_countTrees_65 : decode cX1_countTrees 65 = .ok (.aload_n 0, 1) := by decide +kernel
theorem dX1_countTrees_66 : decode cX1_countTrees 66 = .ok (.getfield 17, 3) := by decide +kernel
theorem dX1_countTrees_69 : decode cX1_countTrees 69 = .ok (.iload_n 3, 1) := by decide +kernel
theorem dX1_countTrees_70 : decode cX1_countTrees 70 = .ok (.iaload, 1) := by decide +kernel
theorem dX1_countTrees_71 : decode cX1_countTrees 71 = .ok (.aload_n 0, 1) := by decide +kernel
theorem dX1_countTrees_72 : decode cX1_countTrees 72 = .ok (.getfield 21, 3) := by decide +kernel
theorem dX1_countTrees_75 : decode cX1_countTrees 75 = .ok (.iload_n 3, 1) := by decide +kernel
theorem dX1_countTrees_76 : decode cX1_countTrees 76 = .ok (.iaload, 1) := by decide +kernel
theorem dX1_countTrees_77 : decode cX1_countTrees 77 = .ok (.invokevirtual 55, 3) := by decide +kernel
theorem dX1_countTrees_80 : decode cX1_countTrees 80 = .ok (.iinc 3 1, 3) := by decide +kernel
theorem dX1_countTrees_83 : decode cX1_countTrees 83 = .ok (.goto (-69), 3) := by decide +kernel
theorem dX1_countTrees_86 : decode cX1_countTrees 86 = .ok (.aload_n 0, 1) := by decide +kernel
theorem dX1_countTrees_87 : decode cX1_countTrees 87 = .ok (.invokevirtual 59, 3) := by decide +kernel
theorem dX1_countTrees_90 : decode cX1_countTrees 90 = .ok (.istore_n 3, 1) := by decide +kernel
theorem dX1_countTrees_91 : decode cX1_countTrees 91 = .ok (.aload_n 0, 1) := by decide +kernel
theorem dX1_countTrees_92 : decode cX1_countTrees 92 = .ok (.iload_n 1, 1) := by decide +kernel
theorem dX1_countTrees_93 : decode cX1_countTrees 93 = .ok (.iload_n 2, 1) := by decide +kernel
theorem dX1_countTrees_94 : decode cX1_countTrees 94 = .ok (.ior, 1) := by decide +kernel
theorem dX1_countTrees_95 : decode cX1_countTrees 95 = .ok (.invokevirtual 62, 3) := by decide +kernel
theorem dX1_countTrees_98 : decode cX1_countTrees 98 = .ok (.aload_n 0, 1) := by decide +kernel
theorem dX1_countTrees_99 : decode cX1_countTrees 99 = .ok (.iload_n 3, 1) := by decide +kernel
theorem dX1_countTrees_100 : decode cX1_countTrees 100 = .ok (.iconst 1, 1) := by decide +kernel
theorem dX1_countTrees_101 : decode cX1_countTrees 101 = .ok (.isub, 1) := by decide +kernel
theorem dX1_countTrees_102 : decode cX1_countTrees 102 = .ok (.invokevirtual 66, 3) := by decide +kernel
theorem dX1_countTrees_105 : decode cX1_countTrees 105 = .ok (.l2i, 1) := by decide +kernel
theorem dX1_countTrees_106 : decode cX1_countTrees 106 = .ok (.ireturn, 1) := by decide +kernel
abbrev cX1_freshNames : ByteArray := prog_1_method_14_code
def yX1_freshNames : MethodName := ⟨RX1, "freshNames", "()V"⟩
theorem dX1_freshNames_0 : decode cX1_freshNames 0 = .ok (.iconst 0, 1) := by decide +kernel
theorem dX1_freshNames_1 : decode cX1_freshNames 1 = .ok (.istore_n 1, 1) := by decide +kernel
theorem dX1_freshNames_2 : decode cX1_freshNames 2 = .ok (.iload_n 1, 1) := by decide +kernel
theorem dX1_freshNames_3 : decode cX1_freshNames 3 = .ok (.bipush 6, 2) := by decide +kernel
theorem dX1_freshNames_5 : decode cX1_freshNames 5 = .ok (.if_icmp .ge 16, 3) := by decide +kernel
theorem dX1_freshNames_8 : decode cX1_freshNames 8 = .ok (.aload_n 0, 1) := by decide +kernel
theorem dX1_freshNames_9 : decode cX1_freshNames 9 = .ok (.getfield 24, 3) := by decide +kernel
theorem dX1_freshNames_12 : decode cX1_freshNames 12 = .ok (.iload_n 1, 1) := by decide +kernel
theorem dX1_freshNames_13 : decode cX1_freshNames 13 = .ok (.iload_n 1, 1) := by decide +kernel
theorem dX1_freshNames_14 : decode cX1_freshNames 14 = .ok (.iastore, 1) := by decide +kernel
theorem dX1_freshNames_15 : decode cX1_freshNames 15 = .ok (.iinc 1 1, 3) := by decide +kernel
theorem dX1_freshNames_18 : decode cX1_freshNames 18 = .ok (.goto (-16), 3) := by decide +kernel
theorem dX1_freshNames_21 : decode cX1_freshNames 21 = .ok (.return_, 1) := by decide +kernel
abbrev cX1_join : ByteArray := prog_1_method_15_code
def yX1_join : MethodName := ⟨RX1, "join", "(II)V"⟩
theorem dX1_join_0 : decode cX1_join 0 = .ok (.aload_n 0, 1) := by decide +kernel
theorem dX1_join_1 : decode cX1_join 1 = .ok (.getfield 24, 3) := by decide +kernel
theorem dX1_join_4 : decode cX1_join 4 = .ok (.iload_n 1, 1) := by decide +kernel
theorem dX1_join_5 : decode cX1_join 5 = .ok (.iaload, 1) := by decide +kernel
theorem dX1_join_6 : decode cX1_join 6 = .ok (.istore_n 3, 1) := by decide +kernel
theorem dX1_join_7 : decode cX1_join 7 = .ok (.aload_n 0, 1) := by decide +kernel
theorem dX1_join_8 : decode cX1_join 8 = .ok (.getfield 24, 3) := by decide +kernel
theorem dX1_join_11 : decode cX1_join 11 = .ok (.iload_n 2, 1) := by decide +kernel
theorem dX1_join_12 : decode cX1_join 12 = .ok (.iaload, 1) := by decide +kernel
theorem dX1_join_13 : decode cX1_join 13 = .ok (.istore 4, 2) := by decide +kernel
theorem dX1_join_15 : decode cX1_join 15 = .ok (.iconst 0, 1) := by decide +kernel
theorem dX1_join_16 : decode cX1_join 16 = .ok (.istore 5, 2) := by decide +kernel
theorem dX1_join_18 : decode cX1_join 18 = .ok (.iload 5, 2) := by decide +kernel
theorem dX1_join_20 : decode cX1_join 20 = .ok (.bipush 6, 2) := by decide +kernel
theorem dX1_join_22 : decode cX1_join 22 = .ok (.if_icmp .ge 29, 3) := by decide +kernel
theorem dX1_join_25 : decode cX1_join 25 = .ok (.aload_n 0, 1) := by decide +kernel
theorem dX1_join_26 : decode cX1_join 26 = .ok (.getfield 24, 3) := by decide +kernel
theorem dX1_join_29 : decode cX1_join 29 = .ok (.iload 5, 2) := by decide +kernel
theorem dX1_join_31 : decode cX1_join 31 = .ok (.iaload, 1) := by decide +kernel
theorem dX1_join_32 : decode cX1_join 32 = .ok (.iload 4, 2) := by decide +kernel
theorem dX1_join_34 : decode cX1_join 34 = .ok (.if_icmp .ne 11, 3) := by decide +kernel
theorem dX1_join_37 : decode cX1_join 37 = .ok (.aload_n 0, 1) := by decide +kernel
theorem dX1_join_38 : decode cX1_join 38 = .ok (.getfield 24, 3) := by decide +kernel
theorem dX1_join_41 : decode cX1_join 41 = .ok (.iload 5, 2) := by decide +kernel
theorem dX1_join_43 : decode cX1_join 43 = .ok (.iload_n 3, 1) := by decide +kernel
theorem dX1_join_44 : decode cX1_join 44 = .ok (.iastore, 1) := by decide +kernel
theorem dX1_join_45 : decode cX1_join 45 = .ok (.iinc 5 1, 3) := by decide +kernel
theorem dX1_join_48 : decode cX1_join 48 = .ok (.goto (-30), 3) := by decide +kernel
theorem dX1_join_51 : decode cX1_join 51 = .ok (.return_, 1) := by decide +kernel
abbrev cX1_numberRows : ByteArray := prog_1_method_17_code
def yX1_numberRows : MethodName := ⟨RX1, "numberRows", "()I"⟩
theorem dX1_numberRows_0 : decode cX1_numberRows 0 = .ok (.iconst 0, 1) := by decide +kernel
theorem dX1_numberRows_1 : decode cX1_numberRows 1 = .ok (.istore_n 1, 1) := by decide +kernel
theorem dX1_numberRows_2 : decode cX1_numberRows 2 = .ok (.iconst 0, 1) := by decide +kernel
theorem dX1_numberRows_3 : decode cX1_numberRows 3 = .ok (.istore_n 2, 1) := by decide +kernel
theorem dX1_numberRows_4 : decode cX1_numberRows 4 = .ok (.iload_n 2, 1) := by decide +kernel
theorem dX1_numberRows_5 : decode cX1_numberRows 5 = .ok (.aload_n 0, 1) := by decide +kernel
theorem dX1_numberRows_6 : decode cX1_numberRows 6 = .ok (.getfield 7, 3) := by decide +kernel
theorem dX1_numberRows_9 : decode cX1_numberRows 9 = .ok (.if_icmp .ge 29, 3) := by decide +kernel
theorem dX1_numberRows_12 : decode cX1_numberRows 12 = .ok (.aload_n 0, 1) := by decide +kernel
theorem dX1_numberRows_13 : decode cX1_numberRows 13 = .ok (.getfield 24, 3) := by decide +kernel
theorem dX1_numberRows_16 : decode cX1_numberRows 16 = .ok (.iload_n 2, 1) := by decide +kernel
theorem dX1_numberRows_17 : decode cX1_numberRows 17 = .ok (.iaload, 1) := by decide +kernel
theorem dX1_numberRows_18 : decode cX1_numberRows 18 = .ok (.iload_n 2, 1) := by decide +kernel
theorem dX1_numberRows_19 : decode cX1_numberRows 19 = .ok (.if_icmp .ne 13, 3) := by decide +kernel
theorem dX1_numberRows_22 : decode cX1_numberRows 22 = .ok (.aload_n 0, 1) := by decide +kernel
theorem dX1_numberRows_23 : decode cX1_numberRows 23 = .ok (.getfield 27, 3) := by decide +kernel
theorem dX1_numberRows_26 : decode cX1_numberRows 26 = .ok (.iload_n 2, 1) := by decide +kernel
theorem dX1_numberRows_27 : decode cX1_numberRows 27 = .ok (.iload_n 1, 1) := by decide +kernel
theorem dX1_numberRows_28 : decode cX1_numberRows 28 = .ok (.iastore, 1) := by decide +kernel
theorem dX1_numberRows_29 : decode cX1_numberRows 29 = .ok (.iinc 1 1, 3) := by decide +kernel
theorem dX1_numberRows_32 : decode cX1_numberRows 32 = .ok (.iinc 2 1, 3) := by decide +kernel
theorem dX1_numberRows_35 : decode cX1_numberRows 35 = .ok (.goto (-31), 3) := by decide +kernel
theorem dX1_numberRows_38 : decode cX1_numberRows 38 = .ok (.iload_n 1, 1) := by decide +kernel
theorem dX1_numberRows_39 : decode cX1_numberRows 39 = .ok (.ireturn, 1) := by decide +kernel
abbrev cX1_fillMatrix : ByteArray := prog_1_method_18_code
def yX1_fillMatrix : MethodName := ⟨RX1, "fillMatrix", "(I)V"⟩
theorem dX1_fillMatrix_0 : decode cX1_fillMatrix 0 = .ok (.iconst 0, 1) := by decide +kernel
theorem dX1_fillMatrix_1 : decode cX1_fillMatrix 1 = .ok (.istore_n 2, 1) := by decide +kernel
theorem dX1_fillMatrix_2 : decode cX1_fillMatrix 2 = .ok (.iload_n 2, 1) := by decide +kernel
theorem dX1_fillMatrix_3 : decode cX1_fillMatrix 3 = .ok (.bipush 36, 2) := by decide +kernel
theorem dX1_fillMatrix_5 : decode cX1_fillMatrix 5 = .ok (.if_icmp .ge 16, 3) := by decide +kernel
theorem dX1_fillMatrix_8 : decode cX1_fillMatrix 8 = .ok (.aload_n 0, 1) := by decide +kernel
theorem dX1_fillMatrix_9 : decode cX1_fillMatrix 9 = .ok (.getfield 30, 3) := by decide +kernel
theorem dX1_fillMatrix_12 : decode cX1_fillMatrix 12 = .ok (.iload_n 2, 1) := by decide +kernel
theorem dX1_fillMatrix_13 : decode cX1_fillMatrix 13 = .ok (.lconst 0, 1) := by decide +kernel
theorem dX1_fillMatrix_14 : decode cX1_fillMatrix 14 = .ok (.lastore, 1) := by decide +kernel
theorem dX1_fillMatrix_15 : decode cX1_fillMatrix 15 = .ok (.iinc 2 1, 3) := by decide +kernel
theorem dX1_fillMatrix_18 : decode cX1_fillMatrix 18 = .ok (.goto (-16), 3) := by decide +kernel
theorem dX1_fillMatrix_21 : decode cX1_fillMatrix 21 = .ok (.iconst 0, 1) := by decide +kernel
theorem dX1_fillMatrix_22 : decode cX1_fillMatrix 22 = .ok (.istore_n 2, 1) := by decide +kernel
theorem dX1_fillMatrix_23 : decode cX1_fillMatrix 23 = .ok (.iload_n 2, 1) := by decide +kernel
theorem dX1_fillMatrix_24 : decode cX1_fillMatrix 24 = .ok (.bipush 10, 2) := by decide +kernel
theorem dX1_fillMatrix_26 : decode cX1_fillMatrix 26 = .ok (.if_icmp .ge 131, 3) := by decide +kernel
theorem dX1_fillMatrix_29 : decode cX1_fillMatrix 29 = .ok (.aload_n 0, 1) := by decide +kernel
theorem dX1_fillMatrix_30 : decode cX1_fillMatrix 30 = .ok (.getfield 13, 3) := by decide +kernel
theorem dX1_fillMatrix_33 : decode cX1_fillMatrix 33 = .ok (.iload_n 2, 1) := by decide +kernel
theorem dX1_fillMatrix_34 : decode cX1_fillMatrix 34 = .ok (.baload, 1) := by decide +kernel
theorem dX1_fillMatrix_35 : decode cX1_fillMatrix 35 = .ok (.ifCond .eq 116, 3) := by decide +kernel
theorem dX1_fillMatrix_38 : decode cX1_fillMatrix 38 = .ok (.iload_n 1, 1) := by decide +kernel
theorem dX1_fillMatrix_39 : decode cX1_fillMatrix 39 = .ok (.iload_n 2, 1) := by decide +kernel
theorem dX1_fillMatrix_40 : decode cX1_fillMatrix 40 = .ok (.iushr, 1) := by decide +kernel
theorem dX1_fillMatrix_41 : decode cX1_fillMatrix 41 = .ok (.iconst 1, 1) := by decide +kernel
theorem dX1_fillMatrix_42 : decode cX1_fillMatrix 42 = .ok (.iand, 1) := by decide +kernel
theorem dX1_fillMatrix_43 : decode cX1_fillMatrix 43 = .ok (.ifCond .ne 108, 3) := by decide +kernel
theorem dX1_fillMatrix_46 : decode cX1_fillMatrix 46 = .ok (.aload_n 0, 1) := by decide +kernel
theorem dX1_fillMatrix_47 : decode cX1_fillMatrix 47 = .ok (.getfield 27, 3) := by decide +kernel
theorem dX1_fillMatrix_50 : decode cX1_fillMatrix 50 = .ok (.aload_n 0, 1) := by decide +kernel
theorem dX1_fillMatrix_51 : decode cX1_fillMatrix 51 = .ok (.getfield 24, 3) := by decide +kernel
theorem dX1_fillMatrix_54 : decode cX1_fillMatrix 54 = .ok (.aload_n 0, 1) := by decide +kernel
theorem dX1_fillMatrix_55 : decode cX1_fillMatrix 55 = .ok (.getfield 17, 3) := by decide +kernel
theorem dX1_fillMatrix_58 : decode cX1_fillMatrix 58 = .ok (.iload_n 2, 1) := by decide +kernel
theorem dX1_fillMatrix_59 : decode cX1_fillMatrix 59 = .ok (.iaload, 1) := by decide +kernel
theorem dX1_fillMatrix_60 : decode cX1_fillMatrix 60 = .ok (.iaload, 1) := by decide +kernel
theorem dX1_fillMatrix_61 : decode cX1_fillMatrix 61 = .ok (.iaload, 1) := by decide +kernel
theorem dX1_fillMatrix_62 : decode cX1_fillMatrix 62 = .ok (.istore_n 3, 1) := by decide +kernel
theorem dX1_fillMatrix_63 : decode cX1_fillMatrix 63 = .ok (.aload_n 0, 1) := by decide +kernel
theorem dX1_fillMatrix_64 : decode cX1_fillMatrix 64 = .ok (.getfield 27, 3) := by decide +kernel
theorem dX1_fillMatrix_67 : decode cX1_fillMatrix 67 = .ok (.aload_n 0, 1) := by decide +kernel
theorem dX1_fillMatrix_68 : decode cX1_fillMatrix 68 = .ok (.getfield 24, 3) := by decide +kernel
theorem dX1_fillMatrix_71 : decode cX1_fillMatrix 71 = .ok (.aload_n 0, 1) := by decide +kernel
theorem dX1_fillMatrix_72 : decode cX1_fillMatrix 72 = .ok (.getfield 21, 3) := by decide +kernel
theorem dX1_fillMatrix_75 : decode cX1_fillMatrix 75 = .ok (.iload_n 2, 1) := by decide +kernel
theorem dX1_fillMatrix_76 : decode cX1_fillMatrix 76 = .ok (.iaload, 1) := by decide +kernel
theorem dX1_fillMatrix_77 : decode cX1_fillMatrix 77 = .ok (.iaload, 1) := by decide +kernel
theorem dX1_fillMatrix_78 : decode cX1_fillMatrix 78 = .ok (.iaload, 1) := by decide +kernel
theorem dX1_fillMatrix_79 : decode cX1_fillMatrix 79 = .ok (.istore 4, 2) := by decide +kernel
theorem dX1_fillMatrix_81 : decode cX1_fillMatrix 81 = .ok (.iload_n 3, 1) := by decide +kernel
theorem dX1_fillMatrix_82 : decode cX1_fillMatrix 82 = .ok (.iload 4, 2) := by decide +kernel
theorem dX1_fillMatrix_84 : decode cX1_fillMatrix 84 = .ok (.if_icmp .eq 67, 3) := by decide +kernel
theorem dX1_fillMatrix_87 : decode cX1_fillMatrix 87 = .ok (.aload_n 0, 1) := by decide +kernel
theorem dX1_fillMatrix_88 : decode cX1_fillMatrix 88 = .ok (.getfield 30, 3) := by decide +kernel
theorem dX1_fillMatrix_91 : decode cX1_fillMatrix 91 = .ok (.bipush 6, 2) := by decide +kernel
theorem dX1_fillMatrix_93 : decode cX1_fillMatrix 93 = .ok (.iload_n 3, 1) := by decide +kernel
theorem dX1_fillMatrix_94 : decode cX1_fillMatrix 94 = .ok (.imul, 1) := by decide +kernel
theorem dX1_fillMatrix_95 : decode cX1_fillMatrix 95 = .ok (.iload_n 3, 1) := by decide +kernel
theorem dX1_fillMatrix_96 : decode cX1_fillMatrix 96 = .ok (.iadd, 1) := by decide +kernel
theorem dX1_fillMatrix_97 : decode cX1_fillMatrix 97 = .ok (.dup2, 1) := by decide +kernel
theorem dX1_fillMatrix_98 : decode cX1_fillMatrix 98 = .ok (.laload, 1) := by decide +kernel
theorem dX1_fillMatrix_99 : decode cX1_fillMatrix 99 = .ok (.lconst 1, 1) := by decide +kernel
theorem dX1_fillMatrix_100 : decode cX1_fillMatrix 100 = .ok (.ladd, 1) := by decide +kernel
theorem dX1_fillMatrix_101 : decode cX1_fillMatrix 101 = .ok (.lastore, 1) := by decide +kernel
theorem dX1_fillMatrix_102 : decode cX1_fillMatrix 102 = .ok (.aload_n 0, 1) := by decide +kernel
theorem dX1_fillMatrix_103 : decode cX1_fillMatrix 103 = .ok (.getfield 30, 3) := by decide +kernel
theorem dX1_fillMatrix_106 : decode cX1_fillMatrix 106 = .ok (.bipush 6, 2) := by decide +kernel
theorem dX1_fillMatrix_108 : decode cX1_fillMatrix 108 = .ok (.iload 4, 2) := by decide +kernel
theorem dX1_fillMatrix_110 : decode cX1_fillMatrix 110 = .ok (.imul, 1) := by decide +kernel
theorem dX1_fillMatrix_111 : decode cX1_fillMatrix 111 = .ok (.iload 4, 2) := by decide +kernel
theorem dX1_fillMatrix_113 : decode cX1_fillMatrix 113 = .ok (.iadd, 1) := by decide +kernel
theorem dX1_fillMatrix_114 : decode cX1_fillMatrix 114 = .ok (.dup2, 1) := by decide +kernel
theorem dX1_fillMatrix_115 : decode cX1_fillMatrix 115 = .ok (.laload, 1) := by decide +kernel
theorem dX1_fillMatrix_116 : decode cX1_fillMatrix 116 = .ok (.lconst 1, 1) := by decide +kernel
theorem dX1_fillMatrix_117 : decode cX1_fillMatrix 117 = .ok (.ladd, 1) := by decide +kernel
theorem dX1_fillMatrix_118 : decode cX1_fillMatrix 118 = .ok (.lastore, 1) := by decide +kernel
theorem dX1_fillMatrix_119 : decode cX1_fillMatrix 119 = .ok (.aload_n 0, 1) := by decide +kernel
theorem dX1_fillMatrix_120 : decode cX1_fillMatrix 120 = .ok (.getfield 30, 3) := by decide +kernel
theorem dX1_fillMatrix_123 : decode cX1_fillMatrix 123 = .ok (.bipush 6, 2) := by decide +kernel
theorem dX1_fillMatrix_125 : decode cX1_fillMatrix 125 = .ok (.iload_n 3, 1) := by decide +kernel
theorem dX1_fillMatrix_126 : decode cX1_fillMatrix 126 = .ok (.imul, 1) := by decide +kernel
theorem dX1_fillMatrix_127 : decode cX1_fillMatrix 127 = .ok (.iload 4, 2) := by decide +kernel
theorem dX1_fillMatrix_129 : decode cX1_fillMatrix 129 = .ok (.iadd, 1) := by decide +kernel
theorem dX1_fillMatrix_130 : decode cX1_fillMatrix 130 = .ok (.dup2, 1) := by decide +kernel
theorem dX1_fillMatrix_131 : decode cX1_fillMatrix 131 = .ok (.laload, 1) := by decide +kernel
theorem dX1_fillMatrix_132 : decode cX1_fillMatrix 132 = .ok (.lconst 1, 1) := by decide +kernel
theorem dX1_fillMatrix_133 : decode cX1_fillMatrix 133 = .ok (.lsub, 1) := by decide +kernel
theorem dX1_fillMatrix_134 : decode cX1_fillMatrix 134 = .ok (.lastore, 1) := by decide +kernel
theorem dX1_fillMatrix_135 : decode cX1_fillMatrix 135 = .ok (.aload_n 0, 1) := by decide +kernel
theorem dX1_fillMatrix_136 : decode cX1_fillMatrix 136 = .ok (.getfield 30, 3) := by decide +kernel
theorem dX1_fillMatrix_139 : decode cX1_fillMatrix 139 = .ok (.bipush 6, 2) := by decide +kernel
theorem dX1_fillMatrix_141 : decode cX1_fillMatrix 141 = .ok (.iload 4, 2) := by decide +kernel
theorem dX1_fillMatrix_143 : decode cX1_fillMatrix 143 = .ok (.imul, 1) := by decide +kernel
theorem dX1_fillMatrix_144 : decode cX1_fillMatrix 144 = .ok (.iload_n 3, 1) := by decide +kernel
theorem dX1_fillMatrix_145 : decode cX1_fillMatrix 145 = .ok (.iadd, 1) := by decide +kernel
theorem dX1_fillMatrix_146 : decode cX1_fillMatrix 146 = .ok (.dup2, 1) := by decide +kernel
theorem dX1_fillMatrix_147 : decode cX1_fillMatrix 147 = .ok (.laload, 1) := by decide +kernel
theorem dX1_fillMatrix_148 : decode cX1_fillMatrix 148 = .ok (.lconst 1, 1) := by decide +kernel
theorem dX1_fillMatrix_149 : decode cX1_fillMatrix 149 = .ok (.lsub, 1) := by decide +kernel
theorem dX1_fillMatrix_150 : decode cX1_fillMatrix 150 = .ok (.lastore, 1) := by decide +kernel
theorem dX1_fillMatrix_151 : decode cX1_fillMatrix 151 = .ok (.iinc 2 1, 3) := by decide +kernel
theorem dX1_fillMatrix_154 : decode cX1_fillMatrix 154 = .ok (.goto (-131), 3) := by decide +kernel
theorem dX1_fillMatrix_157 : decode cX1_fillMatrix 157 = .ok (.return_, 1) := by decide +kernel
abbrev cX1_determinant : ByteArray := prog_1_method_19_code
def yX1_determinant : MethodName := ⟨RX1, "determinant", "(I)J"⟩
theorem dX1_determinant_0 : decode cX1_determinant 0 = .ok (.lconst 1, 1) := by decide +kernel
theorem dX1_determinant_1 : decode cX1_determinant 1 = .ok (.lstore_n 2, 1) := by decide +kernel
theorem dX1_determinant_2 : decode cX1_determinant 2 = .ok (.iconst 0, 1) := by decide +kernel
theorem dX1_determinant_3 : decode cX1_determinant 3 = .ok (.istore 4, 2) := by decide +kernel
theorem dX1_determinant_5 : decode cX1_determinant 5 = .ok (.iload 4, 2) := by decide +kernel
theorem dX1_determinant_7 : decode cX1_determinant 7 = .ok (.iload_n 1, 1) := by decide +kernel
theorem dX1_determinant_8 : decode cX1_determinant 8 = .ok (.if_icmp .ge 61, 3) := by decide +kernel
theorem dX1_determinant_11 : decode cX1_determinant 11 = .ok (.aload_n 0, 1) := by decide +kernel
theorem dX1_determinant_12 : decode cX1_determinant 12 = .ok (.getfield 30, 3) := by decide +kernel
theorem dX1_determinant_15 : decode cX1_determinant 15 = .ok (.bipush 7, 2) := by decide +kernel
theorem dX1_determinant_17 : decode cX1_determinant 17 = .ok (.iload 4, 2) := by decide +kernel
theorem dX1_determinant_19 : decode cX1_determinant 19 = .ok (.imul, 1) := by decide +kernel
theorem dX1_determinant_20 : decode cX1_determinant 20 = .ok (.laload, 1) := by decide +kernel
theorem dX1_determinant_21 : decode cX1_determinant 21 = .ok (.lstore 5, 2) := by decide +kernel
theorem dX1_determinant_23 : decode cX1_determinant 23 = .ok (.lload 5, 2) := by decide +kernel
theorem dX1_determinant_25 : decode cX1_determinant 25 = .ok (.lconst 0, 1) := by decide +kernel
theorem dX1_determinant_26 : decode cX1_determinant 26 = .ok (.lcmp, 1) := by decide +kernel
theorem dX1_determinant_27 : decode cX1_determinant 27 = .ok (.ifCond .ne 5, 3) := by decide +kernel
theorem dX1_determinant_30 : decode cX1_determinant 30 = .ok (.lconst 0, 1) := by decide +kernel
theorem dX1_determinant_31 : decode cX1_determinant 31 = .ok (.lreturn, 1) := by decide +kernel
theorem dX1_determinant_32 : decode cX1_determinant 32 = .ok (.iload 4, 2) := by decide +kernel
theorem dX1_determinant_34 : decode cX1_determinant 34 = .ok (.iconst 1, 1) := by decide +kernel
theorem dX1_determinant_35 : decode cX1_determinant 35 = .ok (.iadd, 1) := by decide +kernel
theorem dX1_determinant_36 : decode cX1_determinant 36 = .ok (.istore 7, 2) := by decide +kernel
theorem dX1_determinant_38 : decode cX1_determinant 38 = .ok (.iload 7, 2) := by decide +kernel
theorem dX1_determinant_40 : decode cX1_determinant 40 = .ok (.iload_n 1, 1) := by decide +kernel
theorem dX1_determinant_41 : decode cX1_determinant 41 = .ok (.if_icmp .ge 19, 3) := by decide +kernel
theorem dX1_determinant_44 : decode cX1_determinant 44 = .ok (.aload_n 0, 1) := by decide +kernel
theorem dX1_determinant_45 : decode cX1_determinant 45 = .ok (.iload 7, 2) := by decide +kernel
theorem dX1_determinant_47 : decode cX1_determinant 47 = .ok (.iload 4, 2) := by decide +kernel
theorem dX1_determinant_49 : decode cX1_determinant 49 = .ok (.iload_n 1, 1) := by decide +kernel
theorem dX1_determinant_50 : decode cX1_determinant 50 = .ok (.lload_n 2, 1) := by decide +kernel
theorem dX1_determinant_51 : decode cX1_determinant 51 = .ok (.invokevirtual 70, 3) := by decide +kernel
theorem dX1_determinant_54 : decode cX1_determinant 54 = .ok (.iinc 7 1, 3) := by decide +kernel
theorem dX1_determinant_57 : decode cX1_determinant 57 = .ok (.goto (-19), 3) := by decide +kernel
theorem dX1_determinant_60 : decode cX1_determinant 60 = .ok (.lload 5, 2) := by decide +kernel
theorem dX1_determinant_62 : decode cX1_determinant 62 = .ok (.lstore_n 2, 1) := by decide +kernel
theorem dX1_determinant_63 : decode cX1_determinant 63 = .ok (.iinc 4 1, 3) := by decide +kernel
theorem dX1_determinant_66 : decode cX1_determinant 66 = .ok (.goto (-61), 3) := by decide +kernel
theorem dX1_determinant_69 : decode cX1_determinant 69 = .ok (.lload_n 2, 1) := by decide +kernel
theorem dX1_determinant_70 : decode cX1_determinant 70 = .ok (.lreturn, 1) := by decide +kernel
abbrev cX1_clearColumn : ByteArray := prog_1_method_20_code
def yX1_clearColumn : MethodName := ⟨RX1, "clearColumn", "(IIIJ)V"⟩
theorem dX1_clearColumn_0 : decode cX1_clearColumn 0 = .ok (.aload_n 0, 1) := by decide +kernel
theorem dX1_clearColumn_1 : decode cX1_clearColumn 1 = .ok (.getfield 30, 3) := by decide +kernel
theorem dX1_clearColumn_4 : decode cX1_clearColumn 4 = .ok (.bipush 6, 2) := by decide +kernel
theorem dX1_clearColumn_6 : decode cX1_clearColumn 6 = .ok (.iload_n 1, 1) := by decide +kernel
theorem dX1_clearColumn_7 : decode cX1_clearColumn 7 = .ok (.imul, 1) := by decide +kernel
theorem dX1_clearColumn_8 : decode cX1_clearColumn 8 = .ok (.iload_n 2, 1) := by decide +kernel
theorem dX1_clearColumn_9 : decode cX1_clearColumn 9 = .ok (.iadd, 1) := by decide +kernel
theorem dX1_clearColumn_10 : decode cX1_clearColumn 10 = .ok (.laload, 1) := by decide +kernel
theorem dX1_clearColumn_11 : decode cX1_clearColumn 11 = .ok (.lstore 6, 2) := by decide +kernel
theorem dX1_clearColumn_13 : decode cX1_clearColumn 13 = .ok (.aload_n 0, 1) := by decide +kernel
theorem dX1_clearColumn_14 : decode cX1_clearColumn 14 = .ok (.getfield 30, 3) := by decide +kernel
theorem dX1_clearColumn_17 : decode cX1_clearColumn 17 = .ok (.bipush 7, 2) := by decide +kernel
theorem dX1_clearColumn_19 : decode cX1_clearColumn 19 = .ok (.iload_n 2, 1) := by decide +kernel
theorem dX1_clearColumn_20 : decode cX1_clearColumn 20 = .ok (.imul, 1) := by decide +kernel
theorem dX1_clearColumn_21 : decode cX1_clearColumn 21 = .ok (.laload, 1) := by decide +kernel
theorem dX1_clearColumn_22 : decode cX1_clearColumn 22 = .ok (.lstore 8, 2) := by decide +kernel
theorem dX1_clearColumn_24 : decode cX1_clearColumn 24 = .ok (.lload 4, 2) := by decide +kernel
theorem dX1_clearColumn_26 : decode cX1_clearColumn 26 = .ok (.lconst 0, 1) := by decide +kernel
theorem dX1_clearColumn_27 : decode cX1_clearColumn 27 = .ok (.lcmp, 1) := by decide +kernel
theorem dX1_clearColumn_28 : decode cX1_clearColumn 28 = .ok (.ifCond .ne 7, 3) := by decide +kernel
theorem dX1_clearColumn_31 : decode cX1_clearColumn 31 = .ok (.lconst 1, 1) := by decide +kernel
theorem dX1_clearColumn_32 : decode cX1_clearColumn 32 = .ok (.goto 5, 3) := by decide +kernel
theorem dX1_clearColumn_35 : decode cX1_clearColumn 35 = .ok (.lload 4, 2) := by decide +kernel
theorem dX1_clearColumn_37 : decode cX1_clearColumn 37 = .ok (.lstore 10, 2) := by decide +kernel
theorem dX1_clearColumn_39 : decode cX1_clearColumn 39 = .ok (.iload_n 2, 1) := by decide +kernel
theorem dX1_clearColumn_40 : decode cX1_clearColumn 40 = .ok (.iconst 1, 1) := by decide +kernel
theorem dX1_clearColumn_41 : decode cX1_clearColumn 41 = .ok (.iadd, 1) := by decide +kernel
theorem dX1_clearColumn_42 : decode cX1_clearColumn 42 = .ok (.istore 12, 2) := by decide +kernel
theorem dX1_clearColumn_44 : decode cX1_clearColumn 44 = .ok (.iload 12, 2) := by decide +kernel
theorem dX1_clearColumn_46 : decode cX1_clearColumn 46 = .ok (.iload_n 3, 1) := by decide +kernel
theorem dX1_clearColumn_47 : decode cX1_clearColumn 47 = .ok (.if_icmp .ge 55, 3) := by decide +kernel
theorem dX1_clearColumn_50 : decode cX1_clearColumn 50 = .ok (.aload_n 0, 1) := by decide +kernel
theorem dX1_clearColumn_51 : decode cX1_clearColumn 51 = .ok (.getfield 30, 3) := by decide +kernel
theorem dX1_clearColumn_54 : decode cX1_clearColumn 54 = .ok (.bipush 6, 2) := by decide +kernel
theorem dX1_clearColumn_56 : decode cX1_clearColumn 56 = .ok (.iload_n 1, 1) := by decide +kernel
theorem dX1_clearColumn_57 : decode cX1_clearColumn 57 = .ok (.imul, 1) := by decide +kernel
theorem dX1_clearColumn_58 : decode cX1_clearColumn 58 = .ok (.iload 12, 2) := by decide +kernel
theorem dX1_clearColumn_60 : decode cX1_clearColumn 60 = .ok (.iadd, 1) := by decide +kernel
theorem dX1_clearColumn_61 : decode cX1_clearColumn 61 = .ok (.aload_n 0, 1) := by decide +kernel
theorem dX1_clearColumn_62 : decode cX1_clearColumn 62 = .ok (.getfield 30, 3) := by decide +kernel
theorem dX1_clearColumn_65 : decode cX1_clearColumn 65 = .ok (.bipush 6, 2) := by decide +kernel
theorem dX1_clearColumn_67 : decode cX1_clearColumn 67 = .ok (.iload_n 1, 1) := by decide +kernel
theorem dX1_clearColumn_68 : decode cX1_clearColumn 68 = .ok (.imul, 1) := by decide +kernel
theorem dX1_clearColumn_69 : decode cX1_clearColumn 69 = .ok (.iload 12, 2) := by decide +kernel
theorem dX1_clearColumn_71 : decode cX1_clearColumn 71 = .ok (.iadd, 1) := by decide +kernel
theorem dX1_clearColumn_72 : decode cX1_clearColumn 72 = .ok (.laload, 1) := by decide +kernel
theorem dX1_clearColumn_73 : decode cX1_clearColumn 73 = .ok (.lload 8, 2) := by decide +kernel
theorem dX1_clearColumn_75 : decode cX1_clearColumn 75 = .ok (.lmul, 1) := by decide +kernel
theorem dX1_clearColumn_76 : decode cX1_clearColumn 76 = .ok (.lload 6, 2) := by decide +kernel
theorem dX1_clearColumn_78 : decode cX1_clearColumn 78 = .ok (.aload_n 0, 1) := by decide +kernel
theorem dX1_clearColumn_79 : decode cX1_clearColumn 79 = .ok (.getfield 30, 3) := by decide +kernel
theorem dX1_clearColumn_82 : decode cX1_clearColumn 82 = .ok (.bipush 6, 2) := by decide +kernel
theorem dX1_clearColumn_84 : decode cX1_clearColumn 84 = .ok (.iload_n 2, 1) := by decide +kernel
theorem dX1_clearColumn_85 : decode cX1_clearColumn 85 = .ok (.imul, 1) := by decide +kernel
theorem dX1_clearColumn_86 : decode cX1_clearColumn 86 = .ok (.iload 12, 2) := by decide +kernel
theorem dX1_clearColumn_88 : decode cX1_clearColumn 88 = .ok (.iadd, 1) := by decide +kernel
theorem dX1_clearColumn_89 : decode cX1_clearColumn 89 = .ok (.laload, 1) := by decide +kernel
theorem dX1_clearColumn_90 : decode cX1_clearColumn 90 = .ok (.lmul, 1) := by decide +kernel
theorem dX1_clearColumn_91 : decode cX1_clearColumn 91 = .ok (.lsub, 1) := by decide +kernel
theorem dX1_clearColumn_92 : decode cX1_clearColumn 92 = .ok (.lload 10, 2) := by decide +kernel
theorem dX1_clearColumn_94 : decode cX1_clearColumn 94 = .ok (.ldiv, 1) := by decide +kernel
theorem dX1_clearColumn_95 : decode cX1_clearColumn 95 = .ok (.lastore, 1) := by decide +kernel
theorem dX1_clearColumn_96 : decode cX1_clearColumn 96 = .ok (.iinc 12 1, 3) := by decide +kernel
theorem dX1_clearColumn_99 : decode cX1_clearColumn 99 = .ok (.goto (-55), 3) := by decide +kernel
theorem dX1_clearColumn_102 : decode cX1_clearColumn 102 = .ok (.return_, 1) := by decide +kernel
abbrev cX1_treesWith : ByteArray := prog_1_method_5_code
def yX1_treesWith : MethodName := ⟨RX1, "treesWith", "(I)I"⟩
theorem dX1_treesWith_0 : decode cX1_treesWith 0 = .ok (.iload_n 1, 1) := by decide +kernel
theorem dX1_treesWith_1 : decode cX1_treesWith 1 = .ok (.invokestatic 34, 3) := by decide +kernel
theorem dX1_treesWith_4 : decode cX1_treesWith 4 = .ok (.ifCond .eq 14, 3) := by decide +kernel
theorem dX1_treesWith_7 : decode cX1_treesWith 7 = .ok (.aload_n 0, 1) := by decide +kernel
theorem dX1_treesWith_8 : decode cX1_treesWith 8 = .ok (.iconst 1, 1) := by decide +kernel
theorem dX1_treesWith_9 : decode cX1_treesWith 9 = .ok (.iload_n 1, 1) := by decide +kernel
theorem dX1_treesWith_10 : decode cX1_treesWith 10 = .ok (.ishl, 1) := by decide +kernel
theorem dX1_treesWith_11 : decode cX1_treesWith 11 = .ok (.iconst 0, 1) := by decide +kernel
theorem dX1_treesWith_12 : decode cX1_treesWith 12 = .ok (.invokevirtual 38, 3) := by decide +kernel
theorem dX1_treesWith_15 : decode cX1_treesWith 15 = .ok (.goto 4, 3) := by decide +kernel
theorem dX1_treesWith_18 : decode cX1_treesWith 18 = .ok (.iconst (-1), 1) := by decide +kernel
theorem dX1_treesWith_19 : decode cX1_treesWith 19 = .ok (.ireturn, 1) := by decide +kernel
abbrev cX1_treesWithBoth : ByteArray := prog_1_method_6_code
def yX1_treesWithBoth : MethodName := ⟨RX1, "treesWithBoth", "(II)I"⟩
theorem dX1_treesWithBoth_0 : decode cX1_treesWithBoth 0 = .ok (.iload_n 1, 1) := by decide +kernel
theorem dX1_treesWithBoth_1 : decode cX1_treesWithBoth 1 = .ok (.invokestatic 34, 3) := by decide +kernel
theorem dX1_treesWithBoth_4 : decode cX1_treesWithBoth 4 = .ok (.ifCond .eq 25, 3) := by decide +kernel
theorem dX1_treesWithBoth_7 : decode cX1_treesWithBoth 7 = .ok (.iload_n 2, 1) := by decide +kernel
theorem dX1_treesWithBoth_8 : decode cX1_treesWithBoth 8 = .ok (.invokestatic 34, 3) := by decide +kernel
theorem dX1_treesWithBoth_11 : decode cX1_treesWithBoth 11 = .ok (.ifCond .eq 18, 3) := by decide +kernel
theorem dX1_treesWithBoth_14 : decode cX1_treesWithBoth 14 = .ok (.aload_n 0, 1) := by decide +kernel
theorem dX1_treesWithBoth_15 : decode cX1_treesWithBoth 15 = .ok (.iconst 1, 1) := by decide +kernel
theorem dX1_treesWithBoth_16 : decode cX1_treesWithBoth 16 = .ok (.iload_n 1, 1) := by decide +kernel
theorem dX1_treesWithBoth_17 : decode cX1_treesWithBoth 17 = .ok (.ishl, 1) := by decide +kernel
theorem dX1_treesWithBoth_18 : decode cX1_treesWithBoth 18 = .ok (.iconst 1, 1) := by decide +kernel
theorem dX1_treesWithBoth_19 : decode cX1_treesWithBoth 19 = .ok (.iload_n 2, 1) := by decide +kernel
theorem dX1_treesWithBoth_20 : decode cX1_treesWithBoth 20 = .ok (.ishl, 1) := by decide +kernel
theorem dX1_treesWithBoth_21 : decode cX1_treesWithBoth 21 = .ok (.ior, 1) := by decide +kernel
theorem dX1_treesWithBoth_22 : decode cX1_treesWithBoth 22 = .ok (.iconst 0, 1) := by decide +kernel
theorem dX1_treesWithBoth_23 : decode cX1_treesWithBoth 23 = .ok (.invokevirtual 38, 3) := by decide +kernel
theorem dX1_treesWithBoth_26 : decode cX1_treesWithBoth 26 = .ok (.goto 4, 3) := by decide +kernel
theorem dX1_treesWithBoth_29 : decode cX1_treesWithBoth 29 = .ok (.iconst (-1), 1) := by decide +kernel
theorem dX1_treesWithBoth_30 : decode cX1_treesWithBoth 30 = .ok (.ireturn, 1) := by decide +kernel
abbrev cX1_tree : ByteArray := prog_1_method_7_code
def yX1_tree : MethodName := ⟨RX1, "tree", "(I)I"⟩
theorem dX1_tree_0 : decode cX1_tree 0 = .ok (.iload_n 1, 1) := by decide +kernel
theorem dX1_tree_1 : decode cX1_tree 1 = .ok (.ifCond .lt 11, 3) := by decide +kernel
theorem dX1_tree_4 : decode cX1_tree 4 = .ok (.iload_n 1, 1) := by decide +kernel
theorem dX1_tree_5 : decode cX1_tree 5 = .ok (.aload_n 0, 1) := by decide +kernel
theorem dX1_tree_6 : decode cX1_tree 6 = .ok (.invokevirtual 42, 3) := by decide +kernel
theorem dX1_tree_9 : decode cX1_tree 9 = .ok (.if_icmp .lt 5, 3) := by decide +kernel
theorem dX1_tree_12 : decode cX1_tree 12 = .ok (.iconst (-1), 1) := by decide +kernel
theorem dX1_tree_13 : decode cX1_tree 13 = .ok (.ireturn, 1) := by decide +kernel
theorem dX1_tree_14 : decode cX1_tree 14 = .ok (.iload_n 1, 1) := by decide +kernel
theorem dX1_tree_15 : decode cX1_tree 15 = .ok (.istore_n 2, 1) := by decide +kernel
theorem dX1_tree_16 : decode cX1_tree 16 = .ok (.iconst 0, 1) := by decide +kernel
theorem dX1_tree_17 : decode cX1_tree 17 = .ok (.istore_n 3, 1) := by decide +kernel
theorem dX1_tree_18 : decode cX1_tree 18 = .ok (.iconst 0, 1) := by decide +kernel
theorem dX1_tree_19 : decode cX1_tree 19 = .ok (.istore 4, 2) := by decide +kernel
theorem dX1_tree_21 : decode cX1_tree 21 = .ok (.bipush 9, 2) := by decide +kernel
theorem dX1_tree_23 : decode cX1_tree 23 = .ok (.istore 5, 2) := by decide +kernel
theorem dX1_tree_25 : decode cX1_tree 25 = .ok (.iload 5, 2) := by decide +kernel
theorem dX1_tree_27 : decode cX1_tree 27 = .ok (.ifCond .lt 63, 3) := by decide +kernel
theorem dX1_tree_30 : decode cX1_tree 30 = .ok (.aload_n 0, 1) := by decide +kernel
theorem dX1_tree_31 : decode cX1_tree 31 = .ok (.getfield 13, 3) := by decide +kernel
theorem dX1_tree_34 : decode cX1_tree 34 = .ok (.iload 5, 2) := by decide +kernel
theorem dX1_tree_36 : decode cX1_tree 36 = .ok (.baload, 1) := by decide +kernel
theorem dX1_tree_37 : decode cX1_tree 37 = .ok (.ifCond .eq 47, 3) := by decide +kernel
theorem dX1_tree_40 : decode cX1_tree 40 = .ok (.aload_n 0, 1) := by decide +kernel
theorem dX1_tree_41 : decode cX1_tree 41 = .ok (.iload_n 3, 1) := by decide +kernel
theorem dX1_tree_42 : decode cX1_tree 42 = .ok (.iload 4, 2) := by decide +kernel
theorem dX1_tree_44 : decode cX1_tree 44 = .ok (.iconst 1, 1) := by decide +kernel
theorem dX1_tree_45 : decode cX1_tree 45 = .ok (.iload 5, 2) := by decide +kernel
theorem dX1_tree_47 : decode cX1_tree 47 = .ok (.ishl, 1) := by decide +kernel
theorem dX1_tree_48 : decode cX1_tree 48 = .ok (.ior, 1) := by decide +kernel
theorem dX1_tree_49 : decode cX1_tree 49 = .ok (.invokevirtual 38, 3) := by decide +kernel
theorem dX1_tree_52 : decode cX1_tree 52 = .ok (.istore 6, 2) := by decide +kernel
theorem dX1_tree_54 : decode cX1_tree 54 = .ok (.iload_n 2, 1) := by decide +kernel
theorem dX1_tree_55 : decode cX1_tree 55 = .ok (.iload 6, 2) := by decide +kernel
theorem dX1_tree_57 : decode cX1_tree 57 = .ok (.if_icmp .ge 15, 3) := by decide +kernel
theorem dX1_tree_60 : decode cX1_tree 60 = .ok (.iload 4, 2) := by decide +kernel
theorem dX1_tree_62 : decode cX1_tree 62 = .ok (.iconst 1, 1) := by decide +kernel
theorem dX1_tree_63 : decode cX1_tree 63 = .ok (.iload 5, 2) := by decide +kernel
theorem dX1_tree_65 : decode cX1_tree 65 = .ok (.ishl, 1) := by decide +kernel
theorem dX1_tree_66 : decode cX1_tree 66 = .ok (.ior, 1) := by decide +kernel
theorem dX1_tree_67 : decode cX1_tree 67 = .ok (.istore 4, 2) := by decide +kernel
theorem dX1_tree_69 : decode cX1_tree 69 = .ok (.goto 15, 3) := by decide +kernel
theorem dX1_tree_72 : decode cX1_tree 72 = .ok (.iload_n 2, 1) := by decide +kernel
theorem dX1_tree_73 : decode cX1_tree 73 = .ok (.iload 6, 2) := by decide +kernel
theorem dX1_tree_75 : decode cX1_tree 75 = .ok (.isub, 1) := by decide +kernel
theorem dX1_tree_76 : decode cX1_tree 76 = .ok (.istore_n 2, 1) := by decide +kernel
theorem dX1_tree_77 : decode cX1_tree 77 = .ok (.iload_n 3, 1) := by decide +kernel
theorem dX1_tree_78 : decode cX1_tree 78 = .ok (.iconst 1, 1) := by decide +kernel
theorem dX1_tree_79 : decode cX1_tree 79 = .ok (.iload 5, 2) := by decide +kernel
theorem dX1_tree_81 : decode cX1_tree 81 = .ok (.ishl, 1) := by decide +kernel
theorem dX1_tree_82 : decode cX1_tree 82 = .ok (.ior, 1) := by decide +kernel
theorem dX1_tree_83 : decode cX1_tree 83 = .ok (.istore_n 3, 1) := by decide +kernel
theorem dX1_tree_84 : decode cX1_tree 84 = .ok (.iinc 5 (-1), 3) := by decide +kernel
theorem dX1_tree_87 : decode cX1_tree 87 = .ok (.goto (-62), 3) := by decide +kernel
theorem dX1_tree_90 : decode cX1_tree 90 = .ok (.iload_n 3, 1) := by decide +kernel
theorem dX1_tree_91 : decode cX1_tree 91 = .ok (.ireturn, 1) := by decide +kernel
abbrev cX1_mark : ByteArray := prog_1_method_8_code
def yX1_mark : MethodName := ⟨RX1, "mark", "(I)I"⟩
theorem dX1_mark_0 : decode cX1_mark 0 = .ok (.iload_n 1, 1) := by decide +kernel
theorem dX1_mark_1 : decode cX1_mark 1 = .ok (.invokestatic 34, 3) := by decide +kernel
theorem dX1_mark_4 : decode cX1_mark 4 = .ok (.ifCond .ne 5, 3) := by decide +kernel
theorem dX1_mark_7 : decode cX1_mark 7 = .ok (.iconst (-1), 1) := by decide +kernel
theorem dX1_mark_8 : decode cX1_mark 8 = .ok (.ireturn, 1) := by decide +kernel
theorem dX1_mark_9 : decode cX1_mark 9 = .ok (.aload_n 0, 1) := by decide +kernel
theorem dX1_mark_10 : decode cX1_mark 10 = .ok (.dup, 1) := by decide +kernel
theorem dX1_mark_11 : decode cX1_mark 11 = .ok (.getfield 46, 3) := by decide +kernel
theorem dX1_mark_14 : decode cX1_mark 14 = .ok (.iconst 1, 1) := by decide +kernel
theorem dX1_mark_15 : decode cX1_mark 15 = .ok (.iload_n 1, 1) := by decide +kernel
theorem dX1_mark_16 : decode cX1_mark 16 = .ok (.ishl, 1) := by decide +kernel
theorem dX1_mark_17 : decode cX1_mark 17 = .ok (.ixor, 1) := by decide +kernel
theorem dX1_mark_18 : decode cX1_mark 18 = .ok (.putfield 46, 3) := by decide +kernel
theorem dX1_mark_21 : decode cX1_mark 21 = .ok (.aload_n 0, 1) := by decide +kernel
theorem dX1_mark_22 : decode cX1_mark 22 = .ok (.getfield 46, 3) := by decide +kernel
theorem dX1_mark_25 : decode cX1_mark 25 = .ok (.iload_n 1, 1) := by decide +kernel
theorem dX1_mark_26 : decode cX1_mark 26 = .ok (.iushr, 1) := by decide +kernel
theorem dX1_mark_27 : decode cX1_mark 27 = .ok (.iconst 1, 1) := by decide +kernel
theorem dX1_mark_28 : decode cX1_mark 28 = .ok (.iand, 1) := by decide +kernel
theorem dX1_mark_29 : decode cX1_mark 29 = .ok (.ireturn, 1) := by decide +kernel
abbrev cX1_rank : ByteArray := prog_1_method_9_code
def yX1_rank : MethodName := ⟨RX1, "rank", "()I"⟩
theorem dX1_rank_0 : decode cX1_rank 0 = .ok (.iconst 0, 1) := by decide +kernel
theorem dX1_rank_1 : decode cX1_rank 1 = .ok (.istore_n 1, 1) := by decide +kernel
theorem dX1_rank_2 : decode cX1_rank 2 = .ok (.iconst 0, 1) := by decide +kernel
theorem dX1_rank_3 : decode cX1_rank 3 = .ok (.istore_n 2, 1) := by decide +kernel
theorem dX1_rank_4 : decode cX1_rank 4 = .ok (.iload_n 2, 1) := by decide +kernel
theorem dX1_rank_5 : decode cX1_rank 5 = .ok (.bipush 10, 2) := by decide +kernel
theorem dX1_rank_7 : decode cX1_rank 7 = .ok (.if_icmp .ge 20, 3) := by decide +kernel
theorem dX1_rank_10 : decode cX1_rank 10 = .ok (.iload_n 1, 1) := by decide +kernel
theorem dX1_rank_11 : decode cX1_rank 11 = .ok (.aload_n 0, 1) := by decide +kernel
theorem dX1_rank_12 : decode cX1_rank 12 = .ok (.getfield 46, 3) := by decide +kernel
theorem dX1_rank_15 : decode cX1_rank 15 = .ok (.iload_n 2, 1) := by decide +kernel
theorem dX1_rank_16 : decode cX1_rank 16 = .ok (.iushr, 1) := by decide +kernel
theorem dX1_rank_17 : decode cX1_rank 17 = .ok (.iconst 1, 1) := by decide +kernel
theorem dX1_rank_18 : decode cX1_rank 18 = .ok (.iand, 1) := by decide +kernel
theorem dX1_rank_19 : decode cX1_rank 19 = .ok (.iadd, 1) := by decide +kernel
theorem dX1_rank_20 : decode cX1_rank 20 = .ok (.istore_n 1, 1) := by decide +kernel
theorem dX1_rank_21 : decode cX1_rank 21 = .ok (.iinc 2 1, 3) := by decide +kernel
theorem dX1_rank_24 : decode cX1_rank 24 = .ok (.goto (-20), 3) := by decide +kernel
theorem dX1_rank_27 : decode cX1_rank 27 = .ok (.iload_n 1, 1) := by decide +kernel
theorem dX1_rank_28 : decode cX1_rank 28 = .ok (.aload_n 0, 1) := by decide +kernel
theorem dX1_rank_29 : decode cX1_rank 29 = .ok (.getfield 7, 3) := by decide +kernel
theorem dX1_rank_32 : decode cX1_rank 32 = .ok (.iconst 1, 1) := by decide +kernel
theorem dX1_rank_33 : decode cX1_rank 33 = .ok (.isub, 1) := by decide +kernel
theorem dX1_rank_34 : decode cX1_rank 34 = .ok (.if_icmp .ne 15, 3) := by decide +kernel
theorem dX1_rank_37 : decode cX1_rank 37 = .ok (.aload_n 0, 1) := by decide +kernel
theorem dX1_rank_38 : decode cX1_rank 38 = .ok (.aload_n 0, 1) := by decide +kernel
theorem dX1_rank_39 : decode cX1_rank 39 = .ok (.getfield 46, 3) := by decide +kernel
theorem dX1_rank_42 : decode cX1_rank 42 = .ok (.iconst 0, 1) := by decide +kernel
theorem dX1_rank_43 : decode cX1_rank 43 = .ok (.invokevirtual 38, 3) := by decide +kernel
theorem dX1_rank_46 : decode cX1_rank 46 = .ok (.ifCond .ne 5, 3) := by decide +kernel
theorem dX1_rank_49 : decode cX1_rank 49 = .ok (.iconst (-1), 1) := by decide +kernel
theorem dX1_rank_50 : decode cX1_rank 50 = .ok (.ireturn, 1) := by decide +kernel
theorem dX1_rank_51 : decode cX1_rank 51 = .ok (.aload_n 0, 1) := by decide +kernel
theorem dX1_rank_52 : decode cX1_rank 52 = .ok (.invokevirtual 49, 3) := by decide +kernel
theorem dX1_rank_55 : decode cX1_rank 55 = .ok (.ireturn, 1) := by decide +kernel
abbrev cX1_below : ByteArray := prog_1_method_10_code
def yX1_below : MethodName := ⟨RX1, "below", "()I"⟩
theorem dX1_below_0 : decode cX1_below 0 = .ok (.iconst 0, 1) := by decide +kernel
theorem dX1_below_1 : decode cX1_below 1 = .ok (.istore_n 1, 1) := by decide +kernel
theorem dX1_below_2 : decode cX1_below 2 = .ok (.iconst 0, 1) := by decide +kernel
theorem dX1_below_3 : decode cX1_below 3 = .ok (.istore_n 2, 1) := by decide +kernel
theorem dX1_below_4 : decode cX1_below 4 = .ok (.iconst 0, 1) := by decide +kernel
theorem dX1_below_5 : decode cX1_below 5 = .ok (.istore_n 3, 1) := by decide +kernel
theorem dX1_below_6 : decode cX1_below 6 = .ok (.bipush 9, 2) := by decide +kernel
theorem dX1_below_8 : decode cX1_below 8 = .ok (.istore 4, 2) := by decide +kernel
theorem dX1_below_10 : decode cX1_below 10 = .ok (.iload 4, 2) := by decide +kernel
theorem dX1_below_12 : decode cX1_below 12 = .ok (.ifCond .lt 52, 3) := by decide +kernel
theorem dX1_below_15 : decode cX1_below 15 = .ok (.aload_n 0, 1) := by decide +kernel
theorem dX1_below_16 : decode cX1_below 16 = .ok (.getfield 46, 3) := by decide +kernel
theorem dX1_below_19 : decode cX1_below 19 = .ok (.iload 4, 2) := by decide +kernel
theorem dX1_below_21 : decode cX1_below 21 = .ok (.iushr, 1) := by decide +kernel
theorem dX1_below_22 : decode cX1_below 22 = .ok (.iconst 1, 1) := by decide +kernel
theorem dX1_below_23 : decode cX1_below 23 = .ok (.iand, 1) := by decide +kernel
theorem dX1_below_24 : decode cX1_below 24 = .ok (.ifCond .eq 27, 3) := by decide +kernel
theorem dX1_below_27 : decode cX1_below 27 = .ok (.iload_n 1, 1) := by decide +kernel
theorem dX1_below_28 : decode cX1_below 28 = .ok (.aload_n 0, 1) := by decide +kernel
theorem dX1_below_29 : decode cX1_below 29 = .ok (.iload_n 2, 1) := by decide +kernel
theorem dX1_below_30 : decode cX1_below 30 = .ok (.iload_n 3, 1) := by decide +kernel
theorem dX1_below_31 : decode cX1_below 31 = .ok (.iconst 1, 1) := by decide +kernel
theorem dX1_below_32 : decode cX1_below 32 = .ok (.iload 4, 2) := by decide +kernel
theorem dX1_below_34 : decode cX1_below 34 = .ok (.ishl, 1) := by decide +kernel
theorem dX1_below_35 : decode cX1_below 35 = .ok (.ior, 1) := by decide +kernel
theorem dX1_below_36 : decode cX1_below 36 = .ok (.invokevirtual 38, 3) := by decide +kernel
theorem dX1_below_39 : decode cX1_below 39 = .ok (.iadd, 1) := by decide +kernel
theorem dX1_below_40 : decode cX1_below 40 = .ok (.istore_n 1, 1) := by decide +kernel
theorem dX1_below_41 : decode cX1_below 41 = .ok (.iload_n 2, 1) := by decide +kernel
theorem dX1_below_42 : decode cX1_below 42 = .ok (.iconst 1, 1) := by decide +kernel
theorem dX1_below_43 : decode cX1_below 43 = .ok (.iload 4, 2) := by decide +kernel
theorem dX1_below_45 : decode cX1_below 45 = .ok (.ishl, 1) := by decide +kernel
theorem dX1_below_46 : decode cX1_below 46 = .ok (.ior, 1) := by decide +kernel
theorem dX1_below_47 : decode cX1_below 47 = .ok (.istore_n 2, 1) := by decide +kernel
theorem dX1_below_48 : decode cX1_below 48 = .ok (.goto 10, 3) := by decide +kernel
theorem dX1_below_51 : decode cX1_below 51 = .ok (.iload_n 3, 1) := by decide +kernel
theorem dX1_below_52 : decode cX1_below 52 = .ok (.iconst 1, 1) := by decide +kernel
theorem dX1_below_53 : decode cX1_below 53 = .ok (.iload 4, 2) := by decide +kernel
theorem dX1_below_55 : decode cX1_below 55 = .ok (.ishl, 1) := by decide +kernel
theorem dX1_below_56 : decode cX1_below 56 = .ok (.ior, 1) := by decide +kernel
theorem dX1_below_57 : decode cX1_below 57 = .ok (.istore_n 3, 1) := by decide +kernel
theorem dX1_below_58 : decode cX1_below 58 = .ok (.iinc 4 (-1), 3) := by decide +kernel
theorem dX1_below_61 : decode cX1_below 61 = .ok (.goto (-51), 3) := by decide +kernel
theorem dX1_below_64 : decode cX1_below 64 = .ok (.iload_n 1, 1) := by decide +kernel
theorem dX1_below_65 : decode cX1_below 65 = .ok (.ireturn, 1) := by decide +kernel
abbrev cX1_extensions : ByteArray := prog_1_method_11_code
def yX1_extensions : MethodName := ⟨RX1, "extensions", "()I"⟩
theorem dX1_extensions_0 : decode cX1_extensions 0 = .ok (.aload_n 0, 1) := by decide +kernel
theorem dX1_extensions_1 : decode cX1_extensions 1 = .ok (.aload_n 0, 1) := by decide +kernel
theorem dX1_extensions_2 : decode cX1_extensions 2 = .ok (.getfield 46, 3) := by decide +kernel
theorem dX1_extensions_5 : decode cX1_extensions 5 = .ok (.iconst 0, 1) := by decide +kernel
theorem dX1_extensions_6 : decode cX1_extensions 6 = .ok (.invokevirtual 38, 3) := by decide +kernel
theorem dX1_extensions_9 : decode cX1_extensions 9 = .ok (.ireturn, 1) := by decide +kernel
abbrev cX1_surplus : ByteArray := prog_1_method_12_code
def yX1_surplus : MethodName := ⟨RX1, "surplus", "()I"⟩
theorem dX1_surplus_0 : decode cX1_surplus 0 = .ok (.aload_n 0, 1) := by decide +kernel
theorem dX1_surplus_1 : decode cX1_surplus 1 = .ok (.invokevirtual 52, 3) := by decide +kernel
theorem dX1_surplus_4 : decode cX1_surplus 4 = .ok (.iconst 0, 1) := by decide +kernel
theorem dX1_surplus_5 : decode cX1_surplus 5 = .ok (.istore_n 1, 1) := by decide +kernel
theorem dX1_surplus_6 : decode cX1_surplus 6 = .ok (.iconst 0, 1) := by decide +kernel
theorem dX1_surplus_7 : decode cX1_surplus 7 = .ok (.istore_n 2, 1) := by decide +kernel
theorem dX1_surplus_8 : decode cX1_surplus 8 = .ok (.iload_n 2, 1) := by decide +kernel
theorem dX1_surplus_9 : decode cX1_surplus 9 = .ok (.bipush 10, 2) := by decide +kernel
theorem dX1_surplus_11 : decode cX1_surplus 11 = .ok (.if_icmp .ge 76, 3) := by decide +kernel
theorem dX1_surplus_14 : decode cX1_surplus 14 = .ok (.aload_n 0, 1) := by decide +kernel
theorem dX1_surplus_15 : decode cX1_surplus 15 = .ok (.getfield 13, 3) := by decide +kernel
theorem dX1_surplus_18 : decode cX1_surplus 18 = .ok (.iload_n 2, 1) := by decide +kernel
theorem dX1_surplus_19 : decode cX1_surplus 19 = .ok (.baload, 1) := by decide +kernel
theorem dX1_surplus_20 : decode cX1_surplus 20 = .ok (.ifCond .eq 61, 3) := by decide +kernel
theorem dX1_surplus_23 : decode cX1_surplus 23 = .ok (.aload_n 0, 1) := by decide +kernel
theorem dX1_surplus_24 : decode cX1_surplus 24 = .ok (.getfield 46, 3) := by decide +kernel
theorem dX1_surplus_27 : decode cX1_surplus 27 = .ok (.iload_n 2, 1) := by decide +kernel
theorem dX1_surplus_28 : decode cX1_surplus 28 = .ok (.iushr, 1) := by decide +kernel
theorem dX1_surplus_29 : decode cX1_surplus 29 = .ok (.iconst 1, 1) := by decide +kernel
theorem dX1_surplus_30 : decode cX1_surplus 30 = .ok (.iand, 1) := by decide +kernel
theorem dX1_surplus_31 : decode cX1_surplus 31 = .ok (.ifCond .eq 50, 3) := by decide +kernel
theorem dX1_surplus_34 : decode cX1_surplus 34 = .ok (.aload_n 0, 1) := by decide +kernel
theorem dX1_surplus_35 : decode cX1_surplus 35 = .ok (.getfield 24, 3) := by decide +kernel
theorem dX1_surplus_38 : decode cX1_surplus 38 = .ok (.aload_n 0, 1) := by decide +kernel
theorem dX1_surplus_39 : decode cX1_surplus 39 = .ok (.getfield 17, 3) := by decide +kernel
theorem dX1_surplus_42 : decode cX1_surplus 42 = .ok (.iload_n 2, 1) := by decide +kernel
theorem dX1_surplus_43 : decode cX1_surplus 43 = .ok (.iaload, 1) := by decide +kernel
theorem dX1_surplus_44 : decode cX1_surplus 44 = .ok (.iaload, 1) := by decide +kernel
theorem dX1_surplus_45 : decode cX1_surplus 45 = .ok (.aload_n 0, 1) := by decide +kernel
theorem dX1_surplus_46 : decode cX1_surplus 46 = .ok (.getfield 24, 3) := by decide +kernel
theorem dX1_surplus_49 : decode cX1_surplus 49 = .ok (.aload_n 0, 1) := by decide +kernel
theorem dX1_surplus_50 : decode cX1_surplus 50 = .ok (.getfield 21, 3) := by decide +kernel
theorem dX1_surplus_53 : decode cX1_surplus 53 = .ok (.iload_n 2, 1) := by decide +kernel
theorem dX1_surplus_54 : decode cX1_surplus 54 = .ok (.iaload, 1) := by decide +kernel
theorem dX1_surplus_55 : decode cX1_surplus 55 = .ok (.iaload, 1) := by decide +kernel
theorem dX1_surplus_56 : decode cX1_surplus 56 = .ok (.if_icmp .ne 9, 3) := by decide +kernel
theorem dX1_surplus_59 : decode cX1_surplus 59 = .ok (.iinc 1 1, 3) := by decide +kernel
theorem dX1_surplus_62 : decode cX1_surplus 62 = .ok (.goto 19, 3) := by decide +kernel
theorem dX1_surplus_65 : decode cX1_surplus 65 = .ok (.aload_n 0, 1) := by decide +kernel
theorem dX1_surplus_66 : decode cX1_surplus 66 = .ok (.aload_n 0, 1) := by decide +kernel
theorem dX1_surplus_67 : decode cX1_surplus 67 = .ok (.getfield 17, 3) := by decide +kernel
theorem dX1_surplus_70 : decode cX1_surplus 70 = .ok (.iload_n 2, 1) := by decide +kernel
theorem dX1_surplus_71 : decode cX1_surplus 71 = .ok (.iaload, 1) := by decide +kernel
theorem dX1_surplus_72 : decode cX1_surplus 72 = .ok (.aload_n 0, 1) := by decide +kernel
theorem dX1_surplus_73 : decode cX1_surplus 73 = .ok (.getfield 21, 3) := by decide +kernel
theorem dX1_surplus_76 : decode cX1_surplus 76 = .ok (.iload_n 2, 1) := by decide +kernel
theorem dX1_surplus_77 : decode cX1_surplus 77 = .ok (.iaload, 1) := by decide +kernel
theorem dX1_surplus_78 : decode cX1_surplus 78 = .ok (.invokevirtual 55, 3) := by decide +kernel
theorem dX1_surplus_81 : decode cX1_surplus 81 = .ok (.iinc 2 1, 3) := by decide +kernel
theorem dX1_surplus_84 : decode cX1_surplus 84 = .ok (.goto (-76), 3) := by decide +kernel
theorem dX1_surplus_87 : decode cX1_surplus 87 = .ok (.iload_n 1, 1) := by decide +kernel
theorem dX1_surplus_88 : decode cX1_surplus 88 = .ok (.ireturn, 1) := by decide +kernel
theorem q12 : (Jvm.Cond.initialized "TreeRanker") ∈ lw_all := lw_g (lw_at lw_m0 1 rfl) rfl
theorem q15 : (Jvm.Cond.instantiable "TreeRanker" (8 : Nat)) ∈ lw_all := lw_g (lw_at lw_m0 4 rfl) rfl
theorem q17 : (Jvm.Cond.instanceMethod ({ cls := "TreeRanker", name := "<init>", desc := "(I)V" } : Jvm.MethodName)) ∈ lw_all := lw_g (lw_at lw_m0 6 rfl) rfl
theorem q18 : (Jvm.Cond.code ({ cls := "TreeRanker", name := "<init>", desc := "(I)V" } : Jvm.MethodName) prog_1_method_1_code (2 : Nat) (Option.none : Option Jvm.ClassFile.FieldType)) ∈ lw_all := lw_g (lw_at lw_m0 7 rfl) rfl
theorem q19 : (Jvm.Cond.methodLink "TreeRanker" (1 : Nat) ({ cls := "java/lang/Object", name := "<init>", desc := "()V" } : Jvm.MethodName)) ∈ lw_all := lw_g (lw_at lw_m0 8 rfl) rfl
theorem q22 : (Jvm.Cond.fieldLink "TreeRanker" (7 : Nat) "TreeRanker" "n" "I") ∈ lw_all := lw_g (lw_at lw_m0 11 rfl) rfl
theorem q23 : (Jvm.Cond.fieldLink "TreeRanker" (13 : Nat) "TreeRanker" "there" "[Z") ∈ lw_all := lw_g (lw_at lw_m0 12 rfl) rfl
theorem q24 : (Jvm.Cond.fieldLink "TreeRanker" (17 : Nat) "TreeRanker" "endA" "[I") ∈ lw_all := lw_g (lw_at lw_m0 13 rfl) rfl
theorem q25 : (Jvm.Cond.fieldLink "TreeRanker" (21 : Nat) "TreeRanker" "endB" "[I") ∈ lw_all := lw_g (lw_at lw_m0 14 rfl) rfl
theorem q26 : (Jvm.Cond.fieldLink "TreeRanker" (46 : Nat) "TreeRanker" "marked" "I") ∈ lw_all := lw_g (lw_at lw_m0 15 rfl) rfl
theorem q27 : (Jvm.Cond.fieldLink "TreeRanker" (24 : Nat) "TreeRanker" "nameOf" "[I") ∈ lw_all := lw_g (lw_at lw_m0 16 rfl) rfl
theorem q28 : (Jvm.Cond.fieldLink "TreeRanker" (27 : Nat) "TreeRanker" "rowOf" "[I") ∈ lw_all := lw_g (lw_at lw_m0 17 rfl) rfl
theorem q29 : (Jvm.Cond.fieldLink "TreeRanker" (30 : Nat) "TreeRanker" "matrix" "[J") ∈ lw_all := lw_g (lw_at lw_m0 18 rfl) rfl
theorem q30 : (Jvm.Cond.laysFinal "TreeRanker" "TreeRanker" "n" "I") ∈ lw_all := lw_g (lw_at lw_m0 19 rfl) rfl
theorem q31 : (Jvm.Cond.soleField "TreeRanker" "n") ∈ lw_all := lw_g (lw_at lw_m0 20 rfl) rfl
theorem q32 : (Jvm.Cond.laysFinal "TreeRanker" "TreeRanker" "there" "[Z") ∈ lw_all := lw_g (lw_at lw_m0 21 rfl) rfl
theorem q33 : (Jvm.Cond.soleField "TreeRanker" "there") ∈ lw_all := lw_g (lw_at lw_m0 22 rfl) rfl
theorem q34 : (Jvm.Cond.laysFinal "TreeRanker" "TreeRanker" "endA" "[I") ∈ lw_all := lw_g (lw_at lw_m0 23 rfl) rfl
theorem q35 : (Jvm.Cond.soleField "TreeRanker" "endA") ∈ lw_all := lw_g (lw_at lw_m0 24 rfl) rfl
theorem q36 : (Jvm.Cond.laysFinal "TreeRanker" "TreeRanker" "endB" "[I") ∈ lw_all := lw_g (lw_at lw_m0 25 rfl) rfl
theorem q37 : (Jvm.Cond.soleField "TreeRanker" "endB") ∈ lw_all := lw_g (lw_at lw_m0 26 rfl) rfl
theorem q38 : (Jvm.Cond.lays "TreeRanker" "TreeRanker" "marked" "I") ∈ lw_all := lw_g (lw_at lw_m0 27 rfl) rfl
theorem q39 : (Jvm.Cond.soleField "TreeRanker" "marked") ∈ lw_all := lw_g (lw_at lw_m0 28 rfl) rfl
theorem q40 : (Jvm.Cond.laysFinal "TreeRanker" "TreeRanker" "nameOf" "[I") ∈ lw_all := lw_g (lw_at lw_m0 29 rfl) rfl
theorem q41 : (Jvm.Cond.soleField "TreeRanker" "nameOf") ∈ lw_all := lw_g (lw_at lw_m0 30 rfl) rfl
theorem q42 : (Jvm.Cond.laysFinal "TreeRanker" "TreeRanker" "rowOf" "[I") ∈ lw_all := lw_g (lw_at lw_m0 31 rfl) rfl
theorem q43 : (Jvm.Cond.soleField "TreeRanker" "rowOf") ∈ lw_all := lw_g (lw_at lw_m0 32 rfl) rfl
theorem q44 : (Jvm.Cond.laysFinal "TreeRanker" "TreeRanker" "matrix" "[J") ∈ lw_all := lw_g (lw_at lw_m0 33 rfl) rfl
theorem q45 : (Jvm.Cond.soleField "TreeRanker" "matrix") ∈ lw_all := lw_g (lw_at lw_m0 34 rfl) rfl
theorem q46 : (Jvm.Cond.superclass "TreeRanker" "java/lang/Object") ∈ lw_all := lw_g (lw_at lw_m0 35 rfl) rfl
theorem q51 : (Jvm.Cond.instanceMethod ({ cls := "TreeRanker", name := "draw", desc := "(III)I" } : Jvm.MethodName)) ∈ lw_all := lw_g (lw_at lw_m0 40 rfl) rfl
theorem q52 : (Jvm.Cond.selects "TreeRanker" ({ cls := "TreeRanker", name := "draw", desc := "(III)I" } : Jvm.MethodName) ({ cls := "TreeRanker", name := "draw", desc := "(III)I" } : Jvm.MethodName)) ∈ lw_all := lw_g (lw_at lw_m0 41 rfl) rfl
theorem q53 : (Jvm.Cond.code ({ cls := "TreeRanker", name := "draw", desc := "(III)I" } : Jvm.MethodName) prog_1_method_2_code (4 : Nat) (Option.some Jvm.ClassFile.FieldType.int)) ∈ lw_all := lw_g (lw_at lw_m0 42 rfl) rfl
theorem q54 : (Jvm.Cond.methodLink "TreeRanker" (34 : Nat) ({ cls := "TreeRanker", name := "isLine", desc := "(I)Z" } : Jvm.MethodName)) ∈ lw_all := lw_g (lw_at lw_m0 43 rfl) rfl
theorem q55 : (Jvm.Cond.static ({ cls := "TreeRanker", name := "isLine", desc := "(I)Z" } : Jvm.MethodName)) ∈ lw_all := lw_g (lw_at lw_m0 44 rfl) rfl
theorem q56 : (Jvm.Cond.code ({ cls := "TreeRanker", name := "isLine", desc := "(I)Z" } : Jvm.MethodName) prog_1_method_13_code (1 : Nat) (Option.some Jvm.ClassFile.FieldType.boolean)) ∈ lw_all := lw_g (lw_at lw_m0 45 rfl) rfl
theorem q58 : (Jvm.Cond.instanceMethod ({ cls := "TreeRanker", name := "cut", desc := "(I)I" } : Jvm.MethodName)) ∈ lw_all := lw_g (lw_at lw_m0 47 rfl) rfl
theorem q59 : (Jvm.Cond.selects "TreeRanker" ({ cls := "TreeRanker", name := "cut", desc := "(I)I" } : Jvm.MethodName) ({ cls := "TreeRanker", name := "cut", desc := "(I)I" } : Jvm.MethodName)) ∈ lw_all := lw_g (lw_at lw_m0 48 rfl) rfl
theorem q60 : (Jvm.Cond.code ({ cls := "TreeRanker", name := "cut", desc := "(I)I" } : Jvm.MethodName) prog_1_method_3_code (3 : Nat) (Option.some Jvm.ClassFile.FieldType.int)) ∈ lw_all := lw_g (lw_at lw_m0 49 rfl) rfl
theorem q62 : (Jvm.Cond.instanceMethod ({ cls := "TreeRanker", name := "trees", desc := "()I" } : Jvm.MethodName)) ∈ lw_all := lw_g (lw_at lw_m0 51 rfl) rfl
theorem q63 : (Jvm.Cond.selects "TreeRanker" ({ cls := "TreeRanker", name := "trees", desc := "()I" } : Jvm.MethodName) ({ cls := "TreeRanker", name := "trees", desc := "()I" } : Jvm.MethodName)) ∈ lw_all := lw_g (lw_at lw_m0 52 rfl) rfl
theorem q64 : (Jvm.Cond.code ({ cls := "TreeRanker", name := "trees", desc := "()I" } : Jvm.MethodName) prog_1_method_4_code (1 : Nat) (Option.some Jvm.ClassFile.FieldType.int)) ∈ lw_all := lw_g (lw_at lw_m0 53 rfl) rfl
theorem q65 : (Jvm.Cond.methodLink "TreeRanker" (38 : Nat) ({ cls := "TreeRanker", name := "countTrees", desc := "(II)I" } : Jvm.MethodName)) ∈ lw_all := lw_g (lw_at lw_m0 54 rfl) rfl
theorem q66 : (Jvm.Cond.privateMethod ({ cls := "TreeRanker", name := "countTrees", desc := "(II)I" } : Jvm.MethodName)) ∈ lw_tbl := lw_at lw_m0 55 rfl
theorem q67 : (Jvm.Cond.instanceMethod ({ cls := "TreeRanker", name := "countTrees", desc := "(II)I" } : Jvm.MethodName)) ∈ lw_all := lw_g (lw_at lw_m0 56 rfl) rfl
theorem q68 : (Jvm.Cond.code ({ cls := "TreeRanker", name := "countTrees", desc := "(II)I" } : Jvm.MethodName) prog_1_method_16_code (4 : Nat) (Option.some Jvm.ClassFile.FieldType.int)) ∈ lw_all := lw_g (lw_at lw_m0 57 rfl) rfl
theorem q69 : (Jvm.Cond.methodLink "TreeRanker" (52 : Nat) ({ cls := "TreeRanker", name := "freshNames", desc := "()V" } : Jvm.MethodName)) ∈ lw_all := lw_g (lw_at lw_m0 58 rfl) rfl
theorem q70 : (Jvm.Cond.privateMethod ({ cls := "TreeRanker", name := "freshNames", desc := "()V" } : Jvm.MethodName)) ∈ lw_tbl := lw_at lw_m0 59 rfl
theorem q71 : (Jvm.Cond.instanceMethod ({ cls := "TreeRanker", name := "freshNames", desc := "()V" } : Jvm.MethodName)) ∈ lw_all := lw_g (lw_at lw_m0 60 rfl) rfl
theorem q72 : (Jvm.Cond.code ({ cls := "TreeRanker", name := "freshNames", desc := "()V" } : Jvm.MethodName) prog_1_method_14_code (2 : Nat) (Option.none : Option Jvm.ClassFile.FieldType)) ∈ lw_all := lw_g (lw_at lw_m0 61 rfl) rfl
theorem q73 : (Jvm.Cond.methodLink "TreeRanker" (55 : Nat) ({ cls := "TreeRanker", name := "join", desc := "(II)V" } : Jvm.MethodName)) ∈ lw_all := lw_g (lw_at lw_m0 62 rfl) rfl
theorem q74 : (Jvm.Cond.privateMethod ({ cls := "TreeRanker", name := "join", desc := "(II)V" } : Jvm.MethodName)) ∈ lw_tbl := lw_at lw_m0 63 rfl
theorem q75 : (Jvm.Cond.instanceMethod ({ cls := "TreeRanker", name := "join", desc := "(II)V" } : Jvm.MethodName)) ∈ lw_all := lw_g (lw_at lw_m0 64 rfl) rfl
theorem q76 : (Jvm.Cond.code ({ cls := "TreeRanker", name := "join", desc := "(II)V" } : Jvm.MethodName) prog_1_method_15_code (6 : Nat) (Option.none : Option Jvm.ClassFile.FieldType)) ∈ lw_all := lw_g (lw_at lw_m0 65 rfl) rfl
theorem q77 : (Jvm.Cond.methodLink "TreeRanker" (59 : Nat) ({ cls := "TreeRanker", name := "numberRows", desc := "()I" } : Jvm.MethodName)) ∈ lw_all := lw_g (lw_at lw_m0 66 rfl) rfl
theorem q78 : (Jvm.Cond.privateMethod ({ cls := "TreeRanker", name := "numberRows", desc := "()I" } : Jvm.MethodName)) ∈ lw_tbl := lw_at lw_m0 67 rfl
theorem q79 : (Jvm.Cond.instanceMethod ({ cls := "TreeRanker", name := "numberRows", desc := "()I" } : Jvm.MethodName)) ∈ lw_all := lw_g (lw_at lw_m0 68 rfl) rfl
theorem q80 : (Jvm.Cond.code ({ cls := "TreeRanker", name := "numberRows", desc := "()I" } : Jvm.MethodName) prog_1_method_17_code (3 : Nat) (Option.some Jvm.ClassFile.FieldType.int)) ∈ lw_all := lw_g (lw_at lw_m0 69 rfl) rfl
theorem q81 : (Jvm.Cond.methodLink "TreeRanker" (62 : Nat) ({ cls := "TreeRanker", name := "fillMatrix", desc := "(I)V" } : Jvm.MethodName)) ∈ lw_all := lw_g (lw_at lw_m0 70 rfl) rfl
theorem q82 : (Jvm.Cond.privateMethod ({ cls := "TreeRanker", name := "fillMatrix", desc := "(I)V" } : Jvm.MethodName)) ∈ lw_tbl := lw_at lw_m0 71 rfl
theorem q83 : (Jvm.Cond.instanceMethod ({ cls := "TreeRanker", name := "fillMatrix", desc := "(I)V" } : Jvm.MethodName)) ∈ lw_all := lw_g (lw_at lw_m0 72 rfl) rfl
theorem q84 : (Jvm.Cond.code ({ cls := "TreeRanker", name := "fillMatrix", desc := "(I)V" } : Jvm.MethodName) prog_1_method_18_code (5 : Nat) (Option.none : Option Jvm.ClassFile.FieldType)) ∈ lw_all := lw_g (lw_at lw_m0 73 rfl) rfl
theorem q85 : (Jvm.Cond.methodLink "TreeRanker" (66 : Nat) ({ cls := "TreeRanker", name := "determinant", desc := "(I)J" } : Jvm.MethodName)) ∈ lw_all := lw_g (lw_at lw_m0 74 rfl) rfl
theorem q86 : (Jvm.Cond.privateMethod ({ cls := "TreeRanker", name := "determinant", desc := "(I)J" } : Jvm.MethodName)) ∈ lw_tbl := lw_at lw_m0 75 rfl
theorem q87 : (Jvm.Cond.instanceMethod ({ cls := "TreeRanker", name := "determinant", desc := "(I)J" } : Jvm.MethodName)) ∈ lw_all := lw_g (lw_at lw_m0 76 rfl) rfl
theorem q88 : (Jvm.Cond.code ({ cls := "TreeRanker", name := "determinant", desc := "(I)J" } : Jvm.MethodName) prog_1_method_19_code (8 : Nat) (Option.some Jvm.ClassFile.FieldType.long)) ∈ lw_all := lw_g (lw_at lw_m0 77 rfl) rfl
theorem q89 : (Jvm.Cond.methodLink "TreeRanker" (70 : Nat) ({ cls := "TreeRanker", name := "clearColumn", desc := "(IIIJ)V" } : Jvm.MethodName)) ∈ lw_all := lw_g (lw_at lw_m0 78 rfl) rfl
theorem q90 : (Jvm.Cond.privateMethod ({ cls := "TreeRanker", name := "clearColumn", desc := "(IIIJ)V" } : Jvm.MethodName)) ∈ lw_tbl := lw_at lw_m0 79 rfl
theorem q91 : (Jvm.Cond.instanceMethod ({ cls := "TreeRanker", name := "clearColumn", desc := "(IIIJ)V" } : Jvm.MethodName)) ∈ lw_all := lw_g (lw_at lw_m0 80 rfl) rfl
theorem q92 : (Jvm.Cond.code ({ cls := "TreeRanker", name := "clearColumn", desc := "(IIIJ)V" } : Jvm.MethodName) prog_1_method_20_code (13 : Nat) (Option.none : Option Jvm.ClassFile.FieldType)) ∈ lw_all := lw_g (lw_at lw_m0 81 rfl) rfl
theorem q94 : (Jvm.Cond.instanceMethod ({ cls := "TreeRanker", name := "treesWith", desc := "(I)I" } : Jvm.MethodName)) ∈ lw_all := lw_g (lw_at lw_m0 83 rfl) rfl
theorem q95 : (Jvm.Cond.selects "TreeRanker" ({ cls := "TreeRanker", name := "treesWith", desc := "(I)I" } : Jvm.MethodName) ({ cls := "TreeRanker", name := "treesWith", desc := "(I)I" } : Jvm.MethodName)) ∈ lw_all := lw_g (lw_at lw_m0 84 rfl) rfl
theorem q96 : (Jvm.Cond.code ({ cls := "TreeRanker", name := "treesWith", desc := "(I)I" } : Jvm.MethodName) prog_1_method_5_code (2 : Nat) (Option.some Jvm.ClassFile.FieldType.int)) ∈ lw_all := lw_g (lw_at lw_m0 85 rfl) rfl
theorem q98 : (Jvm.Cond.instanceMethod ({ cls := "TreeRanker", name := "treesWithBoth", desc := "(II)I" } : Jvm.MethodName)) ∈ lw_all := lw_g (lw_at lw_m0 87 rfl) rfl
theorem q99 : (Jvm.Cond.selects "TreeRanker" ({ cls := "TreeRanker", name := "treesWithBoth", desc := "(II)I" } : Jvm.MethodName) ({ cls := "TreeRanker", name := "treesWithBoth", desc := "(II)I" } : Jvm.MethodName)) ∈ lw_all := lw_g (lw_at lw_m0 88 rfl) rfl
theorem q100 : (Jvm.Cond.code ({ cls := "TreeRanker", name := "treesWithBoth", desc := "(II)I" } : Jvm.MethodName) prog_1_method_6_code (3 : Nat) (Option.some Jvm.ClassFile.FieldType.int)) ∈ lw_all := lw_g (lw_at lw_m0 89 rfl) rfl
theorem q102 : (Jvm.Cond.instanceMethod ({ cls := "TreeRanker", name := "tree", desc := "(I)I" } : Jvm.MethodName)) ∈ lw_all := lw_g (lw_at lw_m0 91 rfl) rfl
theorem q103 : (Jvm.Cond.selects "TreeRanker" ({ cls := "TreeRanker", name := "tree", desc := "(I)I" } : Jvm.MethodName) ({ cls := "TreeRanker", name := "tree", desc := "(I)I" } : Jvm.MethodName)) ∈ lw_all := lw_g (lw_at lw_m0 92 rfl) rfl
theorem q104 : (Jvm.Cond.code ({ cls := "TreeRanker", name := "tree", desc := "(I)I" } : Jvm.MethodName) prog_1_method_7_code (7 : Nat) (Option.some Jvm.ClassFile.FieldType.int)) ∈ lw_all := lw_g (lw_at lw_m0 93 rfl) rfl
theorem q105 : (Jvm.Cond.methodLink "TreeRanker" (42 : Nat) ({ cls := "TreeRanker", name := "trees", desc := "()I" } : Jvm.MethodName)) ∈ lw_all := lw_g (lw_at lw_m0 94 rfl) rfl
theorem q107 : (Jvm.Cond.instanceMethod ({ cls := "TreeRanker", name := "mark", desc := "(I)I" } : Jvm.MethodName)) ∈ lw_all := lw_g (lw_at lw_m0 96 rfl) rfl
theorem q108 : (Jvm.Cond.selects "TreeRanker" ({ cls := "TreeRanker", name := "mark", desc := "(I)I" } : Jvm.MethodName) ({ cls := "TreeRanker", name := "mark", desc := "(I)I" } : Jvm.MethodName)) ∈ lw_all := lw_g (lw_at lw_m0 97 rfl) rfl
theorem q109 : (Jvm.Cond.code ({ cls := "TreeRanker", name := "mark", desc := "(I)I" } : Jvm.MethodName) prog_1_method_8_code (2 : Nat) (Option.some Jvm.ClassFile.FieldType.int)) ∈ lw_all := lw_g (lw_at lw_m0 98 rfl) rfl
theorem q111 : (Jvm.Cond.instanceMethod ({ cls := "TreeRanker", name := "rank", desc := "()I" } : Jvm.MethodName)) ∈ lw_all := lw_g (lw_at lw_m0 100 rfl) rfl
theorem q112 : (Jvm.Cond.selects "TreeRanker" ({ cls := "TreeRanker", name := "rank", desc := "()I" } : Jvm.MethodName) ({ cls := "TreeRanker", name := "rank", desc := "()I" } : Jvm.MethodName)) ∈ lw_all := lw_g (lw_at lw_m0 101 rfl) rfl
theorem q113 : (Jvm.Cond.code ({ cls := "TreeRanker", name := "rank", desc := "()I" } : Jvm.MethodName) prog_1_method_9_code (3 : Nat) (Option.some Jvm.ClassFile.FieldType.int)) ∈ lw_all := lw_g (lw_at lw_m0 102 rfl) rfl
theorem q114 : (Jvm.Cond.methodLink "TreeRanker" (49 : Nat) ({ cls := "TreeRanker", name := "below", desc := "()I" } : Jvm.MethodName)) ∈ lw_all := lw_g (lw_at lw_m0 103 rfl) rfl
theorem q115 : (Jvm.Cond.instanceMethod ({ cls := "TreeRanker", name := "below", desc := "()I" } : Jvm.MethodName)) ∈ lw_all := lw_g (lw_at lw_m0 104 rfl) rfl
theorem q116 : (Jvm.Cond.selects "TreeRanker" ({ cls := "TreeRanker", name := "below", desc := "()I" } : Jvm.MethodName) ({ cls := "TreeRanker", name := "below", desc := "()I" } : Jvm.MethodName)) ∈ lw_all := lw_g (lw_at lw_m0 105 rfl) rfl
theorem q117 : (Jvm.Cond.code ({ cls := "TreeRanker", name := "below", desc := "()I" } : Jvm.MethodName) prog_1_method_10_code (5 : Nat) (Option.some Jvm.ClassFile.FieldType.int)) ∈ lw_all := lw_g (lw_at lw_m0 106 rfl) rfl
theorem q120 : (Jvm.Cond.instanceMethod ({ cls := "TreeRanker", name := "extensions", desc := "()I" } : Jvm.MethodName)) ∈ lw_all := lw_g (lw_at lw_m0 109 rfl) rfl
theorem q121 : (Jvm.Cond.selects "TreeRanker" ({ cls := "TreeRanker", name := "extensions", desc := "()I" } : Jvm.MethodName) ({ cls := "TreeRanker", name := "extensions", desc := "()I" } : Jvm.MethodName)) ∈ lw_all := lw_g (lw_at lw_m0 110 rfl) rfl
theorem q122 : (Jvm.Cond.code ({ cls := "TreeRanker", name := "extensions", desc := "()I" } : Jvm.MethodName) prog_1_method_11_code (1 : Nat) (Option.some Jvm.ClassFile.FieldType.int)) ∈ lw_all := lw_g (lw_at lw_m0 111 rfl) rfl
theorem q124 : (Jvm.Cond.instanceMethod ({ cls := "TreeRanker", name := "surplus", desc := "()I" } : Jvm.MethodName)) ∈ lw_all := lw_g (lw_at lw_m0 113 rfl) rfl
theorem q125 : (Jvm.Cond.selects "TreeRanker" ({ cls := "TreeRanker", name := "surplus", desc := "()I" } : Jvm.MethodName) ({ cls := "TreeRanker", name := "surplus", desc := "()I" } : Jvm.MethodName)) ∈ lw_all := lw_g (lw_at lw_m0 114 rfl) rfl
theorem q126 : (Jvm.Cond.code ({ cls := "TreeRanker", name := "surplus", desc := "()I" } : Jvm.MethodName) prog_1_method_12_code (3 : Nat) (Option.some Jvm.ClassFile.FieldType.int)) ∈ lw_all := lw_g (lw_at lw_m0 115 rfl) rfl
theorem in_X1 : ∀ w ∈ wsX10, w ∈ lw_all := lw_in wsX10 [30, 32, 34, 36, 38, 40, 42, 44] (by decide +kernel) (by decide +kernel)
end
section
/-! TreeRankerModel -/
set_option maxRecDepth 100000
def RX2 : String := "TreeRankerModel"
def TX2 : u_T := fun k => match k with
  | 0 => ("TreeRankerModel", "n", "I", false)
  | 1 => ("TreeRankerModel", "there", "[Z", true)
  | 2 => ("TreeRankerModel", "from", "[I", true)
  | 3 => ("TreeRankerModel", "to", "[I", true)
  | 4 => ("TreeRankerModel", "marked", "I", false)
  | _ => ("TreeRankerModel", "part", "[I", true)
def tyX2 : Nat → FieldType := fun k => match k with
  | 0 => .int
  | 1 => .array .boolean
  | 2 => .array .int
  | 3 => .array .int
  | 4 => .int
  | _ => .array .int
abbrev wsX20 : List Cond := u_ws RX2 TX2 6
theorem nmX2 : ∀ a, a < 6 → ∀ b, b < 6 → a ≠ b → (TX2 a).2.1 ≠ (TX2 b).2.1 := by decide +kernel
theorem tyX2_ok : ∀ k, k < 6 → parseFieldDescriptor (TX2 k).2.2.1 = some (tyX2 k) := by decide +kernel
abbrev cX2_init : ByteArray := prog_3_method_1_code
def yX2_init : MethodName := ⟨RX2, "<init>", "(I)V"⟩
theorem dX2_init_0 : decode cX2_init 0 = .ok (.aload_n 0, 1) := by decide +kernel
theorem dX2_init_1 : decode cX2_init 1 = .ok (.invokespecial 1, 3) := by decide +kernel
theorem dX2_init_4 : decode cX2_init 4 = .ok (.aload_n 0, 1) := by decide +kernel
theorem dX2_init_5 : decode cX2_init 5 = .ok (.bipush 10, 2) := by decide +kernel
theorem dX2_init_7 : decode cX2_init 7 = .ok (.newarray .boolean, 2) := by decide +kernel
theorem dX2_init_9 : decode cX2_init 9 = .ok (.putfield 7, 3) := by decide +kernel
theorem dX2_init_12 : decode cX2_init 12 = .ok (.aload_n 0, 1) := by decide +kernel
theorem dX2_init_13 : decode cX2_init 13 = .ok (.bipush 10, 2) := by decide +kernel
theorem dX2_init_15 : decode cX2_init 15 = .ok (.newarray .int, 2) := by decide +kernel
theorem dX2_init_17 : decode cX2_init 17 = .ok (.putfield 13, 3) := by decide +kernel
theorem dX2_init_20 : decode cX2_init 20 = .ok (.aload_n 0, 1) := by decide +kernel
theorem dX2_init_21 : decode cX2_init 21 = .ok (.bipush 10, 2) := by decide +kernel
theorem dX2_init_23 : decode cX2_init 23 = .ok (.newarray .int, 2) := by decide +kernel
theorem dX2_init_25 : decode cX2_init 25 = .ok (.putfield 17, 3) := by decide +kernel
theorem dX2_init_28 : decode cX2_init 28 = .ok (.aload_n 0, 1) := by decide +kernel
theorem dX2_init_29 : decode cX2_init 29 = .ok (.bipush 6, 2) := by decide +kernel
theorem dX2_init_31 : decode cX2_init 31 = .ok (.newarray .int, 2) := by decide +kernel
theorem dX2_init_33 : decode cX2_init 33 = .ok (.putfield 20, 3) := by decide +kernel
theorem dX2_init_36 : decode cX2_init 36 = .ok (.aload_n 0, 1) := by decide +kernel
theorem dX2_init_37 : decode cX2_init 37 = .ok (.iload_n 1, 1) := by decide +kernel
theorem dX2_init_38 : decode cX2_init 38 = .ok (.iconst 1, 1) := by decide +kernel
theorem dX2_init_39 : decode cX2_init 39 = .ok (.if_icmp .ge 7, 3) := by decide +kernel
theorem dX2_init_42 : decode cX2_init 42 = .ok (.iconst 1, 1) := by decide +kernel
theorem dX2_init_43 : decode cX2_init 43 = .ok (.goto 15, 3) := by decide +kernel
theorem dX2_init_46 : decode cX2_init 46 = .ok (.iload_n 1, 1) := by decide +kernel
theorem dX2_init_47 : decode cX2_init 47 = .ok (.bipush 6, 2) := by decide +kernel
theorem dX2_init_49 : decode cX2_init 49 = .ok (.if_icmp .le 8, 3) := by decide +kernel
theorem dX2_init_52 : decode cX2_init 52 = .ok (.bipush 6, 2) := by decide +kernel
theorem dX2_init_54 : decode cX2_init 54 = .ok (.goto 4, 3) := by decide +kernel
theorem dX2_init_57 : decode cX2_init 57 = .ok (.iload_n 1, 1) := by decide +kernel
theorem dX2_init_58 : decode cX2_init 58 = .ok (.putfield 23, 3) := by decide +kernel
theorem dX2_init_61 : decode cX2_init 61 = .ok (.return_, 1) := by decide +kernel
abbrev cX2_draw : ByteArray := prog_3_method_4_code
def yX2_draw : MethodName := ⟨RX2, "draw", "(III)I"⟩
theorem dX2_draw_0 : decode cX2_draw 0 = .ok (.iload_n 1, 1) := by decide +kernel
theorem dX2_draw_1 : decode cX2_draw 1 = .ok (.invokestatic 27, 3) := by decide +kernel
theorem dX2_draw_4 : decode cX2_draw 4 = .ok (.ifCond .ne 24, 3) := by decide +kernel
theorem dX2_draw_7 : decode cX2_draw 7 = .ok (.aload_n 0, 1) := by decide +kernel
theorem dX2_draw_8 : decode cX2_draw 8 = .ok (.iload_n 2, 1) := by decide +kernel
theorem dX2_draw_9 : decode cX2_draw 9 = .ok (.invokevirtual 31, 3) := by decide +kernel
theorem dX2_draw_12 : decode cX2_draw 12 = .ok (.ifCond .ne 16, 3) := by decide +kernel
theorem dX2_draw_15 : decode cX2_draw 15 = .ok (.aload_n 0, 1) := by decide +kernel
theorem dX2_draw_16 : decode cX2_draw 16 = .ok (.iload_n 3, 1) := by decide +kernel
theorem dX2_draw_17 : decode cX2_draw 17 = .ok (.invokevirtual 31, 3) := by decide +kernel
theorem dX2_draw_20 : decode cX2_draw 20 = .ok (.ifCond .ne 8, 3) := by decide +kernel
theorem dX2_draw_23 : decode cX2_draw 23 = .ok (.iload_n 2, 1) := by decide +kernel
theorem dX2_draw_24 : decode cX2_draw 24 = .ok (.iload_n 3, 1) := by decide +kernel
theorem dX2_draw_25 : decode cX2_draw 25 = .ok (.if_icmp .ne 5, 3) := by decide +kernel
theorem dX2_draw_28 : decode cX2_draw 28 = .ok (.iconst (-1), 1) := by decide +kernel
theorem dX2_draw_29 : decode cX2_draw 29 = .ok (.ireturn, 1) := by decide +kernel
theorem dX2_draw_30 : decode cX2_draw 30 = .ok (.aload_n 0, 1) := by decide +kernel
theorem dX2_draw_31 : decode cX2_draw 31 = .ok (.getfield 7, 3) := by decide +kernel
theorem dX2_draw_34 : decode cX2_draw 34 = .ok (.iload_n 1, 1) := by decide +kernel
theorem dX2_draw_35 : decode cX2_draw 35 = .ok (.iconst 1, 1) := by decide +kernel
theorem dX2_draw_36 : decode cX2_draw 36 = .ok (.bastore, 1) := by decide +kernel
theorem dX2_draw_37 : decode cX2_draw 37 = .ok (.aload_n 0, 1) := by decide +kernel
theorem dX2_draw_38 : decode cX2_draw 38 = .ok (.getfield 13, 3) := by decide +kernel
theorem dX2_draw_41 : decode cX2_draw 41 = .ok (.iload_n 1, 1) := by decide +kernel
theorem dX2_draw_42 : decode cX2_draw 42 = .ok (.iload_n 2, 1) := by decide +kernel
theorem dX2_draw_43 : decode cX2_draw 43 = .ok (.iastore, 1) := by decide +kernel
theorem dX2_draw_44 : decode cX2_draw 44 = .ok (.aload_n 0, 1) := by decide +kernel
theorem dX2_draw_45 : decode cX2_draw 45 = .ok (.getfield 17, 3) := by decide +kernel
theorem dX2_draw_48 : decode cX2_draw 48 = .ok (.iload_n 1, 1) := by decide +kernel
theorem dX2_draw_49 : decode cX2_draw 49 = .ok (.iload_n 3, 1) := by decide +kernel
theorem dX2_draw_50 : decode cX2_draw 50 = .ok (.iastore, 1) := by decide +kernel
theorem dX2_draw_51 : decode cX2_draw 51 = .ok (.iconst 0, 1) := by decide +kernel
theorem dX2_draw_52 : decode cX2_draw 52 = .ok (.ireturn, 1) := by decide +kernel
abbrev cX2_badLine : ByteArray := prog_3_method_2_code
def yX2_badLine : MethodName := ⟨RX2, "badLine", "(I)Z"⟩
theorem dX2_badLine_0 : decode cX2_badLine 0 = .ok (.iload_n 0, 1) := by decide +kernel
theorem dX2_badLine_1 : decode cX2_badLine 1 = .ok (.ifCond .lt 9, 3) := by decide +kernel
theorem dX2_badLine_4 : decode cX2_badLine 4 = .ok (.iload_n 0, 1) := by decide +kernel
theorem dX2_badLine_5 : decode cX2_badLine 5 = .ok (.bipush 9, 2) := by decide +kernel
theorem dX2_badLine_7 : decode cX2_badLine 7 = .ok (.if_icmp .le 7, 3) := by decide +kernel
theorem dX2_badLine_10 : decode cX2_badLine 10 = .ok (.iconst 1, 1) := by decide +kernel
theorem dX2_badLine_11 : decode cX2_badLine 11 = .ok (.goto 4, 3) := by decide +kernel
theorem dX2_badLine_14 : decode cX2_badLine 14 = .ok (.iconst 0, 1) := by decide +kernel
theorem dX2_badLine_15 : decode cX2_badLine 15 = .ok (.ireturn, 1) := by decide +kernel
abbrev cX2_badPoint : ByteArray := prog_3_method_3_code
def yX2_badPoint : MethodName := ⟨RX2, "badPoint", "(I)Z"⟩
theorem dX2_badPoint_0 : decode cX2_badPoint 0 = .ok (.iload_n 1, 1) := by decide +kernel
theorem dX2_badPoint_1 : decode cX2_badPoint 1 = .ok (.ifCond .lt 11, 3) := by decide +kernel
theorem dX2_badPoint_4 : decode cX2_badPoint 4 = .ok (.iload_n 1, 1) := by decide +kernel
theorem dX2_badPoint_5 : decode cX2_badPoint 5 = .ok (.aload_n 0, 1) := by decide +kernel
theorem dX2_badPoint_6 : decode cX2_badPoint 6 = .ok (.getfield 23, 3) := by decide +kernel
theorem dX2_badPoint_9 : decode cX2_badPoint 9 = .ok (.if_icmp .lt 7, 3) := by decide +kernel
theorem dX2_badPoint_12 : decode cX2_badPoint 12 = .ok (.iconst 1, 1) := by decide +kernel
theorem dX2_badPoint_13 : decode cX2_badPoint 13 = .ok (.goto 4, 3) := by decide +kernel
theorem dX2_badPoint_16 : decode cX2_badPoint 16 = .ok (.iconst 0, 1) := by decide +kernel
theorem dX2_badPoint_17 : decode cX2_badPoint 17 = .ok (.ireturn, 1) := by decide +kernel
abbrev cX2_cut : ByteArray := prog_3_method_5_code
def yX2_cut : MethodName := ⟨RX2, "cut", "(I)I"⟩
theorem dX2_cut_0 : decode cX2_cut 0 = .ok (.iload_n 1, 1) := by decide +kernel
theorem dX2_cut_1 : decode cX2_cut 1 = .ok (.invokestatic 27, 3) := by decide +kernel
theorem dX2_cut_4 : decode cX2_cut 4 = .ok (.ifCond .eq 5, 3) := by decide +kernel
theorem dX2_cut_7 : decode cX2_cut 7 = .ok (.iconst (-1), 1) := by decide +kernel
theorem dX2_cut_8 : decode cX2_cut 8 = .ok (.ireturn, 1) := by decide +kernel
theorem dX2_cut_9 : decode cX2_cut 9 = .ok (.aload_n 0, 1) := by decide +kernel
theorem dX2_cut_10 : decode cX2_cut 10 = .ok (.getfield 7, 3) := by decide +kernel
theorem dX2_cut_13 : decode cX2_cut 13 = .ok (.iload_n 1, 1) := by decide +kernel
theorem dX2_cut_14 : decode cX2_cut 14 = .ok (.baload, 1) := by decide +kernel
theorem dX2_cut_15 : decode cX2_cut 15 = .ok (.ifCond .eq 7, 3) := by decide +kernel
theorem dX2_cut_18 : decode cX2_cut 18 = .ok (.iconst 1, 1) := by decide +kernel
theorem dX2_cut_19 : decode cX2_cut 19 = .ok (.goto 4, 3) := by decide +kernel
theorem dX2_cut_22 : decode cX2_cut 22 = .ok (.iconst 0, 1) := by decide +kernel
theorem dX2_cut_23 : decode cX2_cut 23 = .ok (.istore_n 2, 1) := by decide +kernel
theorem dX2_cut_24 : decode cX2_cut 24 = .ok (.aload_n 0, 1) := by decide +kernel
theorem dX2_cut_25 : decode cX2_cut 25 = .ok (.getfield 7, 3) := by decide +kernel
theorem dX2_cut_28 : decode cX2_cut 28 = .ok (.iload_n 1, 1) := by decide +kernel
theorem dX2_cut_29 : decode cX2_cut 29 = .ok (.iconst 0, 1) := by decide +kernel
theorem dX2_cut_30 : decode cX2_cut 30 = .ok (.bastore, 1) := by decide +kernel
theorem dX2_cut_31 : decode cX2_cut 31 = .ok (.iload_n 2, 1) := by decide +kernel
theorem dX2_cut_32 : decode cX2_cut 32 = .ok (.ireturn, 1) := by decide +kernel
abbrev cX2_trees : ByteArray := prog_3_method_10_code
def yX2_trees : MethodName := ⟨RX2, "trees", "()I"⟩
theorem dX2_trees_0 : decode cX2_trees 0 = .ok (.aload_n 0, 1) := by decide +kernel
theorem dX2_trees_1 : decode cX2_trees 1 = .ok (.sipush 1024, 3) := by decide +kernel
theorem dX2_trees_4 : decode cX2_trees 4 = .ok (.iconst 0, 1) := by decide +kernel
theorem dX2_trees_5 : decode cX2_trees 5 = .ok (.invokevirtual 44, 3) := by decide +kernel
theorem dX2_trees_8 : decode cX2_trees 8 = .ok (.ireturn, 1) := by decide +kernel
abbrev cX2_count : ByteArray := prog_3_method_9_code
def yX2_count : MethodName := ⟨RX2, "count", "(II)I"⟩
theorem dX2_count_0 : decode cX2_count 0 = .ok (.iconst 0, 1) := by decide +kernel
theorem dX2_count_1 : decode cX2_count 1 = .ok (.istore_n 3, 1) := by decide +kernel
theorem dX2_count_2 : decode cX2_count 2 = .ok (.iconst 0, 1) := by decide +kernel
theorem dX2_count_3 : decode cX2_count 3 = .ok (.istore 4, 2) := by decide +kernel
theorem dX2_count_5 : decode cX2_count 5 = .ok (.iload 4, 2) := by decide +kernel
theorem dX2_count_7 : decode cX2_count 7 = .ok (.iload_n 1, 1) := by decide +kernel
theorem dX2_count_8 : decode cX2_count 8 = .ok (.if_icmp .ge 29, 3) := by decide +kernel
theorem dX2_count_11 : decode cX2_count 11 = .ok (.iload 4, 2) := by decide +kernel
theorem dX2_count_13 : decode cX2_count 13 = .ok (.iload_n 2, 1) := by decide +kernel
theorem dX2_count_14 : decode cX2_count 14 = .ok (.iand, 1) := by decide +kernel
theorem dX2_count_15 : decode cX2_count 15 = .ok (.iload_n 2, 1) := by decide +kernel
theorem dX2_count_16 : decode cX2_count 16 = .ok (.if_icmp .ne 15, 3) := by decide +kernel
theorem dX2_count_19 : decode cX2_count 19 = .ok (.aload_n 0, 1) := by decide +kernel
theorem dX2_count_20 : decode cX2_count 20 = .ok (.iload 4, 2) := by decide +kernel
theorem dX2_count_22 : decode cX2_count 22 = .ok (.invokevirtual 41, 3) := by decide +kernel
theorem dX2_count_25 : decode cX2_count 25 = .ok (.ifCond .eq 6, 3) := by decide +kernel
theorem dX2_count_28 : decode cX2_count 28 = .ok (.iinc 3 1, 3) := by decide +kernel
theorem dX2_count_31 : decode cX2_count 31 = .ok (.iinc 4 1, 3) := by decide +kernel
theorem dX2_count_34 : decode cX2_count 34 = .ok (.goto (-29), 3) := by decide +kernel
theorem dX2_count_37 : decode cX2_count 37 = .ok (.iload_n 3, 1) := by decide +kernel
theorem dX2_count_38 : decode cX2_count 38 = .ok (.ireturn, 1) := by decide +kernel
abbrev cX2_isTree : ByteArray := prog_3_method_8_code
def yX2_isTree : MethodName := ⟨RX2, "isTree", "(I)Z"⟩
theorem dX2_isTree_0 : decode cX2_isTree 0 = .ok (.iload_n 1, 1) := by decide +kernel
theorem dX2_isTree_1 : decode cX2_isTree 1 = .ok (.invokestatic 34, 3) := by decide +kernel
theorem dX2_isTree_4 : decode cX2_isTree 4 = .ok (.aload_n 0, 1) := by decide +kernel
theorem dX2_isTree_5 : decode cX2_isTree 5 = .ok (.getfield 23, 3) := by decide +kernel
theorem dX2_isTree_8 : decode cX2_isTree 8 = .ok (.iconst 1, 1) := by decide +kernel
theorem dX2_isTree_9 : decode cX2_isTree 9 = .ok (.isub, 1) := by decide +kernel
theorem dX2_isTree_10 : decode cX2_isTree 10 = .ok (.if_icmp .ne 15, 3) := by decide +kernel
theorem dX2_isTree_13 : decode cX2_isTree 13 = .ok (.aload_n 0, 1) := by decide +kernel
theorem dX2_isTree_14 : decode cX2_isTree 14 = .ok (.iload_n 1, 1) := by decide +kernel
theorem dX2_isTree_15 : decode cX2_isTree 15 = .ok (.invokevirtual 38, 3) := by decide +kernel
theorem dX2_isTree_18 : decode cX2_isTree 18 = .ok (.ifCond .eq 7, 3) := by decide +kernel
theorem dX2_isTree_21 : decode cX2_isTree 21 = .ok (.iconst 1, 1) := by decide +kernel
theorem dX2_isTree_22 : decode cX2_isTree 22 = .ok (.goto 4, 3) := by decide +kernel
theorem dX2_isTree_25 : decode cX2_isTree 25 = .ok (.iconst 0, 1) := by decide +kernel
theorem dX2_isTree_26 : decode cX2_isTree 26 = .ok (.ireturn, 1) := by decide +kernel
abbrev cX2_ones : ByteArray := prog_3_method_6_code
def yX2_ones : MethodName := ⟨RX2, "ones", "(I)I"⟩
theorem dX2_ones_0 : decode cX2_ones 0 = .ok (.iconst 0, 1) := by decide +kernel
theorem dX2_ones_1 : decode cX2_ones 1 = .ok (.istore_n 1, 1) := by decide +kernel
theorem dX2_ones_2 : decode cX2_ones 2 = .ok (.iconst 0, 1) := by decide +kernel
theorem dX2_ones_3 : decode cX2_ones 3 = .ok (.istore_n 2, 1) := by decide +kernel
theorem dX2_ones_4 : decode cX2_ones 4 = .ok (.iload_n 2, 1) := by decide +kernel
theorem dX2_ones_5 : decode cX2_ones 5 = .ok (.bipush 10, 2) := by decide +kernel
theorem dX2_ones_7 : decode cX2_ones 7 = .ok (.if_icmp .ge 17, 3) := by decide +kernel
theorem dX2_ones_10 : decode cX2_ones 10 = .ok (.iload_n 1, 1) := by decide +kernel
theorem dX2_ones_11 : decode cX2_ones 11 = .ok (.iload_n 0, 1) := by decide +kernel
theorem dX2_ones_12 : decode cX2_ones 12 = .ok (.iload_n 2, 1) := by decide +kernel
theorem dX2_ones_13 : decode cX2_ones 13 = .ok (.ishr, 1) := by decide +kernel
theorem dX2_ones_14 : decode cX2_ones 14 = .ok (.iconst 1, 1) := by decide +kernel
theorem dX2_ones_15 : decode cX2_ones 15 = .ok (.iand, 1) := by decide +kernel
theorem dX2_ones_16 : decode cX2_ones 16 = .ok (.iadd, 1) := by decide +kernel
theorem dX2_ones_17 : decode cX2_ones 17 = .ok (.istore_n 1, 1) := by decide +kernel
theorem dX2_ones_18 : decode cX2_ones 18 = .ok (.iinc 2 1, 3) := by decide +kernel
theorem dX2_ones_21 : decode cX2_ones 21 = .ok (.goto (-17), 3) := by decide +kernel
theorem dX2_ones_24 : decode cX2_ones 24 = .ok (.iload_n 1, 1) := by decide +kernel
theorem dX2_ones_25 : decode cX2_ones 25 = .ok (.ireturn, 1) := by decide +kernel
abbrev cX2_ringless : ByteArray := prog_3_method_7_code
def yX2_ringless : MethodName := ⟨RX2, "ringless", "(I)Z"⟩
theorem dX2_ringless_0 : decode cX2_ringless 0 = .ok (.iconst 0, 1) := by decide +kernel
theorem dX2_ringless_1 : decode cX2_ringless 1 = .ok (.istore_n 2, 1) := by decide +kernel
theorem dX2_ringless_2 : decode cX2_ringless 2 = .ok (.iload_n 2, 1) := by decide +kernel
theorem dX2_ringless_3 : decode cX2_ringless 3 = .ok (.bipush 6, 2) := by decide +kernel
theorem dX2_ringless_5 : decode cX2_ringless 5 = .ok (.if_icmp .ge 16, 3) := by decide +kernel
theorem dX2_ringless_8 : decode cX2_ringless 8 = .ok (.aload_n 0, 1) := by decide +kernel
theorem dX2_ringless_9 : decode cX2_ringless 9 = .ok (.getfield 20, 3) := by decide +kernel
theorem dX2_ringless_12 : decode cX2_ringless 12 = .ok (.iload_n 2, 1) := by decide +kernel
theorem dX2_ringless_13 : decode cX2_ringless 13 = .ok (.iload_n 2, 1) := by decide +kernel
theorem dX2_ringless_14 : decode cX2_ringless 14 = .ok (.iastore, 1) := by decide +kernel
theorem dX2_ringless_15 : decode cX2_ringless 15 = .ok (.iinc 2 1, 3) := by decide +kernel
theorem dX2_ringless_18 : decode cX2_ringless 18 = .ok (.goto (-16), 3) := by decide +kernel
theorem dX2_ringless_21 : decode cX2_ringless 21 = .ok (.iconst 0, 1) := by decide +kernel
theorem dX2_ringless_22 : decode cX2_ringless 22 = .ok (.istore_n 2, 1) := by decide +kernel
theorem dX2_ringless_23 : decode cX2_ringless 23 = .ok (.iload_n 2, 1) := by decide +kernel
theorem dX2_ringless_24 : decode cX2_ringless 24 = .ok (.bipush 10, 2) := by decide +kernel
theorem dX2_ringless_26 : decode cX2_ringless 26 = .ok (.if_icmp .ge 96, 3) := by decide +kernel
theorem dX2_ringless_29 : decode cX2_ringless 29 = .ok (.iload_n 1, 1) := by decide +kernel
theorem dX2_ringless_30 : decode cX2_ringless 30 = .ok (.iload_n 2, 1) := by decide +kernel
theorem dX2_ringless_31 : decode cX2_ringless 31 = .ok (.ishr, 1) := by decide +kernel
theorem dX2_ringless_32 : decode cX2_ringless 32 = .ok (.iconst 1, 1) := by decide +kernel
theorem dX2_ringless_33 : decode cX2_ringless 33 = .ok (.iand, 1) := by decide +kernel
theorem dX2_ringless_34 : decode cX2_ringless 34 = .ok (.iconst 1, 1) := by decide +kernel
theorem dX2_ringless_35 : decode cX2_ringless 35 = .ok (.if_icmp .ne 81, 3) := by decide +kernel
theorem dX2_ringless_38 : decode cX2_ringless 38 = .ok (.aload_n 0, 1) := by decide +kernel
theorem dX2_ringless_39 : decode cX2_ringless 39 = .ok (.getfield 20, 3) := by decide +kernel
theorem dX2_ringless_42 : decode cX2_ringless 42 = .ok (.aload_n 0, 1) := by decide +kernel
theorem dX2_ringless_43 : decode cX2_ringless 43 = .ok (.getfield 13, 3) := by decide +kernel
theorem dX2_ringless_46 : decode cX2_ringless 46 = .ok (.iload_n 2, 1) := by decide +kernel
theorem dX2_ringless_47 : decode cX2_ringless 47 = .ok (.iaload, 1) := by decide +kernel
theorem dX2_ringless_48 : decode cX2_ringless 48 = .ok (.iaload, 1) := by decide +kernel
theorem dX2_ringless_49 : decode cX2_ringless 49 = .ok (.istore_n 3, 1) := by decide +kernel
theorem dX2_ringless_50 : decode cX2_ringless 50 = .ok (.aload_n 0, 1) := by decide +kernel
theorem dX2_ringless_51 : decode cX2_ringless 51 = .ok (.getfield 20, 3) := by decide +kernel
theorem dX2_ringless_54 : decode cX2_ringless 54 = .ok (.aload_n 0, 1) := by decide +kernel
theorem dX2_ringless_55 : decode cX2_ringless 55 = .ok (.getfield 17, 3) := by decide +kernel
theorem dX2_ringless_58 : decode cX2_ringless 58 = .ok (.iload_n 2, 1) := by decide +kernel
theorem dX2_ringless_59 : decode cX2_ringless 59 = .ok (.iaload, 1) := by decide +kernel
theorem dX2_ringless_60 : decode cX2_ringless 60 = .ok (.iaload, 1) := by decide +kernel
theorem dX2_ringless_61 : decode cX2_ringless 61 = .ok (.istore 4, 2) := by decide +kernel
theorem dX2_ringless_63 : decode cX2_ringless 63 = .ok (.aload_n 0, 1) := by decide +kernel
theorem dX2_ringless_64 : decode cX2_ringless 64 = .ok (.getfield 7, 3) := by decide +kernel
theorem dX2_ringless_67 : decode cX2_ringless 67 = .ok (.iload_n 2, 1) := by decide +kernel
theorem dX2_ringless_68 : decode cX2_ringless 68 = .ok (.baload, 1) := by decide +kernel
theorem dX2_ringless_69 : decode cX2_ringless 69 = .ok (.ifCond .eq 9, 3) := by decide +kernel
theorem dX2_ringless_72 : decode cX2_ringless 72 = .ok (.iload_n 3, 1) := by decide +kernel
theorem dX2_ringless_73 : decode cX2_ringless 73 = .ok (.iload 4, 2) := by decide +kernel
theorem dX2_ringless_75 : decode cX2_ringless 75 = .ok (.if_icmp .ne 5, 3) := by decide +kernel
theorem dX2_ringless_78 : decode cX2_ringless 78 = .ok (.iconst 0, 1) := by decide +kernel
theorem dX2_ringless_79 : decode cX2_ringless 79 = .ok (.ireturn, 1) := by decide +kernel
theorem dX2_ringless_80 : decode cX2_ringless 80 = .ok (.iconst 0, 1) := by decide +kernel
theorem dX2_ringless_81 : decode cX2_ringless 81 = .ok (.istore 5, 2) := by decide +kernel
theorem dX2_ringless_83 : decode cX2_ringless 83 = .ok (.iload 5, 2) := by decide +kernel
theorem dX2_ringless_85 : decode cX2_ringless 85 = .ok (.bipush 6, 2) := by decide +kernel
theorem dX2_ringless_87 : decode cX2_ringless 87 = .ok (.if_icmp .ge 29, 3) := by decide +kernel
theorem dX2_ringless_90 : decode cX2_ringless 90 = .ok (.aload_n 0, 1) := by decide +kernel
theorem dX2_ringless_91 : decode cX2_ringless 91 = .ok (.getfield 20, 3) := by decide +kernel
theorem dX2_ringless_94 : decode cX2_ringless 94 = .ok (.iload 5, 2) := by decide +kernel
theorem dX2_ringless_96 : decode cX2_ringless 96 = .ok (.iaload, 1) := by decide +kernel
theorem dX2_ringless_97 : decode cX2_ringless 97 = .ok (.iload 4, 2) := by decide +kernel
theorem dX2_ringless_99 : decode cX2_ringless 99 = .ok (.if_icmp .ne 11, 3) := by decide +kernel
theorem dX2_ringless_102 : decode cX2_ringless 102 = .ok (.aload_n 0, 1) := by decide +kernel
theorem dX2_ringless_103 : decode cX2_ringless 103 = .ok (.getfield 20, 3) := by decide +kernel
theorem dX2_ringless_106 : decode cX2_ringless 106 = .ok (.iload 5, 2) := by decide +kernel
theorem dX2_ringless_108 : decode cX2_ringless 108 = .ok (.iload_n 3, 1) := by decide +kernel
theorem dX2_ringless_109 : decode cX2_ringless 109 = .ok (.iastore, 1) := by decide +kernel
theorem dX2_ringless_110 : decode cX2_ringless 110 = .ok (.iinc 5 1, 3) := by decide +kernel
theorem dX2_ringless_113 : decode cX2_ringless 113 = .ok (.goto (-30), 3) := by decide +kernel
theorem dX2_ringless_116 : decode cX2_ringless 116 = .ok (.iinc 2 1, 3) := by decide +kernel
theorem dX2_ringless_119 : decode cX2_ringless 119 = .ok (.goto (-96), 3) := by decide +kernel
theorem dX2_ringless_122 : decode cX2_ringless 122 = .ok (.iconst 1, 1) := by decide +kernel
theorem dX2_ringless_123 : decode cX2_ringless 123 = .ok (.ireturn, 1) := by decide +kernel
abbrev cX2_treesWith : ByteArray := prog_3_method_11_code
def yX2_treesWith : MethodName := ⟨RX2, "treesWith", "(I)I"⟩
theorem dX2_treesWith_0 : decode cX2_treesWith 0 = .ok (.iload_n 1, 1) := by decide +kernel
theorem dX2_treesWith_1 : decode cX2_treesWith 1 = .ok (.invokestatic 27, 3) := by decide +kernel
theorem dX2_treesWith_4 : decode cX2_treesWith 4 = .ok (.ifCond .eq 7, 3) := by decide +kernel
theorem dX2_treesWith_7 : decode cX2_treesWith 7 = .ok (.iconst (-1), 1) := by decide +kernel
theorem dX2_treesWith_8 : decode cX2_treesWith 8 = .ok (.goto 13, 3) := by decide +kernel
theorem dX2_treesWith_11 : decode cX2_treesWith 11 = .ok (.aload_n 0, 1) := by decide +kernel
theorem dX2_treesWith_12 : decode cX2_treesWith 12 = .ok (.sipush 1024, 3) := by decide +kernel
theorem dX2_treesWith_15 : decode cX2_treesWith 15 = .ok (.iconst 1, 1) := by decide +kernel
theorem dX2_treesWith_16 : decode cX2_treesWith 16 = .ok (.iload_n 1, 1) := by decide +kernel
theorem dX2_treesWith_17 : decode cX2_treesWith 17 = .ok (.ishl, 1) := by decide +kernel
theorem dX2_treesWith_18 : decode cX2_treesWith 18 = .ok (.invokevirtual 44, 3) := by decide +kernel
theorem dX2_treesWith_21 : decode cX2_treesWith 21 = .ok (.ireturn, 1) := by decide +kernel
abbrev cX2_treesWithBoth : ByteArray := prog_3_method_12_code
def yX2_treesWithBoth : MethodName := ⟨RX2, "treesWithBoth", "(II)I"⟩
theorem dX2_treesWithBoth_0 : decode cX2_treesWithBoth 0 = .ok (.iload_n 1, 1) := by decide +kernel
theorem dX2_treesWithBoth_1 : decode cX2_treesWithBoth 1 = .ok (.invokestatic 27, 3) := by decide +kernel
theorem dX2_treesWithBoth_4 : decode cX2_treesWithBoth 4 = .ok (.ifCond .ne 10, 3) := by decide +kernel
theorem dX2_treesWithBoth_7 : decode cX2_treesWithBoth 7 = .ok (.iload_n 2, 1) := by decide +kernel
theorem dX2_treesWithBoth_8 : decode cX2_treesWithBoth 8 = .ok (.invokestatic 27, 3) := by decide +kernel
theorem dX2_treesWithBoth_11 : decode cX2_treesWithBoth 11 = .ok (.ifCond .eq 7, 3) := by decide +kernel
theorem dX2_treesWithBoth_14 : decode cX2_treesWithBoth 14 = .ok (.iconst (-1), 1) := by decide +kernel
theorem dX2_treesWithBoth_15 : decode cX2_treesWithBoth 15 = .ok (.goto 17, 3) := by decide +kernel
theorem dX2_treesWithBoth_18 : decode cX2_treesWithBoth 18 = .ok (.aload_n 0, 1) := by decide +kernel
theorem dX2_treesWithBoth_19 : decode cX2_treesWithBoth 19 = .ok (.sipush 1024, 3) := by decide +kernel
theorem dX2_treesWithBoth_22 : decode cX2_treesWithBoth 22 = .ok (.iconst 1, 1) := by decide +kernel
theorem dX2_treesWithBoth_23 : decode cX2_treesWithBoth 23 = .ok (.iload_n 1, 1) := by decide +kernel
theorem dX2_treesWithBoth_24 : decode cX2_treesWithBoth 24 = .ok (.ishl, 1) := by decide +kernel
theorem dX2_treesWithBoth_25 : decode cX2_treesWithBoth 25 = .ok (.iconst 1, 1) := by decide +kernel
theorem dX2_treesWithBoth_26 : decode cX2_treesWithBoth 26 = .ok (.iload_n 2, 1) := by decide +kernel
theorem dX2_treesWithBoth_27 : decode cX2_treesWithBoth 27 = .ok (.ishl, 1) := by decide +kernel
theorem dX2_treesWithBoth_28 : decode cX2_treesWithBoth 28 = .ok (.ior, 1) := by decide +kernel
theorem dX2_treesWithBoth_29 : decode cX2_treesWithBoth 29 = .ok (.invokevirtual 44, 3) := by decide +kernel
theorem dX2_treesWithBoth_32 : decode cX2_treesWithBoth 32 = .ok (.ireturn, 1) := by decide +kernel
abbrev cX2_tree : ByteArray := prog_3_method_13_code
def yX2_tree : MethodName := ⟨RX2, "tree", "(I)I"⟩
theorem dX2_tree_0 : decode cX2_tree 0 = .ok (.iconst 0, 1) := by decide +kernel
theorem dX2_tree_1 : decode cX2_tree 1 = .ok (.istore_n 2, 1) := by decide +kernel
theorem dX2_tree_2 : decode cX2_tree 2 = .ok (.iconst 0, 1) := by decide +kernel
theorem dX2_tree_3 : decode cX2_tree 3 = .ok (.istore_n 3, 1) := by decide +kernel
theorem dX2_tree_4 : decode cX2_tree 4 = .ok (.iload_n 3, 1) := by decide +kernel
theorem dX2_tree_5 : decode cX2_tree 5 = .ok (.sipush 1024, 3) := by decide +kernel
theorem dX2_tree_8 : decode cX2_tree 8 = .ok (.if_icmp .ge 27, 3) := by decide +kernel
theorem dX2_tree_11 : decode cX2_tree 11 = .ok (.aload_n 0, 1) := by decide +kernel
theorem dX2_tree_12 : decode cX2_tree 12 = .ok (.iload_n 3, 1) := by decide +kernel
theorem dX2_tree_13 : decode cX2_tree 13 = .ok (.invokevirtual 41, 3) := by decide +kernel
theorem dX2_tree_16 : decode cX2_tree 16 = .ok (.ifCond .eq 13, 3) := by decide +kernel
theorem dX2_tree_19 : decode cX2_tree 19 = .ok (.iload_n 2, 1) := by decide +kernel
theorem dX2_tree_20 : decode cX2_tree 20 = .ok (.iload_n 1, 1) := by decide +kernel
theorem dX2_tree_21 : decode cX2_tree 21 = .ok (.if_icmp .ne 5, 3) := by decide +kernel
theorem dX2_tree_24 : decode cX2_tree 24 = .ok (.iload_n 3, 1) := by decide +kernel
theorem dX2_tree_25 : decode cX2_tree 25 = .ok (.ireturn, 1) := by decide +kernel
theorem dX2_tree_26 : decode cX2_tree 26 = .ok (.iinc 2 1, 3) := by decide +kernel
theorem dX2_tree_29 : decode cX2_tree 29 = .ok (.iinc 3 1, 3) := by decide +kernel
theorem dX2_tree_32 : decode cX2_tree 32 = .ok (.goto (-28), 3) := by decide +kernel
theorem dX2_tree_35 : decode cX2_tree 35 = .ok (.iconst (-1), 1) := by decide +kernel
theorem dX2_tree_36 : decode cX2_tree 36 = .ok (.ireturn, 1) := by decide +kernel
abbrev cX2_mark : ByteArray := prog_3_method_14_code
def yX2_mark : MethodName := ⟨RX2, "mark", "(I)I"⟩
theorem dX2_mark_0 : decode cX2_mark 0 = .ok (.iload_n 1, 1) := by decide +kernel
theorem dX2_mark_1 : decode cX2_mark 1 = .ok (.invokestatic 27, 3) := by decide +kernel
theorem dX2_mark_4 : decode cX2_mark 4 = .ok (.ifCond .eq 5, 3) := by decide +kernel
theorem dX2_mark_7 : decode cX2_mark 7 = .ok (.iconst (-1), 1) := by decide +kernel
theorem dX2_mark_8 : decode cX2_mark 8 = .ok (.ireturn, 1) := by decide +kernel
theorem dX2_mark_9 : decode cX2_mark 9 = .ok (.aload_n 0, 1) := by decide +kernel
theorem dX2_mark_10 : decode cX2_mark 10 = .ok (.dup, 1) := by decide +kernel
theorem dX2_mark_11 : decode cX2_mark 11 = .ok (.getfield 48, 3) := by decide +kernel
theorem dX2_mark_14 : decode cX2_mark 14 = .ok (.iconst 1, 1) := by decide +kernel
theorem dX2_mark_15 : decode cX2_mark 15 = .ok (.iload_n 1, 1) := by decide +kernel
theorem dX2_mark_16 : decode cX2_mark 16 = .ok (.ishl, 1) := by decide +kernel
theorem dX2_mark_17 : decode cX2_mark 17 = .ok (.ixor, 1) := by decide +kernel
theorem dX2_mark_18 : decode cX2_mark 18 = .ok (.putfield 48, 3) := by decide +kernel
theorem dX2_mark_21 : decode cX2_mark 21 = .ok (.aload_n 0, 1) := by decide +kernel
theorem dX2_mark_22 : decode cX2_mark 22 = .ok (.getfield 48, 3) := by decide +kernel
theorem dX2_mark_25 : decode cX2_mark 25 = .ok (.iload_n 1, 1) := by decide +kernel
theorem dX2_mark_26 : decode cX2_mark 26 = .ok (.ishr, 1) := by decide +kernel
theorem dX2_mark_27 : decode cX2_mark 27 = .ok (.iconst 1, 1) := by decide +kernel
theorem dX2_mark_28 : decode cX2_mark 28 = .ok (.iand, 1) := by decide +kernel
theorem dX2_mark_29 : decode cX2_mark 29 = .ok (.ireturn, 1) := by decide +kernel
abbrev cX2_rank : ByteArray := prog_3_method_15_code
def yX2_rank : MethodName := ⟨RX2, "rank", "()I"⟩
theorem dX2_rank_0 : decode cX2_rank 0 = .ok (.aload_n 0, 1) := by decide +kernel
theorem dX2_rank_1 : decode cX2_rank 1 = .ok (.aload_n 0, 1) := by decide +kernel
theorem dX2_rank_2 : decode cX2_rank 2 = .ok (.getfield 48, 3) := by decide +kernel
theorem dX2_rank_5 : decode cX2_rank 5 = .ok (.invokevirtual 41, 3) := by decide +kernel
theorem dX2_rank_8 : decode cX2_rank 8 = .ok (.ifCond .eq 15, 3) := by decide +kernel
theorem dX2_rank_11 : decode cX2_rank 11 = .ok (.aload_n 0, 1) := by decide +kernel
theorem dX2_rank_12 : decode cX2_rank 12 = .ok (.aload_n 0, 1) := by decide +kernel
theorem dX2_rank_13 : decode cX2_rank 13 = .ok (.getfield 48, 3) := by decide +kernel
theorem dX2_rank_16 : decode cX2_rank 16 = .ok (.iconst 0, 1) := by decide +kernel
theorem dX2_rank_17 : decode cX2_rank 17 = .ok (.invokevirtual 44, 3) := by decide +kernel
theorem dX2_rank_20 : decode cX2_rank 20 = .ok (.goto 4, 3) := by decide +kernel
theorem dX2_rank_23 : decode cX2_rank 23 = .ok (.iconst (-1), 1) := by decide +kernel
theorem dX2_rank_24 : decode cX2_rank 24 = .ok (.ireturn, 1) := by decide +kernel
abbrev cX2_below : ByteArray := prog_3_method_16_code
def yX2_below : MethodName := ⟨RX2, "below", "()I"⟩
theorem dX2_below_0 : decode cX2_below 0 = .ok (.aload_n 0, 1) := by decide +kernel
theorem dX2_below_1 : decode cX2_below 1 = .ok (.aload_n 0, 1) := by decide +kernel
theorem dX2_below_2 : decode cX2_below 2 = .ok (.getfield 48, 3) := by decide +kernel
theorem dX2_below_5 : decode cX2_below 5 = .ok (.iconst 0, 1) := by decide +kernel
theorem dX2_below_6 : decode cX2_below 6 = .ok (.invokevirtual 44, 3) := by decide +kernel
theorem dX2_below_9 : decode cX2_below 9 = .ok (.ireturn, 1) := by decide +kernel
abbrev cX2_extensions : ByteArray := prog_3_method_17_code
def yX2_extensions : MethodName := ⟨RX2, "extensions", "()I"⟩
theorem dX2_extensions_0 : decode cX2_extensions 0 = .ok (.aload_n 0, 1) := by decide +kernel
theorem dX2_extensions_1 : decode cX2_extensions 1 = .ok (.sipush 1024, 3) := by decide +kernel
theorem dX2_extensions_4 : decode cX2_extensions 4 = .ok (.aload_n 0, 1) := by decide +kernel
theorem dX2_extensions_5 : decode cX2_extensions 5 = .ok (.getfield 48, 3) := by decide +kernel
theorem dX2_extensions_8 : decode cX2_extensions 8 = .ok (.invokevirtual 44, 3) := by decide +kernel
theorem dX2_extensions_11 : decode cX2_extensions 11 = .ok (.ireturn, 1) := by decide +kernel
abbrev cX2_surplus : ByteArray := prog_3_method_18_code
def yX2_surplus : MethodName := ⟨RX2, "surplus", "()I"⟩
theorem dX2_surplus_0 : decode cX2_surplus 0 = .ok (.iconst 0, 1) := by decide +kernel
theorem dX2_surplus_1 : decode cX2_surplus 1 = .ok (.istore_n 1, 1) := by decide +kernel
theorem dX2_surplus_2 : decode cX2_surplus 2 = .ok (.iconst 0, 1) := by decide +kernel
theorem dX2_surplus_3 : decode cX2_surplus 3 = .ok (.istore_n 2, 1) := by decide +kernel
theorem dX2_surplus_4 : decode cX2_surplus 4 = .ok (.iload_n 2, 1) := by decide +kernel
theorem dX2_surplus_5 : decode cX2_surplus 5 = .ok (.bipush 10, 2) := by decide +kernel
theorem dX2_surplus_7 : decode cX2_surplus 7 = .ok (.if_icmp .ge 36, 3) := by decide +kernel
theorem dX2_surplus_10 : decode cX2_surplus 10 = .ok (.aload_n 0, 1) := by decide +kernel
theorem dX2_surplus_11 : decode cX2_surplus 11 = .ok (.getfield 7, 3) := by decide +kernel
theorem dX2_surplus_14 : decode cX2_surplus 14 = .ok (.iload_n 2, 1) := by decide +kernel
theorem dX2_surplus_15 : decode cX2_surplus 15 = .ok (.baload, 1) := by decide +kernel
theorem dX2_surplus_16 : decode cX2_surplus 16 = .ok (.ifCond .eq 21, 3) := by decide +kernel
theorem dX2_surplus_19 : decode cX2_surplus 19 = .ok (.aload_n 0, 1) := by decide +kernel
theorem dX2_surplus_20 : decode cX2_surplus 20 = .ok (.getfield 48, 3) := by decide +kernel
theorem dX2_surplus_23 : decode cX2_surplus 23 = .ok (.iload_n 2, 1) := by decide +kernel
theorem dX2_surplus_24 : decode cX2_surplus 24 = .ok (.ishr, 1) := by decide +kernel
theorem dX2_surplus_25 : decode cX2_surplus 25 = .ok (.iconst 1, 1) := by decide +kernel
theorem dX2_surplus_26 : decode cX2_surplus 26 = .ok (.iand, 1) := by decide +kernel
theorem dX2_surplus_27 : decode cX2_surplus 27 = .ok (.iconst 1, 1) := by decide +kernel
theorem dX2_surplus_28 : decode cX2_surplus 28 = .ok (.if_icmp .ne 9, 3) := by decide +kernel
theorem dX2_surplus_31 : decode cX2_surplus 31 = .ok (.iload_n 1, 1) := by decide +kernel
theorem dX2_surplus_32 : decode cX2_surplus 32 = .ok (.iconst 1, 1) := by decide +kernel
theorem dX2_surplus_33 : decode cX2_surplus 33 = .ok (.iload_n 2, 1) := by decide +kernel
theorem dX2_surplus_34 : decode cX2_surplus 34 = .ok (.ishl, 1) := by decide +kernel
theorem dX2_surplus_35 : decode cX2_surplus 35 = .ok (.ior, 1) := by decide +kernel
theorem dX2_surplus_36 : decode cX2_surplus 36 = .ok (.istore_n 1, 1) := by decide +kernel
theorem dX2_surplus_37 : decode cX2_surplus 37 = .ok (.iinc 2 1, 3) := by decide +kernel
theorem dX2_surplus_40 : decode cX2_surplus 40 = .ok (.goto (-36), 3) := by decide +kernel
theorem dX2_surplus_43 : decode cX2_surplus 43 = .ok (.bipush 10, 2) := by decide +kernel
theorem dX2_surplus_45 : decode cX2_surplus 45 = .ok (.istore_n 2, 1) := by decide +kernel
theorem dX2_surplus_46 : decode cX2_surplus 46 = .ok (.iconst 0, 1) := by decide +kernel
theorem dX2_surplus_47 : decode cX2_surplus 47 = .ok (.istore_n 3, 1) := by decide +kernel
theorem dX2_surplus_48 : decode cX2_surplus 48 = .ok (.iload_n 3, 1) := by decide +kernel
theorem dX2_surplus_49 : decode cX2_surplus 49 = .ok (.sipush 1024, 3) := by decide +kernel
theorem dX2_surplus_52 : decode cX2_surplus 52 = .ok (.if_icmp .ge 45, 3) := by decide +kernel
theorem dX2_surplus_55 : decode cX2_surplus 55 = .ok (.iload_n 3, 1) := by decide +kernel
theorem dX2_surplus_56 : decode cX2_surplus 56 = .ok (.iload_n 1, 1) := by decide +kernel
theorem dX2_surplus_57 : decode cX2_surplus 57 = .ok (.iconst (-1), 1) := by decide +kernel
theorem dX2_surplus_58 : decode cX2_surplus 58 = .ok (.ixor, 1) := by decide +kernel
theorem dX2_surplus_59 : decode cX2_surplus 59 = .ok (.iand, 1) := by decide +kernel
theorem dX2_surplus_60 : decode cX2_surplus 60 = .ok (.ifCond .ne 31, 3) := by decide +kernel
theorem dX2_surplus_63 : decode cX2_surplus 63 = .ok (.aload_n 0, 1) := by decide +kernel
theorem dX2_surplus_64 : decode cX2_surplus 64 = .ok (.iload_n 3, 1) := by decide +kernel
theorem dX2_surplus_65 : decode cX2_surplus 65 = .ok (.invokevirtual 38, 3) := by decide +kernel
theorem dX2_surplus_68 : decode cX2_surplus 68 = .ok (.ifCond .eq 23, 3) := by decide +kernel
theorem dX2_surplus_71 : decode cX2_surplus 71 = .ok (.iload_n 1, 1) := by decide +kernel
theorem dX2_surplus_72 : decode cX2_surplus 72 = .ok (.invokestatic 34, 3) := by decide +kernel
theorem dX2_surplus_75 : decode cX2_surplus 75 = .ok (.iload_n 3, 1) := by decide +kernel
theorem dX2_surplus_76 : decode cX2_surplus 76 = .ok (.invokestatic 34, 3) := by decide +kernel
theorem dX2_surplus_79 : decode cX2_surplus 79 = .ok (.isub, 1) := by decide +kernel
theorem dX2_surplus_80 : decode cX2_surplus 80 = .ok (.istore 4, 2) := by decide +kernel
theorem dX2_surplus_82 : decode cX2_surplus 82 = .ok (.iload 4, 2) := by decide +kernel
theorem dX2_surplus_84 : decode cX2_surplus 84 = .ok (.iload_n 2, 1) := by decide +kernel
theorem dX2_surplus_85 : decode cX2_surplus 85 = .ok (.if_icmp .ge 6, 3) := by decide +kernel
theorem dX2_surplus_88 : decode cX2_surplus 88 = .ok (.iload 4, 2) := by decide +kernel
theorem dX2_surplus_90 : decode cX2_surplus 90 = .ok (.istore_n 2, 1) := by decide +kernel
theorem dX2_surplus_91 : decode cX2_surplus 91 = .ok (.iinc 3 1, 3) := by decide +kernel
theorem dX2_surplus_94 : decode cX2_surplus 94 = .ok (.goto (-46), 3) := by decide +kernel
theorem dX2_surplus_97 : decode cX2_surplus 97 = .ok (.iload_n 2, 1) := by decide +kernel
theorem dX2_surplus_98 : decode cX2_surplus 98 = .ok (.ireturn, 1) := by decide +kernel
theorem q13 : (Jvm.Cond.initialized "TreeRankerModel") ∈ lw_all := lw_g (lw_at lw_m0 2 rfl) rfl
theorem q131 : (Jvm.Cond.instantiable "TreeRankerModel" (6 : Nat)) ∈ lw_all := lw_g (lw_at lw_m0 120 rfl) rfl
theorem q133 : (Jvm.Cond.instanceMethod ({ cls := "TreeRankerModel", name := "<init>", desc := "(I)V" } : Jvm.MethodName)) ∈ lw_all := lw_g (lw_at lw_m0 122 rfl) rfl
theorem q134 : (Jvm.Cond.code ({ cls := "TreeRankerModel", name := "<init>", desc := "(I)V" } : Jvm.MethodName) prog_3_method_1_code (2 : Nat) (Option.none : Option Jvm.ClassFile.FieldType)) ∈ lw_all := lw_g (lw_at lw_m0 123 rfl) rfl
theorem q135 : (Jvm.Cond.methodLink "TreeRankerModel" (1 : Nat) ({ cls := "java/lang/Object", name := "<init>", desc := "()V" } : Jvm.MethodName)) ∈ lw_all := lw_g (lw_at lw_m0 124 rfl) rfl
theorem q136 : (Jvm.Cond.fieldLink "TreeRankerModel" (23 : Nat) "TreeRankerModel" "n" "I") ∈ lw_all := lw_g (lw_at lw_m0 125 rfl) rfl
theorem q137 : (Jvm.Cond.fieldLink "TreeRankerModel" (7 : Nat) "TreeRankerModel" "there" "[Z") ∈ lw_all := lw_g (lw_at lw_m0 126 rfl) rfl
theorem q138 : (Jvm.Cond.fieldLink "TreeRankerModel" (13 : Nat) "TreeRankerModel" "from" "[I") ∈ lw_all := lw_g (lw_at lw_m0 127 rfl) rfl
theorem q139 : (Jvm.Cond.fieldLink "TreeRankerModel" (17 : Nat) "TreeRankerModel" "to" "[I") ∈ lw_all := lw_g (lw_at lw_m0 128 rfl) rfl
theorem q140 : (Jvm.Cond.fieldLink "TreeRankerModel" (48 : Nat) "TreeRankerModel" "marked" "I") ∈ lw_all := lw_g (lw_at lw_m0 129 rfl) rfl
theorem q141 : (Jvm.Cond.fieldLink "TreeRankerModel" (20 : Nat) "TreeRankerModel" "part" "[I") ∈ lw_all := lw_g (lw_at lw_m0 130 rfl) rfl
theorem q142 : (Jvm.Cond.lays "TreeRankerModel" "TreeRankerModel" "n" "I") ∈ lw_all := lw_g (lw_at lw_m0 131 rfl) rfl
theorem q143 : (Jvm.Cond.soleField "TreeRankerModel" "n") ∈ lw_all := lw_g (lw_at lw_m0 132 rfl) rfl
theorem q144 : (Jvm.Cond.laysFinal "TreeRankerModel" "TreeRankerModel" "there" "[Z") ∈ lw_all := lw_g (lw_at lw_m0 133 rfl) rfl
theorem q145 : (Jvm.Cond.soleField "TreeRankerModel" "there") ∈ lw_all := lw_g (lw_at lw_m0 134 rfl) rfl
theorem q146 : (Jvm.Cond.laysFinal "TreeRankerModel" "TreeRankerModel" "from" "[I") ∈ lw_all := lw_g (lw_at lw_m0 135 rfl) rfl
theorem q147 : (Jvm.Cond.soleField "TreeRankerModel" "from") ∈ lw_all := lw_g (lw_at lw_m0 136 rfl) rfl
theorem q148 : (Jvm.Cond.laysFinal "TreeRankerModel" "TreeRankerModel" "to" "[I") ∈ lw_all := lw_g (lw_at lw_m0 137 rfl) rfl
theorem q149 : (Jvm.Cond.soleField "TreeRankerModel" "to") ∈ lw_all := lw_g (lw_at lw_m0 138 rfl) rfl
theorem q150 : (Jvm.Cond.lays "TreeRankerModel" "TreeRankerModel" "marked" "I") ∈ lw_all := lw_g (lw_at lw_m0 139 rfl) rfl
theorem q151 : (Jvm.Cond.soleField "TreeRankerModel" "marked") ∈ lw_all := lw_g (lw_at lw_m0 140 rfl) rfl
theorem q152 : (Jvm.Cond.laysFinal "TreeRankerModel" "TreeRankerModel" "part" "[I") ∈ lw_all := lw_g (lw_at lw_m0 141 rfl) rfl
theorem q153 : (Jvm.Cond.soleField "TreeRankerModel" "part") ∈ lw_all := lw_g (lw_at lw_m0 142 rfl) rfl
theorem q154 : (Jvm.Cond.superclass "TreeRankerModel" "java/lang/Object") ∈ lw_all := lw_g (lw_at lw_m0 143 rfl) rfl
theorem q156 : (Jvm.Cond.instanceMethod ({ cls := "TreeRankerModel", name := "draw", desc := "(III)I" } : Jvm.MethodName)) ∈ lw_all := lw_g (lw_at lw_m0 145 rfl) rfl
theorem q157 : (Jvm.Cond.selects "TreeRankerModel" ({ cls := "TreeRankerModel", name := "draw", desc := "(III)I" } : Jvm.MethodName) ({ cls := "TreeRankerModel", name := "draw", desc := "(III)I" } : Jvm.MethodName)) ∈ lw_all := lw_g (lw_at lw_m0 146 rfl) rfl
theorem q158 : (Jvm.Cond.code ({ cls := "TreeRankerModel", name := "draw", desc := "(III)I" } : Jvm.MethodName) prog_3_method_4_code (4 : Nat) (Option.some Jvm.ClassFile.FieldType.int)) ∈ lw_all := lw_g (lw_at lw_m0 147 rfl) rfl
theorem q159 : (Jvm.Cond.methodLink "TreeRankerModel" (27 : Nat) ({ cls := "TreeRankerModel", name := "badLine", desc := "(I)Z" } : Jvm.MethodName)) ∈ lw_all := lw_g (lw_at lw_m0 148 rfl) rfl
theorem q160 : (Jvm.Cond.static ({ cls := "TreeRankerModel", name := "badLine", desc := "(I)Z" } : Jvm.MethodName)) ∈ lw_all := lw_g (lw_at lw_m0 149 rfl) rfl
theorem q161 : (Jvm.Cond.code ({ cls := "TreeRankerModel", name := "badLine", desc := "(I)Z" } : Jvm.MethodName) prog_3_method_2_code (1 : Nat) (Option.some Jvm.ClassFile.FieldType.boolean)) ∈ lw_all := lw_g (lw_at lw_m0 150 rfl) rfl
theorem q162 : (Jvm.Cond.methodLink "TreeRankerModel" (31 : Nat) ({ cls := "TreeRankerModel", name := "badPoint", desc := "(I)Z" } : Jvm.MethodName)) ∈ lw_all := lw_g (lw_at lw_m0 151 rfl) rfl
theorem q163 : (Jvm.Cond.privateMethod ({ cls := "TreeRankerModel", name := "badPoint", desc := "(I)Z" } : Jvm.MethodName)) ∈ lw_tbl := lw_at lw_m0 152 rfl
theorem q164 : (Jvm.Cond.instanceMethod ({ cls := "TreeRankerModel", name := "badPoint", desc := "(I)Z" } : Jvm.MethodName)) ∈ lw_all := lw_g (lw_at lw_m0 153 rfl) rfl
theorem q165 : (Jvm.Cond.code ({ cls := "TreeRankerModel", name := "badPoint", desc := "(I)Z" } : Jvm.MethodName) prog_3_method_3_code (2 : Nat) (Option.some Jvm.ClassFile.FieldType.boolean)) ∈ lw_all := lw_g (lw_at lw_m0 154 rfl) rfl
theorem q167 : (Jvm.Cond.instanceMethod ({ cls := "TreeRankerModel", name := "cut", desc := "(I)I" } : Jvm.MethodName)) ∈ lw_all := lw_g (lw_at lw_m0 156 rfl) rfl
theorem q168 : (Jvm.Cond.selects "TreeRankerModel" ({ cls := "TreeRankerModel", name := "cut", desc := "(I)I" } : Jvm.MethodName) ({ cls := "TreeRankerModel", name := "cut", desc := "(I)I" } : Jvm.MethodName)) ∈ lw_all := lw_g (lw_at lw_m0 157 rfl) rfl
theorem q169 : (Jvm.Cond.code ({ cls := "TreeRankerModel", name := "cut", desc := "(I)I" } : Jvm.MethodName) prog_3_method_5_code (3 : Nat) (Option.some Jvm.ClassFile.FieldType.int)) ∈ lw_all := lw_g (lw_at lw_m0 158 rfl) rfl
theorem q171 : (Jvm.Cond.instanceMethod ({ cls := "TreeRankerModel", name := "trees", desc := "()I" } : Jvm.MethodName)) ∈ lw_all := lw_g (lw_at lw_m0 160 rfl) rfl
theorem q172 : (Jvm.Cond.selects "TreeRankerModel" ({ cls := "TreeRankerModel", name := "trees", desc := "()I" } : Jvm.MethodName) ({ cls := "TreeRankerModel", name := "trees", desc := "()I" } : Jvm.MethodName)) ∈ lw_all := lw_g (lw_at lw_m0 161 rfl) rfl
theorem q173 : (Jvm.Cond.code ({ cls := "TreeRankerModel", name := "trees", desc := "()I" } : Jvm.MethodName) prog_3_method_10_code (1 : Nat) (Option.some Jvm.ClassFile.FieldType.int)) ∈ lw_all := lw_g (lw_at lw_m0 162 rfl) rfl
theorem q174 : (Jvm.Cond.methodLink "TreeRankerModel" (44 : Nat) ({ cls := "TreeRankerModel", name := "count", desc := "(II)I" } : Jvm.MethodName)) ∈ lw_all := lw_g (lw_at lw_m0 163 rfl) rfl
theorem q175 : (Jvm.Cond.privateMethod ({ cls := "TreeRankerModel", name := "count", desc := "(II)I" } : Jvm.MethodName)) ∈ lw_tbl := lw_at lw_m0 164 rfl
theorem q176 : (Jvm.Cond.instanceMethod ({ cls := "TreeRankerModel", name := "count", desc := "(II)I" } : Jvm.MethodName)) ∈ lw_all := lw_g (lw_at lw_m0 165 rfl) rfl
theorem q177 : (Jvm.Cond.code ({ cls := "TreeRankerModel", name := "count", desc := "(II)I" } : Jvm.MethodName) prog_3_method_9_code (5 : Nat) (Option.some Jvm.ClassFile.FieldType.int)) ∈ lw_all := lw_g (lw_at lw_m0 166 rfl) rfl
theorem q178 : (Jvm.Cond.methodLink "TreeRankerModel" (41 : Nat) ({ cls := "TreeRankerModel", name := "isTree", desc := "(I)Z" } : Jvm.MethodName)) ∈ lw_all := lw_g (lw_at lw_m0 167 rfl) rfl
theorem q179 : (Jvm.Cond.privateMethod ({ cls := "TreeRankerModel", name := "isTree", desc := "(I)Z" } : Jvm.MethodName)) ∈ lw_tbl := lw_at lw_m0 168 rfl
theorem q180 : (Jvm.Cond.instanceMethod ({ cls := "TreeRankerModel", name := "isTree", desc := "(I)Z" } : Jvm.MethodName)) ∈ lw_all := lw_g (lw_at lw_m0 169 rfl) rfl
theorem q181 : (Jvm.Cond.code ({ cls := "TreeRankerModel", name := "isTree", desc := "(I)Z" } : Jvm.MethodName) prog_3_method_8_code (2 : Nat) (Option.some Jvm.ClassFile.FieldType.boolean)) ∈ lw_all := lw_g (lw_at lw_m0 170 rfl) rfl
theorem q182 : (Jvm.Cond.methodLink "TreeRankerModel" (34 : Nat) ({ cls := "TreeRankerModel", name := "ones", desc := "(I)I" } : Jvm.MethodName)) ∈ lw_all := lw_g (lw_at lw_m0 171 rfl) rfl
theorem q183 : (Jvm.Cond.static ({ cls := "TreeRankerModel", name := "ones", desc := "(I)I" } : Jvm.MethodName)) ∈ lw_all := lw_g (lw_at lw_m0 172 rfl) rfl
theorem q184 : (Jvm.Cond.code ({ cls := "TreeRankerModel", name := "ones", desc := "(I)I" } : Jvm.MethodName) prog_3_method_6_code (3 : Nat) (Option.some Jvm.ClassFile.FieldType.int)) ∈ lw_all := lw_g (lw_at lw_m0 173 rfl) rfl
theorem q185 : (Jvm.Cond.methodLink "TreeRankerModel" (38 : Nat) ({ cls := "TreeRankerModel", name := "ringless", desc := "(I)Z" } : Jvm.MethodName)) ∈ lw_all := lw_g (lw_at lw_m0 174 rfl) rfl
theorem q186 : (Jvm.Cond.privateMethod ({ cls := "TreeRankerModel", name := "ringless", desc := "(I)Z" } : Jvm.MethodName)) ∈ lw_tbl := lw_at lw_m0 175 rfl
theorem q187 : (Jvm.Cond.instanceMethod ({ cls := "TreeRankerModel", name := "ringless", desc := "(I)Z" } : Jvm.MethodName)) ∈ lw_all := lw_g (lw_at lw_m0 176 rfl) rfl
theorem q188 : (Jvm.Cond.code ({ cls := "TreeRankerModel", name := "ringless", desc := "(I)Z" } : Jvm.MethodName) prog_3_method_7_code (6 : Nat) (Option.some Jvm.ClassFile.FieldType.boolean)) ∈ lw_all := lw_g (lw_at lw_m0 177 rfl) rfl
theorem q190 : (Jvm.Cond.instanceMethod ({ cls := "TreeRankerModel", name := "treesWith", desc := "(I)I" } : Jvm.MethodName)) ∈ lw_all := lw_g (lw_at lw_m0 179 rfl) rfl
theorem q191 : (Jvm.Cond.selects "TreeRankerModel" ({ cls := "TreeRankerModel", name := "treesWith", desc := "(I)I" } : Jvm.MethodName) ({ cls := "TreeRankerModel", name := "treesWith", desc := "(I)I" } : Jvm.MethodName)) ∈ lw_all := lw_g (lw_at lw_m0 180 rfl) rfl
theorem q192 : (Jvm.Cond.code ({ cls := "TreeRankerModel", name := "treesWith", desc := "(I)I" } : Jvm.MethodName) prog_3_method_11_code (2 : Nat) (Option.some Jvm.ClassFile.FieldType.int)) ∈ lw_all := lw_g (lw_at lw_m0 181 rfl) rfl
theorem q194 : (Jvm.Cond.instanceMethod ({ cls := "TreeRankerModel", name := "treesWithBoth", desc := "(II)I" } : Jvm.MethodName)) ∈ lw_all := lw_g (lw_at lw_m0 183 rfl) rfl
theorem q195 : (Jvm.Cond.selects "TreeRankerModel" ({ cls := "TreeRankerModel", name := "treesWithBoth", desc := "(II)I" } : Jvm.MethodName) ({ cls := "TreeRankerModel", name := "treesWithBoth", desc := "(II)I" } : Jvm.MethodName)) ∈ lw_all := lw_g (lw_at lw_m0 184 rfl) rfl
theorem q196 : (Jvm.Cond.code ({ cls := "TreeRankerModel", name := "treesWithBoth", desc := "(II)I" } : Jvm.MethodName) prog_3_method_12_code (3 : Nat) (Option.some Jvm.ClassFile.FieldType.int)) ∈ lw_all := lw_g (lw_at lw_m0 185 rfl) rfl
theorem q198 : (Jvm.Cond.instanceMethod ({ cls := "TreeRankerModel", name := "tree", desc := "(I)I" } : Jvm.MethodName)) ∈ lw_all := lw_g (lw_at lw_m0 187 rfl) rfl
theorem q199 : (Jvm.Cond.selects "TreeRankerModel" ({ cls := "TreeRankerModel", name := "tree", desc := "(I)I" } : Jvm.MethodName) ({ cls := "TreeRankerModel", name := "tree", desc := "(I)I" } : Jvm.MethodName)) ∈ lw_all := lw_g (lw_at lw_m0 188 rfl) rfl
theorem q200 : (Jvm.Cond.code ({ cls := "TreeRankerModel", name := "tree", desc := "(I)I" } : Jvm.MethodName) prog_3_method_13_code (4 : Nat) (Option.some Jvm.ClassFile.FieldType.int)) ∈ lw_all := lw_g (lw_at lw_m0 189 rfl) rfl
theorem q202 : (Jvm.Cond.instanceMethod ({ cls := "TreeRankerModel", name := "mark", desc := "(I)I" } : Jvm.MethodName)) ∈ lw_all := lw_g (lw_at lw_m0 191 rfl) rfl
theorem q203 : (Jvm.Cond.selects "TreeRankerModel" ({ cls := "TreeRankerModel", name := "mark", desc := "(I)I" } : Jvm.MethodName) ({ cls := "TreeRankerModel", name := "mark", desc := "(I)I" } : Jvm.MethodName)) ∈ lw_all := lw_g (lw_at lw_m0 192 rfl) rfl
theorem q204 : (Jvm.Cond.code ({ cls := "TreeRankerModel", name := "mark", desc := "(I)I" } : Jvm.MethodName) prog_3_method_14_code (2 : Nat) (Option.some Jvm.ClassFile.FieldType.int)) ∈ lw_all := lw_g (lw_at lw_m0 193 rfl) rfl
theorem q206 : (Jvm.Cond.instanceMethod ({ cls := "TreeRankerModel", name := "rank", desc := "()I" } : Jvm.MethodName)) ∈ lw_all := lw_g (lw_at lw_m0 195 rfl) rfl
theorem q207 : (Jvm.Cond.selects "TreeRankerModel" ({ cls := "TreeRankerModel", name := "rank", desc := "()I" } : Jvm.MethodName) ({ cls := "TreeRankerModel", name := "rank", desc := "()I" } : Jvm.MethodName)) ∈ lw_all := lw_g (lw_at lw_m0 196 rfl) rfl
theorem q208 : (Jvm.Cond.code ({ cls := "TreeRankerModel", name := "rank", desc := "()I" } : Jvm.MethodName) prog_3_method_15_code (1 : Nat) (Option.some Jvm.ClassFile.FieldType.int)) ∈ lw_all := lw_g (lw_at lw_m0 197 rfl) rfl
theorem q210 : (Jvm.Cond.instanceMethod ({ cls := "TreeRankerModel", name := "below", desc := "()I" } : Jvm.MethodName)) ∈ lw_all := lw_g (lw_at lw_m0 199 rfl) rfl
theorem q211 : (Jvm.Cond.selects "TreeRankerModel" ({ cls := "TreeRankerModel", name := "below", desc := "()I" } : Jvm.MethodName) ({ cls := "TreeRankerModel", name := "below", desc := "()I" } : Jvm.MethodName)) ∈ lw_all := lw_g (lw_at lw_m0 200 rfl) rfl
theorem q212 : (Jvm.Cond.code ({ cls := "TreeRankerModel", name := "below", desc := "()I" } : Jvm.MethodName) prog_3_method_16_code (1 : Nat) (Option.some Jvm.ClassFile.FieldType.int)) ∈ lw_all := lw_g (lw_at lw_m0 201 rfl) rfl
theorem q214 : (Jvm.Cond.instanceMethod ({ cls := "TreeRankerModel", name := "extensions", desc := "()I" } : Jvm.MethodName)) ∈ lw_all := lw_g (lw_at lw_m0 203 rfl) rfl
theorem q215 : (Jvm.Cond.selects "TreeRankerModel" ({ cls := "TreeRankerModel", name := "extensions", desc := "()I" } : Jvm.MethodName) ({ cls := "TreeRankerModel", name := "extensions", desc := "()I" } : Jvm.MethodName)) ∈ lw_all := lw_g (lw_at lw_m0 204 rfl) rfl
theorem q216 : (Jvm.Cond.code ({ cls := "TreeRankerModel", name := "extensions", desc := "()I" } : Jvm.MethodName) prog_3_method_17_code (1 : Nat) (Option.some Jvm.ClassFile.FieldType.int)) ∈ lw_all := lw_g (lw_at lw_m0 205 rfl) rfl
theorem q218 : (Jvm.Cond.instanceMethod ({ cls := "TreeRankerModel", name := "surplus", desc := "()I" } : Jvm.MethodName)) ∈ lw_all := lw_g (lw_at lw_m0 207 rfl) rfl
theorem q219 : (Jvm.Cond.selects "TreeRankerModel" ({ cls := "TreeRankerModel", name := "surplus", desc := "()I" } : Jvm.MethodName) ({ cls := "TreeRankerModel", name := "surplus", desc := "()I" } : Jvm.MethodName)) ∈ lw_all := lw_g (lw_at lw_m0 208 rfl) rfl
theorem q220 : (Jvm.Cond.code ({ cls := "TreeRankerModel", name := "surplus", desc := "()I" } : Jvm.MethodName) prog_3_method_18_code (5 : Nat) (Option.some Jvm.ClassFile.FieldType.int)) ∈ lw_all := lw_g (lw_at lw_m0 209 rfl) rfl
theorem in_X2 : ∀ w ∈ wsX20, w ∈ lw_all := lw_in wsX20 [142, 144, 146, 148, 150, 152] (by decide +kernel) (by decide +kernel)
end
section
set_option maxRecDepth 100000
/-! java/lang/Object -/
set_option maxRecDepth 100000
def RJ0 : String := "java/lang/Object"
abbrev cJ0_init : ByteArray := object_method_1_code
def yJ0_init : MethodName := ⟨RJ0, "<init>", "()V"⟩
theorem dJ0_init_0 : decode cJ0_init 0 = .ok (.return_, 1) := by decide +kernel
theorem q20 : (Jvm.Cond.instanceMethod ({ cls := "java/lang/Object", name := "<init>", desc := "()V" } : Jvm.MethodName)) ∈ lw_all := lw_g (lw_at lw_m0 9 rfl) rfl
theorem q21 : (Jvm.Cond.code ({ cls := "java/lang/Object", name := "<init>", desc := "()V" } : Jvm.MethodName) object_method_1_code (1 : Nat) (Option.none : Option Jvm.ClassFile.FieldType)) ∈ lw_all := lw_g (lw_at lw_m0 10 rfl) rfl
theorem q47 : (Jvm.Cond.arrayClass Jvm.ClassFile.FieldType.boolean) ∈ lw_all := lw_g (lw_at lw_m0 36 rfl) rfl
set_option maxRecDepth 100000
theorem q48 : (Jvm.Cond.arrayClass Jvm.ClassFile.FieldType.int) ∈ lw_all := lw_g (lw_at lw_m0 37 rfl) rfl
theorem q49 : (Jvm.Cond.arrayClass Jvm.ClassFile.FieldType.long) ∈ lw_all := lw_g (lw_at lw_m0 38 rfl) rfl
/-! TreeRankerLaw -/
set_option maxRecDepth 100000
def RX0 : String := "TreeRankerLaw"
abbrev cX0_cell : ByteArray := method_2_code
def yX0_cell : MethodName := ⟨RX0, "cell", "([II)I"⟩
theorem dX0_cell_0 : decode cX0_cell 0 = .ok (.iload_n 1, 1) := by decide +kernel
theorem dX0_cell_1 : decode cX0_cell 1 = .ok (.aload_n 0, 1) := by decide +kernel
theorem dX0_cell_2 : decode cX0_cell 2 = .ok (.arraylength, 1) := by decide +kernel
theorem dX0_cell_3 : decode cX0_cell 3 = .ok (.if_icmp .ge 9, 3) := by decide +kernel
theorem dX0_cell_6 : decode cX0_cell 6 = .ok (.aload_n 0, 1) := by decide +kernel
theorem dX0_cell_7 : decode cX0_cell 7 = .ok (.iload_n 1, 1) := by decide +kernel
theorem dX0_cell_8 : decode cX0_cell 8 = .ok (.iaload, 1) := by decide +kernel
theorem dX0_cell_9 : decode cX0_cell 9 = .ok (.goto 4, 3) := by decide +kernel
theorem dX0_cell_12 : decode cX0_cell 12 = .ok (.iconst 0, 1) := by decide +kernel
theorem dX0_cell_13 : decode cX0_cell 13 = .ok (.ireturn, 1) := by decide +kernel
theorem q11 : (Jvm.Cond.initialized "TreeRankerLaw") ∈ lw_all := lw_g (lw_at lw_m0 0 rfl) rfl
theorem q14 : (Jvm.Cond.classLink "TreeRankerLaw" (7 : Nat) "TreeRanker") ∈ lw_all := lw_g (lw_at lw_m0 3 rfl) rfl
theorem q16 : (Jvm.Cond.methodLink "TreeRankerLaw" (15 : Nat) ({ cls := "TreeRanker", name := "<init>", desc := "(I)V" } : Jvm.MethodName)) ∈ lw_all := lw_g (lw_at lw_m0 5 rfl) rfl
theorem q50 : (Jvm.Cond.methodLink "TreeRankerLaw" (21 : Nat) ({ cls := "TreeRanker", name := "draw", desc := "(III)I" } : Jvm.MethodName)) ∈ lw_all := lw_g (lw_at lw_m0 39 rfl) rfl
theorem q57 : (Jvm.Cond.methodLink "TreeRankerLaw" (26 : Nat) ({ cls := "TreeRanker", name := "cut", desc := "(I)I" } : Jvm.MethodName)) ∈ lw_all := lw_g (lw_at lw_m0 46 rfl) rfl
theorem q61 : (Jvm.Cond.methodLink "TreeRankerLaw" (31 : Nat) ({ cls := "TreeRanker", name := "trees", desc := "()I" } : Jvm.MethodName)) ∈ lw_all := lw_g (lw_at lw_m0 50 rfl) rfl
theorem q93 : (Jvm.Cond.methodLink "TreeRankerLaw" (36 : Nat) ({ cls := "TreeRanker", name := "treesWith", desc := "(I)I" } : Jvm.MethodName)) ∈ lw_all := lw_g (lw_at lw_m0 82 rfl) rfl
theorem q97 : (Jvm.Cond.methodLink "TreeRankerLaw" (40 : Nat) ({ cls := "TreeRanker", name := "treesWithBoth", desc := "(II)I" } : Jvm.MethodName)) ∈ lw_all := lw_g (lw_at lw_m0 86 rfl) rfl
theorem q101 : (Jvm.Cond.methodLink "TreeRankerLaw" (45 : Nat) ({ cls := "TreeRanker", name := "tree", desc := "(I)I" } : Jvm.MethodName)) ∈ lw_all := lw_g (lw_at lw_m0 90 rfl) rfl
theorem q106 : (Jvm.Cond.methodLink "TreeRankerLaw" (49 : Nat) ({ cls := "TreeRanker", name := "mark", desc := "(I)I" } : Jvm.MethodName)) ∈ lw_all := lw_g (lw_at lw_m0 95 rfl) rfl
theorem q110 : (Jvm.Cond.methodLink "TreeRankerLaw" (53 : Nat) ({ cls := "TreeRanker", name := "rank", desc := "()I" } : Jvm.MethodName)) ∈ lw_all := lw_g (lw_at lw_m0 99 rfl) rfl
theorem q118 : (Jvm.Cond.methodLink "TreeRankerLaw" (57 : Nat) ({ cls := "TreeRanker", name := "below", desc := "()I" } : Jvm.MethodName)) ∈ lw_all := lw_g (lw_at lw_m0 107 rfl) rfl
theorem q119 : (Jvm.Cond.methodLink "TreeRankerLaw" (61 : Nat) ({ cls := "TreeRanker", name := "extensions", desc := "()I" } : Jvm.MethodName)) ∈ lw_all := lw_g (lw_at lw_m0 108 rfl) rfl
theorem q123 : (Jvm.Cond.methodLink "TreeRankerLaw" (65 : Nat) ({ cls := "TreeRanker", name := "surplus", desc := "()I" } : Jvm.MethodName)) ∈ lw_all := lw_g (lw_at lw_m0 112 rfl) rfl
theorem q127 : (Jvm.Cond.methodLink "TreeRankerLaw" (9 : Nat) ({ cls := "TreeRankerLaw", name := "cell", desc := "([II)I" } : Jvm.MethodName)) ∈ lw_all := lw_g (lw_at lw_m0 116 rfl) rfl
theorem q128 : (Jvm.Cond.static ({ cls := "TreeRankerLaw", name := "cell", desc := "([II)I" } : Jvm.MethodName)) ∈ lw_all := lw_g (lw_at lw_m0 117 rfl) rfl
theorem q129 : (Jvm.Cond.code ({ cls := "TreeRankerLaw", name := "cell", desc := "([II)I" } : Jvm.MethodName) method_2_code (2 : Nat) (Option.some Jvm.ClassFile.FieldType.int)) ∈ lw_all := lw_g (lw_at lw_m0 118 rfl) rfl
theorem q130 : (Jvm.Cond.classLink "TreeRankerLaw" (18 : Nat) "TreeRankerModel") ∈ lw_all := lw_g (lw_at lw_m0 119 rfl) rfl
theorem q132 : (Jvm.Cond.methodLink "TreeRankerLaw" (20 : Nat) ({ cls := "TreeRankerModel", name := "<init>", desc := "(I)V" } : Jvm.MethodName)) ∈ lw_all := lw_g (lw_at lw_m0 121 rfl) rfl
theorem q155 : (Jvm.Cond.methodLink "TreeRankerLaw" (25 : Nat) ({ cls := "TreeRankerModel", name := "draw", desc := "(III)I" } : Jvm.MethodName)) ∈ lw_all := lw_g (lw_at lw_m0 144 rfl) rfl
theorem q166 : (Jvm.Cond.methodLink "TreeRankerLaw" (30 : Nat) ({ cls := "TreeRankerModel", name := "cut", desc := "(I)I" } : Jvm.MethodName)) ∈ lw_all := lw_g (lw_at lw_m0 155 rfl) rfl
theorem q170 : (Jvm.Cond.methodLink "TreeRankerLaw" (35 : Nat) ({ cls := "TreeRankerModel", name := "trees", desc := "()I" } : Jvm.MethodName)) ∈ lw_all := lw_g (lw_at lw_m0 159 rfl) rfl
theorem q189 : (Jvm.Cond.methodLink "TreeRankerLaw" (39 : Nat) ({ cls := "TreeRankerModel", name := "treesWith", desc := "(I)I" } : Jvm.MethodName)) ∈ lw_all := lw_g (lw_at lw_m0 178 rfl) rfl
theorem q193 : (Jvm.Cond.methodLink "TreeRankerLaw" (44 : Nat) ({ cls := "TreeRankerModel", name := "treesWithBoth", desc := "(II)I" } : Jvm.MethodName)) ∈ lw_all := lw_g (lw_at lw_m0 182 rfl) rfl
theorem q197 : (Jvm.Cond.methodLink "TreeRankerLaw" (48 : Nat) ({ cls := "TreeRankerModel", name := "tree", desc := "(I)I" } : Jvm.MethodName)) ∈ lw_all := lw_g (lw_at lw_m0 186 rfl) rfl
theorem q201 : (Jvm.Cond.methodLink "TreeRankerLaw" (52 : Nat) ({ cls := "TreeRankerModel", name := "mark", desc := "(I)I" } : Jvm.MethodName)) ∈ lw_all := lw_g (lw_at lw_m0 190 rfl) rfl
theorem q205 : (Jvm.Cond.methodLink "TreeRankerLaw" (56 : Nat) ({ cls := "TreeRankerModel", name := "rank", desc := "()I" } : Jvm.MethodName)) ∈ lw_all := lw_g (lw_at lw_m0 194 rfl) rfl
theorem q209 : (Jvm.Cond.methodLink "TreeRankerLaw" (60 : Nat) ({ cls := "TreeRankerModel", name := "below", desc := "()I" } : Jvm.MethodName)) ∈ lw_all := lw_g (lw_at lw_m0 198 rfl) rfl
theorem q213 : (Jvm.Cond.methodLink "TreeRankerLaw" (64 : Nat) ({ cls := "TreeRankerModel", name := "extensions", desc := "()I" } : Jvm.MethodName)) ∈ lw_all := lw_g (lw_at lw_m0 202 rfl) rfl
theorem q217 : (Jvm.Cond.methodLink "TreeRankerLaw" (68 : Nat) ({ cls := "TreeRankerModel", name := "surplus", desc := "()I" } : Jvm.MethodName)) ∈ lw_all := lw_g (lw_at lw_m0 206 rfl) rfl
/-! the law's own entry -/
set_option maxRecDepth 100000
abbrev cL_law : ByteArray := code
theorem dL_law_0 : decode cL_law 0 = .ok (.new 7, 3) := by decide +kernel
theorem dL_law_3 : decode cL_law 3 = .ok (.dup, 1) := by decide +kernel
theorem dL_law_4 : decode cL_law 4 = .ok (.aload_n 0, 1) := by decide +kernel
theorem dL_law_5 : decode cL_law 5 = .ok (.iconst 0, 1) := by decide +kernel
theorem dL_law_6 : decode cL_law 6 = .ok (.invokestatic 9, 3) := by decide +kernel
theorem dL_law_9 : decode cL_law 9 = .ok (.invokespecial 15, 3) := by decide +kernel
theorem dL_law_12 : decode cL_law 12 = .ok (.astore_n 1, 1) := by decide +kernel
theorem dL_law_13 : decode cL_law 13 = .ok (.new 18, 3) := by decide +kernel
theorem dL_law_16 : decode cL_law 16 = .ok (.dup, 1) := by decide +kernel
theorem dL_law_17 : decode cL_law 17 = .ok (.aload_n 0, 1) := by decide +kernel
theorem dL_law_18 : decode cL_law 18 = .ok (.iconst 0, 1) := by decide +kernel
theorem dL_law_19 : decode cL_law 19 = .ok (.invokestatic 9, 3) := by decide +kernel
theorem dL_law_22 : decode cL_law 22 = .ok (.invokespecial 20, 3) := by decide +kernel
theorem dL_law_25 : decode cL_law 25 = .ok (.astore_n 2, 1) := by decide +kernel
theorem dL_law_26 : decode cL_law 26 = .ok (.iconst 1, 1) := by decide +kernel
theorem dL_law_27 : decode cL_law 27 = .ok (.istore_n 3, 1) := by decide +kernel
theorem dL_law_28 : decode cL_law 28 = .ok (.iload_n 3, 1) := by decide +kernel
theorem dL_law_29 : decode cL_law 29 = .ok (.aload_n 0, 1) := by decide +kernel
theorem dL_law_30 : decode cL_law 30 = .ok (.arraylength, 1) := by decide +kernel
theorem dL_law_31 : decode cL_law 31 = .ok (.iconst 4, 1) := by decide +kernel
theorem dL_law_32 : decode cL_law 32 = .ok (.isub, 1) := by decide +kernel
theorem dL_law_33 : decode cL_law 33 = .ok (.if_icmp .gt 306, 3) := by decide +kernel
theorem dL_law_36 : decode cL_law 36 = .ok (.aload_n 0, 1) := by decide +kernel
theorem dL_law_37 : decode cL_law 37 = .ok (.iload_n 3, 1) := by decide +kernel
theorem dL_law_38 : decode cL_law 38 = .ok (.iaload, 1) := by decide +kernel
theorem dL_law_39 : decode cL_law 39 = .ok (.bipush 15, 2) := by decide +kernel
theorem dL_law_41 : decode cL_law 41 = .ok (.iand, 1) := by decide +kernel
theorem dL_law_42 : decode cL_law 42 = .ok (.tableswitch 291 0 10 #[58, 101, 124, 137, 160, 193, 216, 239, 252, 265, 278], 58) := by decide +kernel
theorem dL_law_100 : decode cL_law 100 = .ok (.aload_n 1, 1) := by decide +kernel
theorem dL_law_101 : decode cL_law 101 = .ok (.aload_n 0, 1) := by decide +kernel
theorem dL_law_102 : decode cL_law 102 = .ok (.iload_n 3, 1) := by decide +kernel
theorem dL_law_103 : decode cL_law 103 = .ok (.iconst 1, 1) := by decide +kernel
theorem dL_law_104 : decode cL_law 104 = .ok (.iadd, 1) := by decide +kernel
theorem dL_law_105 : decode cL_law 105 = .ok (.iaload, 1) := by decide +kernel
theorem dL_law_106 : decode cL_law 106 = .ok (.aload_n 0, 1) := by decide +kernel
theorem dL_law_107 : decode cL_law 107 = .ok (.iload_n 3, 1) := by decide +kernel
theorem dL_law_108 : decode cL_law 108 = .ok (.iconst 2, 1) := by decide +kernel
theorem dL_law_109 : decode cL_law 109 = .ok (.iadd, 1) := by decide +kernel
theorem dL_law_110 : decode cL_law 110 = .ok (.iaload, 1) := by decide +kernel
theorem dL_law_111 : decode cL_law 111 = .ok (.aload_n 0, 1) := by decide +kernel
theorem dL_law_112 : decode cL_law 112 = .ok (.iload_n 3, 1) := by decide +kernel
theorem dL_law_113 : decode cL_law 113 = .ok (.iconst 3, 1) := by decide +kernel
theorem dL_law_114 : decode cL_law 114 = .ok (.iadd, 1) := by decide +kernel
theorem dL_law_115 : decode cL_law 115 = .ok (.iaload, 1) := by decide +kernel
theorem dL_law_116 : decode cL_law 116 = .ok (.invokevirtual 21, 3) := by decide +kernel
theorem dL_law_119 : decode cL_law 119 = .ok (.aload_n 2, 1) := by decide +kernel
theorem dL_law_120 : decode cL_law 120 = .ok (.aload_n 0, 1) := by decide +kernel
theorem dL_law_121 : decode cL_law 121 = .ok (.iload_n 3, 1) := by decide +kernel
theorem dL_law_122 : decode cL_law 122 = .ok (.iconst 1, 1) := by decide +kernel
theorem dL_law_123 : decode cL_law 123 = .ok (.iadd, 1) := by decide +kernel
theorem dL_law_124 : decode cL_law 124 = .ok (.iaload, 1) := by decide +kernel
theorem dL_law_125 : decode cL_law 125 = .ok (.aload_n 0, 1) := by decide +kernel
theorem dL_law_126 : decode cL_law 126 = .ok (.iload_n 3, 1) := by decide +kernel
theorem dL_law_127 : decode cL_law 127 = .ok (.iconst 2, 1) := by decide +kernel
theorem dL_law_128 : decode cL_law 128 = .ok (.iadd, 1) := by decide +kernel
theorem dL_law_129 : decode cL_law 129 = .ok (.iaload, 1) := by decide +kernel
theorem dL_law_130 : decode cL_law 130 = .ok (.aload_n 0, 1) := by decide +kernel
theorem dL_law_131 : decode cL_law 131 = .ok (.iload_n 3, 1) := by decide +kernel
theorem dL_law_132 : decode cL_law 132 = .ok (.iconst 3, 1) := by decide +kernel
theorem dL_law_133 : decode cL_law 133 = .ok (.iadd, 1) := by decide +kernel
theorem dL_law_134 : decode cL_law 134 = .ok (.iaload, 1) := by decide +kernel
theorem dL_law_135 : decode cL_law 135 = .ok (.invokevirtual 25, 3) := by decide +kernel
theorem dL_law_138 : decode cL_law 138 = .ok (.if_icmp .eq 195, 3) := by decide +kernel
theorem dL_law_141 : decode cL_law 141 = .ok (.iconst 0, 1) := by decide +kernel
theorem dL_law_142 : decode cL_law 142 = .ok (.ireturn, 1) := by decide +kernel
theorem dL_law_143 : decode cL_law 143 = .ok (.aload_n 1, 1) := by decide +kernel
theorem dL_law_144 : decode cL_law 144 = .ok (.aload_n 0, 1) := by decide +kernel
theorem dL_law_145 : decode cL_law 145 = .ok (.iload_n 3, 1) := by decide +kernel
theorem dL_law_146 : decode cL_law 146 = .ok (.iconst 1, 1) := by decide +kernel
theorem dL_law_147 : decode cL_law 147 = .ok (.iadd, 1) := by decide +kernel
theorem dL_law_148 : decode cL_law 148 = .ok (.iaload, 1) := by decide +kernel
theorem dL_law_149 : decode cL_law 149 = .ok (.invokevirtual 26, 3) := by decide +kernel
theorem dL_law_152 : decode cL_law 152 = .ok (.aload_n 2, 1) := by decide +kernel
theorem dL_law_153 : decode cL_law 153 = .ok (.aload_n 0, 1) := by decide +kernel
theorem dL_law_154 : decode cL_law 154 = .ok (.iload_n 3, 1) := by decide +kernel
theorem dL_law_155 : decode cL_law 155 = .ok (.iconst 1, 1) := by decide +kernel
theorem dL_law_156 : decode cL_law 156 = .ok (.iadd, 1) := by decide +kernel
theorem dL_law_157 : decode cL_law 157 = .ok (.iaload, 1) := by decide +kernel
theorem dL_law_158 : decode cL_law 158 = .ok (.invokevirtual 30, 3) := by decide +kernel
theorem dL_law_161 : decode cL_law 161 = .ok (.if_icmp .eq 172, 3) := by decide +kernel
theorem dL_law_164 : decode cL_law 164 = .ok (.iconst 0, 1) := by decide +kernel
theorem dL_law_165 : decode cL_law 165 = .ok (.ireturn, 1) := by decide +kernel
theorem dL_law_166 : decode cL_law 166 = .ok (.aload_n 1, 1) := by decide +kernel
theorem dL_law_167 : decode cL_law 167 = .ok (.invokevirtual 31, 3) := by decide +kernel
theorem dL_law_170 : decode cL_law 170 = .ok (.aload_n 2, 1) := by decide +kernel
theorem dL_law_171 : decode cL_law 171 = .ok (.invokevirtual 35, 3) := by decide +kernel
theorem dL_law_174 : decode cL_law 174 = .ok (.if_icmp .eq 159, 3) := by decide +kernel
theorem dL_law_177 : decode cL_law 177 = .ok (.iconst 0, 1) := by decide +kernel
theorem dL_law_178 : decode cL_law 178 = .ok (.ireturn, 1) := by decide +kernel
theorem dL_law_179 : decode cL_law 179 = .ok (.aload_n 1, 1) := by decide +kernel
theorem dL_law_180 : decode cL_law 180 = .ok (.aload_n 0, 1) := by decide +kernel
theorem dL_law_181 : decode cL_law 181 = .ok (.iload_n 3, 1) := by decide +kernel
theorem dL_law_182 : decode cL_law 182 = .ok (.iconst 1, 1) := by decide +kernel
theorem dL_law_183 : decode cL_law 183 = .ok (.iadd, 1) := by decide +kernel
theorem dL_law_184 : decode cL_law 184 = .ok (.iaload, 1) := by decide +kernel
theorem dL_law_185 : decode cL_law 185 = .ok (.invokevirtual 36, 3) := by decide +kernel
theorem dL_law_188 : decode cL_law 188 = .ok (.aload_n 2, 1) := by decide +kernel
theorem dL_law_189 : decode cL_law 189 = .ok (.aload_n 0, 1) := by decide +kernel
theorem dL_law_190 : decode cL_law 190 = .ok (.iload_n 3, 1) := by decide +kernel
theorem dL_law_191 : decode cL_law 191 = .ok (.iconst 1, 1) := by decide +kernel
theorem dL_law_192 : decode cL_law 192 = .ok (.iadd, 1) := by decide +kernel
theorem dL_law_193 : decode cL_law 193 = .ok (.iaload, 1) := by decide +kernel
theorem dL_law_194 : decode cL_law 194 = .ok (.invokevirtual 39, 3) := by decide +kernel
theorem dL_law_197 : decode cL_law 197 = .ok (.if_icmp .eq 136, 3) := by decide +kernel
theorem dL_law_200 : decode cL_law 200 = .ok (.iconst 0, 1) := by decide +kernel
theorem dL_law_201 : decode cL_law 201 = .ok (.ireturn, 1) := by decide +kernel
theorem dL_law_202 : decode cL_law 202 = .ok (.aload_n 1, 1) := by decide +kernel
theorem dL_law_203 : decode cL_law 203 = .ok (.aload_n 0, 1) := by decide +kernel
theorem dL_law_204 : decode cL_law 204 = .ok (.iload_n 3, 1) := by decide +kernel
theorem dL_law_205 : decode cL_law 205 = .ok (.iconst 1, 1) := by decide +kernel
theorem dL_law_206 : decode cL_law 206 = .ok (.iadd, 1) := by decide +kernel
theorem dL_law_207 : decode cL_law 207 = .ok (.iaload, 1) := by decide +kernel
theorem dL_law_208 : decode cL_law 208 = .ok (.aload_n 0, 1) := by decide +kernel
theorem dL_law_209 : decode cL_law 209 = .ok (.iload_n 3, 1) := by decide +kernel
theorem dL_law_210 : decode cL_law 210 = .ok (.iconst 2, 1) := by decide +kernel
theorem dL_law_211 : decode cL_law 211 = .ok (.iadd, 1) := by decide +kernel
theorem dL_law_212 : decode cL_law 212 = .ok (.iaload, 1) := by decide +kernel
theorem dL_law_213 : decode cL_law 213 = .ok (.invokevirtual 40, 3) := by decide +kernel
theorem dL_law_216 : decode cL_law 216 = .ok (.aload_n 2, 1) := by decide +kernel
theorem dL_law_217 : decode cL_law 217 = .ok (.aload_n 0, 1) := by decide +kernel
theorem dL_law_218 : decode cL_law 218 = .ok (.iload_n 3, 1) := by decide +kernel
theorem dL_law_219 : decode cL_law 219 = .ok (.iconst 1, 1) := by decide +kernel
theorem dL_law_220 : decode cL_law 220 = .ok (.iadd, 1) := by decide +kernel
theorem dL_law_221 : decode cL_law 221 = .ok (.iaload, 1) := by decide +kernel
theorem dL_law_222 : decode cL_law 222 = .ok (.aload_n 0, 1) := by decide +kernel
theorem dL_law_223 : decode cL_law 223 = .ok (.iload_n 3, 1) := by decide +kernel
theorem dL_law_224 : decode cL_law 224 = .ok (.iconst 2, 1) := by decide +kernel
theorem dL_law_225 : decode cL_law 225 = .ok (.iadd, 1) := by decide +kernel
theorem dL_law_226 : decode cL_law 226 = .ok (.iaload, 1) := by decide +kernel
theorem dL_law_227 : decode cL_law 227 = .ok (.invokevirtual 44, 3) := by decide +kernel
theorem dL_law_230 : decode cL_law 230 = .ok (.if_icmp .eq 103, 3) := by decide +kernel
theorem dL_law_233 : decode cL_law 233 = .ok (.iconst 0, 1) := by decide +kernel
theorem dL_law_234 : decode cL_law 234 = .ok (.ireturn, 1) := by decide +kernel
theorem dL_law_235 : decode cL_law 235 = .ok (.aload_n 1, 1) := by decide +kernel
theorem dL_law_236 : decode cL_law 236 = .ok (.aload_n 0, 1) := by decide +kernel
theorem dL_law_237 : decode cL_law 237 = .ok (.iload_n 3, 1) := by decide +kernel
theorem dL_law_238 : decode cL_law 238 = .ok (.iconst 1, 1) := by decide +kernel
theorem dL_law_239 : decode cL_law 239 = .ok (.iadd, 1) := by decide +kernel
theorem dL_law_240 : decode cL_law 240 = .ok (.iaload, 1) := by decide +kernel
theorem dL_law_241 : decode cL_law 241 = .ok (.invokevirtual 45, 3) := by decide +kernel
theorem dL_law_244 : decode cL_law 244 = .ok (.aload_n 2, 1) := by decide +kernel
theorem dL_law_245 : decode cL_law 245 = .ok (.aload_n 0, 1) := by decide +kernel
theorem dL_law_246 : decode cL_law 246 = .ok (.iload_n 3, 1) := by decide +kernel
theorem dL_law_247 : decode cL_law 247 = .ok (.iconst 1, 1) := by decide +kernel
theorem dL_law_248 : decode cL_law 248 = .ok (.iadd, 1) := by decide +kernel
theorem dL_law_249 : decode cL_law 249 = .ok (.iaload, 1) := by decide +kernel
theorem dL_law_250 : decode cL_law 250 = .ok (.invokevirtual 48, 3) := by decide +kernel
theorem dL_law_253 : decode cL_law 253 = .ok (.if_icmp .eq 80, 3) := by decide +kernel
theorem dL_law_256 : decode cL_law 256 = .ok (.iconst 0, 1) := by decide +kernel
theorem dL_law_257 : decode cL_law 257 = .ok (.ireturn, 1) := by decide +kernel
theorem dL_law_258 : decode cL_law 258 = .ok (.aload_n 1, 1) := by decide +kernel
theorem dL_law_259 : decode cL_law 259 = .ok (.aload_n 0, 1) := by decide +kernel
theorem dL_law_260 : decode cL_law 260 = .ok (.iload_n 3, 1) := by decide +kernel
theorem dL_law_261 : decode cL_law 261 = .ok (.iconst 1, 1) := by decide +kernel
theorem dL_law_262 : decode cL_law 262 = .ok (.iadd, 1) := by decide +kernel
theorem dL_law_263 : decode cL_law 263 = .ok (.iaload, 1) := by decide +kernel
theorem dL_law_264 : decode cL_law 264 = .ok (.invokevirtual 49, 3) := by decide +kernel
theorem dL_law_267 : decode cL_law 267 = .ok (.aload_n 2, 1) := by decide +kernel
theorem dL_law_268 : decode cL_law 268 = .ok (.aload_n 0, 1) := by decide +kernel
theorem dL_law_269 : decode cL_law 269 = .ok (.iload_n 3, 1) := by decide +kernel
theorem dL_law_270 : decode cL_law 270 = .ok (.iconst 1, 1) := by decide +kernel
theorem dL_law_271 : decode cL_law 271 = .ok (.iadd, 1) := by decide +kernel
theorem dL_law_272 : decode cL_law 272 = .ok (.iaload, 1) := by decide +kernel
theorem dL_law_273 : decode cL_law 273 = .ok (.invokevirtual 52, 3) := by decide +kernel
theorem dL_law_276 : decode cL_law 276 = .ok (.if_icmp .eq 57, 3) := by decide +kernel
theorem dL_law_279 : decode cL_law 279 = .ok (.iconst 0, 1) := by decide +kernel
theorem dL_law_280 : decode cL_law 280 = .ok (.ireturn, 1) := by decide +kernel
theorem dL_law_281 : decode cL_law 281 = .ok (.aload_n 1, 1) := by decide +kernel
theorem dL_law_282 : decode cL_law 282 = .ok (.invokevirtual 53, 3) := by decide +kernel
theorem dL_law_285 : decode cL_law 285 = .ok (.aload_n 2, 1) := by decide +kernel
theorem dL_law_286 : decode cL_law 286 = .ok (.invokevirtual 56, 3) := by decide +kernel
theorem dL_law_289 : decode cL_law 289 = .ok (.if_icmp .eq 44, 3) := by decide +kernel
theorem dL_law_292 : decode cL_law 292 = .ok (.iconst 0, 1) := by decide +kernel
theorem dL_law_293 : decode cL_law 293 = .ok (.ireturn, 1) := by decide +kernel
theorem dL_law_294 : decode cL_law 294 = .ok (.aload_n 1, 1) := by decide +kernel
theorem dL_law_295 : decode cL_law 295 = .ok (.invokevirtual 57, 3) := by decide +kernel
theorem dL_law_298 : decode cL_law 298 = .ok (.aload_n 2, 1) := by decide +kernel
theorem dL_law_299 : decode cL_law 299 = .ok (.invokevirtual 60, 3) := by decide +kernel
theorem dL_law_302 : decode cL_law 302 = .ok (.if_icmp .eq 31, 3) := by decide +kernel
theorem dL_law_305 : decode cL_law 305 = .ok (.iconst 0, 1) := by decide +kernel
theorem dL_law_306 : decode cL_law 306 = .ok (.ireturn, 1) := by decide +kernel
theorem dL_law_307 : decode cL_law 307 = .ok (.aload_n 1, 1) := by decide +kernel
theorem dL_law_308 : decode cL_law 308 = .ok (.invokevirtual 61, 3) := by decide +kernel
theorem dL_law_311 : decode cL_law 311 = .ok (.aload_n 2, 1) := by decide +kernel
theorem dL_law_312 : decode cL_law 312 = .ok (.invokevirtual 64, 3) := by decide +kernel
theorem dL_law_315 : decode cL_law 315 = .ok (.if_icmp .eq 18, 3) := by decide +kernel
theorem dL_law_318 : decode cL_law 318 = .ok (.iconst 0, 1) := by decide +kernel
theorem dL_law_319 : decode cL_law 319 = .ok (.ireturn, 1) := by decide +kernel
theorem dL_law_320 : decode cL_law 320 = .ok (.aload_n 1, 1) := by decide +kernel
theorem dL_law_321 : decode cL_law 321 = .ok (.invokevirtual 65, 3) := by decide +kernel
theorem dL_law_324 : decode cL_law 324 = .ok (.aload_n 2, 1) := by decide +kernel
theorem dL_law_325 : decode cL_law 325 = .ok (.invokevirtual 68, 3) := by decide +kernel
theorem dL_law_328 : decode cL_law 328 = .ok (.if_icmp .eq 5, 3) := by decide +kernel
theorem dL_law_331 : decode cL_law 331 = .ok (.iconst 0, 1) := by decide +kernel
theorem dL_law_332 : decode cL_law 332 = .ok (.ireturn, 1) := by decide +kernel
theorem dL_law_333 : decode cL_law 333 = .ok (.iinc 3 4, 3) := by decide +kernel
theorem dL_law_336 : decode cL_law 336 = .ok (.goto (-308), 3) := by decide +kernel
theorem dL_law_339 : decode cL_law 339 = .ok (.iconst 1, 1) := by decide +kernel
theorem dL_law_340 : decode cL_law 340 = .ok (.ireturn, 1) := by decide +kernel
end
section
/-! MACHINE 1: the two worlds, and rows at the level of their numbers (text by gen_rows.py) -/
set_option maxRecDepth 100000
abbrev tr_Cl : List vw_C := [(RX1, TX1, 8), (RX2, TX2, 6)]
def tr_bI (b : Bool) : Int32 := if b then 1 else 0
/-- TreeRanker: the object (0), there (1), endA (2), endB (3), nameOf (4), rowOf (5), matrix (6) -/
def tr_XW (ad : Nat → Nat) (da : Nat → ClassId) (n mk : Nat) (T : Nat → Bool) (A B N R : Nat → Nat) (M : Nat → Int) : va_W :=
  [(ad 0, .inr (0, [.int (nI n), .ref (ad 1), .ref (ad 2), .ref (ad 3), .int (nI mk), .ref (ad 4), .ref (ad 5), .ref (ad 6)])),
   (ad 1, .inl (da 1, 10, .inl (fun j => tr_bI (T j)))),
   (ad 2, .inl (da 2, 10, .inl (fun j => nI (A j)))),
   (ad 3, .inl (da 3, 10, .inl (fun j => nI (B j)))),
   (ad 4, .inl (da 4, 6, .inl (fun j => nI (N j)))),
   (ad 5, .inl (da 5, 6, .inl (fun j => nI (R j)))),
   (ad 6, .inl (da 6, 36, .inr (.inl (fun j => Int64.ofInt (M j)))))]
def tr_Xt (da : Nat → ClassId) : List (ClassId × FieldType) := [(da 1, .boolean), (da 2, .int), (da 3, .int), (da 4, .int), (da 5, .int), (da 6, .long)]
/-- TreeRankerModel: the object (0), there (1), from (2), to (3), part (4) -/
def tr_MW (ad : Nat → Nat) (da : Nat → ClassId) (n mk : Nat) (T : Nat → Bool) (A B N : Nat → Nat) : va_W :=
  [(ad 0, .inr (1, [.int (nI n), .ref (ad 1), .ref (ad 2), .ref (ad 3), .int (nI mk), .ref (ad 4)])),
   (ad 1, .inl (da 1, 10, .inl (fun j => tr_bI (T j)))),
   (ad 2, .inl (da 2, 10, .inl (fun j => nI (A j)))),
   (ad 3, .inl (da 3, 10, .inl (fun j => nI (B j)))),
   (ad 4, .inl (da 4, 6, .inl (fun j => nI (N j))))]
def tr_Mt (da : Nat → ClassId) : List (ClassId × FieldType) := [(da 1, .boolean), (da 2, .int), (da 3, .int), (da 4, .int)]
/-- the world stands -/
def tr_I (s : State) (A0 : Nat → Prop) (D : va_G) (ws : va_W) (H : Heap) (locs : List Loc) : Prop := va_P D tr_Cl ws H ∧ va_D A0 ws ∧ va_S A0 s.heap H locs
def tr_Pre (D : va_G) (tys : List (ClassId × FieldType)) (W0 : va_W) (sz : Nat) (U : State) : Prop := U.heap.size = sz ∧ va_P D tr_Cl W0 U.heap ∧ va_K D tr_Cl tys U ∧ va_D (fun _ => True) W0
def tr_B {S : Type} (D : va_G) (tys : List (ClassId × FieldType)) (A0 : Nat → Prop) (wf : S → va_W) (u : S) (t : State) : Prop := va_P D tr_Cl (wf u) t.heap ∧ va_K D tr_Cl tys t ∧ va_D A0 (wf u)
abbrev tr_Meti {S : Type} (l : Launch) (y : MethodName) (cc : ByteArray) (maxL : Nat) (rm : Room) (D : va_G) (tys : List (ClassId × FieldType)) (W0 : va_W) (sz : Nat) (av : List Value) (post : Int32 → S → Prop) (wf : S → va_W) : Prop := Met l y (ws_ y cc maxL (some .int)) rm (va_Pc av (tr_Pre D tys W0 sz)) (va_Qi post (tr_B D tys (va_A W0 sz) wf) (va_A W0 sz)) 0 0 (va_A W0 sz)
abbrev tr_Metz {S : Type} (l : Launch) (y : MethodName) (cc : ByteArray) (maxL : Nat) (rm : Room) (D : va_G) (tys : List (ClassId × FieldType)) (W0 : va_W) (sz : Nat) (av : List Value) (post : Int32 → S → Prop) (wf : S → va_W) : Prop := Met l y (ws_ y cc maxL (some .boolean)) rm (va_Pc av (tr_Pre D tys W0 sz)) (va_Qi post (tr_B D tys (va_A W0 sz) wf) (va_A W0 sz)) 0 0 (va_A W0 sz)
abbrev tr_Metl {S : Type} (l : Launch) (y : MethodName) (cc : ByteArray) (maxL : Nat) (rm : Room) (D : va_G) (tys : List (ClassId × FieldType)) (W0 : va_W) (sz : Nat) (av : List Value) (post : Int64 → S → Prop) (wf : S → va_W) : Prop := Met l y (ws_ y cc maxL (some .long)) rm (va_Pc av (tr_Pre D tys W0 sz)) (va_Ql post (tr_B D tys (va_A W0 sz) wf) (va_A W0 sz)) 0 0 (va_A W0 sz)
abbrev tr_Metv {S : Type} (l : Launch) (y : MethodName) (cc : ByteArray) (maxL : Nat) (rm : Room) (D : va_G) (tys : List (ClassId × FieldType)) (W0 : va_W) (sz : Nat) (av : List Value) (post : S → Prop) (wf : S → va_W) : Prop := Met l y (ws_ y cc maxL none) rm (va_Pc av (tr_Pre D tys W0 sz)) (va_Qv post (tr_B D tys (va_A W0 sz) wf) (va_A W0 sz)) 0 0 (va_A W0 sz)
/-- a method's entry -/
theorem tr_enter {l : Launch} {y : MethodName} {cc : ByteArray} {maxL : Nat} {ret : Option FieldType} {rm : Room} {D : va_G} {tys : List (ClassId × FieldType)} {W0 : va_W} {sz : Nat} {av : List Value} {Qc : Array Value → State → Outcome → State → Prop} {lv : List (Nat × Value)} (hy : plainName y.cls = true) (hn : (lg_sl av).length ≤ maxL) (hlv : lv_args 0 av = lv)
    (body : ∀ (p : Program) (e : Env) (s : State) (m : MethodId) (below : List Frame) (meth : Method) (c : Code) (ls : Array Slot), s.heap.size = sz → CallFix p m c cc maxL s av.toArray lw_all y.cls → meth.sig.returnType = ret → meth.locks = false → va_K D tr_Cl tys s → tr_I s (va_A W0 sz) D W0 s.heap [] → (∀ q : Nat, s.heap.size ≤ q → va_A W0 sz q) → lv_has ls maxL lv → W p l e rm s m av.toArray below meth c s.heap [] 0 0 (MQ below Qc av.toArray s 0 0 (va_A W0 sz)) (F0 m 0 ls [])) :
    Met l y (ws_ y cc maxL ret) rm (va_Pc av (tr_Pre D tys W0 sz)) Qc 0 0 (va_A W0 sz) := by
  refine Met.ofW (cc := cc) (maxL := maxL) (ret := ret) hy rfl ?_
  intro p e s m args below meth c s₁ Bd hml hv
  obtain ⟨rfl, hsz, hP, hK, hD0⟩ := hv
  have hts := atoms_spec (ws := ws_ y cc maxL ret) Bd.pre
  have hts : ∀ w ∈ lw_all, w.before _ s = true := fun w h => hts w (List.mem_cons_of_mem _ h)
  have hown : s.vm.findClass y.cls = some m.cls := findClass_of_methodNamed Bd.named
  have hl := lv_entry av (n := maxL) hn
  rw [lg_entry_eq]
  generalize (lg_sl av ++ List.replicate (maxL - (lg_sl av).length) Slot.unset).toArray = ls at hl ⊢
  rw [hlv] at hl
  exact body p e s m below meth c ls hsz ⟨Bd.exec, Bd.bytes, hml, hown, hts⟩ Bd.returns Bd.notSynchronized hK ⟨hP, hD0.self, va_S.rf⟩ (fun q h => Or.inr (by rw [← hsz]; exact h)) hl
section TRW
variable {p : Program} {l : Launch} {e : Env} {Rm : Room} {s : State} {m : MethodId} {args : Array Value} {below : List Frame} {meth : Method} {c : Code} {H : Heap} {locs : List Loc} {cells slots : Nat} {Q : State → Prop}
variable {cc : ByteArray} {pc nL : Nat} {ls : Array Slot} {rest : List Value} {D : va_G} {A0 : Nat → Prop} {tys : List (ClassId × FieldType)} {W0 : va_W} {own : String}
theorem tr_I.eq {W1 : va_W} (h : tr_I s A0 D W0 H locs) (e : W0 = W1) : tr_I s A0 D W1 H locs := e ▸ h
theorem tr_blind {av : List Value} {sz : Nat} : FrameBlind (va_Pc av (tr_Pre D tys W0 sz)) := fun a U g mk q => by
  obtain ⟨q0, q1, qP, qK, qD⟩ := q
  exact ⟨q0, q1, qP, va_K.moved (u := U) (U := U.calling g mk a) (Vm.Alike.refl U.vm) qK, qD⟩
theorem tr_I.free (I : tr_I s A0 D W0 H locs) (hA : ∀ q : Nat, s.heap.size ≤ q → A0 q) : ∀ q, va_A W0 H.size q → A0 q := by
  intro q h
  rcases h with ⟨k, e, h⟩ | h
  · exact I.2.1.2 k (q, e) h
  · exact hA q (Nat.le_trans I.2.2.1 h)
/-- calls through the object, whose world is the whole world -/
theorem tr_calli {S : Type} {post : Int32 → S → Prop} {wf : S → va_W} {y : MethodName} {bytes : ByteArray} {maxL n index : Nat} {ret : Option FieldType} {rm : Room} {As : List Value} {C : String} {ci : Nat} {fs : List Value} {b : Nat} {cq : vw_C} (hc : tr_Cl[ci]? = some cq) (hcn : cq.1 = C) (he : W0[0]? = some (b, .inr (ci, fs)))
    (S0 : CallFix p m c cc nL s args lw_all own) (hK : va_K D tr_Cl tys s) (I : tr_I s A0 D W0 H locs) (hA : ∀ q : Nat, s.heap.size ≤ q → A0 q)
    (hM : Met l y (ws_ y bytes maxL ret) rm (va_Pc (.ref b :: As) (tr_Pre D tys W0 H.size)) (va_Qi post (tr_B D tys (va_A W0 H.size) wf) (va_A W0 H.size)) 0 0 (va_A W0 H.size)) (cw : CallW Rm s args own C index y bytes maxL ret (ws_ y bytes maxL ret) rm 0 0 n) (hn : As.length = n) (hsize : ls.size = nL) {st : List Value} (hst : st = As.reverse ++ .ref b :: rest) (hroom : (rest.map fun v => v.category).sum ≤ 8) (hdg : decode cc pc = .ok (.invokevirtual index, 3)) (hf : cells ≤ Rm.cells ∧ slots ≤ Rm.slots)
    (kk : ∀ (r : Int32) (u : S) (H1 : Heap) (locs1 : List Loc), post r u → tr_I s A0 D (wf u) H1 locs1 → W p l e Rm s m args below meth c H1 locs1 cells slots Q (F0 m (pc + 3) ls (.int r :: rest))) : W p l e Rm s m args below meth c H locs cells slots Q (F0 m pc ls st) := by
  subst hst
  have hFc := I.free hA
  refine va_calli (va_runV (As := As) (rest := rest) S0 hM cw ⟨tr_blind, by rw [← hcn]; exact va_recv hK I.1 hc he, fun U hU hW => ⟨rfl, by rw [hU], by rw [hU]; exact I.1, va_K.moved hW.alike hK, I.2.1.weaken (fun _ _ _ _ => trivial)⟩⟩ rfl hn hsize rfl (lv_room hroom) hdg hf) I.2.2 (fun q _ h => hFc q h) hFc (fun r u t H1 locs1 ht hvm hw hB hz1 hk1 hS => ?_)
  obtain ⟨hP1, hK1, hD1⟩ := hB
  rw [ht] at hP1
  exact kk r u H1 locs1 hw ⟨hP1, hD1.weaken (fun k q _ h => hFc q.1 h), hS⟩
theorem tr_callv {S : Type} {post : S → Prop} {wf : S → va_W} {y : MethodName} {bytes : ByteArray} {maxL n index : Nat} {ret : Option FieldType} {rm : Room} {As : List Value} {C : String} {ci : Nat} {fs : List Value} {b : Nat} {cq : vw_C} (hc : tr_Cl[ci]? = some cq) (hcn : cq.1 = C) (he : W0[0]? = some (b, .inr (ci, fs)))
    (S0 : CallFix p m c cc nL s args lw_all own) (hK : va_K D tr_Cl tys s) (I : tr_I s A0 D W0 H locs) (hA : ∀ q : Nat, s.heap.size ≤ q → A0 q)
    (hM : Met l y (ws_ y bytes maxL ret) rm (va_Pc (.ref b :: As) (tr_Pre D tys W0 H.size)) (va_Qv post (tr_B D tys (va_A W0 H.size) wf) (va_A W0 H.size)) 0 0 (va_A W0 H.size)) (cw : CallW Rm s args own C index y bytes maxL ret (ws_ y bytes maxL ret) rm 0 0 n) (hn : As.length = n) (hsize : ls.size = nL) {st : List Value} (hst : st = As.reverse ++ .ref b :: rest) (hroom : (rest.map fun v => v.category).sum ≤ 8) (hdg : decode cc pc = .ok (.invokevirtual index, 3)) (hf : cells ≤ Rm.cells ∧ slots ≤ Rm.slots)
    (kk : ∀ (u : S) (H1 : Heap) (locs1 : List Loc), post u → tr_I s A0 D (wf u) H1 locs1 → W p l e Rm s m args below meth c H1 locs1 cells slots Q (F0 m (pc + 3) ls rest)) : W p l e Rm s m args below meth c H locs cells slots Q (F0 m pc ls st) := by
  subst hst
  have hFc := I.free hA
  refine va_callv (va_runV (As := As) (rest := rest) S0 hM cw ⟨tr_blind, by rw [← hcn]; exact va_recv hK I.1 hc he, fun U hU hW => ⟨rfl, by rw [hU], by rw [hU]; exact I.1, va_K.moved hW.alike hK, I.2.1.weaken (fun _ _ _ _ => trivial)⟩⟩ rfl hn hsize rfl (lv_room hroom) hdg hf) I.2.2 (fun q _ h => hFc q h) hFc (fun u t H1 locs1 ht hvm hw hB hz1 hk1 hS => ?_)
  obtain ⟨hP1, hK1, hD1⟩ := hB
  rw [ht] at hP1
  exact kk u H1 locs1 hw ⟨hP1, hD1.weaken (fun k q _ h => hFc q.1 h), hS⟩
theorem tr_calll {S : Type} {post : Int64 → S → Prop} {wf : S → va_W} {y : MethodName} {bytes : ByteArray} {maxL n index : Nat} {ret : Option FieldType} {rm : Room} {As : List Value} {C : String} {ci : Nat} {fs : List Value} {b : Nat} {cq : vw_C} (hc : tr_Cl[ci]? = some cq) (hcn : cq.1 = C) (he : W0[0]? = some (b, .inr (ci, fs)))
    (S0 : CallFix p m c cc nL s args lw_all own) (hK : va_K D tr_Cl tys s) (I : tr_I s A0 D W0 H locs) (hA : ∀ q : Nat, s.heap.size ≤ q → A0 q)
    (hM : Met l y (ws_ y bytes maxL ret) rm (va_Pc (.ref b :: As) (tr_Pre D tys W0 H.size)) (va_Ql post (tr_B D tys (va_A W0 H.size) wf) (va_A W0 H.size)) 0 0 (va_A W0 H.size)) (cw : CallW Rm s args own C index y bytes maxL ret (ws_ y bytes maxL ret) rm 0 0 n) (hn : As.length = n) (hsize : ls.size = nL) {st : List Value} (hst : st = As.reverse ++ .ref b :: rest) (hroom : (rest.map fun v => v.category).sum ≤ 8) (hdg : decode cc pc = .ok (.invokevirtual index, 3)) (hf : cells ≤ Rm.cells ∧ slots ≤ Rm.slots)
    (kk : ∀ (r : Int64) (u : S) (H1 : Heap) (locs1 : List Loc), post r u → tr_I s A0 D (wf u) H1 locs1 → W p l e Rm s m args below meth c H1 locs1 cells slots Q (F0 m (pc + 3) ls (.long r :: rest))) : W p l e Rm s m args below meth c H locs cells slots Q (F0 m pc ls st) := by
  subst hst
  have hFc := I.free hA
  refine va_calll (va_runV (As := As) (rest := rest) S0 hM cw ⟨tr_blind, by rw [← hcn]; exact va_recv hK I.1 hc he, fun U hU hW => ⟨rfl, by rw [hU], by rw [hU]; exact I.1, va_K.moved hW.alike hK, I.2.1.weaken (fun _ _ _ _ => trivial)⟩⟩ rfl hn hsize rfl (lv_room hroom) hdg hf) I.2.2 (fun q _ h => hFc q h) hFc (fun r u t H1 locs1 ht hvm hw hB hz1 hk1 hS => ?_)
  obtain ⟨hP1, hK1, hD1⟩ := hB
  rw [ht] at hP1
  exact kk r u H1 locs1 hw ⟨hP1, hD1.weaken (fun k q _ h => hFc q.1 h), hS⟩
/-- a static call that touches no cell -/
theorem tr_calls {post : Int32 → Unit → Prop} {y : MethodName} {bytes : ByteArray} {maxL n index : Nat} {ret : Option FieldType} {rm : Room} {As : List Value}
    (S0 : CallFix p m c cc nL s args lw_all own) (I : tr_I s A0 D W0 H locs) (hA : ∀ q : Nat, s.heap.size ≤ q → A0 q) (hcl : ∀ U : State, s.WarmedH U.vm → va_K D tr_Cl [] U)
    (hM : Met l y (ws_ y bytes maxL ret) rm (va_Pc As (tr_Pre D [] [] H.size)) (va_Qi post (tr_B D [] (va_A [] H.size) (fun _ => [])) (va_A [] H.size)) 0 0 (va_A [] H.size)) (cw : CallB Rm s args own index y bytes maxL ret (ws_ y bytes maxL ret) rm 0 0 n ∧ (Cond.static y).before args s = true) (hn : As.length = n) (hsize : ls.size = nL) {st : List Value} (hst : st = As.reverse ++ rest) (hroom : (rest.map fun v => v.category).sum ≤ 8) (hdg : decode cc pc = .ok (.invokestatic index, 3)) (hf : cells ≤ Rm.cells ∧ slots ≤ Rm.slots)
    (kk : ∀ (r : Int32) (H1 : Heap) (locs1 : List Loc), post r () → tr_I s A0 D W0 H1 locs1 → W p l e Rm s m args below meth c H1 locs1 cells slots Q (F0 m (pc + 3) ls (.int r :: rest))) : W p l e Rm s m args below meth c H locs cells slots Q (F0 m pc ls st) := by
  subst hst
  have hFc : ∀ q, va_A [] H.size q → A0 q := by
    intro q h
    rcases h with ⟨k, e, h⟩ | h
    · simp at h
    · exact hA q (Nat.le_trans I.2.2.1 h)
  refine va_calli (va_runS (As := As) (rest := rest) S0 hM cw ⟨tr_blind, fun U hU hW => ⟨rfl, by rw [hU], fun k q h => by simp at h, hcl U hW, ⟨fun i j p q h => by simp at h, fun k q h => by simp at h⟩⟩⟩ rfl hn hsize rfl (lv_room hroom) hdg hf) I.2.2 (fun q _ h => hFc q h) hFc (fun r u t H1 locs1 ht hvm hw hB hz1 hk1 hS => ?_)
  refine kk r H1 locs1 hw ⟨I.1.kept (fun k q hq => hk1 q.1 ((I.1 k q hq).lt) (fun z => ?_)), I.2.1, hS⟩
  rcases z with ⟨k2, e2, z⟩ | z
  · simp at z
  · have := (I.1 k q hq).lt
    omega
/-- the ends -/
theorem tr_iret {S : Type} {post : Int32 → S → Prop} {wf : S → va_W} {v : Int32} (S0 : CallFix p m c cc nL s args lw_all own) (hr : meth.sig.returnType = some .int) (hlk : meth.locks = false) (hK : va_K D tr_Cl tys s) (u : S) (I : tr_I s A0 D (wf u) H locs) (hp : post v u) (hdg : decode cc pc = .ok (.ireturn, 1)) : W p l e Rm s m args below meth c H locs cells slots (MQ below (va_Qi post (tr_B D tys A0 wf) A0) args s cells slots A0) (F0 m pc ls [.int v]) :=
  W.iret (v := v) S0.1 S0.2.1 hr (fun t ht hW => ⟨⟨v, u, rfl, hp, by rw [ht]; exact I.1, va_K.moved hW.alike hK, I.2.1⟩, I.2.2.F ht⟩) I.2.2.2.2 hdg hlk
theorem tr_zret {S : Type} {post : Int32 → S → Prop} {wf : S → va_W} (b : Bool) (S0 : CallFix p m c cc nL s args lw_all own) (hr : meth.sig.returnType = some .boolean) (hlk : meth.locks = false) (hK : va_K D tr_Cl tys s) (u : S) (I : tr_I s A0 D (wf u) H locs) (hp : post (tr_bI b) u) (hdg : decode cc pc = .ok (.ireturn, 1)) : W p l e Rm s m args below meth c H locs cells slots (MQ below (va_Qi post (tr_B D tys A0 wf) A0) args s cells slots A0) (F0 m pc ls [.int (tr_bI b)]) :=
  W.zret (v := tr_bI b) S0.1 S0.2.1 hr (by cases b <;> rfl) (fun t ht hW => ⟨⟨tr_bI b, u, rfl, hp, by rw [ht]; exact I.1, va_K.moved hW.alike hK, I.2.1⟩, I.2.2.F ht⟩) I.2.2.2.2 hdg hlk
theorem tr_lret {S : Type} {post : Int64 → S → Prop} {wf : S → va_W} {v : Int64} (S0 : CallFix p m c cc nL s args lw_all own) (hr : meth.sig.returnType = some .long) (hlk : meth.locks = false) (hK : va_K D tr_Cl tys s) (u : S) (I : tr_I s A0 D (wf u) H locs) (hp : post v u) (hdg : decode cc pc = .ok (.lreturn, 1)) : W p l e Rm s m args below meth c H locs cells slots (MQ below (va_Ql post (tr_B D tys A0 wf) A0) args s cells slots A0) (F0 m pc ls [.long v]) :=
  W.lret (v := v) S0.1 S0.2.1 hr (fun t ht hW => ⟨⟨v, u, rfl, hp, by rw [ht]; exact I.1, va_K.moved hW.alike hK, I.2.1⟩, I.2.2.F ht⟩) I.2.2.2.2 hdg hlk
theorem tr_vret {S : Type} {post : S → Prop} {wf : S → va_W} (S0 : CallFix p m c cc nL s args lw_all own) (hr : meth.sig.returnType = none) (hlk : meth.locks = false) (hK : va_K D tr_Cl tys s) (u : S) (I : tr_I s A0 D (wf u) H locs) (hp : post u) (hdg : decode cc pc = .ok (.return_, 1)) : W p l e Rm s m args below meth c H locs cells slots (MQ below (va_Qv post (tr_B D tys A0 wf) A0) args s cells slots A0) (F0 m pc ls []) :=
  W.vret S0.1 S0.2.1 hr (fun t ht hW => ⟨⟨u, rfl, hp, by rw [ht]; exact I.1, va_K.moved hW.alike hK, I.2.1⟩, I.2.2.F ht⟩) I.2.2.2.2 hdg hlk
/-- the number on top, said otherwise -/
theorem tr_ti {x y : Int32} (h : x = y) (kk : W p l e Rm s m args below meth c H locs cells slots Q (F0 m pc ls (.int y :: rest))) : W p l e Rm s m args below meth c H locs cells slots Q (F0 m pc ls (.int x :: rest)) := h ▸ kk
theorem tr_tl {x y : Int64} (h : x = y) (kk : W p l e Rm s m args below meth c H locs cells slots Q (F0 m pc ls (.long y :: rest))) : W p l e Rm s m args below meth c H locs cells slots Q (F0 m pc ls (.long x :: rest)) := h ▸ kk
/-- numbers -/
theorem tr_iadd {a b : Nat} (S0 : CallFix p m c cc nL s args lw_all own) (hdg : decode cc pc = .ok (.iadd, 1)) (kk : W p l e Rm s m args below meth c H locs cells slots Q (F0 m (pc + 1) ls (.int (nI (a + b)) :: rest))) : W p l e Rm s m args below meth c H locs cells slots Q (F0 m pc ls (.int (nI b) :: .int (nI a) :: rest)) := lv_iadd S0.1 S0.2.1 hdg (tr_ti (nI_add a b) kk)
theorem tr_imul {a b : Nat} (S0 : CallFix p m c cc nL s args lw_all own) (hdg : decode cc pc = .ok (.imul, 1)) (kk : W p l e Rm s m args below meth c H locs cells slots Q (F0 m (pc + 1) ls (.int (nI (a * b)) :: rest))) : W p l e Rm s m args below meth c H locs cells slots Q (F0 m pc ls (.int (nI b) :: .int (nI a) :: rest)) := lv_imul S0.1 S0.2.1 hdg (tr_ti (pk_mul a b) kk)
theorem tr_isub {a b : Nat} (S0 : CallFix p m c cc nL s args lw_all own) (hab : b ≤ a) (hdg : decode cc pc = .ok (.isub, 1)) (kk : W p l e Rm s m args below meth c H locs cells slots Q (F0 m (pc + 1) ls (.int (nI (a - b)) :: rest))) : W p l e Rm s m args below meth c H locs cells slots Q (F0 m pc ls (.int (nI b) :: .int (nI a) :: rest)) := lv_isub S0.1 S0.2.1 hdg (tr_ti (pk_sub hab) kk)
theorem tr_iconst {n : Int} (v : Nat) (S0 : CallFix p m c cc nL s args lw_all own) (hdg : decode cc pc = .ok (.iconst n, 1)) (hv : Int32.ofInt n = nI v) (kk : W p l e Rm s m args below meth c H locs cells slots Q (F0 m (pc + 1) ls (.int (nI v) :: rest))) : W p l e Rm s m args below meth c H locs cells slots Q (F0 m pc ls rest) := lv_iconst S0.1 S0.2.1 hdg hv kk
theorem tr_bipush {n : Int} (v : Nat) (S0 : CallFix p m c cc nL s args lw_all own) (hdg : decode cc pc = .ok (.bipush n, 2)) (hv : (Int8.ofInt n).toInt32 = nI v) (kk : W p l e Rm s m args below meth c H locs cells slots Q (F0 m (pc + 2) ls (.int (nI v) :: rest))) : W p l e Rm s m args below meth c H locs cells slots Q (F0 m pc ls rest) := lv_bipush S0.1 S0.2.1 hdg hv kk
theorem tr_sipush {n : Int} (v : Nat) (S0 : CallFix p m c cc nL s args lw_all own) (hdg : decode cc pc = .ok (.sipush n, 3)) (hv : (Int16.ofInt n).toInt32 = nI v) (kk : W p l e Rm s m args below meth c H locs cells slots Q (F0 m (pc + 3) ls (.int (nI v) :: rest))) : W p l e Rm s m args below meth c H locs cells slots Q (F0 m pc ls rest) := lv_sipush S0.1 S0.2.1 hdg hv kk
theorem tr_iinc {i k : Nat} {x : Nat} {lv lv' : List (Nat × Value)} (S0 : CallFix p m c cc nL s args lw_all own) (hdg : decode cc pc = .ok (.iinc i 1, 3)) (h : lv_has ls nL lv) (hk : lv[k]? = some (i, .int (nI x))) (hn : i < nL) (hl : (i, Value.int (nI (x + 1))) :: lv.filter (fun q => !(q.1 == i) && !(q.1 + 1 == i && q.2.category == 2)) = lv')
    (kk : ∀ ls' : Array Slot, lv_has ls' nL lv' → W p l e Rm s m args below meth c H locs cells slots Q (F0 m (pc + 3) ls' rest)) : W p l e Rm s m args below meth c H locs cells slots Q (F0 m pc ls rest) := lv_iinc (v := nI (x + 1)) S0.1 S0.2.1 hdg h hk (nI_1 x) hn hl kk

theorem tr_icmp_ge {a b : Nat} {off : Int} (tgt : Nat) (S0 : CallFix p m c cc nL s args lw_all own) (hdg : decode cc pc = .ok (.if_icmp .ge off, 3)) (ht : (pc : Int) + off = (tgt : Int)) (ha : a < 2 ^ 31) (hb : b < 2 ^ 31) (kt : b ≤ a → W p l e Rm s m args below meth c H locs cells slots Q (F0 m tgt ls rest)) (kf : a < b → W p l e Rm s m args below meth c H locs cells slots Q (F0 m (pc + 3) ls rest)) : W p l e Rm s m args below meth c H locs cells slots Q (F0 m pc ls (.int (nI b) :: .int (nI a) :: rest)) :=
  lv_icmp_ge S0.1 S0.2.1 hdg ht (fun q => kt ((nI_leI hb ha).mp q)) (fun q => kf (Nat.lt_of_not_le (fun z => q ((nI_leI hb ha).mpr z))))
theorem tr_icmp_lt {a b : Nat} {off : Int} (tgt : Nat) (S0 : CallFix p m c cc nL s args lw_all own) (hdg : decode cc pc = .ok (.if_icmp .lt off, 3)) (ht : (pc : Int) + off = (tgt : Int)) (ha : a < 2 ^ 31) (hb : b < 2 ^ 31) (kt : a < b → W p l e Rm s m args below meth c H locs cells slots Q (F0 m tgt ls rest)) (kf : b ≤ a → W p l e Rm s m args below meth c H locs cells slots Q (F0 m (pc + 3) ls rest)) : W p l e Rm s m args below meth c H locs cells slots Q (F0 m pc ls (.int (nI b) :: .int (nI a) :: rest)) :=
  lv_icmp_lt S0.1 S0.2.1 hdg ht (fun q => kt ((nI_ltI ha hb).mp q)) (fun q => kf (Nat.le_of_not_lt (fun z => q ((nI_ltI ha hb).mpr z))))
theorem tr_icmp_gt {a b : Nat} {off : Int} (tgt : Nat) (S0 : CallFix p m c cc nL s args lw_all own) (hdg : decode cc pc = .ok (.if_icmp .gt off, 3)) (ht : (pc : Int) + off = (tgt : Int)) (ha : a < 2 ^ 31) (hb : b < 2 ^ 31) (kt : b < a → W p l e Rm s m args below meth c H locs cells slots Q (F0 m tgt ls rest)) (kf : a ≤ b → W p l e Rm s m args below meth c H locs cells slots Q (F0 m (pc + 3) ls rest)) : W p l e Rm s m args below meth c H locs cells slots Q (F0 m pc ls (.int (nI b) :: .int (nI a) :: rest)) :=
  lv_icmp_gt S0.1 S0.2.1 hdg ht (fun q => kt ((nI_ltI hb ha).mp q)) (fun q => kf (Nat.le_of_not_lt (fun z => q ((nI_ltI hb ha).mpr z))))
theorem tr_icmp_le {a b : Nat} {off : Int} (tgt : Nat) (S0 : CallFix p m c cc nL s args lw_all own) (hdg : decode cc pc = .ok (.if_icmp .le off, 3)) (ht : (pc : Int) + off = (tgt : Int)) (ha : a < 2 ^ 31) (hb : b < 2 ^ 31) (kt : a ≤ b → W p l e Rm s m args below meth c H locs cells slots Q (F0 m tgt ls rest)) (kf : b < a → W p l e Rm s m args below meth c H locs cells slots Q (F0 m (pc + 3) ls rest)) : W p l e Rm s m args below meth c H locs cells slots Q (F0 m pc ls (.int (nI b) :: .int (nI a) :: rest)) :=
  lv_icmp_le S0.1 S0.2.1 hdg ht (fun q => kt ((nI_leI ha hb).mp q)) (fun q => kf (Nat.lt_of_not_le (fun z => q ((nI_leI ha hb).mpr z))))
theorem tr_icmp_eq {a b : Nat} {off : Int} (tgt : Nat) (S0 : CallFix p m c cc nL s args lw_all own) (hdg : decode cc pc = .ok (.if_icmp .eq off, 3)) (ht : (pc : Int) + off = (tgt : Int)) (ha : a < 2 ^ 31) (hb : b < 2 ^ 31) (kt : a = b → W p l e Rm s m args below meth c H locs cells slots Q (F0 m tgt ls rest)) (kf : a ≠ b → W p l e Rm s m args below meth c H locs cells slots Q (F0 m (pc + 3) ls rest)) : W p l e Rm s m args below meth c H locs cells slots Q (F0 m pc ls (.int (nI b) :: .int (nI a) :: rest)) :=
  lv_icmp_eq S0.1 S0.2.1 hdg ht (fun q => kt ((nI_eq ha hb).mp q)) (fun q => kf (fun z => q ((nI_eq ha hb).mpr z)))
theorem tr_icmp_ne {a b : Nat} {off : Int} (tgt : Nat) (S0 : CallFix p m c cc nL s args lw_all own) (hdg : decode cc pc = .ok (.if_icmp .ne off, 3)) (ht : (pc : Int) + off = (tgt : Int)) (ha : a < 2 ^ 31) (hb : b < 2 ^ 31) (kt : a ≠ b → W p l e Rm s m args below meth c H locs cells slots Q (F0 m tgt ls rest)) (kf : a = b → W p l e Rm s m args below meth c H locs cells slots Q (F0 m (pc + 3) ls rest)) : W p l e Rm s m args below meth c H locs cells slots Q (F0 m pc ls (.int (nI b) :: .int (nI a) :: rest)) :=
  lv_icmp_ne S0.1 S0.2.1 hdg ht (fun q => kt (fun z => q ((nI_eq ha hb).mpr z))) (fun q => kf ((nI_eq ha hb).mp q))
theorem tr_bI_0 {b : Bool} : tr_bI b = 0 ↔ b = false := by cases b <;> simp [tr_bI]
theorem tr_nI_0 {a : Nat} (h : a < 2 ^ 31) : nI a = 0 ↔ a = 0 := by
  rw [← nI_0]
  exact nI_eq h (by decide)
theorem tr_nif_eq {a : Nat} {off : Int} (tgt : Nat) (S0 : CallFix p m c cc nL s args lw_all own) (hdg : decode cc pc = .ok (.ifCond .eq off, 3)) (ht : (pc : Int) + off = (tgt : Int)) (ha : a < 2 ^ 31) (kt : a = 0 → W p l e Rm s m args below meth c H locs cells slots Q (F0 m tgt ls rest)) (kf : a ≠ 0 → W p l e Rm s m args below meth c H locs cells slots Q (F0 m (pc + 3) ls rest)) : W p l e Rm s m args below meth c H locs cells slots Q (F0 m pc ls (.int (nI a) :: rest)) :=
  lv_if_eq S0.1 S0.2.1 hdg ht (fun q => kt ((tr_nI_0 ha).mp q)) (fun q => kf (fun z => q ((tr_nI_0 ha).mpr z)))
theorem tr_nif_ne {a : Nat} {off : Int} (tgt : Nat) (S0 : CallFix p m c cc nL s args lw_all own) (hdg : decode cc pc = .ok (.ifCond .ne off, 3)) (ht : (pc : Int) + off = (tgt : Int)) (ha : a < 2 ^ 31) (kt : a ≠ 0 → W p l e Rm s m args below meth c H locs cells slots Q (F0 m tgt ls rest)) (kf : a = 0 → W p l e Rm s m args below meth c H locs cells slots Q (F0 m (pc + 3) ls rest)) : W p l e Rm s m args below meth c H locs cells slots Q (F0 m pc ls (.int (nI a) :: rest)) :=
  lv_if_ne S0.1 S0.2.1 hdg ht (fun q => kt (fun z => q ((tr_nI_0 ha).mpr z))) (fun q => kf ((tr_nI_0 ha).mp q))
theorem tr_bif_eq {a : Bool} {off : Int} (tgt : Nat) (S0 : CallFix p m c cc nL s args lw_all own) (hdg : decode cc pc = .ok (.ifCond .eq off, 3)) (ht : (pc : Int) + off = (tgt : Int)) (kt : a = false → W p l e Rm s m args below meth c H locs cells slots Q (F0 m tgt ls rest)) (kf : a = true → W p l e Rm s m args below meth c H locs cells slots Q (F0 m (pc + 3) ls rest)) : W p l e Rm s m args below meth c H locs cells slots Q (F0 m pc ls (.int (tr_bI a) :: rest)) :=
  lv_if_eq S0.1 S0.2.1 hdg ht (fun q => kt ((tr_bI_0).mp q)) (fun q => kf (by cases a with | true => rfl | false => exact absurd ((tr_bI_0).mpr rfl) q))
theorem tr_bif_ne {a : Bool} {off : Int} (tgt : Nat) (S0 : CallFix p m c cc nL s args lw_all own) (hdg : decode cc pc = .ok (.ifCond .ne off, 3)) (ht : (pc : Int) + off = (tgt : Int)) (kt : a = true → W p l e Rm s m args below meth c H locs cells slots Q (F0 m tgt ls rest)) (kf : a = false → W p l e Rm s m args below meth c H locs cells slots Q (F0 m (pc + 3) ls rest)) : W p l e Rm s m args below meth c H locs cells slots Q (F0 m pc ls (.int (tr_bI a) :: rest)) :=
  lv_if_ne S0.1 S0.2.1 hdg ht (fun q => kt (by cases a with | true => rfl | false => exact absurd ((tr_bI_0).mpr rfl) q)) (fun q => kf ((tr_bI_0).mp q))
end TRW
theorem tr_updN (f : Nat → Nat) {k v : Nat} (h : k < 2 ^ 31) : upd (fun j => nI (f j)) (nI k).toNatClampNeg (nI v) = fun j => nI (va_up f k v j) := by
  funext j
  rw [nI_clamp h]
  unfold upd va_up
  by_cases hj : j = k <;> simp [hj]
theorem tr_updB (f : Nat → Bool) {k : Nat} {v : Bool} (h : k < 2 ^ 31) : upd (fun j => tr_bI (f j)) (nI k).toNatClampNeg (vp_nar .boolean (tr_bI v)) = fun j => tr_bI (va_up f k v j) := by
  have hv : vp_nar .boolean (tr_bI v) = tr_bI v := by cases v <;> rfl
  funext j
  rw [nI_clamp h, hv]
  unfold upd va_up
  by_cases hj : j = k <;> simp [hj]
theorem tr_updL (f : Nat → Int) {k : Nat} {v : Int} (h : k < 2 ^ 31) : vp_updL (fun j => Int64.ofInt (f j)) (nI k).toNatClampNeg (Int64.ofInt v) = fun j => Int64.ofInt (va_up f k v j) := by
  funext j
  rw [nI_clamp h]
  unfold vp_updL va_up
  by_cases hj : j = k <;> simp [hj]
theorem tr_arrV {cA : ClassId} {k : Nat} {f g : Nat → Value} (h : ∀ j, j < k → f j = g j) : arrV cA k f = arrV cA k g := by
  unfold arrV
  congr 1
  congr 1
  funext j
  exact h j.val j.isLt
section TRX
variable {p : Program} {l : Launch} {e : Env} {Rm : Room} {s : State} {m : MethodId} {args : Array Value} {below : List Frame} {meth : Method} {c : Code} {H : Heap} {locs : List Loc} {cells slots : Nat} {Q : State → Prop}
variable {cc : ByteArray} {pc nL : Nat} {ls : Array Slot} {rest : List Value} {D : va_G} {A0 : Nat → Prop} {ad : Nat → Nat} {da : Nat → ClassId} {n mk : Nat} {T : Nat → Bool} {A B N R : Nat → Nat} {M : Nat → Int}
theorem xg_n (S0 : CallFix p m c cc nL s args lw_all RX1) (hK : va_K D tr_Cl (tr_Xt da) s) (I : tr_I s A0 D (tr_XW ad da n mk T A B N R M) H locs) (hdg : decode cc pc = .ok (.getfield 7, 3)) (kk : W p l e Rm s m args below meth c H locs cells slots Q (F0 m (pc + 3) ls (.int (nI n) :: rest))) : W p l e Rm s m args below meth c H locs cells slots Q (F0 m pc ls (.ref (ad 0) :: rest)) :=
  va_get (D := D) (ci := 0) (v := .int (nI n)) (C := RX1) (T := TX1) (N := 8) S0.1 S0.2.1 S0.2.2.2.2 in_X1 S0.2.2.2.1 hK I.1 0 rfl rfl 0 (by decide) (S0.2.2.2.2 _ q22) (fun _ h9 => h9) rfl hdg kk
theorem xg_there (S0 : CallFix p m c cc nL s args lw_all RX1) (hK : va_K D tr_Cl (tr_Xt da) s) (I : tr_I s A0 D (tr_XW ad da n mk T A B N R M) H locs) (hdg : decode cc pc = .ok (.getfield 13, 3)) (kk : W p l e Rm s m args below meth c H locs cells slots Q (F0 m (pc + 3) ls (.ref (ad 1) :: rest))) : W p l e Rm s m args below meth c H locs cells slots Q (F0 m pc ls (.ref (ad 0) :: rest)) :=
  va_get (D := D) (ci := 0) (v := .ref (ad 1)) (C := RX1) (T := TX1) (N := 8) S0.1 S0.2.1 S0.2.2.2.2 in_X1 S0.2.2.2.1 hK I.1 0 rfl rfl 1 (by decide) (S0.2.2.2.2 _ q23) (fun _ h9 => h9) rfl hdg kk
theorem xg_endA (S0 : CallFix p m c cc nL s args lw_all RX1) (hK : va_K D tr_Cl (tr_Xt da) s) (I : tr_I s A0 D (tr_XW ad da n mk T A B N R M) H locs) (hdg : decode cc pc = .ok (.getfield 17, 3)) (kk : W p l e Rm s m args below meth c H locs cells slots Q (F0 m (pc + 3) ls (.ref (ad 2) :: rest))) : W p l e Rm s m args below meth c H locs cells slots Q (F0 m pc ls (.ref (ad 0) :: rest)) :=
  va_get (D := D) (ci := 0) (v := .ref (ad 2)) (C := RX1) (T := TX1) (N := 8) S0.1 S0.2.1 S0.2.2.2.2 in_X1 S0.2.2.2.1 hK I.1 0 rfl rfl 2 (by decide) (S0.2.2.2.2 _ q24) (fun _ h9 => h9) rfl hdg kk
theorem xg_endB (S0 : CallFix p m c cc nL s args lw_all RX1) (hK : va_K D tr_Cl (tr_Xt da) s) (I : tr_I s A0 D (tr_XW ad da n mk T A B N R M) H locs) (hdg : decode cc pc = .ok (.getfield 21, 3)) (kk : W p l e Rm s m args below meth c H locs cells slots Q (F0 m (pc + 3) ls (.ref (ad 3) :: rest))) : W p l e Rm s m args below meth c H locs cells slots Q (F0 m pc ls (.ref (ad 0) :: rest)) :=
  va_get (D := D) (ci := 0) (v := .ref (ad 3)) (C := RX1) (T := TX1) (N := 8) S0.1 S0.2.1 S0.2.2.2.2 in_X1 S0.2.2.2.1 hK I.1 0 rfl rfl 3 (by decide) (S0.2.2.2.2 _ q25) (fun _ h9 => h9) rfl hdg kk
theorem xg_marked (S0 : CallFix p m c cc nL s args lw_all RX1) (hK : va_K D tr_Cl (tr_Xt da) s) (I : tr_I s A0 D (tr_XW ad da n mk T A B N R M) H locs) (hdg : decode cc pc = .ok (.getfield 46, 3)) (kk : W p l e Rm s m args below meth c H locs cells slots Q (F0 m (pc + 3) ls (.int (nI mk) :: rest))) : W p l e Rm s m args below meth c H locs cells slots Q (F0 m pc ls (.ref (ad 0) :: rest)) :=
  va_get (D := D) (ci := 0) (v := .int (nI mk)) (C := RX1) (T := TX1) (N := 8) S0.1 S0.2.1 S0.2.2.2.2 in_X1 S0.2.2.2.1 hK I.1 0 rfl rfl 4 (by decide) (S0.2.2.2.2 _ q26) (fun _ h9 => h9) rfl hdg kk
theorem xg_nameOf (S0 : CallFix p m c cc nL s args lw_all RX1) (hK : va_K D tr_Cl (tr_Xt da) s) (I : tr_I s A0 D (tr_XW ad da n mk T A B N R M) H locs) (hdg : decode cc pc = .ok (.getfield 24, 3)) (kk : W p l e Rm s m args below meth c H locs cells slots Q (F0 m (pc + 3) ls (.ref (ad 4) :: rest))) : W p l e Rm s m args below meth c H locs cells slots Q (F0 m pc ls (.ref (ad 0) :: rest)) :=
  va_get (D := D) (ci := 0) (v := .ref (ad 4)) (C := RX1) (T := TX1) (N := 8) S0.1 S0.2.1 S0.2.2.2.2 in_X1 S0.2.2.2.1 hK I.1 0 rfl rfl 5 (by decide) (S0.2.2.2.2 _ q27) (fun _ h9 => h9) rfl hdg kk
theorem xg_rowOf (S0 : CallFix p m c cc nL s args lw_all RX1) (hK : va_K D tr_Cl (tr_Xt da) s) (I : tr_I s A0 D (tr_XW ad da n mk T A B N R M) H locs) (hdg : decode cc pc = .ok (.getfield 27, 3)) (kk : W p l e Rm s m args below meth c H locs cells slots Q (F0 m (pc + 3) ls (.ref (ad 5) :: rest))) : W p l e Rm s m args below meth c H locs cells slots Q (F0 m pc ls (.ref (ad 0) :: rest)) :=
  va_get (D := D) (ci := 0) (v := .ref (ad 5)) (C := RX1) (T := TX1) (N := 8) S0.1 S0.2.1 S0.2.2.2.2 in_X1 S0.2.2.2.1 hK I.1 0 rfl rfl 6 (by decide) (S0.2.2.2.2 _ q28) (fun _ h9 => h9) rfl hdg kk
theorem xg_matrix (S0 : CallFix p m c cc nL s args lw_all RX1) (hK : va_K D tr_Cl (tr_Xt da) s) (I : tr_I s A0 D (tr_XW ad da n mk T A B N R M) H locs) (hdg : decode cc pc = .ok (.getfield 30, 3)) (kk : W p l e Rm s m args below meth c H locs cells slots Q (F0 m (pc + 3) ls (.ref (ad 6) :: rest))) : W p l e Rm s m args below meth c H locs cells slots Q (F0 m pc ls (.ref (ad 0) :: rest)) :=
  va_get (D := D) (ci := 0) (v := .ref (ad 6)) (C := RX1) (T := TX1) (N := 8) S0.1 S0.2.1 S0.2.2.2.2 in_X1 S0.2.2.2.1 hK I.1 0 rfl rfl 7 (by decide) (S0.2.2.2.2 _ q29) (fun _ h9 => h9) rfl hdg kk
theorem xp_marked {mk' : Nat} (S0 : CallFix p m c cc nL s args lw_all RX1) (hK : va_K D tr_Cl (tr_Xt da) s) (I : tr_I s A0 D (tr_XW ad da n mk T A B N R M) H locs) (hdg : decode cc pc = .ok (.putfield 46, 3)) (kk : ∀ (H1 : Heap) (locs1 : List Loc), tr_I s A0 D (tr_XW ad da n mk' T A B N R M) H1 locs1 → W p l e Rm s m args below meth c H1 locs1 cells slots Q (F0 m (pc + 3) ls rest)) : W p l e Rm s m args below meth c H locs cells slots Q (F0 m pc ls (.int (nI mk') :: .ref (ad 0) :: rest)) :=
  va_put (D := D) (ci := 0) (v := .int (nI mk')) (ty := .int) (C := RX1) (T := TX1) (N := 8) S0.1 S0.2.1 S0.2.2.2.2 in_X1 tyX1 tyX1_ok nmX1 S0.2.2.2.1 hK I.1 I.2.1 I.2.2 0 rfl rfl 4 (by decide) (S0.2.2.2.2 _ q26) (fun _ h9 => h9) rfl (by decide +kernel) rfl rfl (Nat.le_of_ble_eq_true rfl) hdg (fun H1 locs1 hP hD hS => kk H1 locs1 ⟨hP, hD, hS⟩)
theorem xl_T {i : Nat} (S0 : CallFix p m c cc nL s args lw_all RX1) (hK : va_K D tr_Cl (tr_Xt da) s) (I : tr_I s A0 D (tr_XW ad da n mk T A B N R M) H locs) (hi : i < 10) (hdg : decode cc pc = .ok (.baload, 1)) (kk : W p l e Rm s m args below meth c H locs cells slots Q (F0 m (pc + 1) ls (.int (tr_bI (T i)) :: rest))) : W p l e Rm s m args below meth c H locs cells slots Q (F0 m pc ls (.int (nI i) :: .ref (ad 1) :: rest)) := by
  refine va_zald S0.1 S0.2.1 hK I.1 1 0 rfl rfl (vp_in_nI hi (by omega)) hdg ?_
  rw [nI_clamp (show i < 2 ^ 31 by omega)]
  exact kk
theorem xs_T {i : Nat} {v : Bool} (S0 : CallFix p m c cc nL s args lw_all RX1) (hK : va_K D tr_Cl (tr_Xt da) s) (I : tr_I s A0 D (tr_XW ad da n mk T A B N R M) H locs) (hi : i < 10) (hdg : decode cc pc = .ok (.bastore, 1)) (kk : ∀ (H1 : Heap) (locs1 : List Loc), tr_I s A0 D (tr_XW ad da n mk (va_up T i v) A B N R M) H1 locs1 → W p l e Rm s m args below meth c H1 locs1 cells slots Q (F0 m (pc + 1) ls rest)) : W p l e Rm s m args below meth c H locs cells slots Q (F0 m pc ls (.int (tr_bI v) :: .int (nI i) :: .ref (ad 1) :: rest)) := by
  refine va_zast S0.1 S0.2.1 hK I.1 I.2.1 I.2.2 1 0 rfl rfl (vp_in_nI hi (by omega)) hdg (fun H1 locs1 hP hD hS => ?_)
  rw [tr_updB T (show i < 2 ^ 31 by omega)] at hP hD
  exact kk H1 locs1 ⟨hP, hD, hS⟩
theorem xl_A {i : Nat} (S0 : CallFix p m c cc nL s args lw_all RX1) (hK : va_K D tr_Cl (tr_Xt da) s) (I : tr_I s A0 D (tr_XW ad da n mk T A B N R M) H locs) (hi : i < 10) (hdg : decode cc pc = .ok (.iaload, 1)) (kk : W p l e Rm s m args below meth c H locs cells slots Q (F0 m (pc + 1) ls (.int (nI (A i)) :: rest))) : W p l e Rm s m args below meth c H locs cells slots Q (F0 m pc ls (.int (nI i) :: .ref (ad 2) :: rest)) := by
  refine va_iald S0.1 S0.2.1 hK I.1 2 1 rfl rfl (vp_in_nI hi (by omega)) hdg ?_
  rw [nI_clamp (show i < 2 ^ 31 by omega)]
  exact kk
theorem xs_A {i : Nat} {v : Nat} (S0 : CallFix p m c cc nL s args lw_all RX1) (hK : va_K D tr_Cl (tr_Xt da) s) (I : tr_I s A0 D (tr_XW ad da n mk T A B N R M) H locs) (hi : i < 10) (hdg : decode cc pc = .ok (.iastore, 1)) (kk : ∀ (H1 : Heap) (locs1 : List Loc), tr_I s A0 D (tr_XW ad da n mk T (va_up A i v) B N R M) H1 locs1 → W p l e Rm s m args below meth c H1 locs1 cells slots Q (F0 m (pc + 1) ls rest)) : W p l e Rm s m args below meth c H locs cells slots Q (F0 m pc ls (.int (nI v) :: .int (nI i) :: .ref (ad 2) :: rest)) := by
  refine va_iast S0.1 S0.2.1 hK I.1 I.2.1 I.2.2 2 1 rfl rfl (vp_in_nI hi (by omega)) hdg (fun H1 locs1 hP hD hS => ?_)
  rw [tr_updN A (show i < 2 ^ 31 by omega)] at hP hD
  exact kk H1 locs1 ⟨hP, hD, hS⟩
theorem xl_B {i : Nat} (S0 : CallFix p m c cc nL s args lw_all RX1) (hK : va_K D tr_Cl (tr_Xt da) s) (I : tr_I s A0 D (tr_XW ad da n mk T A B N R M) H locs) (hi : i < 10) (hdg : decode cc pc = .ok (.iaload, 1)) (kk : W p l e Rm s m args below meth c H locs cells slots Q (F0 m (pc + 1) ls (.int (nI (B i)) :: rest))) : W p l e Rm s m args below meth c H locs cells slots Q (F0 m pc ls (.int (nI i) :: .ref (ad 3) :: rest)) := by
  refine va_iald S0.1 S0.2.1 hK I.1 3 2 rfl rfl (vp_in_nI hi (by omega)) hdg ?_
  rw [nI_clamp (show i < 2 ^ 31 by omega)]
  exact kk
theorem xs_B {i : Nat} {v : Nat} (S0 : CallFix p m c cc nL s args lw_all RX1) (hK : va_K D tr_Cl (tr_Xt da) s) (I : tr_I s A0 D (tr_XW ad da n mk T A B N R M) H locs) (hi : i < 10) (hdg : decode cc pc = .ok (.iastore, 1)) (kk : ∀ (H1 : Heap) (locs1 : List Loc), tr_I s A0 D (tr_XW ad da n mk T A (va_up B i v) N R M) H1 locs1 → W p l e Rm s m args below meth c H1 locs1 cells slots Q (F0 m (pc + 1) ls rest)) : W p l e Rm s m args below meth c H locs cells slots Q (F0 m pc ls (.int (nI v) :: .int (nI i) :: .ref (ad 3) :: rest)) := by
  refine va_iast S0.1 S0.2.1 hK I.1 I.2.1 I.2.2 3 2 rfl rfl (vp_in_nI hi (by omega)) hdg (fun H1 locs1 hP hD hS => ?_)
  rw [tr_updN B (show i < 2 ^ 31 by omega)] at hP hD
  exact kk H1 locs1 ⟨hP, hD, hS⟩
theorem xl_N {i : Nat} (S0 : CallFix p m c cc nL s args lw_all RX1) (hK : va_K D tr_Cl (tr_Xt da) s) (I : tr_I s A0 D (tr_XW ad da n mk T A B N R M) H locs) (hi : i < 6) (hdg : decode cc pc = .ok (.iaload, 1)) (kk : W p l e Rm s m args below meth c H locs cells slots Q (F0 m (pc + 1) ls (.int (nI (N i)) :: rest))) : W p l e Rm s m args below meth c H locs cells slots Q (F0 m pc ls (.int (nI i) :: .ref (ad 4) :: rest)) := by
  refine va_iald S0.1 S0.2.1 hK I.1 4 3 rfl rfl (vp_in_nI hi (by omega)) hdg ?_
  rw [nI_clamp (show i < 2 ^ 31 by omega)]
  exact kk
theorem xs_N {i : Nat} {v : Nat} (S0 : CallFix p m c cc nL s args lw_all RX1) (hK : va_K D tr_Cl (tr_Xt da) s) (I : tr_I s A0 D (tr_XW ad da n mk T A B N R M) H locs) (hi : i < 6) (hdg : decode cc pc = .ok (.iastore, 1)) (kk : ∀ (H1 : Heap) (locs1 : List Loc), tr_I s A0 D (tr_XW ad da n mk T A B (va_up N i v) R M) H1 locs1 → W p l e Rm s m args below meth c H1 locs1 cells slots Q (F0 m (pc + 1) ls rest)) : W p l e Rm s m args below meth c H locs cells slots Q (F0 m pc ls (.int (nI v) :: .int (nI i) :: .ref (ad 4) :: rest)) := by
  refine va_iast S0.1 S0.2.1 hK I.1 I.2.1 I.2.2 4 3 rfl rfl (vp_in_nI hi (by omega)) hdg (fun H1 locs1 hP hD hS => ?_)
  rw [tr_updN N (show i < 2 ^ 31 by omega)] at hP hD
  exact kk H1 locs1 ⟨hP, hD, hS⟩
theorem xc_N {N' : Nat → Nat} (I : tr_I s A0 D (tr_XW ad da n mk T A B N R M) H locs) (h : ∀ j, j < 6 → N j = N' j) : tr_I s A0 D (tr_XW ad da n mk T A B N' R M) H locs := by
  refine ⟨fun k q hq => ?_, ⟨fun i j x y hx hy => ?_, fun k q hq => ?_⟩, I.2.2⟩
  · have hk : k < 7 := (List.getElem?_eq_some_iff.mp hq).1
    rcases (show k = 0 ∨ k = 1 ∨ k = 2 ∨ k = 3 ∨ k = 4 ∨ k = 5 ∨ k = 6 by omega) with rfl | rfl | rfl | rfl | rfl | rfl | rfl
    · exact I.1 0 q hq
    · exact I.1 1 q hq
    · exact I.1 2 q hq
    · exact I.1 3 q hq
    · cases hq
      have h2 := I.1 4 _ rfl
      refine (show H[ad 4]? = _ from h2).trans ?_
      show some (vp_cell (da 4) (6, .inl (fun j => nI (N j)))) = some (vp_cell (da 4) (6, .inl (fun j => nI (N' j))))
      rw [vp_cell_i, vp_cell_i, tr_arrV (f := fun j => .int (nI (N j))) (g := fun j => .int (nI (N' j))) (fun j hj => by simp only [h j hj])]
    · exact I.1 5 q hq
    · exact I.1 6 q hq
  · have e : ∀ k : Nat, ((tr_XW ad da n mk T A B N' R M)[k]?).map (fun z => z.1) = ((tr_XW ad da n mk T A B N R M)[k]?).map (fun z => z.1) := by
      intro k
      rw [← List.getElem?_map, ← List.getElem?_map]
      rfl
    intro hxy
    have ei := e i
    have ej := e j
    rw [hx] at ei
    rw [hy] at ej
    cases hu : (tr_XW ad da n mk T A B N R M)[i]? with
    | none => rw [hu] at ei; cases ei
    | some u =>
      cases hv : (tr_XW ad da n mk T A B N R M)[j]? with
      | none => rw [hv] at ej; cases ej
      | some v =>
        rw [hu] at ei
        rw [hv] at ej
        exact I.2.1.1 i j u v hu hv ((Option.some.inj ei).symm.trans (hxy.trans (Option.some.inj ej)))
  · have e : ((tr_XW ad da n mk T A B N' R M)[k]?).map (fun z => z.1) = ((tr_XW ad da n mk T A B N R M)[k]?).map (fun z => z.1) := by
      rw [← List.getElem?_map, ← List.getElem?_map]
      rfl
    rw [hq] at e
    cases hu : (tr_XW ad da n mk T A B N R M)[k]? with
    | none => rw [hu] at e; cases e
    | some u =>
      rw [hu] at e
      rw [show q.1 = u.1 from Option.some.inj e]
      exact I.2.1.2 k u hu
theorem xl_R {i : Nat} (S0 : CallFix p m c cc nL s args lw_all RX1) (hK : va_K D tr_Cl (tr_Xt da) s) (I : tr_I s A0 D (tr_XW ad da n mk T A B N R M) H locs) (hi : i < 6) (hdg : decode cc pc = .ok (.iaload, 1)) (kk : W p l e Rm s m args below meth c H locs cells slots Q (F0 m (pc + 1) ls (.int (nI (R i)) :: rest))) : W p l e Rm s m args below meth c H locs cells slots Q (F0 m pc ls (.int (nI i) :: .ref (ad 5) :: rest)) := by
  refine va_iald S0.1 S0.2.1 hK I.1 5 4 rfl rfl (vp_in_nI hi (by omega)) hdg ?_
  rw [nI_clamp (show i < 2 ^ 31 by omega)]
  exact kk
theorem xs_R {i : Nat} {v : Nat} (S0 : CallFix p m c cc nL s args lw_all RX1) (hK : va_K D tr_Cl (tr_Xt da) s) (I : tr_I s A0 D (tr_XW ad da n mk T A B N R M) H locs) (hi : i < 6) (hdg : decode cc pc = .ok (.iastore, 1)) (kk : ∀ (H1 : Heap) (locs1 : List Loc), tr_I s A0 D (tr_XW ad da n mk T A B N (va_up R i v) M) H1 locs1 → W p l e Rm s m args below meth c H1 locs1 cells slots Q (F0 m (pc + 1) ls rest)) : W p l e Rm s m args below meth c H locs cells slots Q (F0 m pc ls (.int (nI v) :: .int (nI i) :: .ref (ad 5) :: rest)) := by
  refine va_iast S0.1 S0.2.1 hK I.1 I.2.1 I.2.2 5 4 rfl rfl (vp_in_nI hi (by omega)) hdg (fun H1 locs1 hP hD hS => ?_)
  rw [tr_updN R (show i < 2 ^ 31 by omega)] at hP hD
  exact kk H1 locs1 ⟨hP, hD, hS⟩
theorem xl_M {i : Nat} (S0 : CallFix p m c cc nL s args lw_all RX1) (hK : va_K D tr_Cl (tr_Xt da) s) (I : tr_I s A0 D (tr_XW ad da n mk T A B N R M) H locs) (hi : i < 36) (hdg : decode cc pc = .ok (.laload, 1)) (kk : W p l e Rm s m args below meth c H locs cells slots Q (F0 m (pc + 1) ls (.long (Int64.ofInt (M i)) :: rest))) : W p l e Rm s m args below meth c H locs cells slots Q (F0 m pc ls (.int (nI i) :: .ref (ad 6) :: rest)) := by
  refine va_lald S0.1 S0.2.1 hK I.1 6 5 rfl rfl (vp_in_nI hi (by omega)) hdg ?_
  rw [nI_clamp (show i < 2 ^ 31 by omega)]
  exact kk
theorem xs_M {i : Nat} {v : Int} (S0 : CallFix p m c cc nL s args lw_all RX1) (hK : va_K D tr_Cl (tr_Xt da) s) (I : tr_I s A0 D (tr_XW ad da n mk T A B N R M) H locs) (hi : i < 36) (hdg : decode cc pc = .ok (.lastore, 1)) (kk : ∀ (H1 : Heap) (locs1 : List Loc), tr_I s A0 D (tr_XW ad da n mk T A B N R (va_up M i v)) H1 locs1 → W p l e Rm s m args below meth c H1 locs1 cells slots Q (F0 m (pc + 1) ls rest)) : W p l e Rm s m args below meth c H locs cells slots Q (F0 m pc ls (.long (Int64.ofInt v) :: .int (nI i) :: .ref (ad 6) :: rest)) := by
  refine va_last S0.1 S0.2.1 hK I.1 I.2.1 I.2.2 6 5 rfl rfl (vp_in_nI hi (by omega)) hdg (fun H1 locs1 hP hD hS => ?_)
  rw [tr_updL M (show i < 2 ^ 31 by omega)] at hP hD
  exact kk H1 locs1 ⟨hP, hD, hS⟩
end TRX
section TRM
variable {p : Program} {l : Launch} {e : Env} {Rm : Room} {s : State} {m : MethodId} {args : Array Value} {below : List Frame} {meth : Method} {c : Code} {H : Heap} {locs : List Loc} {cells slots : Nat} {Q : State → Prop}
variable {cc : ByteArray} {pc nL : Nat} {ls : Array Slot} {rest : List Value} {D : va_G} {A0 : Nat → Prop} {ad : Nat → Nat} {da : Nat → ClassId} {n mk : Nat} {T : Nat → Bool} {A B N : Nat → Nat}
theorem mg_n (S0 : CallFix p m c cc nL s args lw_all RX2) (hK : va_K D tr_Cl (tr_Mt da) s) (I : tr_I s A0 D (tr_MW ad da n mk T A B N) H locs) (hdg : decode cc pc = .ok (.getfield 23, 3)) (kk : W p l e Rm s m args below meth c H locs cells slots Q (F0 m (pc + 3) ls (.int (nI n) :: rest))) : W p l e Rm s m args below meth c H locs cells slots Q (F0 m pc ls (.ref (ad 0) :: rest)) :=
  va_get (D := D) (ci := 1) (v := .int (nI n)) (C := RX2) (T := TX2) (N := 6) S0.1 S0.2.1 S0.2.2.2.2 in_X2 S0.2.2.2.1 hK I.1 0 rfl rfl 0 (by decide) (S0.2.2.2.2 _ q136) (fun _ h9 => h9) rfl hdg kk
theorem mg_there (S0 : CallFix p m c cc nL s args lw_all RX2) (hK : va_K D tr_Cl (tr_Mt da) s) (I : tr_I s A0 D (tr_MW ad da n mk T A B N) H locs) (hdg : decode cc pc = .ok (.getfield 7, 3)) (kk : W p l e Rm s m args below meth c H locs cells slots Q (F0 m (pc + 3) ls (.ref (ad 1) :: rest))) : W p l e Rm s m args below meth c H locs cells slots Q (F0 m pc ls (.ref (ad 0) :: rest)) :=
  va_get (D := D) (ci := 1) (v := .ref (ad 1)) (C := RX2) (T := TX2) (N := 6) S0.1 S0.2.1 S0.2.2.2.2 in_X2 S0.2.2.2.1 hK I.1 0 rfl rfl 1 (by decide) (S0.2.2.2.2 _ q137) (fun _ h9 => h9) rfl hdg kk
theorem mg_from (S0 : CallFix p m c cc nL s args lw_all RX2) (hK : va_K D tr_Cl (tr_Mt da) s) (I : tr_I s A0 D (tr_MW ad da n mk T A B N) H locs) (hdg : decode cc pc = .ok (.getfield 13, 3)) (kk : W p l e Rm s m args below meth c H locs cells slots Q (F0 m (pc + 3) ls (.ref (ad 2) :: rest))) : W p l e Rm s m args below meth c H locs cells slots Q (F0 m pc ls (.ref (ad 0) :: rest)) :=
  va_get (D := D) (ci := 1) (v := .ref (ad 2)) (C := RX2) (T := TX2) (N := 6) S0.1 S0.2.1 S0.2.2.2.2 in_X2 S0.2.2.2.1 hK I.1 0 rfl rfl 2 (by decide) (S0.2.2.2.2 _ q138) (fun _ h9 => h9) rfl hdg kk
theorem mg_to (S0 : CallFix p m c cc nL s args lw_all RX2) (hK : va_K D tr_Cl (tr_Mt da) s) (I : tr_I s A0 D (tr_MW ad da n mk T A B N) H locs) (hdg : decode cc pc = .ok (.getfield 17, 3)) (kk : W p l e Rm s m args below meth c H locs cells slots Q (F0 m (pc + 3) ls (.ref (ad 3) :: rest))) : W p l e Rm s m args below meth c H locs cells slots Q (F0 m pc ls (.ref (ad 0) :: rest)) :=
  va_get (D := D) (ci := 1) (v := .ref (ad 3)) (C := RX2) (T := TX2) (N := 6) S0.1 S0.2.1 S0.2.2.2.2 in_X2 S0.2.2.2.1 hK I.1 0 rfl rfl 3 (by decide) (S0.2.2.2.2 _ q139) (fun _ h9 => h9) rfl hdg kk
theorem mg_marked (S0 : CallFix p m c cc nL s args lw_all RX2) (hK : va_K D tr_Cl (tr_Mt da) s) (I : tr_I s A0 D (tr_MW ad da n mk T A B N) H locs) (hdg : decode cc pc = .ok (.getfield 48, 3)) (kk : W p l e Rm s m args below meth c H locs cells slots Q (F0 m (pc + 3) ls (.int (nI mk) :: rest))) : W p l e Rm s m args below meth c H locs cells slots Q (F0 m pc ls (.ref (ad 0) :: rest)) :=
  va_get (D := D) (ci := 1) (v := .int (nI mk)) (C := RX2) (T := TX2) (N := 6) S0.1 S0.2.1 S0.2.2.2.2 in_X2 S0.2.2.2.1 hK I.1 0 rfl rfl 4 (by decide) (S0.2.2.2.2 _ q140) (fun _ h9 => h9) rfl hdg kk
theorem mg_part (S0 : CallFix p m c cc nL s args lw_all RX2) (hK : va_K D tr_Cl (tr_Mt da) s) (I : tr_I s A0 D (tr_MW ad da n mk T A B N) H locs) (hdg : decode cc pc = .ok (.getfield 20, 3)) (kk : W p l e Rm s m args below meth c H locs cells slots Q (F0 m (pc + 3) ls (.ref (ad 4) :: rest))) : W p l e Rm s m args below meth c H locs cells slots Q (F0 m pc ls (.ref (ad 0) :: rest)) :=
  va_get (D := D) (ci := 1) (v := .ref (ad 4)) (C := RX2) (T := TX2) (N := 6) S0.1 S0.2.1 S0.2.2.2.2 in_X2 S0.2.2.2.1 hK I.1 0 rfl rfl 5 (by decide) (S0.2.2.2.2 _ q141) (fun _ h9 => h9) rfl hdg kk
theorem mp_marked {mk' : Nat} (S0 : CallFix p m c cc nL s args lw_all RX2) (hK : va_K D tr_Cl (tr_Mt da) s) (I : tr_I s A0 D (tr_MW ad da n mk T A B N) H locs) (hdg : decode cc pc = .ok (.putfield 48, 3)) (kk : ∀ (H1 : Heap) (locs1 : List Loc), tr_I s A0 D (tr_MW ad da n mk' T A B N) H1 locs1 → W p l e Rm s m args below meth c H1 locs1 cells slots Q (F0 m (pc + 3) ls rest)) : W p l e Rm s m args below meth c H locs cells slots Q (F0 m pc ls (.int (nI mk') :: .ref (ad 0) :: rest)) :=
  va_put (D := D) (ci := 1) (v := .int (nI mk')) (ty := .int) (C := RX2) (T := TX2) (N := 6) S0.1 S0.2.1 S0.2.2.2.2 in_X2 tyX2 tyX2_ok nmX2 S0.2.2.2.1 hK I.1 I.2.1 I.2.2 0 rfl rfl 4 (by decide) (S0.2.2.2.2 _ q140) (fun _ h9 => h9) rfl (by decide +kernel) rfl rfl (Nat.le_of_ble_eq_true rfl) hdg (fun H1 locs1 hP hD hS => kk H1 locs1 ⟨hP, hD, hS⟩)
theorem ml_T {i : Nat} (S0 : CallFix p m c cc nL s args lw_all RX2) (hK : va_K D tr_Cl (tr_Mt da) s) (I : tr_I s A0 D (tr_MW ad da n mk T A B N) H locs) (hi : i < 10) (hdg : decode cc pc = .ok (.baload, 1)) (kk : W p l e Rm s m args below meth c H locs cells slots Q (F0 m (pc + 1) ls (.int (tr_bI (T i)) :: rest))) : W p l e Rm s m args below meth c H locs cells slots Q (F0 m pc ls (.int (nI i) :: .ref (ad 1) :: rest)) := by
  refine va_zald S0.1 S0.2.1 hK I.1 1 0 rfl rfl (vp_in_nI hi (by omega)) hdg ?_
  rw [nI_clamp (show i < 2 ^ 31 by omega)]
  exact kk
theorem ms_T {i : Nat} {v : Bool} (S0 : CallFix p m c cc nL s args lw_all RX2) (hK : va_K D tr_Cl (tr_Mt da) s) (I : tr_I s A0 D (tr_MW ad da n mk T A B N) H locs) (hi : i < 10) (hdg : decode cc pc = .ok (.bastore, 1)) (kk : ∀ (H1 : Heap) (locs1 : List Loc), tr_I s A0 D (tr_MW ad da n mk (va_up T i v) A B N) H1 locs1 → W p l e Rm s m args below meth c H1 locs1 cells slots Q (F0 m (pc + 1) ls rest)) : W p l e Rm s m args below meth c H locs cells slots Q (F0 m pc ls (.int (tr_bI v) :: .int (nI i) :: .ref (ad 1) :: rest)) := by
  refine va_zast S0.1 S0.2.1 hK I.1 I.2.1 I.2.2 1 0 rfl rfl (vp_in_nI hi (by omega)) hdg (fun H1 locs1 hP hD hS => ?_)
  rw [tr_updB T (show i < 2 ^ 31 by omega)] at hP hD
  exact kk H1 locs1 ⟨hP, hD, hS⟩
theorem ml_A {i : Nat} (S0 : CallFix p m c cc nL s args lw_all RX2) (hK : va_K D tr_Cl (tr_Mt da) s) (I : tr_I s A0 D (tr_MW ad da n mk T A B N) H locs) (hi : i < 10) (hdg : decode cc pc = .ok (.iaload, 1)) (kk : W p l e Rm s m args below meth c H locs cells slots Q (F0 m (pc + 1) ls (.int (nI (A i)) :: rest))) : W p l e Rm s m args below meth c H locs cells slots Q (F0 m pc ls (.int (nI i) :: .ref (ad 2) :: rest)) := by
  refine va_iald S0.1 S0.2.1 hK I.1 2 1 rfl rfl (vp_in_nI hi (by omega)) hdg ?_
  rw [nI_clamp (show i < 2 ^ 31 by omega)]
  exact kk
theorem ms_A {i : Nat} {v : Nat} (S0 : CallFix p m c cc nL s args lw_all RX2) (hK : va_K D tr_Cl (tr_Mt da) s) (I : tr_I s A0 D (tr_MW ad da n mk T A B N) H locs) (hi : i < 10) (hdg : decode cc pc = .ok (.iastore, 1)) (kk : ∀ (H1 : Heap) (locs1 : List Loc), tr_I s A0 D (tr_MW ad da n mk T (va_up A i v) B N) H1 locs1 → W p l e Rm s m args below meth c H1 locs1 cells slots Q (F0 m (pc + 1) ls rest)) : W p l e Rm s m args below meth c H locs cells slots Q (F0 m pc ls (.int (nI v) :: .int (nI i) :: .ref (ad 2) :: rest)) := by
  refine va_iast S0.1 S0.2.1 hK I.1 I.2.1 I.2.2 2 1 rfl rfl (vp_in_nI hi (by omega)) hdg (fun H1 locs1 hP hD hS => ?_)
  rw [tr_updN A (show i < 2 ^ 31 by omega)] at hP hD
  exact kk H1 locs1 ⟨hP, hD, hS⟩
theorem ml_B {i : Nat} (S0 : CallFix p m c cc nL s args lw_all RX2) (hK : va_K D tr_Cl (tr_Mt da) s) (I : tr_I s A0 D (tr_MW ad da n mk T A B N) H locs) (hi : i < 10) (hdg : decode cc pc = .ok (.iaload, 1)) (kk : W p l e Rm s m args below meth c H locs cells slots Q (F0 m (pc + 1) ls (.int (nI (B i)) :: rest))) : W p l e Rm s m args below meth c H locs cells slots Q (F0 m pc ls (.int (nI i) :: .ref (ad 3) :: rest)) := by
  refine va_iald S0.1 S0.2.1 hK I.1 3 2 rfl rfl (vp_in_nI hi (by omega)) hdg ?_
  rw [nI_clamp (show i < 2 ^ 31 by omega)]
  exact kk
theorem ms_B {i : Nat} {v : Nat} (S0 : CallFix p m c cc nL s args lw_all RX2) (hK : va_K D tr_Cl (tr_Mt da) s) (I : tr_I s A0 D (tr_MW ad da n mk T A B N) H locs) (hi : i < 10) (hdg : decode cc pc = .ok (.iastore, 1)) (kk : ∀ (H1 : Heap) (locs1 : List Loc), tr_I s A0 D (tr_MW ad da n mk T A (va_up B i v) N) H1 locs1 → W p l e Rm s m args below meth c H1 locs1 cells slots Q (F0 m (pc + 1) ls rest)) : W p l e Rm s m args below meth c H locs cells slots Q (F0 m pc ls (.int (nI v) :: .int (nI i) :: .ref (ad 3) :: rest)) := by
  refine va_iast S0.1 S0.2.1 hK I.1 I.2.1 I.2.2 3 2 rfl rfl (vp_in_nI hi (by omega)) hdg (fun H1 locs1 hP hD hS => ?_)
  rw [tr_updN B (show i < 2 ^ 31 by omega)] at hP hD
  exact kk H1 locs1 ⟨hP, hD, hS⟩
theorem ml_N {i : Nat} (S0 : CallFix p m c cc nL s args lw_all RX2) (hK : va_K D tr_Cl (tr_Mt da) s) (I : tr_I s A0 D (tr_MW ad da n mk T A B N) H locs) (hi : i < 6) (hdg : decode cc pc = .ok (.iaload, 1)) (kk : W p l e Rm s m args below meth c H locs cells slots Q (F0 m (pc + 1) ls (.int (nI (N i)) :: rest))) : W p l e Rm s m args below meth c H locs cells slots Q (F0 m pc ls (.int (nI i) :: .ref (ad 4) :: rest)) := by
  refine va_iald S0.1 S0.2.1 hK I.1 4 3 rfl rfl (vp_in_nI hi (by omega)) hdg ?_
  rw [nI_clamp (show i < 2 ^ 31 by omega)]
  exact kk
theorem ms_N {i : Nat} {v : Nat} (S0 : CallFix p m c cc nL s args lw_all RX2) (hK : va_K D tr_Cl (tr_Mt da) s) (I : tr_I s A0 D (tr_MW ad da n mk T A B N) H locs) (hi : i < 6) (hdg : decode cc pc = .ok (.iastore, 1)) (kk : ∀ (H1 : Heap) (locs1 : List Loc), tr_I s A0 D (tr_MW ad da n mk T A B (va_up N i v)) H1 locs1 → W p l e Rm s m args below meth c H1 locs1 cells slots Q (F0 m (pc + 1) ls rest)) : W p l e Rm s m args below meth c H locs cells slots Q (F0 m pc ls (.int (nI v) :: .int (nI i) :: .ref (ad 4) :: rest)) := by
  refine va_iast S0.1 S0.2.1 hK I.1 I.2.1 I.2.2 4 3 rfl rfl (vp_in_nI hi (by omega)) hdg (fun H1 locs1 hP hD hS => ?_)
  rw [tr_updN N (show i < 2 ^ 31 by omega)] at hP hD
  exact kk H1 locs1 ⟨hP, hD, hS⟩
theorem mc_N {N' : Nat → Nat} (I : tr_I s A0 D (tr_MW ad da n mk T A B N) H locs) (h : ∀ j, j < 6 → N j = N' j) : tr_I s A0 D (tr_MW ad da n mk T A B N') H locs := by
  refine ⟨fun k q hq => ?_, ⟨fun i j x y hx hy => ?_, fun k q hq => ?_⟩, I.2.2⟩
  · have hk : k < 5 := (List.getElem?_eq_some_iff.mp hq).1
    rcases (show k = 0 ∨ k = 1 ∨ k = 2 ∨ k = 3 ∨ k = 4 by omega) with rfl | rfl | rfl | rfl | rfl
    · exact I.1 0 q hq
    · exact I.1 1 q hq
    · exact I.1 2 q hq
    · exact I.1 3 q hq
    · cases hq
      have h2 := I.1 4 _ rfl
      refine (show H[ad 4]? = _ from h2).trans ?_
      show some (vp_cell (da 4) (6, .inl (fun j => nI (N j)))) = some (vp_cell (da 4) (6, .inl (fun j => nI (N' j))))
      rw [vp_cell_i, vp_cell_i, tr_arrV (f := fun j => .int (nI (N j))) (g := fun j => .int (nI (N' j))) (fun j hj => by simp only [h j hj])]
  · have e : ∀ k : Nat, ((tr_MW ad da n mk T A B N')[k]?).map (fun z => z.1) = ((tr_MW ad da n mk T A B N)[k]?).map (fun z => z.1) := by
      intro k
      rw [← List.getElem?_map, ← List.getElem?_map]
      rfl
    intro hxy
    have ei := e i
    have ej := e j
    rw [hx] at ei
    rw [hy] at ej
    cases hu : (tr_MW ad da n mk T A B N)[i]? with
    | none => rw [hu] at ei; cases ei
    | some u =>
      cases hv : (tr_MW ad da n mk T A B N)[j]? with
      | none => rw [hv] at ej; cases ej
      | some v =>
        rw [hu] at ei
        rw [hv] at ej
        exact I.2.1.1 i j u v hu hv ((Option.some.inj ei).symm.trans (hxy.trans (Option.some.inj ej)))
  · have e : ((tr_MW ad da n mk T A B N')[k]?).map (fun z => z.1) = ((tr_MW ad da n mk T A B N)[k]?).map (fun z => z.1) := by
      rw [← List.getElem?_map, ← List.getElem?_map]
      rfl
    rw [hq] at e
    cases hu : (tr_MW ad da n mk T A B N)[k]? with
    | none => rw [hu] at e; cases e
    | some u =>
      rw [hu] at e
      rw [show q.1 = u.1 from Option.some.inj e]
      exact I.2.1.2 k u hu
end TRM
end
section
/-! MACHINE 2: rows on bits and longs, at the level of natural numbers and integers -/
theorem tr_sl : ∀ n, n < 32 → ((nI n &&& 31).toBitVec.smod 32).toNat = n := by decide +kernel
theorem tr_su : ∀ n, n < 32 → (((nI n).toUInt32 &&& Int32.toUInt32 31).toBitVec % 32).toNat = n := by decide +kernel
theorem tr_nand (a b : Nat) : nI a &&& nI b = nI (a &&& b) := by
  apply Int32.toBitVec_inj.1
  show BitVec.ofNat 32 a &&& BitVec.ofNat 32 b = BitVec.ofNat 32 (a &&& b)
  apply BitVec.eq_of_getLsbD_eq
  intro i hi
  simp [hi]
theorem tr_nxor (a b : Nat) : nI a ^^^ nI b = nI (a ^^^ b) := by
  apply Int32.toBitVec_inj.1
  show BitVec.ofNat 32 a ^^^ BitVec.ofNat 32 b = BitVec.ofNat 32 (a ^^^ b)
  apply BitVec.eq_of_getLsbD_eq
  intro i hi
  simp [hi]
theorem tr_nor (a b : Nat) : nI a ||| nI b = nI (a ||| b) := by
  apply Int32.toBitVec_inj.1
  show BitVec.ofNat 32 a ||| BitVec.ofNat 32 b = BitVec.ofNat 32 (a ||| b)
  apply BitVec.eq_of_getLsbD_eq
  intro i hi
  simp [hi]
theorem tr_nand1 (a : Nat) : nI a &&& nI 1 = nI (a % 2) := by rw [tr_nand, Nat.and_one_is_mod]
theorem tr_nshl1 {k : Nat} (hk : k < 31) : nI 1 <<< (nI k &&& 31) = nI (2 ^ k) := by
  have h : (1 : Nat) * 2 ^ k < 2 ^ 32 := by
    rw [Nat.one_mul]
    exact Nat.pow_lt_pow_right (by decide) (by omega)
  rw [pk_shlN (nI k &&& 31) k (tr_sl k (by omega)) h, Nat.one_mul]
theorem tr_nshr {a k : Nat} (ha : a < 2 ^ 31) (hk : k < 32) : nI a >>> (nI k &&& 31) = nI (a / 2 ^ k) := pk_shrN ha (nI k &&& 31) k (tr_sl k hk)
theorem tr_nushr {a k : Nat} (ha : a < 2 ^ 32) (hk : k < 32) : ((nI a).toUInt32 >>> ((nI k).toUInt32 &&& Int32.toUInt32 31)).toInt32 = nI (a / 2 ^ k) := pk_ushrN ha (nI k) k (tr_su k hk)
/-- without the lines: nothing is left -/
theorem tr_nandnot {a b : Nat} (ha : a < 2 ^ 31) (hb : b < 2 ^ 31) : nI a &&& (nI b ^^^ (-1)) = 0 ↔ b &&& a = a := by
  have hm1 : (-1 : Int32).toBitVec = BitVec.allOnes 32 := by decide
  have key : (nI a &&& (nI b ^^^ (-1)) = 0) ↔ ∀ i, i < 32 → (a.testBit i && !b.testBit i) = false := by
    rw [← Int32.toBitVec_inj]
    have h1 : (nI a &&& (nI b ^^^ (-1))).toBitVec = BitVec.ofNat 32 a &&& (BitVec.ofNat 32 b ^^^ BitVec.allOnes 32) := by
      rw [← hm1]
      rfl
    rw [h1]
    constructor
    · intro h i hi
      have h2 : (BitVec.ofNat 32 a &&& (BitVec.ofNat 32 b ^^^ BitVec.allOnes 32)).getLsbD i = (0 : Int32).toBitVec.getLsbD i := by rw [h]
      have h3 : (0 : Int32).toBitVec.getLsbD i = false := BitVec.getLsbD_zero
      rw [h3, BitVec.getLsbD_and, BitVec.getLsbD_xor, BitVec.getLsbD_ofNat, BitVec.getLsbD_ofNat, BitVec.getLsbD_allOnes] at h2
      simp only [hi, decide_true, Bool.true_and, Bool.xor_true] at h2
      exact h2
    · intro h
      apply BitVec.eq_of_getLsbD_eq
      intro i hi
      have h3 : (0 : Int32).toBitVec.getLsbD i = false := BitVec.getLsbD_zero
      rw [h3, BitVec.getLsbD_and, BitVec.getLsbD_xor, BitVec.getLsbD_ofNat, BitVec.getLsbD_ofNat, BitVec.getLsbD_allOnes]
      simp only [hi, decide_true, Bool.true_and, Bool.xor_true]
      exact h i hi
  rw [key]
  constructor
  · intro h
    refine Nat.eq_of_testBit_eq (fun i => ?_)
    rw [Nat.testBit_and]
    rcases Nat.lt_or_ge i 32 with g | g
    · have := h i g
      cases h1 : a.testBit i <;> cases h2 : b.testBit i <;> simp_all
    · have : a.testBit i = false := Nat.testBit_lt_two_pow (Nat.lt_of_lt_of_le ha (Nat.pow_le_pow_right (by decide) (by omega)))
      rw [this]
      simp
  · intro h i hi
    have : (b &&& a).testBit i = a.testBit i := by rw [h]
    rw [Nat.testBit_and] at this
    cases h1 : a.testBit i <;> cases h2 : b.testBit i <;> simp_all
/-- counting down -/
def tr_dn (c : Nat) : Int32 := nI c - 1
theorem tr_dn_s (k : Nat) : tr_dn (k + 1) = nI k := nI_pred k
theorem tr_dn_0 : tr_dn 0 < 0 := by decide
theorem tr_dn_m (k : Nat) : nI k + Int32.ofInt (-1) = tr_dn k := by
  unfold tr_dn
  rw [show Int32.ofInt (-1) = -1 from rfl, ← Int32.sub_eq_add_neg]
/-- a line's number -/
def tr_isL (x : Int32) : Bool := decide (¬ x < 0 ∧ x ≤ 9)
theorem tr_isL_t {x : Int32} (h : tr_isL x = true) : ∃ k, k < 10 ∧ x = nI k := by
  have h1 : ¬ x < 0 ∧ x ≤ 9 := by simpa [tr_isL] using h
  obtain ⟨j, hj, e⟩ := nI_of2 (M := 9) (n := 9) (by decide) h1.1 h1.2
  exact ⟨j, by omega, e⟩
theorem tr_isL_n {k : Nat} (h : k < 10) : tr_isL (nI k) = true := by
  have h1 : ¬ nI k < 0 := nI_pos (by omega)
  have h2 : nI k ≤ nI 9 := nI_le (by omega) (by decide)
  have h3 : nI k ≤ 9 := h2
  simp [tr_isL, h3, Int32.not_lt.mp h1]
/-- a point's number -/
def tr_isP (n : Nat) (x : Int32) : Bool := decide (¬ x < 0 ∧ x < nI n)
theorem tr_isP_t {n : Nat} {x : Int32} (hn : n < 2 ^ 31) (h : tr_isP n x = true) : ∃ k, k < n ∧ x = nI k := by
  have h1 : ¬ x < 0 ∧ x < nI n := by simpa [tr_isP] using h
  obtain ⟨j, hj, e⟩ := nI_of h1.1
  refine ⟨j, ?_, e⟩
  rw [e] at h1
  exact (nI_ltI hj hn).mp h1.2
section TRB
variable {p : Program} {l : Launch} {e : Env} {Rm : Room} {s : State} {m : MethodId} {args : Array Value} {below : List Frame} {meth : Method} {c : Code} {H : Heap} {locs : List Loc} {cells slots : Nat} {Q : State → Prop}
variable {cc : ByteArray} {pc nL : Nat} {ls : Array Slot} {rest : List Value} {own : String}
theorem tr_iand {a b : Nat} (S0 : CallFix p m c cc nL s args lw_all own) (hdg : decode cc pc = .ok (.iand, 1)) (kk : W p l e Rm s m args below meth c H locs cells slots Q (F0 m (pc + 1) ls (.int (nI (a &&& b)) :: rest))) : W p l e Rm s m args below meth c H locs cells slots Q (F0 m pc ls (.int (nI b) :: .int (nI a) :: rest)) := lv_iand S0.1 S0.2.1 hdg (tr_ti (tr_nand a b) kk)
theorem tr_iand1 {a : Nat} (S0 : CallFix p m c cc nL s args lw_all own) (hdg : decode cc pc = .ok (.iand, 1)) (kk : W p l e Rm s m args below meth c H locs cells slots Q (F0 m (pc + 1) ls (.int (nI (a % 2)) :: rest))) : W p l e Rm s m args below meth c H locs cells slots Q (F0 m pc ls (.int (nI 1) :: .int (nI a) :: rest)) := lv_iand S0.1 S0.2.1 hdg (tr_ti (tr_nand1 a) kk)
theorem tr_ior {a b : Nat} (S0 : CallFix p m c cc nL s args lw_all own) (hdg : decode cc pc = .ok (.ior, 1)) (kk : W p l e Rm s m args below meth c H locs cells slots Q (F0 m (pc + 1) ls (.int (nI (a ||| b)) :: rest))) : W p l e Rm s m args below meth c H locs cells slots Q (F0 m pc ls (.int (nI b) :: .int (nI a) :: rest)) := lv_ior S0.1 S0.2.1 hdg (tr_ti (tr_nor a b) kk)
theorem tr_ixor {a b : Nat} (S0 : CallFix p m c cc nL s args lw_all own) (hdg : decode cc pc = .ok (.ixor, 1)) (kk : W p l e Rm s m args below meth c H locs cells slots Q (F0 m (pc + 1) ls (.int (nI (a ^^^ b)) :: rest))) : W p l e Rm s m args below meth c H locs cells slots Q (F0 m pc ls (.int (nI b) :: .int (nI a) :: rest)) := lv_ixor S0.1 S0.2.1 hdg (tr_ti (tr_nxor a b) kk)
theorem tr_ishl1 {k : Nat} (S0 : CallFix p m c cc nL s args lw_all own) (hk : k < 31) (hdg : decode cc pc = .ok (.ishl, 1)) (kk : W p l e Rm s m args below meth c H locs cells slots Q (F0 m (pc + 1) ls (.int (nI (2 ^ k)) :: rest))) : W p l e Rm s m args below meth c H locs cells slots Q (F0 m pc ls (.int (nI k) :: .int (nI 1) :: rest)) := lv_ishl S0.1 S0.2.1 hdg (tr_ti (tr_nshl1 hk) kk)
theorem tr_ishr {a k : Nat} (S0 : CallFix p m c cc nL s args lw_all own) (ha : a < 2 ^ 31) (hk : k < 32) (hdg : decode cc pc = .ok (.ishr, 1)) (kk : W p l e Rm s m args below meth c H locs cells slots Q (F0 m (pc + 1) ls (.int (nI (a / 2 ^ k)) :: rest))) : W p l e Rm s m args below meth c H locs cells slots Q (F0 m pc ls (.int (nI k) :: .int (nI a) :: rest)) := lv_ishr S0.1 S0.2.1 hdg (tr_ti (tr_nshr ha hk) kk)
theorem tr_iushr {a k : Nat} (S0 : CallFix p m c cc nL s args lw_all own) (ha : a < 2 ^ 31) (hk : k < 32) (hdg : decode cc pc = .ok (.iushr, 1)) (kk : W p l e Rm s m args below meth c H locs cells slots Q (F0 m (pc + 1) ls (.int (nI (a / 2 ^ k)) :: rest))) : W p l e Rm s m args below meth c H locs cells slots Q (F0 m pc ls (.int (nI k) :: .int (nI a) :: rest)) := lv_iushr S0.1 S0.2.1 hdg (tr_nushr (by omega) hk) kk
/-- longs -/
theorem tr_lconst {n : Fin 2} (v : Int) (S0 : CallFix p m c cc nL s args lw_all own) (hdg : decode cc pc = .ok (.lconst n, 1)) (hv : Int64.ofNat (n : Nat) = Int64.ofInt v) (kk : W p l e Rm s m args below meth c H locs cells slots Q (F0 m (pc + 1) ls (.long (Int64.ofInt v) :: rest))) : W p l e Rm s m args below meth c H locs cells slots Q (F0 m pc ls rest) := lv_lconst S0.1 S0.2.1 hdg hv kk
theorem tr_ladd {a b : Int} (S0 : CallFix p m c cc nL s args lw_all own) (hdg : decode cc pc = .ok (.ladd, 1)) (kk : W p l e Rm s m args below meth c H locs cells slots Q (F0 m (pc + 1) ls (.long (Int64.ofInt (a + b)) :: rest))) : W p l e Rm s m args below meth c H locs cells slots Q (F0 m pc ls (.long (Int64.ofInt b) :: .long (Int64.ofInt a) :: rest)) := lv_ladd S0.1 S0.2.1 hdg (tr_tl (Int64.ofInt_add a b).symm kk)
theorem tr_lsub {a b : Int} (S0 : CallFix p m c cc nL s args lw_all own) (hdg : decode cc pc = .ok (.lsub, 1)) (kk : W p l e Rm s m args below meth c H locs cells slots Q (F0 m (pc + 1) ls (.long (Int64.ofInt (a - b)) :: rest))) : W p l e Rm s m args below meth c H locs cells slots Q (F0 m pc ls (.long (Int64.ofInt b) :: .long (Int64.ofInt a) :: rest)) := lv_lsub S0.1 S0.2.1 hdg (tr_tl (Int64.ofInt_sub a b).symm kk)
theorem tr_lmul {a b : Int} (S0 : CallFix p m c cc nL s args lw_all own) (hdg : decode cc pc = .ok (.lmul, 1)) (kk : W p l e Rm s m args below meth c H locs cells slots Q (F0 m (pc + 1) ls (.long (Int64.ofInt (a * b)) :: rest))) : W p l e Rm s m args below meth c H locs cells slots Q (F0 m pc ls (.long (Int64.ofInt b) :: .long (Int64.ofInt a) :: rest)) := lv_lmul S0.1 S0.2.1 hdg (tr_tl (Int64.ofInt_mul a b).symm kk)
/-- a product of two, over a divisor: without a rest -/
theorem tr_ldiv {d r : Int} (S0 : CallFix p m c cc nL s args lw_all own) (hd : d ≠ 0) (bd : d.natAbs ≤ 12000000) (br : r.natAbs ≤ 12000000) {x : Int} (hx : x = d * r) (hdg : decode cc pc = .ok (.ldiv, 1)) (kk : W p l e Rm s m args below meth c H locs cells slots Q (F0 m (pc + 1) ls (.long (Int64.ofInt r) :: rest))) : W p l e Rm s m args below meth c H locs cells slots Q (F0 m pc ls (.long (Int64.ofInt d) :: .long (Int64.ofInt x) :: rest)) := by
  refine lv_ldiv S0.1 S0.2.1 hdg (fun q => hd ((tr_l640 bd).mp q)) (tr_tl ?_ kk)
  have h := tr_l64 (x := x) (p := 1) (f := 0) (g := 0) (d := d) (r := r) (by rw [hx]; omega) hd bd br
  rw [← Int64.ofInt_mul, ← Int64.ofInt_mul, ← Int64.ofInt_sub] at h
  simpa using h
theorem tr_lcmp0 (S0 : CallFix p m c cc nL s args lw_all own) {d : Int} (bd : d.natAbs ≤ 12000000) {off : Int} (tgt : Nat) (hdg : decode cc pc = .ok (.lcmp, 1)) (hdg2 : decode cc (pc + 1) = .ok (.ifCond .ne off, 3)) (ht : ((pc + 1 : Nat) : Int) + off = (tgt : Int)) (kt : d ≠ 0 → W p l e Rm s m args below meth c H locs cells slots Q (F0 m tgt ls rest)) (kf : d = 0 → W p l e Rm s m args below meth c H locs cells slots Q (F0 m (pc + 1 + 3) ls rest)) : W p l e Rm s m args below meth c H locs cells slots Q (F0 m pc ls (.long (Int64.ofInt 0) :: .long (Int64.ofInt d) :: rest)) := by
  have h0 : Int64.ofInt 0 = 0 := rfl
  refine W.lcmp S0.1 S0.2.1 hdg ?_
  have hz : lg_cmp (Int64.ofInt d) (Int64.ofInt 0) = 0 ↔ d = 0 := by
    rw [← tr_l640 bd, h0]
    unfold lg_cmp
    generalize Int64.ofInt d = z
    by_cases h1 : (0 : Int64) < z
    · rw [if_pos h1]
      constructor
      · intro q
        exact absurd q (by decide)
      · intro q
        rw [q] at h1
        exact absurd h1 (by decide)
    · rw [if_neg h1]
      by_cases h2 : z = 0
      · simp [h2]
      · rw [if_neg h2]
        constructor
        · intro q
          exact absurd q (by decide)
        · intro q
          exact absurd q h2
  exact lv_if_ne S0.1 S0.2.1 hdg2 ht (fun q => kt (fun z => q (hz.mpr z))) (fun q => kf (hz.mp q))
end TRB
end
section
/-! MACHINE 3: TreeRanker's own leaves (text by gen_x1a.py) -/
set_option maxHeartbeats 4000000 in
set_option maxRecDepth 100000 in
theorem cX_isLine (l : Launch) (D : va_G) (sz : Nat) (x : Int32) : tr_Metz l yX1_isLine cX1_isLine 1 ({ frames := 0, cells := 0, slots := 0, locals := 0 }) D [] [] sz [.int x] (fun r (_ : Unit) => r = tr_bI (tr_isL x)) (fun _ => []) := by
  refine tr_enter (lv := [(0, .int x)]) (by decide) (Nat.le_of_ble_eq_true rfl) rfl ?_
  intro p e s m below meth c ls hsz S hr hlk hK I hA hl
  refine lv_iload_n S.1 S.2.1 dX1_isLine_0 rfl (lv_at hl 0 rfl) ?_
  refine lv_if_lt (tgt := 14) S.1 S.2.1 dX1_isLine_1 (by decide) (fun c1 => ?_) (fun c1 => ?_)
  · have hb : tr_isL x = false := by simp [tr_isL, c1]
    refine tr_iconst 0 S dX1_isLine_14 (by decide) ?_
    refine tr_ti (y := tr_bI false) (by decide) ?_
    exact tr_zret false S hr hlk hK () I (by rw [show tr_isL x = false from hb]) dX1_isLine_15
  · refine lv_iload_n S.1 S.2.1 dX1_isLine_4 rfl (lv_at hl 0 rfl) ?_
    refine tr_bipush 9 S dX1_isLine_5 (by decide) ?_
    refine lv_icmp_gt (tgt := 14) S.1 S.2.1 dX1_isLine_7 (by decide) (fun c2 => ?_) (fun c2 => ?_)
    · have hb : tr_isL x = false := by
        have c3 : ¬ x ≤ 9 := Int32.not_le.mpr c2
        simp [tr_isL, c3]
      refine tr_iconst 0 S dX1_isLine_14 (by decide) ?_
      refine tr_ti (y := tr_bI false) (by decide) ?_
      exact tr_zret false S hr hlk hK () I (by rw [show tr_isL x = false from hb]) dX1_isLine_15
    · have hb : tr_isL x = true := by
        have c3 : x ≤ 9 := Int32.not_lt.mp c2
        have c4 : ¬ x < 0 := c1
        exact decide_eq_true ⟨c4, c3⟩
      refine tr_iconst 1 S dX1_isLine_10 (by decide) ?_
      refine lv_goto (tgt := 15) S.1 S.2.1 dX1_isLine_11 (by decide) ?_
      refine tr_ti (y := tr_bI true) (by decide) ?_
      exact tr_zret true S hr hlk hK () I (by rw [show tr_isL x = true from hb]) dX1_isLine_15
section TXF
variable {p : Program} {l : Launch} {e : Env} {Rm : Room} {s : State} {m : MethodId} {args : Array Value} {below : List Frame} {meth : Method} {c : Code} {cells slots : Nat} {Q : State → Prop} {D : va_G} {A0 : Nat → Prop} {ad : Nat → Nat} {da : Nat → ClassId} {n mk : Nat} {T : Nat → Bool} {A B N R : Nat → Nat} {M : Nat → Int}
set_option maxHeartbeats 4000000 in
set_option maxRecDepth 100000 in
theorem lX_fresh (S : CallFix p m c cX1_freshNames 2 s args lw_all RX1) (hK : va_K D tr_Cl (tr_Xt da) s) (k : ∀ (H : Heap) (locs : List Loc) (ls : Array Slot), tr_I s A0 D (tr_XW ad da n mk T A B (fun p => p) R M) H locs → W p l e Rm s m args below meth c H locs cells slots Q (F0 m 21 ls [])) :
    ∀ (d i : Nat) (N : Nat → Nat) (H : Heap) (locs : List Loc) (ls : Array Slot), i ≤ 6 → 7 ≤ i + d → (∀ q, q < i → N q = q) → tr_I s A0 D (tr_XW ad da n mk T A B N R M) H locs → lv_has ls 2 [(1, .int (nI i)), (0, .ref (ad 0))] → W p l e Rm s m args below meth c H locs cells slots Q (F0 m 2 ls []) := by
  intro d
  induction d with
  | zero => intro i N H locs ls h1 h2; exact absurd h2 (by omega)
  | succ d ih =>
    intro i N H locs ls h1 h2 hN I hl
    refine lv_iload_n S.1 S.2.1 dX1_freshNames_2 rfl (lv_at hl 0 rfl) ?_
    refine tr_bipush 6 S dX1_freshNames_3 (by decide) ?_
    refine tr_icmp_ge 21 S dX1_freshNames_5 (by decide) (by omega) (by omega) (fun c1 => ?_) (fun c1 => ?_)
    · exact k H locs ls (xc_N I (fun j hj => hN j (by omega)))
    · refine lv_aload_n S.1 S.2.1 dX1_freshNames_8 rfl (lv_at hl 1 rfl) ?_
      refine xg_nameOf S hK I dX1_freshNames_9 ?_
      refine lv_iload_n S.1 S.2.1 dX1_freshNames_12 rfl (lv_at hl 0 rfl) ?_
      refine lv_iload_n S.1 S.2.1 dX1_freshNames_13 rfl (lv_at hl 0 rfl) ?_
      refine xs_N S hK I (by omega) dX1_freshNames_14 (fun H locs I => ?_)
      refine tr_iinc (k := 0) (lv' := [(1, .int (nI (i + 1))), (0, .ref (ad 0))]) S dX1_freshNames_15 hl rfl (by decide) rfl (fun ls hl => ?_)
      refine lv_goto (tgt := 2) S.1 S.2.1 dX1_freshNames_18 (by decide) ?_
      exact ih (i + 1) _ H locs ls (by omega) (by omega) (fun q hq => by
        by_cases h : q = i
        · rw [h, va_up_self]
        · rw [va_up_ne _ _ h]
          exact hN q (by omega)) I hl
end TXF
set_option maxHeartbeats 4000000 in
set_option maxRecDepth 100000 in
theorem cX_freshNames (l : Launch) (D : va_G) (ad : Nat → Nat) (da : Nat → ClassId) (n mk : Nat) (T : Nat → Bool) (A B N R : Nat → Nat) (M : Nat → Int) (sz : Nat) : tr_Metv l yX1_freshNames cX1_freshNames 2 ({ frames := 0, cells := 0, slots := 0, locals := 0 }) D (tr_Xt da) (tr_XW ad da n mk T A B N R M) sz [.ref (ad 0)] (fun (_ : Unit) => True) (fun _ => tr_XW ad da n mk T A B (fun p => p) R M) := by
  refine tr_enter (lv := [(0, .ref (ad 0))]) (by decide) (Nat.le_of_ble_eq_true rfl) rfl ?_
  intro p e s m below meth c ls hsz S hr hlk hK I hA hl
  refine tr_iconst 0 S dX1_freshNames_0 (by decide) ?_
  refine lv_istore_n (lv' := [(1, .int (nI 0)), (0, .ref (ad 0))]) S.1 S.2.1 dX1_freshNames_1 rfl hl (by decide) rfl (fun ls hl => ?_)
  exact lX_fresh S hK (fun H locs ls I => tr_vret S hr hlk hK () I trivial dX1_freshNames_21) 7 0 N s.heap [] ls (by omega) (by omega) (fun q h => absurd h (by omega)) I hl
section TXJ
variable {p : Program} {l : Launch} {e : Env} {Rm : Room} {s : State} {m : MethodId} {args : Array Value} {below : List Frame} {meth : Method} {c : Code} {cells slots : Nat} {Q : State → Prop} {D : va_G} {A0 : Nat → Prop} {ad : Nat → Nat} {da : Nat → ClassId} {n mk : Nat} {T : Nat → Bool} {A B N R : Nat → Nat} {M : Nat → Int}
set_option maxHeartbeats 4000000 in
set_option maxRecDepth 100000 in
theorem lX_join {a b : Nat} (S : CallFix p m c cX1_join 6 s args lw_all RX1) (hK : va_K D tr_Cl (tr_Xt da) s) (hN6 : ∀ q, q < 6 → N q < 6) (ha : a < 6) (hb : b < 6) (k : ∀ (H : Heap) (locs : List Loc) (ls : Array Slot), tr_I s A0 D (tr_XW ad da n mk T A B (tr_jn N a b) R M) H locs → W p l e Rm s m args below meth c H locs cells slots Q (F0 m 51 ls [])) :
    ∀ (d i : Nat) (Nc : Nat → Nat) (H : Heap) (locs : List Loc) (ls : Array Slot), i ≤ 6 → 7 ≤ i + d → (∀ q, q < 6 → Nc q = if q < i then tr_jn N a b q else N q) → tr_I s A0 D (tr_XW ad da n mk T A B Nc R M) H locs → lv_has ls 6 [(5, .int (nI i)), (4, .int (nI (N b))), (3, .int (nI (N a))), (0, .ref (ad 0))] → W p l e Rm s m args below meth c H locs cells slots Q (F0 m 18 ls []) := by
  intro d
  induction d with
  | zero => intro i Nc H locs ls h1 h2; exact absurd h2 (by omega)
  | succ d ih =>
    intro i Nc H locs ls h1 h2 hN I hl
    have hNb := hN6 b hb
    refine lv_iload S.1 S.2.1 dX1_join_18 (lv_at hl 0 rfl) ?_
    refine tr_bipush 6 S dX1_join_20 (by decide) ?_
    refine tr_icmp_ge 51 S dX1_join_22 (by decide) (by omega) (by omega) (fun c1 => ?_) (fun c1 => ?_)
    · exact k H locs ls (xc_N I (fun j hj => by rw [hN j hj, if_pos (by omega)]))
    · have hNi : Nc i = N i := by rw [hN i (by omega), if_neg (by omega)]
      have hNi6 := hN6 i (by omega)
      refine lv_aload_n S.1 S.2.1 dX1_join_25 rfl (lv_at hl 3 rfl) ?_
      refine xg_nameOf S hK I dX1_join_26 ?_
      refine lv_iload S.1 S.2.1 dX1_join_29 (lv_at hl 0 rfl) ?_
      refine xl_N S hK I (by omega) dX1_join_31 ?_
      refine lv_iload S.1 S.2.1 dX1_join_32 (lv_at hl 1 rfl) ?_
      refine tr_icmp_ne 45 S dX1_join_34 (by decide) (by omega) (by omega) (fun c2 => ?_) (fun c2 => ?_)
      · refine tr_iinc (k := 0) (lv' := [(5, .int (nI (i + 1))), (4, .int (nI (N b))), (3, .int (nI (N a))), (0, .ref (ad 0))]) S dX1_join_45 hl rfl (by decide) rfl (fun ls hl => ?_)
        refine lv_goto (tgt := 18) S.1 S.2.1 dX1_join_48 (by decide) ?_
        exact ih (i + 1) _ H locs ls (by omega) (by omega) (fun q hq => by
          by_cases h : q = i
          · rw [h, hNi, if_pos (by omega)]
            unfold tr_jn
            rw [if_neg (by rw [← hNi]; exact c2)]
          · rw [hN q hq]
            by_cases h3 : q < i
            · rw [if_pos h3, if_pos (by omega)]
            · rw [if_neg h3, if_neg (by omega)]) I (lv_sub hl [0, 1, 2, 3] rfl)
      · refine lv_aload_n S.1 S.2.1 dX1_join_37 rfl (lv_at hl 3 rfl) ?_
        refine xg_nameOf S hK I dX1_join_38 ?_
        refine lv_iload S.1 S.2.1 dX1_join_41 (lv_at hl 0 rfl) ?_
        refine lv_iload_n S.1 S.2.1 dX1_join_43 rfl (lv_at hl 2 rfl) ?_
        refine xs_N S hK I (by omega) dX1_join_44 (fun H locs I => ?_)
        refine tr_iinc (k := 0) (lv' := [(5, .int (nI (i + 1))), (4, .int (nI (N b))), (3, .int (nI (N a))), (0, .ref (ad 0))]) S dX1_join_45 hl rfl (by decide) rfl (fun ls hl => ?_)
        refine lv_goto (tgt := 18) S.1 S.2.1 dX1_join_48 (by decide) ?_
        exact ih (i + 1) _ H locs ls (by omega) (by omega) (fun q hq => by
          by_cases h : q = i
          · rw [h, va_up_self, if_pos (by omega)]
            unfold tr_jn
            rw [if_pos (by rw [← hNi]; exact c2)]
          · rw [va_up_ne _ _ h, hN q hq]
            by_cases h3 : q < i
            · rw [if_pos h3, if_pos (by omega)]
            · rw [if_neg h3, if_neg (by omega)]) I (lv_sub hl [0, 1, 2, 3] rfl)
end TXJ
set_option maxHeartbeats 4000000 in
set_option maxRecDepth 100000 in
theorem cX_join (l : Launch) (D : va_G) (ad : Nat → Nat) (da : Nat → ClassId) (n mk : Nat) (T : Nat → Bool) (A B N R : Nat → Nat) (M : Nat → Int) (sz : Nat) (a b : Nat) (hN6 : ∀ q, q < 6 → N q < 6) (ha : a < 6) (hb : b < 6) : tr_Metv l yX1_join cX1_join 6 ({ frames := 0, cells := 0, slots := 0, locals := 0 }) D (tr_Xt da) (tr_XW ad da n mk T A B N R M) sz [.ref (ad 0), .int (nI a), .int (nI b)] (fun (_ : Unit) => True) (fun _ => tr_XW ad da n mk T A B (tr_jn N a b) R M) := by
  refine tr_enter (lv := [(0, .ref (ad 0)), (1, .int (nI a)), (2, .int (nI b))]) (by decide) (Nat.le_of_ble_eq_true rfl) rfl ?_
  intro p e s m below meth c ls hsz S hr hlk hK I hA hl
  refine lv_aload_n S.1 S.2.1 dX1_join_0 rfl (lv_at hl 0 rfl) ?_
  refine xg_nameOf S hK I dX1_join_1 ?_
  refine lv_iload_n S.1 S.2.1 dX1_join_4 rfl (lv_at hl 1 rfl) ?_
  refine xl_N S hK I (by omega) dX1_join_5 ?_
  refine lv_istore_n (lv' := [(3, .int (nI (N a))), (0, .ref (ad 0)), (1, .int (nI a)), (2, .int (nI b))]) S.1 S.2.1 dX1_join_6 rfl hl (by decide) rfl (fun ls hl => ?_)
  refine lv_aload_n S.1 S.2.1 dX1_join_7 rfl (lv_at hl 1 rfl) ?_
  refine xg_nameOf S hK I dX1_join_8 ?_
  refine lv_iload_n S.1 S.2.1 dX1_join_11 rfl (lv_at hl 3 rfl) ?_
  refine xl_N S hK I (by omega) dX1_join_12 ?_
  refine lv_istore (lv' := [(4, .int (nI (N b))), (3, .int (nI (N a))), (0, .ref (ad 0)), (1, .int (nI a)), (2, .int (nI b))]) S.1 S.2.1 dX1_join_13 hl (by decide) rfl (fun ls hl => ?_)
  refine tr_iconst 0 S dX1_join_15 (by decide) ?_
  refine lv_istore (lv' := [(5, .int (nI 0)), (4, .int (nI (N b))), (3, .int (nI (N a))), (0, .ref (ad 0)), (1, .int (nI a)), (2, .int (nI b))]) S.1 S.2.1 dX1_join_16 hl (by decide) rfl (fun ls hl => ?_)
  exact lX_join S hK hN6 ha hb (fun H locs ls I => tr_vret S hr hlk hK () I trivial dX1_join_51) 7 0 N s.heap [] ls (by omega) (by omega) (fun q h => by rw [if_neg (by omega)]) I (lv_sub hl [0, 1, 2, 3] rfl)
section TXN
variable {p : Program} {l : Launch} {e : Env} {Rm : Room} {s : State} {m : MethodId} {args : Array Value} {below : List Frame} {meth : Method} {c : Code} {cells slots : Nat} {Q : State → Prop} {D : va_G} {A0 : Nat → Prop} {ad : Nat → Nat} {da : Nat → ClassId} {n mk : Nat} {T : Nat → Bool} {A B N R : Nat → Nat} {M : Nat → Int}
set_option maxHeartbeats 4000000 in
set_option maxRecDepth 100000 in
theorem lX_number (S : CallFix p m c cX1_numberRows 3 s args lw_all RX1) (hK : va_K D tr_Cl (tr_Xt da) s) (hn : n ≤ 6) (hN6 : ∀ q, q < 6 → N q < 6) (k : ∀ (R' : Nat → Nat) (H : Heap) (locs : List Loc) (ls : Array Slot), (∀ q, q < n → N q = q → R' q = tr_row N q) → tr_I s A0 D (tr_XW ad da n mk T A B N R' M) H locs → lv_has ls 3 [(1, .int (nI (tr_rt n N)))] → W p l e Rm s m args below meth c H locs cells slots Q (F0 m 38 ls [])) :
    ∀ (d i : Nat) (Rc : Nat → Nat) (H : Heap) (locs : List Loc) (ls : Array Slot), i ≤ n → n + 1 ≤ i + d → (∀ q, q < i → N q = q → Rc q = tr_row N q) → tr_I s A0 D (tr_XW ad da n mk T A B N Rc M) H locs → lv_has ls 3 [(2, .int (nI i)), (1, .int (nI (tr_row N i))), (0, .ref (ad 0))] → W p l e Rm s m args below meth c H locs cells slots Q (F0 m 4 ls []) := by
  intro d
  induction d with
  | zero => intro i Rc H locs ls h1 h2; exact absurd h2 (by omega)
  | succ d ih =>
    intro i Rc H locs ls h1 h2 hR I hl
    have hrow : tr_row N i ≤ i := tr_cnt_le _ _
    refine lv_iload_n S.1 S.2.1 dX1_numberRows_4 rfl (lv_at hl 0 rfl) ?_
    refine lv_aload_n S.1 S.2.1 dX1_numberRows_5 rfl (lv_at hl 2 rfl) ?_
    refine xg_n S hK I dX1_numberRows_6 ?_
    refine tr_icmp_ge 38 S dX1_numberRows_9 (by decide) (by omega) (by omega) (fun c1 => ?_) (fun c1 => ?_)
    · have hin : i = n := by omega
      subst hin
      exact k Rc H locs ls hR I (lv_sub hl [1] rfl)
    · have hNi6 := hN6 i (by omega)
      refine lv_aload_n S.1 S.2.1 dX1_numberRows_12 rfl (lv_at hl 2 rfl) ?_
      refine xg_nameOf S hK I dX1_numberRows_13 ?_
      refine lv_iload_n S.1 S.2.1 dX1_numberRows_16 rfl (lv_at hl 0 rfl) ?_
      refine xl_N S hK I (by omega) dX1_numberRows_17 ?_
      refine lv_iload_n S.1 S.2.1 dX1_numberRows_18 rfl (lv_at hl 0 rfl) ?_
      refine tr_icmp_ne 32 S dX1_numberRows_19 (by decide) (by omega) (by omega) (fun c2 => ?_) (fun c2 => ?_)
      · refine tr_iinc (k := 0) (lv' := [(2, .int (nI (i + 1))), (1, .int (nI (tr_row N i))), (0, .ref (ad 0))]) S dX1_numberRows_32 hl rfl (by decide) rfl (fun ls hl => ?_)
        refine lv_goto (tgt := 4) S.1 S.2.1 dX1_numberRows_35 (by decide) ?_
        have hs : tr_row N (i + 1) = tr_row N i := by
          unfold tr_row
          simp only [tr_cnt]
          rw [if_neg (by simpa using c2), Nat.add_zero]
        exact ih (i + 1) _ H locs ls (by omega) (by omega) (fun q hq hNq => by
          by_cases h : q = i
          · exact absurd (by rw [h] at hNq; exact hNq) c2
          · exact hR q (by omega) hNq) I (by rw [hs]; exact lv_sub hl [0, 1, 2] rfl)
      · refine lv_aload_n S.1 S.2.1 dX1_numberRows_22 rfl (lv_at hl 2 rfl) ?_
        refine xg_rowOf S hK I dX1_numberRows_23 ?_
        refine lv_iload_n S.1 S.2.1 dX1_numberRows_26 rfl (lv_at hl 0 rfl) ?_
        refine lv_iload_n S.1 S.2.1 dX1_numberRows_27 rfl (lv_at hl 1 rfl) ?_
        refine xs_R S hK I (by omega) dX1_numberRows_28 (fun H locs I => ?_)
        refine tr_iinc (k := 1) (lv' := [(1, .int (nI ((tr_row N i) + 1))), (2, .int (nI i)), (0, .ref (ad 0))]) S dX1_numberRows_29 hl rfl (by decide) rfl (fun ls hl => ?_)
        refine tr_iinc (k := 1) (lv' := [(2, .int (nI (i + 1))), (1, .int (nI ((tr_row N i) + 1))), (0, .ref (ad 0))]) S dX1_numberRows_32 hl rfl (by decide) rfl (fun ls hl => ?_)
        refine lv_goto (tgt := 4) S.1 S.2.1 dX1_numberRows_35 (by decide) ?_
        have hs : tr_row N (i + 1) = tr_row N i + 1 := by
          unfold tr_row
          simp only [tr_cnt]
          rw [if_pos (by simpa using c2)]
        exact ih (i + 1) _ H locs ls (by omega) (by omega) (fun q hq hNq => by
          by_cases h : q = i
          · rw [h, va_up_self]
          · rw [va_up_ne _ _ h]
            exact hR q (by omega) hNq) I (by rw [hs]; exact lv_sub hl [0, 1, 2] rfl)
end TXN
set_option maxHeartbeats 4000000 in
set_option maxRecDepth 100000 in
theorem cX_numberRows (l : Launch) (D : va_G) (ad : Nat → Nat) (da : Nat → ClassId) (n mk : Nat) (T : Nat → Bool) (A B N R : Nat → Nat) (M : Nat → Int) (sz : Nat) (hn : n ≤ 6) (hN6 : ∀ q, q < 6 → N q < 6) : tr_Meti l yX1_numberRows cX1_numberRows 3 ({ frames := 0, cells := 0, slots := 0, locals := 0 }) D (tr_Xt da) (tr_XW ad da n mk T A B N R M) sz [.ref (ad 0)] (fun r (R' : Nat → Nat) => r = nI (tr_rt n N) ∧ ∀ q, q < n → N q = q → R' q = tr_row N q) (fun R' => tr_XW ad da n mk T A B N R' M) := by
  refine tr_enter (lv := [(0, .ref (ad 0))]) (by decide) (Nat.le_of_ble_eq_true rfl) rfl ?_
  intro p e s m below meth c ls hsz S hr hlk hK I hA hl
  refine tr_iconst 0 S dX1_numberRows_0 (by decide) ?_
  refine lv_istore_n (lv' := [(1, .int (nI 0)), (0, .ref (ad 0))]) S.1 S.2.1 dX1_numberRows_1 rfl hl (by decide) rfl (fun ls hl => ?_)
  refine tr_iconst 0 S dX1_numberRows_2 (by decide) ?_
  refine lv_istore_n (lv' := [(2, .int (nI 0)), (1, .int (nI 0)), (0, .ref (ad 0))]) S.1 S.2.1 dX1_numberRows_3 rfl hl (by decide) rfl (fun ls hl => ?_)
  refine lX_number S hK hn hN6 (fun R' H locs ls hR I hl => ?_) (n + 1) 0 R s.heap [] ls (by omega) (by omega) (fun q h => absurd h (by omega)) I (lv_sub hl [0, 1, 2] rfl)
  refine lv_iload_n S.1 S.2.1 dX1_numberRows_38 rfl (lv_at hl 0 rfl) ?_
  exact tr_iret S hr hlk hK R' I ⟨rfl, hR⟩ dX1_numberRows_39
end
section
/-! MACHINE 4: the matrix of TreeRanker (text by gen_x1b.py) -/
theorem tr_put4 {M : Nat → Int} {x y i j : Nat} (hx : x < 6) (hy : y < 6) (hxy : x ≠ y) (hi : i < 6) (hj : j < 6) (M1 M2 M3 M4 : Nat → Int) (e1 : M1 = va_up M (6 * x + x) (M (6 * x + x) + 1)) (e2 : M2 = va_up M1 (6 * y + y) (M1 (6 * y + y) + 1)) (e3 : M3 = va_up M2 (6 * x + y) (M2 (6 * x + y) - 1)) (e4 : M4 = va_up M3 (6 * y + x) (M3 (6 * y + x) - 1)) : M4 (6 * i + j) = M (6 * i + j) + tr_e x y i j := by
  have a1 : ∀ q, M1 q = if q = 6 * x + x then M q + 1 else M q := by
    intro q
    rw [e1]
    unfold va_up
    by_cases h : q = 6 * x + x
    · rw [if_pos h, if_pos h, h]
    · rw [if_neg h, if_neg h]
  have a2 : ∀ q, M2 q = if q = 6 * y + y then M1 q + 1 else M1 q := by
    intro q
    rw [e2]
    unfold va_up
    by_cases h : q = 6 * y + y
    · rw [if_pos h, if_pos h, h]
    · rw [if_neg h, if_neg h]
  have a3 : ∀ q, M3 q = if q = 6 * x + y then M2 q - 1 else M2 q := by
    intro q
    rw [e3]
    unfold va_up
    by_cases h : q = 6 * x + y
    · rw [if_pos h, if_pos h, h]
    · rw [if_neg h, if_neg h]
  have a4 : ∀ q, M4 q = if q = 6 * y + x then M3 q - 1 else M3 q := by
    intro q
    rw [e4]
    unfold va_up
    by_cases h : q = 6 * y + x
    · rw [if_pos h, if_pos h, h]
    · rw [if_neg h, if_neg h]
  rw [a4, a3, a2, a1]
  have b1 : (6 * i + j = 6 * x + x) ↔ (x = i ∧ x = j) := by omega
  have b2 : (6 * i + j = 6 * y + y) ↔ (y = i ∧ y = j) := by omega
  have b3 : (6 * i + j = 6 * x + y) ↔ (x = i ∧ y = j) := by omega
  have b4 : (6 * i + j = 6 * y + x) ↔ (y = i ∧ x = j) := by omega
  simp only [b1, b2, b3, b4]
  unfold tr_e tr_d
  repeat' split
  all_goals omega
theorem tr_fr_s {T : Nat → Bool} {A B : Nat → Nat} {k t : Nat} (hk : k < 10) : tr_fr T A B (tr_lf k) (t / 2 ^ k) = if T k = true ∧ t / 2 ^ k % 2 = 0 then (A k, B k) :: tr_fr T A B (tr_lf (k + 1)) (t / 2 ^ (k + 1)) else tr_fr T A B (tr_lf (k + 1)) (t / 2 ^ (k + 1)) := by
  rw [tr_lf_c hk]
  simp only [tr_fr]
  rw [Nat.div_div_eq_div_mul, ← Nat.pow_succ]
section TXM
variable {p : Program} {l : Launch} {e : Env} {Rm : Room} {s : State} {m : MethodId} {args : Array Value} {below : List Frame} {meth : Method} {c : Code} {cells slots : Nat} {Q : State → Prop} {D : va_G} {A0 : Nat → Prop} {ad : Nat → Nat} {da : Nat → ClassId} {n mk : Nat} {T : Nat → Bool} {A B N R : Nat → Nat} {M : Nat → Int}
set_option maxHeartbeats 4000000 in
set_option maxRecDepth 100000 in
theorem lX_zero {t : Nat} (S : CallFix p m c cX1_fillMatrix 5 s args lw_all RX1) (hK : va_K D tr_Cl (tr_Xt da) s) (k : ∀ (M : Nat → Int) (H : Heap) (locs : List Loc) (ls : Array Slot), (∀ q, q < 36 → M q = 0) → tr_I s A0 D (tr_XW ad da n mk T A B N R M) H locs → lv_has ls 5 [(1, .int (nI t)), (0, .ref (ad 0))] → W p l e Rm s m args below meth c H locs cells slots Q (F0 m 21 ls [])) :
    ∀ (d i : Nat) (M : Nat → Int) (H : Heap) (locs : List Loc) (ls : Array Slot), i ≤ 36 → 37 ≤ i + d → (∀ q, q < i → M q = 0) → tr_I s A0 D (tr_XW ad da n mk T A B N R M) H locs → lv_has ls 5 [(2, .int (nI i)), (1, .int (nI t)), (0, .ref (ad 0))] → W p l e Rm s m args below meth c H locs cells slots Q (F0 m 2 ls []) := by
  intro d
  induction d with
  | zero => intro i M H locs ls h1 h2; exact absurd h2 (by omega)
  | succ d ih =>
    intro i M H locs ls h1 h2 hM I hl
    refine lv_iload_n S.1 S.2.1 dX1_fillMatrix_2 rfl (lv_at hl 0 rfl) ?_
    refine tr_bipush 36 S dX1_fillMatrix_3 (by decide) ?_
    refine tr_icmp_ge 21 S dX1_fillMatrix_5 (by decide) (by omega) (by omega) (fun c1 => ?_) (fun c1 => ?_)
    · exact k M H locs ls (fun q hq => hM q (by omega)) I (lv_sub hl [1, 2] rfl)
    · refine lv_aload_n S.1 S.2.1 dX1_fillMatrix_8 rfl (lv_at hl 2 rfl) ?_
      refine xg_matrix S hK I dX1_fillMatrix_9 ?_
      refine lv_iload_n S.1 S.2.1 dX1_fillMatrix_12 rfl (lv_at hl 0 rfl) ?_
      refine tr_lconst 0 S dX1_fillMatrix_13 (by decide) ?_
      refine xs_M S hK I (by omega) dX1_fillMatrix_14 (fun H locs I => ?_)
      refine tr_iinc (k := 0) (lv' := [(2, .int (nI (i + 1))), (1, .int (nI t)), (0, .ref (ad 0))]) S dX1_fillMatrix_15 hl rfl (by decide) rfl (fun ls hl => ?_)
      refine lv_goto (tgt := 2) S.1 S.2.1 dX1_fillMatrix_18 (by decide) ?_
      exact ih (i + 1) _ H locs ls (by omega) (by omega) (fun q hq => by
        by_cases h : q = i
        · rw [h, va_up_self]
        · rw [va_up_ne _ _ h]
          exact hM q (by omega)) I (lv_sub hl [0, 1, 2] rfl)
set_option maxHeartbeats 4000000 in
set_option maxRecDepth 100000 in
theorem lX_fill {t : Nat} {G : Nat → Nat → Int} (S : CallFix p m c cX1_fillMatrix 5 s args lw_all RX1) (hK : va_K D tr_Cl (tr_Xt da) s) (hn : n ≤ 6) (ht : t < 1024) (hAB : ∀ k, k < 10 → A k < n ∧ B k < n) (hN : ∀ q, q < n → N q < n) (hR : ∀ q, q < n → R (N q) < 6)
    (k : ∀ (M : Nat → Int) (H : Heap) (locs : List Loc) (ls : Array Slot), (∀ i j, i < 6 → j < 6 → M (6 * i + j) = G i j) → tr_I s A0 D (tr_XW ad da n mk T A B N R M) H locs → W p l e Rm s m args below meth c H locs cells slots Q (F0 m 157 ls [])) :
    ∀ (d i : Nat) (M : Nat → Int) (H : Heap) (locs : List Loc) (ls : Array Slot), i ≤ 10 → 11 ≤ i + d → (∀ a b, a < 6 → b < 6 → M (6 * a + b) + tr_L (fun p => R (N p)) (tr_fr T A B (tr_lf i) (t / 2 ^ i)) a b = G a b) → tr_I s A0 D (tr_XW ad da n mk T A B N R M) H locs → lv_has ls 5 [(2, .int (nI i)), (1, .int (nI t)), (0, .ref (ad 0))] → W p l e Rm s m args below meth c H locs cells slots Q (F0 m 23 ls []) := by
  intro d
  induction d with
  | zero => intro i M H locs ls h1 h2; exact absurd h2 (by omega)
  | succ d ih =>
    intro i M H locs ls h1 h2 hM I hl
    refine lv_iload_n S.1 S.2.1 dX1_fillMatrix_23 rfl (lv_at hl 0 rfl) ?_
    refine tr_bipush 10 S dX1_fillMatrix_24 (by decide) ?_
    refine tr_icmp_ge 157 S dX1_fillMatrix_26 (by decide) (by omega) (by omega) (fun c1 => ?_) (fun c1 => ?_)
    · have hi : i = 10 := by omega
      subst hi
      exact k M H locs ls (fun a b ha hb => by
        have h := hM a b ha hb
        rw [tr_lf_10] at h
        simpa [tr_fr, tr_L] using h) I
    · have hfr := tr_fr_s (T := T) (A := A) (B := B) (k := i) (t := t) (by omega)
      have hi10 : i < 10 := by omega
      have hAi := (hAB i hi10).1
      have hBi := (hAB i hi10).2
      have hNA := hN _ hAi
      have hNB := hN _ hBi
      have hRA := hR _ hAi
      have hRB := hR _ hBi
      refine lv_aload_n S.1 S.2.1 dX1_fillMatrix_29 rfl (lv_at hl 2 rfl) ?_
      refine xg_there S hK I dX1_fillMatrix_30 ?_
      refine lv_iload_n S.1 S.2.1 dX1_fillMatrix_33 rfl (lv_at hl 0 rfl) ?_
      refine xl_T S hK I (by omega) dX1_fillMatrix_34 ?_
      refine tr_bif_eq 151 S dX1_fillMatrix_35 (by decide) (fun c2 => ?_) (fun c2 => ?_)
      · refine tr_iinc (k := 0) (lv' := [(2, .int (nI (i + 1))), (1, .int (nI t)), (0, .ref (ad 0))]) S dX1_fillMatrix_151 hl rfl (by decide) rfl (fun ls hl => ?_)
        refine lv_goto (tgt := 23) S.1 S.2.1 dX1_fillMatrix_154 (by decide) ?_
        exact ih (i + 1) _ H locs ls (by omega) (by omega) (fun a b ha hb => by
          have h := hM a b ha hb
          rw [hfr, if_neg (fun q => by
            rw [c2] at q
            cases q.1)] at h
          exact h) I (lv_sub hl [0, 1, 2] rfl)
      · refine lv_iload_n S.1 S.2.1 dX1_fillMatrix_38 rfl (lv_at hl 1 rfl) ?_
        refine lv_iload_n S.1 S.2.1 dX1_fillMatrix_39 rfl (lv_at hl 0 rfl) ?_
        refine tr_iushr S (by omega) (by omega) dX1_fillMatrix_40 ?_
        refine tr_iconst 1 S dX1_fillMatrix_41 (by decide) ?_
        refine tr_iand1 S dX1_fillMatrix_42 ?_
        refine tr_nif_ne 151 S dX1_fillMatrix_43 (by decide) (by omega) (fun c3 => ?_) (fun c3 => ?_)
        · refine tr_iinc (k := 0) (lv' := [(2, .int (nI (i + 1))), (1, .int (nI t)), (0, .ref (ad 0))]) S dX1_fillMatrix_151 hl rfl (by decide) rfl (fun ls hl => ?_)
          refine lv_goto (tgt := 23) S.1 S.2.1 dX1_fillMatrix_154 (by decide) ?_
          exact ih (i + 1) _ H locs ls (by omega) (by omega) (fun a b ha hb => by
            have h := hM a b ha hb
            rw [hfr, if_neg (fun q => c3 q.2)] at h
            exact h) I (lv_sub hl [0, 1, 2] rfl)
        · refine lv_aload_n S.1 S.2.1 dX1_fillMatrix_46 rfl (lv_at hl 2 rfl) ?_
          refine xg_rowOf S hK I dX1_fillMatrix_47 ?_
          refine lv_aload_n S.1 S.2.1 dX1_fillMatrix_50 rfl (lv_at hl 2 rfl) ?_
          refine xg_nameOf S hK I dX1_fillMatrix_51 ?_
          refine lv_aload_n S.1 S.2.1 dX1_fillMatrix_54 rfl (lv_at hl 2 rfl) ?_
          refine xg_endA S hK I dX1_fillMatrix_55 ?_
          refine lv_iload_n S.1 S.2.1 dX1_fillMatrix_58 rfl (lv_at hl 0 rfl) ?_
          refine xl_A S hK I (by omega) dX1_fillMatrix_59 ?_
          refine xl_N S hK I (by omega) dX1_fillMatrix_60 ?_
          refine xl_R S hK I (by omega) dX1_fillMatrix_61 ?_
          refine lv_istore_n (lv' := [(3, .int (nI (R (N (A i))))), (2, .int (nI i)), (1, .int (nI t)), (0, .ref (ad 0))]) S.1 S.2.1 dX1_fillMatrix_62 rfl hl (by decide) rfl (fun ls hl => ?_)
          refine lv_aload_n S.1 S.2.1 dX1_fillMatrix_63 rfl (lv_at hl 3 rfl) ?_
          refine xg_rowOf S hK I dX1_fillMatrix_64 ?_
          refine lv_aload_n S.1 S.2.1 dX1_fillMatrix_67 rfl (lv_at hl 3 rfl) ?_
          refine xg_nameOf S hK I dX1_fillMatrix_68 ?_
          refine lv_aload_n S.1 S.2.1 dX1_fillMatrix_71 rfl (lv_at hl 3 rfl) ?_
          refine xg_endB S hK I dX1_fillMatrix_72 ?_
          refine lv_iload_n S.1 S.2.1 dX1_fillMatrix_75 rfl (lv_at hl 1 rfl) ?_
          refine xl_B S hK I (by omega) dX1_fillMatrix_76 ?_
          refine xl_N S hK I (by omega) dX1_fillMatrix_77 ?_
          refine xl_R S hK I (by omega) dX1_fillMatrix_78 ?_
          refine lv_istore (lv' := [(4, .int (nI (R (N (B i))))), (3, .int (nI (R (N (A i))))), (2, .int (nI i)), (1, .int (nI t)), (0, .ref (ad 0))]) S.1 S.2.1 dX1_fillMatrix_79 hl (by decide) rfl (fun ls hl => ?_)
          refine lv_iload_n S.1 S.2.1 dX1_fillMatrix_81 rfl (lv_at hl 1 rfl) ?_
          refine lv_iload S.1 S.2.1 dX1_fillMatrix_82 (lv_at hl 0 rfl) ?_
          refine tr_icmp_eq 151 S dX1_fillMatrix_84 (by decide) (by omega) (by omega) (fun c4 => ?_) (fun c4 => ?_)
          · refine tr_iinc (k := 2) (lv' := [(2, .int (nI (i + 1))), (4, .int (nI (R (N (B i))))), (3, .int (nI (R (N (A i))))), (1, .int (nI t)), (0, .ref (ad 0))]) S dX1_fillMatrix_151 hl rfl (by decide) rfl (fun ls hl => ?_)
            refine lv_goto (tgt := 23) S.1 S.2.1 dX1_fillMatrix_154 (by decide) ?_
            exact ih (i + 1) _ H locs ls (by omega) (by omega) (fun a b ha hb => by
              have h := hM a b ha hb
              rw [hfr, if_pos ⟨c2, c3⟩] at h
              simp only [tr_L] at h
              rw [c4, tr_e_rf, Int.add_zero] at h
              exact h) I (lv_sub hl [0, 3, 4] rfl)
          · refine lv_aload_n S.1 S.2.1 dX1_fillMatrix_87 rfl (lv_at hl 4 rfl) ?_
            refine xg_matrix S hK I dX1_fillMatrix_88 ?_
            refine tr_bipush 6 S dX1_fillMatrix_91 (by decide) ?_
            refine lv_iload_n S.1 S.2.1 dX1_fillMatrix_93 rfl (lv_at hl 1 rfl) ?_
            refine tr_imul S dX1_fillMatrix_94 ?_
            refine lv_iload_n S.1 S.2.1 dX1_fillMatrix_95 rfl (lv_at hl 1 rfl) ?_
            refine tr_iadd S dX1_fillMatrix_96 ?_
            refine lv_dup2_11 S.1 S.2.1 dX1_fillMatrix_97 rfl rfl ?_
            refine xl_M S hK I (by omega) dX1_fillMatrix_98 ?_
            refine tr_lconst 1 S dX1_fillMatrix_99 (by decide) ?_
            refine tr_ladd S dX1_fillMatrix_100 ?_
            refine xs_M S hK I (by omega) dX1_fillMatrix_101 (fun H locs I => ?_)
            refine lv_aload_n S.1 S.2.1 dX1_fillMatrix_102 rfl (lv_at hl 4 rfl) ?_
            refine xg_matrix S hK I dX1_fillMatrix_103 ?_
            refine tr_bipush 6 S dX1_fillMatrix_106 (by decide) ?_
            refine lv_iload S.1 S.2.1 dX1_fillMatrix_108 (lv_at hl 0 rfl) ?_
            refine tr_imul S dX1_fillMatrix_110 ?_
            refine lv_iload S.1 S.2.1 dX1_fillMatrix_111 (lv_at hl 0 rfl) ?_
            refine tr_iadd S dX1_fillMatrix_113 ?_
            refine lv_dup2_11 S.1 S.2.1 dX1_fillMatrix_114 rfl rfl ?_
            refine xl_M S hK I (by omega) dX1_fillMatrix_115 ?_
            refine tr_lconst 1 S dX1_fillMatrix_116 (by decide) ?_
            refine tr_ladd S dX1_fillMatrix_117 ?_
            refine xs_M S hK I (by omega) dX1_fillMatrix_118 (fun H locs I => ?_)
            refine lv_aload_n S.1 S.2.1 dX1_fillMatrix_119 rfl (lv_at hl 4 rfl) ?_
            refine xg_matrix S hK I dX1_fillMatrix_120 ?_
            refine tr_bipush 6 S dX1_fillMatrix_123 (by decide) ?_
            refine lv_iload_n S.1 S.2.1 dX1_fillMatrix_125 rfl (lv_at hl 1 rfl) ?_
            refine tr_imul S dX1_fillMatrix_126 ?_
            refine lv_iload S.1 S.2.1 dX1_fillMatrix_127 (lv_at hl 0 rfl) ?_
            refine tr_iadd S dX1_fillMatrix_129 ?_
            refine lv_dup2_11 S.1 S.2.1 dX1_fillMatrix_130 rfl rfl ?_
            refine xl_M S hK I (by omega) dX1_fillMatrix_131 ?_
            refine tr_lconst 1 S dX1_fillMatrix_132 (by decide) ?_
            refine tr_lsub S dX1_fillMatrix_133 ?_
            refine xs_M S hK I (by omega) dX1_fillMatrix_134 (fun H locs I => ?_)
            refine lv_aload_n S.1 S.2.1 dX1_fillMatrix_135 rfl (lv_at hl 4 rfl) ?_
            refine xg_matrix S hK I dX1_fillMatrix_136 ?_
            refine tr_bipush 6 S dX1_fillMatrix_139 (by decide) ?_
            refine lv_iload S.1 S.2.1 dX1_fillMatrix_141 (lv_at hl 0 rfl) ?_
            refine tr_imul S dX1_fillMatrix_143 ?_
            refine lv_iload_n S.1 S.2.1 dX1_fillMatrix_144 rfl (lv_at hl 1 rfl) ?_
            refine tr_iadd S dX1_fillMatrix_145 ?_
            refine lv_dup2_11 S.1 S.2.1 dX1_fillMatrix_146 rfl rfl ?_
            refine xl_M S hK I (by omega) dX1_fillMatrix_147 ?_
            refine tr_lconst 1 S dX1_fillMatrix_148 (by decide) ?_
            refine tr_lsub S dX1_fillMatrix_149 ?_
            refine xs_M S hK I (by omega) dX1_fillMatrix_150 (fun H locs I => ?_)
            refine tr_iinc (k := 2) (lv' := [(2, .int (nI (i + 1))), (4, .int (nI (R (N (B i))))), (3, .int (nI (R (N (A i))))), (1, .int (nI t)), (0, .ref (ad 0))]) S dX1_fillMatrix_151 hl rfl (by decide) rfl (fun ls hl => ?_)
            refine lv_goto (tgt := 23) S.1 S.2.1 dX1_fillMatrix_154 (by decide) ?_
            exact ih (i + 1) _ H locs ls (by omega) (by omega) (fun a b ha hb => by
              have h := hM a b ha hb
              rw [hfr, if_pos ⟨c2, c3⟩] at h
              simp only [tr_L] at h
              rw [tr_put4 hRA hRB c4 ha hb _ _ _ _ rfl rfl rfl rfl]
              omega) I (lv_sub hl [0, 3, 4] rfl)
end TXM
set_option maxHeartbeats 4000000 in
set_option maxRecDepth 100000 in
theorem cX_fillMatrix (l : Launch) (D : va_G) (ad : Nat → Nat) (da : Nat → ClassId) (n mk : Nat) (T : Nat → Bool) (A B N R : Nat → Nat) (M : Nat → Int) (sz : Nat) (t : Nat) (hn : n ≤ 6) (ht : t < 1024) (hAB : ∀ k, k < 10 → A k < n ∧ B k < n) (hN : ∀ q, q < n → N q < n) (hR : ∀ q, q < n → R (N q) < 6) : tr_Metv l yX1_fillMatrix cX1_fillMatrix 5 ({ frames := 0, cells := 0, slots := 0, locals := 0 }) D (tr_Xt da) (tr_XW ad da n mk T A B N R M) sz [.ref (ad 0), .int (nI t)] (fun (M' : Nat → Int) => ∀ i j, i < 6 → j < 6 → M' (6 * i + j) = tr_L (fun p => R (N p)) (tr_fr T A B (tr_lf 0) t) i j) (fun M' => tr_XW ad da n mk T A B N R M') := by
  refine tr_enter (lv := [(0, .ref (ad 0)), (1, .int (nI t))]) (by decide) (Nat.le_of_ble_eq_true rfl) rfl ?_
  intro p e s m below meth c ls hsz S hr hlk hK I hA hl
  refine tr_iconst 0 S dX1_fillMatrix_0 (by decide) ?_
  refine lv_istore_n (lv' := [(2, .int (nI 0)), (0, .ref (ad 0)), (1, .int (nI t))]) S.1 S.2.1 dX1_fillMatrix_1 rfl hl (by decide) rfl (fun ls hl => ?_)
  refine lX_zero S hK (fun M H locs ls hM I hl => ?_) 37 0 M s.heap [] ls (by omega) (by omega) (fun q h => absurd h (by omega)) I (lv_sub hl [0, 2, 1] rfl)
  refine tr_iconst 0 S dX1_fillMatrix_21 (by decide) ?_
  refine lv_istore_n (lv' := [(2, .int (nI 0)), (1, .int (nI t)), (0, .ref (ad 0))]) S.1 S.2.1 dX1_fillMatrix_22 rfl hl (by decide) rfl (fun ls hl => ?_)
  refine lX_fill (G := tr_L (fun p => R (N p)) (tr_fr T A B (tr_lf 0) t)) S hK hn ht hAB hN hR (fun M H locs ls hM I => ?_) 11 0 M H locs ls (by omega) (by omega) (fun a b ha hb => ?_) I (lv_sub hl [0, 1, 2] rfl)
  · exact tr_vret S hr hlk hK M I hM dX1_fillMatrix_157
  · rw [hM _ (by omega), Int.zero_add, Nat.pow_zero, Nat.div_one]
section TXC
variable {p : Program} {l : Launch} {e : Env} {Rm : Room} {s : State} {m : MethodId} {args : Array Value} {below : List Frame} {meth : Method} {c : Code} {cells slots : Nat} {Q : State → Prop} {D : va_G} {A0 : Nat → Prop} {ad : Nat → Nat} {da : Nat → ClassId} {n mk : Nat} {T : Nat → Bool} {A B N R : Nat → Nat} {M : Nat → Int}
set_option maxHeartbeats 4000000 in
set_option maxRecDepth 100000 in
theorem lX_clear {i k sz0 : Nat} {d : Int} {rr : Nat → Int} (S : CallFix p m c cX1_clearColumn 13 s args lw_all RX1) (hK : va_K D tr_Cl (tr_Xt da) s) (hki : k < i) (his : i < sz0) (hs5 : sz0 ≤ 5) (hd0 : d ≠ 0) (bd : d.natAbs ≤ 12000000) (hrr : ∀ j, k < j → j < sz0 → M (6 * i + j) * M (7 * k) - M (6 * i + k) * M (6 * k + j) = d * rr j ∧ (rr j).natAbs ≤ 12000000)
    (kk : ∀ (M' : Nat → Int) (H : Heap) (locs : List Loc) (ls : Array Slot), (∀ q, q < 36 → M' q = if q / 6 = i ∧ k < q % 6 ∧ q % 6 < sz0 then rr (q % 6) else M q) → tr_I s A0 D (tr_XW ad da n mk T A B N R M') H locs → W p l e Rm s m args below meth c H locs cells slots Q (F0 m 102 ls [])) :
    ∀ (f j : Nat) (Mc : Nat → Int) (H : Heap) (locs : List Loc) (ls : Array Slot), k < j → j ≤ sz0 → sz0 + 1 ≤ j + f → (∀ q, q < 36 → Mc q = if q / 6 = i ∧ k < q % 6 ∧ q % 6 < j then rr (q % 6) else M q) → tr_I s A0 D (tr_XW ad da n mk T A B N R Mc) H locs → lv_has ls 13 [(12, .int (nI j)), (10, .long (Int64.ofInt d)), (8, .long (Int64.ofInt (M (7 * k)))), (6, .long (Int64.ofInt (M (6 * i + k)))), (3, .int (nI sz0)), (2, .int (nI k)), (1, .int (nI i)), (0, .ref (ad 0))] → W p l e Rm s m args below meth c H locs cells slots Q (F0 m 44 ls []) := by
  intro f
  induction f with
  | zero => intro j Mc H locs ls h0 h1 h2; exact absurd h2 (by omega)
  | succ f ih =>
    intro j Mc H locs ls h0 h1 h2 hM I hl
    refine lv_iload S.1 S.2.1 dX1_clearColumn_44 (lv_at hl 0 rfl) ?_
    refine lv_iload_n S.1 S.2.1 dX1_clearColumn_46 rfl (lv_at hl 4 rfl) ?_
    refine tr_icmp_ge 102 S dX1_clearColumn_47 (by decide) (by omega) (by omega) (fun c1 => ?_) (fun c1 => ?_)
    · have hj : j = sz0 := by omega
      subst hj
      exact kk Mc H locs ls hM I
    · have g1 : Mc (6 * i + j) = M (6 * i + j) := by rw [hM _ (by omega), if_neg (by omega)]
      have g2 : Mc (6 * k + j) = M (6 * k + j) := by rw [hM _ (by omega), if_neg (by omega)]
      have g3 := hrr j h0 (by omega)
      refine lv_aload_n S.1 S.2.1 dX1_clearColumn_50 rfl (lv_at hl 7 rfl) ?_
      refine xg_matrix S hK I dX1_clearColumn_51 ?_
      refine tr_bipush 6 S dX1_clearColumn_54 (by decide) ?_
      refine lv_iload_n S.1 S.2.1 dX1_clearColumn_56 rfl (lv_at hl 6 rfl) ?_
      refine tr_imul S dX1_clearColumn_57 ?_
      refine lv_iload S.1 S.2.1 dX1_clearColumn_58 (lv_at hl 0 rfl) ?_
      refine tr_iadd S dX1_clearColumn_60 ?_
      refine lv_aload_n S.1 S.2.1 dX1_clearColumn_61 rfl (lv_at hl 7 rfl) ?_
      refine xg_matrix S hK I dX1_clearColumn_62 ?_
      refine tr_bipush 6 S dX1_clearColumn_65 (by decide) ?_
      refine lv_iload_n S.1 S.2.1 dX1_clearColumn_67 rfl (lv_at hl 6 rfl) ?_
      refine tr_imul S dX1_clearColumn_68 ?_
      refine lv_iload S.1 S.2.1 dX1_clearColumn_69 (lv_at hl 0 rfl) ?_
      refine tr_iadd S dX1_clearColumn_71 ?_
      refine xl_M S hK I (by omega) dX1_clearColumn_72 ?_
      refine lv_lload S.1 S.2.1 dX1_clearColumn_73 (lv_at hl 2 rfl) ?_
      refine tr_lmul S dX1_clearColumn_75 ?_
      refine lv_lload S.1 S.2.1 dX1_clearColumn_76 (lv_at hl 3 rfl) ?_
      refine lv_aload_n S.1 S.2.1 dX1_clearColumn_78 rfl (lv_at hl 7 rfl) ?_
      refine xg_matrix S hK I dX1_clearColumn_79 ?_
      refine tr_bipush 6 S dX1_clearColumn_82 (by decide) ?_
      refine lv_iload_n S.1 S.2.1 dX1_clearColumn_84 rfl (lv_at hl 5 rfl) ?_
      refine tr_imul S dX1_clearColumn_85 ?_
      refine lv_iload S.1 S.2.1 dX1_clearColumn_86 (lv_at hl 0 rfl) ?_
      refine tr_iadd S dX1_clearColumn_88 ?_
      refine xl_M S hK I (by omega) dX1_clearColumn_89 ?_
      refine tr_lmul S dX1_clearColumn_90 ?_
      refine tr_lsub S dX1_clearColumn_91 ?_
      refine lv_lload S.1 S.2.1 dX1_clearColumn_92 (lv_at hl 1 rfl) ?_
      refine tr_ldiv S hd0 bd g3.2 (by rw [g1, g2]; exact g3.1) dX1_clearColumn_94 ?_
      refine xs_M S hK I (by omega) dX1_clearColumn_95 (fun H locs I => ?_)
      refine tr_iinc (k := 0) (lv' := [(12, .int (nI (j + 1))), (10, .long (Int64.ofInt d)), (8, .long (Int64.ofInt (M (7 * k)))), (6, .long (Int64.ofInt (M (6 * i + k)))), (3, .int (nI sz0)), (2, .int (nI k)), (1, .int (nI i)), (0, .ref (ad 0))]) S dX1_clearColumn_96 hl rfl (by decide) rfl (fun ls hl => ?_)
      refine lv_goto (tgt := 44) S.1 S.2.1 dX1_clearColumn_99 (by decide) ?_
      exact ih (j + 1) _ H locs ls (by omega) (by omega) (by omega) (fun q hq => by
        by_cases h : q = 6 * i + j
        · rw [h, va_up_self, if_pos (by omega), show (6 * i + j) % 6 = j by omega]
        · rw [va_up_ne _ _ h, hM q hq]
          by_cases h3 : q / 6 = i ∧ k < q % 6 ∧ q % 6 < j
          · rw [if_pos h3, if_pos (by omega)]
          · rw [if_neg h3, if_neg (by omega)]) I (lv_sub hl [0, 1, 2, 3, 4, 5, 6, 7] rfl)
end TXC
set_option maxHeartbeats 4000000 in
set_option maxRecDepth 100000 in
theorem cX_clearColumn (l : Launch) (D : va_G) (ad : Nat → Nat) (da : Nat → ClassId) (n mk : Nat) (T : Nat → Bool) (A B N R : Nat → Nat) (M : Nat → Int) (sz : Nat) (i k sz0 : Nat) (d : Int) (rr : Nat → Int) (hki : k < i) (his : i < sz0) (hs5 : sz0 ≤ 5) (hd0 : d ≠ 0) (bd : d.natAbs ≤ 12000000) (hrr : ∀ j, k < j → j < sz0 → M (6 * i + j) * M (7 * k) - M (6 * i + k) * M (6 * k + j) = d * rr j ∧ (rr j).natAbs ≤ 12000000) : tr_Metv l yX1_clearColumn cX1_clearColumn 13 ({ frames := 0, cells := 0, slots := 0, locals := 0 }) D (tr_Xt da) (tr_XW ad da n mk T A B N R M) sz [.ref (ad 0), .int (nI i), .int (nI k), .int (nI sz0), .long (Int64.ofInt d)] (fun (M' : Nat → Int) => ∀ q, q < 36 → M' q = if q / 6 = i ∧ k < q % 6 ∧ q % 6 < sz0 then rr (q % 6) else M q) (fun M' => tr_XW ad da n mk T A B N R M') := by
  refine tr_enter (lv := [(0, .ref (ad 0)), (1, .int (nI i)), (2, .int (nI k)), (3, .int (nI sz0)), (4, .long (Int64.ofInt d))]) (by decide) (Nat.le_of_ble_eq_true rfl) rfl ?_
  intro p e s m below meth c ls hsz S hr hlk hK I hA hl
  refine lv_aload_n S.1 S.2.1 dX1_clearColumn_0 rfl (lv_at hl 0 rfl) ?_
  refine xg_matrix S hK I dX1_clearColumn_1 ?_
  refine tr_bipush 6 S dX1_clearColumn_4 (by decide) ?_
  refine lv_iload_n S.1 S.2.1 dX1_clearColumn_6 rfl (lv_at hl 1 rfl) ?_
  refine tr_imul S dX1_clearColumn_7 ?_
  refine lv_iload_n S.1 S.2.1 dX1_clearColumn_8 rfl (lv_at hl 2 rfl) ?_
  refine tr_iadd S dX1_clearColumn_9 ?_
  refine xl_M S hK I (by omega) dX1_clearColumn_10 ?_
  refine lv_lstore (lv' := [(6, .long (Int64.ofInt (M ((6 * i) + k)))), (0, .ref (ad 0)), (1, .int (nI i)), (2, .int (nI k)), (3, .int (nI sz0)), (4, .long (Int64.ofInt d))]) S.1 S.2.1 dX1_clearColumn_11 hl (by decide) rfl (fun ls hl => ?_)
  refine lv_aload_n S.1 S.2.1 dX1_clearColumn_13 rfl (lv_at hl 1 rfl) ?_
  refine xg_matrix S hK I dX1_clearColumn_14 ?_
  refine tr_bipush 7 S dX1_clearColumn_17 (by decide) ?_
  refine lv_iload_n S.1 S.2.1 dX1_clearColumn_19 rfl (lv_at hl 3 rfl) ?_
  refine tr_imul S dX1_clearColumn_20 ?_
  refine xl_M S hK I (by omega) dX1_clearColumn_21 ?_
  refine lv_lstore (lv' := [(8, .long (Int64.ofInt (M (7 * k)))), (6, .long (Int64.ofInt (M ((6 * i) + k)))), (0, .ref (ad 0)), (1, .int (nI i)), (2, .int (nI k)), (3, .int (nI sz0)), (4, .long (Int64.ofInt d))]) S.1 S.2.1 dX1_clearColumn_22 hl (by decide) rfl (fun ls hl => ?_)
  refine lv_lload S.1 S.2.1 dX1_clearColumn_24 (lv_at hl 6 rfl) ?_
  refine tr_lconst 0 S dX1_clearColumn_26 (by decide) ?_
  refine tr_lcmp0 S bd 35 dX1_clearColumn_27 dX1_clearColumn_28 (by decide) (fun _ => ?_) (fun z => absurd z hd0)
  refine lv_lload S.1 S.2.1 dX1_clearColumn_35 (lv_at hl 6 rfl) ?_
  refine lv_lstore (lv' := [(10, .long (Int64.ofInt d)), (8, .long (Int64.ofInt (M (7 * k)))), (6, .long (Int64.ofInt (M ((6 * i) + k)))), (0, .ref (ad 0)), (1, .int (nI i)), (2, .int (nI k)), (3, .int (nI sz0)), (4, .long (Int64.ofInt d))]) S.1 S.2.1 dX1_clearColumn_37 hl (by decide) rfl (fun ls hl => ?_)
  refine lv_iload_n S.1 S.2.1 dX1_clearColumn_39 rfl (lv_at hl 5 rfl) ?_
  refine tr_iconst 1 S dX1_clearColumn_40 (by decide) ?_
  refine tr_iadd S dX1_clearColumn_41 ?_
  refine lv_istore (lv' := [(12, .int (nI (k + 1))), (10, .long (Int64.ofInt d)), (8, .long (Int64.ofInt (M (7 * k)))), (6, .long (Int64.ofInt (M ((6 * i) + k)))), (0, .ref (ad 0)), (1, .int (nI i)), (2, .int (nI k)), (3, .int (nI sz0)), (4, .long (Int64.ofInt d))]) S.1 S.2.1 dX1_clearColumn_42 hl (by decide) rfl (fun ls hl => ?_)
  exact lX_clear S hK hki his hs5 hd0 bd hrr (fun M' H locs ls hM I => tr_vret S hr hlk hK M' I hM dX1_clearColumn_102) (sz0 + 1) (k + 1) M s.heap [] ls (by omega) (by omega) (by omega) (fun q hq => by rw [if_neg (by omega)]) I (lv_sub hl [0, 1, 2, 3, 7, 6, 5, 4] rfl)
end
section
/-! MACHINE 5: TreeRanker: determinant, countTrees (text by gen_x1c.py) -/
theorem tr_L_cg {n : Nat} {h g : Nat → Nat} (H : ∀ p, p < n → h p = g p) : ∀ (F : List (Nat × Nat)), (∀ e ∈ F, e.1 < n ∧ e.2 < n) → ∀ i j, tr_L h F i j = tr_L g F i j := by
  intro F
  induction F with
  | nil => intro _ i j; rfl
  | cons e F ih =>
    intro hF i j
    have he := hF e List.mem_cons_self
    simp only [tr_L]
    rw [ih (fun x hx => hF x (List.mem_cons_of_mem _ hx)) i j, H e.1 he.1, H e.2 he.2]
theorem tr_in_s {T : Nat → Bool} {A B N : Nat → Nat} {k t : Nat} (hk : k < 10) : tr_in T A B (tr_lf k) N (t / 2 ^ k) = if t / 2 ^ k % 2 = 1 then (if T k = true ∧ N (A k) ≠ N (B k) then tr_in T A B (tr_lf (k + 1)) (tr_jn N (A k) (B k)) (t / 2 ^ (k + 1)) else none) else tr_in T A B (tr_lf (k + 1)) N (t / 2 ^ (k + 1)) := by
  rw [tr_lf_c hk]
  simp only [tr_in]
  rw [Nat.div_div_eq_div_mul, ← Nat.pow_succ]
theorem tr_jn_lt {N : Nat → Nat} {a b : Nat} (h : ∀ q, q < 6 → N q < 6) (ha : a < 6) : ∀ q, q < 6 → tr_jn N a b q < 6 := by
  intro q hq
  unfold tr_jn
  split
  · exact h a ha
  · exact h q hq
theorem tr_l2i (c : Nat) : (Int64.ofInt (c : Int)).toInt32 = nI c := by
  rw [Int64.toInt32_ofInt, Int32.ofInt_eq_ofNat]
  rfl
theorem tr_dvlt {t k M : Nat} (h : t < M) : t / 2 ^ k < M := Nat.lt_of_le_of_lt (Nat.div_le_self _ _) h
section TXD
variable {p : Program} {l : Launch} {e : Env} {s : State} {m : MethodId} {args : Array Value} {below : List Frame} {meth : Method} {c : Code} {Q : State → Prop} {D : va_G} {A0 : Nat → Prop} {ad : Nat → Nat} {da : Nat → ClassId} {n mk : Nat} {T : Nat → Bool} {A B N R : Nat → Nat} {M : Nat → Int}
set_option maxHeartbeats 4000000 in
set_option maxRecDepth 100000 in
theorem lX_detI {k m0 : Nat} {pv : Int} {G : Nat → Nat → Int} (S : CallFix p m c cX1_determinant 8 s args lw_all RX1) (hK : va_K D tr_Cl (tr_Xt da) s) (hA : ∀ q : Nat, s.heap.size ≤ q → A0 q) (hm0 : m0 ≤ 5) (hG : ∀ i j, (G i j).natAbs ≤ 10) (hkm : k < m0) (hd0 : ∀ q, q ≤ k → tr_det q G ≠ 0)
    (kk : ∀ (M : Nat → Int) (H : Heap) (locs : List Loc) (ls : Array Slot), (∀ a b, k < a → a < m0 → k < b → b < m0 → M (6 * a + b) = tr_D (k + 1) G a b) → tr_I s A0 D (tr_XW ad da n mk T A B N R M) H locs → lv_has ls 8 [(5, .long (Int64.ofInt pv)), (4, .int (nI k)), (1, .int (nI m0)), (0, .ref (ad 0))] → W p l e ({ frames := 1, cells := 0, slots := 0, locals := 32 }) s m args below meth c H locs 0 0 Q (F0 m 60 ls [])) :
    ∀ (f i : Nat) (M : Nat → Int) (H : Heap) (locs : List Loc) (ls : Array Slot), k < i → i ≤ m0 → m0 + 1 ≤ i + f → (∀ a b, k ≤ a → a < m0 → k ≤ b → b < m0 → M (6 * a + b) = if k < a ∧ a < i ∧ k < b then tr_D (k + 1) G a b else tr_D k G a b) → tr_I s A0 D (tr_XW ad da n mk T A B N R M) H locs → lv_has ls 8 [(7, .int (nI i)), (5, .long (Int64.ofInt pv)), (4, .int (nI k)), (2, .long (Int64.ofInt (tr_det k G))), (1, .int (nI m0)), (0, .ref (ad 0))] → W p l e ({ frames := 1, cells := 0, slots := 0, locals := 32 }) s m args below meth c H locs 0 0 Q (F0 m 38 ls []) := by
  intro f
  induction f with
  | zero => intro i M H locs ls h0 h1 h2; exact absurd h2 (by omega)
  | succ f ih =>
    intro i M H locs ls h0 h1 h2 hM I hl
    refine lv_iload S.1 S.2.1 dX1_determinant_38 (lv_at hl 0 rfl) ?_
    refine lv_iload_n S.1 S.2.1 dX1_determinant_40 rfl (lv_at hl 4 rfl) ?_
    refine tr_icmp_ge 60 S dX1_determinant_41 (by decide) (by omega) (by omega) (fun c1 => ?_) (fun c1 => ?_)
    · have hi : i = m0 := by omega
      subst hi
      exact kk M H locs ls (fun a b g1 g2 g3 g4 => by rw [hM a b (by omega) g2 (by omega) g4, if_pos ⟨g1, g2, g3⟩]) I (lv_sub hl [1, 2, 4, 5] rfl)
    · refine lv_aload_n S.1 S.2.1 dX1_determinant_44 rfl (lv_at hl 5 rfl) ?_
      refine lv_iload S.1 S.2.1 dX1_determinant_45 (lv_at hl 0 rfl) ?_
      refine lv_iload S.1 S.2.1 dX1_determinant_47 (lv_at hl 2 rfl) ?_
      refine lv_iload_n S.1 S.2.1 dX1_determinant_49 rfl (lv_at hl 4 rfl) ?_
      refine lv_lload_n S.1 S.2.1 dX1_determinant_50 rfl (lv_at hl 3 rfl) ?_
      have hk3 : k ≤ 3 := by omega
      have hrr : ∀ j, k < j → j < m0 → M (6 * i + j) * M (7 * k) - M (6 * i + k) * M (6 * k + j) = tr_det k G * tr_D (k + 1) G i j ∧ (tr_D (k + 1) G i j).natAbs ≤ 12000000 := by
        intro j hj hj2
        have e1 : M (6 * i + j) = tr_D k G i j := by rw [hM i j (by omega) (by omega) (by omega) hj2, if_neg (by omega)]
        have e2 : M (7 * k) = tr_D k G k k := by rw [show 7 * k = 6 * k + k by omega, hM k k (by omega) (by omega) (by omega) (by omega), if_neg (by omega)]
        have e3 : M (6 * i + k) = tr_D k G i k := by rw [hM i k (by omega) (by omega) (by omega) (by omega), if_neg (by omega)]
        have e4 : M (6 * k + j) = tr_D k G k j := by rw [hM k j (by omega) (by omega) (by omega) hj2, if_neg (by omega)]
        rw [e1, e2, e3, e4]
        exact ⟨tr_syl hk3 (fun _ => hd0 1 (by omega)) i j, tr_D_abs (by omega) hG i j⟩
      refine tr_callv (C := RX1) (ci := 0) (As := [.int (nI i), .int (nI k), .int (nI m0), .long (Int64.ofInt (tr_det k G))]) (rest := []) rfl rfl rfl S hK I hA (cX_clearColumn l D ad da n mk T A B N R M H.size i k m0 (tr_det k G) (fun j => tr_D (k + 1) G i j) h0 (by omega) hm0 (hd0 k (Nat.le_refl _)) (tr_det_abs (by omega) hG) hrr) (cwV 4 S.2.2.2.2 (lw_V q89 q91 qs6 q12 q92) rfl rfl rfl (by decide +kernel) ⟨Nat.le_of_ble_eq_true rfl, Nat.le_of_ble_eq_true rfl⟩) rfl hl.1 rfl (Nat.le_of_ble_eq_true rfl) dX1_determinant_51 ⟨Nat.zero_le _, Nat.zero_le _⟩ (fun M' H locs hM' I => ?_)
      refine tr_iinc (k := 0) (lv' := [(7, .int (nI (i + 1))), (5, .long (Int64.ofInt pv)), (4, .int (nI k)), (2, .long (Int64.ofInt (tr_det k G))), (1, .int (nI m0)), (0, .ref (ad 0))]) S dX1_determinant_54 hl rfl (by decide) rfl (fun ls hl => ?_)
      refine lv_goto (tgt := 38) S.1 S.2.1 dX1_determinant_57 (by decide) ?_
      exact ih (i + 1) M' H locs ls (by omega) (by omega) (by omega) (fun a b g1 g2 g3 g4 => by
        rw [hM' _ (by omega), show (6 * a + b) / 6 = a by omega, show (6 * a + b) % 6 = b by omega]
        by_cases q1 : a = i ∧ k < b ∧ b < m0
        · rw [if_pos q1, if_pos ⟨by omega, by omega, q1.2.1⟩, q1.1]
        · rw [if_neg q1, hM a b g1 g2 g3 g4]
          by_cases q2 : k < a ∧ a < i ∧ k < b
          · rw [if_pos q2, if_pos ⟨q2.1, by omega, q2.2.2⟩]
          · rw [if_neg q2, if_neg (by omega)]) I (lv_sub hl [0, 1, 2, 3, 4, 5] rfl)
set_option maxHeartbeats 4000000 in
set_option maxRecDepth 100000 in
theorem lX_det {m0 : Nat} {G : Nat → Nat → Int} (S : CallFix p m c cX1_determinant 8 s args lw_all RX1) (hK : va_K D tr_Cl (tr_Xt da) s) (hA : ∀ q : Nat, s.heap.size ≤ q → A0 q) (hm0 : m0 ≤ 5) (hG : ∀ i j, (G i j).natAbs ≤ 10) (hlead : ∀ k, k ≤ m0 → tr_det k G = 0 → tr_det m0 G = 0)
    (k31 : ∀ (M : Nat → Int) (H : Heap) (locs : List Loc) (ls : Array Slot), tr_det m0 G = 0 → tr_I s A0 D (tr_XW ad da n mk T A B N R M) H locs → W p l e ({ frames := 1, cells := 0, slots := 0, locals := 32 }) s m args below meth c H locs 0 0 Q (F0 m 31 ls [.long (Int64.ofInt 0)]))
    (k70 : ∀ (M : Nat → Int) (H : Heap) (locs : List Loc) (ls : Array Slot), tr_I s A0 D (tr_XW ad da n mk T A B N R M) H locs → W p l e ({ frames := 1, cells := 0, slots := 0, locals := 32 }) s m args below meth c H locs 0 0 Q (F0 m 70 ls [.long (Int64.ofInt (tr_det m0 G))])) :
    ∀ (f k : Nat) (M : Nat → Int) (H : Heap) (locs : List Loc) (ls : Array Slot), k ≤ m0 → m0 + 1 ≤ k + f → (∀ a b, k ≤ a → a < m0 → k ≤ b → b < m0 → M (6 * a + b) = tr_D k G a b) → (∀ q, q ≤ k → tr_det q G ≠ 0) → tr_I s A0 D (tr_XW ad da n mk T A B N R M) H locs → lv_has ls 8 [(4, .int (nI k)), (2, .long (Int64.ofInt (tr_det k G))), (1, .int (nI m0)), (0, .ref (ad 0))] → W p l e ({ frames := 1, cells := 0, slots := 0, locals := 32 }) s m args below meth c H locs 0 0 Q (F0 m 5 ls []) := by
  intro f
  induction f with
  | zero => intro k M H locs ls h1 h2; exact absurd h2 (by omega)
  | succ f ih =>
    intro k M H locs ls h1 h2 hM hd0 I hl
    refine lv_iload S.1 S.2.1 dX1_determinant_5 (lv_at hl 0 rfl) ?_
    refine lv_iload_n S.1 S.2.1 dX1_determinant_7 rfl (lv_at hl 2 rfl) ?_
    refine tr_icmp_ge 69 S dX1_determinant_8 (by decide) (by omega) (by omega) (fun c1 => ?_) (fun c1 => ?_)
    · have hk : k = m0 := by omega
      subst hk
      refine lv_lload_n S.1 S.2.1 dX1_determinant_69 rfl (lv_at hl 1 rfl) ?_
      exact k70 M H locs ls I
    · refine lv_aload_n S.1 S.2.1 dX1_determinant_11 rfl (lv_at hl 3 rfl) ?_
      refine xg_matrix S hK I dX1_determinant_12 ?_
      refine tr_bipush 7 S dX1_determinant_15 (by decide) ?_
      refine lv_iload S.1 S.2.1 dX1_determinant_17 (lv_at hl 0 rfl) ?_
      refine tr_imul S dX1_determinant_19 ?_
      refine xl_M S hK I (by omega) dX1_determinant_20 ?_
      have hpv : M (7 * k) = tr_det (k + 1) G := by rw [show 7 * k = 6 * k + k by omega, hM k k (by omega) (by omega) (by omega) (by omega), tr_D_kk (by omega)]
      refine tr_tl (y := Int64.ofInt (tr_det (k + 1) G)) (by rw [hpv]) ?_
      refine lv_lstore (lv' := [(5, .long (Int64.ofInt (tr_det (k + 1) G))), (4, .int (nI k)), (2, .long (Int64.ofInt (tr_det k G))), (1, .int (nI m0)), (0, .ref (ad 0))]) S.1 S.2.1 dX1_determinant_21 hl (by decide) rfl (fun ls hl => ?_)
      refine lv_lload S.1 S.2.1 dX1_determinant_23 (lv_at hl 0 rfl) ?_
      refine tr_lconst 0 S dX1_determinant_25 (by decide) ?_
      refine tr_lcmp0 S (tr_det_abs (by omega) hG) 32 dX1_determinant_26 dX1_determinant_27 (by decide) (fun c2 => ?_) (fun c2 => ?_)
      · refine lv_iload S.1 S.2.1 dX1_determinant_32 (lv_at hl 1 rfl) ?_
        refine tr_iconst 1 S dX1_determinant_34 (by decide) ?_
        refine tr_iadd S dX1_determinant_35 ?_
        refine lv_istore (lv' := [(7, .int (nI (k + 1))), (5, .long (Int64.ofInt (tr_det (k + 1) G))), (4, .int (nI k)), (2, .long (Int64.ofInt (tr_det k G))), (1, .int (nI m0)), (0, .ref (ad 0))]) S.1 S.2.1 dX1_determinant_36 hl (by decide) rfl (fun ls hl => ?_)
        refine lX_detI (pv := tr_det (k + 1) G) (G := G) S hK hA hm0 hG (by omega) hd0 (fun M H locs ls hM I hl => ?_) (m0 + 1) (k + 1) M H locs ls (by omega) (by omega) (by omega) (fun a b g1 g2 g3 g4 => by rw [if_neg (by omega)]; exact hM a b g1 g2 g3 g4) I (lv_sub hl [0, 1, 2, 3, 4, 5] rfl)
        refine lv_lload S.1 S.2.1 dX1_determinant_60 (lv_at hl 0 rfl) ?_
        refine lv_lstore_n (lv' := [(2, .long (Int64.ofInt (tr_det (k + 1) G))), (5, .long (Int64.ofInt (tr_det (k + 1) G))), (4, .int (nI k)), (1, .int (nI m0)), (0, .ref (ad 0))]) S.1 S.2.1 dX1_determinant_62 rfl hl (by decide) rfl (fun ls hl => ?_)
        refine tr_iinc (k := 2) (lv' := [(4, .int (nI (k + 1))), (2, .long (Int64.ofInt (tr_det (k + 1) G))), (5, .long (Int64.ofInt (tr_det (k + 1) G))), (1, .int (nI m0)), (0, .ref (ad 0))]) S dX1_determinant_63 hl rfl (by decide) rfl (fun ls hl => ?_)
        refine lv_goto (tgt := 5) S.1 S.2.1 dX1_determinant_66 (by decide) ?_
        exact ih (k + 1) M H locs ls (by omega) (by omega) (fun a b g1 g2 g3 g4 => hM a b (by omega) g2 (by omega) g4) (fun q hq => by
          by_cases g : q = k + 1
          · rw [g]; exact c2
          · exact hd0 q (by omega)) I (lv_sub hl [0, 1, 3, 4] rfl)
      · refine tr_lconst 0 S dX1_determinant_30 (by decide) ?_
        exact k31 M H locs ls (hlead (k + 1) (by omega) c2) I
end TXD
set_option maxHeartbeats 4000000 in
set_option maxRecDepth 100000 in
theorem cX_determinant (l : Launch) (D : va_G) (ad : Nat → Nat) (da : Nat → ClassId) (n mk : Nat) (T : Nat → Bool) (A B N R : Nat → Nat) (M : Nat → Int) (sz : Nat) (m0 : Nat) (G : Nat → Nat → Int) (hm0 : m0 ≤ 5) (hG : ∀ i j, (G i j).natAbs ≤ 10) (hlead : ∀ k, k ≤ m0 → tr_det k G = 0 → tr_det m0 G = 0) (hM : ∀ i j, i < 6 → j < 6 → M (6 * i + j) = G i j) : tr_Metl l yX1_determinant cX1_determinant 8 ({ frames := 1, cells := 0, slots := 0, locals := 32 }) D (tr_Xt da) (tr_XW ad da n mk T A B N R M) sz [.ref (ad 0), .int (nI m0)] (fun r (_ : Nat → Int) => r = Int64.ofInt (tr_det m0 G)) (fun M' => (tr_XW ad da n mk T A B N R M')) := by
  refine tr_enter (lv := [(0, .ref (ad 0)), (1, .int (nI m0))]) (by decide) (Nat.le_of_ble_eq_true rfl) rfl ?_
  intro p e s m below meth c ls hsz S hr hlk hK I hA hl
  refine tr_lconst 1 S dX1_determinant_0 (by decide) ?_
  refine lv_lstore_n (lv' := [(2, .long (Int64.ofInt 1)), (0, .ref (ad 0)), (1, .int (nI m0))]) S.1 S.2.1 dX1_determinant_1 rfl hl (by decide) rfl (fun ls hl => ?_)
  refine tr_iconst 0 S dX1_determinant_2 (by decide) ?_
  refine lv_istore (lv' := [(4, .int (nI 0)), (2, .long (Int64.ofInt 1)), (0, .ref (ad 0)), (1, .int (nI m0))]) S.1 S.2.1 dX1_determinant_3 hl (by decide) rfl (fun ls hl => ?_)
  exact lX_det (G := G) S hK hA hm0 hG hlead (fun M H locs ls h0 I => tr_lret S hr hlk hK M I (by rw [h0]) dX1_determinant_31) (fun M H locs ls I => tr_lret S hr hlk hK M I rfl dX1_determinant_70) (m0 + 1) 0 M s.heap [] ls (by omega) (by omega) (fun a b _ g2 _ g4 => hM a b (by omega) (by omega)) (fun q hq => by
    rw [show q = 0 by omega]
    exact (by decide : (1 : Int) ≠ 0)) I (lv_sub hl [0, 1, 3, 2] rfl)
section TXCT
variable {p : Program} {l : Launch} {e : Env} {s : State} {m : MethodId} {args : Array Value} {below : List Frame} {meth : Method} {c : Code} {Q : State → Prop} {D : va_G} {A0 : Nat → Prop} {ad : Nat → Nat} {da : Nat → ClassId} {n mk : Nat} {T : Nat → Bool} {A B N R : Nat → Nat} {M : Nat → Int}
set_option maxHeartbeats 4000000 in
set_option maxRecDepth 100000 in
theorem lX_ct {i o : Nat} {Z : Option (Nat → Nat)} (S : CallFix p m c cX1_countTrees 4 s args lw_all RX1) (hK : va_K D tr_Cl (tr_Xt da) s) (hA : ∀ q : Nat, s.heap.size ≤ q → A0 q) (hn : n ≤ 6) (hAB : ∀ k, k < 10 → A k < n ∧ B k < n) (hi : i < 1024)
    (k62 : ∀ (N : Nat → Nat) (H : Heap) (locs : List Loc) (ls : Array Slot), Z = none → tr_I s A0 D (tr_XW ad da n mk T A B N R M) H locs → W p l e ({ frames := 2, cells := 0, slots := 0, locals := 59 }) s m args below meth c H locs 0 0 Q (F0 m 62 ls []))
    (k86 : ∀ (N : Nat → Nat) (H : Heap) (locs : List Loc) (ls : Array Slot), Z = some N → (∀ q, q < 6 → N q < 6) → tr_I s A0 D (tr_XW ad da n mk T A B N R M) H locs → lv_has ls 4 [(2, .int (nI o)), (1, .int (nI i)), (0, .ref (ad 0))] → W p l e ({ frames := 2, cells := 0, slots := 0, locals := 59 }) s m args below meth c H locs 0 0 Q (F0 m 86 ls [])) :
    ∀ (f k : Nat) (N : Nat → Nat) (H : Heap) (locs : List Loc) (ls : Array Slot), k ≤ 10 → 11 ≤ k + f → (∀ q, q < 6 → N q < 6) → tr_in T A B (tr_lf k) N (i / 2 ^ k) = Z → tr_I s A0 D (tr_XW ad da n mk T A B N R M) H locs → lv_has ls 4 [(3, .int (nI k)), (2, .int (nI o)), (1, .int (nI i)), (0, .ref (ad 0))] → W p l e ({ frames := 2, cells := 0, slots := 0, locals := 59 }) s m args below meth c H locs 0 0 Q (F0 m 14 ls []) := by
  intro f
  induction f with
  | zero => intro k N H locs ls h1 h2; exact absurd h2 (by omega)
  | succ f ih =>
    intro k N H locs ls h1 h2 hN hZ I hl
    have hik : i / 2 ^ k < 1024 := tr_dvlt hi
    refine lv_iload_n S.1 S.2.1 dX1_countTrees_14 rfl (lv_at hl 0 rfl) ?_
    refine tr_bipush 10 S dX1_countTrees_15 (by decide) ?_
    refine tr_icmp_ge 86 S dX1_countTrees_17 (by decide) (by omega) (by omega) (fun c1 => ?_) (fun c1 => ?_)
    · have hk : k = 10 := by omega
      subst hk
      exact k86 N H locs ls (by rw [← hZ, tr_lf_10]; rfl) hN I (lv_sub hl [1, 2, 3] rfl)
    · have hk10 : k < 10 := by omega
      have hs := tr_in_s (T := T) (A := A) (B := B) (N := N) (t := i) hk10
      have hAk := (hAB k hk10).1
      have hBk := (hAB k hk10).2
      have hNA := hN (A k) (by omega)
      have hNB := hN (B k) (by omega)
      refine lv_iload_n S.1 S.2.1 dX1_countTrees_20 rfl (lv_at hl 2 rfl) ?_
      refine lv_iload_n S.1 S.2.1 dX1_countTrees_21 rfl (lv_at hl 0 rfl) ?_
      refine tr_iushr S (by omega) (by omega) dX1_countTrees_22 ?_
      refine tr_iconst 1 S dX1_countTrees_23 (by decide) ?_
      refine tr_iand1 S dX1_countTrees_24 ?_
      refine tr_nif_eq 80 S dX1_countTrees_25 (by decide) (by omega) (fun c2 => ?_) (fun c2 => ?_)
      · refine tr_iinc (k := 0) (lv' := [(3, .int (nI (k + 1))), (2, .int (nI o)), (1, .int (nI i)), (0, .ref (ad 0))]) S dX1_countTrees_80 hl rfl (by decide) rfl (fun ls hl => ?_)
        refine lv_goto (tgt := 14) S.1 S.2.1 dX1_countTrees_83 (by decide) ?_
        rw [hZ, if_neg (by omega)] at hs
        exact ih (k + 1) N H locs ls (by omega) (by omega) hN hs.symm I (lv_sub hl [0, 1, 2, 3] rfl)
      · have c3 : i / 2 ^ k % 2 = 1 := by omega
        refine lv_aload_n S.1 S.2.1 dX1_countTrees_28 rfl (lv_at hl 3 rfl) ?_
        refine xg_there S hK I dX1_countTrees_29 ?_
        refine lv_iload_n S.1 S.2.1 dX1_countTrees_32 rfl (lv_at hl 0 rfl) ?_
        refine xl_T S hK I (by omega) dX1_countTrees_33 ?_
        refine tr_bif_eq 62 S dX1_countTrees_34 (by decide) (fun c4 => ?_) (fun c4 => ?_)
        · rw [hZ, if_pos c3, if_neg (fun q => by
            first | exact q.2 c5 | (rw [c4] at q; exact absurd q.1 (by decide)))] at hs
          exact k62 N H locs ls hs I
        · refine lv_aload_n S.1 S.2.1 dX1_countTrees_37 rfl (lv_at hl 3 rfl) ?_
          refine xg_nameOf S hK I dX1_countTrees_38 ?_
          refine lv_aload_n S.1 S.2.1 dX1_countTrees_41 rfl (lv_at hl 3 rfl) ?_
          refine xg_endA S hK I dX1_countTrees_42 ?_
          refine lv_iload_n S.1 S.2.1 dX1_countTrees_45 rfl (lv_at hl 0 rfl) ?_
          refine xl_A S hK I (by omega) dX1_countTrees_46 ?_
          refine xl_N S hK I (by omega) dX1_countTrees_47 ?_
          refine lv_aload_n S.1 S.2.1 dX1_countTrees_48 rfl (lv_at hl 3 rfl) ?_
          refine xg_nameOf S hK I dX1_countTrees_49 ?_
          refine lv_aload_n S.1 S.2.1 dX1_countTrees_52 rfl (lv_at hl 3 rfl) ?_
          refine xg_endB S hK I dX1_countTrees_53 ?_
          refine lv_iload_n S.1 S.2.1 dX1_countTrees_56 rfl (lv_at hl 0 rfl) ?_
          refine xl_B S hK I (by omega) dX1_countTrees_57 ?_
          refine xl_N S hK I (by omega) dX1_countTrees_58 ?_
          refine tr_icmp_ne 64 S dX1_countTrees_59 (by decide) (by omega) (by omega) (fun c5 => ?_) (fun c5 => ?_)
          · refine lv_aload_n S.1 S.2.1 dX1_countTrees_64 rfl (lv_at hl 3 rfl) ?_
            refine lv_aload_n S.1 S.2.1 dX1_countTrees_65 rfl (lv_at hl 3 rfl) ?_
            refine xg_endA S hK I dX1_countTrees_66 ?_
            refine lv_iload_n S.1 S.2.1 dX1_countTrees_69 rfl (lv_at hl 0 rfl) ?_
            refine xl_A S hK I (by omega) dX1_countTrees_70 ?_
            refine lv_aload_n S.1 S.2.1 dX1_countTrees_71 rfl (lv_at hl 3 rfl) ?_
            refine xg_endB S hK I dX1_countTrees_72 ?_
            refine lv_iload_n S.1 S.2.1 dX1_countTrees_75 rfl (lv_at hl 0 rfl) ?_
            refine xl_B S hK I (by omega) dX1_countTrees_76 ?_
            rw [hZ, if_pos c3, if_pos ⟨c4, c5⟩] at hs
            refine tr_callv (C := RX1) (ci := 0) (As := [.int (nI (A k)), .int (nI (B k))]) (rest := []) rfl rfl rfl S hK I hA (cX_join l D ad da n mk T A B N R M H.size (A k) (B k) hN (by omega) (by omega)) (cwV 2 S.2.2.2.2 (lw_V q73 q75 qs2 q12 q76) rfl rfl rfl (by decide +kernel) ⟨Nat.le_of_ble_eq_true rfl, Nat.le_of_ble_eq_true rfl⟩) rfl hl.1 rfl (Nat.le_of_ble_eq_true rfl) dX1_countTrees_77 ⟨Nat.zero_le _, Nat.zero_le _⟩ (fun _ H locs _ I => ?_)
            refine tr_iinc (k := 0) (lv' := [(3, .int (nI (k + 1))), (2, .int (nI o)), (1, .int (nI i)), (0, .ref (ad 0))]) S dX1_countTrees_80 hl rfl (by decide) rfl (fun ls hl => ?_)
            refine lv_goto (tgt := 14) S.1 S.2.1 dX1_countTrees_83 (by decide) ?_
            exact ih (k + 1) _ H locs ls (by omega) (by omega) (tr_jn_lt hN (by omega)) hs.symm I (lv_sub hl [0, 1, 2, 3] rfl)
          · rw [hZ, if_pos c3, if_neg (fun q => by
              first | exact q.2 c5 | (rw [c4] at q; exact absurd q.1 (by decide)))] at hs
            exact k62 N H locs ls hs I
end TXCT
set_option maxHeartbeats 4000000 in
set_option maxRecDepth 100000 in
theorem cX_countTrees (l : Launch) (D : va_G) (ad : Nat → Nat) (da : Nat → ClassId) (n mk : Nat) (T : Nat → Bool) (A B N R : Nat → Nat) (M : Nat → Int) (sz : Nat) (i o : Nat) (hn1 : 1 ≤ n) (hn : n ≤ 6) (hAB : ∀ k, k < 10 → A k < n ∧ B k < n) (hi : i < 1024) (ho : o < 1024) : tr_Meti l yX1_countTrees cX1_countTrees 4 ({ frames := 2, cells := 0, slots := 0, locals := 59 }) D (tr_Xt da) (tr_XW ad da n mk T A B N R M) sz [.ref (ad 0), .int (nI i), .int (nI o)] (fun r (_ : (Nat → Nat) × (Nat → Nat) × (Nat → Int)) => r = nI (tr_cP n T A B i o)) (fun u => (tr_XW ad da n mk T A B u.1 u.2.1 u.2.2)) := by
  refine tr_enter (lv := [(0, .ref (ad 0)), (1, .int (nI i)), (2, .int (nI o))]) (by decide) (Nat.le_of_ble_eq_true rfl) rfl ?_
  intro p e s m below meth c ls hsz S hr hlk hK I hA hl
  have hio : i &&& o < 1024 := Nat.lt_of_le_of_lt Nat.and_le_left hi
  have hor : i ||| o < 1024 := Nat.or_lt_two_pow (n := 10) hi ho
  refine lv_iload_n S.1 S.2.1 dX1_countTrees_0 rfl (lv_at hl 1 rfl) ?_
  refine lv_iload_n S.1 S.2.1 dX1_countTrees_1 rfl (lv_at hl 2 rfl) ?_
  refine tr_iand S dX1_countTrees_2 ?_
  refine tr_nif_eq 8 S dX1_countTrees_3 (by decide) (by omega) (fun c1 => ?_) (fun c1 => ?_)
  · refine lv_aload_n S.1 S.2.1 dX1_countTrees_8 rfl (lv_at hl 0 rfl) ?_
    refine tr_callv (C := RX1) (ci := 0) (As := []) (rest := []) rfl rfl rfl S hK I hA (cX_freshNames l D ad da n mk T A B N R M s.heap.size) (cwV 0 S.2.2.2.2 (lw_V q69 q71 qs1 q12 q72) rfl rfl rfl (by decide +kernel) ⟨Nat.le_of_ble_eq_true rfl, Nat.le_of_ble_eq_true rfl⟩) rfl hl.1 rfl (Nat.le_of_ble_eq_true rfl) dX1_countTrees_9 ⟨Nat.zero_le _, Nat.zero_le _⟩ (fun _ H locs _ I => ?_)
    refine tr_iconst 0 S dX1_countTrees_12 (by decide) ?_
    refine lv_istore_n (lv' := [(3, .int (nI 0)), (0, .ref (ad 0)), (1, .int (nI i)), (2, .int (nI o))]) S.1 S.2.1 dX1_countTrees_13 rfl hl (by decide) rfl (fun ls hl => ?_)
    refine lX_ct (o := o) (Z := tr_in T A B (tr_lf 0) (fun p => p) i) S hK hA hn hAB hi (fun N H locs ls hZ I => ?_) (fun N H locs ls hZ hN I hl => ?_) 11 0 (fun p => p) H locs ls (by omega) (by omega) (fun q h => h) (by rw [Nat.pow_zero, Nat.div_one]) I (lv_sub hl [0, 3, 2, 1] rfl)
    · refine tr_iconst 0 S dX1_countTrees_62 (by decide) ?_
      exact tr_iret S hr hlk hK (N, R, M) I (by rw [tr_cP_none hAB hi c1 hZ]) dX1_countTrees_63
    · obtain ⟨hIv, hr1, hr6, hdet⟩ := tr_cP_some hn1 hn hAB hi c1 hZ
      refine lv_aload_n S.1 S.2.1 dX1_countTrees_86 rfl (lv_at hl 2 rfl) ?_
      refine tr_calli (C := RX1) (ci := 0) (As := []) (rest := []) rfl rfl rfl S hK I hA (cX_numberRows l D ad da n mk T A B N R M H.size hn hN) (cwV 0 S.2.2.2.2 (lw_V q77 q79 qs3 q12 q80) rfl rfl rfl (by decide +kernel) ⟨Nat.le_of_ble_eq_true rfl, Nat.le_of_ble_eq_true rfl⟩) rfl hl.1 rfl (Nat.le_of_ble_eq_true rfl) dX1_countTrees_87 ⟨Nat.zero_le _, Nat.zero_le _⟩ (fun r R H locs hrR I => ?_)
      obtain ⟨rfl, hR⟩ := hrR
      have hRN : ∀ q, q < n → R (N q) = tr_row N (N q) := fun q hq => hR (N q) (hIv q hq).1 (hIv q hq).2
      refine lv_istore_n (lv' := [(3, .int (nI (tr_rt n N))), (2, .int (nI o)), (1, .int (nI i)), (0, .ref (ad 0))]) S.1 S.2.1 dX1_countTrees_90 rfl hl (by decide) rfl (fun ls hl => ?_)
      refine lv_aload_n S.1 S.2.1 dX1_countTrees_91 rfl (lv_at hl 3 rfl) ?_
      refine lv_iload_n S.1 S.2.1 dX1_countTrees_92 rfl (lv_at hl 2 rfl) ?_
      refine lv_iload_n S.1 S.2.1 dX1_countTrees_93 rfl (lv_at hl 1 rfl) ?_
      refine tr_ior S dX1_countTrees_94 ?_
      refine tr_callv (C := RX1) (ci := 0) (As := [.int (nI (i ||| o))]) (rest := []) rfl rfl rfl S hK I hA (cX_fillMatrix l D ad da n mk T A B N R M H.size (i ||| o) hn hor hAB (fun q hq => (hIv q hq).1) (fun q hq => by rw [hRN q hq]; have := tr_row_le hIv hq; omega)) (cwV 1 S.2.2.2.2 (lw_V q81 q83 qs4 q12 q84) rfl rfl rfl (by decide +kernel) ⟨Nat.le_of_ble_eq_true rfl, Nat.le_of_ble_eq_true rfl⟩) rfl hl.1 rfl (Nat.le_of_ble_eq_true rfl) dX1_countTrees_95 ⟨Nat.zero_le _, Nat.zero_le _⟩ (fun M H locs hM I => ?_)
      refine lv_aload_n S.1 S.2.1 dX1_countTrees_98 rfl (lv_at hl 3 rfl) ?_
      refine lv_iload_n S.1 S.2.1 dX1_countTrees_99 rfl (lv_at hl 0 rfl) ?_
      refine tr_iconst 1 S dX1_countTrees_100 (by decide) ?_
      refine tr_isub S (by omega) dX1_countTrees_101 ?_
      have hFlt := tr_fr_lt (T := T) (A := A) (B := B) (n := n) (tr_lf 0) (fun k hk => hAB k (tr_lf_mem hk)) (i ||| o)
      have hFl := tr_fr_len (T := T) (A := A) (B := B) (tr_lf 0) (i ||| o)
      rw [tr_lf_len] at hFl
      have hle : ∀ q, q < n → R (N q) ≤ tr_rt n N - 1 := fun q hq => by
        rw [hRN q hq]
        have := tr_row_le hIv hq
        omega
      have hdet2 : tr_det (tr_rt n N - 1) (tr_L (fun p => R (N p)) (tr_fr T A B (tr_lf 0) (i ||| o))) = (tr_cP n T A B i o : Int) := by
        rw [← hdet]
        exact tr_det_congr (by omega) (fun a b _ _ => tr_L_cg hRN _ hFlt a b)
      refine tr_calll (C := RX1) (ci := 0) (As := [.int (nI ((tr_rt n N) - 1))]) (rest := []) rfl rfl rfl S hK I hA (cX_determinant l D ad da n mk T A B N R M H.size (tr_rt n N - 1) (tr_L (fun p => R (N p)) (tr_fr T A B (tr_lf 0) (i ||| o))) (by omega) (fun a b => Nat.le_trans (tr_L_abs _ a b) (by omega)) (fun k hk h0 => tr_det_lead _ _ _ k (by omega) hk hFlt hle h0) hM) (cwV 1 S.2.2.2.2 (lw_V q85 q87 qs5 q12 q88) rfl rfl rfl (by decide +kernel) ⟨Nat.le_of_ble_eq_true rfl, Nat.le_of_ble_eq_true rfl⟩) rfl hl.1 rfl (Nat.le_of_ble_eq_true rfl) dX1_countTrees_102 ⟨Nat.zero_le _, Nat.zero_le _⟩ (fun r M H locs hr2 I => ?_)
      subst hr2
      refine lv_l2i (v := nI (tr_cP n T A B i o)) S.1 S.2.1 dX1_countTrees_105 (by rw [hdet2]; exact tr_l2i _) ?_
      exact tr_iret S hr hlk hK (N, R, M) I rfl dX1_countTrees_106
  · refine tr_iconst 0 S dX1_countTrees_6 (by decide) ?_
    exact tr_iret S hr hlk hK (N, R, M) I (by rw [tr_cP_both c1]) dX1_countTrees_7
end
section
/-! MACHINE 6: the answers, as plain functions of the state (by hand) -/
def tr_k (x : Int32) : Nat := x.toNatClampNeg
theorem tr_k_n {k : Nat} (h : k < 10) : tr_k (nI k) = k := nI_clamp (by omega)
theorem tr_k_6 {k : Nat} (h : k < 6) : tr_k (nI k) = k := nI_clamp (by omega)
def tr_aW (n : Nat) (T : Nat → Bool) (A B : Nat → Nat) (x : Int32) : Int32 := if tr_isL x = true then nI (tr_cP n T A B (2 ^ tr_k x) 0) else -1
def tr_aB (n : Nat) (T : Nat → Bool) (A B : Nat → Nat) (x y : Int32) : Int32 := if tr_isL x = true ∧ tr_isL y = true then nI (tr_cP n T A B (2 ^ tr_k x ||| 2 ^ tr_k y) 0) else -1
def tr_aR (n : Nat) (T : Nat → Bool) (A B : Nat → Nat) (mk : Nat) : Int32 := if tr_isT n T A B mk = true then nI (tr_cnt (tr_isT n T A B) mk) else -1
/-- the three words of a draw are good -/
def tr_dk (n : Nat) (x a b : Int32) : Bool := tr_isL x && tr_isP n a && tr_isP n b && decide (a ≠ b)
def tr_dR (n : Nat) (x a b : Int32) : Int32 := if tr_dk n x a b = true then 0 else -1
def tr_dT (n : Nat) (T : Nat → Bool) (x a b : Int32) : Nat → Bool := if tr_dk n x a b = true then va_up T (tr_k x) true else T
def tr_dE (n : Nat) (E : Nat → Nat) (x a b v : Int32) : Nat → Nat := if tr_dk n x a b = true then va_up E (tr_k x) (tr_k v) else E
def tr_cT (T : Nat → Bool) (x : Int32) : Nat → Bool := if tr_isL x = true then va_up T (tr_k x) false else T
def tr_cR (T : Nat → Bool) (x : Int32) : Int32 := if tr_isL x = true then tr_bI (T (tr_k x)) else -1
def tr_mK (mk : Nat) (x : Int32) : Nat := if tr_isL x = true then mk ^^^ 2 ^ tr_k x else mk
def tr_mR (mk : Nat) (x : Int32) : Int32 := if tr_isL x = true then nI ((mk ^^^ 2 ^ tr_k x) / 2 ^ tr_k x % 2) else -1
theorem tr_isP_f {n : Nat} {x : Int32} (h : x < 0 ∨ nI n ≤ x) : tr_isP n x = false := by
  unfold tr_isP
  refine decide_eq_false ?_
  rintro ⟨h1, h2⟩
  rcases h with h | h
  · exact h1 h
  · exact absurd h2 (Int32.not_lt.mpr h)
theorem tr_isP_y {n : Nat} {x : Int32} (h1 : ¬ x < 0) (h2 : ¬ nI n ≤ x) : tr_isP n x = true := by
  unfold tr_isP
  exact decide_eq_true ⟨h1, Int32.not_le.mp h2⟩
theorem tr_dk_1 {n : Nat} {x a b : Int32} (h : tr_isL x = false) : tr_dk n x a b = false := by simp [tr_dk, h]
theorem tr_dk_2 {n : Nat} {x a b : Int32} (h : tr_isP n a = false) : tr_dk n x a b = false := by simp [tr_dk, h]
theorem tr_dk_3 {n : Nat} {x a b : Int32} (h : tr_isP n b = false) : tr_dk n x a b = false := by simp [tr_dk, h]
theorem tr_dk_4 {n : Nat} {x a b : Int32} (h : a = b) : tr_dk n x a b = false := by simp [tr_dk, h]
theorem tr_dk_5 {n : Nat} {x a b : Int32} (h1 : tr_isL x = true) (h2 : tr_isP n a = true) (h3 : tr_isP n b = true) (h4 : ¬ a = b) : tr_dk n x a b = true := by simp [tr_dk, h1, h2, h3, h4]
theorem tr_dk_no {n : Nat} {T : Nat → Bool} {A B : Nat → Nat} {x a b : Int32} (h : tr_dk n x a b = false) : tr_dT n T x a b = T ∧ tr_dE n A x a b a = A ∧ tr_dE n B x a b b = B ∧ tr_dR n x a b = -1 := by
  have h1 : ¬ tr_dk n x a b = true := by rw [h]; decide
  exact ⟨if_neg h1, if_neg h1, if_neg h1, if_neg h1⟩
theorem tr_dk_yes {n k i j : Nat} {T : Nat → Bool} {A B : Nat → Nat} (hk : k < 10) (hi : i < 6) (hj : j < 6) (h : tr_dk n (nI k) (nI i) (nI j) = true) : tr_dT n T (nI k) (nI i) (nI j) = va_up T k true ∧ tr_dE n A (nI k) (nI i) (nI j) (nI i) = va_up A k i ∧ tr_dE n B (nI k) (nI i) (nI j) (nI j) = va_up B k j ∧ tr_dR n (nI k) (nI i) (nI j) = nI 0 := by
  refine ⟨?_, ?_, ?_, ?_⟩
  · unfold tr_dT
    rw [if_pos h, tr_k_n hk]
  · unfold tr_dE
    rw [if_pos h, tr_k_n hk, tr_k_6 hi]
  · unfold tr_dE
    rw [if_pos h, tr_k_n hk, tr_k_6 hj]
  · unfold tr_dR
    rw [if_pos h]
    rfl
theorem tr_cx_no {T : Nat → Bool} {mk : Nat} {x : Int32} (h : tr_isL x = false) : tr_cT T x = T ∧ tr_cR T x = -1 ∧ tr_mK mk x = mk ∧ tr_mR mk x = -1 := by
  have h1 : ¬ tr_isL x = true := by rw [h]; decide
  exact ⟨if_neg h1, if_neg h1, if_neg h1, if_neg h1⟩
theorem tr_cx_yes {T : Nat → Bool} {mk k : Nat} (hk : k < 10) : tr_cT T (nI k) = va_up T k false ∧ tr_cR T (nI k) = tr_bI (T k) ∧ tr_mK mk (nI k) = mk ^^^ 2 ^ k ∧ tr_mR mk (nI k) = nI ((mk ^^^ 2 ^ k) / 2 ^ k % 2) := by
  have h := tr_isL_n hk
  unfold tr_cT tr_cR tr_mK tr_mR
  rw [if_pos h, if_pos h, if_pos h, if_pos h, tr_k_n hk]
  exact ⟨rfl, rfl, rfl, rfl⟩
theorem tr_aW_no {n : Nat} {T : Nat → Bool} {A B : Nat → Nat} {x : Int32} (h : tr_isL x = false) : tr_aW n T A B x = -1 := if_neg (by rw [h]; decide)
theorem tr_aW_yes {n k : Nat} {T : Nat → Bool} {A B : Nat → Nat} (hk : k < 10) : tr_aW n T A B (nI k) = nI (tr_cP n T A B (2 ^ k) 0) := by
  unfold tr_aW
  rw [if_pos (tr_isL_n hk), tr_k_n hk]
theorem tr_aB_no {n : Nat} {T : Nat → Bool} {A B : Nat → Nat} {x y : Int32} (h : tr_isL x = false ∨ tr_isL y = false) : tr_aB n T A B x y = -1 := by
  refine if_neg (fun q => ?_)
  rcases h with h | h
  · rw [q.1] at h; cases h
  · rw [q.2] at h; cases h
theorem tr_aB_yes {n k j : Nat} {T : Nat → Bool} {A B : Nat → Nat} (hk : k < 10) (hj : j < 10) : tr_aB n T A B (nI k) (nI j) = nI (tr_cP n T A B (2 ^ k ||| 2 ^ j) 0) := by
  unfold tr_aB
  rw [if_pos ⟨tr_isL_n hk, tr_isL_n hj⟩, tr_k_n hk, tr_k_n hj]
theorem tr_aR_no {n mk : Nat} {T : Nat → Bool} {A B : Nat → Nat} (h : tr_isT n T A B mk = false) : tr_aR n T A B mk = -1 := if_neg (by rw [h]; decide)
theorem tr_aR_yes {n mk : Nat} {T : Nat → Bool} {A B : Nat → Nat} (h : tr_isT n T A B mk = true) : tr_aR n T A B mk = nI (tr_cnt (tr_isT n T A B) mk) := if_pos h
/-- the state stays in its bounds -/
theorem tr_dE_lt {n : Nat} {A B : Nat → Nat} {x a b : Int32} (hn : n ≤ 6) (hAB : ∀ k, k < 10 → A k < n ∧ B k < n) : ∀ k, k < 10 → tr_dE n A x a b a k < n ∧ tr_dE n B x a b b k < n := by
  intro k hk
  have h0 := hAB k hk
  unfold tr_dE
  by_cases h : tr_dk n x a b = true
  · rw [if_pos h, if_pos h]
    simp only [tr_dk, Bool.and_eq_true] at h
    obtain ⟨i, hi, ei⟩ := tr_isP_t (by omega) h.1.1.2
    obtain ⟨j, hj, ej⟩ := tr_isP_t (by omega) h.1.2
    by_cases g : k = tr_k x
    · rw [g, va_up_self, va_up_self, ei, ej, tr_k_6 (by omega), tr_k_6 (by omega)]
      exact ⟨hi, hj⟩
    · rw [va_up_ne _ _ g, va_up_ne _ _ g]
      exact h0
  · rw [if_neg h, if_neg h]
    exact h0
theorem tr_mK_lt {mk : Nat} {x : Int32} (h : mk < 1024) : tr_mK mk x < 1024 := by
  by_cases hx : tr_isL x = true
  · obtain ⟨k, hk, rfl⟩ := tr_isL_t hx
    rw [(tr_cx_yes (T := fun _ => false) (mk := mk) hk).2.2.1]
    exact Nat.xor_lt_two_pow (n := 10) h (Nat.pow_lt_pow_right (by decide) hk)
  · unfold tr_mK
    rw [if_neg hx]
    exact h
/-- counting the ones, from the low bit on -/
theorem tr_on_s {s k : Nat} (hk : k < 10) : tr_on (10 - k) (s / 2 ^ k) = s / 2 ^ k % 2 + tr_on (10 - (k + 1)) (s / 2 ^ (k + 1)) := by
  rw [show 10 - k = (10 - (k + 1)) + 1 by omega]
  simp only [tr_on]
  rw [Nat.div_div_eq_div_mul, ← Nat.pow_succ]
theorem tr_gr_s {T : Nat → Bool} {A B N : Nat → Nat} {k t : Nat} (hk : k < 10) : tr_gr T A B (tr_lf k) N (t / 2 ^ k) = if T k = true ∧ t / 2 ^ k % 2 = 1 then (if N (A k) = N (B k) then 1 + tr_gr T A B (tr_lf (k + 1)) N (t / 2 ^ (k + 1)) else tr_gr T A B (tr_lf (k + 1)) (tr_jn N (A k) (B k)) (t / 2 ^ (k + 1))) else tr_gr T A B (tr_lf (k + 1)) N (t / 2 ^ (k + 1)) := by
  rw [tr_lf_c hk]
  simp only [tr_gr]
  rw [Nat.div_div_eq_div_mul, ← Nat.pow_succ]
theorem tr_rl_s {T : Nat → Bool} {A B N : Nat → Nat} {k t : Nat} (hk : k < 10) : tr_rl T A B (tr_lf k) N (t / 2 ^ k) = if t / 2 ^ k % 2 = 1 then (T k && decide (N (A k) ≠ N (B k)) && tr_rl T A B (tr_lf (k + 1)) (tr_jn N (A k) (B k)) (t / 2 ^ (k + 1))) else tr_rl T A B (tr_lf (k + 1)) N (t / 2 ^ (k + 1)) := by
  rw [tr_lf_c hk]
  simp only [tr_rl]
  rw [Nat.div_div_eq_div_mul, ← Nat.pow_succ]
theorem tr_ln_s {T : Nat → Bool} {k t : Nat} (hk : k < 10) : tr_ln T (tr_lf k) (t / 2 ^ k) = (if T k = true ∧ t / 2 ^ k % 2 = 1 then 1 else 0) + 2 * tr_ln T (tr_lf (k + 1)) (t / 2 ^ (k + 1)) := by
  rw [tr_lf_c hk]
  simp only [tr_ln]
  rw [Nat.div_div_eq_div_mul, ← Nat.pow_succ]
theorem tr_tb {x i : Nat} (h : x / 2 ^ i % 2 = 1) : x.testBit i = true := by
  rw [Nat.testBit_eq_decide_div_mod_eq]
  exact decide_eq_true h
theorem tr_tbf {x i : Nat} (h : x / 2 ^ i % 2 = 0) : x.testBit i = false := by
  rw [Nat.testBit_eq_decide_div_mod_eq]
  exact decide_eq_false (by omega)
theorem tr_cP_0 {n : Nat} {T : Nat → Bool} {A B : Nat → Nat} {i : Nat} : tr_cP n T A B i 0 = tr_cnt (fun s => decide (s &&& i = i) && tr_isT n T A B s) 1024 := by
  unfold tr_cP
  refine tr_cnt_congr _ (fun s _ => ?_)
  simp
theorem tr_cP_00 {n : Nat} {T : Nat → Bool} {A B : Nat → Nat} : tr_cP n T A B 0 0 = tr_cnt (tr_isT n T A B) 1024 := by
  rw [tr_cP_0]
  refine tr_cnt_congr _ (fun s _ => ?_)
  simp
theorem tr_cnt_b0 {P : Nat → Bool} {b : Nat} : tr_cnt (fun s => decide (s &&& 0 = 0) && P s) b = tr_cnt P b := by
  refine tr_cnt_congr _ (fun s _ => ?_)
  simp
theorem tr_cP_le (n : Nat) (T : Nat → Bool) (A B : Nat → Nat) (i o : Nat) : tr_cP n T A B i o ≤ 1024 := tr_cnt_le _ _
theorem tr_Tree_neg {P : Nat → Bool} {rank : Int32} (h : rank < 0) : tr_Tree P rank (-1) := by
  refine Or.inr ⟨fun s hs _ e => ?_, rfl⟩
  have h1 := tr_cnt_le P s
  rw [← e] at h
  exact nI_pos (by omega) h
theorem tr_Tree_big {P : Nat → Bool} {rk : Nat} (hr : rk < 2 ^ 31) (h : tr_cnt P 1024 ≤ rk) : tr_Tree P (nI rk) (-1) := by
  refine Or.inr ⟨fun s hs hp e => ?_, rfl⟩
  have h1 := tr_cnt_le P s
  have h2 := tr_cnt_mono P (show s + 1 ≤ 1024 from hs)
  have h4 : tr_cnt P (s + 1) = tr_cnt P s + 1 := by
    show tr_cnt P s + (if P s = true then 1 else 0) = _
    rw [if_pos hp]
  have h3 := (nI_eq (by omega) hr).mp e
  omega
theorem tr_Tree_at {P : Nat → Bool} {rk i : Nat} (h : i < 1024 ∧ P i = true ∧ tr_cnt P i = rk) : tr_Tree P (nI rk) (nI i) := Or.inl ⟨i, h.1, h.2.1, by rw [h.2.2], rfl⟩
theorem tr_2k {k : Nat} (h : k < 10) : 2 ^ k < 1024 := Nat.pow_lt_pow_right (n := 10) (by decide) h
end
section
/-! MACHINE 7: what TreeRanker answers (text by gen_x1d.py) -/
set_option maxHeartbeats 4000000 in
set_option maxRecDepth 100000 in
theorem cX_draw (l : Launch) (D : va_G) (ad : Nat → Nat) (da : Nat → ClassId) (n mk : Nat) (T : Nat → Bool) (A B N R : Nat → Nat) (M : Nat → Int) (sz : Nat) (x a b : Int32) (hn1 : 1 ≤ n) (hn : n ≤ 6) (hAB : ∀ k, k < 10 → A k < n ∧ B k < n) : tr_Meti l yX1_draw cX1_draw 4 ({ frames := 4, cells := 0, slots := 0, locals := 110 }) D (tr_Xt da) (tr_XW ad da n mk T A B N R M) sz [.ref (ad 0), .int x, .int a, .int b] (fun r (_ : (Nat → Nat) × (Nat → Nat) × (Nat → Int)) => r = tr_dR n x a b) (fun u => (tr_XW ad da n mk (tr_dT n T x a b) (tr_dE n A x a b a) (tr_dE n B x a b b) u.1 u.2.1 u.2.2)) := by
  refine tr_enter (lv := [(0, .ref (ad 0)), (1, .int x), (2, .int a), (3, .int b)]) (by decide) (Nat.le_of_ble_eq_true rfl) rfl ?_
  intro p e s m below meth c ls hsz S hr hlk hK I hA hl
  refine lv_iload_n S.1 S.2.1 dX1_draw_0 rfl (lv_at hl 1 rfl) ?_
  refine tr_calls (As := [.int x]) (rest := []) S I hA (fun U hW => va_K.moved hW.alike (hK.sub (tys' := []) [] rfl)) (cX_isLine l D s.heap.size x) (va_cwS 1 S.2.2.2.2 (lw_S q54 q55 q12 q56) rfl rfl rfl (by decide +kernel) ⟨Nat.le_of_ble_eq_true rfl, Nat.le_of_ble_eq_true rfl⟩) rfl hl.1 rfl (Nat.le_of_ble_eq_true rfl) dX1_draw_1 ⟨Nat.zero_le _, Nat.zero_le _⟩ (fun r H locs hr2 I => ?_)
  subst hr2
  refine tr_bif_eq 36 S dX1_draw_4 (by decide) (fun c1 => ?_) (fun c1 => ?_)
  · obtain ⟨e1, e2, e3, e4⟩ := tr_dk_no (T := T) (A := A) (B := B) (n := n) (x := x) (a := a) (b := b) (tr_dk_1 c1)
    refine lv_iconst (v := -1) S.1 S.2.1 dX1_draw_36 (by decide) ?_
    exact tr_iret S hr hlk hK (N, R, M) (I.eq (by rw [e1, e2, e3])) e4.symm dX1_draw_37
  · refine lv_iload_n S.1 S.2.1 dX1_draw_7 rfl (lv_at hl 2 rfl) ?_
    refine lv_if_lt (tgt := 36) S.1 S.2.1 dX1_draw_8 (by decide) (fun c2 => ?_) (fun c2 => ?_)
    · obtain ⟨e1, e2, e3, e4⟩ := tr_dk_no (T := T) (A := A) (B := B) (n := n) (x := x) (a := a) (b := b) (tr_dk_2 (tr_isP_f (Or.inl c2)))
      refine lv_iconst (v := -1) S.1 S.2.1 dX1_draw_36 (by decide) ?_
      exact tr_iret S hr hlk hK (N, R, M) (I.eq (by rw [e1, e2, e3])) e4.symm dX1_draw_37
    · refine lv_iload_n S.1 S.2.1 dX1_draw_11 rfl (lv_at hl 2 rfl) ?_
      refine lv_aload_n S.1 S.2.1 dX1_draw_12 rfl (lv_at hl 0 rfl) ?_
      refine xg_n S hK I dX1_draw_13 ?_
      refine lv_icmp_ge (tgt := 36) S.1 S.2.1 dX1_draw_16 (by decide) (fun c3 => ?_) (fun c3 => ?_)
      · obtain ⟨e1, e2, e3, e4⟩ := tr_dk_no (T := T) (A := A) (B := B) (n := n) (x := x) (a := a) (b := b) (tr_dk_2 (tr_isP_f (Or.inr c3)))
        refine lv_iconst (v := -1) S.1 S.2.1 dX1_draw_36 (by decide) ?_
        exact tr_iret S hr hlk hK (N, R, M) (I.eq (by rw [e1, e2, e3])) e4.symm dX1_draw_37
      · refine lv_iload_n S.1 S.2.1 dX1_draw_19 rfl (lv_at hl 3 rfl) ?_
        refine lv_if_lt (tgt := 36) S.1 S.2.1 dX1_draw_20 (by decide) (fun c4 => ?_) (fun c4 => ?_)
        · obtain ⟨e1, e2, e3, e4⟩ := tr_dk_no (T := T) (A := A) (B := B) (n := n) (x := x) (a := a) (b := b) (tr_dk_3 (tr_isP_f (Or.inl c4)))
          refine lv_iconst (v := -1) S.1 S.2.1 dX1_draw_36 (by decide) ?_
          exact tr_iret S hr hlk hK (N, R, M) (I.eq (by rw [e1, e2, e3])) e4.symm dX1_draw_37
        · refine lv_iload_n S.1 S.2.1 dX1_draw_23 rfl (lv_at hl 3 rfl) ?_
          refine lv_aload_n S.1 S.2.1 dX1_draw_24 rfl (lv_at hl 0 rfl) ?_
          refine xg_n S hK I dX1_draw_25 ?_
          refine lv_icmp_ge (tgt := 36) S.1 S.2.1 dX1_draw_28 (by decide) (fun c5 => ?_) (fun c5 => ?_)
          · obtain ⟨e1, e2, e3, e4⟩ := tr_dk_no (T := T) (A := A) (B := B) (n := n) (x := x) (a := a) (b := b) (tr_dk_3 (tr_isP_f (Or.inr c5)))
            refine lv_iconst (v := -1) S.1 S.2.1 dX1_draw_36 (by decide) ?_
            exact tr_iret S hr hlk hK (N, R, M) (I.eq (by rw [e1, e2, e3])) e4.symm dX1_draw_37
          · refine lv_iload_n S.1 S.2.1 dX1_draw_31 rfl (lv_at hl 2 rfl) ?_
            refine lv_iload_n S.1 S.2.1 dX1_draw_32 rfl (lv_at hl 3 rfl) ?_
            refine lv_icmp_ne (tgt := 38) S.1 S.2.1 dX1_draw_33 (by decide) (fun c6 => ?_) (fun c6 => ?_)
            · have hdk := tr_dk_5 c1 (tr_isP_y c2 c3) (tr_isP_y c4 c5) c6
              obtain ⟨i, hi, rfl⟩ := tr_isP_t (by omega) (tr_isP_y c2 c3)
              obtain ⟨j, hj, rfl⟩ := tr_isP_t (by omega) (tr_isP_y c4 c5)
              obtain ⟨k, hk, rfl⟩ := tr_isL_t c1
              obtain ⟨e1, e2, e3, e4⟩ := tr_dk_yes (T := T) (A := A) (B := B) hk (show i < 6 by omega) (show j < 6 by omega) hdk
              refine lv_aload_n S.1 S.2.1 dX1_draw_38 rfl (lv_at hl 0 rfl) ?_
              refine xg_there S hK I dX1_draw_39 ?_
              refine lv_iload_n S.1 S.2.1 dX1_draw_42 rfl (lv_at hl 1 rfl) ?_
              refine tr_iconst 1 S dX1_draw_43 (by decide) ?_
              refine tr_ti (y := tr_bI true) (by decide) ?_
              refine xs_T S hK I (by omega) dX1_draw_44 (fun H locs I => ?_)
              refine lv_aload_n S.1 S.2.1 dX1_draw_45 rfl (lv_at hl 0 rfl) ?_
              refine xg_endA S hK I dX1_draw_46 ?_
              refine lv_iload_n S.1 S.2.1 dX1_draw_49 rfl (lv_at hl 1 rfl) ?_
              refine lv_iload_n S.1 S.2.1 dX1_draw_50 rfl (lv_at hl 2 rfl) ?_
              refine xs_A S hK I (by omega) dX1_draw_51 (fun H locs I => ?_)
              refine lv_aload_n S.1 S.2.1 dX1_draw_52 rfl (lv_at hl 0 rfl) ?_
              refine xg_endB S hK I dX1_draw_53 ?_
              refine lv_iload_n S.1 S.2.1 dX1_draw_56 rfl (lv_at hl 1 rfl) ?_
              refine lv_iload_n S.1 S.2.1 dX1_draw_57 rfl (lv_at hl 3 rfl) ?_
              refine xs_B S hK I (by omega) dX1_draw_58 (fun H locs I => ?_)
              refine tr_iconst 0 S dX1_draw_59 (by decide) ?_
              exact tr_iret S hr hlk hK (N, R, M) (I.eq (by rw [e1, e2, e3])) e4.symm dX1_draw_60
            · obtain ⟨e1, e2, e3, e4⟩ := tr_dk_no (T := T) (A := A) (B := B) (n := n) (x := x) (a := a) (b := b) (tr_dk_4 c6)
              refine lv_iconst (v := -1) S.1 S.2.1 dX1_draw_36 (by decide) ?_
              exact tr_iret S hr hlk hK (N, R, M) (I.eq (by rw [e1, e2, e3])) e4.symm dX1_draw_37
set_option maxHeartbeats 4000000 in
set_option maxRecDepth 100000 in
theorem cX_cut (l : Launch) (D : va_G) (ad : Nat → Nat) (da : Nat → ClassId) (n mk : Nat) (T : Nat → Bool) (A B N R : Nat → Nat) (M : Nat → Int) (sz : Nat) (x : Int32) : tr_Meti l yX1_cut cX1_cut 3 ({ frames := 4, cells := 0, slots := 0, locals := 110 }) D (tr_Xt da) (tr_XW ad da n mk T A B N R M) sz [.ref (ad 0), .int x] (fun r (_ : (Nat → Nat) × (Nat → Nat) × (Nat → Int)) => r = tr_cR T x) (fun u => (tr_XW ad da n mk (tr_cT T x) A B u.1 u.2.1 u.2.2)) := by
  refine tr_enter (lv := [(0, .ref (ad 0)), (1, .int x)]) (by decide) (Nat.le_of_ble_eq_true rfl) rfl ?_
  intro p e s m below meth c ls hsz S hr hlk hK I hA hl
  refine lv_iload_n S.1 S.2.1 dX1_cut_0 rfl (lv_at hl 1 rfl) ?_
  refine tr_calls (As := [.int x]) (rest := []) S I hA (fun U hW => va_K.moved hW.alike (hK.sub (tys' := []) [] rfl)) (cX_isLine l D s.heap.size x) (va_cwS 1 S.2.2.2.2 (lw_S q54 q55 q12 q56) rfl rfl rfl (by decide +kernel) ⟨Nat.le_of_ble_eq_true rfl, Nat.le_of_ble_eq_true rfl⟩) rfl hl.1 rfl (Nat.le_of_ble_eq_true rfl) dX1_cut_1 ⟨Nat.zero_le _, Nat.zero_le _⟩ (fun r H locs hr2 I => ?_)
  subst hr2
  refine tr_bif_ne 9 S dX1_cut_4 (by decide) (fun c1 => ?_) (fun c1 => ?_)
  · obtain ⟨k, hk, rfl⟩ := tr_isL_t c1
    obtain ⟨e1, e2, -, -⟩ := tr_cx_yes (T := T) (mk := mk) hk
    refine lv_aload_n S.1 S.2.1 dX1_cut_9 rfl (lv_at hl 0 rfl) ?_
    refine xg_there S hK I dX1_cut_10 ?_
    refine lv_iload_n S.1 S.2.1 dX1_cut_13 rfl (lv_at hl 1 rfl) ?_
    refine xl_T S hK I (by omega) dX1_cut_14 ?_
    refine tr_bif_eq 22 S dX1_cut_15 (by decide) (fun c2 => ?_) (fun c2 => ?_)
    · refine tr_iconst 0 S dX1_cut_22 (by decide) ?_
      refine lv_istore_n (lv' := [(2, .int (nI 0)), (0, .ref (ad 0)), (1, .int (nI k))]) S.1 S.2.1 dX1_cut_23 rfl hl (by decide) rfl (fun ls hl => ?_)
      refine lv_aload_n S.1 S.2.1 dX1_cut_24 rfl (lv_at hl 1 rfl) ?_
      refine xg_there S hK I dX1_cut_25 ?_
      refine lv_iload_n S.1 S.2.1 dX1_cut_28 rfl (lv_at hl 2 rfl) ?_
      refine tr_iconst 0 S dX1_cut_29 (by decide) ?_
      refine tr_ti (y := tr_bI false) (by decide) ?_
      refine xs_T S hK I (by omega) dX1_cut_30 (fun H locs I => ?_)
      refine lv_iload_n S.1 S.2.1 dX1_cut_31 rfl (lv_at hl 0 rfl) ?_
      exact tr_iret S hr hlk hK (N, R, M) (I.eq (by rw [e1])) (by rw [e2, c2] <;> decide) dX1_cut_32
    · refine tr_iconst 1 S dX1_cut_18 (by decide) ?_
      refine lv_goto (tgt := 23) S.1 S.2.1 dX1_cut_19 (by decide) ?_
      refine lv_istore_n (lv' := [(2, .int (nI 1)), (0, .ref (ad 0)), (1, .int (nI k))]) S.1 S.2.1 dX1_cut_23 rfl hl (by decide) rfl (fun ls hl => ?_)
      refine lv_aload_n S.1 S.2.1 dX1_cut_24 rfl (lv_at hl 1 rfl) ?_
      refine xg_there S hK I dX1_cut_25 ?_
      refine lv_iload_n S.1 S.2.1 dX1_cut_28 rfl (lv_at hl 2 rfl) ?_
      refine tr_iconst 0 S dX1_cut_29 (by decide) ?_
      refine tr_ti (y := tr_bI false) (by decide) ?_
      refine xs_T S hK I (by omega) dX1_cut_30 (fun H locs I => ?_)
      refine lv_iload_n S.1 S.2.1 dX1_cut_31 rfl (lv_at hl 0 rfl) ?_
      exact tr_iret S hr hlk hK (N, R, M) (I.eq (by rw [e1])) (by rw [e2, c2] <;> decide) dX1_cut_32
  · refine lv_iconst (v := -1) S.1 S.2.1 dX1_cut_7 (by decide) ?_
    obtain ⟨e1, e2, -, -⟩ := tr_cx_no (T := T) (mk := mk) c1
    exact tr_iret S hr hlk hK (N, R, M) (I.eq (by rw [e1])) e2.symm dX1_cut_8
set_option maxHeartbeats 4000000 in
set_option maxRecDepth 100000 in
theorem cX_trees (l : Launch) (D : va_G) (ad : Nat → Nat) (da : Nat → ClassId) (n mk : Nat) (T : Nat → Bool) (A B N R : Nat → Nat) (M : Nat → Int) (sz : Nat) (hn1 : 1 ≤ n) (hn : n ≤ 6) (hAB : ∀ k, k < 10 → A k < n ∧ B k < n) : tr_Meti l yX1_trees cX1_trees 1 ({ frames := 3, cells := 0, slots := 0, locals := 82 }) D (tr_Xt da) (tr_XW ad da n mk T A B N R M) sz [.ref (ad 0)] (fun r (_ : (Nat → Nat) × (Nat → Nat) × (Nat → Int)) => r = nI (tr_cP n T A B 0 0)) (fun u => (tr_XW ad da n mk T A B u.1 u.2.1 u.2.2)) := by
  refine tr_enter (lv := [(0, .ref (ad 0))]) (by decide) (Nat.le_of_ble_eq_true rfl) rfl ?_
  intro p e s m below meth c ls hsz S hr hlk hK I hA hl
  refine lv_aload_n S.1 S.2.1 dX1_trees_0 rfl (lv_at hl 0 rfl) ?_
  refine tr_iconst 0 S dX1_trees_1 (by decide) ?_
  refine tr_iconst 0 S dX1_trees_2 (by decide) ?_
  refine tr_calli (C := RX1) (ci := 0) (As := [.int (nI 0), .int (nI 0)]) (rest := []) rfl rfl rfl S hK I hA (cX_countTrees l D ad da n mk T A B N R M s.heap.size 0 0 hn1 hn hAB (by decide) (by decide)) (cwV 2 S.2.2.2.2 (lw_V q65 q67 qs0 q12 q68) rfl rfl rfl (by decide +kernel) ⟨Nat.le_of_ble_eq_true rfl, Nat.le_of_ble_eq_true rfl⟩) rfl hl.1 rfl (Nat.le_of_ble_eq_true rfl) dX1_trees_3 ⟨Nat.zero_le _, Nat.zero_le _⟩ (fun r u H locs hr2 I => ?_)
  subst hr2
  obtain ⟨N, R, M⟩ := u
  have I : tr_I s _ D (tr_XW ad da n mk T A B N R M) H locs := I
  exact tr_iret S hr hlk hK (N, R, M) I rfl dX1_trees_6
set_option maxHeartbeats 4000000 in
set_option maxRecDepth 100000 in
theorem cX_treesWith (l : Launch) (D : va_G) (ad : Nat → Nat) (da : Nat → ClassId) (n mk : Nat) (T : Nat → Bool) (A B N R : Nat → Nat) (M : Nat → Int) (sz : Nat) (x : Int32) (hn1 : 1 ≤ n) (hn : n ≤ 6) (hAB : ∀ k, k < 10 → A k < n ∧ B k < n) : tr_Meti l yX1_treesWith cX1_treesWith 2 ({ frames := 4, cells := 0, slots := 0, locals := 110 }) D (tr_Xt da) (tr_XW ad da n mk T A B N R M) sz [.ref (ad 0), .int x] (fun r (_ : (Nat → Nat) × (Nat → Nat) × (Nat → Int)) => r = tr_aW n T A B x) (fun u => (tr_XW ad da n mk T A B u.1 u.2.1 u.2.2)) := by
  refine tr_enter (lv := [(0, .ref (ad 0)), (1, .int x)]) (by decide) (Nat.le_of_ble_eq_true rfl) rfl ?_
  intro p e s m below meth c ls hsz S hr hlk hK I hA hl
  refine lv_iload_n S.1 S.2.1 dX1_treesWith_0 rfl (lv_at hl 1 rfl) ?_
  refine tr_calls (As := [.int x]) (rest := []) S I hA (fun U hW => va_K.moved hW.alike (hK.sub (tys' := []) [] rfl)) (cX_isLine l D s.heap.size x) (va_cwS 1 S.2.2.2.2 (lw_S q54 q55 q12 q56) rfl rfl rfl (by decide +kernel) ⟨Nat.le_of_ble_eq_true rfl, Nat.le_of_ble_eq_true rfl⟩) rfl hl.1 rfl (Nat.le_of_ble_eq_true rfl) dX1_treesWith_1 ⟨Nat.zero_le _, Nat.zero_le _⟩ (fun r H locs hr2 I => ?_)
  subst hr2
  refine tr_bif_eq 18 S dX1_treesWith_4 (by decide) (fun c1 => ?_) (fun c1 => ?_)
  · refine lv_iconst (v := -1) S.1 S.2.1 dX1_treesWith_18 (by decide) ?_
    exact tr_iret S hr hlk hK (N, R, M) I (tr_aW_no c1).symm dX1_treesWith_19
  · obtain ⟨k, hk, rfl⟩ := tr_isL_t c1
    refine lv_aload_n S.1 S.2.1 dX1_treesWith_7 rfl (lv_at hl 0 rfl) ?_
    refine tr_iconst 1 S dX1_treesWith_8 (by decide) ?_
    refine lv_iload_n S.1 S.2.1 dX1_treesWith_9 rfl (lv_at hl 1 rfl) ?_
    refine tr_ishl1 S (by omega) dX1_treesWith_10 ?_
    refine tr_iconst 0 S dX1_treesWith_11 (by decide) ?_
    refine tr_calli (C := RX1) (ci := 0) (As := [.int (nI (2 ^ k)), .int (nI 0)]) (rest := []) rfl rfl rfl S hK I hA (cX_countTrees l D ad da n mk T A B N R M H.size (2 ^ k) 0 hn1 hn hAB (tr_2k hk) (by decide)) (cwV 2 S.2.2.2.2 (lw_V q65 q67 qs0 q12 q68) rfl rfl rfl (by decide +kernel) ⟨Nat.le_of_ble_eq_true rfl, Nat.le_of_ble_eq_true rfl⟩) rfl hl.1 rfl (Nat.le_of_ble_eq_true rfl) dX1_treesWith_12 ⟨Nat.zero_le _, Nat.zero_le _⟩ (fun r u H locs hr2 I => ?_)
    subst hr2
    obtain ⟨N, R, M⟩ := u
    have I : tr_I s _ D (tr_XW ad da n mk T A B N R M) H locs := I
    refine lv_goto (tgt := 19) S.1 S.2.1 dX1_treesWith_15 (by decide) ?_
    exact tr_iret S hr hlk hK (N, R, M) I (tr_aW_yes hk).symm dX1_treesWith_19
set_option maxHeartbeats 4000000 in
set_option maxRecDepth 100000 in
theorem cX_treesWithBoth (l : Launch) (D : va_G) (ad : Nat → Nat) (da : Nat → ClassId) (n mk : Nat) (T : Nat → Bool) (A B N R : Nat → Nat) (M : Nat → Int) (sz : Nat) (x y : Int32) (hn1 : 1 ≤ n) (hn : n ≤ 6) (hAB : ∀ k, k < 10 → A k < n ∧ B k < n) : tr_Meti l yX1_treesWithBoth cX1_treesWithBoth 3 ({ frames := 4, cells := 0, slots := 0, locals := 110 }) D (tr_Xt da) (tr_XW ad da n mk T A B N R M) sz [.ref (ad 0), .int x, .int y] (fun r (_ : (Nat → Nat) × (Nat → Nat) × (Nat → Int)) => r = tr_aB n T A B x y) (fun u => (tr_XW ad da n mk T A B u.1 u.2.1 u.2.2)) := by
  refine tr_enter (lv := [(0, .ref (ad 0)), (1, .int x), (2, .int y)]) (by decide) (Nat.le_of_ble_eq_true rfl) rfl ?_
  intro p e s m below meth c ls hsz S hr hlk hK I hA hl
  refine lv_iload_n S.1 S.2.1 dX1_treesWithBoth_0 rfl (lv_at hl 1 rfl) ?_
  refine tr_calls (As := [.int x]) (rest := []) S I hA (fun U hW => va_K.moved hW.alike (hK.sub (tys' := []) [] rfl)) (cX_isLine l D s.heap.size x) (va_cwS 1 S.2.2.2.2 (lw_S q54 q55 q12 q56) rfl rfl rfl (by decide +kernel) ⟨Nat.le_of_ble_eq_true rfl, Nat.le_of_ble_eq_true rfl⟩) rfl hl.1 rfl (Nat.le_of_ble_eq_true rfl) dX1_treesWithBoth_1 ⟨Nat.zero_le _, Nat.zero_le _⟩ (fun r H locs hr2 I => ?_)
  subst hr2
  refine tr_bif_eq 29 S dX1_treesWithBoth_4 (by decide) (fun c1 => ?_) (fun c1 => ?_)
  · refine lv_iconst (v := -1) S.1 S.2.1 dX1_treesWithBoth_29 (by decide) ?_
    exact tr_iret S hr hlk hK (N, R, M) I (tr_aB_no (Or.inl c1)).symm dX1_treesWithBoth_30
  · refine lv_iload_n S.1 S.2.1 dX1_treesWithBoth_7 rfl (lv_at hl 2 rfl) ?_
    refine tr_calls (As := [.int y]) (rest := []) S I hA (fun U hW => va_K.moved hW.alike (hK.sub (tys' := []) [] rfl)) (cX_isLine l D H.size y) (va_cwS 1 S.2.2.2.2 (lw_S q54 q55 q12 q56) rfl rfl rfl (by decide +kernel) ⟨Nat.le_of_ble_eq_true rfl, Nat.le_of_ble_eq_true rfl⟩) rfl hl.1 rfl (Nat.le_of_ble_eq_true rfl) dX1_treesWithBoth_8 ⟨Nat.zero_le _, Nat.zero_le _⟩ (fun r H locs hr2 I => ?_)
    subst hr2
    refine tr_bif_eq 29 S dX1_treesWithBoth_11 (by decide) (fun c2 => ?_) (fun c2 => ?_)
    · refine lv_iconst (v := -1) S.1 S.2.1 dX1_treesWithBoth_29 (by decide) ?_
      exact tr_iret S hr hlk hK (N, R, M) I (tr_aB_no (Or.inr c2)).symm dX1_treesWithBoth_30
    · obtain ⟨k, hk, rfl⟩ := tr_isL_t c1
      obtain ⟨j, hj, rfl⟩ := tr_isL_t c2
      refine lv_aload_n S.1 S.2.1 dX1_treesWithBoth_14 rfl (lv_at hl 0 rfl) ?_
      refine tr_iconst 1 S dX1_treesWithBoth_15 (by decide) ?_
      refine lv_iload_n S.1 S.2.1 dX1_treesWithBoth_16 rfl (lv_at hl 1 rfl) ?_
      refine tr_ishl1 S (by omega) dX1_treesWithBoth_17 ?_
      refine tr_iconst 1 S dX1_treesWithBoth_18 (by decide) ?_
      refine lv_iload_n S.1 S.2.1 dX1_treesWithBoth_19 rfl (lv_at hl 2 rfl) ?_
      refine tr_ishl1 S (by omega) dX1_treesWithBoth_20 ?_
      refine tr_ior S dX1_treesWithBoth_21 ?_
      refine tr_iconst 0 S dX1_treesWithBoth_22 (by decide) ?_
      refine tr_calli (C := RX1) (ci := 0) (As := [.int (nI ((2 ^ k) ||| (2 ^ j))), .int (nI 0)]) (rest := []) rfl rfl rfl S hK I hA (cX_countTrees l D ad da n mk T A B N R M H.size (2 ^ k ||| 2 ^ j) 0 hn1 hn hAB (tr_or_lt (tr_2k hk) hj) (by decide)) (cwV 2 S.2.2.2.2 (lw_V q65 q67 qs0 q12 q68) rfl rfl rfl (by decide +kernel) ⟨Nat.le_of_ble_eq_true rfl, Nat.le_of_ble_eq_true rfl⟩) rfl hl.1 rfl (Nat.le_of_ble_eq_true rfl) dX1_treesWithBoth_23 ⟨Nat.zero_le _, Nat.zero_le _⟩ (fun r u H locs hr2 I => ?_)
      subst hr2
      obtain ⟨N, R, M⟩ := u
      have I : tr_I s _ D (tr_XW ad da n mk T A B N R M) H locs := I
      refine lv_goto (tgt := 30) S.1 S.2.1 dX1_treesWithBoth_26 (by decide) ?_
      exact tr_iret S hr hlk hK (N, R, M) I (tr_aB_yes hk hj).symm dX1_treesWithBoth_30
set_option maxHeartbeats 4000000 in
set_option maxRecDepth 100000 in
theorem cX_extensions (l : Launch) (D : va_G) (ad : Nat → Nat) (da : Nat → ClassId) (n mk : Nat) (T : Nat → Bool) (A B N R : Nat → Nat) (M : Nat → Int) (sz : Nat) (hn1 : 1 ≤ n) (hn : n ≤ 6) (hAB : ∀ k, k < 10 → A k < n ∧ B k < n) (hmk : mk < 1024) : tr_Meti l yX1_extensions cX1_extensions 1 ({ frames := 4, cells := 0, slots := 0, locals := 110 }) D (tr_Xt da) (tr_XW ad da n mk T A B N R M) sz [.ref (ad 0)] (fun r (_ : (Nat → Nat) × (Nat → Nat) × (Nat → Int)) => r = nI (tr_cP n T A B mk 0)) (fun u => (tr_XW ad da n mk T A B u.1 u.2.1 u.2.2)) := by
  refine tr_enter (lv := [(0, .ref (ad 0))]) (by decide) (Nat.le_of_ble_eq_true rfl) rfl ?_
  intro p e s m below meth c ls hsz S hr hlk hK I hA hl
  refine lv_aload_n S.1 S.2.1 dX1_extensions_0 rfl (lv_at hl 0 rfl) ?_
  refine lv_aload_n S.1 S.2.1 dX1_extensions_1 rfl (lv_at hl 0 rfl) ?_
  refine xg_marked S hK I dX1_extensions_2 ?_
  refine tr_iconst 0 S dX1_extensions_5 (by decide) ?_
  refine tr_calli (C := RX1) (ci := 0) (As := [.int (nI mk), .int (nI 0)]) (rest := []) rfl rfl rfl S hK I hA (cX_countTrees l D ad da n mk T A B N R M s.heap.size mk 0 hn1 hn hAB (hmk) (by decide)) (cwV 2 S.2.2.2.2 (lw_V q65 q67 qs0 q12 q68) rfl rfl rfl (by decide +kernel) ⟨Nat.le_of_ble_eq_true rfl, Nat.le_of_ble_eq_true rfl⟩) rfl hl.1 rfl (Nat.le_of_ble_eq_true rfl) dX1_extensions_6 ⟨Nat.zero_le _, Nat.zero_le _⟩ (fun r u H locs hr2 I => ?_)
  subst hr2
  obtain ⟨N, R, M⟩ := u
  have I : tr_I s _ D (tr_XW ad da n mk T A B N R M) H locs := I
  exact tr_iret S hr hlk hK (N, R, M) I rfl dX1_extensions_9
set_option maxHeartbeats 4000000 in
set_option maxRecDepth 100000 in
theorem cX_mark (l : Launch) (D : va_G) (ad : Nat → Nat) (da : Nat → ClassId) (n mk : Nat) (T : Nat → Bool) (A B N R : Nat → Nat) (M : Nat → Int) (sz : Nat) (x : Int32) (hmk : mk < 1024) : tr_Meti l yX1_mark cX1_mark 2 ({ frames := 4, cells := 0, slots := 0, locals := 110 }) D (tr_Xt da) (tr_XW ad da n mk T A B N R M) sz [.ref (ad 0), .int x] (fun r (_ : (Nat → Nat) × (Nat → Nat) × (Nat → Int)) => r = tr_mR mk x) (fun u => (tr_XW ad da n (tr_mK mk x) T A B u.1 u.2.1 u.2.2)) := by
  refine tr_enter (lv := [(0, .ref (ad 0)), (1, .int x)]) (by decide) (Nat.le_of_ble_eq_true rfl) rfl ?_
  intro p e s m below meth c ls hsz S hr hlk hK I hA hl
  refine lv_iload_n S.1 S.2.1 dX1_mark_0 rfl (lv_at hl 1 rfl) ?_
  refine tr_calls (As := [.int x]) (rest := []) S I hA (fun U hW => va_K.moved hW.alike (hK.sub (tys' := []) [] rfl)) (cX_isLine l D s.heap.size x) (va_cwS 1 S.2.2.2.2 (lw_S q54 q55 q12 q56) rfl rfl rfl (by decide +kernel) ⟨Nat.le_of_ble_eq_true rfl, Nat.le_of_ble_eq_true rfl⟩) rfl hl.1 rfl (Nat.le_of_ble_eq_true rfl) dX1_mark_1 ⟨Nat.zero_le _, Nat.zero_le _⟩ (fun r H locs hr2 I => ?_)
  subst hr2
  refine tr_bif_ne 9 S dX1_mark_4 (by decide) (fun c1 => ?_) (fun c1 => ?_)
  · have hlt := tr_mK_lt (x := x) hmk
    obtain ⟨k, hk, rfl⟩ := tr_isL_t c1
    obtain ⟨-, -, e1, e2⟩ := tr_cx_yes (T := T) (mk := mk) hk
    rw [e1] at hlt
    refine lv_aload_n S.1 S.2.1 dX1_mark_9 rfl (lv_at hl 0 rfl) ?_
    refine lv_dup S.1 S.2.1 dX1_mark_10 rfl ?_
    refine xg_marked S hK I dX1_mark_11 ?_
    refine tr_iconst 1 S dX1_mark_14 (by decide) ?_
    refine lv_iload_n S.1 S.2.1 dX1_mark_15 rfl (lv_at hl 1 rfl) ?_
    refine tr_ishl1 S (by omega) dX1_mark_16 ?_
    refine tr_ixor S dX1_mark_17 ?_
    refine xp_marked S hK I dX1_mark_18 (fun H locs I => ?_)
    refine lv_aload_n S.1 S.2.1 dX1_mark_21 rfl (lv_at hl 0 rfl) ?_
    refine xg_marked S hK I dX1_mark_22 ?_
    refine lv_iload_n S.1 S.2.1 dX1_mark_25 rfl (lv_at hl 1 rfl) ?_
    refine tr_iushr S (by omega) (by omega) dX1_mark_26 ?_
    refine tr_iconst 1 S dX1_mark_27 (by decide) ?_
    refine tr_iand1 S dX1_mark_28 ?_
    exact tr_iret S hr hlk hK (N, R, M) (I.eq (by rw [e1])) e2.symm dX1_mark_29
  · refine lv_iconst (v := -1) S.1 S.2.1 dX1_mark_7 (by decide) ?_
    obtain ⟨-, -, e1, e2⟩ := tr_cx_no (T := T) (mk := mk) c1
    exact tr_iret S hr hlk hK (N, R, M) (I.eq (by rw [e1])) e2.symm dX1_mark_8
section TXB
variable {p : Program} {l : Launch} {e : Env} {s : State} {m : MethodId} {args : Array Value} {below : List Frame} {meth : Method} {c : Code} {Q : State → Prop} {D : va_G} {A0 : Nat → Prop} {ad : Nat → Nat} {da : Nat → ClassId} {n mk : Nat} {T : Nat → Bool} {A B N R : Nat → Nat} {M : Nat → Int}
set_option maxHeartbeats 4000000 in
set_option maxRecDepth 100000 in
theorem lX_below (S : CallFix p m c cX1_below 5 s args lw_all RX1) (hK : va_K D tr_Cl (tr_Xt da) s) (hA : ∀ q : Nat, s.heap.size ≤ q → A0 q) (hn1 : 1 ≤ n) (hn : n ≤ 6) (hAB : ∀ k, k < 10 → A k < n ∧ B k < n) (hmk : mk < 1024)
    (kk : ∀ (N R : Nat → Nat) (M : Nat → Int) (H : Heap) (locs : List Loc) (ls : Array Slot), tr_I s A0 D (tr_XW ad da n mk T A B N R M) H locs → W p l e ({ frames := 3, cells := 0, slots := 0, locals := 82 }) s m args below meth c H locs 0 0 Q (F0 m 65 ls [.int (nI (tr_cnt (tr_isT n T A B) mk))])) :
    ∀ (c0 sum i o : Nat) (N R : Nat → Nat) (M : Nat → Int) (H : Heap) (locs : List Loc) (ls : Array Slot), c0 ≤ 10 → tr_Bw (tr_isT n T A B) mk c0 sum i o → tr_I s A0 D (tr_XW ad da n mk T A B N R M) H locs → lv_has ls 5 [(4, .int (tr_dn c0)), (3, .int (nI o)), (2, .int (nI i)), (1, .int (nI sum)), (0, .ref (ad 0))] → W p l e ({ frames := 3, cells := 0, slots := 0, locals := 82 }) s m args below meth c H locs 0 0 Q (F0 m 10 ls []) := by
  intro c0
  induction c0 with
  | zero =>
    intro sum i o N R M H locs ls hc hB I hl
    have hsum := tr_Bw_end hB
    subst hsum
    refine lv_iload S.1 S.2.1 dX1_below_10 (lv_at hl 0 rfl) ?_
    refine lv_if_lt (tgt := 64) S.1 S.2.1 dX1_below_12 (by decide) (fun c1 => ?_) (fun c1 => ?_)
    · refine lv_iload_n S.1 S.2.1 dX1_below_64 rfl (lv_at hl 3 rfl) ?_
      exact kk N R M H locs ls I
    · exact absurd tr_dn_0 c1
  | succ k ih =>
    intro sum i o N R M H locs ls hc hB I hl
    rw [tr_dn_s] at hl
    have hk : k < 10 := by omega
    have hi := hB.1
    have ho := hB.2.1
    have hmk2 : mk / 2 ^ k < 1024 := tr_dvlt hmk
    have hok := tr_or_lt ho hk
    refine lv_iload S.1 S.2.1 dX1_below_10 (lv_at hl 0 rfl) ?_
    refine lv_if_lt (tgt := 64) S.1 S.2.1 dX1_below_12 (by decide) (fun c1 => ?_) (fun c1 => ?_)
    · exact absurd c1 (nI_pos (by omega))
    · refine lv_aload_n S.1 S.2.1 dX1_below_15 rfl (lv_at hl 4 rfl) ?_
      refine xg_marked S hK I dX1_below_16 ?_
      refine lv_iload S.1 S.2.1 dX1_below_19 (lv_at hl 0 rfl) ?_
      refine tr_iushr S (by omega) (by omega) dX1_below_21 ?_
      refine tr_iconst 1 S dX1_below_22 (by decide) ?_
      refine tr_iand1 S dX1_below_23 ?_
      refine tr_nif_eq 51 S dX1_below_24 (by decide) (by omega) (fun c2 => ?_) (fun c2 => ?_)
      · refine lv_iload_n S.1 S.2.1 dX1_below_51 rfl (lv_at hl 1 rfl) ?_
        refine tr_iconst 1 S dX1_below_52 (by decide) ?_
        refine lv_iload S.1 S.2.1 dX1_below_53 (lv_at hl 0 rfl) ?_
        refine tr_ishl1 S (by omega) dX1_below_55 ?_
        refine tr_ior S dX1_below_56 ?_
        refine lv_istore_n (lv' := [(3, .int (nI (o ||| (2 ^ k)))), (4, .int (nI k)), (2, .int (nI i)), (1, .int (nI sum)), (0, .ref (ad 0))]) S.1 S.2.1 dX1_below_57 rfl hl (by decide) rfl (fun ls hl => ?_)
        refine lv_iinc (k := 1) (v := tr_dn k) (lv' := [(4, .int (tr_dn k)), (3, .int (nI (o ||| (2 ^ k)))), (2, .int (nI i)), (1, .int (nI sum)), (0, .ref (ad 0))]) S.1 S.2.1 dX1_below_58 hl rfl (tr_dn_m _) (by decide) rfl (fun ls hl => ?_)
        refine lv_goto (tgt := 10) S.1 S.2.1 dX1_below_61 (by decide) ?_
        exact ih _ _ _ N R M H locs ls (by omega) (tr_Bw_out hk (tr_tbf c2) hB) I (lv_sub hl [0, 1, 2, 3, 4] rfl)
      · refine lv_iload_n S.1 S.2.1 dX1_below_27 rfl (lv_at hl 3 rfl) ?_
        refine lv_aload_n S.1 S.2.1 dX1_below_28 rfl (lv_at hl 4 rfl) ?_
        refine lv_iload_n S.1 S.2.1 dX1_below_29 rfl (lv_at hl 2 rfl) ?_
        refine lv_iload_n S.1 S.2.1 dX1_below_30 rfl (lv_at hl 1 rfl) ?_
        refine tr_iconst 1 S dX1_below_31 (by decide) ?_
        refine lv_iload S.1 S.2.1 dX1_below_32 (lv_at hl 0 rfl) ?_
        refine tr_ishl1 S (by omega) dX1_below_34 ?_
        refine tr_ior S dX1_below_35 ?_
        refine tr_calli (C := RX1) (ci := 0) (As := [.int (nI i), .int (nI (o ||| (2 ^ k)))]) (rest := [.int (nI sum)]) rfl rfl rfl S hK I hA (cX_countTrees l D ad da n mk T A B N R M H.size i (o ||| 2 ^ k) hn1 hn hAB (hi) (hok)) (cwV 2 S.2.2.2.2 (lw_V q65 q67 qs0 q12 q68) rfl rfl rfl (by decide +kernel) ⟨Nat.le_of_ble_eq_true rfl, Nat.le_of_ble_eq_true rfl⟩) rfl hl.1 rfl (Nat.le_of_ble_eq_true rfl) dX1_below_36 ⟨Nat.zero_le _, Nat.zero_le _⟩ (fun r u H locs hr2 I => ?_)
        subst hr2
        obtain ⟨N, R, M⟩ := u
        have I : tr_I s _ D (tr_XW ad da n mk T A B N R M) H locs := I
        refine tr_iadd S dX1_below_39 ?_
        refine lv_istore_n (lv' := [(1, .int (nI (sum + (tr_cP n T A B i (o ||| 2 ^ k))))), (4, .int (nI k)), (3, .int (nI o)), (2, .int (nI i)), (0, .ref (ad 0))]) S.1 S.2.1 dX1_below_40 rfl hl (by decide) rfl (fun ls hl => ?_)
        refine lv_iload_n S.1 S.2.1 dX1_below_41 rfl (lv_at hl 3 rfl) ?_
        refine tr_iconst 1 S dX1_below_42 (by decide) ?_
        refine lv_iload S.1 S.2.1 dX1_below_43 (lv_at hl 1 rfl) ?_
        refine tr_ishl1 S (by omega) dX1_below_45 ?_
        refine tr_ior S dX1_below_46 ?_
        refine lv_istore_n (lv' := [(2, .int (nI (i ||| (2 ^ k)))), (1, .int (nI (sum + (tr_cP n T A B i (o ||| 2 ^ k))))), (4, .int (nI k)), (3, .int (nI o)), (0, .ref (ad 0))]) S.1 S.2.1 dX1_below_47 rfl hl (by decide) rfl (fun ls hl => ?_)
        refine lv_goto (tgt := 58) S.1 S.2.1 dX1_below_48 (by decide) ?_
        refine lv_iinc (k := 2) (v := tr_dn k) (lv' := [(4, .int (tr_dn k)), (2, .int (nI (i ||| (2 ^ k)))), (1, .int (nI (sum + (tr_cP n T A B i (o ||| 2 ^ k))))), (3, .int (nI o)), (0, .ref (ad 0))]) S.1 S.2.1 dX1_below_58 hl rfl (tr_dn_m _) (by decide) rfl (fun ls hl => ?_)
        refine lv_goto (tgt := 10) S.1 S.2.1 dX1_below_61 (by decide) ?_
        exact ih _ _ _ N R M H locs ls (by omega) (tr_Bw_in hk (tr_tb (by omega)) hB) I (lv_sub hl [0, 3, 1, 2, 4] rfl)
end TXB
set_option maxHeartbeats 4000000 in
set_option maxRecDepth 100000 in
theorem cX_below (l : Launch) (D : va_G) (ad : Nat → Nat) (da : Nat → ClassId) (n mk : Nat) (T : Nat → Bool) (A B N R : Nat → Nat) (M : Nat → Int) (sz : Nat) (hn1 : 1 ≤ n) (hn : n ≤ 6) (hAB : ∀ k, k < 10 → A k < n ∧ B k < n) (hmk : mk < 1024) : tr_Meti l yX1_below cX1_below 5 ({ frames := 3, cells := 0, slots := 0, locals := 82 }) D (tr_Xt da) (tr_XW ad da n mk T A B N R M) sz [.ref (ad 0)] (fun r (_ : (Nat → Nat) × (Nat → Nat) × (Nat → Int)) => r = nI (tr_cnt (tr_isT n T A B) mk)) (fun u => (tr_XW ad da n mk T A B u.1 u.2.1 u.2.2)) := by
  refine tr_enter (lv := [(0, .ref (ad 0))]) (by decide) (Nat.le_of_ble_eq_true rfl) rfl ?_
  intro p e s m below meth c ls hsz S hr hlk hK I hA hl
  refine tr_iconst 0 S dX1_below_0 (by decide) ?_
  refine lv_istore_n (lv' := [(1, .int (nI 0)), (0, .ref (ad 0))]) S.1 S.2.1 dX1_below_1 rfl hl (by decide) rfl (fun ls hl => ?_)
  refine tr_iconst 0 S dX1_below_2 (by decide) ?_
  refine lv_istore_n (lv' := [(2, .int (nI 0)), (1, .int (nI 0)), (0, .ref (ad 0))]) S.1 S.2.1 dX1_below_3 rfl hl (by decide) rfl (fun ls hl => ?_)
  refine tr_iconst 0 S dX1_below_4 (by decide) ?_
  refine lv_istore_n (lv' := [(3, .int (nI 0)), (2, .int (nI 0)), (1, .int (nI 0)), (0, .ref (ad 0))]) S.1 S.2.1 dX1_below_5 rfl hl (by decide) rfl (fun ls hl => ?_)
  refine tr_bipush 9 S dX1_below_6 (by decide) ?_
  refine lv_istore (lv' := [(4, .int (nI 9)), (3, .int (nI 0)), (2, .int (nI 0)), (1, .int (nI 0)), (0, .ref (ad 0))]) S.1 S.2.1 dX1_below_8 hl (by decide) rfl (fun ls hl => ?_)
  exact lX_below S hK hA hn1 hn hAB hmk (fun N R M H locs ls I => tr_iret S hr hlk hK (N, R, M) I rfl dX1_below_65) 10 0 0 0 N R M s.heap [] ls (by omega) (tr_Bw_0 hmk) I (lv_sub hl [0, 1, 2, 3, 4] rfl)
section TXT
variable {p : Program} {l : Launch} {e : Env} {s : State} {m : MethodId} {args : Array Value} {below : List Frame} {meth : Method} {c : Code} {Q : State → Prop} {D : va_G} {A0 : Nat → Prop} {ad : Nat → Nat} {da : Nat → ClassId} {n mk : Nat} {T : Nat → Bool} {A B N R : Nat → Nat} {M : Nat → Int}
set_option maxHeartbeats 4000000 in
set_option maxRecDepth 100000 in
theorem lX_tree {rk : Nat} (S : CallFix p m c cX1_tree 7 s args lw_all RX1) (hK : va_K D tr_Cl (tr_Xt da) s) (hA : ∀ q : Nat, s.heap.size ≤ q → A0 q) (hn1 : 1 ≤ n) (hn : n ≤ 6) (hAB : ∀ k, k < 10 → A k < n ∧ B k < n) (hrk : rk < 2 ^ 31)
    (kk : ∀ (i : Nat) (N R : Nat → Nat) (M : Nat → Int) (H : Heap) (locs : List Loc) (ls : Array Slot), i < 1024 ∧ tr_isT n T A B i = true ∧ tr_cnt (tr_isT n T A B) i = rk → tr_I s A0 D (tr_XW ad da n mk T A B N R M) H locs → W p l e ({ frames := 4, cells := 0, slots := 0, locals := 110 }) s m args below meth c H locs 0 0 Q (F0 m 91 ls [.int (nI i)])) :
    ∀ (c0 rest i o : Nat) (N R : Nat → Nat) (M : Nat → Int) (H : Heap) (locs : List Loc) (ls : Array Slot), c0 ≤ 10 → tr_Tr (tr_isT n T A B) T rk c0 rest i o → tr_I s A0 D (tr_XW ad da n mk T A B N R M) H locs → lv_has ls 7 [(5, .int (tr_dn c0)), (4, .int (nI o)), (3, .int (nI i)), (2, .int (nI rest)), (0, .ref (ad 0))] → W p l e ({ frames := 4, cells := 0, slots := 0, locals := 110 }) s m args below meth c H locs 0 0 Q (F0 m 25 ls []) := by
  intro c0
  induction c0 with
  | zero =>
    intro rest i o N R M H locs ls hc hT I hl
    refine lv_iload S.1 S.2.1 dX1_tree_25 (lv_at hl 0 rfl) ?_
    refine lv_if_lt (tgt := 90) S.1 S.2.1 dX1_tree_27 (by decide) (fun c1 => ?_) (fun c1 => ?_)
    · refine lv_iload_n S.1 S.2.1 dX1_tree_90 rfl (lv_at hl 2 rfl) ?_
      exact kk i N R M H locs ls (tr_Tr_end hT) I
    · exact absurd tr_dn_0 c1
  | succ k ih =>
    intro rest i o N R M H locs ls hc hT I hl
    rw [tr_dn_s] at hl
    have hk : k < 10 := by omega
    have hi := hT.1
    have ho := hT.2.1
    have hrs := hT.2.2.2.2.1
    have hok := tr_or_lt ho hk
    have hcP := tr_cP_le n T A B i (o ||| 2 ^ k)
    refine lv_iload S.1 S.2.1 dX1_tree_25 (lv_at hl 0 rfl) ?_
    refine lv_if_lt (tgt := 90) S.1 S.2.1 dX1_tree_27 (by decide) (fun c1 => ?_) (fun c1 => ?_)
    · exact absurd c1 (nI_pos (by omega))
    · refine lv_aload_n S.1 S.2.1 dX1_tree_30 rfl (lv_at hl 4 rfl) ?_
      refine xg_there S hK I dX1_tree_31 ?_
      refine lv_iload S.1 S.2.1 dX1_tree_34 (lv_at hl 0 rfl) ?_
      refine xl_T S hK I (by omega) dX1_tree_36 ?_
      refine tr_bif_eq 84 S dX1_tree_37 (by decide) (fun c2 => ?_) (fun c2 => ?_)
      · refine lv_iinc (k := 0) (v := tr_dn k) (lv' := [(5, .int (tr_dn k)), (4, .int (nI o)), (3, .int (nI i)), (2, .int (nI rest)), (0, .ref (ad 0))]) S.1 S.2.1 dX1_tree_84 hl rfl (tr_dn_m _) (by decide) rfl (fun ls hl => ?_)
        refine lv_goto (tgt := 25) S.1 S.2.1 dX1_tree_87 (by decide) ?_
        exact ih _ _ _ N R M H locs ls (by omega) (tr_Tr_no hk c2 hT) I (lv_sub hl [0, 1, 2, 3, 4] rfl)
      · refine lv_aload_n S.1 S.2.1 dX1_tree_40 rfl (lv_at hl 4 rfl) ?_
        refine lv_iload_n S.1 S.2.1 dX1_tree_41 rfl (lv_at hl 2 rfl) ?_
        refine lv_iload S.1 S.2.1 dX1_tree_42 (lv_at hl 1 rfl) ?_
        refine tr_iconst 1 S dX1_tree_44 (by decide) ?_
        refine lv_iload S.1 S.2.1 dX1_tree_45 (lv_at hl 0 rfl) ?_
        refine tr_ishl1 S (by omega) dX1_tree_47 ?_
        refine tr_ior S dX1_tree_48 ?_
        refine tr_calli (C := RX1) (ci := 0) (As := [.int (nI i), .int (nI (o ||| (2 ^ k)))]) (rest := []) rfl rfl rfl S hK I hA (cX_countTrees l D ad da n mk T A B N R M H.size i (o ||| 2 ^ k) hn1 hn hAB (hi) (hok)) (cwV 2 S.2.2.2.2 (lw_V q65 q67 qs0 q12 q68) rfl rfl rfl (by decide +kernel) ⟨Nat.le_of_ble_eq_true rfl, Nat.le_of_ble_eq_true rfl⟩) rfl hl.1 rfl (Nat.le_of_ble_eq_true rfl) dX1_tree_49 ⟨Nat.zero_le _, Nat.zero_le _⟩ (fun r u H locs hr2 I => ?_)
        subst hr2
        obtain ⟨N, R, M⟩ := u
        have I : tr_I s _ D (tr_XW ad da n mk T A B N R M) H locs := I
        refine lv_istore (lv' := [(6, .int (nI (tr_cP n T A B i (o ||| 2 ^ k)))), (5, .int (nI k)), (4, .int (nI o)), (3, .int (nI i)), (2, .int (nI rest)), (0, .ref (ad 0))]) S.1 S.2.1 dX1_tree_52 hl (by decide) rfl (fun ls hl => ?_)
        refine lv_iload_n S.1 S.2.1 dX1_tree_54 rfl (lv_at hl 4 rfl) ?_
        refine lv_iload S.1 S.2.1 dX1_tree_55 (lv_at hl 0 rfl) ?_
        refine tr_icmp_ge 72 S dX1_tree_57 (by decide) (by omega) (by omega) (fun c3 => ?_) (fun c3 => ?_)
        · refine lv_iload_n S.1 S.2.1 dX1_tree_72 rfl (lv_at hl 4 rfl) ?_
          refine lv_iload S.1 S.2.1 dX1_tree_73 (lv_at hl 0 rfl) ?_
          refine tr_isub S (by omega) dX1_tree_75 ?_
          refine lv_istore_n (lv' := [(2, .int (nI (rest - (tr_cP n T A B i (o ||| 2 ^ k))))), (6, .int (nI (tr_cP n T A B i (o ||| 2 ^ k)))), (5, .int (nI k)), (4, .int (nI o)), (3, .int (nI i)), (0, .ref (ad 0))]) S.1 S.2.1 dX1_tree_76 rfl hl (by decide) rfl (fun ls hl => ?_)
          refine lv_iload_n S.1 S.2.1 dX1_tree_77 rfl (lv_at hl 4 rfl) ?_
          refine tr_iconst 1 S dX1_tree_78 (by decide) ?_
          refine lv_iload S.1 S.2.1 dX1_tree_79 (lv_at hl 2 rfl) ?_
          refine tr_ishl1 S (by omega) dX1_tree_81 ?_
          refine tr_ior S dX1_tree_82 ?_
          refine lv_istore_n (lv' := [(3, .int (nI (i ||| (2 ^ k)))), (2, .int (nI (rest - (tr_cP n T A B i (o ||| 2 ^ k))))), (6, .int (nI (tr_cP n T A B i (o ||| 2 ^ k)))), (5, .int (nI k)), (4, .int (nI o)), (0, .ref (ad 0))]) S.1 S.2.1 dX1_tree_83 rfl hl (by decide) rfl (fun ls hl => ?_)
          refine lv_iinc (k := 3) (v := tr_dn k) (lv' := [(5, .int (tr_dn k)), (3, .int (nI (i ||| (2 ^ k)))), (2, .int (nI (rest - (tr_cP n T A B i (o ||| 2 ^ k))))), (6, .int (nI (tr_cP n T A B i (o ||| 2 ^ k)))), (4, .int (nI o)), (0, .ref (ad 0))]) S.1 S.2.1 dX1_tree_84 hl rfl (tr_dn_m _) (by decide) rfl (fun ls hl => ?_)
          refine lv_goto (tgt := 25) S.1 S.2.1 dX1_tree_87 (by decide) ?_
          exact ih _ _ _ N R M H locs ls (by omega) (tr_Tr_in hk c2 hT c3) I (lv_sub hl [0, 4, 1, 2, 5] rfl)
        · refine lv_iload S.1 S.2.1 dX1_tree_60 (lv_at hl 2 rfl) ?_
          refine tr_iconst 1 S dX1_tree_62 (by decide) ?_
          refine lv_iload S.1 S.2.1 dX1_tree_63 (lv_at hl 1 rfl) ?_
          refine tr_ishl1 S (by omega) dX1_tree_65 ?_
          refine tr_ior S dX1_tree_66 ?_
          refine lv_istore (lv' := [(4, .int (nI (o ||| (2 ^ k)))), (6, .int (nI (tr_cP n T A B i (o ||| 2 ^ k)))), (5, .int (nI k)), (3, .int (nI i)), (2, .int (nI rest)), (0, .ref (ad 0))]) S.1 S.2.1 dX1_tree_67 hl (by decide) rfl (fun ls hl => ?_)
          refine lv_goto (tgt := 84) S.1 S.2.1 dX1_tree_69 (by decide) ?_
          refine lv_iinc (k := 2) (v := tr_dn k) (lv' := [(5, .int (tr_dn k)), (4, .int (nI (o ||| (2 ^ k)))), (6, .int (nI (tr_cP n T A B i (o ||| 2 ^ k)))), (3, .int (nI i)), (2, .int (nI rest)), (0, .ref (ad 0))]) S.1 S.2.1 dX1_tree_84 hl rfl (tr_dn_m _) (by decide) rfl (fun ls hl => ?_)
          refine lv_goto (tgt := 25) S.1 S.2.1 dX1_tree_87 (by decide) ?_
          exact ih _ _ _ N R M H locs ls (by omega) (tr_Tr_out hk c2 hT c3) I (lv_sub hl [0, 1, 3, 4, 5] rfl)
end TXT
set_option maxHeartbeats 4000000 in
set_option maxRecDepth 100000 in
theorem cX_tree (l : Launch) (D : va_G) (ad : Nat → Nat) (da : Nat → ClassId) (n mk : Nat) (T : Nat → Bool) (A B N R : Nat → Nat) (M : Nat → Int) (sz : Nat) (rank : Int32) (hn1 : 1 ≤ n) (hn : n ≤ 6) (hAB : ∀ k, k < 10 → A k < n ∧ B k < n) : tr_Meti l yX1_tree cX1_tree 7 ({ frames := 4, cells := 0, slots := 0, locals := 110 }) D (tr_Xt da) (tr_XW ad da n mk T A B N R M) sz [.ref (ad 0), .int rank] (fun r (_ : (Nat → Nat) × (Nat → Nat) × (Nat → Int)) => tr_Tree (tr_isT n T A B) rank r) (fun u => (tr_XW ad da n mk T A B u.1 u.2.1 u.2.2)) := by
  refine tr_enter (lv := [(0, .ref (ad 0)), (1, .int rank)]) (by decide) (Nat.le_of_ble_eq_true rfl) rfl ?_
  intro p e s m below meth c ls hsz S hr hlk hK I hA hl
  refine lv_iload_n S.1 S.2.1 dX1_tree_0 rfl (lv_at hl 1 rfl) ?_
  refine lv_if_lt (tgt := 12) S.1 S.2.1 dX1_tree_1 (by decide) (fun c1 => ?_) (fun c1 => ?_)
  · refine lv_iconst (v := -1) S.1 S.2.1 dX1_tree_12 (by decide) ?_
    exact tr_iret S hr hlk hK (N, R, M) I (tr_Tree_neg c1) dX1_tree_13
  · obtain ⟨rk, hrk, rfl⟩ := nI_of c1
    have hcP := tr_cP_le n T A B 0 0
    refine lv_iload_n S.1 S.2.1 dX1_tree_4 rfl (lv_at hl 1 rfl) ?_
    refine lv_aload_n S.1 S.2.1 dX1_tree_5 rfl (lv_at hl 0 rfl) ?_
    refine tr_calli (C := RX1) (ci := 0) (As := []) (rest := [.int (nI rk)]) rfl rfl rfl S hK I hA (cX_trees l D ad da n mk T A B N R M s.heap.size hn1 hn hAB) (cwV 0 S.2.2.2.2 (lw_V q105 q62 q63 q12 q64) rfl rfl rfl (by decide +kernel) ⟨Nat.le_of_ble_eq_true rfl, Nat.le_of_ble_eq_true rfl⟩) rfl hl.1 rfl (Nat.le_of_ble_eq_true rfl) dX1_tree_6 ⟨Nat.zero_le _, Nat.zero_le _⟩ (fun r u H locs hr2 I => ?_)
    subst hr2
    obtain ⟨N, R, M⟩ := u
    have I : tr_I s _ D (tr_XW ad da n mk T A B N R M) H locs := I
    refine tr_icmp_lt 14 S dX1_tree_9 (by decide) (by omega) (by omega) (fun c2 => ?_) (fun c2 => ?_)
    · refine lv_iload_n S.1 S.2.1 dX1_tree_14 rfl (lv_at hl 1 rfl) ?_
      refine lv_istore_n (lv' := [(2, .int (nI rk)), (0, .ref (ad 0)), (1, .int (nI rk))]) S.1 S.2.1 dX1_tree_15 rfl hl (by decide) rfl (fun ls hl => ?_)
      refine tr_iconst 0 S dX1_tree_16 (by decide) ?_
      refine lv_istore_n (lv' := [(3, .int (nI 0)), (2, .int (nI rk)), (0, .ref (ad 0)), (1, .int (nI rk))]) S.1 S.2.1 dX1_tree_17 rfl hl (by decide) rfl (fun ls hl => ?_)
      refine tr_iconst 0 S dX1_tree_18 (by decide) ?_
      refine lv_istore (lv' := [(4, .int (nI 0)), (3, .int (nI 0)), (2, .int (nI rk)), (0, .ref (ad 0)), (1, .int (nI rk))]) S.1 S.2.1 dX1_tree_19 hl (by decide) rfl (fun ls hl => ?_)
      refine tr_bipush 9 S dX1_tree_21 (by decide) ?_
      refine lv_istore (lv' := [(5, .int (nI 9)), (4, .int (nI 0)), (3, .int (nI 0)), (2, .int (nI rk)), (0, .ref (ad 0)), (1, .int (nI rk))]) S.1 S.2.1 dX1_tree_23 hl (by decide) rfl (fun ls hl => ?_)
      exact lX_tree S hK hA hn1 hn hAB hrk (fun i N R M H locs ls hi I => tr_iret S hr hlk hK (N, R, M) I (tr_Tree_at hi) dX1_tree_91) 10 rk 0 0 N R M H locs ls (by omega) (tr_Tr_0 (by rw [← tr_cP_00]; exact c2)) I (lv_sub hl [0, 1, 2, 3, 4] rfl)
    · refine lv_iconst (v := -1) S.1 S.2.1 dX1_tree_12 (by decide) ?_
      exact tr_iret S hr hlk hK (N, R, M) I (tr_Tree_big hrk (by rw [← tr_cP_00]; exact c2)) dX1_tree_13
section TXR
variable {p : Program} {l : Launch} {e : Env} {s : State} {m : MethodId} {args : Array Value} {below : List Frame} {meth : Method} {c : Code} {Q : State → Prop} {D : va_G} {A0 : Nat → Prop} {ad : Nat → Nat} {da : Nat → ClassId} {n mk : Nat} {T : Nat → Bool} {A B N R : Nat → Nat} {M : Nat → Int}
set_option maxHeartbeats 4000000 in
set_option maxRecDepth 100000 in
theorem lX_rank (S : CallFix p m c cX1_rank 3 s args lw_all RX1) (hK : va_K D tr_Cl (tr_Xt da) s) (hmk : mk < 1024)
    (kk : ∀ (ls : Array Slot), lv_has ls 3 [(1, .int (nI (tr_on 10 mk))), (0, .ref (ad 0))] → ∀ (H : Heap) (locs : List Loc), tr_I s A0 D (tr_XW ad da n mk T A B N R M) H locs → W p l e ({ frames := 4, cells := 0, slots := 0, locals := 110 }) s m args below meth c H locs 0 0 Q (F0 m 27 ls [])) :
    ∀ (f k sum : Nat) (H : Heap) (locs : List Loc) (ls : Array Slot), k ≤ 10 → 11 ≤ k + f → sum + tr_on (10 - k) (mk / 2 ^ k) = tr_on 10 mk → tr_I s A0 D (tr_XW ad da n mk T A B N R M) H locs → lv_has ls 3 [(2, .int (nI k)), (1, .int (nI sum)), (0, .ref (ad 0))] → W p l e ({ frames := 4, cells := 0, slots := 0, locals := 110 }) s m args below meth c H locs 0 0 Q (F0 m 4 ls []) := by
  intro f
  induction f with
  | zero => intro k sum H locs ls h1 h2; exact absurd h2 (by omega)
  | succ f ih =>
    intro k sum H locs ls h1 h2 hS I hl
    have hmk2 : mk / 2 ^ k < 1024 := tr_dvlt hmk
    refine lv_iload_n S.1 S.2.1 dX1_rank_4 rfl (lv_at hl 0 rfl) ?_
    refine tr_bipush 10 S dX1_rank_5 (by decide) ?_
    refine tr_icmp_ge 27 S dX1_rank_7 (by decide) (by omega) (by omega) (fun c1 => ?_) (fun c1 => ?_)
    · have hk : k = 10 := by omega
      subst hk
      have hS : sum = tr_on 10 mk := hS
      subst hS
      exact kk ls (lv_sub hl [1, 2] rfl) H locs I
    · refine lv_iload_n S.1 S.2.1 dX1_rank_10 rfl (lv_at hl 1 rfl) ?_
      refine lv_aload_n S.1 S.2.1 dX1_rank_11 rfl (lv_at hl 2 rfl) ?_
      refine xg_marked S hK I dX1_rank_12 ?_
      refine lv_iload_n S.1 S.2.1 dX1_rank_15 rfl (lv_at hl 0 rfl) ?_
      refine tr_iushr S (by omega) (by omega) dX1_rank_16 ?_
      refine tr_iconst 1 S dX1_rank_17 (by decide) ?_
      refine tr_iand1 S dX1_rank_18 ?_
      refine tr_iadd S dX1_rank_19 ?_
      refine lv_istore_n (lv' := [(1, .int (nI (sum + ((mk / 2 ^ k) % 2)))), (2, .int (nI k)), (0, .ref (ad 0))]) S.1 S.2.1 dX1_rank_20 rfl hl (by decide) rfl (fun ls hl => ?_)
      refine tr_iinc (k := 1) (lv' := [(2, .int (nI (k + 1))), (1, .int (nI (sum + ((mk / 2 ^ k) % 2)))), (0, .ref (ad 0))]) S dX1_rank_21 hl rfl (by decide) rfl (fun ls hl => ?_)
      refine lv_goto (tgt := 4) S.1 S.2.1 dX1_rank_24 (by decide) ?_
      have hs := tr_on_s (s := mk) (k := k) (by omega)
      exact ih (k + 1) _ H locs ls (by omega) (by omega) (by omega) I (lv_sub hl [0, 1, 2] rfl)
end TXR
set_option maxHeartbeats 4000000 in
set_option maxRecDepth 100000 in
theorem cX_rank (l : Launch) (D : va_G) (ad : Nat → Nat) (da : Nat → ClassId) (n mk : Nat) (T : Nat → Bool) (A B N R : Nat → Nat) (M : Nat → Int) (sz : Nat) (hn1 : 1 ≤ n) (hn : n ≤ 6) (hAB : ∀ k, k < 10 → A k < n ∧ B k < n) (hmk : mk < 1024) : tr_Meti l yX1_rank cX1_rank 3 ({ frames := 4, cells := 0, slots := 0, locals := 110 }) D (tr_Xt da) (tr_XW ad da n mk T A B N R M) sz [.ref (ad 0)] (fun r (_ : (Nat → Nat) × (Nat → Nat) × (Nat → Int)) => r = tr_aR n T A B mk) (fun u => (tr_XW ad da n mk T A B u.1 u.2.1 u.2.2)) := by
  refine tr_enter (lv := [(0, .ref (ad 0))]) (by decide) (Nat.le_of_ble_eq_true rfl) rfl ?_
  intro p e s m below meth c ls hsz S hr hlk hK I hA hl
  refine tr_iconst 0 S dX1_rank_0 (by decide) ?_
  refine lv_istore_n (lv' := [(1, .int (nI 0)), (0, .ref (ad 0))]) S.1 S.2.1 dX1_rank_1 rfl hl (by decide) rfl (fun ls hl => ?_)
  refine tr_iconst 0 S dX1_rank_2 (by decide) ?_
  refine lv_istore_n (lv' := [(2, .int (nI 0)), (1, .int (nI 0)), (0, .ref (ad 0))]) S.1 S.2.1 dX1_rank_3 rfl hl (by decide) rfl (fun ls hl => ?_)
  refine lX_rank S hK hmk (fun ls hl H locs I => ?_) 11 0 0 s.heap [] ls (by omega) (by omega) (by rw [Nat.pow_zero, Nat.div_one, Nat.zero_add]) I (lv_sub hl [0, 1, 2] rfl)
  have hon := tr_on_le 10 mk
  have hcP := tr_cP_le n T A B mk 0
  refine lv_iload_n S.1 S.2.1 dX1_rank_27 rfl (lv_at hl 0 rfl) ?_
  refine lv_aload_n S.1 S.2.1 dX1_rank_28 rfl (lv_at hl 1 rfl) ?_
  refine xg_n S hK I dX1_rank_29 ?_
  refine tr_iconst 1 S dX1_rank_32 (by decide) ?_
  refine tr_isub S (by omega) dX1_rank_33 ?_
  refine tr_icmp_ne 49 S dX1_rank_34 (by decide) (by omega) (by omega) (fun c1 => ?_) (fun c1 => ?_)
  · refine lv_iconst (v := -1) S.1 S.2.1 dX1_rank_49 (by decide) ?_
    exact tr_iret S hr hlk hK (N, R, M) I (tr_aR_no (by simp [tr_isT, c1])).symm dX1_rank_50
  · refine lv_aload_n S.1 S.2.1 dX1_rank_37 rfl (lv_at hl 1 rfl) ?_
    refine lv_aload_n S.1 S.2.1 dX1_rank_38 rfl (lv_at hl 1 rfl) ?_
    refine xg_marked S hK I dX1_rank_39 ?_
    refine tr_iconst 0 S dX1_rank_42 (by decide) ?_
    refine tr_calli (C := RX1) (ci := 0) (As := [.int (nI mk), .int (nI 0)]) (rest := []) rfl rfl rfl S hK I hA (cX_countTrees l D ad da n mk T A B N R M H.size mk 0 hn1 hn hAB (hmk) (by decide)) (cwV 2 S.2.2.2.2 (lw_V q65 q67 qs0 q12 q68) rfl rfl rfl (by decide +kernel) ⟨Nat.le_of_ble_eq_true rfl, Nat.le_of_ble_eq_true rfl⟩) rfl hl.1 rfl (Nat.le_of_ble_eq_true rfl) dX1_rank_43 ⟨Nat.zero_le _, Nat.zero_le _⟩ (fun r u H locs hr2 I => ?_)
    subst hr2
    obtain ⟨N, R, M⟩ := u
    have I : tr_I s _ D (tr_XW ad da n mk T A B N R M) H locs := I
    refine tr_nif_ne 51 S dX1_rank_46 (by decide) (by omega) (fun c2 => ?_) (fun c2 => ?_)
    · refine lv_aload_n S.1 S.2.1 dX1_rank_51 rfl (lv_at hl 1 rfl) ?_
      have hT : tr_isT n T A B mk = true := by
        cases hq : tr_isT n T A B mk with
        | true => rfl
        | false => exact absurd ((tr_rank hmk c1).mpr hq) c2
      refine tr_calli (C := RX1) (ci := 0) (As := []) (rest := []) rfl rfl rfl S hK I hA (cX_below l D ad da n mk T A B N R M H.size hn1 hn hAB hmk) (cwV 0 S.2.2.2.2 (lw_V q114 q115 q116 q12 q117) rfl rfl rfl (by decide +kernel) ⟨Nat.le_of_ble_eq_true rfl, Nat.le_of_ble_eq_true rfl⟩) rfl hl.1 rfl (Nat.le_of_ble_eq_true rfl) dX1_rank_52 ⟨Nat.zero_le _, Nat.zero_le _⟩ (fun r u H locs hr2 I => ?_)
      subst hr2
      exact tr_iret S hr hlk hK u I (tr_aR_yes hT).symm dX1_rank_55
    · refine lv_iconst (v := -1) S.1 S.2.1 dX1_rank_49 (by decide) ?_
      exact tr_iret S hr hlk hK (N, R, M) I (tr_aR_no ((tr_rank hmk c1).mp c2)).symm dX1_rank_50
section TXS
variable {p : Program} {l : Launch} {e : Env} {s : State} {m : MethodId} {args : Array Value} {below : List Frame} {meth : Method} {c : Code} {Q : State → Prop} {D : va_G} {A0 : Nat → Prop} {ad : Nat → Nat} {da : Nat → ClassId} {n mk : Nat} {T : Nat → Bool} {A B N R : Nat → Nat} {M : Nat → Int}
set_option maxHeartbeats 4000000 in
set_option maxRecDepth 100000 in
theorem lX_surplus {g : Nat} (S : CallFix p m c cX1_surplus 3 s args lw_all RX1) (hK : va_K D tr_Cl (tr_Xt da) s) (hA : ∀ q : Nat, s.heap.size ≤ q → A0 q) (hn : n ≤ 6) (hAB : ∀ k, k < 10 → A k < n ∧ B k < n) (hmk : mk < 1024)
    (kk : ∀ (N : Nat → Nat) (H : Heap) (locs : List Loc) (ls : Array Slot), tr_I s A0 D (tr_XW ad da n mk T A B N R M) H locs → W p l e ({ frames := 4, cells := 0, slots := 0, locals := 110 }) s m args below meth c H locs 0 0 Q (F0 m 88 ls [.int (nI g)])) :
    ∀ (f k rings : Nat) (N : Nat → Nat) (H : Heap) (locs : List Loc) (ls : Array Slot), k ≤ 10 → 11 ≤ k + f → (∀ q, q < 6 → N q < 6) → rings + tr_gr T A B (tr_lf k) N (mk / 2 ^ k) = g → tr_I s A0 D (tr_XW ad da n mk T A B N R M) H locs → lv_has ls 3 [(2, .int (nI k)), (1, .int (nI rings)), (0, .ref (ad 0))] → W p l e ({ frames := 4, cells := 0, slots := 0, locals := 110 }) s m args below meth c H locs 0 0 Q (F0 m 8 ls []) := by
  intro f
  induction f with
  | zero => intro k rings N H locs ls h1 h2; exact absurd h2 (by omega)
  | succ f ih =>
    intro k rings N H locs ls h1 h2 hN hg I hl
    have hmk2 : mk / 2 ^ k < 1024 := tr_dvlt hmk
    refine lv_iload_n S.1 S.2.1 dX1_surplus_8 rfl (lv_at hl 0 rfl) ?_
    refine tr_bipush 10 S dX1_surplus_9 (by decide) ?_
    refine tr_icmp_ge 87 S dX1_surplus_11 (by decide) (by omega) (by omega) (fun c1 => ?_) (fun c1 => ?_)
    · have hk : k = 10 := by omega
      subst hk
      have hg : rings = g := by
        rw [← hg, tr_lf_10]
        rfl
      subst hg
      refine lv_iload_n S.1 S.2.1 dX1_surplus_87 rfl (lv_at hl 1 rfl) ?_
      exact kk N H locs ls I
    · have hk10 : k < 10 := by omega
      have hs := tr_gr_s (T := T) (A := A) (B := B) (N := N) (t := mk) hk10
      have hAk := (hAB k hk10).1
      have hBk := (hAB k hk10).2
      have hNA := hN (A k) (by omega)
      have hNB := hN (B k) (by omega)
      refine lv_aload_n S.1 S.2.1 dX1_surplus_14 rfl (lv_at hl 2 rfl) ?_
      refine xg_there S hK I dX1_surplus_15 ?_
      refine lv_iload_n S.1 S.2.1 dX1_surplus_18 rfl (lv_at hl 0 rfl) ?_
      refine xl_T S hK I (by omega) dX1_surplus_19 ?_
      refine tr_bif_eq 81 S dX1_surplus_20 (by decide) (fun c2 => ?_) (fun c2 => ?_)
      · refine tr_iinc (k := 0) (lv' := [(2, .int (nI (k + 1))), (1, .int (nI rings)), (0, .ref (ad 0))]) S dX1_surplus_81 hl rfl (by decide) rfl (fun ls hl => ?_)
        refine lv_goto (tgt := 8) S.1 S.2.1 dX1_surplus_84 (by decide) ?_
        rw [if_neg (fun q => by
          rw [c2] at q
          exact absurd q.1 (by decide))] at hs
        exact ih (k + 1) _ N H locs ls (by omega) (by omega) hN (by omega) I (lv_sub hl [0, 1, 2] rfl)
      · refine lv_aload_n S.1 S.2.1 dX1_surplus_23 rfl (lv_at hl 2 rfl) ?_
        refine xg_marked S hK I dX1_surplus_24 ?_
        refine lv_iload_n S.1 S.2.1 dX1_surplus_27 rfl (lv_at hl 0 rfl) ?_
        refine tr_iushr S (by omega) (by omega) dX1_surplus_28 ?_
        refine tr_iconst 1 S dX1_surplus_29 (by decide) ?_
        refine tr_iand1 S dX1_surplus_30 ?_
        refine tr_nif_eq 81 S dX1_surplus_31 (by decide) (by omega) (fun c3 => ?_) (fun c3 => ?_)
        · refine tr_iinc (k := 0) (lv' := [(2, .int (nI (k + 1))), (1, .int (nI rings)), (0, .ref (ad 0))]) S dX1_surplus_81 hl rfl (by decide) rfl (fun ls hl => ?_)
          refine lv_goto (tgt := 8) S.1 S.2.1 dX1_surplus_84 (by decide) ?_
          rw [if_neg (fun q => by have := q.2; omega)] at hs
          exact ih (k + 1) _ N H locs ls (by omega) (by omega) hN (by omega) I (lv_sub hl [0, 1, 2] rfl)
        · refine lv_aload_n S.1 S.2.1 dX1_surplus_34 rfl (lv_at hl 2 rfl) ?_
          refine xg_nameOf S hK I dX1_surplus_35 ?_
          refine lv_aload_n S.1 S.2.1 dX1_surplus_38 rfl (lv_at hl 2 rfl) ?_
          refine xg_endA S hK I dX1_surplus_39 ?_
          refine lv_iload_n S.1 S.2.1 dX1_surplus_42 rfl (lv_at hl 0 rfl) ?_
          refine xl_A S hK I (by omega) dX1_surplus_43 ?_
          refine xl_N S hK I (by omega) dX1_surplus_44 ?_
          refine lv_aload_n S.1 S.2.1 dX1_surplus_45 rfl (lv_at hl 2 rfl) ?_
          refine xg_nameOf S hK I dX1_surplus_46 ?_
          refine lv_aload_n S.1 S.2.1 dX1_surplus_49 rfl (lv_at hl 2 rfl) ?_
          refine xg_endB S hK I dX1_surplus_50 ?_
          refine lv_iload_n S.1 S.2.1 dX1_surplus_53 rfl (lv_at hl 0 rfl) ?_
          refine xl_B S hK I (by omega) dX1_surplus_54 ?_
          refine xl_N S hK I (by omega) dX1_surplus_55 ?_
          refine tr_icmp_ne 65 S dX1_surplus_56 (by decide) (by omega) (by omega) (fun c4 => ?_) (fun c4 => ?_)
          · refine lv_aload_n S.1 S.2.1 dX1_surplus_65 rfl (lv_at hl 2 rfl) ?_
            refine lv_aload_n S.1 S.2.1 dX1_surplus_66 rfl (lv_at hl 2 rfl) ?_
            refine xg_endA S hK I dX1_surplus_67 ?_
            refine lv_iload_n S.1 S.2.1 dX1_surplus_70 rfl (lv_at hl 0 rfl) ?_
            refine xl_A S hK I (by omega) dX1_surplus_71 ?_
            refine lv_aload_n S.1 S.2.1 dX1_surplus_72 rfl (lv_at hl 2 rfl) ?_
            refine xg_endB S hK I dX1_surplus_73 ?_
            refine lv_iload_n S.1 S.2.1 dX1_surplus_76 rfl (lv_at hl 0 rfl) ?_
            refine xl_B S hK I (by omega) dX1_surplus_77 ?_
            refine tr_callv (C := RX1) (ci := 0) (As := [.int (nI (A k)), .int (nI (B k))]) (rest := []) rfl rfl rfl S hK I hA (cX_join l D ad da n mk T A B N R M H.size (A k) (B k) hN (by omega) (by omega)) (cwV 2 S.2.2.2.2 (lw_V q73 q75 qs2 q12 q76) rfl rfl rfl (by decide +kernel) ⟨Nat.le_of_ble_eq_true rfl, Nat.le_of_ble_eq_true rfl⟩) rfl hl.1 rfl (Nat.le_of_ble_eq_true rfl) dX1_surplus_78 ⟨Nat.zero_le _, Nat.zero_le _⟩ (fun _ H locs _ I => ?_)
            refine tr_iinc (k := 0) (lv' := [(2, .int (nI (k + 1))), (1, .int (nI rings)), (0, .ref (ad 0))]) S dX1_surplus_81 hl rfl (by decide) rfl (fun ls hl => ?_)
            refine lv_goto (tgt := 8) S.1 S.2.1 dX1_surplus_84 (by decide) ?_
            rw [if_pos ⟨c2, by omega⟩, if_neg c4] at hs
            exact ih (k + 1) _ _ H locs ls (by omega) (by omega) (tr_jn_lt hN (by omega)) (by omega) I (lv_sub hl [0, 1, 2] rfl)
          · refine tr_iinc (k := 1) (lv' := [(1, .int (nI (rings + 1))), (2, .int (nI k)), (0, .ref (ad 0))]) S dX1_surplus_59 hl rfl (by decide) rfl (fun ls hl => ?_)
            refine lv_goto (tgt := 81) S.1 S.2.1 dX1_surplus_62 (by decide) ?_
            refine tr_iinc (k := 1) (lv' := [(2, .int (nI (k + 1))), (1, .int (nI (rings + 1))), (0, .ref (ad 0))]) S dX1_surplus_81 hl rfl (by decide) rfl (fun ls hl => ?_)
            refine lv_goto (tgt := 8) S.1 S.2.1 dX1_surplus_84 (by decide) ?_
            rw [if_pos ⟨c2, by omega⟩, if_pos c4] at hs
            exact ih (k + 1) _ N H locs ls (by omega) (by omega) hN (by omega) I (lv_sub hl [0, 1, 2] rfl)
end TXS
set_option maxHeartbeats 4000000 in
set_option maxRecDepth 100000 in
theorem cX_surplus (l : Launch) (D : va_G) (ad : Nat → Nat) (da : Nat → ClassId) (n mk : Nat) (T : Nat → Bool) (A B N R : Nat → Nat) (M : Nat → Int) (sz : Nat) (hn : n ≤ 6) (hAB : ∀ k, k < 10 → A k < n ∧ B k < n) (hmk : mk < 1024) : tr_Meti l yX1_surplus cX1_surplus 3 ({ frames := 4, cells := 0, slots := 0, locals := 110 }) D (tr_Xt da) (tr_XW ad da n mk T A B N R M) sz [.ref (ad 0)] (fun r (_ : (Nat → Nat) × (Nat → Nat) × (Nat → Int)) => r = nI (tr_gr T A B (tr_lf 0) (fun p => p) mk)) (fun u => (tr_XW ad da n mk T A B u.1 u.2.1 u.2.2)) := by
  refine tr_enter (lv := [(0, .ref (ad 0))]) (by decide) (Nat.le_of_ble_eq_true rfl) rfl ?_
  intro p e s m below meth c ls hsz S hr hlk hK I hA hl
  refine lv_aload_n S.1 S.2.1 dX1_surplus_0 rfl (lv_at hl 0 rfl) ?_
  refine tr_callv (C := RX1) (ci := 0) (As := []) (rest := []) rfl rfl rfl S hK I hA (cX_freshNames l D ad da n mk T A B N R M s.heap.size) (cwV 0 S.2.2.2.2 (lw_V q69 q71 qs1 q12 q72) rfl rfl rfl (by decide +kernel) ⟨Nat.le_of_ble_eq_true rfl, Nat.le_of_ble_eq_true rfl⟩) rfl hl.1 rfl (Nat.le_of_ble_eq_true rfl) dX1_surplus_1 ⟨Nat.zero_le _, Nat.zero_le _⟩ (fun _ H locs _ I => ?_)
  refine tr_iconst 0 S dX1_surplus_4 (by decide) ?_
  refine lv_istore_n (lv' := [(1, .int (nI 0)), (0, .ref (ad 0))]) S.1 S.2.1 dX1_surplus_5 rfl hl (by decide) rfl (fun ls hl => ?_)
  refine tr_iconst 0 S dX1_surplus_6 (by decide) ?_
  refine lv_istore_n (lv' := [(2, .int (nI 0)), (1, .int (nI 0)), (0, .ref (ad 0))]) S.1 S.2.1 dX1_surplus_7 rfl hl (by decide) rfl (fun ls hl => ?_)
  exact lX_surplus (g := tr_gr T A B (tr_lf 0) (fun p => p) mk) S hK hA hn hAB hmk (fun N H locs ls I => tr_iret S hr hlk hK (N, R, M) I rfl dX1_surplus_88) 11 0 0 (fun p => p) H locs ls (by omega) (by omega) (fun q h => h) (by rw [Nat.pow_zero, Nat.div_one, Nat.zero_add]) I (lv_sub hl [0, 1, 2] rfl)
end
section
/-! MACHINE 8: TreeRankerModel (text by gen_m.py) -/
theorem tr_not_f {b : Bool} (h : (!b) = false) : b = true := by cases b <;> simp_all
theorem tr_not_t {b : Bool} (h : (!b) = true) : b = false := by cases b <;> simp_all
set_option maxHeartbeats 4000000 in
set_option maxRecDepth 100000 in
theorem cM_badLine (l : Launch) (D : va_G) (sz : Nat) (x : Int32) : tr_Metz l yX2_badLine cX2_badLine 1 ({ frames := 0, cells := 0, slots := 0, locals := 0 }) D [] [] sz [.int x] (fun r (_ : Unit) => r = tr_bI (!tr_isL x)) (fun _ => []) := by
  refine tr_enter (lv := [(0, .int x)]) (by decide) (Nat.le_of_ble_eq_true rfl) rfl ?_
  intro p e s m below meth c ls hsz S hr hlk hK I hA hl
  refine lv_iload_n S.1 S.2.1 dX2_badLine_0 rfl (lv_at hl 0 rfl) ?_
  refine lv_if_lt (tgt := 10) S.1 S.2.1 dX2_badLine_1 (by decide) (fun c1 => ?_) (fun c1 => ?_)
  · refine tr_iconst 1 S dX2_badLine_10 (by decide) ?_
    refine lv_goto (tgt := 15) S.1 S.2.1 dX2_badLine_11 (by decide) ?_
    refine tr_ti (y := tr_bI true) (by decide) ?_
    exact tr_zret true S hr hlk hK () I (by rw [show tr_isL x = false from decide_eq_false (fun q => q.1 c1)] <;> rfl) dX2_badLine_15
  · refine lv_iload_n S.1 S.2.1 dX2_badLine_4 rfl (lv_at hl 0 rfl) ?_
    refine tr_bipush 9 S dX2_badLine_5 (by decide) ?_
    refine lv_icmp_le (tgt := 14) S.1 S.2.1 dX2_badLine_7 (by decide) (fun c2 => ?_) (fun c2 => ?_)
    · refine tr_iconst 0 S dX2_badLine_14 (by decide) ?_
      refine tr_ti (y := tr_bI false) (by decide) ?_
      exact tr_zret false S hr hlk hK () I (by rw [show tr_isL x = true from decide_eq_true ⟨c1, c2⟩] <;> rfl) dX2_badLine_15
    · refine tr_iconst 1 S dX2_badLine_10 (by decide) ?_
      refine lv_goto (tgt := 15) S.1 S.2.1 dX2_badLine_11 (by decide) ?_
      refine tr_ti (y := tr_bI true) (by decide) ?_
      exact tr_zret true S hr hlk hK () I (by rw [show tr_isL x = false from decide_eq_false (fun q => c2 q.2)] <;> rfl) dX2_badLine_15
set_option maxHeartbeats 4000000 in
set_option maxRecDepth 100000 in
theorem cM_badPoint (l : Launch) (D : va_G) (ad : Nat → Nat) (da : Nat → ClassId) (n mk : Nat) (T : Nat → Bool) (A B N : Nat → Nat) (sz : Nat) (x : Int32) : tr_Metz l yX2_badPoint cX2_badPoint 2 ({ frames := 0, cells := 0, slots := 0, locals := 0 }) D (tr_Mt da) (tr_MW ad da n mk T A B N) sz [.ref (ad 0), .int x] (fun r (_ : Unit) => r = tr_bI (!tr_isP n x)) (fun _ => (tr_MW ad da n mk T A B N)) := by
  refine tr_enter (lv := [(0, .ref (ad 0)), (1, .int x)]) (by decide) (Nat.le_of_ble_eq_true rfl) rfl ?_
  intro p e s m below meth c ls hsz S hr hlk hK I hA hl
  refine lv_iload_n S.1 S.2.1 dX2_badPoint_0 rfl (lv_at hl 1 rfl) ?_
  refine lv_if_lt (tgt := 12) S.1 S.2.1 dX2_badPoint_1 (by decide) (fun c1 => ?_) (fun c1 => ?_)
  · refine tr_iconst 1 S dX2_badPoint_12 (by decide) ?_
    refine lv_goto (tgt := 17) S.1 S.2.1 dX2_badPoint_13 (by decide) ?_
    refine tr_ti (y := tr_bI true) (by decide) ?_
    exact tr_zret true S hr hlk hK () I (by rw [show tr_isP n x = false from decide_eq_false (fun q => q.1 c1)] <;> rfl) dX2_badPoint_17
  · refine lv_iload_n S.1 S.2.1 dX2_badPoint_4 rfl (lv_at hl 1 rfl) ?_
    refine lv_aload_n S.1 S.2.1 dX2_badPoint_5 rfl (lv_at hl 0 rfl) ?_
    refine mg_n S hK I dX2_badPoint_6 ?_
    refine lv_icmp_lt (tgt := 16) S.1 S.2.1 dX2_badPoint_9 (by decide) (fun c2 => ?_) (fun c2 => ?_)
    · refine tr_iconst 0 S dX2_badPoint_16 (by decide) ?_
      refine tr_ti (y := tr_bI false) (by decide) ?_
      exact tr_zret false S hr hlk hK () I (by rw [show tr_isP n x = true from decide_eq_true ⟨c1, c2⟩] <;> rfl) dX2_badPoint_17
    · refine tr_iconst 1 S dX2_badPoint_12 (by decide) ?_
      refine lv_goto (tgt := 17) S.1 S.2.1 dX2_badPoint_13 (by decide) ?_
      refine tr_ti (y := tr_bI true) (by decide) ?_
      exact tr_zret true S hr hlk hK () I (by rw [show tr_isP n x = false from decide_eq_false (fun q => c2 q.2)] <;> rfl) dX2_badPoint_17
section TMO
variable {p : Program} {l : Launch} {e : Env} {Rm : Room} {s : State} {m : MethodId} {args : Array Value} {below : List Frame} {meth : Method} {c : Code} {cells slots : Nat} {Q : State → Prop} {D : va_G} {A0 : Nat → Prop} {ad : Nat → Nat} {da : Nat → ClassId} {n mk : Nat} {T : Nat → Bool} {A B N : Nat → Nat}
set_option maxHeartbeats 4000000 in
set_option maxRecDepth 100000 in
theorem lM_ones {s0 : Nat} (S : CallFix p m c cX2_ones 3 s args lw_all RX2) (hs0 : s0 < 1024)
    (kk : ∀ (H : Heap) (locs : List Loc) (ls : Array Slot), tr_I s A0 D [] H locs → W p l e Rm s m args below meth c H locs cells slots Q (F0 m 25 ls [.int (nI (tr_on 10 s0))])) :
    ∀ (f k sum : Nat) (H : Heap) (locs : List Loc) (ls : Array Slot), k ≤ 10 → 11 ≤ k + f → sum + tr_on (10 - k) (s0 / 2 ^ k) = tr_on 10 s0 → tr_I s A0 D [] H locs → lv_has ls 3 [(2, .int (nI k)), (1, .int (nI sum)), (0, .int (nI s0))] → W p l e Rm s m args below meth c H locs cells slots Q (F0 m 4 ls []) := by
  intro f
  induction f with
  | zero => intro k sum H locs ls h1 h2; exact absurd h2 (by omega)
  | succ f ih =>
    intro k sum H locs ls h1 h2 hS I hl
    have hs2 : s0 / 2 ^ k < 1024 := tr_dvlt hs0
    refine lv_iload_n S.1 S.2.1 dX2_ones_4 rfl (lv_at hl 0 rfl) ?_
    refine tr_bipush 10 S dX2_ones_5 (by decide) ?_
    refine tr_icmp_ge 24 S dX2_ones_7 (by decide) (by omega) (by omega) (fun c1 => ?_) (fun c1 => ?_)
    · have hk : k = 10 := by omega
      subst hk
      have hS : sum = tr_on 10 s0 := hS
      subst hS
      refine lv_iload_n S.1 S.2.1 dX2_ones_24 rfl (lv_at hl 1 rfl) ?_
      exact kk H locs ls I
    · refine lv_iload_n S.1 S.2.1 dX2_ones_10 rfl (lv_at hl 1 rfl) ?_
      refine lv_iload_n S.1 S.2.1 dX2_ones_11 rfl (lv_at hl 2 rfl) ?_
      refine lv_iload_n S.1 S.2.1 dX2_ones_12 rfl (lv_at hl 0 rfl) ?_
      refine tr_ishr S (by omega) (by omega) dX2_ones_13 ?_
      refine tr_iconst 1 S dX2_ones_14 (by decide) ?_
      refine tr_iand1 S dX2_ones_15 ?_
      refine tr_iadd S dX2_ones_16 ?_
      refine lv_istore_n (lv' := [(1, .int (nI (sum + ((s0 / 2 ^ k) % 2)))), (2, .int (nI k)), (0, .int (nI s0))]) S.1 S.2.1 dX2_ones_17 rfl hl (by decide) rfl (fun ls hl => ?_)
      refine tr_iinc (k := 1) (lv' := [(2, .int (nI (k + 1))), (1, .int (nI (sum + ((s0 / 2 ^ k) % 2)))), (0, .int (nI s0))]) S dX2_ones_18 hl rfl (by decide) rfl (fun ls hl => ?_)
      refine lv_goto (tgt := 4) S.1 S.2.1 dX2_ones_21 (by decide) ?_
      have hs := tr_on_s (s := s0) (k := k) (by omega)
      exact ih (k + 1) _ H locs ls (by omega) (by omega) (by omega) I (lv_sub hl [0, 1, 2] rfl)
end TMO
set_option maxHeartbeats 4000000 in
set_option maxRecDepth 100000 in
theorem cM_ones (l : Launch) (D : va_G) (sz : Nat) (s0 : Nat) (hs0 : s0 < 1024) : tr_Meti l yX2_ones cX2_ones 3 ({ frames := 0, cells := 0, slots := 0, locals := 0 }) D [] [] sz [.int (nI s0)] (fun r (_ : Unit) => r = nI (tr_on 10 s0)) (fun _ => []) := by
  refine tr_enter (lv := [(0, .int (nI s0))]) (by decide) (Nat.le_of_ble_eq_true rfl) rfl ?_
  intro p e s m below meth c ls hsz S hr hlk hK I hA hl
  refine tr_iconst 0 S dX2_ones_0 (by decide) ?_
  refine lv_istore_n (lv' := [(1, .int (nI 0)), (0, .int (nI s0))]) S.1 S.2.1 dX2_ones_1 rfl hl (by decide) rfl (fun ls hl => ?_)
  refine tr_iconst 0 S dX2_ones_2 (by decide) ?_
  refine lv_istore_n (lv' := [(2, .int (nI 0)), (1, .int (nI 0)), (0, .int (nI s0))]) S.1 S.2.1 dX2_ones_3 rfl hl (by decide) rfl (fun ls hl => ?_)
  exact lM_ones S hs0 (fun H locs ls I => tr_iret S hr hlk hK () I rfl dX2_ones_25) 11 0 0 s.heap [] ls (by omega) (by omega) (by rw [Nat.pow_zero, Nat.div_one, Nat.zero_add]) I (lv_sub hl [0, 1, 2] rfl)
section TMR
variable {p : Program} {l : Launch} {e : Env} {Rm : Room} {s : State} {m : MethodId} {args : Array Value} {below : List Frame} {meth : Method} {c : Code} {cells slots : Nat} {Q : State → Prop} {D : va_G} {A0 : Nat → Prop} {ad : Nat → Nat} {da : Nat → ClassId} {n mk : Nat} {T : Nat → Bool} {A B N : Nat → Nat}
set_option maxHeartbeats 4000000 in
set_option maxRecDepth 100000 in
theorem lM_fresh {s0 : Nat} (S : CallFix p m c cX2_ringless 6 s args lw_all RX2) (hK : va_K D tr_Cl (tr_Mt da) s) (k : ∀ (H : Heap) (locs : List Loc) (ls : Array Slot), tr_I s A0 D (tr_MW ad da n mk T A B (fun p => p)) H locs → lv_has ls 6 [(1, .int (nI s0)), (0, .ref (ad 0))] → W p l e Rm s m args below meth c H locs cells slots Q (F0 m 21 ls [])) :
    ∀ (d i : Nat) (N : Nat → Nat) (H : Heap) (locs : List Loc) (ls : Array Slot), i ≤ 6 → 7 ≤ i + d → (∀ q, q < i → N q = q) → tr_I s A0 D (tr_MW ad da n mk T A B N) H locs → lv_has ls 6 [(2, .int (nI i)), (1, .int (nI s0)), (0, .ref (ad 0))] → W p l e Rm s m args below meth c H locs cells slots Q (F0 m 2 ls []) := by
  intro d
  induction d with
  | zero => intro i N H locs ls h1 h2; exact absurd h2 (by omega)
  | succ d ih =>
    intro i N H locs ls h1 h2 hN I hl
    refine lv_iload_n S.1 S.2.1 dX2_ringless_2 rfl (lv_at hl 0 rfl) ?_
    refine tr_bipush 6 S dX2_ringless_3 (by decide) ?_
    refine tr_icmp_ge 21 S dX2_ringless_5 (by decide) (by omega) (by omega) (fun c1 => ?_) (fun c1 => ?_)
    · exact k H locs ls (mc_N I (fun j hj => hN j (by omega))) (lv_sub hl [1, 2] rfl)
    · refine lv_aload_n S.1 S.2.1 dX2_ringless_8 rfl (lv_at hl 2 rfl) ?_
      refine mg_part S hK I dX2_ringless_9 ?_
      refine lv_iload_n S.1 S.2.1 dX2_ringless_12 rfl (lv_at hl 0 rfl) ?_
      refine lv_iload_n S.1 S.2.1 dX2_ringless_13 rfl (lv_at hl 0 rfl) ?_
      refine ms_N S hK I (by omega) dX2_ringless_14 (fun H locs I => ?_)
      refine tr_iinc (k := 0) (lv' := [(2, .int (nI (i + 1))), (1, .int (nI s0)), (0, .ref (ad 0))]) S dX2_ringless_15 hl rfl (by decide) rfl (fun ls hl => ?_)
      refine lv_goto (tgt := 2) S.1 S.2.1 dX2_ringless_18 (by decide) ?_
      exact ih (i + 1) _ H locs ls (by omega) (by omega) (fun q hq => by
        by_cases h : q = i
        · rw [h, va_up_self]
        · rw [va_up_ne _ _ h]
          exact hN q (by omega)) I (lv_sub hl [0, 1, 2] rfl)
set_option maxHeartbeats 4000000 in
set_option maxRecDepth 100000 in
theorem lM_join {a b k s0 : Nat} (S : CallFix p m c cX2_ringless 6 s args lw_all RX2) (hK : va_K D tr_Cl (tr_Mt da) s) (hN6 : ∀ q, q < 6 → N q < 6) (ha : a < 6) (hb : b < 6) (kk : ∀ (H : Heap) (locs : List Loc) (ls : Array Slot), tr_I s A0 D (tr_MW ad da n mk T A B (tr_jn N a b)) H locs → lv_has ls 6 [(2, .int (nI k)), (1, .int (nI s0)), (0, .ref (ad 0))] → W p l e Rm s m args below meth c H locs cells slots Q (F0 m 116 ls [])) :
    ∀ (d i : Nat) (Nc : Nat → Nat) (H : Heap) (locs : List Loc) (ls : Array Slot), i ≤ 6 → 7 ≤ i + d → (∀ q, q < 6 → Nc q = if q < i then tr_jn N a b q else N q) → tr_I s A0 D (tr_MW ad da n mk T A B Nc) H locs → lv_has ls 6 [(5, .int (nI i)), (4, .int (nI (N b))), (3, .int (nI (N a))), (2, .int (nI k)), (1, .int (nI s0)), (0, .ref (ad 0))] → W p l e Rm s m args below meth c H locs cells slots Q (F0 m 83 ls []) := by
  intro d
  induction d with
  | zero => intro i Nc H locs ls h1 h2; exact absurd h2 (by omega)
  | succ d ih =>
    intro i Nc H locs ls h1 h2 hN I hl
    have hNb := hN6 b hb
    refine lv_iload S.1 S.2.1 dX2_ringless_83 (lv_at hl 0 rfl) ?_
    refine tr_bipush 6 S dX2_ringless_85 (by decide) ?_
    refine tr_icmp_ge 116 S dX2_ringless_87 (by decide) (by omega) (by omega) (fun c1 => ?_) (fun c1 => ?_)
    · exact kk H locs ls (mc_N I (fun j hj => by rw [hN j hj, if_pos (by omega)])) (lv_sub hl [3, 4, 5] rfl)
    · have hNi : Nc i = N i := by rw [hN i (by omega), if_neg (by omega)]
      have hNi6 := hN6 i (by omega)
      refine lv_aload_n S.1 S.2.1 dX2_ringless_90 rfl (lv_at hl 5 rfl) ?_
      refine mg_part S hK I dX2_ringless_91 ?_
      refine lv_iload S.1 S.2.1 dX2_ringless_94 (lv_at hl 0 rfl) ?_
      refine ml_N S hK I (by omega) dX2_ringless_96 ?_
      refine lv_iload S.1 S.2.1 dX2_ringless_97 (lv_at hl 1 rfl) ?_
      refine tr_icmp_ne 110 S dX2_ringless_99 (by decide) (by omega) (by omega) (fun c2 => ?_) (fun c2 => ?_)
      · refine tr_iinc (k := 0) (lv' := [(5, .int (nI (i + 1))), (4, .int (nI (N b))), (3, .int (nI (N a))), (2, .int (nI k)), (1, .int (nI s0)), (0, .ref (ad 0))]) S dX2_ringless_110 hl rfl (by decide) rfl (fun ls hl => ?_)
        refine lv_goto (tgt := 83) S.1 S.2.1 dX2_ringless_113 (by decide) ?_
        exact ih (i + 1) _ H locs ls (by omega) (by omega) (fun q hq => by
          by_cases h : q = i
          · rw [h, hNi, if_pos (by omega)]
            unfold tr_jn
            rw [if_neg (by rw [← hNi]; exact c2)]
          · rw [hN q hq]
            by_cases h3 : q < i
            · rw [if_pos h3, if_pos (by omega)]
            · rw [if_neg h3, if_neg (by omega)]) I (lv_sub hl [0, 1, 2, 3, 4, 5] rfl)
      · refine lv_aload_n S.1 S.2.1 dX2_ringless_102 rfl (lv_at hl 5 rfl) ?_
        refine mg_part S hK I dX2_ringless_103 ?_
        refine lv_iload S.1 S.2.1 dX2_ringless_106 (lv_at hl 0 rfl) ?_
        refine lv_iload_n S.1 S.2.1 dX2_ringless_108 rfl (lv_at hl 2 rfl) ?_
        refine ms_N S hK I (by omega) dX2_ringless_109 (fun H locs I => ?_)
        refine tr_iinc (k := 0) (lv' := [(5, .int (nI (i + 1))), (4, .int (nI (N b))), (3, .int (nI (N a))), (2, .int (nI k)), (1, .int (nI s0)), (0, .ref (ad 0))]) S dX2_ringless_110 hl rfl (by decide) rfl (fun ls hl => ?_)
        refine lv_goto (tgt := 83) S.1 S.2.1 dX2_ringless_113 (by decide) ?_
        exact ih (i + 1) _ H locs ls (by omega) (by omega) (fun q hq => by
          by_cases h : q = i
          · rw [h, va_up_self, if_pos (by omega)]
            unfold tr_jn
            rw [if_pos (by rw [← hNi]; exact c2)]
          · rw [va_up_ne _ _ h, hN q hq]
            by_cases h3 : q < i
            · rw [if_pos h3, if_pos (by omega)]
            · rw [if_neg h3, if_neg (by omega)]) I (lv_sub hl [0, 1, 2, 3, 4, 5] rfl)
set_option maxHeartbeats 4000000 in
set_option maxRecDepth 100000 in
theorem lM_ring {s0 : Nat} {Z : Bool} (S : CallFix p m c cX2_ringless 6 s args lw_all RX2) (hK : va_K D tr_Cl (tr_Mt da) s) (hn : n ≤ 6) (hAB : ∀ k, k < 10 → A k < n ∧ B k < n) (hs0 : s0 < 1024)
    (k78 : ∀ (N : Nat → Nat) (H : Heap) (locs : List Loc) (ls : Array Slot), Z = false → tr_I s A0 D (tr_MW ad da n mk T A B N) H locs → W p l e Rm s m args below meth c H locs cells slots Q (F0 m 78 ls []))
    (k122 : ∀ (N : Nat → Nat) (H : Heap) (locs : List Loc) (ls : Array Slot), Z = true → tr_I s A0 D (tr_MW ad da n mk T A B N) H locs → W p l e Rm s m args below meth c H locs cells slots Q (F0 m 122 ls [])) :
    ∀ (f k : Nat) (N : Nat → Nat) (H : Heap) (locs : List Loc) (ls : Array Slot), k ≤ 10 → 11 ≤ k + f → (∀ q, q < 6 → N q < 6) → tr_rl T A B (tr_lf k) N (s0 / 2 ^ k) = Z → tr_I s A0 D (tr_MW ad da n mk T A B N) H locs → lv_has ls 6 [(2, .int (nI k)), (1, .int (nI s0)), (0, .ref (ad 0))] → W p l e Rm s m args below meth c H locs cells slots Q (F0 m 23 ls []) := by
  intro f
  induction f with
  | zero => intro k N H locs ls h1 h2; exact absurd h2 (by omega)
  | succ f ih =>
    intro k N H locs ls h1 h2 hN hZ I hl
    have hsk : s0 / 2 ^ k < 1024 := tr_dvlt hs0
    refine lv_iload_n S.1 S.2.1 dX2_ringless_23 rfl (lv_at hl 0 rfl) ?_
    refine tr_bipush 10 S dX2_ringless_24 (by decide) ?_
    refine tr_icmp_ge 122 S dX2_ringless_26 (by decide) (by omega) (by omega) (fun c1 => ?_) (fun c1 => ?_)
    · have hk : k = 10 := by omega
      subst hk
      exact k122 N H locs ls (by rw [← hZ, tr_lf_10]; rfl) I
    · have hk10 : k < 10 := by omega
      have hs := tr_rl_s (T := T) (A := A) (B := B) (N := N) (t := s0) hk10
      rw [hZ] at hs
      have hAk := (hAB k hk10).1
      have hBk := (hAB k hk10).2
      have hNA := hN (A k) (by omega)
      have hNB := hN (B k) (by omega)
      refine lv_iload_n S.1 S.2.1 dX2_ringless_29 rfl (lv_at hl 1 rfl) ?_
      refine lv_iload_n S.1 S.2.1 dX2_ringless_30 rfl (lv_at hl 0 rfl) ?_
      refine tr_ishr S (by omega) (by omega) dX2_ringless_31 ?_
      refine tr_iconst 1 S dX2_ringless_32 (by decide) ?_
      refine tr_iand1 S dX2_ringless_33 ?_
      refine tr_iconst 1 S dX2_ringless_34 (by decide) ?_
      refine tr_icmp_ne 116 S dX2_ringless_35 (by decide) (by omega) (by omega) (fun c2 => ?_) (fun c2 => ?_)
      · refine tr_iinc (k := 0) (lv' := [(2, .int (nI (k + 1))), (1, .int (nI s0)), (0, .ref (ad 0))]) S dX2_ringless_116 hl rfl (by decide) rfl (fun ls hl => ?_)
        refine lv_goto (tgt := 23) S.1 S.2.1 dX2_ringless_119 (by decide) ?_
        rw [if_neg c2] at hs
        exact ih (k + 1) N H locs ls (by omega) (by omega) hN hs.symm I (lv_sub hl [0, 1, 2] rfl)
      · refine lv_aload_n S.1 S.2.1 dX2_ringless_38 rfl (lv_at hl 2 rfl) ?_
        refine mg_part S hK I dX2_ringless_39 ?_
        refine lv_aload_n S.1 S.2.1 dX2_ringless_42 rfl (lv_at hl 2 rfl) ?_
        refine mg_from S hK I dX2_ringless_43 ?_
        refine lv_iload_n S.1 S.2.1 dX2_ringless_46 rfl (lv_at hl 0 rfl) ?_
        refine ml_A S hK I (by omega) dX2_ringless_47 ?_
        refine ml_N S hK I (by omega) dX2_ringless_48 ?_
        refine lv_istore_n (lv' := [(3, .int (nI (N (A k)))), (2, .int (nI k)), (1, .int (nI s0)), (0, .ref (ad 0))]) S.1 S.2.1 dX2_ringless_49 rfl hl (by decide) rfl (fun ls hl => ?_)
        refine lv_aload_n S.1 S.2.1 dX2_ringless_50 rfl (lv_at hl 3 rfl) ?_
        refine mg_part S hK I dX2_ringless_51 ?_
        refine lv_aload_n S.1 S.2.1 dX2_ringless_54 rfl (lv_at hl 3 rfl) ?_
        refine mg_to S hK I dX2_ringless_55 ?_
        refine lv_iload_n S.1 S.2.1 dX2_ringless_58 rfl (lv_at hl 1 rfl) ?_
        refine ml_B S hK I (by omega) dX2_ringless_59 ?_
        refine ml_N S hK I (by omega) dX2_ringless_60 ?_
        refine lv_istore (lv' := [(4, .int (nI (N (B k)))), (3, .int (nI (N (A k)))), (2, .int (nI k)), (1, .int (nI s0)), (0, .ref (ad 0))]) S.1 S.2.1 dX2_ringless_61 hl (by decide) rfl (fun ls hl => ?_)
        refine lv_aload_n S.1 S.2.1 dX2_ringless_63 rfl (lv_at hl 4 rfl) ?_
        refine mg_there S hK I dX2_ringless_64 ?_
        refine lv_iload_n S.1 S.2.1 dX2_ringless_67 rfl (lv_at hl 2 rfl) ?_
        refine ml_T S hK I (by omega) dX2_ringless_68 ?_
        refine tr_bif_eq 78 S dX2_ringless_69 (by decide) (fun c3 => ?_) (fun c3 => ?_)
        · rw [if_pos c2, c3, Bool.false_and, Bool.false_and] at hs
          exact k78 N H locs ls hs I
        · refine lv_iload_n S.1 S.2.1 dX2_ringless_72 rfl (lv_at hl 1 rfl) ?_
          refine lv_iload S.1 S.2.1 dX2_ringless_73 (lv_at hl 0 rfl) ?_
          refine tr_icmp_ne 80 S dX2_ringless_75 (by decide) (by omega) (by omega) (fun c4 => ?_) (fun c4 => ?_)
          · rw [if_pos c2, c3, decide_eq_true c4, Bool.true_and, Bool.true_and] at hs
            refine tr_iconst 0 S dX2_ringless_80 (by decide) ?_
            refine lv_istore (lv' := [(5, .int (nI 0)), (4, .int (nI (N (B k)))), (3, .int (nI (N (A k)))), (2, .int (nI k)), (1, .int (nI s0)), (0, .ref (ad 0))]) S.1 S.2.1 dX2_ringless_81 hl (by decide) rfl (fun ls hl => ?_)
            refine lM_join (a := A k) (b := B k) S hK hN (by omega) (by omega) (fun H locs ls I hl => ?_) 7 0 N H locs ls (by omega) (by omega) (fun q h => by rw [if_neg (by omega)]) I (lv_sub hl [0, 1, 2, 3, 4, 5] rfl)
            refine tr_iinc (k := 0) (lv' := [(2, .int (nI (k + 1))), (1, .int (nI s0)), (0, .ref (ad 0))]) S dX2_ringless_116 hl rfl (by decide) rfl (fun ls hl => ?_)
            refine lv_goto (tgt := 23) S.1 S.2.1 dX2_ringless_119 (by decide) ?_
            exact ih (k + 1) _ H locs ls (by omega) (by omega) (tr_jn_lt hN (by omega)) hs.symm I (lv_sub hl [0, 1, 2] rfl)
          · rw [if_pos c2, c3, decide_eq_false (fun q => q c4), Bool.true_and, Bool.false_and] at hs
            exact k78 N H locs ls hs I
end TMR
set_option maxHeartbeats 4000000 in
set_option maxRecDepth 100000 in
theorem cM_ringless (l : Launch) (D : va_G) (ad : Nat → Nat) (da : Nat → ClassId) (n mk : Nat) (T : Nat → Bool) (A B N : Nat → Nat) (sz : Nat) (s0 : Nat) (hn : n ≤ 6) (hAB : ∀ k, k < 10 → A k < n ∧ B k < n) (hs0 : s0 < 1024) : tr_Metz l yX2_ringless cX2_ringless 6 ({ frames := 0, cells := 0, slots := 0, locals := 0 }) D (tr_Mt da) (tr_MW ad da n mk T A B N) sz [.ref (ad 0), .int (nI s0)] (fun r (_ : Nat → Nat) => r = tr_bI (tr_rl T A B (tr_lf 0) (fun p => p) s0)) (fun N' => (tr_MW ad da n mk T A B N')) := by
  refine tr_enter (lv := [(0, .ref (ad 0)), (1, .int (nI s0))]) (by decide) (Nat.le_of_ble_eq_true rfl) rfl ?_
  intro p e s m below meth c ls hsz S hr hlk hK I hA hl
  refine tr_iconst 0 S dX2_ringless_0 (by decide) ?_
  refine lv_istore_n (lv' := [(2, .int (nI 0)), (0, .ref (ad 0)), (1, .int (nI s0))]) S.1 S.2.1 dX2_ringless_1 rfl hl (by decide) rfl (fun ls hl => ?_)
  refine lM_fresh S hK (fun H locs ls I hl => ?_) 7 0 N s.heap [] ls (by omega) (by omega) (fun q h => absurd h (by omega)) I (lv_sub hl [0, 2, 1] rfl)
  refine tr_iconst 0 S dX2_ringless_21 (by decide) ?_
  refine lv_istore_n (lv' := [(2, .int (nI 0)), (1, .int (nI s0)), (0, .ref (ad 0))]) S.1 S.2.1 dX2_ringless_22 rfl hl (by decide) rfl (fun ls hl => ?_)
  refine lM_ring (Z := tr_rl T A B (tr_lf 0) (fun p => p) s0) S hK hn hAB hs0 (fun N H locs ls hZ I => ?_) (fun N H locs ls hZ I => ?_) 11 0 (fun p => p) H locs ls (by omega) (by omega) (fun q h => h) (by rw [Nat.pow_zero, Nat.div_one]) I (lv_sub hl [0, 1, 2] rfl)
  · refine tr_iconst 0 S dX2_ringless_78 (by decide) ?_
    refine tr_ti (y := tr_bI false) (by decide) ?_
    exact tr_zret false S hr hlk hK N I (by rw [hZ]) dX2_ringless_79
  · refine tr_iconst 1 S dX2_ringless_122 (by decide) ?_
    refine tr_ti (y := tr_bI true) (by decide) ?_
    exact tr_zret true S hr hlk hK N I (by rw [hZ]) dX2_ringless_123
set_option maxHeartbeats 4000000 in
set_option maxRecDepth 100000 in
theorem cM_isTree (l : Launch) (D : va_G) (ad : Nat → Nat) (da : Nat → ClassId) (n mk : Nat) (T : Nat → Bool) (A B N : Nat → Nat) (sz : Nat) (s0 : Nat) (hn1 : 1 ≤ n) (hn : n ≤ 6) (hAB : ∀ k, k < 10 → A k < n ∧ B k < n) (hs0 : s0 < 1024) : tr_Metz l yX2_isTree cX2_isTree 2 ({ frames := 1, cells := 0, slots := 0, locals := 25 }) D (tr_Mt da) (tr_MW ad da n mk T A B N) sz [.ref (ad 0), .int (nI s0)] (fun r (_ : Nat → Nat) => r = tr_bI (tr_isT n T A B s0)) (fun N' => (tr_MW ad da n mk T A B N')) := by
  refine tr_enter (lv := [(0, .ref (ad 0)), (1, .int (nI s0))]) (by decide) (Nat.le_of_ble_eq_true rfl) rfl ?_
  intro p e s m below meth c ls hsz S hr hlk hK I hA hl
  have hon := tr_on_le 10 s0
  refine lv_iload_n S.1 S.2.1 dX2_isTree_0 rfl (lv_at hl 1 rfl) ?_
  refine tr_calls (As := [.int (nI s0)]) (rest := []) S I hA (fun U hW => va_K.moved hW.alike (hK.sub (tys' := []) [] rfl)) (cM_ones l D s.heap.size s0 hs0) (va_cwS 1 S.2.2.2.2 (lw_S q182 q183 q13 q184) rfl rfl rfl (by decide +kernel) ⟨Nat.le_of_ble_eq_true rfl, Nat.le_of_ble_eq_true rfl⟩) rfl hl.1 rfl (Nat.le_of_ble_eq_true rfl) dX2_isTree_1 ⟨Nat.zero_le _, Nat.zero_le _⟩ (fun r H locs hr2 I => ?_)
  subst hr2
  refine lv_aload_n S.1 S.2.1 dX2_isTree_4 rfl (lv_at hl 0 rfl) ?_
  refine mg_n S hK I dX2_isTree_5 ?_
  refine tr_iconst 1 S dX2_isTree_8 (by decide) ?_
  refine tr_isub S (by omega) dX2_isTree_9 ?_
  refine tr_icmp_ne 25 S dX2_isTree_10 (by decide) (by omega) (by omega) (fun c1 => ?_) (fun c1 => ?_)
  · refine tr_iconst 0 S dX2_isTree_25 (by decide) ?_
    refine tr_ti (y := tr_bI false) (by decide) ?_
    have hb : tr_isT n T A B s0 = false := by simp [tr_isT, c1]
    exact tr_zret false S hr hlk hK N I (by rw [hb]) dX2_isTree_26
  · refine lv_aload_n S.1 S.2.1 dX2_isTree_13 rfl (lv_at hl 0 rfl) ?_
    refine lv_iload_n S.1 S.2.1 dX2_isTree_14 rfl (lv_at hl 1 rfl) ?_
    refine tr_calli (C := RX2) (ci := 1) (As := [.int (nI s0)]) (rest := []) rfl rfl rfl S hK I hA (cM_ringless l D ad da n mk T A B N H.size s0 hn hAB hs0) (cwV 1 S.2.2.2.2 (lw_V q185 q187 qs10 q13 q188) rfl rfl rfl (by decide +kernel) ⟨Nat.le_of_ble_eq_true rfl, Nat.le_of_ble_eq_true rfl⟩) rfl hl.1 rfl (Nat.le_of_ble_eq_true rfl) dX2_isTree_15 ⟨Nat.zero_le _, Nat.zero_le _⟩ (fun r N H locs hr2 I => ?_)
    subst hr2
    refine tr_bif_eq 25 S dX2_isTree_18 (by decide) (fun c2 => ?_) (fun c2 => ?_)
    · refine tr_iconst 0 S dX2_isTree_25 (by decide) ?_
      refine tr_ti (y := tr_bI false) (by decide) ?_
      have hb : tr_isT n T A B s0 = false := by simp [tr_isT, c1, c2]
      exact tr_zret false S hr hlk hK N I (by rw [hb]) dX2_isTree_26
    · refine tr_iconst 1 S dX2_isTree_21 (by decide) ?_
      refine lv_goto (tgt := 26) S.1 S.2.1 dX2_isTree_22 (by decide) ?_
      refine tr_ti (y := tr_bI true) (by decide) ?_
      have hb : tr_isT n T A B s0 = true := by simp [tr_isT, c1, c2]
      exact tr_zret true S hr hlk hK N I (by rw [hb]) dX2_isTree_26
section TMC
variable {p : Program} {l : Launch} {e : Env} {s : State} {m : MethodId} {args : Array Value} {below : List Frame} {meth : Method} {c : Code} {Q : State → Prop} {D : va_G} {A0 : Nat → Prop} {ad : Nat → Nat} {da : Nat → ClassId} {n mk : Nat} {T : Nat → Bool} {A B N : Nat → Nat}
set_option maxHeartbeats 4000000 in
set_option maxRecDepth 100000 in
theorem lM_count {bd ln : Nat} (S : CallFix p m c cX2_count 5 s args lw_all RX2) (hK : va_K D tr_Cl (tr_Mt da) s) (hA : ∀ q : Nat, s.heap.size ≤ q → A0 q) (hn1 : 1 ≤ n) (hn : n ≤ 6) (hAB : ∀ k, k < 10 → A k < n ∧ B k < n) (hbd : bd ≤ 1024) (hln : ln < 1024)
    (kk : ∀ (N : Nat → Nat) (H : Heap) (locs : List Loc) (ls : Array Slot), tr_I s A0 D (tr_MW ad da n mk T A B N) H locs → W p l e ({ frames := 2, cells := 0, slots := 0, locals := 46 }) s m args below meth c H locs 0 0 Q (F0 m 38 ls [.int (nI (tr_cnt (fun s => decide (s &&& ln = ln) && tr_isT n T A B s) bd))])) :
    ∀ (f q : Nat) (N : Nat → Nat) (H : Heap) (locs : List Loc) (ls : Array Slot), q ≤ bd → bd + 1 ≤ q + f → tr_I s A0 D (tr_MW ad da n mk T A B N) H locs → lv_has ls 5 [(4, .int (nI q)), (3, .int (nI (tr_cnt (fun s => decide (s &&& ln = ln) && tr_isT n T A B s) q))), (2, .int (nI ln)), (1, .int (nI bd)), (0, .ref (ad 0))] → W p l e ({ frames := 2, cells := 0, slots := 0, locals := 46 }) s m args below meth c H locs 0 0 Q (F0 m 5 ls []) := by
  intro f
  induction f with
  | zero => intro q N H locs ls h1 h2; exact absurd h2 (by omega)
  | succ f ih =>
    intro q N H locs ls h1 h2 I hl
    have hand : q &&& ln < 1024 := Nat.lt_of_le_of_lt Nat.and_le_right hln
    refine lv_iload S.1 S.2.1 dX2_count_5 (lv_at hl 0 rfl) ?_
    refine lv_iload_n S.1 S.2.1 dX2_count_7 rfl (lv_at hl 3 rfl) ?_
    refine tr_icmp_ge 37 S dX2_count_8 (by decide) (by omega) (by omega) (fun c1 => ?_) (fun c1 => ?_)
    · have hq : q = bd := by omega
      subst hq
      refine lv_iload_n S.1 S.2.1 dX2_count_37 rfl (lv_at hl 1 rfl) ?_
      exact kk N H locs ls I
    · refine lv_iload S.1 S.2.1 dX2_count_11 (lv_at hl 0 rfl) ?_
      refine lv_iload_n S.1 S.2.1 dX2_count_13 rfl (lv_at hl 2 rfl) ?_
      refine tr_iand S dX2_count_14 ?_
      refine lv_iload_n S.1 S.2.1 dX2_count_15 rfl (lv_at hl 2 rfl) ?_
      refine tr_icmp_ne 31 S dX2_count_16 (by decide) (by omega) (by omega) (fun c2 => ?_) (fun c2 => ?_)
      · refine tr_iinc (k := 0) (lv' := [(4, .int (nI (q + 1))), (3, .int (nI (tr_cnt (fun s => decide (s &&& ln = ln) && tr_isT n T A B s) q))), (2, .int (nI ln)), (1, .int (nI bd)), (0, .ref (ad 0))]) S dX2_count_31 hl rfl (by decide) rfl (fun ls hl => ?_)
        refine lv_goto (tgt := 5) S.1 S.2.1 dX2_count_34 (by decide) ?_
        have hs : tr_cnt (fun s => decide (s &&& ln = ln) && tr_isT n T A B s) (q + 1) = tr_cnt (fun s => decide (s &&& ln = ln) && tr_isT n T A B s) q := by
          simp [tr_cnt, c2]
        exact ih (q + 1) N H locs ls (by omega) (by omega) I (by rw [hs]; exact lv_sub hl [0, 1, 2, 3, 4] rfl)
      · refine lv_aload_n S.1 S.2.1 dX2_count_19 rfl (lv_at hl 4 rfl) ?_
        refine lv_iload S.1 S.2.1 dX2_count_20 (lv_at hl 0 rfl) ?_
        refine tr_calli (C := RX2) (ci := 1) (As := [.int (nI q)]) (rest := []) rfl rfl rfl S hK I hA (cM_isTree l D ad da n mk T A B N H.size q hn1 hn hAB (by omega)) (cwV 1 S.2.2.2.2 (lw_V q178 q180 qs9 q13 q181) rfl rfl rfl (by decide +kernel) ⟨Nat.le_of_ble_eq_true rfl, Nat.le_of_ble_eq_true rfl⟩) rfl hl.1 rfl (Nat.le_of_ble_eq_true rfl) dX2_count_22 ⟨Nat.zero_le _, Nat.zero_le _⟩ (fun r N H locs hr2 I => ?_)
        subst hr2
        refine tr_bif_eq 31 S dX2_count_25 (by decide) (fun c3 => ?_) (fun c3 => ?_)
        · refine tr_iinc (k := 0) (lv' := [(4, .int (nI (q + 1))), (3, .int (nI (tr_cnt (fun s => decide (s &&& ln = ln) && tr_isT n T A B s) q))), (2, .int (nI ln)), (1, .int (nI bd)), (0, .ref (ad 0))]) S dX2_count_31 hl rfl (by decide) rfl (fun ls hl => ?_)
          refine lv_goto (tgt := 5) S.1 S.2.1 dX2_count_34 (by decide) ?_
          have hs : tr_cnt (fun s => decide (s &&& ln = ln) && tr_isT n T A B s) (q + 1) = tr_cnt (fun s => decide (s &&& ln = ln) && tr_isT n T A B s) q := by
            simp [tr_cnt, c3]
          exact ih (q + 1) N H locs ls (by omega) (by omega) I (by rw [hs]; exact lv_sub hl [0, 1, 2, 3, 4] rfl)
        · refine tr_iinc (k := 1) (lv' := [(3, .int (nI ((tr_cnt (fun s => decide (s &&& ln = ln) && tr_isT n T A B s) q) + 1))), (4, .int (nI q)), (2, .int (nI ln)), (1, .int (nI bd)), (0, .ref (ad 0))]) S dX2_count_28 hl rfl (by decide) rfl (fun ls hl => ?_)
          refine tr_iinc (k := 1) (lv' := [(4, .int (nI (q + 1))), (3, .int (nI ((tr_cnt (fun s => decide (s &&& ln = ln) && tr_isT n T A B s) q) + 1))), (2, .int (nI ln)), (1, .int (nI bd)), (0, .ref (ad 0))]) S dX2_count_31 hl rfl (by decide) rfl (fun ls hl => ?_)
          refine lv_goto (tgt := 5) S.1 S.2.1 dX2_count_34 (by decide) ?_
          have hs : tr_cnt (fun s => decide (s &&& ln = ln) && tr_isT n T A B s) (q + 1) = tr_cnt (fun s => decide (s &&& ln = ln) && tr_isT n T A B s) q + 1 := by
            simp [tr_cnt, c2, c3]
          exact ih (q + 1) N H locs ls (by omega) (by omega) I (by rw [hs]; exact lv_sub hl [0, 1, 2, 3, 4] rfl)
end TMC
set_option maxHeartbeats 4000000 in
set_option maxRecDepth 100000 in
theorem cM_count (l : Launch) (D : va_G) (ad : Nat → Nat) (da : Nat → ClassId) (n mk : Nat) (T : Nat → Bool) (A B N : Nat → Nat) (sz : Nat) (bd ln : Nat) (hn1 : 1 ≤ n) (hn : n ≤ 6) (hAB : ∀ k, k < 10 → A k < n ∧ B k < n) (hbd : bd ≤ 1024) (hln : ln < 1024) : tr_Meti l yX2_count cX2_count 5 ({ frames := 2, cells := 0, slots := 0, locals := 46 }) D (tr_Mt da) (tr_MW ad da n mk T A B N) sz [.ref (ad 0), .int (nI bd), .int (nI ln)] (fun r (_ : Nat → Nat) => r = nI (tr_cnt (fun s => decide (s &&& ln = ln) && tr_isT n T A B s) bd)) (fun N' => (tr_MW ad da n mk T A B N')) := by
  refine tr_enter (lv := [(0, .ref (ad 0)), (1, .int (nI bd)), (2, .int (nI ln))]) (by decide) (Nat.le_of_ble_eq_true rfl) rfl ?_
  intro p e s m below meth c ls hsz S hr hlk hK I hA hl
  refine tr_iconst 0 S dX2_count_0 (by decide) ?_
  refine lv_istore_n (lv' := [(3, .int (nI 0)), (0, .ref (ad 0)), (1, .int (nI bd)), (2, .int (nI ln))]) S.1 S.2.1 dX2_count_1 rfl hl (by decide) rfl (fun ls hl => ?_)
  refine tr_iconst 0 S dX2_count_2 (by decide) ?_
  refine lv_istore (lv' := [(4, .int (nI 0)), (3, .int (nI 0)), (0, .ref (ad 0)), (1, .int (nI bd)), (2, .int (nI ln))]) S.1 S.2.1 dX2_count_3 hl (by decide) rfl (fun ls hl => ?_)
  exact lM_count S hK hA hn1 hn hAB hbd hln (fun N H locs ls I => tr_iret S hr hlk hK N I rfl dX2_count_38) (bd + 1) 0 N s.heap [] ls (by omega) (by omega) I (lv_sub hl [0, 1, 4, 3, 2] rfl)
end
section
set_option maxHeartbeats 4000000 in
set_option maxRecDepth 100000 in
theorem cM_draw (l : Launch) (D : va_G) (ad : Nat → Nat) (da : Nat → ClassId) (n mk : Nat) (T : Nat → Bool) (A B N : Nat → Nat) (sz : Nat) (x a b : Int32) (hn : n ≤ 6) : tr_Meti l yX2_draw cX2_draw 4 ({ frames := 3, cells := 0, slots := 0, locals := 70 }) D (tr_Mt da) (tr_MW ad da n mk T A B N) sz [.ref (ad 0), .int x, .int a, .int b] (fun r (_ : Nat → Nat) => r = tr_dR n x a b) (fun N' => (tr_MW ad da n mk (tr_dT n T x a b) (tr_dE n A x a b a) (tr_dE n B x a b b) N')) := by
  refine tr_enter (lv := [(0, .ref (ad 0)), (1, .int x), (2, .int a), (3, .int b)]) (by decide) (Nat.le_of_ble_eq_true rfl) rfl ?_
  intro p e s m below meth c ls hsz S hr hlk hK I hA hl
  refine lv_iload_n S.1 S.2.1 dX2_draw_0 rfl (lv_at hl 1 rfl) ?_
  refine tr_calls (As := [.int x]) (rest := []) S I hA (fun U hW => va_K.moved hW.alike (hK.sub (tys' := []) [] rfl)) (cM_badLine l D s.heap.size x) (va_cwS 1 S.2.2.2.2 (lw_S q159 q160 q13 q161) rfl rfl rfl (by decide +kernel) ⟨Nat.le_of_ble_eq_true rfl, Nat.le_of_ble_eq_true rfl⟩) rfl hl.1 rfl (Nat.le_of_ble_eq_true rfl) dX2_draw_1 ⟨Nat.zero_le _, Nat.zero_le _⟩ (fun r H locs hr2 I => ?_)
  subst hr2
  refine tr_bif_ne 28 S dX2_draw_4 (by decide) (fun c1 => ?_) (fun c1 => ?_)
  · obtain ⟨e1, e2, e3, e4⟩ := tr_dk_no (T := T) (A := A) (B := B) (n := n) (x := x) (a := a) (b := b) (tr_dk_1 (tr_not_t c1))
    refine lv_iconst (v := -1) S.1 S.2.1 dX2_draw_28 (by decide) ?_
    exact tr_iret S hr hlk hK N (I.eq (by rw [e1, e2, e3])) e4.symm dX2_draw_29
  · refine lv_aload_n S.1 S.2.1 dX2_draw_7 rfl (lv_at hl 0 rfl) ?_
    refine lv_iload_n S.1 S.2.1 dX2_draw_8 rfl (lv_at hl 2 rfl) ?_
    refine tr_calli (C := RX2) (ci := 1) (As := [.int a]) (rest := []) rfl rfl rfl S hK I hA (cM_badPoint l D ad da n mk T A B N H.size a) (cwV 1 S.2.2.2.2 (lw_V q162 q164 qs7 q13 q165) rfl rfl rfl (by decide +kernel) ⟨Nat.le_of_ble_eq_true rfl, Nat.le_of_ble_eq_true rfl⟩) rfl hl.1 rfl (Nat.le_of_ble_eq_true rfl) dX2_draw_9 ⟨Nat.zero_le _, Nat.zero_le _⟩ (fun r _ H locs hr2 I => ?_)
    subst hr2
    refine tr_bif_ne 28 S dX2_draw_12 (by decide) (fun c2 => ?_) (fun c2 => ?_)
    · obtain ⟨e1, e2, e3, e4⟩ := tr_dk_no (T := T) (A := A) (B := B) (n := n) (x := x) (a := a) (b := b) (tr_dk_2 (tr_not_t c2))
      refine lv_iconst (v := -1) S.1 S.2.1 dX2_draw_28 (by decide) ?_
      exact tr_iret S hr hlk hK N (I.eq (by rw [e1, e2, e3])) e4.symm dX2_draw_29
    · refine lv_aload_n S.1 S.2.1 dX2_draw_15 rfl (lv_at hl 0 rfl) ?_
      refine lv_iload_n S.1 S.2.1 dX2_draw_16 rfl (lv_at hl 3 rfl) ?_
      refine tr_calli (C := RX2) (ci := 1) (As := [.int b]) (rest := []) rfl rfl rfl S hK I hA (cM_badPoint l D ad da n mk T A B N H.size b) (cwV 1 S.2.2.2.2 (lw_V q162 q164 qs7 q13 q165) rfl rfl rfl (by decide +kernel) ⟨Nat.le_of_ble_eq_true rfl, Nat.le_of_ble_eq_true rfl⟩) rfl hl.1 rfl (Nat.le_of_ble_eq_true rfl) dX2_draw_17 ⟨Nat.zero_le _, Nat.zero_le _⟩ (fun r _ H locs hr2 I => ?_)
      subst hr2
      refine tr_bif_ne 28 S dX2_draw_20 (by decide) (fun c3 => ?_) (fun c3 => ?_)
      · obtain ⟨e1, e2, e3, e4⟩ := tr_dk_no (T := T) (A := A) (B := B) (n := n) (x := x) (a := a) (b := b) (tr_dk_3 (tr_not_t c3))
        refine lv_iconst (v := -1) S.1 S.2.1 dX2_draw_28 (by decide) ?_
        exact tr_iret S hr hlk hK N (I.eq (by rw [e1, e2, e3])) e4.symm dX2_draw_29
      · refine lv_iload_n S.1 S.2.1 dX2_draw_23 rfl (lv_at hl 2 rfl) ?_
        refine lv_iload_n S.1 S.2.1 dX2_draw_24 rfl (lv_at hl 3 rfl) ?_
        refine lv_icmp_ne (tgt := 30) S.1 S.2.1 dX2_draw_25 (by decide) (fun c4 => ?_) (fun c4 => ?_)
        · have hdk := tr_dk_5 (tr_not_f c1) (tr_not_f c2) (tr_not_f c3) c4
          obtain ⟨i, hi, rfl⟩ := tr_isP_t (by omega) (tr_not_f c2)
          obtain ⟨j, hj, rfl⟩ := tr_isP_t (by omega) (tr_not_f c3)
          obtain ⟨k, hk, rfl⟩ := tr_isL_t (tr_not_f c1)
          obtain ⟨e1, e2, e3, e4⟩ := tr_dk_yes (T := T) (A := A) (B := B) hk (show i < 6 by omega) (show j < 6 by omega) hdk
          refine lv_aload_n S.1 S.2.1 dX2_draw_30 rfl (lv_at hl 0 rfl) ?_
          refine mg_there S hK I dX2_draw_31 ?_
          refine lv_iload_n S.1 S.2.1 dX2_draw_34 rfl (lv_at hl 1 rfl) ?_
          refine tr_iconst 1 S dX2_draw_35 (by decide) ?_
          refine tr_ti (y := tr_bI true) (by decide) ?_
          refine ms_T S hK I (by omega) dX2_draw_36 (fun H locs I => ?_)
          refine lv_aload_n S.1 S.2.1 dX2_draw_37 rfl (lv_at hl 0 rfl) ?_
          refine mg_from S hK I dX2_draw_38 ?_
          refine lv_iload_n S.1 S.2.1 dX2_draw_41 rfl (lv_at hl 1 rfl) ?_
          refine lv_iload_n S.1 S.2.1 dX2_draw_42 rfl (lv_at hl 2 rfl) ?_
          refine ms_A S hK I (by omega) dX2_draw_43 (fun H locs I => ?_)
          refine lv_aload_n S.1 S.2.1 dX2_draw_44 rfl (lv_at hl 0 rfl) ?_
          refine mg_to S hK I dX2_draw_45 ?_
          refine lv_iload_n S.1 S.2.1 dX2_draw_48 rfl (lv_at hl 1 rfl) ?_
          refine lv_iload_n S.1 S.2.1 dX2_draw_49 rfl (lv_at hl 3 rfl) ?_
          refine ms_B S hK I (by omega) dX2_draw_50 (fun H locs I => ?_)
          refine tr_iconst 0 S dX2_draw_51 (by decide) ?_
          exact tr_iret S hr hlk hK N (I.eq (by rw [e1, e2, e3])) e4.symm dX2_draw_52
        · obtain ⟨e1, e2, e3, e4⟩ := tr_dk_no (T := T) (A := A) (B := B) (n := n) (x := x) (a := a) (b := b) (tr_dk_4 c4)
          refine lv_iconst (v := -1) S.1 S.2.1 dX2_draw_28 (by decide) ?_
          exact tr_iret S hr hlk hK N (I.eq (by rw [e1, e2, e3])) e4.symm dX2_draw_29
set_option maxHeartbeats 4000000 in
set_option maxRecDepth 100000 in
theorem cM_cut (l : Launch) (D : va_G) (ad : Nat → Nat) (da : Nat → ClassId) (n mk : Nat) (T : Nat → Bool) (A B N : Nat → Nat) (sz : Nat) (x : Int32) : tr_Meti l yX2_cut cX2_cut 3 ({ frames := 3, cells := 0, slots := 0, locals := 70 }) D (tr_Mt da) (tr_MW ad da n mk T A B N) sz [.ref (ad 0), .int x] (fun r (_ : Nat → Nat) => r = tr_cR T x) (fun N' => (tr_MW ad da n mk (tr_cT T x) A B N')) := by
  refine tr_enter (lv := [(0, .ref (ad 0)), (1, .int x)]) (by decide) (Nat.le_of_ble_eq_true rfl) rfl ?_
  intro p e s m below meth c ls hsz S hr hlk hK I hA hl
  refine lv_iload_n S.1 S.2.1 dX2_cut_0 rfl (lv_at hl 1 rfl) ?_
  refine tr_calls (As := [.int x]) (rest := []) S I hA (fun U hW => va_K.moved hW.alike (hK.sub (tys' := []) [] rfl)) (cM_badLine l D s.heap.size x) (va_cwS 1 S.2.2.2.2 (lw_S q159 q160 q13 q161) rfl rfl rfl (by decide +kernel) ⟨Nat.le_of_ble_eq_true rfl, Nat.le_of_ble_eq_true rfl⟩) rfl hl.1 rfl (Nat.le_of_ble_eq_true rfl) dX2_cut_1 ⟨Nat.zero_le _, Nat.zero_le _⟩ (fun r H locs hr2 I => ?_)
  subst hr2
  refine tr_bif_eq 9 S dX2_cut_4 (by decide) (fun c1 => ?_) (fun c1 => ?_)
  · obtain ⟨k, hk, rfl⟩ := tr_isL_t (tr_not_f c1)
    obtain ⟨e1, e2, -, -⟩ := tr_cx_yes (T := T) (mk := mk) hk
    refine lv_aload_n S.1 S.2.1 dX2_cut_9 rfl (lv_at hl 0 rfl) ?_
    refine mg_there S hK I dX2_cut_10 ?_
    refine lv_iload_n S.1 S.2.1 dX2_cut_13 rfl (lv_at hl 1 rfl) ?_
    refine ml_T S hK I (by omega) dX2_cut_14 ?_
    refine tr_bif_eq 22 S dX2_cut_15 (by decide) (fun c2 => ?_) (fun c2 => ?_)
    · refine tr_iconst 0 S dX2_cut_22 (by decide) ?_
      refine lv_istore_n (lv' := [(2, .int (nI 0)), (0, .ref (ad 0)), (1, .int (nI k))]) S.1 S.2.1 dX2_cut_23 rfl hl (by decide) rfl (fun ls hl => ?_)
      refine lv_aload_n S.1 S.2.1 dX2_cut_24 rfl (lv_at hl 1 rfl) ?_
      refine mg_there S hK I dX2_cut_25 ?_
      refine lv_iload_n S.1 S.2.1 dX2_cut_28 rfl (lv_at hl 2 rfl) ?_
      refine tr_iconst 0 S dX2_cut_29 (by decide) ?_
      refine tr_ti (y := tr_bI false) (by decide) ?_
      refine ms_T S hK I (by omega) dX2_cut_30 (fun H locs I => ?_)
      refine lv_iload_n S.1 S.2.1 dX2_cut_31 rfl (lv_at hl 0 rfl) ?_
      exact tr_iret S hr hlk hK N (I.eq (by rw [e1])) (by rw [e2, c2] <;> decide) dX2_cut_32
    · refine tr_iconst 1 S dX2_cut_18 (by decide) ?_
      refine lv_goto (tgt := 23) S.1 S.2.1 dX2_cut_19 (by decide) ?_
      refine lv_istore_n (lv' := [(2, .int (nI 1)), (0, .ref (ad 0)), (1, .int (nI k))]) S.1 S.2.1 dX2_cut_23 rfl hl (by decide) rfl (fun ls hl => ?_)
      refine lv_aload_n S.1 S.2.1 dX2_cut_24 rfl (lv_at hl 1 rfl) ?_
      refine mg_there S hK I dX2_cut_25 ?_
      refine lv_iload_n S.1 S.2.1 dX2_cut_28 rfl (lv_at hl 2 rfl) ?_
      refine tr_iconst 0 S dX2_cut_29 (by decide) ?_
      refine tr_ti (y := tr_bI false) (by decide) ?_
      refine ms_T S hK I (by omega) dX2_cut_30 (fun H locs I => ?_)
      refine lv_iload_n S.1 S.2.1 dX2_cut_31 rfl (lv_at hl 0 rfl) ?_
      exact tr_iret S hr hlk hK N (I.eq (by rw [e1])) (by rw [e2, c2] <;> decide) dX2_cut_32
  · obtain ⟨e1, e2, -, -⟩ := tr_cx_no (T := T) (mk := mk) (tr_not_t c1)
    refine lv_iconst (v := -1) S.1 S.2.1 dX2_cut_7 (by decide) ?_
    exact tr_iret S hr hlk hK N (I.eq (by rw [e1])) e2.symm dX2_cut_8
set_option maxHeartbeats 4000000 in
set_option maxRecDepth 100000 in
theorem cM_mark (l : Launch) (D : va_G) (ad : Nat → Nat) (da : Nat → ClassId) (n mk : Nat) (T : Nat → Bool) (A B N : Nat → Nat) (sz : Nat) (x : Int32) (hmk : mk < 1024) : tr_Meti l yX2_mark cX2_mark 2 ({ frames := 3, cells := 0, slots := 0, locals := 70 }) D (tr_Mt da) (tr_MW ad da n mk T A B N) sz [.ref (ad 0), .int x] (fun r (_ : Nat → Nat) => r = tr_mR mk x) (fun N' => (tr_MW ad da n (tr_mK mk x) T A B N')) := by
  refine tr_enter (lv := [(0, .ref (ad 0)), (1, .int x)]) (by decide) (Nat.le_of_ble_eq_true rfl) rfl ?_
  intro p e s m below meth c ls hsz S hr hlk hK I hA hl
  refine lv_iload_n S.1 S.2.1 dX2_mark_0 rfl (lv_at hl 1 rfl) ?_
  refine tr_calls (As := [.int x]) (rest := []) S I hA (fun U hW => va_K.moved hW.alike (hK.sub (tys' := []) [] rfl)) (cM_badLine l D s.heap.size x) (va_cwS 1 S.2.2.2.2 (lw_S q159 q160 q13 q161) rfl rfl rfl (by decide +kernel) ⟨Nat.le_of_ble_eq_true rfl, Nat.le_of_ble_eq_true rfl⟩) rfl hl.1 rfl (Nat.le_of_ble_eq_true rfl) dX2_mark_1 ⟨Nat.zero_le _, Nat.zero_le _⟩ (fun r H locs hr2 I => ?_)
  subst hr2
  refine tr_bif_eq 9 S dX2_mark_4 (by decide) (fun c1 => ?_) (fun c1 => ?_)
  · have hlt := tr_mK_lt (x := x) hmk
    obtain ⟨k, hk, rfl⟩ := tr_isL_t (tr_not_f c1)
    obtain ⟨-, -, e1, e2⟩ := tr_cx_yes (T := T) (mk := mk) hk
    rw [e1] at hlt
    refine lv_aload_n S.1 S.2.1 dX2_mark_9 rfl (lv_at hl 0 rfl) ?_
    refine lv_dup S.1 S.2.1 dX2_mark_10 rfl ?_
    refine mg_marked S hK I dX2_mark_11 ?_
    refine tr_iconst 1 S dX2_mark_14 (by decide) ?_
    refine lv_iload_n S.1 S.2.1 dX2_mark_15 rfl (lv_at hl 1 rfl) ?_
    refine tr_ishl1 S (by omega) dX2_mark_16 ?_
    refine tr_ixor S dX2_mark_17 ?_
    refine mp_marked S hK I dX2_mark_18 (fun H locs I => ?_)
    refine lv_aload_n S.1 S.2.1 dX2_mark_21 rfl (lv_at hl 0 rfl) ?_
    refine mg_marked S hK I dX2_mark_22 ?_
    refine lv_iload_n S.1 S.2.1 dX2_mark_25 rfl (lv_at hl 1 rfl) ?_
    refine tr_ishr S (by omega) (by omega) dX2_mark_26 ?_
    refine tr_iconst 1 S dX2_mark_27 (by decide) ?_
    refine tr_iand1 S dX2_mark_28 ?_
    exact tr_iret S hr hlk hK N (I.eq (by rw [e1])) e2.symm dX2_mark_29
  · obtain ⟨-, -, e1, e2⟩ := tr_cx_no (T := T) (mk := mk) (tr_not_t c1)
    refine lv_iconst (v := -1) S.1 S.2.1 dX2_mark_7 (by decide) ?_
    exact tr_iret S hr hlk hK N (I.eq (by rw [e1])) e2.symm dX2_mark_8
set_option maxHeartbeats 4000000 in
set_option maxRecDepth 100000 in
theorem cM_trees (l : Launch) (D : va_G) (ad : Nat → Nat) (da : Nat → ClassId) (n mk : Nat) (T : Nat → Bool) (A B N : Nat → Nat) (sz : Nat) (hn1 : 1 ≤ n) (hn : n ≤ 6) (hAB : ∀ k, k < 10 → A k < n ∧ B k < n) : tr_Meti l yX2_trees cX2_trees 1 ({ frames := 3, cells := 0, slots := 0, locals := 70 }) D (tr_Mt da) (tr_MW ad da n mk T A B N) sz [.ref (ad 0)] (fun r (_ : Nat → Nat) => r = nI (tr_cP n T A B 0 0)) (fun N' => (tr_MW ad da n mk T A B N')) := by
  refine tr_enter (lv := [(0, .ref (ad 0))]) (by decide) (Nat.le_of_ble_eq_true rfl) rfl ?_
  intro p e s m below meth c ls hsz S hr hlk hK I hA hl
  refine lv_aload_n S.1 S.2.1 dX2_trees_0 rfl (lv_at hl 0 rfl) ?_
  refine tr_sipush 1024 S dX2_trees_1 (by decide) ?_
  refine tr_iconst 0 S dX2_trees_4 (by decide) ?_
  refine tr_calli (C := RX2) (ci := 1) (As := [.int (nI 1024), .int (nI 0)]) (rest := []) rfl rfl rfl S hK I hA (cM_count l D ad da n mk T A B N s.heap.size 1024 0 hn1 hn hAB (by decide) (by decide)) (cwV 2 S.2.2.2.2 (lw_V q174 q176 qs8 q13 q177) rfl rfl rfl (by decide +kernel) ⟨Nat.le_of_ble_eq_true rfl, Nat.le_of_ble_eq_true rfl⟩) rfl hl.1 rfl (Nat.le_of_ble_eq_true rfl) dX2_trees_5 ⟨Nat.zero_le _, Nat.zero_le _⟩ (fun r N H locs hr2 I => ?_)
  subst hr2
  exact tr_iret S hr hlk hK N I (by rw [tr_cP_0]) dX2_trees_8
set_option maxHeartbeats 4000000 in
set_option maxRecDepth 100000 in
theorem cM_treesWith (l : Launch) (D : va_G) (ad : Nat → Nat) (da : Nat → ClassId) (n mk : Nat) (T : Nat → Bool) (A B N : Nat → Nat) (sz : Nat) (x : Int32) (hn1 : 1 ≤ n) (hn : n ≤ 6) (hAB : ∀ k, k < 10 → A k < n ∧ B k < n) : tr_Meti l yX2_treesWith cX2_treesWith 2 ({ frames := 3, cells := 0, slots := 0, locals := 70 }) D (tr_Mt da) (tr_MW ad da n mk T A B N) sz [.ref (ad 0), .int x] (fun r (_ : Nat → Nat) => r = tr_aW n T A B x) (fun N' => (tr_MW ad da n mk T A B N')) := by
  refine tr_enter (lv := [(0, .ref (ad 0)), (1, .int x)]) (by decide) (Nat.le_of_ble_eq_true rfl) rfl ?_
  intro p e s m below meth c ls hsz S hr hlk hK I hA hl
  refine lv_iload_n S.1 S.2.1 dX2_treesWith_0 rfl (lv_at hl 1 rfl) ?_
  refine tr_calls (As := [.int x]) (rest := []) S I hA (fun U hW => va_K.moved hW.alike (hK.sub (tys' := []) [] rfl)) (cM_badLine l D s.heap.size x) (va_cwS 1 S.2.2.2.2 (lw_S q159 q160 q13 q161) rfl rfl rfl (by decide +kernel) ⟨Nat.le_of_ble_eq_true rfl, Nat.le_of_ble_eq_true rfl⟩) rfl hl.1 rfl (Nat.le_of_ble_eq_true rfl) dX2_treesWith_1 ⟨Nat.zero_le _, Nat.zero_le _⟩ (fun r H locs hr2 I => ?_)
  subst hr2
  refine tr_bif_eq 11 S dX2_treesWith_4 (by decide) (fun c1 => ?_) (fun c1 => ?_)
  · obtain ⟨k, hk, rfl⟩ := tr_isL_t (tr_not_f c1)
    refine lv_aload_n S.1 S.2.1 dX2_treesWith_11 rfl (lv_at hl 0 rfl) ?_
    refine tr_sipush 1024 S dX2_treesWith_12 (by decide) ?_
    refine tr_iconst 1 S dX2_treesWith_15 (by decide) ?_
    refine lv_iload_n S.1 S.2.1 dX2_treesWith_16 rfl (lv_at hl 1 rfl) ?_
    refine tr_ishl1 S (by omega) dX2_treesWith_17 ?_
    refine tr_calli (C := RX2) (ci := 1) (As := [.int (nI 1024), .int (nI (2 ^ k))]) (rest := []) rfl rfl rfl S hK I hA (cM_count l D ad da n mk T A B N H.size 1024 (2 ^ k) hn1 hn hAB (by decide) (tr_2k hk)) (cwV 2 S.2.2.2.2 (lw_V q174 q176 qs8 q13 q177) rfl rfl rfl (by decide +kernel) ⟨Nat.le_of_ble_eq_true rfl, Nat.le_of_ble_eq_true rfl⟩) rfl hl.1 rfl (Nat.le_of_ble_eq_true rfl) dX2_treesWith_18 ⟨Nat.zero_le _, Nat.zero_le _⟩ (fun r N H locs hr2 I => ?_)
    subst hr2
    exact tr_iret S hr hlk hK N I (by rw [tr_aW_yes hk, tr_cP_0]) dX2_treesWith_21
  · refine lv_iconst (v := -1) S.1 S.2.1 dX2_treesWith_7 (by decide) ?_
    refine lv_goto (tgt := 21) S.1 S.2.1 dX2_treesWith_8 (by decide) ?_
    exact tr_iret S hr hlk hK N I (tr_aW_no (tr_not_t c1)).symm dX2_treesWith_21
set_option maxHeartbeats 4000000 in
set_option maxRecDepth 100000 in
theorem cM_treesWithBoth (l : Launch) (D : va_G) (ad : Nat → Nat) (da : Nat → ClassId) (n mk : Nat) (T : Nat → Bool) (A B N : Nat → Nat) (sz : Nat) (x y : Int32) (hn1 : 1 ≤ n) (hn : n ≤ 6) (hAB : ∀ k, k < 10 → A k < n ∧ B k < n) : tr_Meti l yX2_treesWithBoth cX2_treesWithBoth 3 ({ frames := 3, cells := 0, slots := 0, locals := 70 }) D (tr_Mt da) (tr_MW ad da n mk T A B N) sz [.ref (ad 0), .int x, .int y] (fun r (_ : Nat → Nat) => r = tr_aB n T A B x y) (fun N' => (tr_MW ad da n mk T A B N')) := by
  refine tr_enter (lv := [(0, .ref (ad 0)), (1, .int x), (2, .int y)]) (by decide) (Nat.le_of_ble_eq_true rfl) rfl ?_
  intro p e s m below meth c ls hsz S hr hlk hK I hA hl
  refine lv_iload_n S.1 S.2.1 dX2_treesWithBoth_0 rfl (lv_at hl 1 rfl) ?_
  refine tr_calls (As := [.int x]) (rest := []) S I hA (fun U hW => va_K.moved hW.alike (hK.sub (tys' := []) [] rfl)) (cM_badLine l D s.heap.size x) (va_cwS 1 S.2.2.2.2 (lw_S q159 q160 q13 q161) rfl rfl rfl (by decide +kernel) ⟨Nat.le_of_ble_eq_true rfl, Nat.le_of_ble_eq_true rfl⟩) rfl hl.1 rfl (Nat.le_of_ble_eq_true rfl) dX2_treesWithBoth_1 ⟨Nat.zero_le _, Nat.zero_le _⟩ (fun r H locs hr2 I => ?_)
  subst hr2
  refine tr_bif_ne 14 S dX2_treesWithBoth_4 (by decide) (fun c1 => ?_) (fun c1 => ?_)
  · refine lv_iconst (v := -1) S.1 S.2.1 dX2_treesWithBoth_14 (by decide) ?_
    refine lv_goto (tgt := 32) S.1 S.2.1 dX2_treesWithBoth_15 (by decide) ?_
    exact tr_iret S hr hlk hK N I (tr_aB_no (Or.inl (tr_not_t c1))).symm dX2_treesWithBoth_32
  · refine lv_iload_n S.1 S.2.1 dX2_treesWithBoth_7 rfl (lv_at hl 2 rfl) ?_
    refine tr_calls (As := [.int y]) (rest := []) S I hA (fun U hW => va_K.moved hW.alike (hK.sub (tys' := []) [] rfl)) (cM_badLine l D H.size y) (va_cwS 1 S.2.2.2.2 (lw_S q159 q160 q13 q161) rfl rfl rfl (by decide +kernel) ⟨Nat.le_of_ble_eq_true rfl, Nat.le_of_ble_eq_true rfl⟩) rfl hl.1 rfl (Nat.le_of_ble_eq_true rfl) dX2_treesWithBoth_8 ⟨Nat.zero_le _, Nat.zero_le _⟩ (fun r H locs hr2 I => ?_)
    subst hr2
    refine tr_bif_eq 18 S dX2_treesWithBoth_11 (by decide) (fun c2 => ?_) (fun c2 => ?_)
    · obtain ⟨k, hk, rfl⟩ := tr_isL_t (tr_not_f c1)
      obtain ⟨j, hj, rfl⟩ := tr_isL_t (tr_not_f c2)
      refine lv_aload_n S.1 S.2.1 dX2_treesWithBoth_18 rfl (lv_at hl 0 rfl) ?_
      refine tr_sipush 1024 S dX2_treesWithBoth_19 (by decide) ?_
      refine tr_iconst 1 S dX2_treesWithBoth_22 (by decide) ?_
      refine lv_iload_n S.1 S.2.1 dX2_treesWithBoth_23 rfl (lv_at hl 1 rfl) ?_
      refine tr_ishl1 S (by omega) dX2_treesWithBoth_24 ?_
      refine tr_iconst 1 S dX2_treesWithBoth_25 (by decide) ?_
      refine lv_iload_n S.1 S.2.1 dX2_treesWithBoth_26 rfl (lv_at hl 2 rfl) ?_
      refine tr_ishl1 S (by omega) dX2_treesWithBoth_27 ?_
      refine tr_ior S dX2_treesWithBoth_28 ?_
      refine tr_calli (C := RX2) (ci := 1) (As := [.int (nI 1024), .int (nI ((2 ^ k) ||| (2 ^ j)))]) (rest := []) rfl rfl rfl S hK I hA (cM_count l D ad da n mk T A B N H.size 1024 (2 ^ k ||| 2 ^ j) hn1 hn hAB (by decide) (tr_or_lt (tr_2k hk) hj)) (cwV 2 S.2.2.2.2 (lw_V q174 q176 qs8 q13 q177) rfl rfl rfl (by decide +kernel) ⟨Nat.le_of_ble_eq_true rfl, Nat.le_of_ble_eq_true rfl⟩) rfl hl.1 rfl (Nat.le_of_ble_eq_true rfl) dX2_treesWithBoth_29 ⟨Nat.zero_le _, Nat.zero_le _⟩ (fun r N H locs hr2 I => ?_)
      subst hr2
      exact tr_iret S hr hlk hK N I (by rw [tr_aB_yes hk hj, tr_cP_0]) dX2_treesWithBoth_32
    · refine lv_iconst (v := -1) S.1 S.2.1 dX2_treesWithBoth_14 (by decide) ?_
      refine lv_goto (tgt := 32) S.1 S.2.1 dX2_treesWithBoth_15 (by decide) ?_
      exact tr_iret S hr hlk hK N I (tr_aB_no (Or.inr (tr_not_t c2))).symm dX2_treesWithBoth_32
set_option maxHeartbeats 4000000 in
set_option maxRecDepth 100000 in
theorem cM_rank (l : Launch) (D : va_G) (ad : Nat → Nat) (da : Nat → ClassId) (n mk : Nat) (T : Nat → Bool) (A B N : Nat → Nat) (sz : Nat) (hn1 : 1 ≤ n) (hn : n ≤ 6) (hAB : ∀ k, k < 10 → A k < n ∧ B k < n) (hmk : mk < 1024) : tr_Meti l yX2_rank cX2_rank 1 ({ frames := 3, cells := 0, slots := 0, locals := 70 }) D (tr_Mt da) (tr_MW ad da n mk T A B N) sz [.ref (ad 0)] (fun r (_ : Nat → Nat) => r = tr_aR n T A B mk) (fun N' => (tr_MW ad da n mk T A B N')) := by
  refine tr_enter (lv := [(0, .ref (ad 0))]) (by decide) (Nat.le_of_ble_eq_true rfl) rfl ?_
  intro p e s m below meth c ls hsz S hr hlk hK I hA hl
  refine lv_aload_n S.1 S.2.1 dX2_rank_0 rfl (lv_at hl 0 rfl) ?_
  refine lv_aload_n S.1 S.2.1 dX2_rank_1 rfl (lv_at hl 0 rfl) ?_
  refine mg_marked S hK I dX2_rank_2 ?_
  refine tr_calli (C := RX2) (ci := 1) (As := [.int (nI mk)]) (rest := []) rfl rfl rfl S hK I hA (cM_isTree l D ad da n mk T A B N s.heap.size mk hn1 hn hAB hmk) (cwV 1 S.2.2.2.2 (lw_V q178 q180 qs9 q13 q181) rfl rfl rfl (by decide +kernel) ⟨Nat.le_of_ble_eq_true rfl, Nat.le_of_ble_eq_true rfl⟩) rfl hl.1 rfl (Nat.le_of_ble_eq_true rfl) dX2_rank_5 ⟨Nat.zero_le _, Nat.zero_le _⟩ (fun r N H locs hr2 I => ?_)
  subst hr2
  refine tr_bif_eq 23 S dX2_rank_8 (by decide) (fun c1 => ?_) (fun c1 => ?_)
  · refine lv_iconst (v := -1) S.1 S.2.1 dX2_rank_23 (by decide) ?_
    exact tr_iret S hr hlk hK N I (tr_aR_no c1).symm dX2_rank_24
  · refine lv_aload_n S.1 S.2.1 dX2_rank_11 rfl (lv_at hl 0 rfl) ?_
    refine lv_aload_n S.1 S.2.1 dX2_rank_12 rfl (lv_at hl 0 rfl) ?_
    refine mg_marked S hK I dX2_rank_13 ?_
    refine tr_iconst 0 S dX2_rank_16 (by decide) ?_
    refine tr_calli (C := RX2) (ci := 1) (As := [.int (nI mk), .int (nI 0)]) (rest := []) rfl rfl rfl S hK I hA (cM_count l D ad da n mk T A B N H.size mk 0 hn1 hn hAB (by omega) (by decide)) (cwV 2 S.2.2.2.2 (lw_V q174 q176 qs8 q13 q177) rfl rfl rfl (by decide +kernel) ⟨Nat.le_of_ble_eq_true rfl, Nat.le_of_ble_eq_true rfl⟩) rfl hl.1 rfl (Nat.le_of_ble_eq_true rfl) dX2_rank_17 ⟨Nat.zero_le _, Nat.zero_le _⟩ (fun r N H locs hr2 I => ?_)
    subst hr2
    refine lv_goto (tgt := 24) S.1 S.2.1 dX2_rank_20 (by decide) ?_
    exact tr_iret S hr hlk hK N I (by rw [tr_aR_yes c1, tr_cnt_b0]) dX2_rank_24
set_option maxHeartbeats 4000000 in
set_option maxRecDepth 100000 in
theorem cM_below (l : Launch) (D : va_G) (ad : Nat → Nat) (da : Nat → ClassId) (n mk : Nat) (T : Nat → Bool) (A B N : Nat → Nat) (sz : Nat) (hn1 : 1 ≤ n) (hn : n ≤ 6) (hAB : ∀ k, k < 10 → A k < n ∧ B k < n) (hmk : mk < 1024) : tr_Meti l yX2_below cX2_below 1 ({ frames := 3, cells := 0, slots := 0, locals := 70 }) D (tr_Mt da) (tr_MW ad da n mk T A B N) sz [.ref (ad 0)] (fun r (_ : Nat → Nat) => r = nI (tr_cnt (tr_isT n T A B) mk)) (fun N' => (tr_MW ad da n mk T A B N')) := by
  refine tr_enter (lv := [(0, .ref (ad 0))]) (by decide) (Nat.le_of_ble_eq_true rfl) rfl ?_
  intro p e s m below meth c ls hsz S hr hlk hK I hA hl
  refine lv_aload_n S.1 S.2.1 dX2_below_0 rfl (lv_at hl 0 rfl) ?_
  refine lv_aload_n S.1 S.2.1 dX2_below_1 rfl (lv_at hl 0 rfl) ?_
  refine mg_marked S hK I dX2_below_2 ?_
  refine tr_iconst 0 S dX2_below_5 (by decide) ?_
  refine tr_calli (C := RX2) (ci := 1) (As := [.int (nI mk), .int (nI 0)]) (rest := []) rfl rfl rfl S hK I hA (cM_count l D ad da n mk T A B N s.heap.size mk 0 hn1 hn hAB (by omega) (by decide)) (cwV 2 S.2.2.2.2 (lw_V q174 q176 qs8 q13 q177) rfl rfl rfl (by decide +kernel) ⟨Nat.le_of_ble_eq_true rfl, Nat.le_of_ble_eq_true rfl⟩) rfl hl.1 rfl (Nat.le_of_ble_eq_true rfl) dX2_below_6 ⟨Nat.zero_le _, Nat.zero_le _⟩ (fun r N H locs hr2 I => ?_)
  subst hr2
  exact tr_iret S hr hlk hK N I (by rw [tr_cnt_b0]) dX2_below_9
set_option maxHeartbeats 4000000 in
set_option maxRecDepth 100000 in
theorem cM_extensions (l : Launch) (D : va_G) (ad : Nat → Nat) (da : Nat → ClassId) (n mk : Nat) (T : Nat → Bool) (A B N : Nat → Nat) (sz : Nat) (hn1 : 1 ≤ n) (hn : n ≤ 6) (hAB : ∀ k, k < 10 → A k < n ∧ B k < n) (hmk : mk < 1024) : tr_Meti l yX2_extensions cX2_extensions 1 ({ frames := 3, cells := 0, slots := 0, locals := 70 }) D (tr_Mt da) (tr_MW ad da n mk T A B N) sz [.ref (ad 0)] (fun r (_ : Nat → Nat) => r = nI (tr_cP n T A B mk 0)) (fun N' => (tr_MW ad da n mk T A B N')) := by
  refine tr_enter (lv := [(0, .ref (ad 0))]) (by decide) (Nat.le_of_ble_eq_true rfl) rfl ?_
  intro p e s m below meth c ls hsz S hr hlk hK I hA hl
  refine lv_aload_n S.1 S.2.1 dX2_extensions_0 rfl (lv_at hl 0 rfl) ?_
  refine tr_sipush 1024 S dX2_extensions_1 (by decide) ?_
  refine lv_aload_n S.1 S.2.1 dX2_extensions_4 rfl (lv_at hl 0 rfl) ?_
  refine mg_marked S hK I dX2_extensions_5 ?_
  refine tr_calli (C := RX2) (ci := 1) (As := [.int (nI 1024), .int (nI mk)]) (rest := []) rfl rfl rfl S hK I hA (cM_count l D ad da n mk T A B N s.heap.size 1024 mk hn1 hn hAB (by decide) hmk) (cwV 2 S.2.2.2.2 (lw_V q174 q176 qs8 q13 q177) rfl rfl rfl (by decide +kernel) ⟨Nat.le_of_ble_eq_true rfl, Nat.le_of_ble_eq_true rfl⟩) rfl hl.1 rfl (Nat.le_of_ble_eq_true rfl) dX2_extensions_8 ⟨Nat.zero_le _, Nat.zero_le _⟩ (fun r N H locs hr2 I => ?_)
  subst hr2
  exact tr_iret S hr hlk hK N I (by rw [tr_cP_0]) dX2_extensions_11
end
section
section TMT
variable {p : Program} {l : Launch} {e : Env} {s : State} {m : MethodId} {args : Array Value} {below : List Frame} {meth : Method} {c : Code} {Q : State → Prop} {D : va_G} {A0 : Nat → Prop} {ad : Nat → Nat} {da : Nat → ClassId} {n mk : Nat} {T : Nat → Bool} {A B N : Nat → Nat}
set_option maxHeartbeats 4000000 in
set_option maxRecDepth 100000 in
theorem lM_tree {rank : Int32} (S : CallFix p m c cX2_tree 4 s args lw_all RX2) (hK : va_K D tr_Cl (tr_Mt da) s) (hA : ∀ q : Nat, s.heap.size ≤ q → A0 q) (hn1 : 1 ≤ n) (hn : n ≤ 6) (hAB : ∀ k, k < 10 → A k < n ∧ B k < n)
    (k25 : ∀ (q : Nat) (N : Nat → Nat) (H : Heap) (locs : List Loc) (ls : Array Slot), tr_Tree (tr_isT n T A B) rank (nI q) → tr_I s A0 D (tr_MW ad da n mk T A B N) H locs → W p l e ({ frames := 3, cells := 0, slots := 0, locals := 70 }) s m args below meth c H locs 0 0 Q (F0 m 25 ls [.int (nI q)]))
    (k35 : ∀ (N : Nat → Nat) (H : Heap) (locs : List Loc) (ls : Array Slot), tr_Tree (tr_isT n T A B) rank (-1) → tr_I s A0 D (tr_MW ad da n mk T A B N) H locs → W p l e ({ frames := 3, cells := 0, slots := 0, locals := 70 }) s m args below meth c H locs 0 0 Q (F0 m 35 ls [])) :
    ∀ (f q : Nat) (N : Nat → Nat) (H : Heap) (locs : List Loc) (ls : Array Slot), q ≤ 1024 → 1025 ≤ q + f → (∀ s, s < q → tr_isT n T A B s = true → nI (tr_cnt (tr_isT n T A B) s) ≠ rank) → tr_I s A0 D (tr_MW ad da n mk T A B N) H locs → lv_has ls 4 [(3, .int (nI q)), (2, .int (nI (tr_cnt (tr_isT n T A B) q))), (1, .int rank), (0, .ref (ad 0))] → W p l e ({ frames := 3, cells := 0, slots := 0, locals := 70 }) s m args below meth c H locs 0 0 Q (F0 m 4 ls []) := by
  intro f
  induction f with
  | zero => intro q N H locs ls h1 h2; exact absurd h2 (by omega)
  | succ f ih =>
    intro q N H locs ls h1 h2 hn0 I hl
    refine lv_iload_n S.1 S.2.1 dX2_tree_4 rfl (lv_at hl 0 rfl) ?_
    refine tr_sipush 1024 S dX2_tree_5 (by decide) ?_
    refine tr_icmp_ge 35 S dX2_tree_8 (by decide) (by omega) (by omega) (fun c1 => ?_) (fun c1 => ?_)
    · exact k35 N H locs ls (Or.inr ⟨fun s hs hp => hn0 s (by omega) hp, rfl⟩) I
    · refine lv_aload_n S.1 S.2.1 dX2_tree_11 rfl (lv_at hl 3 rfl) ?_
      refine lv_iload_n S.1 S.2.1 dX2_tree_12 rfl (lv_at hl 0 rfl) ?_
      refine tr_calli (C := RX2) (ci := 1) (As := [.int (nI q)]) (rest := []) rfl rfl rfl S hK I hA (cM_isTree l D ad da n mk T A B N H.size q hn1 hn hAB (by omega)) (cwV 1 S.2.2.2.2 (lw_V q178 q180 qs9 q13 q181) rfl rfl rfl (by decide +kernel) ⟨Nat.le_of_ble_eq_true rfl, Nat.le_of_ble_eq_true rfl⟩) rfl hl.1 rfl (Nat.le_of_ble_eq_true rfl) dX2_tree_13 ⟨Nat.zero_le _, Nat.zero_le _⟩ (fun r N H locs hr2 I => ?_)
      subst hr2
      refine tr_bif_eq 29 S dX2_tree_16 (by decide) (fun c2 => ?_) (fun c2 => ?_)
      · refine tr_iinc (k := 0) (lv' := [(3, .int (nI (q + 1))), (2, .int (nI (tr_cnt (tr_isT n T A B) q))), (1, .int rank), (0, .ref (ad 0))]) S dX2_tree_29 hl rfl (by decide) rfl (fun ls hl => ?_)
        refine lv_goto (tgt := 4) S.1 S.2.1 dX2_tree_32 (by decide) ?_
        have hs : tr_cnt (tr_isT n T A B) (q + 1) = tr_cnt (tr_isT n T A B) q := by
          simp [tr_cnt, c2]
        exact ih (q + 1) N H locs ls (by omega) (by omega) (fun s hs2 hp => by
          by_cases h : s = q
          · rw [h, c2] at hp; cases hp
          · exact hn0 s (by omega) hp) I (by rw [hs]; exact lv_sub hl [0, 1, 2, 3] rfl)
      · refine lv_iload_n S.1 S.2.1 dX2_tree_19 rfl (lv_at hl 1 rfl) ?_
        refine lv_iload_n S.1 S.2.1 dX2_tree_20 rfl (lv_at hl 2 rfl) ?_
        refine lv_icmp_ne (tgt := 26) S.1 S.2.1 dX2_tree_21 (by decide) (fun c3 => ?_) (fun c3 => ?_)
        · refine tr_iinc (k := 1) (lv' := [(2, .int (nI ((tr_cnt (tr_isT n T A B) q) + 1))), (3, .int (nI q)), (1, .int rank), (0, .ref (ad 0))]) S dX2_tree_26 hl rfl (by decide) rfl (fun ls hl => ?_)
          refine tr_iinc (k := 1) (lv' := [(3, .int (nI (q + 1))), (2, .int (nI ((tr_cnt (tr_isT n T A B) q) + 1))), (1, .int rank), (0, .ref (ad 0))]) S dX2_tree_29 hl rfl (by decide) rfl (fun ls hl => ?_)
          refine lv_goto (tgt := 4) S.1 S.2.1 dX2_tree_32 (by decide) ?_
          have hs : tr_cnt (tr_isT n T A B) (q + 1) = tr_cnt (tr_isT n T A B) q + 1 := by
            simp [tr_cnt, c2]
          exact ih (q + 1) N H locs ls (by omega) (by omega) (fun s hs2 hp => by
            by_cases h : s = q
            · rw [h]; exact c3
            · exact hn0 s (by omega) hp) I (by rw [hs]; exact lv_sub hl [0, 1, 2, 3] rfl)
        · refine lv_iload_n S.1 S.2.1 dX2_tree_24 rfl (lv_at hl 0 rfl) ?_
          exact k25 q N H locs ls (Or.inl ⟨q, by omega, c2, c3, rfl⟩) I
end TMT
set_option maxHeartbeats 4000000 in
set_option maxRecDepth 100000 in
theorem cM_tree (l : Launch) (D : va_G) (ad : Nat → Nat) (da : Nat → ClassId) (n mk : Nat) (T : Nat → Bool) (A B N : Nat → Nat) (sz : Nat) (rank : Int32) (hn1 : 1 ≤ n) (hn : n ≤ 6) (hAB : ∀ k, k < 10 → A k < n ∧ B k < n) : tr_Meti l yX2_tree cX2_tree 4 ({ frames := 3, cells := 0, slots := 0, locals := 70 }) D (tr_Mt da) (tr_MW ad da n mk T A B N) sz [.ref (ad 0), .int rank] (fun r (_ : Nat → Nat) => tr_Tree (tr_isT n T A B) rank r) (fun N' => (tr_MW ad da n mk T A B N')) := by
  refine tr_enter (lv := [(0, .ref (ad 0)), (1, .int rank)]) (by decide) (Nat.le_of_ble_eq_true rfl) rfl ?_
  intro p e s m below meth c ls hsz S hr hlk hK I hA hl
  refine tr_iconst 0 S dX2_tree_0 (by decide) ?_
  refine lv_istore_n (lv' := [(2, .int (nI 0)), (0, .ref (ad 0)), (1, .int rank)]) S.1 S.2.1 dX2_tree_1 rfl hl (by decide) rfl (fun ls hl => ?_)
  refine tr_iconst 0 S dX2_tree_2 (by decide) ?_
  refine lv_istore_n (lv' := [(3, .int (nI 0)), (2, .int (nI 0)), (0, .ref (ad 0)), (1, .int rank)]) S.1 S.2.1 dX2_tree_3 rfl hl (by decide) rfl (fun ls hl => ?_)
  refine lM_tree S hK hA hn1 hn hAB (fun q N H locs ls h I => tr_iret S hr hlk hK N I h dX2_tree_25) (fun N H locs ls h I => ?_) 1025 0 N s.heap [] ls (by omega) (by omega) (fun s h => absurd h (by omega)) I (lv_sub hl [0, 1, 3, 2] rfl)
  refine lv_iconst (v := -1) S.1 S.2.1 dX2_tree_35 (by decide) ?_
  exact tr_iret S hr hlk hK N I h dX2_tree_36
end
section
/-- the lines so far -/
def tr_LnI (T : Nat → Bool) (mk k a : Nat) : Prop := a < 2 ^ k ∧ a + 2 ^ k * tr_ln T (tr_lf k) (mk / 2 ^ k) = tr_ln T (tr_lf 0) mk
theorem tr_LnI_0 (T : Nat → Bool) (mk : Nat) : tr_LnI T mk 0 0 := ⟨by decide, by rw [Nat.pow_zero, Nat.div_one, Nat.zero_add, Nat.one_mul]⟩
theorem tr_LnI_end {T : Nat → Bool} {mk a : Nat} (h : tr_LnI T mk 10 a) : a = tr_ln T (tr_lf 0) mk := by
  rw [← h.2, tr_lf_10]
  simp [tr_ln]
theorem tr_LnI_out {T : Nat → Bool} {k mk a : Nat} (hk : k < 10) (h : tr_LnI T mk k a) (c : ¬ (T k = true ∧ mk / 2 ^ k % 2 = 1)) : tr_LnI T mk (k + 1) a := by
  obtain ⟨ha, h⟩ := h
  have hs := tr_ln_s (T := T) (k := k) (t := mk) hk
  rw [if_neg c, Nat.zero_add] at hs
  rw [hs] at h
  unfold tr_LnI
  generalize tr_ln T (tr_lf 0) mk = tot at h ⊢
  generalize tr_ln T (tr_lf (k + 1)) (mk / 2 ^ (k + 1)) = y at h ⊢
  have hp2 : 2 ^ (k + 1) = 2 ^ k * 2 := Nat.pow_succ 2 k
  rw [hp2, Nat.mul_assoc]
  generalize 2 ^ k * (2 * y) = z at h ⊢
  omega
theorem tr_LnI_in {T : Nat → Bool} {k mk a : Nat} (hk : k < 10) (h : tr_LnI T mk k a) (c2 : T k = true) (c3 : mk / 2 ^ k % 2 = 1) : tr_LnI T mk (k + 1) (a ||| 2 ^ k) := by
  obtain ⟨ha, h⟩ := h
  have hs := tr_ln_s (T := T) (k := k) (t := mk) hk
  rw [if_pos ⟨c2, c3⟩] at hs
  have hor : a ||| 2 ^ k = 2 ^ k + a := by
    have h := Nat.two_pow_add_eq_or_of_lt ha 1
    rw [Nat.mul_one] at h
    rw [h, Nat.or_comm]
  rw [hs, Nat.mul_add, Nat.mul_one] at h
  unfold tr_LnI
  rw [hor]
  generalize tr_ln T (tr_lf 0) mk = tot at h ⊢
  generalize tr_ln T (tr_lf (k + 1)) (mk / 2 ^ (k + 1)) = y at h ⊢
  have hp2 : 2 ^ (k + 1) = 2 ^ k * 2 := Nat.pow_succ 2 k
  rw [hp2, Nat.mul_assoc]
  generalize 2 ^ k * (2 * y) = z at h ⊢
  omega
section TMS
variable {p : Program} {l : Launch} {e : Env} {s : State} {m : MethodId} {args : Array Value} {below : List Frame} {meth : Method} {c : Code} {Q : State → Prop} {D : va_G} {A0 : Nat → Prop} {ad : Nat → Nat} {da : Nat → ClassId} {n mk : Nat} {T : Nat → Bool} {A B N : Nat → Nat}
set_option maxHeartbeats 4000000 in
set_option maxRecDepth 100000 in
theorem lM_lines (S : CallFix p m c cX2_surplus 5 s args lw_all RX2) (hK : va_K D tr_Cl (tr_Mt da) s) (hmk : mk < 1024)
    (kk : ∀ (H : Heap) (locs : List Loc) (ls : Array Slot), tr_I s A0 D (tr_MW ad da n mk T A B N) H locs → lv_has ls 5 [(1, .int (nI (tr_ln T (tr_lf 0) mk))), (0, .ref (ad 0))] → W p l e ({ frames := 3, cells := 0, slots := 0, locals := 70 }) s m args below meth c H locs 0 0 Q (F0 m 43 ls [])) :
    ∀ (f k a : Nat) (H : Heap) (locs : List Loc) (ls : Array Slot), k ≤ 10 → 11 ≤ k + f → tr_LnI T mk k a → tr_I s A0 D (tr_MW ad da n mk T A B N) H locs → lv_has ls 5 [(2, .int (nI k)), (1, .int (nI a)), (0, .ref (ad 0))] → W p l e ({ frames := 3, cells := 0, slots := 0, locals := 70 }) s m args below meth c H locs 0 0 Q (F0 m 4 ls []) := by
  intro f
  induction f with
  | zero => intro k a H locs ls h1 h2; exact absurd h2 (by omega)
  | succ f ih =>
    intro k a H locs ls h1 h2 hS I hl
    have hmk2 : mk / 2 ^ k < 1024 := tr_dvlt hmk
    refine lv_iload_n S.1 S.2.1 dX2_surplus_4 rfl (lv_at hl 0 rfl) ?_
    refine tr_bipush 10 S dX2_surplus_5 (by decide) ?_
    refine tr_icmp_ge 43 S dX2_surplus_7 (by decide) (by omega) (by omega) (fun c1 => ?_) (fun c1 => ?_)
    · have hk : k = 10 := by omega
      subst hk
      have hS := tr_LnI_end hS
      subst hS
      exact kk H locs ls I (lv_sub hl [1, 2] rfl)
    · have hk10 : k < 10 := by omega
      refine lv_aload_n S.1 S.2.1 dX2_surplus_10 rfl (lv_at hl 2 rfl) ?_
      refine mg_there S hK I dX2_surplus_11 ?_
      refine lv_iload_n S.1 S.2.1 dX2_surplus_14 rfl (lv_at hl 0 rfl) ?_
      refine ml_T S hK I (by omega) dX2_surplus_15 ?_
      refine tr_bif_eq 37 S dX2_surplus_16 (by decide) (fun c2 => ?_) (fun c2 => ?_)
      · refine tr_iinc (k := 0) (lv' := [(2, .int (nI (k + 1))), (1, .int (nI a)), (0, .ref (ad 0))]) S dX2_surplus_37 hl rfl (by decide) rfl (fun ls hl => ?_)
        refine lv_goto (tgt := 4) S.1 S.2.1 dX2_surplus_40 (by decide) ?_
        exact ih (k + 1) a H locs ls (by omega) (by omega) (tr_LnI_out hk10 hS (fun q => by
          rw [c2] at q
          exact absurd q.1 (by decide))) I (lv_sub hl [0, 1, 2] rfl)
      · refine lv_aload_n S.1 S.2.1 dX2_surplus_19 rfl (lv_at hl 2 rfl) ?_
        refine mg_marked S hK I dX2_surplus_20 ?_
        refine lv_iload_n S.1 S.2.1 dX2_surplus_23 rfl (lv_at hl 0 rfl) ?_
        refine tr_ishr S (by omega) (by omega) dX2_surplus_24 ?_
        refine tr_iconst 1 S dX2_surplus_25 (by decide) ?_
        refine tr_iand1 S dX2_surplus_26 ?_
        refine tr_iconst 1 S dX2_surplus_27 (by decide) ?_
        refine tr_icmp_ne 37 S dX2_surplus_28 (by decide) (by omega) (by omega) (fun c3 => ?_) (fun c3 => ?_)
        · refine tr_iinc (k := 0) (lv' := [(2, .int (nI (k + 1))), (1, .int (nI a)), (0, .ref (ad 0))]) S dX2_surplus_37 hl rfl (by decide) rfl (fun ls hl => ?_)
          refine lv_goto (tgt := 4) S.1 S.2.1 dX2_surplus_40 (by decide) ?_
          exact ih (k + 1) a H locs ls (by omega) (by omega) (tr_LnI_out hk10 hS (fun q => c3 q.2)) I (lv_sub hl [0, 1, 2] rfl)
        · refine lv_iload_n S.1 S.2.1 dX2_surplus_31 rfl (lv_at hl 1 rfl) ?_
          refine tr_iconst 1 S dX2_surplus_32 (by decide) ?_
          refine lv_iload_n S.1 S.2.1 dX2_surplus_33 rfl (lv_at hl 0 rfl) ?_
          refine tr_ishl1 S (by omega) dX2_surplus_34 ?_
          refine tr_ior S dX2_surplus_35 ?_
          refine lv_istore_n (lv' := [(1, .int (nI (a ||| (2 ^ k)))), (2, .int (nI k)), (0, .ref (ad 0))]) S.1 S.2.1 dX2_surplus_36 rfl hl (by decide) rfl (fun ls hl => ?_)
          refine tr_iinc (k := 1) (lv' := [(2, .int (nI (k + 1))), (1, .int (nI (a ||| (2 ^ k)))), (0, .ref (ad 0))]) S dX2_surplus_37 hl rfl (by decide) rfl (fun ls hl => ?_)
          refine lv_goto (tgt := 4) S.1 S.2.1 dX2_surplus_40 (by decide) ?_
          exact ih (k + 1) _ H locs ls (by omega) (by omega) (tr_LnI_in hk10 hS c2 c3) I (lv_sub hl [0, 1, 2] rfl)
set_option maxHeartbeats 4000000 in
set_option maxRecDepth 100000 in
theorem lM_surplus {ln : Nat} (S : CallFix p m c cX2_surplus 5 s args lw_all RX2) (hK : va_K D tr_Cl (tr_Mt da) s) (hA : ∀ q : Nat, s.heap.size ≤ q → A0 q) (hn1 : 1 ≤ n) (hn : n ≤ 6) (hAB : ∀ k, k < 10 → A k < n ∧ B k < n) (hln : ln < 1024)
    (kk : ∀ (N : Nat → Nat) (H : Heap) (locs : List Loc) (ls : Array Slot), tr_I s A0 D (tr_MW ad da n mk T A B N) H locs → W p l e ({ frames := 3, cells := 0, slots := 0, locals := 70 }) s m args below meth c H locs 0 0 Q (F0 m 98 ls [.int (nI (tr_ls (tr_kp T A B ln) (fun s => tr_on 10 ln - tr_on 10 s) 1024))])) :
    ∀ (f q : Nat) (N : Nat → Nat) (H : Heap) (locs : List Loc) (ls : Array Slot), q ≤ 1024 → 1025 ≤ q + f → tr_I s A0 D (tr_MW ad da n mk T A B N) H locs → lv_has ls 5 [(3, .int (nI q)), (2, .int (nI (tr_ls (tr_kp T A B ln) (fun s => tr_on 10 ln - tr_on 10 s) q))), (1, .int (nI ln)), (0, .ref (ad 0))] → W p l e ({ frames := 3, cells := 0, slots := 0, locals := 70 }) s m args below meth c H locs 0 0 Q (F0 m 48 ls []) := by
  intro f
  induction f with
  | zero => intro q N H locs ls h1 h2; exact absurd h2 (by omega)
  | succ f ih =>
    intro q N H locs ls h1 h2 I hl
    have hln0 := hln
    refine lv_iload_n S.1 S.2.1 dX2_surplus_48 rfl (lv_at hl 0 rfl) ?_
    refine tr_sipush 1024 S dX2_surplus_49 (by decide) ?_
    refine tr_icmp_ge 97 S dX2_surplus_52 (by decide) (by omega) (by omega) (fun c1 => ?_) (fun c1 => ?_)
    · have hq : q = 1024 := by omega
      subst hq
      refine lv_iload_n S.1 S.2.1 dX2_surplus_97 rfl (lv_at hl 1 rfl) ?_
      exact kk N H locs ls I
    · have hq1 : q + 1 ≤ 1024 := by omega
      have hq2 : 1025 ≤ q + 1 + f := by omega
      have hq3 : q < 1024 := by omega
      have hq31 : q < 2 ^ 31 := by omega
      have hl31 : ln < 2 ^ 31 := by omega
      refine lv_iload_n S.1 S.2.1 dX2_surplus_55 rfl (lv_at hl 0 rfl) ?_
      refine lv_iload_n S.1 S.2.1 dX2_surplus_56 rfl (lv_at hl 2 rfl) ?_
      refine lv_iconst (v := -1) S.1 S.2.1 dX2_surplus_57 (by decide) ?_
      refine lv_ixor S.1 S.2.1 dX2_surplus_58 ?_
      refine lv_iand S.1 S.2.1 dX2_surplus_59 ?_
      refine lv_if_ne (tgt := 91) S.1 S.2.1 dX2_surplus_60 (by decide) (fun c2 => ?_) (fun c2 => ?_)
      · have hsub : ¬ ln &&& q = q := fun z => c2 ((tr_nandnot hq31 hl31).mpr z)
        refine tr_iinc (k := 0) (lv' := [(3, .int (nI (q + 1))), (2, .int (nI (tr_ls (tr_kp T A B ln) (fun s => tr_on 10 ln - tr_on 10 s) q))), (1, .int (nI ln)), (0, .ref (ad 0))]) S dX2_surplus_91 hl rfl (by decide) rfl (fun ls hl => ?_)
        refine lv_goto (tgt := 48) S.1 S.2.1 dX2_surplus_94 (by decide) ?_
        have hs : tr_ls (tr_kp T A B ln) (fun s => tr_on 10 ln - tr_on 10 s) (q + 1) = tr_ls (tr_kp T A B ln) (fun s => tr_on 10 ln - tr_on 10 s) q := by
          show (if tr_kp T A B ln q = true ∧ _ then _ else _) = _
          rw [if_neg (fun z => by simp [tr_kp, hsub] at z)]
        exact ih (q + 1) N H locs ls hq1 hq2 I (by rw [hs]; exact lv_sub hl [0, 1, 2, 3] rfl)
      · have hsub : ln &&& q = q := (tr_nandnot hq31 hl31).mp c2
        refine lv_aload_n S.1 S.2.1 dX2_surplus_63 rfl (lv_at hl 3 rfl) ?_
        refine lv_iload_n S.1 S.2.1 dX2_surplus_64 rfl (lv_at hl 0 rfl) ?_
        refine tr_calli (C := RX2) (ci := 1) (As := [.int (nI q)]) (rest := []) rfl rfl rfl S hK I hA (cM_ringless l D ad da n mk T A B N H.size q hn hAB hq3) (cwV 1 S.2.2.2.2 (lw_V q185 q187 qs10 q13 q188) rfl rfl rfl (by decide +kernel) ⟨Nat.le_of_ble_eq_true rfl, Nat.le_of_ble_eq_true rfl⟩) rfl hl.1 rfl (Nat.le_of_ble_eq_true rfl) dX2_surplus_65 ⟨Nat.zero_le _, Nat.zero_le _⟩ (fun r N H locs hr2 I => ?_)
        subst hr2
        refine tr_bif_eq 91 S dX2_surplus_68 (by decide) (fun c3 => ?_) (fun c3 => ?_)
        · refine tr_iinc (k := 0) (lv' := [(3, .int (nI (q + 1))), (2, .int (nI (tr_ls (tr_kp T A B ln) (fun s => tr_on 10 ln - tr_on 10 s) q))), (1, .int (nI ln)), (0, .ref (ad 0))]) S dX2_surplus_91 hl rfl (by decide) rfl (fun ls hl => ?_)
          refine lv_goto (tgt := 48) S.1 S.2.1 dX2_surplus_94 (by decide) ?_
          have hs : tr_ls (tr_kp T A B ln) (fun s => tr_on 10 ln - tr_on 10 s) (q + 1) = tr_ls (tr_kp T A B ln) (fun s => tr_on 10 ln - tr_on 10 s) q := by
            show (if tr_kp T A B ln q = true ∧ _ then _ else _) = _
            rw [if_neg (fun z => by simp [tr_kp, c3] at z)]
          exact ih (q + 1) N H locs ls hq1 hq2 I (by rw [hs]; exact lv_sub hl [0, 1, 2, 3] rfl)
        · refine lv_iload_n S.1 S.2.1 dX2_surplus_71 rfl (lv_at hl 2 rfl) ?_
          refine tr_calls (As := [.int (nI ln)]) (rest := []) S I hA (fun U hW => va_K.moved hW.alike (hK.sub (tys' := []) [] rfl)) (cM_ones l D H.size ln hln) (va_cwS 1 S.2.2.2.2 (lw_S q182 q183 q13 q184) rfl rfl rfl (by decide +kernel) ⟨Nat.le_of_ble_eq_true rfl, Nat.le_of_ble_eq_true rfl⟩) rfl hl.1 rfl (Nat.le_of_ble_eq_true rfl) dX2_surplus_72 ⟨Nat.zero_le _, Nat.zero_le _⟩ (fun r H locs hr2 I => ?_)
          subst hr2
          refine lv_iload_n S.1 S.2.1 dX2_surplus_75 rfl (lv_at hl 0 rfl) ?_
          refine tr_calls (As := [.int (nI q)]) (rest := [.int (nI (tr_on 10 ln))]) S I hA (fun U hW => va_K.moved hW.alike (hK.sub (tys' := []) [] rfl)) (cM_ones l D H.size q hq3) (va_cwS 1 S.2.2.2.2 (lw_S q182 q183 q13 q184) rfl rfl rfl (by decide +kernel) ⟨Nat.le_of_ble_eq_true rfl, Nat.le_of_ble_eq_true rfl⟩) rfl hl.1 rfl (Nat.le_of_ble_eq_true rfl) dX2_surplus_76 ⟨Nat.zero_le _, Nat.zero_le _⟩ (fun r H locs hr2 I => ?_)
          subst hr2
          refine tr_isub S ((tr_on_sub 10 ln q hln hq3 hsub).1) dX2_surplus_79 ?_
          refine lv_istore (lv' := [(4, .int (nI ((tr_on 10 ln) - (tr_on 10 q)))), (3, .int (nI q)), (2, .int (nI (tr_ls (tr_kp T A B ln) (fun s => tr_on 10 ln - tr_on 10 s) q))), (1, .int (nI ln)), (0, .ref (ad 0))]) S.1 S.2.1 dX2_surplus_80 hl (by decide) rfl (fun ls hl => ?_)
          refine lv_iload S.1 S.2.1 dX2_surplus_82 (lv_at hl 0 rfl) ?_
          refine lv_iload_n S.1 S.2.1 dX2_surplus_84 rfl (lv_at hl 2 rfl) ?_
          refine tr_icmp_ge 91 S dX2_surplus_85 (by decide) (Nat.lt_of_le_of_lt (Nat.le_trans (Nat.sub_le _ _) (tr_on_le 10 ln)) (by decide)) (Nat.lt_of_le_of_lt (tr_ls_le (P := tr_kp T A B ln) (g := fun s => tr_on 10 ln - tr_on 10 s) q).1 (by decide)) (fun c4 => ?_) (fun c4 => ?_)
          · refine tr_iinc (k := 1) (lv' := [(3, .int (nI (q + 1))), (4, .int (nI ((tr_on 10 ln) - (tr_on 10 q)))), (2, .int (nI (tr_ls (tr_kp T A B ln) (fun s => tr_on 10 ln - tr_on 10 s) q))), (1, .int (nI ln)), (0, .ref (ad 0))]) S dX2_surplus_91 hl rfl (by decide) rfl (fun ls hl => ?_)
            refine lv_goto (tgt := 48) S.1 S.2.1 dX2_surplus_94 (by decide) ?_
            have hs : tr_ls (tr_kp T A B ln) (fun s => tr_on 10 ln - tr_on 10 s) (q + 1) = tr_ls (tr_kp T A B ln) (fun s => tr_on 10 ln - tr_on 10 s) q := by
              show (if tr_kp T A B ln q = true ∧ _ then _ else _) = _
              rw [if_neg (fun z => absurd z.2 (Nat.not_lt.mpr c4))]
            exact ih (q + 1) N H locs ls hq1 hq2 I (by rw [hs]; exact lv_sub hl [0, 2, 3, 4] rfl)
          · refine lv_iload S.1 S.2.1 dX2_surplus_88 (lv_at hl 0 rfl) ?_
            refine lv_istore_n (lv' := [(2, .int (nI ((tr_on 10 ln) - (tr_on 10 q)))), (4, .int (nI ((tr_on 10 ln) - (tr_on 10 q)))), (3, .int (nI q)), (1, .int (nI ln)), (0, .ref (ad 0))]) S.1 S.2.1 dX2_surplus_90 rfl hl (by decide) rfl (fun ls hl => ?_)
            refine tr_iinc (k := 2) (lv' := [(3, .int (nI (q + 1))), (2, .int (nI ((tr_on 10 ln) - (tr_on 10 q)))), (4, .int (nI ((tr_on 10 ln) - (tr_on 10 q)))), (1, .int (nI ln)), (0, .ref (ad 0))]) S dX2_surplus_91 hl rfl (by decide) rfl (fun ls hl => ?_)
            refine lv_goto (tgt := 48) S.1 S.2.1 dX2_surplus_94 (by decide) ?_
            have hs : tr_ls (tr_kp T A B ln) (fun s => tr_on 10 ln - tr_on 10 s) (q + 1) = tr_on 10 ln - tr_on 10 q := by
              show (if tr_kp T A B ln q = true ∧ _ then _ else _) = _
              rw [if_pos ⟨by simp [tr_kp, hsub, c3], c4⟩]
            exact ih (q + 1) N H locs ls hq1 hq2 I (by rw [hs]; exact lv_sub hl [0, 1, 3, 4] rfl)
end TMS
set_option maxHeartbeats 4000000 in
set_option maxRecDepth 100000 in
theorem cM_surplus (l : Launch) (D : va_G) (ad : Nat → Nat) (da : Nat → ClassId) (n mk : Nat) (T : Nat → Bool) (A B N : Nat → Nat) (sz : Nat) (hn1 : 1 ≤ n) (hn : n ≤ 6) (hAB : ∀ k, k < 10 → A k < n ∧ B k < n) (hmk : mk < 1024) : tr_Meti l yX2_surplus cX2_surplus 5 ({ frames := 3, cells := 0, slots := 0, locals := 70 }) D (tr_Mt da) (tr_MW ad da n mk T A B N) sz [.ref (ad 0)] (fun r (_ : Nat → Nat) => r = nI (tr_gr T A B (tr_lf 0) (fun p => p) mk)) (fun N' => (tr_MW ad da n mk T A B N')) := by
  refine tr_enter (lv := [(0, .ref (ad 0))]) (by decide) (Nat.le_of_ble_eq_true rfl) rfl ?_
  intro p e s m below meth c ls hsz S hr hlk hK I hA hl
  have hln : tr_ln T (tr_lf 0) mk < 1024 := by
    have h := tr_ln_lt (T := T) (tr_lf 0) mk
    rw [tr_lf_len] at h
    exact h
  refine tr_iconst 0 S dX2_surplus_0 (by decide) ?_
  refine lv_istore_n (lv' := [(1, .int (nI 0)), (0, .ref (ad 0))]) S.1 S.2.1 dX2_surplus_1 rfl hl (by decide) rfl (fun ls hl => ?_)
  refine tr_iconst 0 S dX2_surplus_2 (by decide) ?_
  refine lv_istore_n (lv' := [(2, .int (nI 0)), (1, .int (nI 0)), (0, .ref (ad 0))]) S.1 S.2.1 dX2_surplus_3 rfl hl (by decide) rfl (fun ls hl => ?_)
  refine lM_lines S hK hmk (fun H locs ls I hl => ?_) 11 0 0 s.heap [] ls (by omega) (by omega) (tr_LnI_0 T mk) I (lv_sub hl [0, 1, 2] rfl)
  refine tr_bipush 10 S dX2_surplus_43 (by decide) ?_
  refine lv_istore_n (lv' := [(2, .int (nI 10)), (1, .int (nI (tr_ln T (tr_lf 0) mk))), (0, .ref (ad 0))]) S.1 S.2.1 dX2_surplus_45 rfl hl (by decide) rfl (fun ls hl => ?_)
  refine tr_iconst 0 S dX2_surplus_46 (by decide) ?_
  refine lv_istore_n (lv' := [(3, .int (nI 0)), (2, .int (nI 10)), (1, .int (nI (tr_ln T (tr_lf 0) mk))), (0, .ref (ad 0))]) S.1 S.2.1 dX2_surplus_47 rfl hl (by decide) rfl (fun ls hl => ?_)
  refine lM_surplus S hK hA hn1 hn hAB hln (fun N H locs ls I => ?_) 1025 0 N H locs ls (by omega) (by omega) I (lv_sub hl [0, 1, 2, 3] rfl)
  exact tr_iret S hr hlk hK N I (congrArg nI (tr_surplus hAB)) dX2_surplus_98
end
section
/-! MACHINE 9: the two constructors (text by gen_ctor.py) -/
/-- the points of a graph -/
def tr_nn (x : Int32) : Nat := if 1 ≤ x then (if x ≤ 6 then tr_k x else 6) else 1
theorem tr_nn_b (x : Int32) : 1 ≤ tr_nn x ∧ tr_nn x ≤ 6 := by
  unfold tr_nn
  by_cases h : 1 ≤ x
  · rw [if_pos h]
    by_cases h2 : x ≤ 6
    · rw [if_pos h2]
      have h0 : ¬ x < 0 := fun q => by
        rw [Int32.lt_iff_toInt_lt, show (0 : Int32).toInt = 0 from by decide] at q
        rw [Int32.le_iff_toInt_le, show (1 : Int32).toInt = 1 from by decide] at h
        omega
      obtain ⟨j, hj, e⟩ := nI_of2 (M := 6) (n := 6) (by decide) h0 h2
      subst e
      rw [tr_k_n (by omega)]
      refine ⟨?_, hj⟩
      have h3 : nI 1 ≤ nI j := h
      exact (nI_leI (by decide) (by omega)).mp h3
    · rw [if_neg h2]
      decide
  · rw [if_neg h]
    decide
theorem tr_nn_1 {x : Int32} (h : ¬ 1 ≤ x) : tr_nn x = 1 := if_neg h
theorem tr_nn_6 {x : Int32} (h : 1 ≤ x) (h2 : ¬ x ≤ 6) : tr_nn x = 6 := by
  unfold tr_nn
  rw [if_pos h, if_neg h2]
theorem tr_nn_x {x : Int32} (h : 1 ≤ x) (h2 : x ≤ 6) : nI (tr_nn x) = x := by
  have h0 : ¬ x < 0 := fun q => by
    rw [Int32.lt_iff_toInt_lt, show (0 : Int32).toInt = 0 from by decide] at q
    rw [Int32.le_iff_toInt_le, show (1 : Int32).toInt = 1 from by decide] at h
    omega
  obtain ⟨j, hj, e⟩ := nI_of2 (M := 6) (n := 6) (by decide) h0 h2
  subst e
  unfold tr_nn
  rw [if_pos h, if_pos h2, tr_k_n (by omega)]
abbrev tr_zB : vp_A := (10, .inl (fun _ => tr_bI false))
abbrev tr_zI (k : Nat) : vp_A := (k, .inl (fun _ => nI 0))
abbrev tr_zL : vp_A := (36, .inr (.inl (fun _ => Int64.ofInt 0)))
theorem tr_zB_ok (cA : ClassId) : vp_cell cA tr_zB = arrV cA 10 (fun _ => defaultValue .boolean) := by
  show arrV cA 10 (fun _ => Value.int (tr_bI false)) = arrV cA 10 (fun _ => Value.int 0)
  rw [show tr_bI false = 0 from by decide]
theorem tr_zI_ok (k : Nat) (cA : ClassId) : vp_cell cA (tr_zI k) = arrV cA k (fun _ => defaultValue .int) := by
  show arrV cA k (fun _ => Value.int (nI 0)) = arrV cA k (fun _ => Value.int 0)
  rw [show nI 0 = 0 from by decide]
theorem tr_zL_ok (cA : ClassId) : vp_cell cA tr_zL = arrV cA 36 (fun _ => defaultValue .long) := by
  show arrV cA 36 (fun _ => Value.long (Int64.ofInt 0)) = arrV cA 36 (fun _ => Value.long 0)
  rw [show Int64.ofInt 0 = 0 from by decide]
def tr_ad (l : List Nat) (k : Nat) : Nat := l.getD k 0
abbrev tr_X0 (ad : Nat → Nat) (da : Nat → ClassId) (x : Int32) : va_W := tr_XW ad da (tr_nn x) 0 (fun _ => false) (fun _ => 0) (fun _ => 0) (fun _ => 0) (fun _ => 0) (fun _ => 0)
abbrev tr_M0 (ad : Nat → Nat) (da : Nat → ClassId) (x : Int32) : va_W := tr_MW ad da (tr_nn x) 0 (fun _ => false) (fun _ => 0) (fun _ => 0) (fun _ => 0)
abbrev tr_nX (h0 : Nat) : va_W := [(h0, .inr (0, [.int (nI 0), .null, .null, .null, .int (nI 0), .null, .null, .null]))]
abbrev tr_nM (h0 : Nat) : va_W := [(h0, .inr (1, [.int (nI 0), .null, .null, .null, .int (nI 0), .null]))]
def tr_BX (D : va_G) (A0 : Nat → Prop) (h0 : Nat) (x : Int32) (u : (Nat → Nat) × (Nat → ClassId)) (t : State) : Prop := u.1 0 = h0 ∧ va_P D tr_Cl (tr_X0 u.1 u.2 x) t.heap ∧ va_K D tr_Cl (tr_Xt u.2) t ∧ va_D A0 (tr_X0 u.1 u.2 x)
def tr_BM (D : va_G) (A0 : Nat → Prop) (h0 : Nat) (x : Int32) (u : (Nat → Nat) × (Nat → ClassId)) (t : State) : Prop := u.1 0 = h0 ∧ va_P D tr_Cl (tr_M0 u.1 u.2 x) t.heap ∧ va_K D tr_Cl (tr_Mt u.2) t ∧ va_D A0 (tr_M0 u.1 u.2 x)
set_option maxHeartbeats 4000000 in
set_option maxRecDepth 100000 in
theorem cX_init (l : Launch) (D : va_G) (h0 sz : Nat) (x : Int32) : Met l yX1_init (ws_ yX1_init cX1_init 2 none) ({ frames := 1, cells := 6, slots := 78, locals := 12 }) (va_Pc [.ref h0, .int x] (tr_Pre D [] (tr_nX h0) sz)) (va_Qv (fun _ => True) (tr_BX D (va_A (tr_nX h0) sz) h0 x) (va_A (tr_nX h0) sz)) 6 78 (va_A (tr_nX h0) sz) := by
  refine Met.ofW (cc := cX1_init) (maxL := 2) (ret := none) (by decide) rfl ?_
  intro p e s m args below meth c s₁ Bd hml hv
  obtain ⟨rfl, hsz, hP, hK, hD0⟩ := hv
  have hx := Bd.exec
  have hb := Bd.bytes
  have hr := Bd.returns
  have hts := atoms_spec (ws := ws_ yX1_init cX1_init 2 none) Bd.pre
  have hts : ∀ w ∈ lw_all, w.before _ s = true := fun w h => hts w (List.mem_cons_of_mem _ h)
  have hown : s.vm.findClass RX1 = some m.cls := findClass_of_methodNamed Bd.named
  have hlocks := Bd.notSynchronized
  have hin : meth.name = "<init>" := (name_of_methodNamed Bd.named Bd.method).1
  subst hsz
  have hD := hD0.self (sz := s.heap.size)
  generalize hAe : va_A (tr_nX h0) s.heap.size = A0 at hD ⊢
  have hA : ∀ q : Nat, s.heap.size ≤ q → A0 q := fun q h => by rw [← hAe]; exact Or.inr h
  have hS : va_S A0 s.heap s.heap [] := va_S.rf
  have hl := lv_entry ([.ref h0, .int x]) (n := 2) (Nat.le_of_ble_eq_true rfl)
  rw [lg_entry_eq]
  generalize (lg_sl ([.ref h0, .int x]) ++ List.replicate (2 - (lg_sl ([.ref h0, .int x])).length) Slot.unset).toArray = ls at hl ⊢
  have hl : lv_has ls 2 [(0, .ref h0), (1, .int x)] := hl
  have S : CallFix p m c cX1_init 2 s _ lw_all RX1 := ⟨hx, hb, hml, hown, hts⟩
  have key : ∀ v : Int32, v = nI (tr_nn x) → W p l e ({ frames := 1, cells := 6, slots := 78, locals := 12 }) s m #[Value.ref h0, Value.int x] below meth c s.heap [] 0 0 (MQ below (va_Qv (fun _ => True) (tr_BX D A0 h0 x) A0) #[Value.ref h0, Value.int x] s 6 78 A0) (F0 m 26 ls [.int v, .ref h0]) := by
    intro v hv0
    subst hv0
    refine va_putF (D := D) (ci := 0) (v := .int (nI (tr_nn x))) (ty := .int) (C := RX1) (T := TX1) (N := 8) hx hb hts in_X1 tyX1 tyX1_ok nmX1 hown hK hP hD hS 0 rfl rfl 0 (by decide) (hts _ q22) (fun _ h9 => h9) rfl hin rfl (by decide +kernel) rfl rfl (Nat.le_of_ble_eq_true rfl) dX1_init_26 (fun H locs hP hD hS => ?_)
    have hP : va_P D tr_Cl [(h0, .inr (0, [.int (nI (tr_nn x)), .null, .null, .null, .int (nI 0), .null, .null, .null]))] H := hP
    have hD : va_D A0 [(h0, .inr (0, [.int (nI (tr_nn x)), .null, .null, .null, .int (nI 0), .null, .null, .null]))] := hD
    refine lv_aload_n hx hb dX1_init_29 rfl (lv_at hl 0 rfl) ?_
    refine tr_bipush 10 S dX1_init_30 (by decide) ?_
    refine va_newa (atype := .boolean) (ty := .boolean) (N' := 10) (a0 := tr_zB) hx hb (hts _ q47) rfl hK hP hD hS hA (tr_zB_ok) (nI_pos (by decide)) (nI_clamp (by decide)) (by decide) (Nat.le_of_ble_eq_true rfl) (Nat.le_of_ble_eq_true rfl) dX1_init_32 (fun q1 cA1 H hK hP hD hS => ?_)
    have hK : va_K D tr_Cl [(cA1, .boolean)] s := hK
    have hP : va_P D tr_Cl [(h0, .inr (0, [.int (nI (tr_nn x)), .null, .null, .null, .int (nI 0), .null, .null, .null])), (q1, .inl (cA1, tr_zB))] H := hP
    have hD : va_D A0 [(h0, .inr (0, [.int (nI (tr_nn x)), .null, .null, .null, .int (nI 0), .null, .null, .null])), (q1, .inl (cA1, tr_zB))] := hD
    refine va_putF (D := D) (ci := 0) (v := .ref q1) (ty := .array .boolean) (C := RX1) (T := TX1) (N := 8) hx hb hts in_X1 tyX1 tyX1_ok nmX1 hown hK hP hD hS 0 rfl rfl 1 (by decide) (hts _ q23) (fun _ h9 => h9) rfl hin rfl (by decide +kernel) rfl rfl (Nat.le_of_ble_eq_true rfl) dX1_init_34 (fun H locs hP hD hS => ?_)
    have hP : va_P D tr_Cl [(h0, .inr (0, [.int (nI (tr_nn x)), .ref q1, .null, .null, .int (nI 0), .null, .null, .null])), (q1, .inl (cA1, tr_zB))] H := hP
    have hD : va_D A0 [(h0, .inr (0, [.int (nI (tr_nn x)), .ref q1, .null, .null, .int (nI 0), .null, .null, .null])), (q1, .inl (cA1, tr_zB))] := hD
    refine lv_aload_n hx hb dX1_init_37 rfl (lv_at hl 0 rfl) ?_
    refine tr_bipush 10 S dX1_init_38 (by decide) ?_
    refine va_newa (atype := .int) (ty := .int) (N' := 10) (a0 := tr_zI 10) hx hb (hts _ q48) rfl hK hP hD hS hA (tr_zI_ok 10) (nI_pos (by decide)) (nI_clamp (by decide)) (by decide) (Nat.le_of_ble_eq_true rfl) (Nat.le_of_ble_eq_true rfl) dX1_init_40 (fun q2 cA2 H hK hP hD hS => ?_)
    have hK : va_K D tr_Cl [(cA1, .boolean), (cA2, .int)] s := hK
    have hP : va_P D tr_Cl [(h0, .inr (0, [.int (nI (tr_nn x)), .ref q1, .null, .null, .int (nI 0), .null, .null, .null])), (q1, .inl (cA1, tr_zB)), (q2, .inl (cA2, tr_zI 10))] H := hP
    have hD : va_D A0 [(h0, .inr (0, [.int (nI (tr_nn x)), .ref q1, .null, .null, .int (nI 0), .null, .null, .null])), (q1, .inl (cA1, tr_zB)), (q2, .inl (cA2, tr_zI 10))] := hD
    refine va_putF (D := D) (ci := 0) (v := .ref q2) (ty := .array .int) (C := RX1) (T := TX1) (N := 8) hx hb hts in_X1 tyX1 tyX1_ok nmX1 hown hK hP hD hS 0 rfl rfl 2 (by decide) (hts _ q24) (fun _ h9 => h9) rfl hin rfl (by decide +kernel) rfl rfl (Nat.le_of_ble_eq_true rfl) dX1_init_42 (fun H locs hP hD hS => ?_)
    have hP : va_P D tr_Cl [(h0, .inr (0, [.int (nI (tr_nn x)), .ref q1, .ref q2, .null, .int (nI 0), .null, .null, .null])), (q1, .inl (cA1, tr_zB)), (q2, .inl (cA2, tr_zI 10))] H := hP
    have hD : va_D A0 [(h0, .inr (0, [.int (nI (tr_nn x)), .ref q1, .ref q2, .null, .int (nI 0), .null, .null, .null])), (q1, .inl (cA1, tr_zB)), (q2, .inl (cA2, tr_zI 10))] := hD
    refine lv_aload_n hx hb dX1_init_45 rfl (lv_at hl 0 rfl) ?_
    refine tr_bipush 10 S dX1_init_46 (by decide) ?_
    refine va_newa (atype := .int) (ty := .int) (N' := 10) (a0 := tr_zI 10) hx hb (hts _ q48) rfl hK hP hD hS hA (tr_zI_ok 10) (nI_pos (by decide)) (nI_clamp (by decide)) (by decide) (Nat.le_of_ble_eq_true rfl) (Nat.le_of_ble_eq_true rfl) dX1_init_48 (fun q3 cA3 H hK hP hD hS => ?_)
    have hK : va_K D tr_Cl [(cA1, .boolean), (cA2, .int), (cA3, .int)] s := hK
    have hP : va_P D tr_Cl [(h0, .inr (0, [.int (nI (tr_nn x)), .ref q1, .ref q2, .null, .int (nI 0), .null, .null, .null])), (q1, .inl (cA1, tr_zB)), (q2, .inl (cA2, tr_zI 10)), (q3, .inl (cA3, tr_zI 10))] H := hP
    have hD : va_D A0 [(h0, .inr (0, [.int (nI (tr_nn x)), .ref q1, .ref q2, .null, .int (nI 0), .null, .null, .null])), (q1, .inl (cA1, tr_zB)), (q2, .inl (cA2, tr_zI 10)), (q3, .inl (cA3, tr_zI 10))] := hD
    refine va_putF (D := D) (ci := 0) (v := .ref q3) (ty := .array .int) (C := RX1) (T := TX1) (N := 8) hx hb hts in_X1 tyX1 tyX1_ok nmX1 hown hK hP hD hS 0 rfl rfl 3 (by decide) (hts _ q25) (fun _ h9 => h9) rfl hin rfl (by decide +kernel) rfl rfl (Nat.le_of_ble_eq_true rfl) dX1_init_50 (fun H locs hP hD hS => ?_)
    have hP : va_P D tr_Cl [(h0, .inr (0, [.int (nI (tr_nn x)), .ref q1, .ref q2, .ref q3, .int (nI 0), .null, .null, .null])), (q1, .inl (cA1, tr_zB)), (q2, .inl (cA2, tr_zI 10)), (q3, .inl (cA3, tr_zI 10))] H := hP
    have hD : va_D A0 [(h0, .inr (0, [.int (nI (tr_nn x)), .ref q1, .ref q2, .ref q3, .int (nI 0), .null, .null, .null])), (q1, .inl (cA1, tr_zB)), (q2, .inl (cA2, tr_zI 10)), (q3, .inl (cA3, tr_zI 10))] := hD
    refine lv_aload_n hx hb dX1_init_53 rfl (lv_at hl 0 rfl) ?_
    refine tr_bipush 6 S dX1_init_54 (by decide) ?_
    refine va_newa (atype := .int) (ty := .int) (N' := 6) (a0 := tr_zI 6) hx hb (hts _ q48) rfl hK hP hD hS hA (tr_zI_ok 6) (nI_pos (by decide)) (nI_clamp (by decide)) (by decide) (Nat.le_of_ble_eq_true rfl) (Nat.le_of_ble_eq_true rfl) dX1_init_56 (fun q4 cA4 H hK hP hD hS => ?_)
    have hK : va_K D tr_Cl [(cA1, .boolean), (cA2, .int), (cA3, .int), (cA4, .int)] s := hK
    have hP : va_P D tr_Cl [(h0, .inr (0, [.int (nI (tr_nn x)), .ref q1, .ref q2, .ref q3, .int (nI 0), .null, .null, .null])), (q1, .inl (cA1, tr_zB)), (q2, .inl (cA2, tr_zI 10)), (q3, .inl (cA3, tr_zI 10)), (q4, .inl (cA4, tr_zI 6))] H := hP
    have hD : va_D A0 [(h0, .inr (0, [.int (nI (tr_nn x)), .ref q1, .ref q2, .ref q3, .int (nI 0), .null, .null, .null])), (q1, .inl (cA1, tr_zB)), (q2, .inl (cA2, tr_zI 10)), (q3, .inl (cA3, tr_zI 10)), (q4, .inl (cA4, tr_zI 6))] := hD
    refine va_putF (D := D) (ci := 0) (v := .ref q4) (ty := .array .int) (C := RX1) (T := TX1) (N := 8) hx hb hts in_X1 tyX1 tyX1_ok nmX1 hown hK hP hD hS 0 rfl rfl 5 (by decide) (hts _ q27) (fun _ h9 => h9) rfl hin rfl (by decide +kernel) rfl rfl (Nat.le_of_ble_eq_true rfl) dX1_init_58 (fun H locs hP hD hS => ?_)
    have hP : va_P D tr_Cl [(h0, .inr (0, [.int (nI (tr_nn x)), .ref q1, .ref q2, .ref q3, .int (nI 0), .ref q4, .null, .null])), (q1, .inl (cA1, tr_zB)), (q2, .inl (cA2, tr_zI 10)), (q3, .inl (cA3, tr_zI 10)), (q4, .inl (cA4, tr_zI 6))] H := hP
    have hD : va_D A0 [(h0, .inr (0, [.int (nI (tr_nn x)), .ref q1, .ref q2, .ref q3, .int (nI 0), .ref q4, .null, .null])), (q1, .inl (cA1, tr_zB)), (q2, .inl (cA2, tr_zI 10)), (q3, .inl (cA3, tr_zI 10)), (q4, .inl (cA4, tr_zI 6))] := hD
    refine lv_aload_n hx hb dX1_init_61 rfl (lv_at hl 0 rfl) ?_
    refine tr_bipush 6 S dX1_init_62 (by decide) ?_
    refine va_newa (atype := .int) (ty := .int) (N' := 6) (a0 := tr_zI 6) hx hb (hts _ q48) rfl hK hP hD hS hA (tr_zI_ok 6) (nI_pos (by decide)) (nI_clamp (by decide)) (by decide) (Nat.le_of_ble_eq_true rfl) (Nat.le_of_ble_eq_true rfl) dX1_init_64 (fun q5 cA5 H hK hP hD hS => ?_)
    have hK : va_K D tr_Cl [(cA1, .boolean), (cA2, .int), (cA3, .int), (cA4, .int), (cA5, .int)] s := hK
    have hP : va_P D tr_Cl [(h0, .inr (0, [.int (nI (tr_nn x)), .ref q1, .ref q2, .ref q3, .int (nI 0), .ref q4, .null, .null])), (q1, .inl (cA1, tr_zB)), (q2, .inl (cA2, tr_zI 10)), (q3, .inl (cA3, tr_zI 10)), (q4, .inl (cA4, tr_zI 6)), (q5, .inl (cA5, tr_zI 6))] H := hP
    have hD : va_D A0 [(h0, .inr (0, [.int (nI (tr_nn x)), .ref q1, .ref q2, .ref q3, .int (nI 0), .ref q4, .null, .null])), (q1, .inl (cA1, tr_zB)), (q2, .inl (cA2, tr_zI 10)), (q3, .inl (cA3, tr_zI 10)), (q4, .inl (cA4, tr_zI 6)), (q5, .inl (cA5, tr_zI 6))] := hD
    refine va_putF (D := D) (ci := 0) (v := .ref q5) (ty := .array .int) (C := RX1) (T := TX1) (N := 8) hx hb hts in_X1 tyX1 tyX1_ok nmX1 hown hK hP hD hS 0 rfl rfl 6 (by decide) (hts _ q28) (fun _ h9 => h9) rfl hin rfl (by decide +kernel) rfl rfl (Nat.le_of_ble_eq_true rfl) dX1_init_66 (fun H locs hP hD hS => ?_)
    have hP : va_P D tr_Cl [(h0, .inr (0, [.int (nI (tr_nn x)), .ref q1, .ref q2, .ref q3, .int (nI 0), .ref q4, .ref q5, .null])), (q1, .inl (cA1, tr_zB)), (q2, .inl (cA2, tr_zI 10)), (q3, .inl (cA3, tr_zI 10)), (q4, .inl (cA4, tr_zI 6)), (q5, .inl (cA5, tr_zI 6))] H := hP
    have hD : va_D A0 [(h0, .inr (0, [.int (nI (tr_nn x)), .ref q1, .ref q2, .ref q3, .int (nI 0), .ref q4, .ref q5, .null])), (q1, .inl (cA1, tr_zB)), (q2, .inl (cA2, tr_zI 10)), (q3, .inl (cA3, tr_zI 10)), (q4, .inl (cA4, tr_zI 6)), (q5, .inl (cA5, tr_zI 6))] := hD
    refine lv_aload_n hx hb dX1_init_69 rfl (lv_at hl 0 rfl) ?_
    refine tr_bipush 36 S dX1_init_70 (by decide) ?_
    refine va_newa (atype := .long) (ty := .long) (N' := 36) (a0 := tr_zL) hx hb (hts _ q49) rfl hK hP hD hS hA (tr_zL_ok) (nI_pos (by decide)) (nI_clamp (by decide)) (by decide) (Nat.le_of_ble_eq_true rfl) (Nat.le_of_ble_eq_true rfl) dX1_init_72 (fun q6 cA6 H hK hP hD hS => ?_)
    have hK : va_K D tr_Cl [(cA1, .boolean), (cA2, .int), (cA3, .int), (cA4, .int), (cA5, .int), (cA6, .long)] s := hK
    have hP : va_P D tr_Cl [(h0, .inr (0, [.int (nI (tr_nn x)), .ref q1, .ref q2, .ref q3, .int (nI 0), .ref q4, .ref q5, .null])), (q1, .inl (cA1, tr_zB)), (q2, .inl (cA2, tr_zI 10)), (q3, .inl (cA3, tr_zI 10)), (q4, .inl (cA4, tr_zI 6)), (q5, .inl (cA5, tr_zI 6)), (q6, .inl (cA6, tr_zL))] H := hP
    have hD : va_D A0 [(h0, .inr (0, [.int (nI (tr_nn x)), .ref q1, .ref q2, .ref q3, .int (nI 0), .ref q4, .ref q5, .null])), (q1, .inl (cA1, tr_zB)), (q2, .inl (cA2, tr_zI 10)), (q3, .inl (cA3, tr_zI 10)), (q4, .inl (cA4, tr_zI 6)), (q5, .inl (cA5, tr_zI 6)), (q6, .inl (cA6, tr_zL))] := hD
    refine va_putF (D := D) (ci := 0) (v := .ref q6) (ty := .array .long) (C := RX1) (T := TX1) (N := 8) hx hb hts in_X1 tyX1 tyX1_ok nmX1 hown hK hP hD hS 0 rfl rfl 7 (by decide) (hts _ q29) (fun _ h9 => h9) rfl hin rfl (by decide +kernel) rfl rfl (Nat.le_of_ble_eq_true rfl) dX1_init_74 (fun H locs hP hD hS => ?_)
    have hP : va_P D tr_Cl [(h0, .inr (0, [.int (nI (tr_nn x)), .ref q1, .ref q2, .ref q3, .int (nI 0), .ref q4, .ref q5, .ref q6])), (q1, .inl (cA1, tr_zB)), (q2, .inl (cA2, tr_zI 10)), (q3, .inl (cA3, tr_zI 10)), (q4, .inl (cA4, tr_zI 6)), (q5, .inl (cA5, tr_zI 6)), (q6, .inl (cA6, tr_zL))] H := hP
    have hD : va_D A0 [(h0, .inr (0, [.int (nI (tr_nn x)), .ref q1, .ref q2, .ref q3, .int (nI 0), .ref q4, .ref q5, .ref q6])), (q1, .inl (cA1, tr_zB)), (q2, .inl (cA2, tr_zI 10)), (q3, .inl (cA3, tr_zI 10)), (q4, .inl (cA4, tr_zI 6)), (q5, .inl (cA5, tr_zI 6)), (q6, .inl (cA6, tr_zL))] := hD
    refine W.widen (k := 6) (n := 78) (Nat.le_of_ble_eq_true rfl) (Nat.le_of_ble_eq_true rfl) ?_
    exact W.vret hx hb hr (fun t ht hW => ⟨⟨((tr_ad [h0, q1, q2, q3, q4, q5, q6]), (fun k => match k with | 1 => cA1 | 2 => cA2 | 3 => cA3 | 4 => cA4 | 5 => cA5 | _ => cA6)), rfl, trivial, rfl, by rw [ht]; exact hP, va_K.moved hW.alike hK, hD⟩, hS.F ht⟩) hS.2.2 dX1_init_77
  refine lv_aload_n hx hb dX1_init_0 rfl (lv_at hl 0 rfl) ?_
  refine W.objInit hx hb hown (hts _ q19) (hts _ q20) (hts _ q21) rfl (by rw [hml]; exact hl.1) rfl dX1_init_1 (Nat.le_of_ble_eq_true rfl) (Nat.le_of_ble_eq_true rfl) ?_
  refine W.eq (g2 := F0 m 4 ls []) rfl ?_
  refine lv_aload_n S.1 S.2.1 dX1_init_4 rfl (lv_at hl 0 rfl) ?_
  refine lv_iload_n S.1 S.2.1 dX1_init_5 rfl (lv_at hl 1 rfl) ?_
  refine tr_iconst 1 S dX1_init_6 (by decide) ?_
  refine lv_icmp_ge (tgt := 14) S.1 S.2.1 dX1_init_7 (by decide) (fun c1 => ?_) (fun c1 => ?_)
  · refine lv_iload_n S.1 S.2.1 dX1_init_14 rfl (lv_at hl 1 rfl) ?_
    refine tr_bipush 6 S dX1_init_15 (by decide) ?_
    refine lv_icmp_le (tgt := 25) S.1 S.2.1 dX1_init_17 (by decide) (fun c2 => ?_) (fun c2 => ?_)
    · refine lv_iload_n S.1 S.2.1 dX1_init_25 rfl (lv_at hl 1 rfl) ?_
      exact key _ (tr_nn_x c1 c2).symm
    · refine tr_bipush 6 S dX1_init_20 (by decide) ?_
      refine lv_goto (tgt := 26) S.1 S.2.1 dX1_init_22 (by decide) ?_
      exact key _ (by rw [tr_nn_6 c1 c2])
  · refine tr_iconst 1 S dX1_init_10 (by decide) ?_
    refine lv_goto (tgt := 26) S.1 S.2.1 dX1_init_11 (by decide) ?_
    exact key _ (by rw [tr_nn_1 c1])
set_option maxHeartbeats 4000000 in
set_option maxRecDepth 100000 in
theorem cM_init (l : Launch) (D : va_G) (h0 sz : Nat) (x : Int32) : Met l yX2_init (ws_ yX2_init cX2_init 2 none) ({ frames := 1, cells := 4, slots := 36, locals := 12 }) (va_Pc [.ref h0, .int x] (tr_Pre D [] (tr_nM h0) sz)) (va_Qv (fun _ => True) (tr_BM D (va_A (tr_nM h0) sz) h0 x) (va_A (tr_nM h0) sz)) 4 36 (va_A (tr_nM h0) sz) := by
  refine Met.ofW (cc := cX2_init) (maxL := 2) (ret := none) (by decide) rfl ?_
  intro p e s m args below meth c s₁ Bd hml hv
  obtain ⟨rfl, hsz, hP, hK, hD0⟩ := hv
  have hx := Bd.exec
  have hb := Bd.bytes
  have hr := Bd.returns
  have hts := atoms_spec (ws := ws_ yX2_init cX2_init 2 none) Bd.pre
  have hts : ∀ w ∈ lw_all, w.before _ s = true := fun w h => hts w (List.mem_cons_of_mem _ h)
  have hown : s.vm.findClass RX2 = some m.cls := findClass_of_methodNamed Bd.named
  have hlocks := Bd.notSynchronized
  have hin : meth.name = "<init>" := (name_of_methodNamed Bd.named Bd.method).1
  subst hsz
  have hD := hD0.self (sz := s.heap.size)
  generalize hAe : va_A (tr_nM h0) s.heap.size = A0 at hD ⊢
  have hA : ∀ q : Nat, s.heap.size ≤ q → A0 q := fun q h => by rw [← hAe]; exact Or.inr h
  have hS : va_S A0 s.heap s.heap [] := va_S.rf
  have hl := lv_entry ([.ref h0, .int x]) (n := 2) (Nat.le_of_ble_eq_true rfl)
  rw [lg_entry_eq]
  generalize (lg_sl ([.ref h0, .int x]) ++ List.replicate (2 - (lg_sl ([.ref h0, .int x])).length) Slot.unset).toArray = ls at hl ⊢
  have hl : lv_has ls 2 [(0, .ref h0), (1, .int x)] := hl
  have S : CallFix p m c cX2_init 2 s _ lw_all RX2 := ⟨hx, hb, hml, hown, hts⟩
  refine lv_aload_n hx hb dX2_init_0 rfl (lv_at hl 0 rfl) ?_
  refine W.objInit hx hb hown (hts _ q135) (hts _ q20) (hts _ q21) rfl (by rw [hml]; exact hl.1) rfl dX2_init_1 (Nat.le_of_ble_eq_true rfl) (Nat.le_of_ble_eq_true rfl) ?_
  refine W.eq (g2 := F0 m 4 ls []) rfl ?_
  refine lv_aload_n hx hb dX2_init_4 rfl (lv_at hl 0 rfl) ?_
  refine tr_bipush 10 S dX2_init_5 (by decide) ?_
  refine va_newa (atype := .boolean) (ty := .boolean) (N' := 10) (a0 := tr_zB) hx hb (hts _ q47) rfl hK hP hD hS hA (tr_zB_ok) (nI_pos (by decide)) (nI_clamp (by decide)) (by decide) (Nat.le_of_ble_eq_true rfl) (Nat.le_of_ble_eq_true rfl) dX2_init_7 (fun q1 cA1 H hK hP hD hS => ?_)
  have hK : va_K D tr_Cl [(cA1, .boolean)] s := hK
  have hP : va_P D tr_Cl [(h0, .inr (1, [.int (nI 0), .null, .null, .null, .int (nI 0), .null])), (q1, .inl (cA1, tr_zB))] H := hP
  have hD : va_D A0 [(h0, .inr (1, [.int (nI 0), .null, .null, .null, .int (nI 0), .null])), (q1, .inl (cA1, tr_zB))] := hD
  refine va_putF (D := D) (ci := 1) (v := .ref q1) (ty := .array .boolean) (C := RX2) (T := TX2) (N := 6) hx hb hts in_X2 tyX2 tyX2_ok nmX2 hown hK hP hD hS 0 rfl rfl 1 (by decide) (hts _ q137) (fun _ h9 => h9) rfl hin rfl (by decide +kernel) rfl rfl (Nat.le_of_ble_eq_true rfl) dX2_init_9 (fun H locs hP hD hS => ?_)
  have hP : va_P D tr_Cl [(h0, .inr (1, [.int (nI 0), .ref q1, .null, .null, .int (nI 0), .null])), (q1, .inl (cA1, tr_zB))] H := hP
  have hD : va_D A0 [(h0, .inr (1, [.int (nI 0), .ref q1, .null, .null, .int (nI 0), .null])), (q1, .inl (cA1, tr_zB))] := hD
  refine lv_aload_n hx hb dX2_init_12 rfl (lv_at hl 0 rfl) ?_
  refine tr_bipush 10 S dX2_init_13 (by decide) ?_
  refine va_newa (atype := .int) (ty := .int) (N' := 10) (a0 := tr_zI 10) hx hb (hts _ q48) rfl hK hP hD hS hA (tr_zI_ok 10) (nI_pos (by decide)) (nI_clamp (by decide)) (by decide) (Nat.le_of_ble_eq_true rfl) (Nat.le_of_ble_eq_true rfl) dX2_init_15 (fun q2 cA2 H hK hP hD hS => ?_)
  have hK : va_K D tr_Cl [(cA1, .boolean), (cA2, .int)] s := hK
  have hP : va_P D tr_Cl [(h0, .inr (1, [.int (nI 0), .ref q1, .null, .null, .int (nI 0), .null])), (q1, .inl (cA1, tr_zB)), (q2, .inl (cA2, tr_zI 10))] H := hP
  have hD : va_D A0 [(h0, .inr (1, [.int (nI 0), .ref q1, .null, .null, .int (nI 0), .null])), (q1, .inl (cA1, tr_zB)), (q2, .inl (cA2, tr_zI 10))] := hD
  refine va_putF (D := D) (ci := 1) (v := .ref q2) (ty := .array .int) (C := RX2) (T := TX2) (N := 6) hx hb hts in_X2 tyX2 tyX2_ok nmX2 hown hK hP hD hS 0 rfl rfl 2 (by decide) (hts _ q138) (fun _ h9 => h9) rfl hin rfl (by decide +kernel) rfl rfl (Nat.le_of_ble_eq_true rfl) dX2_init_17 (fun H locs hP hD hS => ?_)
  have hP : va_P D tr_Cl [(h0, .inr (1, [.int (nI 0), .ref q1, .ref q2, .null, .int (nI 0), .null])), (q1, .inl (cA1, tr_zB)), (q2, .inl (cA2, tr_zI 10))] H := hP
  have hD : va_D A0 [(h0, .inr (1, [.int (nI 0), .ref q1, .ref q2, .null, .int (nI 0), .null])), (q1, .inl (cA1, tr_zB)), (q2, .inl (cA2, tr_zI 10))] := hD
  refine lv_aload_n hx hb dX2_init_20 rfl (lv_at hl 0 rfl) ?_
  refine tr_bipush 10 S dX2_init_21 (by decide) ?_
  refine va_newa (atype := .int) (ty := .int) (N' := 10) (a0 := tr_zI 10) hx hb (hts _ q48) rfl hK hP hD hS hA (tr_zI_ok 10) (nI_pos (by decide)) (nI_clamp (by decide)) (by decide) (Nat.le_of_ble_eq_true rfl) (Nat.le_of_ble_eq_true rfl) dX2_init_23 (fun q3 cA3 H hK hP hD hS => ?_)
  have hK : va_K D tr_Cl [(cA1, .boolean), (cA2, .int), (cA3, .int)] s := hK
  have hP : va_P D tr_Cl [(h0, .inr (1, [.int (nI 0), .ref q1, .ref q2, .null, .int (nI 0), .null])), (q1, .inl (cA1, tr_zB)), (q2, .inl (cA2, tr_zI 10)), (q3, .inl (cA3, tr_zI 10))] H := hP
  have hD : va_D A0 [(h0, .inr (1, [.int (nI 0), .ref q1, .ref q2, .null, .int (nI 0), .null])), (q1, .inl (cA1, tr_zB)), (q2, .inl (cA2, tr_zI 10)), (q3, .inl (cA3, tr_zI 10))] := hD
  refine va_putF (D := D) (ci := 1) (v := .ref q3) (ty := .array .int) (C := RX2) (T := TX2) (N := 6) hx hb hts in_X2 tyX2 tyX2_ok nmX2 hown hK hP hD hS 0 rfl rfl 3 (by decide) (hts _ q139) (fun _ h9 => h9) rfl hin rfl (by decide +kernel) rfl rfl (Nat.le_of_ble_eq_true rfl) dX2_init_25 (fun H locs hP hD hS => ?_)
  have hP : va_P D tr_Cl [(h0, .inr (1, [.int (nI 0), .ref q1, .ref q2, .ref q3, .int (nI 0), .null])), (q1, .inl (cA1, tr_zB)), (q2, .inl (cA2, tr_zI 10)), (q3, .inl (cA3, tr_zI 10))] H := hP
  have hD : va_D A0 [(h0, .inr (1, [.int (nI 0), .ref q1, .ref q2, .ref q3, .int (nI 0), .null])), (q1, .inl (cA1, tr_zB)), (q2, .inl (cA2, tr_zI 10)), (q3, .inl (cA3, tr_zI 10))] := hD
  refine lv_aload_n hx hb dX2_init_28 rfl (lv_at hl 0 rfl) ?_
  refine tr_bipush 6 S dX2_init_29 (by decide) ?_
  refine va_newa (atype := .int) (ty := .int) (N' := 6) (a0 := tr_zI 6) hx hb (hts _ q48) rfl hK hP hD hS hA (tr_zI_ok 6) (nI_pos (by decide)) (nI_clamp (by decide)) (by decide) (Nat.le_of_ble_eq_true rfl) (Nat.le_of_ble_eq_true rfl) dX2_init_31 (fun q4 cA4 H hK hP hD hS => ?_)
  have hK : va_K D tr_Cl [(cA1, .boolean), (cA2, .int), (cA3, .int), (cA4, .int)] s := hK
  have hP : va_P D tr_Cl [(h0, .inr (1, [.int (nI 0), .ref q1, .ref q2, .ref q3, .int (nI 0), .null])), (q1, .inl (cA1, tr_zB)), (q2, .inl (cA2, tr_zI 10)), (q3, .inl (cA3, tr_zI 10)), (q4, .inl (cA4, tr_zI 6))] H := hP
  have hD : va_D A0 [(h0, .inr (1, [.int (nI 0), .ref q1, .ref q2, .ref q3, .int (nI 0), .null])), (q1, .inl (cA1, tr_zB)), (q2, .inl (cA2, tr_zI 10)), (q3, .inl (cA3, tr_zI 10)), (q4, .inl (cA4, tr_zI 6))] := hD
  refine va_putF (D := D) (ci := 1) (v := .ref q4) (ty := .array .int) (C := RX2) (T := TX2) (N := 6) hx hb hts in_X2 tyX2 tyX2_ok nmX2 hown hK hP hD hS 0 rfl rfl 5 (by decide) (hts _ q141) (fun _ h9 => h9) rfl hin rfl (by decide +kernel) rfl rfl (Nat.le_of_ble_eq_true rfl) dX2_init_33 (fun H locs hP hD hS => ?_)
  have hP : va_P D tr_Cl [(h0, .inr (1, [.int (nI 0), .ref q1, .ref q2, .ref q3, .int (nI 0), .ref q4])), (q1, .inl (cA1, tr_zB)), (q2, .inl (cA2, tr_zI 10)), (q3, .inl (cA3, tr_zI 10)), (q4, .inl (cA4, tr_zI 6))] H := hP
  have hD : va_D A0 [(h0, .inr (1, [.int (nI 0), .ref q1, .ref q2, .ref q3, .int (nI 0), .ref q4])), (q1, .inl (cA1, tr_zB)), (q2, .inl (cA2, tr_zI 10)), (q3, .inl (cA3, tr_zI 10)), (q4, .inl (cA4, tr_zI 6))] := hD
  refine W.widen (k := 4) (n := 36) (Nat.le_of_ble_eq_true rfl) (Nat.le_of_ble_eq_true rfl) ?_
  have key : ∀ v : Int32, v = nI (tr_nn x) → W p l e ({ frames := 1, cells := 4, slots := 36, locals := 12 }) s m #[Value.ref h0, Value.int x] below meth c H locs 4 36 (MQ below (va_Qv (fun _ => True) (tr_BM D A0 h0 x) A0) #[Value.ref h0, Value.int x] s 4 36 A0) (F0 m 58 ls [.int v, .ref h0]) := by
    intro v hv0
    subst hv0
    refine va_put (D := D) (ci := 1) (v := .int (nI (tr_nn x))) (ty := .int) (C := RX2) (T := TX2) (N := 6) hx hb hts in_X2 tyX2 tyX2_ok nmX2 hown hK hP hD hS 0 rfl rfl 0 (by decide) (hts _ q136) (fun _ h9 => h9) rfl (by decide +kernel) rfl rfl (Nat.le_of_ble_eq_true rfl) dX2_init_58 (fun H locs hP hD hS => ?_)
    have hP : va_P D tr_Cl [(h0, .inr (1, [.int (nI (tr_nn x)), .ref q1, .ref q2, .ref q3, .int (nI 0), .ref q4])), (q1, .inl (cA1, tr_zB)), (q2, .inl (cA2, tr_zI 10)), (q3, .inl (cA3, tr_zI 10)), (q4, .inl (cA4, tr_zI 6))] H := hP
    have hD : va_D A0 [(h0, .inr (1, [.int (nI (tr_nn x)), .ref q1, .ref q2, .ref q3, .int (nI 0), .ref q4])), (q1, .inl (cA1, tr_zB)), (q2, .inl (cA2, tr_zI 10)), (q3, .inl (cA3, tr_zI 10)), (q4, .inl (cA4, tr_zI 6))] := hD
    exact W.vret hx hb hr (fun t ht hW => ⟨⟨((tr_ad [h0, q1, q2, q3, q4]), (fun k => match k with | 1 => cA1 | 2 => cA2 | 3 => cA3 | _ => cA4)), rfl, trivial, rfl, by rw [ht]; exact hP, va_K.moved hW.alike hK, hD⟩, hS.F ht⟩) hS.2.2 dX2_init_61
  refine lv_aload_n S.1 S.2.1 dX2_init_36 rfl (lv_at hl 0 rfl) ?_
  refine lv_iload_n S.1 S.2.1 dX2_init_37 rfl (lv_at hl 1 rfl) ?_
  refine tr_iconst 1 S dX2_init_38 (by decide) ?_
  refine lv_icmp_ge (tgt := 46) S.1 S.2.1 dX2_init_39 (by decide) (fun c1 => ?_) (fun c1 => ?_)
  · refine lv_iload_n S.1 S.2.1 dX2_init_46 rfl (lv_at hl 1 rfl) ?_
    refine tr_bipush 6 S dX2_init_47 (by decide) ?_
    refine lv_icmp_le (tgt := 57) S.1 S.2.1 dX2_init_49 (by decide) (fun c2 => ?_) (fun c2 => ?_)
    · refine lv_iload_n S.1 S.2.1 dX2_init_57 rfl (lv_at hl 1 rfl) ?_
      exact key _ (tr_nn_x c1 c2).symm
    · refine tr_bipush 6 S dX2_init_52 (by decide) ?_
      refine lv_goto (tgt := 58) S.1 S.2.1 dX2_init_54 (by decide) ?_
      exact key _ (by rw [tr_nn_6 c1 c2])
  · refine tr_iconst 1 S dX2_init_42 (by decide) ?_
    refine lv_goto (tgt := 58) S.1 S.2.1 dX2_init_43 (by decide) ?_
    exact key _ (by rw [tr_nn_1 c1])
end
section
/-! THE CLAIM OUT OF ONE WALK OF THE LAW'S BODY. Your part is whole_start (and what it stands on); all else here is the same for every law, but numbers. -/
def R_law : String := "TreeRankerLaw"
def lw_P (b : Addr) (xs : List Int32) (args : Array Value) (s : State) : Prop := args = #[.ref b] ∧ s.IntsAt b xs ∧ xs.length ≤ 257 ∧ (Jvm.Cond.and given_1 narrow_1).before args s = true
def lw_Q (_ : Array Value) (s : State) (o : Outcome) (t : State) : Prop := o = .returned (some (.int 1)) ∧ Framed s o t [] 600000 7290000
def lw_Z (below : List Frame) (a : Array Value) (s : State) : State → Prop := fun t => ∃ o, t.status = .running ∧ Ended t below o ∧ lw_Q a s o t
/-- the law's own end, with 1 on the stack, nothing written that was there before, its room as the claim has it -/
theorem lw_ret {p : Program} {l : Launch} {e : Env} {s : State} {m : MethodId} {below : List Frame} {meth : Method} {c : Code} {b : Nat} (hx : p.tables.exec = Jvm.exec) (hb : c.code = code) (hr : meth.sig.returnType = ret) (hlocks : meth.locks = false) {pc : Nat} {H : Heap} {ls : Array Slot} (hdg : decode code pc = .ok (.ireturn, 1)) : W p l e room_1 s m #[Value.ref b] below meth c H [] 600000 7290000 (lw_Z below #[Value.ref b] s) (F0 m pc ls [.int 1]) := by
  intro T hT X
  obtain ⟨fs, hret, hrun, hended, hW, hframe⟩ := X.leave (v := some (.int 1)) (hlocks := hlocks) (fun h => by rw [hr] at h; cases h)
  have hmeth' : T.vm.method? m = some meth := X.method'
  refine ⟨T.setFrames fs, ?_, .returned (some (.int 1)), hrun, hended, rfl, ⟨_, rfl⟩, hW, hframe⟩
  jvm_step X.here [X.here.top, hx, hb, hdg, hmeth', hr, ret, narrow_b1]
  (try refine ⟨rfl, ?_⟩); (try refine ⟨rfl, ?_⟩)
  first | (intro acts; rw [hret _ acts rfl rfl rfl]) | rw [hret _ _ rfl rfl rfl]
  exact Steps.refl _
/-- what holds at the law's entry: the machine, the code, the tables' words (any of lw_tbl by 'hts w (by decide +kernel)'), the script of L ints xs at the cell b, what the Statement gives of the start (any of its parts by flat_of_before) -/
def lw_At (p : Program) (s : State) (m : MethodId) (meth : Method) (c : Code) (b L : Nat) (xs : Nat → Int32) : Prop :=
  p.tables.exec = Jvm.exec ∧ c.code = code ∧ meth.sig.returnType = ret ∧ c.maxLocals = 4 ∧ s.vm.findClass R_law = some m.cls ∧ (∀ w ∈ lw_tbl, w.before #[Value.ref b] s = true) ∧ va_X b L xs s s.heap ∧ b < s.heap.size ∧ meth.locks = false ∧ (Jvm.Cond.and given_1 narrow_1).before #[Value.ref b] s = true
/-! THE LAW (text by gen_law.py) -/
section TRL
variable {p : Program} {l : Launch} {e : Env} {Rm : Room} {s : State} {m : MethodId} {args : Array Value} {below : List Frame} {meth : Method} {c : Code} {H : Heap} {locs : List Loc} {cells slots : Nat} {Q : State → Prop}
variable {cc : ByteArray} {pc nL : Nat} {ls : Array Slot} {rest : List Value} {D : va_G} {A0 : Nat → Prop} {own : String} {W0 : va_W}
theorem tr_sld {b L i : Nat} {xs : Nat → Int32} (S0 : CallFix p m c cc nL s args lw_all own) (hX : va_X b L xs s s.heap) (hbl : b < s.heap.size) (hbA : ¬ A0 b) (I : tr_I s A0 D W0 H locs) (hi : i < L) (hL : L < 2 ^ 31) (hdg : decode cc pc = .ok (.iaload, 1)) (kk : W p l e Rm s m args below meth c H locs cells slots Q (F0 m (pc + 1) ls (.int (xs i) :: rest))) : W p l e Rm s m args below meth c H locs cells slots Q (F0 m pc ls (.int (nI i) :: .ref b :: rest)) := by
  refine va_sld S0.1 S0.2.1 hX hbl hbA I.2.2 (vp_in_nI hi hL) hdg ?_
  rw [nI_clamp (by omega)]
  exact kk
variable {ad am : Nat → Nat} {da dm : Nat → ClassId} {n mk n2 mk2 : Nat} {T T2 : Nat → Bool} {A B N R A2 B2 N2 : Nat → Nat} {M : Nat → Int}
set_option maxHeartbeats 4000000 in
set_option maxRecDepth 100000 in
theorem tr_lawX {post : Int32 → (Nat → Nat) × (Nat → Nat) × (Nat → Int) → Prop} {mk' : Nat} {T' : Nat → Bool} {A' B' : Nat → Nat} {y : MethodName} {bytes : ByteArray} {maxL nn index : Nat} {rm : Room} {As : List Value} (S0 : CallFix p m c cc nL s args lw_all own) (hK : va_K D tr_Cl (tr_Xt da) s) (I : tr_I s A0 D (tr_XW ad da n mk T A B N R M ++ tr_MW am dm n2 mk2 T2 A2 B2 N2) H locs) (hA : ∀ q : Nat, s.heap.size ≤ q → A0 q)
    (hM : tr_Meti l y bytes maxL rm D (tr_Xt da) (tr_XW ad da n mk T A B N R M) H.size (.ref (ad 0) :: As) post (fun u => tr_XW ad da n mk' T' A' B' u.1 u.2.1 u.2.2)) (cw : CallW Rm s args own RX1 index y bytes maxL (some .int) (ws_ y bytes maxL (some .int)) rm 0 0 nn) (hn : As.length = nn) (hsize : ls.size = nL) {st : List Value} (hst : st = As.reverse ++ .ref (ad 0) :: rest) (hroom : (rest.map fun v => v.category).sum ≤ 8) (hdg : decode cc pc = .ok (.invokevirtual index, 3)) (hf : cells ≤ Rm.cells ∧ slots ≤ Rm.slots)
    (kk : ∀ (r : Int32) (N' R' : Nat → Nat) (M' : Nat → Int) (H1 : Heap) (locs1 : List Loc), post r (N', R', M') → tr_I s A0 D (tr_XW ad da n mk' T' A' B' N' R' M' ++ tr_MW am dm n2 mk2 T2 A2 B2 N2) H1 locs1 → W p l e Rm s m args below meth c H1 locs1 cells slots Q (F0 m (pc + 3) ls (.int r :: rest))) : W p l e Rm s m args below meth c H locs cells slots Q (F0 m pc ls st) := by
  subst hst
  have hPc : va_P D tr_Cl (tr_XW ad da n mk T A B N R M) H := I.1.sub [0, 1, 2, 3, 4, 5, 6] rfl
  have hDc : va_D A0 (tr_XW ad da n mk T A B N R M) := I.2.1.sub [0, 1, 2, 3, 4, 5, 6] (by decide) rfl
  have hFc := va_free (wc := tr_XW ad da n mk T A B N R M) I.2.1 I.2.2 hA [0, 1, 2, 3, 4, 5, 6] rfl
  refine va_calli (va_runV (As := As) (rest := rest) S0 hM cw ⟨tr_blind, va_recv hK hPc (ci := 0) (q := (RX1, TX1, 8)) (q0 := 0) rfl rfl, fun U hU hW => ⟨rfl, by rw [hU], by rw [hU]; exact hPc, va_K.moved hW.alike hK, hDc.weaken (fun _ _ _ _ => trivial)⟩⟩ rfl hn hsize rfl (lv_room hroom) hdg hf) I.2.2 (fun q _ h => hFc q h) hFc (fun r u t H1 locs1 ht hvm hw hB hz1 hk1 hS => ?_)
  obtain ⟨hP1, hK1, hD1⟩ := hB
  rw [ht] at hP1
  obtain ⟨hP2, hD2⟩ := va_join (wr := tr_MW am dm n2 mk2 T2 A2 B2 N2) (w1 := tr_XW ad da n mk' T' A' B' u.1 u.2.1 u.2.2) I.1 I.2.1 [0, 1, 2, 3, 4, 5, 6] [7, 8, 9, 10, 11] rfl rfl (by decide) (by decide) hk1 hFc hP1 hD1
  exact kk r u.1 u.2.1 u.2.2 H1 locs1 hw ⟨hP2.sub [5, 6, 7, 8, 9, 10, 11, 0, 1, 2, 3, 4] rfl, hD2.sub [5, 6, 7, 8, 9, 10, 11, 0, 1, 2, 3, 4] (by decide) rfl, hS⟩
set_option maxHeartbeats 4000000 in
set_option maxRecDepth 100000 in
theorem tr_lawM {post : Int32 → (Nat → Nat) → Prop} {mk' : Nat} {T' : Nat → Bool} {A' B' : Nat → Nat} {y : MethodName} {bytes : ByteArray} {maxL nn index : Nat} {rm : Room} {As : List Value} (S0 : CallFix p m c cc nL s args lw_all own) (hK : va_K D tr_Cl (tr_Mt dm) s) (I : tr_I s A0 D (tr_XW ad da n mk T A B N R M ++ tr_MW am dm n2 mk2 T2 A2 B2 N2) H locs) (hA : ∀ q : Nat, s.heap.size ≤ q → A0 q)
    (hM : tr_Meti l y bytes maxL rm D (tr_Mt dm) (tr_MW am dm n2 mk2 T2 A2 B2 N2) H.size (.ref (am 0) :: As) post (fun N' => tr_MW am dm n2 mk' T' A' B' N')) (cw : CallW Rm s args own RX2 index y bytes maxL (some .int) (ws_ y bytes maxL (some .int)) rm 0 0 nn) (hn : As.length = nn) (hsize : ls.size = nL) {st : List Value} (hst : st = As.reverse ++ .ref (am 0) :: rest) (hroom : (rest.map fun v => v.category).sum ≤ 8) (hdg : decode cc pc = .ok (.invokevirtual index, 3)) (hf : cells ≤ Rm.cells ∧ slots ≤ Rm.slots)
    (kk : ∀ (r : Int32) (N' : Nat → Nat) (H1 : Heap) (locs1 : List Loc), post r N' → tr_I s A0 D (tr_XW ad da n mk T A B N R M ++ tr_MW am dm n2 mk' T' A' B' N') H1 locs1 → W p l e Rm s m args below meth c H1 locs1 cells slots Q (F0 m (pc + 3) ls (.int r :: rest))) : W p l e Rm s m args below meth c H locs cells slots Q (F0 m pc ls st) := by
  subst hst
  have hPc : va_P D tr_Cl (tr_MW am dm n2 mk2 T2 A2 B2 N2) H := I.1.sub [7, 8, 9, 10, 11] rfl
  have hDc : va_D A0 (tr_MW am dm n2 mk2 T2 A2 B2 N2) := I.2.1.sub [7, 8, 9, 10, 11] (by decide) rfl
  have hFc := va_free (wc := tr_MW am dm n2 mk2 T2 A2 B2 N2) I.2.1 I.2.2 hA [7, 8, 9, 10, 11] rfl
  refine va_calli (va_runV (As := As) (rest := rest) S0 hM cw ⟨tr_blind, va_recv hK hPc (ci := 1) (q := (RX2, TX2, 6)) (q0 := 0) rfl rfl, fun U hU hW => ⟨rfl, by rw [hU], by rw [hU]; exact hPc, va_K.moved hW.alike hK, hDc.weaken (fun _ _ _ _ => trivial)⟩⟩ rfl hn hsize rfl (lv_room hroom) hdg hf) I.2.2 (fun q _ h => hFc q h) hFc (fun r u t H1 locs1 ht hvm hw hB hz1 hk1 hS => ?_)
  obtain ⟨hP1, hK1, hD1⟩ := hB
  rw [ht] at hP1
  obtain ⟨hP2, hD2⟩ := va_join (wr := tr_XW ad da n mk T A B N R M) (w1 := tr_MW am dm n2 mk' T' A' B' u) I.1 I.2.1 [7, 8, 9, 10, 11] [0, 1, 2, 3, 4, 5, 6] rfl rfl (by decide) (by decide) hk1 hFc hP1 hD1
  exact kk r u H1 locs1 hw ⟨hP2, hD2, hS⟩
end TRL
def tr_c0 (L : Nat) (xs : Nat → Int32) : Int32 := if 0 < L then xs 0 else 0
set_option maxHeartbeats 4000000 in
set_option maxRecDepth 100000 in
theorem cL_cell (l : Launch) (b L : Nat) (xs : Nat → Int32) (sz : Nat) (hL : L ≤ 257) : Met l yX0_cell (ws_ yX0_cell cX0_cell 2 (some .int)) ({ frames := 0, cells := 0, slots := 0, locals := 0 }) (va_Pc [.ref b, .int (nI 0)] (fun U => U.heap.size = sz ∧ b < sz ∧ va_X b L xs U U.heap)) (va_Qi (fun r (_ : Unit) => r = tr_c0 L xs) (fun _ _ => True) (va_A [] sz)) 0 0 (va_A [] sz) := by
  refine Met.ofW (cc := cX0_cell) (maxL := 2) (ret := some .int) (by decide) rfl ?_
  intro p e s m args below meth c s₁ Bd hml hv
  obtain ⟨rfl, hsz, hbl, hX⟩ := hv
  have hx := Bd.exec
  have hb := Bd.bytes
  have hr := Bd.returns
  have hlocks := Bd.notSynchronized
  have hts := atoms_spec (ws := ws_ yX0_cell cX0_cell 2 (some .int)) Bd.pre
  have hts : ∀ w ∈ lw_all, w.before _ s = true := fun w h => hts w (List.mem_cons_of_mem _ h)
  have hown : s.vm.findClass RX0 = some m.cls := findClass_of_methodNamed Bd.named
  subst hsz
  have hbA : ¬ va_A [] s.heap.size b := by
    rintro (⟨k, e, h⟩ | h)
    · simp at h
    · omega
  have hS : va_S (va_A [] s.heap.size) s.heap s.heap [] := va_S.rf
  have hl := lv_entry ([.ref b, .int (nI 0)]) (n := 2) (Nat.le_of_ble_eq_true rfl)
  rw [lg_entry_eq]
  generalize (lg_sl ([.ref b, .int (nI 0)]) ++ List.replicate (2 - (lg_sl ([.ref b, .int (nI 0)])).length) Slot.unset).toArray = ls at hl ⊢
  have hl : lv_has ls 2 [(0, .ref b), (1, .int (nI 0))] := hl
  have S : CallFix p m c cX0_cell 2 s _ lw_all RX0 := ⟨hx, hb, hml, hown, hts⟩
  refine lv_iload_n hx hb dX0_cell_0 rfl (lv_at hl 1 rfl) ?_
  refine lv_aload_n hx hb dX0_cell_1 rfl (lv_at hl 0 rfl) ?_
  refine va_slen hx hb hX hbl hbA hS dX0_cell_2 ?_
  refine tr_icmp_ge (a := 0) (b := L) 12 S dX0_cell_3 (by decide) (by omega) (by omega) (fun c1 => ?_) (fun c1 => ?_)
  · refine lv_iconst (v := 0) hx hb dX0_cell_12 (by decide) ?_
    exact W.iret (v := 0) hx hb hr (fun t ht hW => ⟨⟨0, (), rfl, (if_neg (by omega)).symm, trivial⟩, hS.F ht⟩) hS.2.2 dX0_cell_13 hlocks
  · refine lv_aload_n hx hb dX0_cell_6 rfl (lv_at hl 0 rfl) ?_
    refine lv_iload_n hx hb dX0_cell_7 rfl (lv_at hl 1 rfl) ?_
    refine va_sld hx hb hX hbl hbA hS (vp_in_nI c1 (by omega)) dX0_cell_8 ?_
    rw [nI_clamp (by decide)]
    refine lv_goto (tgt := 13) hx hb dX0_cell_9 (by decide) ?_
    exact W.iret (v := xs 0) hx hb hr (fun t ht hW => ⟨⟨xs 0, (), rfl, (if_pos c1).symm, trivial⟩, hS.F ht⟩) hS.2.2 dX0_cell_13 hlocks
section TRC
variable {p : Program} {l : Launch} {e : Env} {s : State} {m : MethodId} {args : Array Value} {below : List Frame} {meth : Method} {c : Code} {H : Heap} {locs : List Loc} {cells slots : Nat} {Q : State → Prop}
variable {pc : Nat} {ls : Array Slot} {rest : List Value} {D : va_G} {A0 : Nat → Prop} {W0 : va_W}
set_option maxHeartbeats 4000000 in
set_option maxRecDepth 100000 in
theorem tr_lcell {b L : Nat} {xs : Nat → Int32} (S0 : CallFix p m c cL_law 4 s args lw_all R_law) (hX : va_X b L xs s s.heap) (hbl : b < s.heap.size) (hbA : ¬ A0 b) (hL : L ≤ 257) (I : tr_I s A0 D W0 H locs) (hA : ∀ q : Nat, s.heap.size ≤ q → A0 q) (hsize : ls.size = 4) (hroom : (rest.map fun v => v.category).sum ≤ 8) (hdg : decode cL_law pc = .ok (.invokestatic 9, 3)) (hf : cells ≤ room_1.cells ∧ slots ≤ room_1.slots)
    (kk : ∀ (H1 : Heap) (locs1 : List Loc), tr_I s A0 D W0 H1 locs1 → W p l e room_1 s m args below meth c H1 locs1 cells slots Q (F0 m (pc + 3) ls (.int (tr_c0 L xs) :: rest))) : W p l e room_1 s m args below meth c H locs cells slots Q (F0 m pc ls (.int (nI 0) :: .ref b :: rest)) := by
  have hFc : ∀ q, va_A [] H.size q → A0 q := by
    intro q h
    rcases h with ⟨k, e, h⟩ | h
    · simp at h
    · exact hA q (Nat.le_trans I.2.2.1 h)
  have hXH : va_X b L xs s H := hX.kept (I.2.2.2.1 b hbl hbA)
  refine va_calli (va_runS (As := [.ref b, .int (nI 0)]) (rest := rest) S0 (cL_cell l b L xs H.size hL) (va_cwS 2 S0.2.2.2.2 (lw_S q127 q128 q11 q129) rfl rfl rfl (by decide +kernel) ⟨Nat.le_of_ble_eq_true rfl, Nat.le_of_ble_eq_true rfl⟩) ⟨fun a U g mk q => by
    obtain ⟨q0, q1, q2, qX⟩ := q
    exact ⟨q0, q1, q2, va_X.moved (u := U) (U := U.calling g mk a) (Vm.Alike.refl U.vm) qX⟩, fun U hU hW => ⟨rfl, by rw [hU], Nat.lt_of_lt_of_le hbl I.2.2.1, by rw [hU]; exact hXH.moved hW.alike⟩⟩ rfl rfl hsize rfl (lv_room hroom) hdg hf) I.2.2 (fun q _ h => hFc q h) hFc (fun r u t H1 locs1 ht hvm hw hB hz1 hk1 hS => ?_)
  subst hw
  refine kk H1 locs1 ⟨I.1.kept (fun k q hq => hk1 q.1 ((I.1 k q hq).lt) (fun z => ?_)), I.2.1, hS⟩
  rcases z with ⟨k2, e2, z⟩ | z
  · simp at z
  · have := (I.1 k q hq).lt
    omega
end TRC
set_option maxHeartbeats 4000000 in
set_option maxRecDepth 100000 in
theorem law_loop {p : Program} {e : Env} {s : State} {m : MethodId} {below : List Frame} {meth : Method} {c : Code} {l : Launch} {b L : Nat} {xs : Nat → Int32} {D : va_G} {ad am : Nat → Nat} {da dm : Nat → ClassId} (hL : L ≤ 257) (C0 : lw_At p s m meth c b L xs) (hKx : va_K D tr_Cl (tr_Xt da) s) (hKm : va_K D tr_Cl (tr_Mt dm) s) :
    ∀ (f i n mk : Nat) (T : Nat → Bool) (A B N R : Nat → Nat) (M : Nat → Int) (N2 : Nat → Nat) (H : Heap) (locs : List Loc) (ls : Array Slot), i ≤ L + 1 → L + 2 ≤ i + f → 1 ≤ n → n ≤ 6 → (∀ k, k < 10 → A k < n ∧ B k < n) → mk < 1024 → tr_I s (fun q : Nat => s.heap.size ≤ q) D (tr_XW ad da n mk T A B N R M ++ tr_MW am dm n mk T A B N2) H locs → lv_has ls 4 [(3, .int (nI i)), (2, .ref (am 0)), (1, .ref (ad 0)), (0, .ref b)] → W p l e room_1 s m #[Value.ref b] below meth c H locs 600000 7290000 (lw_Z below #[Value.ref b] s) (F0 m 28 ls []) := by
  obtain ⟨hx, hb, hr, hml, hown, hts0, hX, hbl, hlocks, hgv⟩ := id C0
  have hts : ∀ w ∈ lw_all, w.before #[Value.ref b] s = true := fun w h => hts0 w (lw_all_tbl h)
  have S : CallFix p m c cL_law 4 s #[Value.ref b] lw_all R_law := ⟨hx, hb, hml, hown, hts⟩
  have hA : ∀ q : Nat, s.heap.size ≤ q → (fun q : Nat => s.heap.size ≤ q) q := fun _ h => h
  have hbA : ¬ (fun q : Nat => s.heap.size ≤ q) b := Nat.not_le.mpr hbl
  intro f
  induction f with
  | zero => intro i n mk T A B N R M N2 H locs ls h1 h2; exact absurd h2 (by omega)
  | succ f ih =>
    intro i n mk T A B N R M N2 H locs ls h1 h2 hn1 hn hAB hmk I hl
    refine lv_iload_n S.1 S.2.1 dL_law_28 rfl (lv_at hl 0 rfl) ?_
    refine lv_aload_n S.1 S.2.1 dL_law_29 rfl (lv_at hl 3 rfl) ?_
    refine va_slen hx hb hX hbl hbA I.2.2 dL_law_30 ?_
    refine tr_iconst 4 S dL_law_31 (by decide) ?_
    refine lv_isub hx hb dL_law_32 ?_
    refine lv_icmp_gt (tgt := 339) S.1 S.2.1 dL_law_33 (by decide) (fun c1 => ?_) (fun c1 => ?_)
    · refine lv_iconst (v := 1) hx hb dL_law_339 (by decide) ?_
      refine va_forget (fun q hq => I.2.2.2.2 q hq) ?_
      exact lw_ret hx hb hr hlocks dL_law_340
    · have hi4 : i + 4 ≤ L := by
        rcases Nat.lt_or_ge L (i + 4) with q | q
        · exfalso
          apply c1
          show nI L - nI 4 < nI i
          rw [Int32.lt_iff_toInt_lt, pk_sub_toInt (by omega) (by omega), nI_toInt (by omega)]
          omega
        · exact q
      refine lv_aload_n S.1 S.2.1 dL_law_36 rfl (lv_at hl 3 rfl) ?_
      refine lv_iload_n S.1 S.2.1 dL_law_37 rfl (lv_at hl 0 rfl) ?_
      refine tr_sld S hX hbl hbA I (by omega) (by omega) dL_law_38 ?_
      refine tr_bipush 15 S dL_law_39 (by decide) ?_
      refine lv_iand hx hb dL_law_41 ?_
      obtain ⟨j, hj, ej⟩ := pk_andE (xs i) (m := nI 15) 4 (by decide)
      refine tr_ti ej ?_
      have hc : j = 0 ∨ j = 1 ∨ j = 2 ∨ j = 3 ∨ j = 4 ∨ j = 5 ∨ j = 6 ∨ j = 7 ∨ j = 8 ∨ j = 9 ∨ j = 10 ∨ 11 ≤ j := by omega
      rcases hc with rfl | rfl | rfl | rfl | rfl | rfl | rfl | rfl | rfl | rfl | rfl | hc
      · refine lv_tableIn (tgt := 100) (off := 58) hx hb dL_law_42 (by decide) (by decide) (by decide) (by decide) ?_
        refine lv_aload_n S.1 S.2.1 dL_law_100 rfl (lv_at hl 2 rfl) ?_
        refine lv_aload_n S.1 S.2.1 dL_law_101 rfl (lv_at hl 3 rfl) ?_
        refine lv_iload_n S.1 S.2.1 dL_law_102 rfl (lv_at hl 0 rfl) ?_
        refine tr_iconst 1 S dL_law_103 (by decide) ?_
        refine tr_iadd S dL_law_104 ?_
        refine tr_sld S hX hbl hbA I (by omega) (by omega) dL_law_105 ?_
        refine lv_aload_n S.1 S.2.1 dL_law_106 rfl (lv_at hl 3 rfl) ?_
        refine lv_iload_n S.1 S.2.1 dL_law_107 rfl (lv_at hl 0 rfl) ?_
        refine tr_iconst 2 S dL_law_108 (by decide) ?_
        refine tr_iadd S dL_law_109 ?_
        refine tr_sld S hX hbl hbA I (by omega) (by omega) dL_law_110 ?_
        refine lv_aload_n S.1 S.2.1 dL_law_111 rfl (lv_at hl 3 rfl) ?_
        refine lv_iload_n S.1 S.2.1 dL_law_112 rfl (lv_at hl 0 rfl) ?_
        refine tr_iconst 3 S dL_law_113 (by decide) ?_
        refine tr_iadd S dL_law_114 ?_
        refine tr_sld S hX hbl hbA I (by omega) (by omega) dL_law_115 ?_
        refine tr_lawX (As := [.int (xs (i + 1)), .int (xs (i + 2)), .int (xs (i + 3))]) (rest := []) S hKx I hA (cX_draw l D ad da n mk T A B N R M H.size (xs (i + 1)) (xs (i + 2)) (xs (i + 3)) hn1 hn hAB) (cwV 3 hts (lw_V q50 q51 q52 q12 q53) rfl rfl rfl (by decide +kernel) ⟨Nat.le_of_ble_eq_true rfl, Nat.le_of_ble_eq_true rfl⟩) rfl hl.1 rfl (Nat.le_of_ble_eq_true rfl) dL_law_116 ⟨Nat.le_of_ble_eq_true rfl, Nat.le_of_ble_eq_true rfl⟩ (fun r1 N R M H locs hr1 I => ?_)
        refine lv_aload_n S.1 S.2.1 dL_law_119 rfl (lv_at hl 1 rfl) ?_
        refine lv_aload_n S.1 S.2.1 dL_law_120 rfl (lv_at hl 3 rfl) ?_
        refine lv_iload_n S.1 S.2.1 dL_law_121 rfl (lv_at hl 0 rfl) ?_
        refine tr_iconst 1 S dL_law_122 (by decide) ?_
        refine tr_iadd S dL_law_123 ?_
        refine tr_sld S hX hbl hbA I (by omega) (by omega) dL_law_124 ?_
        refine lv_aload_n S.1 S.2.1 dL_law_125 rfl (lv_at hl 3 rfl) ?_
        refine lv_iload_n S.1 S.2.1 dL_law_126 rfl (lv_at hl 0 rfl) ?_
        refine tr_iconst 2 S dL_law_127 (by decide) ?_
        refine tr_iadd S dL_law_128 ?_
        refine tr_sld S hX hbl hbA I (by omega) (by omega) dL_law_129 ?_
        refine lv_aload_n S.1 S.2.1 dL_law_130 rfl (lv_at hl 3 rfl) ?_
        refine lv_iload_n S.1 S.2.1 dL_law_131 rfl (lv_at hl 0 rfl) ?_
        refine tr_iconst 3 S dL_law_132 (by decide) ?_
        refine tr_iadd S dL_law_133 ?_
        refine tr_sld S hX hbl hbA I (by omega) (by omega) dL_law_134 ?_
        refine tr_lawM (As := [.int (xs (i + 1)), .int (xs (i + 2)), .int (xs (i + 3))]) (rest := [.int r1]) S hKm I hA (cM_draw l D am dm n mk T A B N2 H.size (xs (i + 1)) (xs (i + 2)) (xs (i + 3)) hn) (cwV 3 hts (lw_V q155 q156 q157 q13 q158) rfl rfl rfl (by decide +kernel) ⟨Nat.le_of_ble_eq_true rfl, Nat.le_of_ble_eq_true rfl⟩) rfl hl.1 rfl (Nat.le_of_ble_eq_true rfl) dL_law_135 ⟨Nat.le_of_ble_eq_true rfl, Nat.le_of_ble_eq_true rfl⟩ (fun r2 N2 H locs hr2 I => ?_)
        refine lv_icmp_eq (tgt := 333) hx hb dL_law_138 (by decide) (fun _ => ?_) (fun q => absurd (hr1.trans hr2.symm) q)
        refine lv_iinc (k := 0) (v := nI (i + 4)) (lv' := [(3, .int (nI (i + 4))), (2, .ref (am 0)), (1, .ref (ad 0)), (0, .ref b)]) S.1 S.2.1 dL_law_333 hl rfl (by rw [show Int32.ofInt 4 = nI 4 from by decide]; exact nI_add _ _) (by decide) rfl (fun ls hl => ?_)
        refine lv_goto (tgt := 28) S.1 S.2.1 dL_law_336 (by decide) ?_
        exact ih (i + 4) n mk (tr_dT n T (xs (i + 1)) (xs (i + 2)) (xs (i + 3))) (tr_dE n A (xs (i + 1)) (xs (i + 2)) (xs (i + 3)) (xs (i + 2))) (tr_dE n B (xs (i + 1)) (xs (i + 2)) (xs (i + 3)) (xs (i + 3))) N R M N2 H locs ls (by omega) (by omega) hn1 hn (tr_dE_lt hn hAB) (hmk) I (lv_sub hl [0, 1, 2, 3] rfl)
      · refine lv_tableIn (tgt := 143) (off := 101) hx hb dL_law_42 (by decide) (by decide) (by decide) (by decide) ?_
        refine lv_aload_n S.1 S.2.1 dL_law_143 rfl (lv_at hl 2 rfl) ?_
        refine lv_aload_n S.1 S.2.1 dL_law_144 rfl (lv_at hl 3 rfl) ?_
        refine lv_iload_n S.1 S.2.1 dL_law_145 rfl (lv_at hl 0 rfl) ?_
        refine tr_iconst 1 S dL_law_146 (by decide) ?_
        refine tr_iadd S dL_law_147 ?_
        refine tr_sld S hX hbl hbA I (by omega) (by omega) dL_law_148 ?_
        refine tr_lawX (As := [.int (xs (i + 1))]) (rest := []) S hKx I hA (cX_cut l D ad da n mk T A B N R M H.size (xs (i + 1))) (cwV 1 hts (lw_V q57 q58 q59 q12 q60) rfl rfl rfl (by decide +kernel) ⟨Nat.le_of_ble_eq_true rfl, Nat.le_of_ble_eq_true rfl⟩) rfl hl.1 rfl (Nat.le_of_ble_eq_true rfl) dL_law_149 ⟨Nat.le_of_ble_eq_true rfl, Nat.le_of_ble_eq_true rfl⟩ (fun r1 N R M H locs hr1 I => ?_)
        refine lv_aload_n S.1 S.2.1 dL_law_152 rfl (lv_at hl 1 rfl) ?_
        refine lv_aload_n S.1 S.2.1 dL_law_153 rfl (lv_at hl 3 rfl) ?_
        refine lv_iload_n S.1 S.2.1 dL_law_154 rfl (lv_at hl 0 rfl) ?_
        refine tr_iconst 1 S dL_law_155 (by decide) ?_
        refine tr_iadd S dL_law_156 ?_
        refine tr_sld S hX hbl hbA I (by omega) (by omega) dL_law_157 ?_
        refine tr_lawM (As := [.int (xs (i + 1))]) (rest := [.int r1]) S hKm I hA (cM_cut l D am dm n mk T A B N2 H.size (xs (i + 1))) (cwV 1 hts (lw_V q166 q167 q168 q13 q169) rfl rfl rfl (by decide +kernel) ⟨Nat.le_of_ble_eq_true rfl, Nat.le_of_ble_eq_true rfl⟩) rfl hl.1 rfl (Nat.le_of_ble_eq_true rfl) dL_law_158 ⟨Nat.le_of_ble_eq_true rfl, Nat.le_of_ble_eq_true rfl⟩ (fun r2 N2 H locs hr2 I => ?_)
        refine lv_icmp_eq (tgt := 333) hx hb dL_law_161 (by decide) (fun _ => ?_) (fun q => absurd (hr1.trans hr2.symm) q)
        refine lv_iinc (k := 0) (v := nI (i + 4)) (lv' := [(3, .int (nI (i + 4))), (2, .ref (am 0)), (1, .ref (ad 0)), (0, .ref b)]) S.1 S.2.1 dL_law_333 hl rfl (by rw [show Int32.ofInt 4 = nI 4 from by decide]; exact nI_add _ _) (by decide) rfl (fun ls hl => ?_)
        refine lv_goto (tgt := 28) S.1 S.2.1 dL_law_336 (by decide) ?_
        exact ih (i + 4) n mk (tr_cT T (xs (i + 1))) A B N R M N2 H locs ls (by omega) (by omega) hn1 hn (hAB) (hmk) I (lv_sub hl [0, 1, 2, 3] rfl)
      · refine lv_tableIn (tgt := 166) (off := 124) hx hb dL_law_42 (by decide) (by decide) (by decide) (by decide) ?_
        refine lv_aload_n S.1 S.2.1 dL_law_166 rfl (lv_at hl 2 rfl) ?_
        refine tr_lawX (As := []) (rest := []) S hKx I hA (cX_trees l D ad da n mk T A B N R M H.size  hn1 hn hAB) (cwV 0 hts (lw_V q61 q62 q63 q12 q64) rfl rfl rfl (by decide +kernel) ⟨Nat.le_of_ble_eq_true rfl, Nat.le_of_ble_eq_true rfl⟩) rfl hl.1 rfl (Nat.le_of_ble_eq_true rfl) dL_law_167 ⟨Nat.le_of_ble_eq_true rfl, Nat.le_of_ble_eq_true rfl⟩ (fun r1 N R M H locs hr1 I => ?_)
        refine lv_aload_n S.1 S.2.1 dL_law_170 rfl (lv_at hl 1 rfl) ?_
        refine tr_lawM (As := []) (rest := [.int r1]) S hKm I hA (cM_trees l D am dm n mk T A B N2 H.size  hn1 hn hAB) (cwV 0 hts (lw_V q170 q171 q172 q13 q173) rfl rfl rfl (by decide +kernel) ⟨Nat.le_of_ble_eq_true rfl, Nat.le_of_ble_eq_true rfl⟩) rfl hl.1 rfl (Nat.le_of_ble_eq_true rfl) dL_law_171 ⟨Nat.le_of_ble_eq_true rfl, Nat.le_of_ble_eq_true rfl⟩ (fun r2 N2 H locs hr2 I => ?_)
        refine lv_icmp_eq (tgt := 333) hx hb dL_law_174 (by decide) (fun _ => ?_) (fun q => absurd (hr1.trans hr2.symm) q)
        refine lv_iinc (k := 0) (v := nI (i + 4)) (lv' := [(3, .int (nI (i + 4))), (2, .ref (am 0)), (1, .ref (ad 0)), (0, .ref b)]) S.1 S.2.1 dL_law_333 hl rfl (by rw [show Int32.ofInt 4 = nI 4 from by decide]; exact nI_add _ _) (by decide) rfl (fun ls hl => ?_)
        refine lv_goto (tgt := 28) S.1 S.2.1 dL_law_336 (by decide) ?_
        exact ih (i + 4) n mk T A B N R M N2 H locs ls (by omega) (by omega) hn1 hn (hAB) (hmk) I (lv_sub hl [0, 1, 2, 3] rfl)
      · refine lv_tableIn (tgt := 179) (off := 137) hx hb dL_law_42 (by decide) (by decide) (by decide) (by decide) ?_
        refine lv_aload_n S.1 S.2.1 dL_law_179 rfl (lv_at hl 2 rfl) ?_
        refine lv_aload_n S.1 S.2.1 dL_law_180 rfl (lv_at hl 3 rfl) ?_
        refine lv_iload_n S.1 S.2.1 dL_law_181 rfl (lv_at hl 0 rfl) ?_
        refine tr_iconst 1 S dL_law_182 (by decide) ?_
        refine tr_iadd S dL_law_183 ?_
        refine tr_sld S hX hbl hbA I (by omega) (by omega) dL_law_184 ?_
        refine tr_lawX (As := [.int (xs (i + 1))]) (rest := []) S hKx I hA (cX_treesWith l D ad da n mk T A B N R M H.size (xs (i + 1)) hn1 hn hAB) (cwV 1 hts (lw_V q93 q94 q95 q12 q96) rfl rfl rfl (by decide +kernel) ⟨Nat.le_of_ble_eq_true rfl, Nat.le_of_ble_eq_true rfl⟩) rfl hl.1 rfl (Nat.le_of_ble_eq_true rfl) dL_law_185 ⟨Nat.le_of_ble_eq_true rfl, Nat.le_of_ble_eq_true rfl⟩ (fun r1 N R M H locs hr1 I => ?_)
        refine lv_aload_n S.1 S.2.1 dL_law_188 rfl (lv_at hl 1 rfl) ?_
        refine lv_aload_n S.1 S.2.1 dL_law_189 rfl (lv_at hl 3 rfl) ?_
        refine lv_iload_n S.1 S.2.1 dL_law_190 rfl (lv_at hl 0 rfl) ?_
        refine tr_iconst 1 S dL_law_191 (by decide) ?_
        refine tr_iadd S dL_law_192 ?_
        refine tr_sld S hX hbl hbA I (by omega) (by omega) dL_law_193 ?_
        refine tr_lawM (As := [.int (xs (i + 1))]) (rest := [.int r1]) S hKm I hA (cM_treesWith l D am dm n mk T A B N2 H.size (xs (i + 1)) hn1 hn hAB) (cwV 1 hts (lw_V q189 q190 q191 q13 q192) rfl rfl rfl (by decide +kernel) ⟨Nat.le_of_ble_eq_true rfl, Nat.le_of_ble_eq_true rfl⟩) rfl hl.1 rfl (Nat.le_of_ble_eq_true rfl) dL_law_194 ⟨Nat.le_of_ble_eq_true rfl, Nat.le_of_ble_eq_true rfl⟩ (fun r2 N2 H locs hr2 I => ?_)
        refine lv_icmp_eq (tgt := 333) hx hb dL_law_197 (by decide) (fun _ => ?_) (fun q => absurd (hr1.trans hr2.symm) q)
        refine lv_iinc (k := 0) (v := nI (i + 4)) (lv' := [(3, .int (nI (i + 4))), (2, .ref (am 0)), (1, .ref (ad 0)), (0, .ref b)]) S.1 S.2.1 dL_law_333 hl rfl (by rw [show Int32.ofInt 4 = nI 4 from by decide]; exact nI_add _ _) (by decide) rfl (fun ls hl => ?_)
        refine lv_goto (tgt := 28) S.1 S.2.1 dL_law_336 (by decide) ?_
        exact ih (i + 4) n mk T A B N R M N2 H locs ls (by omega) (by omega) hn1 hn (hAB) (hmk) I (lv_sub hl [0, 1, 2, 3] rfl)
      · refine lv_tableIn (tgt := 202) (off := 160) hx hb dL_law_42 (by decide) (by decide) (by decide) (by decide) ?_
        refine lv_aload_n S.1 S.2.1 dL_law_202 rfl (lv_at hl 2 rfl) ?_
        refine lv_aload_n S.1 S.2.1 dL_law_203 rfl (lv_at hl 3 rfl) ?_
        refine lv_iload_n S.1 S.2.1 dL_law_204 rfl (lv_at hl 0 rfl) ?_
        refine tr_iconst 1 S dL_law_205 (by decide) ?_
        refine tr_iadd S dL_law_206 ?_
        refine tr_sld S hX hbl hbA I (by omega) (by omega) dL_law_207 ?_
        refine lv_aload_n S.1 S.2.1 dL_law_208 rfl (lv_at hl 3 rfl) ?_
        refine lv_iload_n S.1 S.2.1 dL_law_209 rfl (lv_at hl 0 rfl) ?_
        refine tr_iconst 2 S dL_law_210 (by decide) ?_
        refine tr_iadd S dL_law_211 ?_
        refine tr_sld S hX hbl hbA I (by omega) (by omega) dL_law_212 ?_
        refine tr_lawX (As := [.int (xs (i + 1)), .int (xs (i + 2))]) (rest := []) S hKx I hA (cX_treesWithBoth l D ad da n mk T A B N R M H.size (xs (i + 1)) (xs (i + 2)) hn1 hn hAB) (cwV 2 hts (lw_V q97 q98 q99 q12 q100) rfl rfl rfl (by decide +kernel) ⟨Nat.le_of_ble_eq_true rfl, Nat.le_of_ble_eq_true rfl⟩) rfl hl.1 rfl (Nat.le_of_ble_eq_true rfl) dL_law_213 ⟨Nat.le_of_ble_eq_true rfl, Nat.le_of_ble_eq_true rfl⟩ (fun r1 N R M H locs hr1 I => ?_)
        refine lv_aload_n S.1 S.2.1 dL_law_216 rfl (lv_at hl 1 rfl) ?_
        refine lv_aload_n S.1 S.2.1 dL_law_217 rfl (lv_at hl 3 rfl) ?_
        refine lv_iload_n S.1 S.2.1 dL_law_218 rfl (lv_at hl 0 rfl) ?_
        refine tr_iconst 1 S dL_law_219 (by decide) ?_
        refine tr_iadd S dL_law_220 ?_
        refine tr_sld S hX hbl hbA I (by omega) (by omega) dL_law_221 ?_
        refine lv_aload_n S.1 S.2.1 dL_law_222 rfl (lv_at hl 3 rfl) ?_
        refine lv_iload_n S.1 S.2.1 dL_law_223 rfl (lv_at hl 0 rfl) ?_
        refine tr_iconst 2 S dL_law_224 (by decide) ?_
        refine tr_iadd S dL_law_225 ?_
        refine tr_sld S hX hbl hbA I (by omega) (by omega) dL_law_226 ?_
        refine tr_lawM (As := [.int (xs (i + 1)), .int (xs (i + 2))]) (rest := [.int r1]) S hKm I hA (cM_treesWithBoth l D am dm n mk T A B N2 H.size (xs (i + 1)) (xs (i + 2)) hn1 hn hAB) (cwV 2 hts (lw_V q193 q194 q195 q13 q196) rfl rfl rfl (by decide +kernel) ⟨Nat.le_of_ble_eq_true rfl, Nat.le_of_ble_eq_true rfl⟩) rfl hl.1 rfl (Nat.le_of_ble_eq_true rfl) dL_law_227 ⟨Nat.le_of_ble_eq_true rfl, Nat.le_of_ble_eq_true rfl⟩ (fun r2 N2 H locs hr2 I => ?_)
        refine lv_icmp_eq (tgt := 333) hx hb dL_law_230 (by decide) (fun _ => ?_) (fun q => absurd (hr1.trans hr2.symm) q)
        refine lv_iinc (k := 0) (v := nI (i + 4)) (lv' := [(3, .int (nI (i + 4))), (2, .ref (am 0)), (1, .ref (ad 0)), (0, .ref b)]) S.1 S.2.1 dL_law_333 hl rfl (by rw [show Int32.ofInt 4 = nI 4 from by decide]; exact nI_add _ _) (by decide) rfl (fun ls hl => ?_)
        refine lv_goto (tgt := 28) S.1 S.2.1 dL_law_336 (by decide) ?_
        exact ih (i + 4) n mk T A B N R M N2 H locs ls (by omega) (by omega) hn1 hn (hAB) (hmk) I (lv_sub hl [0, 1, 2, 3] rfl)
      · refine lv_tableIn (tgt := 235) (off := 193) hx hb dL_law_42 (by decide) (by decide) (by decide) (by decide) ?_
        refine lv_aload_n S.1 S.2.1 dL_law_235 rfl (lv_at hl 2 rfl) ?_
        refine lv_aload_n S.1 S.2.1 dL_law_236 rfl (lv_at hl 3 rfl) ?_
        refine lv_iload_n S.1 S.2.1 dL_law_237 rfl (lv_at hl 0 rfl) ?_
        refine tr_iconst 1 S dL_law_238 (by decide) ?_
        refine tr_iadd S dL_law_239 ?_
        refine tr_sld S hX hbl hbA I (by omega) (by omega) dL_law_240 ?_
        refine tr_lawX (As := [.int (xs (i + 1))]) (rest := []) S hKx I hA (cX_tree l D ad da n mk T A B N R M H.size (xs (i + 1)) hn1 hn hAB) (cwV 1 hts (lw_V q101 q102 q103 q12 q104) rfl rfl rfl (by decide +kernel) ⟨Nat.le_of_ble_eq_true rfl, Nat.le_of_ble_eq_true rfl⟩) rfl hl.1 rfl (Nat.le_of_ble_eq_true rfl) dL_law_241 ⟨Nat.le_of_ble_eq_true rfl, Nat.le_of_ble_eq_true rfl⟩ (fun r1 N R M H locs hr1 I => ?_)
        refine lv_aload_n S.1 S.2.1 dL_law_244 rfl (lv_at hl 1 rfl) ?_
        refine lv_aload_n S.1 S.2.1 dL_law_245 rfl (lv_at hl 3 rfl) ?_
        refine lv_iload_n S.1 S.2.1 dL_law_246 rfl (lv_at hl 0 rfl) ?_
        refine tr_iconst 1 S dL_law_247 (by decide) ?_
        refine tr_iadd S dL_law_248 ?_
        refine tr_sld S hX hbl hbA I (by omega) (by omega) dL_law_249 ?_
        refine tr_lawM (As := [.int (xs (i + 1))]) (rest := [.int r1]) S hKm I hA (cM_tree l D am dm n mk T A B N2 H.size (xs (i + 1)) hn1 hn hAB) (cwV 1 hts (lw_V q197 q198 q199 q13 q200) rfl rfl rfl (by decide +kernel) ⟨Nat.le_of_ble_eq_true rfl, Nat.le_of_ble_eq_true rfl⟩) rfl hl.1 rfl (Nat.le_of_ble_eq_true rfl) dL_law_250 ⟨Nat.le_of_ble_eq_true rfl, Nat.le_of_ble_eq_true rfl⟩ (fun r2 N2 H locs hr2 I => ?_)
        refine lv_icmp_eq (tgt := 333) hx hb dL_law_253 (by decide) (fun _ => ?_) (fun q => absurd (tr_Tree_u hr1 hr2) q)
        refine lv_iinc (k := 0) (v := nI (i + 4)) (lv' := [(3, .int (nI (i + 4))), (2, .ref (am 0)), (1, .ref (ad 0)), (0, .ref b)]) S.1 S.2.1 dL_law_333 hl rfl (by rw [show Int32.ofInt 4 = nI 4 from by decide]; exact nI_add _ _) (by decide) rfl (fun ls hl => ?_)
        refine lv_goto (tgt := 28) S.1 S.2.1 dL_law_336 (by decide) ?_
        exact ih (i + 4) n mk T A B N R M N2 H locs ls (by omega) (by omega) hn1 hn (hAB) (hmk) I (lv_sub hl [0, 1, 2, 3] rfl)
      · refine lv_tableIn (tgt := 258) (off := 216) hx hb dL_law_42 (by decide) (by decide) (by decide) (by decide) ?_
        refine lv_aload_n S.1 S.2.1 dL_law_258 rfl (lv_at hl 2 rfl) ?_
        refine lv_aload_n S.1 S.2.1 dL_law_259 rfl (lv_at hl 3 rfl) ?_
        refine lv_iload_n S.1 S.2.1 dL_law_260 rfl (lv_at hl 0 rfl) ?_
        refine tr_iconst 1 S dL_law_261 (by decide) ?_
        refine tr_iadd S dL_law_262 ?_
        refine tr_sld S hX hbl hbA I (by omega) (by omega) dL_law_263 ?_
        refine tr_lawX (As := [.int (xs (i + 1))]) (rest := []) S hKx I hA (cX_mark l D ad da n mk T A B N R M H.size (xs (i + 1)) hmk) (cwV 1 hts (lw_V q106 q107 q108 q12 q109) rfl rfl rfl (by decide +kernel) ⟨Nat.le_of_ble_eq_true rfl, Nat.le_of_ble_eq_true rfl⟩) rfl hl.1 rfl (Nat.le_of_ble_eq_true rfl) dL_law_264 ⟨Nat.le_of_ble_eq_true rfl, Nat.le_of_ble_eq_true rfl⟩ (fun r1 N R M H locs hr1 I => ?_)
        refine lv_aload_n S.1 S.2.1 dL_law_267 rfl (lv_at hl 1 rfl) ?_
        refine lv_aload_n S.1 S.2.1 dL_law_268 rfl (lv_at hl 3 rfl) ?_
        refine lv_iload_n S.1 S.2.1 dL_law_269 rfl (lv_at hl 0 rfl) ?_
        refine tr_iconst 1 S dL_law_270 (by decide) ?_
        refine tr_iadd S dL_law_271 ?_
        refine tr_sld S hX hbl hbA I (by omega) (by omega) dL_law_272 ?_
        refine tr_lawM (As := [.int (xs (i + 1))]) (rest := [.int r1]) S hKm I hA (cM_mark l D am dm n mk T A B N2 H.size (xs (i + 1)) hmk) (cwV 1 hts (lw_V q201 q202 q203 q13 q204) rfl rfl rfl (by decide +kernel) ⟨Nat.le_of_ble_eq_true rfl, Nat.le_of_ble_eq_true rfl⟩) rfl hl.1 rfl (Nat.le_of_ble_eq_true rfl) dL_law_273 ⟨Nat.le_of_ble_eq_true rfl, Nat.le_of_ble_eq_true rfl⟩ (fun r2 N2 H locs hr2 I => ?_)
        refine lv_icmp_eq (tgt := 333) hx hb dL_law_276 (by decide) (fun _ => ?_) (fun q => absurd (hr1.trans hr2.symm) q)
        refine lv_iinc (k := 0) (v := nI (i + 4)) (lv' := [(3, .int (nI (i + 4))), (2, .ref (am 0)), (1, .ref (ad 0)), (0, .ref b)]) S.1 S.2.1 dL_law_333 hl rfl (by rw [show Int32.ofInt 4 = nI 4 from by decide]; exact nI_add _ _) (by decide) rfl (fun ls hl => ?_)
        refine lv_goto (tgt := 28) S.1 S.2.1 dL_law_336 (by decide) ?_
        exact ih (i + 4) n (tr_mK mk (xs (i + 1))) T A B N R M N2 H locs ls (by omega) (by omega) hn1 hn (hAB) (tr_mK_lt hmk) I (lv_sub hl [0, 1, 2, 3] rfl)
      · refine lv_tableIn (tgt := 281) (off := 239) hx hb dL_law_42 (by decide) (by decide) (by decide) (by decide) ?_
        refine lv_aload_n S.1 S.2.1 dL_law_281 rfl (lv_at hl 2 rfl) ?_
        refine tr_lawX (As := []) (rest := []) S hKx I hA (cX_rank l D ad da n mk T A B N R M H.size  hn1 hn hAB hmk) (cwV 0 hts (lw_V q110 q111 q112 q12 q113) rfl rfl rfl (by decide +kernel) ⟨Nat.le_of_ble_eq_true rfl, Nat.le_of_ble_eq_true rfl⟩) rfl hl.1 rfl (Nat.le_of_ble_eq_true rfl) dL_law_282 ⟨Nat.le_of_ble_eq_true rfl, Nat.le_of_ble_eq_true rfl⟩ (fun r1 N R M H locs hr1 I => ?_)
        refine lv_aload_n S.1 S.2.1 dL_law_285 rfl (lv_at hl 1 rfl) ?_
        refine tr_lawM (As := []) (rest := [.int r1]) S hKm I hA (cM_rank l D am dm n mk T A B N2 H.size  hn1 hn hAB hmk) (cwV 0 hts (lw_V q205 q206 q207 q13 q208) rfl rfl rfl (by decide +kernel) ⟨Nat.le_of_ble_eq_true rfl, Nat.le_of_ble_eq_true rfl⟩) rfl hl.1 rfl (Nat.le_of_ble_eq_true rfl) dL_law_286 ⟨Nat.le_of_ble_eq_true rfl, Nat.le_of_ble_eq_true rfl⟩ (fun r2 N2 H locs hr2 I => ?_)
        refine lv_icmp_eq (tgt := 333) hx hb dL_law_289 (by decide) (fun _ => ?_) (fun q => absurd (hr1.trans hr2.symm) q)
        refine lv_iinc (k := 0) (v := nI (i + 4)) (lv' := [(3, .int (nI (i + 4))), (2, .ref (am 0)), (1, .ref (ad 0)), (0, .ref b)]) S.1 S.2.1 dL_law_333 hl rfl (by rw [show Int32.ofInt 4 = nI 4 from by decide]; exact nI_add _ _) (by decide) rfl (fun ls hl => ?_)
        refine lv_goto (tgt := 28) S.1 S.2.1 dL_law_336 (by decide) ?_
        exact ih (i + 4) n mk T A B N R M N2 H locs ls (by omega) (by omega) hn1 hn (hAB) (hmk) I (lv_sub hl [0, 1, 2, 3] rfl)
      · refine lv_tableIn (tgt := 294) (off := 252) hx hb dL_law_42 (by decide) (by decide) (by decide) (by decide) ?_
        refine lv_aload_n S.1 S.2.1 dL_law_294 rfl (lv_at hl 2 rfl) ?_
        refine tr_lawX (As := []) (rest := []) S hKx I hA (cX_below l D ad da n mk T A B N R M H.size  hn1 hn hAB hmk) (cwV 0 hts (lw_V q118 q115 q116 q12 q117) rfl rfl rfl (by decide +kernel) ⟨Nat.le_of_ble_eq_true rfl, Nat.le_of_ble_eq_true rfl⟩) rfl hl.1 rfl (Nat.le_of_ble_eq_true rfl) dL_law_295 ⟨Nat.le_of_ble_eq_true rfl, Nat.le_of_ble_eq_true rfl⟩ (fun r1 N R M H locs hr1 I => ?_)
        refine lv_aload_n S.1 S.2.1 dL_law_298 rfl (lv_at hl 1 rfl) ?_
        refine tr_lawM (As := []) (rest := [.int r1]) S hKm I hA (cM_below l D am dm n mk T A B N2 H.size  hn1 hn hAB hmk) (cwV 0 hts (lw_V q209 q210 q211 q13 q212) rfl rfl rfl (by decide +kernel) ⟨Nat.le_of_ble_eq_true rfl, Nat.le_of_ble_eq_true rfl⟩) rfl hl.1 rfl (Nat.le_of_ble_eq_true rfl) dL_law_299 ⟨Nat.le_of_ble_eq_true rfl, Nat.le_of_ble_eq_true rfl⟩ (fun r2 N2 H locs hr2 I => ?_)
        refine lv_icmp_eq (tgt := 333) hx hb dL_law_302 (by decide) (fun _ => ?_) (fun q => absurd (hr1.trans hr2.symm) q)
        refine lv_iinc (k := 0) (v := nI (i + 4)) (lv' := [(3, .int (nI (i + 4))), (2, .ref (am 0)), (1, .ref (ad 0)), (0, .ref b)]) S.1 S.2.1 dL_law_333 hl rfl (by rw [show Int32.ofInt 4 = nI 4 from by decide]; exact nI_add _ _) (by decide) rfl (fun ls hl => ?_)
        refine lv_goto (tgt := 28) S.1 S.2.1 dL_law_336 (by decide) ?_
        exact ih (i + 4) n mk T A B N R M N2 H locs ls (by omega) (by omega) hn1 hn (hAB) (hmk) I (lv_sub hl [0, 1, 2, 3] rfl)
      · refine lv_tableIn (tgt := 307) (off := 265) hx hb dL_law_42 (by decide) (by decide) (by decide) (by decide) ?_
        refine lv_aload_n S.1 S.2.1 dL_law_307 rfl (lv_at hl 2 rfl) ?_
        refine tr_lawX (As := []) (rest := []) S hKx I hA (cX_extensions l D ad da n mk T A B N R M H.size  hn1 hn hAB hmk) (cwV 0 hts (lw_V q119 q120 q121 q12 q122) rfl rfl rfl (by decide +kernel) ⟨Nat.le_of_ble_eq_true rfl, Nat.le_of_ble_eq_true rfl⟩) rfl hl.1 rfl (Nat.le_of_ble_eq_true rfl) dL_law_308 ⟨Nat.le_of_ble_eq_true rfl, Nat.le_of_ble_eq_true rfl⟩ (fun r1 N R M H locs hr1 I => ?_)
        refine lv_aload_n S.1 S.2.1 dL_law_311 rfl (lv_at hl 1 rfl) ?_
        refine tr_lawM (As := []) (rest := [.int r1]) S hKm I hA (cM_extensions l D am dm n mk T A B N2 H.size  hn1 hn hAB hmk) (cwV 0 hts (lw_V q213 q214 q215 q13 q216) rfl rfl rfl (by decide +kernel) ⟨Nat.le_of_ble_eq_true rfl, Nat.le_of_ble_eq_true rfl⟩) rfl hl.1 rfl (Nat.le_of_ble_eq_true rfl) dL_law_312 ⟨Nat.le_of_ble_eq_true rfl, Nat.le_of_ble_eq_true rfl⟩ (fun r2 N2 H locs hr2 I => ?_)
        refine lv_icmp_eq (tgt := 333) hx hb dL_law_315 (by decide) (fun _ => ?_) (fun q => absurd (hr1.trans hr2.symm) q)
        refine lv_iinc (k := 0) (v := nI (i + 4)) (lv' := [(3, .int (nI (i + 4))), (2, .ref (am 0)), (1, .ref (ad 0)), (0, .ref b)]) S.1 S.2.1 dL_law_333 hl rfl (by rw [show Int32.ofInt 4 = nI 4 from by decide]; exact nI_add _ _) (by decide) rfl (fun ls hl => ?_)
        refine lv_goto (tgt := 28) S.1 S.2.1 dL_law_336 (by decide) ?_
        exact ih (i + 4) n mk T A B N R M N2 H locs ls (by omega) (by omega) hn1 hn (hAB) (hmk) I (lv_sub hl [0, 1, 2, 3] rfl)
      · refine lv_tableIn (tgt := 320) (off := 278) hx hb dL_law_42 (by decide) (by decide) (by decide) (by decide) ?_
        refine lv_aload_n S.1 S.2.1 dL_law_320 rfl (lv_at hl 2 rfl) ?_
        refine tr_lawX (As := []) (rest := []) S hKx I hA (cX_surplus l D ad da n mk T A B N R M H.size  hn hAB hmk) (cwV 0 hts (lw_V q123 q124 q125 q12 q126) rfl rfl rfl (by decide +kernel) ⟨Nat.le_of_ble_eq_true rfl, Nat.le_of_ble_eq_true rfl⟩) rfl hl.1 rfl (Nat.le_of_ble_eq_true rfl) dL_law_321 ⟨Nat.le_of_ble_eq_true rfl, Nat.le_of_ble_eq_true rfl⟩ (fun r1 N R M H locs hr1 I => ?_)
        refine lv_aload_n S.1 S.2.1 dL_law_324 rfl (lv_at hl 1 rfl) ?_
        refine tr_lawM (As := []) (rest := [.int r1]) S hKm I hA (cM_surplus l D am dm n mk T A B N2 H.size  hn1 hn hAB hmk) (cwV 0 hts (lw_V q217 q218 q219 q13 q220) rfl rfl rfl (by decide +kernel) ⟨Nat.le_of_ble_eq_true rfl, Nat.le_of_ble_eq_true rfl⟩) rfl hl.1 rfl (Nat.le_of_ble_eq_true rfl) dL_law_325 ⟨Nat.le_of_ble_eq_true rfl, Nat.le_of_ble_eq_true rfl⟩ (fun r2 N2 H locs hr2 I => ?_)
        refine lv_icmp_eq (tgt := 333) hx hb dL_law_328 (by decide) (fun _ => ?_) (fun q => absurd (hr1.trans hr2.symm) q)
        refine lv_iinc (k := 0) (v := nI (i + 4)) (lv' := [(3, .int (nI (i + 4))), (2, .ref (am 0)), (1, .ref (ad 0)), (0, .ref b)]) S.1 S.2.1 dL_law_333 hl rfl (by rw [show Int32.ofInt 4 = nI 4 from by decide]; exact nI_add _ _) (by decide) rfl (fun ls hl => ?_)
        refine lv_goto (tgt := 28) S.1 S.2.1 dL_law_336 (by decide) ?_
        exact ih (i + 4) n mk T A B N R M N2 H locs ls (by omega) (by omega) hn1 hn (hAB) (hmk) I (lv_sub hl [0, 1, 2, 3] rfl)
      · refine lv_tableOut (tgt := 333) hx hb dL_law_42 (Or.inr (by rw [nI_toInt (by omega)]; omega)) (by decide) ?_
        refine lv_iinc (k := 0) (v := nI (i + 4)) (lv' := [(3, .int (nI (i + 4))), (2, .ref (am 0)), (1, .ref (ad 0)), (0, .ref b)]) S.1 S.2.1 dL_law_333 hl rfl (by rw [show Int32.ofInt 4 = nI 4 from by decide]; exact nI_add _ _) (by decide) rfl (fun ls hl => ?_)
        refine lv_goto (tgt := 28) S.1 S.2.1 dL_law_336 (by decide) ?_
        exact ih (i + 4) n mk T A B N R M N2 H locs ls (by omega) (by omega) hn1 hn (hAB) (hmk) I (lv_sub hl [0, 1, 2, 3] rfl)
set_option maxHeartbeats 4000000 in
set_option maxRecDepth 100000 in
theorem whole_start {p : Program} {e : Env} {s : State} {m : MethodId} {below : List Frame} {meth : Method} {c : Code} (l : Launch) {b L : Nat} {xs : Nat → Int32} (hL : L ≤ 257) (C0 : lw_At p s m meth c b L xs) : W p l e room_1 s m #[Value.ref b] below meth c s.heap [] 0 0 (lw_Z below #[Value.ref b] s) (entryFrame m ([Value.ref b] : List Value).toArray 4) := by
  obtain ⟨hx, hb, hr, hml, hown, hts0, hX, hbl, hlocks, hgv⟩ := id C0
  have hts : ∀ w ∈ lw_all, w.before #[Value.ref b] s = true := fun w h => hts0 w (lw_all_tbl h)
  have S : CallFix p m c cL_law 4 s #[Value.ref b] lw_all R_law := ⟨hx, hb, hml, hown, hts⟩
  have hA : ∀ q : Nat, s.heap.size ≤ q → (fun q : Nat => s.heap.size ≤ q) q := fun _ h => h
  have hbA : ¬ (fun q : Nat => s.heap.size ≤ q) b := Nat.not_le.mpr hbl
  obtain ⟨c0, iS0, hKn0⟩ := u_known (C := RX1) (T := TX1) (N := 8) (n := 8) hts in_X1 (hts _ q15)
  obtain ⟨c1, iS1, hKn1⟩ := u_known (C := RX2) (T := TX2) (N := 6) (n := 6) hts in_X2 (hts _ q131)
  obtain ⟨D, hKc⟩ : ∃ D : va_G, ∀ (k : Nat) (q : vw_C), tr_Cl[k]? = some q → u_Kn s q.1 q.2.1 q.2.2 (D.1 k) (D.2 k) := by
    refine ⟨(fun k => if k = 0 then c0 else c1, fun k => if k = 0 then iS0 else iS1), ?_⟩
    intro k q hq
    match k, hq with
    | 0, hq => cases hq; exact hKn0
    | 1, hq => cases hq; exact hKn1
    | k + 2, hq => simp [tr_Cl] at hq
  have hK : va_K D tr_Cl [] s := ⟨hKc, fun k q h => by simp at h⟩
  have hP : va_P D tr_Cl [] s.heap := fun k q h => by simp at h
  have hD : va_D (fun q : Nat => s.heap.size ≤ q) [] := ⟨fun i j p q h => by simp at h, fun k q h => by simp at h⟩
  have hS : va_S (fun q : Nat => s.heap.size ≤ q) s.heap s.heap [] := va_S.rf
  have hl := lv_entry ([.ref b]) (n := 4) (Nat.le_of_ble_eq_true rfl)
  rw [lg_entry_eq]
  generalize (lg_sl ([.ref b]) ++ List.replicate (4 - (lg_sl ([.ref b])).length) Slot.unset).toArray = ls at hl ⊢
  have hl : lv_has ls 4 [(0, .ref b)] := hl
  have hnb := tr_nn_b (tr_c0 L xs)
  refine va_new (ci := 0) (fs := [.int (nI 0), .null, .null, .null, .int (nI 0), .null, .null, .null]) (C := RX1) (T := TX1) (N := 8) hx hb hts in_X1 tyX1 tyX1_ok hown (hts _ q14) (hts _ q15) (hts _ q12) hK hP hD hS hA rfl (fun j hj => by rcases (show j = 0 ∨ j = 1 ∨ j = 2 ∨ j = 3 ∨ j = 4 ∨ j = 5 ∨ j = 6 ∨ j = 7 by omega) with rfl | rfl | rfl | rfl | rfl | rfl | rfl | rfl <;> rfl) (Nat.le_of_ble_eq_true rfl) (Nat.le_of_ble_eq_true rfl) dL_law_0 (fun h0 H hP hD hS => ?_)
  have I : tr_I s (fun q : Nat => s.heap.size ≤ q) D (tr_nX h0) H [] := ⟨hP, hD, hS⟩
  refine lv_dup hx hb dL_law_3 rfl ?_
  refine lv_aload_n hx hb dL_law_4 rfl (lv_at hl 0 rfl) ?_
  refine tr_iconst 0 S dL_law_5 (by decide) ?_
  refine tr_lcell S hX hbl hbA hL I hA hl.1 (Nat.le_of_ble_eq_true rfl) dL_law_6 ⟨Nat.le_of_ble_eq_true rfl, Nat.le_of_ble_eq_true rfl⟩ (fun H locs I => ?_)
  have hFc := va_free (wc := tr_nX h0) I.2.1 I.2.2 hA [0] rfl
  refine va_callv (va_runI (As := [.int (tr_c0 L xs)]) (rest := [.ref h0]) S (cX_init l D h0 H.size (tr_c0 L xs)) (cwI 1 hts (lw_meth q18) rfl rfl rfl (hts _ q12) (hts _ q16) (hts _ q17) rfl (by decide +kernel) ⟨Nat.le_of_ble_eq_true rfl, Nat.le_of_ble_eq_true rfl⟩) ⟨tr_blind, fun U hU hW => ⟨rfl, by rw [hU], by rw [hU]; exact I.1, va_K.moved hW.alike hK, I.2.1.weaken (fun _ _ _ _ => trivial)⟩⟩ rfl rfl hl.1 rfl (lv_room (Nat.le_of_ble_eq_true rfl)) dL_law_9 ⟨Nat.le_of_ble_eq_true rfl, Nat.le_of_ble_eq_true rfl⟩) I.2.2 (fun q _ h => hFc q h) hFc (fun u t H1 locs1 ht hvm hw hB hz1 hk1 hS => ?_)
  obtain ⟨ad, da⟩ := u
  obtain ⟨e0, hP1, hK1, hD1⟩ := hB
  rw [ht] at hP1
  have hKx : va_K D tr_Cl (tr_Xt da) s := va_K.moved hvm.symm hK1
  have e0 : ad 0 = h0 := e0
  obtain ⟨hP, hD⟩ := va_join (wr := []) (w1 := tr_X0 ad da (tr_c0 L xs)) I.1 I.2.1 [0] [] rfl rfl (by decide) (by decide) hk1 hFc hP1 hD1
  have hPx : va_P D tr_Cl (tr_X0 ad da (tr_c0 L xs)) H1 := hP
  have hDx : va_D (fun q : Nat => s.heap.size ≤ q) (tr_X0 ad da (tr_c0 L xs)) := hD
  have hSx := hS
  subst e0
  refine lv_astore_n (lv' := [(1, .ref (ad 0)), (0, .ref b)]) hx hb dL_law_12 rfl hl (by decide) rfl (fun ls hl => ?_)
  refine va_new (ci := 1) (fs := [.int (nI 0), .null, .null, .null, .int (nI 0), .null]) (C := RX2) (T := TX2) (N := 6) hx hb hts in_X2 tyX2 tyX2_ok hown (hts _ q130) (hts _ q131) (hts _ q13) hK hPx hDx hSx hA rfl (fun j hj => by rcases (show j = 0 ∨ j = 1 ∨ j = 2 ∨ j = 3 ∨ j = 4 ∨ j = 5 by omega) with rfl | rfl | rfl | rfl | rfl | rfl <;> rfl) (Nat.le_of_ble_eq_true rfl) (Nat.le_of_ble_eq_true rfl) dL_law_13 (fun h0 H hP hD hS => ?_)
  have I : tr_I s (fun q : Nat => s.heap.size ≤ q) D (tr_X0 ad da (tr_c0 L xs) ++ tr_nM h0) H locs1 := ⟨hP, hD, hS⟩
  refine lv_dup hx hb dL_law_16 rfl ?_
  refine lv_aload_n hx hb dL_law_17 rfl (lv_at hl 1 rfl) ?_
  refine tr_iconst 0 S dL_law_18 (by decide) ?_
  refine tr_lcell S hX hbl hbA hL I hA hl.1 (Nat.le_of_ble_eq_true rfl) dL_law_19 ⟨Nat.le_of_ble_eq_true rfl, Nat.le_of_ble_eq_true rfl⟩ (fun H locs I => ?_)
  have hFc := va_free (wc := tr_nM h0) I.2.1 I.2.2 hA [7] rfl
  have hPc : va_P D tr_Cl (tr_nM h0) H := I.1.sub [7] rfl
  have hDc : va_D (fun q : Nat => s.heap.size ≤ q) (tr_nM h0) := I.2.1.sub [7] (by decide) rfl
  refine va_callv (va_runI (As := [.int (tr_c0 L xs)]) (rest := [.ref h0]) S (cM_init l D h0 H.size (tr_c0 L xs)) (cwI 1 hts (lw_meth q134) rfl rfl rfl (hts _ q13) (hts _ q132) (hts _ q133) rfl (by decide +kernel) ⟨Nat.le_of_ble_eq_true rfl, Nat.le_of_ble_eq_true rfl⟩) ⟨tr_blind, fun U hU hW => ⟨rfl, by rw [hU], by rw [hU]; exact hPc, va_K.moved hW.alike hK, hDc.weaken (fun _ _ _ _ => trivial)⟩⟩ rfl rfl hl.1 rfl (lv_room (Nat.le_of_ble_eq_true rfl)) dL_law_22 ⟨Nat.le_of_ble_eq_true rfl, Nat.le_of_ble_eq_true rfl⟩) I.2.2 (fun q _ h => hFc q h) hFc (fun u t H1 locs1 ht hvm hw hB hz1 hk1 hS => ?_)
  obtain ⟨am, dm⟩ := u
  obtain ⟨e0, hP1, hK1, hD1⟩ := hB
  rw [ht] at hP1
  have hKm : va_K D tr_Cl (tr_Mt dm) s := va_K.moved hvm.symm hK1
  have e0 : am 0 = h0 := e0
  obtain ⟨hP, hD⟩ := va_join (wr := tr_X0 ad da (tr_c0 L xs)) (w1 := tr_M0 am dm (tr_c0 L xs)) I.1 I.2.1 [7] [0, 1, 2, 3, 4, 5, 6] rfl rfl (by decide) (by decide) hk1 hFc hP1 hD1
  have Im : tr_I s (fun q : Nat => s.heap.size ≤ q) D (tr_X0 ad da (tr_c0 L xs) ++ tr_M0 am dm (tr_c0 L xs)) H1 locs1 := ⟨hP, hD, hS⟩
  subst e0
  refine lv_astore_n (lv' := [(2, .ref (am 0)), (1, .ref (ad 0)), (0, .ref b)]) hx hb dL_law_25 rfl hl (by decide) rfl (fun ls hl => ?_)
  refine tr_iconst 1 S dL_law_26 (by decide) ?_
  refine lv_istore_n (lv' := [(3, .int (nI 1)), (2, .ref (am 0)), (1, .ref (ad 0)), (0, .ref b)]) hx hb dL_law_27 rfl hl (by decide) rfl (fun ls hl => ?_)
  refine W.widen (k := 600000) (n := 7290000) (Nat.le_of_ble_eq_true rfl) (Nat.le_of_ble_eq_true rfl) ?_
  exact law_loop hL C0 hKx hKm (L + 2) 1 (tr_nn (tr_c0 L xs)) 0 (fun _ => false) (fun _ => 0) (fun _ => 0) (fun _ => 0) (fun _ => 0) (fun _ => 0) (fun _ => 0) H1 locs1 ls (by omega) (by omega) hnb.1 hnb.2 (fun k _ => ⟨hnb.1, hnb.1⟩) (by decide) Im hl
set_option maxHeartbeats 4000000 in
theorem lw_walk (l : Launch) (b : Addr) (xs : List Int32) : MetFree l x (headSpec (Jvm.Cond.code x code maxLocals ret :: tables_1) room_1) (lw_P b xs) (fun _ _ _ _ _ => True) lw_Q := by
  refine MetFree.of_bodyS (code := code) (maxLocals := maxLocals) (ret := ret) (by decide) ?_ ?_
  · intro args s m h hn
    obtain ⟨meth, c, h1, h2, h3, h4, h5, h6, -, -⟩ := Cond.code_spec hn (atoms_spec (ws := Jvm.Cond.code x code maxLocals ret :: tables_1) h _ List.mem_cons_self)
    exact ⟨meth, c, h1, h2, h3, h4, h5, h6⟩
  · intro p e s m args below meth c s₁ B hml0 hP _
    obtain ⟨rfl, hx, hbd, hgv⟩ := hP
    obtain ⟨scr, harrAt, hlist, hof, hsmall⟩ := hx
    obtain ⟨hcb, hkn, -, -⟩ := State.arrayAt?_spec harrAt
    have hown : s.vm.findClass R_law = some m.cls := findClass_of_methodNamed B.named
    have hts0 : ∀ c ∈ (Jvm.Cond.code x code maxLocals ret :: tables_1), c.before #[Value.ref b] s = true := atoms_spec (ws := Jvm.Cond.code x code maxLocals ret :: tables_1) B.pre
    have hts : ∀ w ∈ lw_tbl, w.before #[Value.ref b] s = true := k2_hts_sels lw_privs (fun w hw => hts0 w (List.mem_cons_of_mem _ hw)) lw_privs_ok
    have hml : c.maxLocals = 4 := B.maxLocals_eq (hts0 _ List.mem_cons_self)
    have X₀ : Stand p l e room_1 s m #[Value.ref b] below meth c s₁ [] 0 0 := Stand.of_body B
    have hh0 : s₁.heap = s.heap := by rw [B.state]; rfl
    have hsz : scr.slots.size = xs.length := by rw [← Array.length_toList, hlist, List.length_map]
    have hval : ∀ j : Nat, j < xs.length → scr.slots[j]? = some (.int (xs.getD j 0)) := fun j hj => by
      rw [← Array.getElem?_toList, hlist]
      simp [hj]
    have hbl : b < s.heap.size := (Array.getElem?_eq_some_iff.mp hcb).1
    have hX : va_X b xs.length (fun j => xs.getD j 0) s s.heap := ⟨scr, hcb, hof, hkn, hsz, hval⟩
    have K : W p l e room_1 s m #[Value.ref b] below meth c s₁.heap [] 0 0 (lw_Z below #[Value.ref b] s) (entryFrame m ([Value.ref b] : List Value).toArray 4) := by
      rw [hh0]
      exact whole_start l hbd ⟨B.exec, B.bytes, B.returns, hml, hown, hts, hX, hbl, B.notSynchronized, hgv⟩
    obtain ⟨t, a1, o, b1, b2, b3⟩ := K s₁ rfl X₀
    exact ⟨t, o, a1, b1, b2, b3⟩
theorem lw_pre_spec {args : Array Value} {s : State} (h : (Jvm.Cond.and given_1 narrow_1).before args s = true) (hr : rest_1_c.before args s = true) : ∃ (b : Addr) (xs : List Int32), lw_P b xs args s := by
  have hs := flat_of_before _ h
  have hq := flat_of_before _ hr
  have hc : (Cond.count 1).before args s = true := hs _ (by decide +kernel)
  have harr : (Cond.arrayOf (.arg 0) .int).before args s = true := hs _ (by decide +kernel)
  have hle : (Cond.le (.length (.arg 0)) (.int 257)).before args s = true := hs _ (by decide +kernel)
  have hlen : (Cond.isInt (.length (.arg 0))).before args s = true := hq _ (by decide +kernel)
  have hall : (Cond.all (.arg 0) (.isInt (.elem (.arg 0) (.index 0)))).before args s = true := hq _ (by decide +kernel)
  obtain ⟨b, xs, hb, hx⟩ := State.ints_of_pre rfl harr hlen hall
  have hsm : xs.length < 2 ^ 31 := hx.choose_spec.2.2.2
  have hev : (Term.length (.arg 0)).eval args s none [] s = some (.int xs.length.toInt32) := hx.length_eval hb
  have hv := Cond.le_ints hev (show (Term.int 257).eval args s none [] s = some (.int 257) from rfl)
  have hd : xs.length.toInt32 ≤ 257 := by
    simpa [Cond.before, Cond.holds, hv] using hle
  have hN : xs.length ≤ 257 := (Int32.ofNat_le_ofNat hsm (by decide)).mp (show Int32.ofNat xs.length ≤ Int32.ofNat 257 from hd)
  exact ⟨b, xs, Cond.one_arg hc (show args[0]? = some (.ref b) from hb), hx, hN, h⟩
theorem lw_comes (l : Launch) : Comes l x (Jvm.Cond.code x code maxLocals ret :: tables_1) room_1 (fun tb e args s => Calls_1 tb e args s ∧ rest_1 tb e args s ∧ Pre_1 tb e args s)
    (fun _ _ args s o t => lw_Q args s o t) := by
  intro p e ha hc hk s m args below hf hfit hheap happ hpre
  obtain ⟨b, xs, hP⟩ := lw_pre_spec hpre.2.2 hpre.2.1
  obtain ⟨k, o, h1, h2, h3, hQ⟩ := lw_walk l b xs p e ha hc hk s m args below hf ((Spec.applies_iff_loose hf).mp happ).1 hP trivial
  exact ⟨k, o, h1, h2, h3, hQ⟩
theorem lw_frame {s t : State} {o : Outcome} {args : Array Value} (h : Framed s o t [] 600000 7290000) :
    Framed s o t (fieldLocs frame_1_writes args s ++ arrayLocs frame_1_arrays args s ++ staticLocs frame_1_statics s) 600000 7290000 := h
theorem lw_limb (L : Cond) (hL : ∀ (args : Array Value) (s t : State), L.after args s (.returned (some (.int 1))) t = true) :
    ArmFor flags0 classFile x code maxLocals ret World_1 tables_1 room_1 Calls_1 rest_1 Pre_1
      (fun tb e a s o t => postC L tb e a s o t ∧ Framed s o t (fieldLocs frame_1_writes a s ++ arrayLocs frame_1_arrays a s ++ staticLocs frame_1_statics s) 600000 7290000) := by
  intro l _ _ _ p e ha hc hk s m args below hf hfit hheap happ hpre
  obtain ⟨k, o, h1, h2, h3, rfl, hF⟩ := lw_comes l p e ha hc hk s m args below hf hfit hheap happ hpre
  exact ⟨k, _, h1, h2, h3, hL args s _, lw_frame hF⟩
theorem i_vc : Claimed_1_1 ∧ Claimed_1_2 := ⟨lw_limb limb_1_1 (fun args s t => by simp [limb_1_1, Cond.after, Cond.holds, Cond.value]), lw_limb limb_1_2 (fun args s t => Cond.after_iff.mpr (by
  first | (rw [show limb_1_2 = Cond.eq .result (.int 1) from rfl, Cond.eq_ints (x := 1) (y := 1) rfl rfl]; simp; done) | (simp [limb_1_2, Cond.value, Term.eval]; done)))⟩
end
