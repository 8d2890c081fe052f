section
theorem pk_us {f : Nat → Int32} {k : Nat} {x : Int32} : upd f k x k = x := if_pos rfl
theorem pk_un {f : Nat → Int32} {k j : Nat} {x : Int32} (h : j ≠ k) : upd f k x j = f j := if_neg h
theorem pk_sub {a b : Nat} (h : b ≤ a) : nI a - nI b = nI (a - b) := by
  obtain ⟨c, rfl⟩ : ∃ c, a = c + b := ⟨a - b, by omega⟩
  rw [← nI_add, Int32.add_sub_cancel, Nat.add_sub_cancel]
theorem pk_m1 (n : Nat) : nI (n + 1) + (-1) = nI n := by
  rw [← nI_1, Int32.add_assoc, show (1 : Int32) + (-1) = 0 from rfl, Int32.add_zero]
theorem pk_mul (a b : Nat) : nI a * nI b = nI (a * b) := (Int32.ofNat_mul a b).symm
theorem pk_div {a d : Nat} (ha : a < 2 ^ 31) (h0 : 0 < d) (hd : d < 2 ^ 31) : nI a / nI d = nI (a / d) := by
  apply Int32.toInt_inj.mp
  rw [lg_idiv_nonneg (by rw [nI_toInt ha]; omega) (by rw [nI_toInt hd]; omega), nI_toInt ha, nI_toInt hd, nI_toInt (Nat.lt_of_le_of_lt (Nat.div_le_self a d) ha)]
  first | rfl | exact (Int.natCast_ediv _ _).symm
theorem pk_rem {a d : Nat} (ha : a < 2 ^ 31) (h0 : 0 < d) (hd : d < 2 ^ 31) : nI a - nI a / nI d * nI d = nI (a % d) := by
  rw [pk_div ha h0 hd, pk_mul, pk_sub (Nat.div_mul_le_self a d)]
  exact congrArg nI (by have := Nat.div_add_mod' a d; omega)
theorem pk_sub_toInt {a b : Nat} (ha : a < 2 ^ 30) (hb : b < 2 ^ 30) : (nI a - nI b).toInt = (a : Int) - b := by
  rw [Int32.toInt_sub, nI_toInt (by omega), nI_toInt (by omega)]
  exact Int.bmod_eq_of_le (by omega) (by omega)
theorem pk_sneg {a b : Nat} (hb : b < 2 ^ 30) (h : a < b) : nI a - nI b < 0 := by
  rw [Int32.lt_iff_toInt_lt, pk_sub_toInt (by omega) hb, show (0 : Int32).toInt = 0 from by decide]
  omega
theorem pk_ix (x : Int32) {n : Nat} (hn : n < 2 ^ 31) : x < 0 ∨ nI n ≤ x ∨ ∃ j : Nat, j < n ∧ x = nI j := by
  by_cases h : x < 0
  · exact Or.inl h
  · obtain ⟨j, hj, rfl⟩ := nI_of h
    by_cases h2 : j < n
    · exact Or.inr (Or.inr ⟨j, h2, rfl⟩)
    · exact Or.inr (Or.inl (nI_le (by omega) hj))
theorem pk_le {x y : Int32} {A B : Prop} (a b : Nat) (f : a ≤ b → A) (g : b < a → B) (hx : x = nI a := by rfl) (hy : y = nI b := by rfl) (ha : a < 2 ^ 31 := by omega) (hb : b < 2 ^ 31 := by omega) : (x ≤ y → A) ∧ (¬ x ≤ y → B) := by
  subst hx hy
  rw [nI_leI ha hb]
  exact ⟨f, fun z => g (by omega)⟩
theorem pk_lt {x y : Int32} {A B : Prop} (a b : Nat) (f : a < b → A) (g : b ≤ a → B) (hx : x = nI a := by rfl) (hy : y = nI b := by rfl) (ha : a < 2 ^ 31 := by omega) (hb : b < 2 ^ 31 := by omega) : (x < y → A) ∧ (¬ x < y → B) := by
  subst hx hy
  rw [nI_ltI ha hb]
  exact ⟨f, fun z => g (by omega)⟩
theorem pk_eq {x y : Int32} {A B : Prop} (a b : Nat) (f : a = b → A) (g : a ≠ b → B) (hx : x = nI a := by rfl) (hy : y = nI b := by rfl) (ha : a < 2 ^ 31 := by omega) (hb : b < 2 ^ 31 := by omega) : (x = y → A) ∧ (¬ x = y → B) := by
  subst hx hy
  rw [nI_eq ha hb]
  exact ⟨f, g⟩
theorem pk_in {x : Int32} (n N : Nat) (h : n < N) (hx : x = nI n := by rfl) (hN : N < 2 ^ 31 := by omega) : vp_in x N := by
  subst hx
  exact vp_in_nI h hN
theorem pk_cl {x : Int32} (n : Nat) (hx : x = nI n := by rfl) (h : n < 2 ^ 31 := by omega) : x.toNatClampNeg = n := by
  subst hx
  exact nI_clamp h
end
section
/-! counting: sp_c P n is the number of c below n with P c -/
noncomputable def sp_b (p : Prop) : Nat := @ite Nat p (Classical.propDecidable p) 1 0
theorem sp_bt {p : Prop} (h : p) : sp_b p = 1 := by unfold sp_b; exact if_pos h
theorem sp_bf {p : Prop} (h : ¬ p) : sp_b p = 0 := by unfold sp_b; exact if_neg h
theorem sp_b_le (p : Prop) : sp_b p ≤ 1 := by
  by_cases h : p
  · rw [sp_bt h]; exact Nat.le_refl 1
  · rw [sp_bf h]; exact Nat.zero_le 1
noncomputable def sp_c (P : Nat → Prop) : Nat → Nat
  | 0 => 0
  | n + 1 => sp_c P n + sp_b (P n)
theorem sp_c0 (P : Nat → Prop) : sp_c P 0 = 0 := rfl
theorem sp_cs (P : Nat → Prop) (n : Nat) : sp_c P (n + 1) = sp_c P n + sp_b (P n) := rfl
theorem sp_c_le (P : Nat → Prop) : ∀ n, sp_c P n ≤ n
  | 0 => Nat.le_refl 0
  | n + 1 => by
    have h1 := sp_c_le P n
    have h2 := sp_b_le (P n)
    rw [sp_cs]; omega
theorem sp_c_mono (P : Nat → Prop) (a : Nat) : ∀ d, sp_c P a ≤ sp_c P (a + d)
  | 0 => Nat.le_refl _
  | d + 1 => by
    have h1 := sp_c_mono P a d
    rw [← Nat.add_assoc, sp_cs]; omega
theorem sp_c_mn {P : Nat → Prop} {a b : Nat} (h : a ≤ b) : sp_c P a ≤ sp_c P b := by
  have h1 := sp_c_mono P a (b - a)
  rwa [Nat.add_sub_cancel' h] at h1
theorem sp_c_lt {P : Nat → Prop} {a b : Nat} (ha : P a) (h : a < b) : sp_c P a < sp_c P b := by
  have h1 : sp_c P (a + 1) ≤ sp_c P b := sp_c_mn h
  rw [sp_cs, sp_bt ha] at h1; omega
theorem sp_c_gap {P : Nat → Prop} {a b : Nat} (h : a ≤ b) (hn : ∀ c, a ≤ c → c < b → ¬ P c) : sp_c P b = sp_c P a := by
  obtain ⟨d, rfl⟩ : ∃ d, b = a + d := ⟨b - a, by omega⟩
  clear h
  induction d with
  | zero => rfl
  | succ d ih =>
    rw [← Nat.add_assoc, sp_cs, ih (fun c h1 h2 => hn c h1 (by omega)), sp_bf (hn (a + d) (by omega) (by omega))]; omega
theorem sp_c_ex {P : Nat → Prop} : ∀ n j, j < sp_c P n → ∃ c, c < n ∧ P c ∧ sp_c P c = j := by
  intro n
  induction n with
  | zero => intro j h; rw [sp_c0] at h; omega
  | succ n ih =>
    intro j h
    by_cases hj : j < sp_c P n
    · obtain ⟨c, h1, h2, h3⟩ := ih j hj
      exact ⟨c, by omega, h2, h3⟩
    · rw [sp_cs] at h
      by_cases hp : P n
      · rw [sp_bt hp] at h
        exact ⟨n, by omega, hp, by omega⟩
      · rw [sp_bf hp] at h; omega
theorem sp_c_inj {P : Nat → Prop} {a b : Nat} (ha : P a) (hb : P b) (h : sp_c P a = sp_c P b) : a = b := by
  rcases Nat.lt_trichotomy a b with h1 | h1 | h1
  · have := sp_c_lt ha h1; omega
  · exact h1
  · have := sp_c_lt hb h1; omega
theorem sp_c_sub {P Q : Nat → Prop} (h : ∀ c, P c → Q c) : ∀ n, sp_c P n ≤ sp_c Q n := by
  intro n
  induction n with
  | zero => exact Nat.le_refl 0
  | succ n ih =>
    rw [sp_cs, sp_cs]
    by_cases hp : P n
    · rw [sp_bt hp, sp_bt (h n hp)]; omega
    · rw [sp_bf hp]; omega
theorem sp_c_cg {P Q : Nat → Prop} {n : Nat} (h : ∀ c, c < n → (P c ↔ Q c)) : sp_c P n = sp_c Q n := by
  induction n with
  | zero => rfl
  | succ n ih =>
    rw [sp_cs, sp_cs, ih (fun c hc => h c (by omega)), propext (h n (by omega))]
theorem sp_c_addlo {P : Nat → Prop} {x n : Nat} (h : n ≤ x) : sp_c (fun c => P c ∨ c = x) n = sp_c P n :=
  sp_c_cg (fun c hc => ⟨fun h1 => h1.elim id (fun h2 => by omega), Or.inl⟩)
theorem sp_c_addhi {P : Nat → Prop} {x : Nat} (hx : ¬ P x) : ∀ n, x < n → sp_c (fun c => P c ∨ c = x) n = sp_c P n + 1 := by
  intro n
  induction n with
  | zero => intro h; omega
  | succ n ih =>
    intro h
    by_cases hn : n = x
    · subst hn
      rw [sp_cs, sp_cs, sp_c_addlo (Nat.le_refl _), sp_bf hx, sp_bt (Or.inr rfl)]
    · rw [sp_cs, sp_cs, ih (by omega)]
      have e : (P n ∨ n = x) = P n := propext ⟨fun h1 => h1.elim id (fun h2 => absurd h2 hn), Or.inl⟩
      rw [e]; omega
theorem sp_c_split (P : Nat → Prop) (a : Nat) : ∀ n, sp_c P (a + n) = sp_c P a + sp_c (fun j => P (a + j)) n
  | 0 => rfl
  | n + 1 => by
    rw [← Nat.add_assoc, sp_cs, sp_cs, sp_c_split P a n]; omega
theorem sp_c_and (p : Prop) (B : Nat → Prop) (m : Nat) : sp_c (fun j => p ∧ B j) m = sp_b p * sp_c B m := by
  by_cases h : p
  · rw [sp_bt h, Nat.one_mul]
    exact sp_c_cg (fun c _ => ⟨fun h1 => h1.2, fun h1 => ⟨h, h1⟩⟩)
  · rw [sp_bf h, Nat.zero_mul]
    exact sp_c_gap (P := fun j => p ∧ B j) (a := 0) (Nat.zero_le m) (fun c _ _ h1 => h h1.1)
theorem sp_c_prod (A B : Nat → Prop) (m : Nat) (hm : 0 < m) : ∀ k, sp_c (fun c => A (c / m) ∧ B (c % m)) (m * k) = sp_c A k * sp_c B m
  | 0 => by rw [Nat.mul_zero, sp_c0, sp_c0, Nat.zero_mul]
  | k + 1 => by
    rw [Nat.mul_add, Nat.mul_one, sp_c_split, sp_c_prod A B m hm k, sp_cs, Nat.add_mul, ← sp_c_and (A k) B m]
    refine congrArg _ (sp_c_cg (fun j hj => ?_))
    have e1 : (m * k + j) / m = k := by
      rw [Nat.mul_add_div hm, Nat.div_eq_of_lt hj, Nat.add_zero]
    have e2 : (m * k + j) % m = j := by
      rw [Nat.mul_add_mod, Nat.mod_eq_of_lt hj]
    show A ((m * k + j) / m) ∧ B ((m * k + j) % m) ↔ A k ∧ B j
    rw [e1, e2]
theorem sp_c_dis {P Q : Nat → Prop} (h : ∀ c, P c → Q c → False) : ∀ n, sp_c P n + sp_c Q n ≤ n
  | 0 => Nat.le_refl 0
  | n + 1 => by
    have ih := sp_c_dis h n
    rw [sp_cs, sp_cs]
    by_cases hp : P n
    · rw [sp_bt hp, sp_bf (fun hq => h n hp hq)]; omega
    · have := sp_b_le (Q n)
      rw [sp_bf hp]; omega
theorem sp_36 (a b : Nat) (h : a + b ≤ 10) : (1 + a) * (1 + b) ≤ 36 := by
  have ha : a = 0 ∨ a = 1 ∨ a = 2 ∨ a = 3 ∨ a = 4 ∨ a = 5 ∨ a = 6 ∨ a = 7 ∨ a = 8 ∨ a = 9 ∨ a = 10 := by omega
  rcases ha with rfl | rfl | rfl | rfl | rfl | rfl | rfl | rfl | rfl | rfl | rfl <;> omega
/-- the codes that a suffix rule (or none) and another kind of rule (or none) can have -/
def sp_VA (sx : Nat → Int32) (R : Nat) (U : Nat) : Prop := U = 0 ∨ (U - 1 < R ∧ ¬ sx (U - 1) = 0)
def sp_VB (sx : Nat → Int32) (R : Nat) (Q : Nat) : Prop := Q = 0 ∨ (Q - 1 < R ∧ sx (Q - 1) = 0)
def sp_V (sx : Nat → Int32) (R : Nat) (c : Nat) : Prop := (c / 11 / 11 < 12 ∧ sp_VA sx R (c / 11 % 11)) ∧ sp_VB sx R (c % 11)
theorem sp_V_le (sx : Nat → Int32) (R : Nat) : sp_c (sp_V sx R) 1452 ≤ 432 := by
  have h1 : sp_c (sp_V sx R) (11 * 132) = sp_c (fun d => d / 11 < 12 ∧ sp_VA sx R (d % 11)) 132 * sp_c (sp_VB sx R) 11 :=
    sp_c_prod (fun d => d / 11 < 12 ∧ sp_VA sx R (d % 11)) (sp_VB sx R) 11 (by decide) 132
  have h2 : sp_c (fun d => d / 11 < 12 ∧ sp_VA sx R (d % 11)) (11 * 12) = sp_c (fun s => s < 12) 12 * sp_c (sp_VA sx R) 11 :=
    sp_c_prod (fun s => s < 12) (sp_VA sx R) 11 (by decide) 12
  have h3 : sp_c (fun s => s < 12) 12 ≤ 12 := sp_c_le _ 12
  have h4 : sp_c (sp_VA sx R) (1 + 10) = sp_c (sp_VA sx R) 1 + sp_c (fun j => sp_VA sx R (1 + j)) 10 := sp_c_split _ 1 10
  have h5 : sp_c (sp_VB sx R) (1 + 10) = sp_c (sp_VB sx R) 1 + sp_c (fun j => sp_VB sx R (1 + j)) 10 := sp_c_split _ 1 10
  have h6 : sp_c (fun j => sp_VA sx R (1 + j)) 10 + sp_c (fun j => sp_VB sx R (1 + j)) 10 ≤ 10 := by
    refine sp_c_dis (fun c hA hB => ?_) 10
    have hA' : sp_VA sx R (1 + c) := hA
    have hB' : sp_VB sx R (1 + c) := hB
    unfold sp_VA at hA'
    unfold sp_VB at hB'
    rcases hA' with z | ⟨_, z⟩
    · omega
    · rcases hB' with y | ⟨_, y⟩
      · omega
      · exact z y
  have h7 : sp_c (sp_VA sx R) 1 ≤ 1 := sp_c_le _ 1
  have h8 : sp_c (sp_VB sx R) 1 ≤ 1 := sp_c_le _ 1
  have h9 := sp_36 _ _ h6
  have g1 : sp_c (sp_VA sx R) 11 ≤ 1 + sp_c (fun j => sp_VA sx R (1 + j)) 10 := by
    have : sp_c (sp_VA sx R) 11 = sp_c (sp_VA sx R) (1 + 10) := rfl
    omega
  have g2 : sp_c (sp_VB sx R) 11 ≤ 1 + sp_c (fun j => sp_VB sx R (1 + j)) 10 := by
    have : sp_c (sp_VB sx R) 11 = sp_c (sp_VB sx R) (1 + 10) := rfl
    omega
  have g3 : sp_c (sp_VA sx R) 11 * sp_c (sp_VB sx R) 11 ≤ 36 := Nat.le_trans (Nat.mul_le_mul g1 g2) h9
  have g4 : sp_c (sp_V sx R) 1452 = sp_c (sp_V sx R) (11 * 132) := rfl
  have g5 : sp_c (fun d => d / 11 < 12 ∧ sp_VA sx R (d % 11)) 132 = sp_c (fun d => d / 11 < 12 ∧ sp_VA sx R (d % 11)) (11 * 12) := rfl
  rw [g4, h1, g5, h2, Nat.mul_assoc]
  exact Nat.le_trans (Nat.mul_le_mul h3 g3) (by decide)
/-- the list found: the codes with P, ascending -/
def sp_L (P : Nat → Prop) (fo : Int32) (li : Nat → Int32) : Prop :=
  fo = nI (sp_c P 1452) ∧ (∀ c, P c → c < 1452) ∧ ∀ c, P c → li (sp_c P c) = nI c
theorem sp_L_cg {P Q : Nat → Prop} {fo : Int32} {li : Nat → Int32} (h : ∀ c, P c ↔ Q c) (hL : sp_L P fo li) : sp_L Q fo li := by
  have e : P = Q := funext (fun c => propext (h c))
  rw [← e]; exact hL
theorem sp_L_0 {P : Nat → Prop} {li : Nat → Int32} (h : ∀ c, ¬ P c) : sp_L P 0 li := by
  refine ⟨?_, fun c hc => absurd hc (h c), fun c hc => absurd hc (h c)⟩
  rw [sp_c_gap (P := P) (a := 0) (b := 1452) (by omega) (fun c _ _ => h c), sp_c0]; exact nI_0.symm
/-- where the insertion stops: the rank of the new code -/
theorem sp_rank {P : Nat → Prop} {li : Nat → Int32} {x a : Nat} (hx : ¬ P x) (hx2 : x < 1452) (hb : ∀ c, P c → c < 1452) (hl : ∀ c, P c → li (sp_c P c) = nI c)
    (ha : a ≤ sp_c P 1452) (hge : ∀ j, a ≤ j → j < sp_c P 1452 → ¬ li j ≤ nI x) (hlo : a = 0 ∨ li (a - 1) ≤ nI x) : sp_c P x = a := by
  apply Nat.le_antisymm
  · by_cases h : a < sp_c P 1452
    · obtain ⟨c, h1, h2, h3⟩ := sp_c_ex 1452 a h
      have h4 := hge a (Nat.le_refl _) h
      rw [← h3, hl c h2, nI_leI (by omega) (by omega)] at h4
      rw [← h3]
      exact sp_c_mn (by omega)
    · have : a = sp_c P 1452 := by omega
      rw [this]; exact sp_c_mn (by omega)
  · rcases hlo with h | h
    · omega
    · by_cases h0 : a = 0
      · omega
      · obtain ⟨c, h1, h2, h3⟩ := sp_c_ex (P := P) 1452 (a - 1) (by omega)
        rw [← h3, hl c h2, nI_leI (by omega) (by omega)] at h
        have h5 : c ≠ x := fun z => hx (z ▸ h2)
        have h6 := sp_c_lt (b := x) h2 (by omega)
        omega
theorem sp_L_add {P : Nat → Prop} {li l2 : Nat → Int32} {x a : Nat} (hx : ¬ P x) (hx2 : x < 1452) (hb : ∀ c, P c → c < 1452) (hl : ∀ c, P c → li (sp_c P c) = nI c)
    (ha : a ≤ sp_c P 1452) (hlt : ∀ j, j < a → l2 j = li j) (hsh : ∀ j, a ≤ j → j < sp_c P 1452 → l2 (j + 1) = li j)
    (hge : ∀ j, a ≤ j → j < sp_c P 1452 → ¬ li j ≤ nI x) (hlo : a = 0 ∨ li (a - 1) ≤ nI x) :
    sp_L (fun c => P c ∨ c = x) (nI (sp_c P 1452 + 1)) (upd l2 a (nI x)) := by
  have hr := sp_rank hx hx2 hb hl ha hge hlo
  refine ⟨?_, ?_, ?_⟩
  · rw [sp_c_addhi hx 1452 hx2]
  · intro c hc
    rcases hc with h | h
    · exact hb c h
    · omega
  · intro c hc
    rcases hc with h | h
    · have hne : c ≠ x := fun z => hx (z ▸ h)
      by_cases hcx : c < x
      · rw [sp_c_addlo (by omega)]
        have h1 := sp_c_lt h hcx
        rw [pk_un (by omega), hlt _ (by omega), hl c h]
      · rw [sp_c_addhi hx c (by omega)]
        have h1 : sp_c P x ≤ sp_c P c := sp_c_mn (by omega)
        have h2 := sp_c_lt h (hb c h)
        rw [pk_un (by omega), hsh _ (by omega) h2, hl c h]
    · subst h
      rw [sp_c_addlo (Nat.le_refl _), hr, pk_us]
end
section
/-! words as (letters, length); what a rule makes of a word. z, a, q: the lengths of STRIP, APPEND, CONDITION, their letters at o, o + 3, o + 6 -/
def sp_ltr (x : Int32) : Prop := ∃ l : Nat, l < 8 ∧ x = nI (l + 1)
theorem sp_ltr9 {x : Int32} (h : sp_ltr x) : ¬ x = 9 := by
  obtain ⟨l, h1, rfl⟩ := h
  intro z
  have z2 : nI (l + 1) = nI 9 := z
  rw [nI_eq (by omega) (by omega)] at z2
  omega
/-- the word (m, k) becomes (w, n) by a rule at the beginning -/
def sp_PR (pt : Nat → Int32) (o z a q : Nat) (m : Nat → Int32) (k : Nat) (w : Nat → Int32) (n : Nat) : Prop :=
  (z ≤ k ∧ n = a + (k - z)) ∧ (∀ i, i < z → m i = pt (o + i)) ∧ (∀ i, i < a → w i = pt (o + 3 + i)) ∧ (∀ i, i < k - z → m (z + i) = w (a + i)) ∧ q ≤ k ∧ ∀ i, i < q → pt (o + 6 + i) = 9 ∨ pt (o + 6 + i) = m i
/-- the word (m, k) becomes (w, n) by a rule at the end -/
def sp_SR (pt : Nat → Int32) (o z a q : Nat) (m : Nat → Int32) (k : Nat) (w : Nat → Int32) (n : Nat) : Prop :=
  (z ≤ k ∧ n = (k - z) + a) ∧ (∀ i, i < z → m (k - z + i) = pt (o + i)) ∧ (∀ i, i < a → w (k - z + i) = pt (o + 3 + i)) ∧ (∀ i, i < k - z → m i = w i) ∧ q ≤ k ∧ ∀ i, i < q → pt (o + 6 + i) = 9 ∨ pt (o + 6 + i) = m (k - q + i)
theorem sp_PR_cg {pt : Nat → Int32} {o z a q k n : Nat} {m w m' w' : Nat → Int32} (h : sp_PR pt o z a q m k w n) (hm : ∀ i, i < k → m i = m' i) (hw : ∀ i, i < n → w i = w' i) : sp_PR pt o z a q m' k w' n := by
  obtain ⟨⟨h1, h2⟩, h3, h4, h5, h6, h7⟩ := h
  refine ⟨⟨h1, h2⟩, fun i hi => ?_, fun i hi => ?_, fun i hi => ?_, h6, fun i hi => ?_⟩
  · rw [← hm i (by omega)]; exact h3 i hi
  · rw [← hw i (by omega)]; exact h4 i hi
  · rw [← hm (z + i) (by omega), ← hw (a + i) (by omega)]; exact h5 i hi
  · rw [← hm i (by omega)]; exact h7 i hi
theorem sp_SR_cg {pt : Nat → Int32} {o z a q k n : Nat} {m w m' w' : Nat → Int32} (h : sp_SR pt o z a q m k w n) (hm : ∀ i, i < k → m i = m' i) (hw : ∀ i, i < n → w i = w' i) : sp_SR pt o z a q m' k w' n := by
  obtain ⟨⟨h1, h2⟩, h3, h4, h5, h6, h7⟩ := h
  refine ⟨⟨h1, h2⟩, fun i hi => ?_, fun i hi => ?_, fun i hi => ?_, h6, fun i hi => ?_⟩
  · rw [← hm (k - z + i) (by omega)]; exact h3 i hi
  · rw [← hw (k - z + i) (by omega)]; exact h4 i hi
  · rw [← hm i (by omega), ← hw i (by omega)]; exact h5 i hi
  · rw [← hm (k - q + i) (by omega)]; exact h7 i hi
theorem sp_PR_fun {pt : Nat → Int32} {o z a q k n n' : Nat} {m w w' : Nat → Int32} (h : sp_PR pt o z a q m k w n) (h' : sp_PR pt o z a q m k w' n') : n = n' ∧ ∀ i, i < n → w i = w' i := by
  obtain ⟨⟨h1, h2⟩, h3, h4, h5, h6, h7⟩ := h
  obtain ⟨⟨g1, g2⟩, g3, g4, g5, g6, g7⟩ := h'
  refine ⟨by omega, fun i hi => ?_⟩
  by_cases hia : i < a
  · rw [h4 i hia, g4 i hia]
  · have e : i = a + (i - a) := by omega
    rw [e, ← h5 (i - a) (by omega), ← g5 (i - a) (by omega)]
theorem sp_PR_inj {pt : Nat → Int32} {o z a q k k' n : Nat} {m m' w : Nat → Int32} (h : sp_PR pt o z a q m k w n) (h' : sp_PR pt o z a q m' k' w n) : k = k' ∧ ∀ i, i < k → m i = m' i := by
  obtain ⟨⟨h1, h2⟩, h3, h4, h5, h6, h7⟩ := h
  obtain ⟨⟨g1, g2⟩, g3, g4, g5, g6, g7⟩ := h'
  refine ⟨by omega, fun i hi => ?_⟩
  by_cases hia : i < z
  · rw [h3 i hia, g3 i hia]
  · have e : i = z + (i - z) := by omega
    rw [e, h5 (i - z) (by omega), g5 (i - z) (by omega)]
theorem sp_SR_fun {pt : Nat → Int32} {o z a q k n n' : Nat} {m w w' : Nat → Int32} (h : sp_SR pt o z a q m k w n) (h' : sp_SR pt o z a q m k w' n') : n = n' ∧ ∀ i, i < n → w i = w' i := by
  obtain ⟨⟨h1, h2⟩, h3, h4, h5, h6, h7⟩ := h
  obtain ⟨⟨g1, g2⟩, g3, g4, g5, g6, g7⟩ := h'
  refine ⟨by omega, fun i hi => ?_⟩
  by_cases hia : i < k - z
  · rw [← h5 i hia, ← g5 i hia]
  · have e : i = k - z + (i - (k - z)) := by omega
    rw [e, h4 (i - (k - z)) (by omega), g4 (i - (k - z)) (by omega)]
theorem sp_SR_inj {pt : Nat → Int32} {o z a q k k' n : Nat} {m m' w : Nat → Int32} (h : sp_SR pt o z a q m k w n) (h' : sp_SR pt o z a q m' k' w n) : k = k' ∧ ∀ i, i < k → m i = m' i := by
  obtain ⟨⟨h1, h2⟩, h3, h4, h5, h6, h7⟩ := h
  obtain ⟨⟨g1, g2⟩, g3, g4, g5, g6, g7⟩ := h'
  have ek : k = k' := by omega
  subst ek
  refine ⟨rfl, fun i hi => ?_⟩
  by_cases hia : i < k - z
  · rw [h5 i hia, g5 i hia]
  · have e : i = k - z + (i - (k - z)) := by omega
    rw [e, h3 (i - (k - z)) (by omega), g3 (i - (k - z)) (by omega)]
/-- a rule, or none (0), at the end -/
def sp_SU (L : Nat → Nat) (pt : Nat → Int32) (U : Nat) (c : Nat → Int32) (k : Nat) (m : Nat → Int32) (n : Nat) : Prop :=
  match U with
  | 0 => k = n ∧ ∀ i, i < k → c i = m i
  | u + 1 => sp_SR pt (u * 9) (L (u * 3)) (L (u * 3 + 1)) (L (u * 3 + 2)) c k m n
/-- a rule, or none (0), at the beginning -/
def sp_PU (L : Nat → Nat) (pt : Nat → Int32) (Q : Nat) (m : Nat → Int32) (k : Nat) (w : Nat → Int32) (n : Nat) : Prop :=
  match Q with
  | 0 => k = n ∧ ∀ i, i < k → m i = w i
  | r + 1 => sp_PR pt (r * 9) (L (r * 3)) (L (r * 3 + 1)) (L (r * 3 + 2)) m k w n
theorem sp_SU_cg {L : Nat → Nat} {pt : Nat → Int32} {U k n : Nat} {m w m' w' : Nat → Int32} (h : sp_SU L pt U m k w n) (hm : ∀ i, i < k → m i = m' i) (hw : ∀ i, i < n → w i = w' i) : sp_SU L pt U m' k w' n := by
  cases U with
  | zero =>
    obtain ⟨h1, h2⟩ := h
    subst h1
    exact ⟨rfl, fun i hi => by rw [← hm i hi, ← hw i hi]; exact h2 i hi⟩
  | succ u => exact sp_SR_cg h hm hw
theorem sp_PU_cg {L : Nat → Nat} {pt : Nat → Int32} {U k n : Nat} {m w m' w' : Nat → Int32} (h : sp_PU L pt U m k w n) (hm : ∀ i, i < k → m i = m' i) (hw : ∀ i, i < n → w i = w' i) : sp_PU L pt U m' k w' n := by
  cases U with
  | zero =>
    obtain ⟨h1, h2⟩ := h
    subst h1
    exact ⟨rfl, fun i hi => by rw [← hm i hi, ← hw i hi]; exact h2 i hi⟩
  | succ u => exact sp_PR_cg h hm hw
theorem sp_SU_fun {L : Nat → Nat} {pt : Nat → Int32} {U k n n' : Nat} {m w w' : Nat → Int32} (h : sp_SU L pt U m k w n) (h' : sp_SU L pt U m k w' n') : n = n' ∧ ∀ i, i < n → w i = w' i := by
  cases U with
  | zero =>
    obtain ⟨h1, h2⟩ := h
    obtain ⟨g1, g2⟩ := h'
    subst h1
    exact ⟨g1, fun i hi => by rw [← h2 i hi, ← g2 i hi]⟩
  | succ u => exact sp_SR_fun h h'
theorem sp_PU_fun {L : Nat → Nat} {pt : Nat → Int32} {U k n n' : Nat} {m w w' : Nat → Int32} (h : sp_PU L pt U m k w n) (h' : sp_PU L pt U m k w' n') : n = n' ∧ ∀ i, i < n → w i = w' i := by
  cases U with
  | zero =>
    obtain ⟨h1, h2⟩ := h
    obtain ⟨g1, g2⟩ := h'
    subst h1
    exact ⟨g1, fun i hi => by rw [← h2 i hi, ← g2 i hi]⟩
  | succ u => exact sp_PR_fun h h'
theorem sp_SU_inj {L : Nat → Nat} {pt : Nat → Int32} {U k k' n : Nat} {m m' w : Nat → Int32} (h : sp_SU L pt U m k w n) (h' : sp_SU L pt U m' k' w n) : k = k' ∧ ∀ i, i < k → m i = m' i := by
  cases U with
  | zero =>
    obtain ⟨h1, h2⟩ := h
    obtain ⟨g1, g2⟩ := h'
    refine ⟨by omega, fun i hi => by rw [h2 i hi, g2 i (by omega)]⟩
  | succ u => exact sp_SR_inj h h'
theorem sp_PU_inj {L : Nat → Nat} {pt : Nat → Int32} {U k k' n : Nat} {m m' w : Nat → Int32} (h : sp_PU L pt U m k w n) (h' : sp_PU L pt U m' k' w n) : k = k' ∧ ∀ i, i < k → m i = m' i := by
  cases U with
  | zero =>
    obtain ⟨h1, h2⟩ := h
    obtain ⟨g1, g2⟩ := h'
    refine ⟨by omega, fun i hi => by rw [h2 i hi, g2 i (by omega)]⟩
  | succ u => exact sp_PR_inj h h'
/-- the rules: lengths and letters -/
def sp_RU (R : Nat) (L : Nat → Nat) (pl pt : Nat → Int32) : Prop :=
  R ≤ 10 ∧ (∀ j, pl j = nI (L j) ∧ L j ≤ 3) ∧ (∀ r, r < R → ∀ i, i < L (r * 3) → sp_ltr (pt (r * 9 + i))) ∧ (∀ r, r < R → ∀ i, i < L (r * 3 + 1) → sp_ltr (pt (r * 9 + 3 + i)))
theorem sp_SU_len {R : Nat} {L : Nat → Nat} {pl pt : Nat → Int32} (hR : sp_RU R L pl pt) {U k n : Nat} {m w : Nat → Int32} (h : sp_SU L pt U m k w n) : n ≤ k + 3 ∧ k ≤ n + 3 := by
  cases U with
  | zero => obtain ⟨h1, _⟩ := h; omega
  | succ u =>
    obtain ⟨⟨h1, h2⟩, _⟩ := h
    have := (hR.2.1 (u * 3)).2
    have := (hR.2.1 (u * 3 + 1)).2
    omega
theorem sp_PU_len {R : Nat} {L : Nat → Nat} {pl pt : Nat → Int32} (hR : sp_RU R L pl pt) {U k n : Nat} {m w : Nat → Int32} (h : sp_PU L pt U m k w n) : n ≤ k + 3 ∧ k ≤ n + 3 := by
  cases U with
  | zero => obtain ⟨h1, _⟩ := h; omega
  | succ u =>
    obtain ⟨⟨h1, h2⟩, _⟩ := h
    have := (hR.2.1 (u * 3)).2
    have := (hR.2.1 (u * 3 + 1)).2
    omega
/-- letters pass forward and backward -/
theorem sp_SU_lf {R : Nat} {L : Nat → Nat} {pl pt : Nat → Int32} (hR : sp_RU R L pl pt) {U k n : Nat} {m w : Nat → Int32} (hU : U = 0 ∨ U - 1 < R) (h : sp_SU L pt U m k w n) (hm : ∀ i, i < k → sp_ltr (m i)) : ∀ i, i < n → sp_ltr (w i) := by
  intro i hi
  cases U with
  | zero => obtain ⟨h1, h2⟩ := h; subst h1; rw [← h2 i hi]; exact hm i hi
  | succ u =>
    obtain ⟨⟨h1, h2⟩, h3, h4, h5, h6, h7⟩ := h
    by_cases hia : i < k - L (u * 3)
    · rw [← h5 i hia]; exact hm i (by omega)
    · have e : i = k - L (u * 3) + (i - (k - L (u * 3))) := by omega
      rw [e, h4 _ (by omega)]
      exact hR.2.2.2 u (by omega) _ (by omega)
theorem sp_PU_lf {R : Nat} {L : Nat → Nat} {pl pt : Nat → Int32} (hR : sp_RU R L pl pt) {U k n : Nat} {m w : Nat → Int32} (hU : U = 0 ∨ U - 1 < R) (h : sp_PU L pt U m k w n) (hm : ∀ i, i < k → sp_ltr (m i)) : ∀ i, i < n → sp_ltr (w i) := by
  intro i hi
  cases U with
  | zero => obtain ⟨h1, h2⟩ := h; subst h1; rw [← h2 i hi]; exact hm i hi
  | succ u =>
    obtain ⟨⟨h1, h2⟩, h3, h4, h5, h6, h7⟩ := h
    by_cases hia : i < L (u * 3 + 1)
    · rw [h4 i hia]; exact hR.2.2.2 u (by omega) _ (by omega)
    · have e : i = L (u * 3 + 1) + (i - L (u * 3 + 1)) := by omega
      rw [e, ← h5 _ (by omega)]
      exact hm _ (by omega)
theorem sp_SU_lb {R : Nat} {L : Nat → Nat} {pl pt : Nat → Int32} (hR : sp_RU R L pl pt) {U k n : Nat} {m w : Nat → Int32} (hU : U = 0 ∨ U - 1 < R) (h : sp_SU L pt U m k w n) (hm : ∀ i, i < n → sp_ltr (w i)) : ∀ i, i < k → sp_ltr (m i) := by
  intro i hi
  cases U with
  | zero => obtain ⟨h1, h2⟩ := h; subst h1; rw [h2 i hi]; exact hm i hi
  | succ u =>
    obtain ⟨⟨h1, h2⟩, h3, h4, h5, h6, h7⟩ := h
    by_cases hia : i < k - L (u * 3)
    · rw [h5 i hia]; exact hm i (by omega)
    · have e : i = k - L (u * 3) + (i - (k - L (u * 3))) := by omega
      rw [e, h3 _ (by omega)]
      exact hR.2.2.1 u (by omega) _ (by omega)
theorem sp_PU_lb {R : Nat} {L : Nat → Nat} {pl pt : Nat → Int32} (hR : sp_RU R L pl pt) {U k n : Nat} {m w : Nat → Int32} (hU : U = 0 ∨ U - 1 < R) (h : sp_PU L pt U m k w n) (hm : ∀ i, i < n → sp_ltr (w i)) : ∀ i, i < k → sp_ltr (m i) := by
  intro i hi
  cases U with
  | zero => obtain ⟨h1, h2⟩ := h; subst h1; rw [h2 i hi]; exact hm i hi
  | succ u =>
    obtain ⟨⟨h1, h2⟩, h3, h4, h5, h6, h7⟩ := h
    by_cases hia : i < L (u * 3)
    · rw [h3 i hia]; exact hR.2.2.1 u (by omega) _ (by omega)
    · have e : i = L (u * 3) + (i - L (u * 3)) := by omega
      rw [e, h5 _ (by omega)]
      exact hm _ (by omega)
/-- stem s may take rule r -/
def sp_f (fg rf : Nat → Int32) (s r : Nat) : Prop := ((fg s >>> (rf r &&& 31)) &&& 1) = 1
def sp_al (fg rf : Nat → Int32) (s U : Nat) : Prop := U = 0 ∨ sp_f fg rf s (U - 1)
def sp_cr (cx : Nat → Int32) (U Q : Nat) : Prop := U = 0 ∨ Q = 0 ∨ (¬ cx (U - 1) = 0 ∧ ¬ cx (Q - 1) = 0)
/-- stem s with rule U - 1 at the end and rule Q - 1 at the beginning (0: none) gives the word (w, n) -/
def sp_G (R S : Nat) (L SL : Nat → Nat) (rf sx cx pt fg sl w : Nat → Int32) (n s U Q : Nat) : Prop :=
  s < S ∧ (sp_VA sx R U ∧ sp_al fg rf s U) ∧ (sp_VB sx R Q ∧ sp_al fg rf s Q) ∧ sp_cr cx U Q ∧ n ≠ 0 ∧ ∃ (m : Nat → Int32) (k : Nat), sp_SU L pt U (fun i => sl (s * 12 + i)) (SL s) m k ∧ sp_PU L pt Q m k w n
def sp_P (R S : Nat) (L SL : Nat → Nat) (rf sx cx pt fg sl w : Nat → Int32) (n c : Nat) : Prop :=
  sp_G R S L SL rf sx cx pt fg sl w n (c / 11 / 11) (c / 11 % 11) (c % 11)
/-- those of them that the search has met: all before (Q, U, s) in this order -/
def sp_PP (P : Nat → Prop) (Q U a c : Nat) : Prop := P c ∧ (c % 11 < Q ∨ (c % 11 = Q ∧ (c / 11 % 11 < U ∨ (c / 11 % 11 = U ∧ c / 11 / 11 < a))))
theorem sp_P_cg {R S : Nat} {L SL : Nat → Nat} {rf sx cx pt fg sl w w' : Nat → Int32} {n : Nat} (h : ∀ i, i < n → w i = w' i) (c : Nat) : sp_P R S L SL rf sx cx pt fg sl w n c ↔ sp_P R S L SL rf sx cx pt fg sl w' n c := by
  constructor
  · intro ⟨h1, h2, h3, h4, h5, m, k, h6, h7⟩
    exact ⟨h1, h2, h3, h4, h5, m, k, h6, sp_PU_cg h7 (fun _ _ => rfl) h⟩
  · intro ⟨h1, h2, h3, h4, h5, m, k, h6, h7⟩
    exact ⟨h1, h2, h3, h4, h5, m, k, h6, sp_PU_cg h7 (fun _ _ => rfl) (fun i hi => (h i hi).symm)⟩
theorem sp_P_eq {R S : Nat} {L SL : Nat → Nat} {rf sx cx pt fg sl w w' : Nat → Int32} {n : Nat} (h : ∀ i, i < n → w i = w' i) : sp_P R S L SL rf sx cx pt fg sl w n = sp_P R S L SL rf sx cx pt fg sl w' n :=
  funext (fun c => propext (sp_P_cg h c))
theorem sp_P_V {R S : Nat} {L SL : Nat → Nat} {rf sx cx pt fg sl w : Nat → Int32} {n c : Nat} (hS : S ≤ 12) (h : sp_P R S L SL rf sx cx pt fg sl w n c) : sp_V sx R c :=
  ⟨⟨Nat.lt_of_lt_of_le h.1 hS, h.2.1.1⟩, h.2.2.1.1⟩
theorem sp_P_lt {R S : Nat} {L SL : Nat → Nat} {rf sx cx pt fg sl w : Nat → Int32} {n c : Nat} (hS : S ≤ 12) (h : sp_P R S L SL rf sx cx pt fg sl w n c) : c < 1452 := by
  have h1 : c / 11 / 11 < S := h.1
  omega
theorem sp_cd {s U Q : Nat} (hU : U < 11) (hQ : Q < 11) : (s * 121 + U * 11 + Q) / 11 / 11 = s ∧ (s * 121 + U * 11 + Q) / 11 % 11 = U ∧ (s * 121 + U * 11 + Q) % 11 = Q := by
  refine ⟨?_, ?_, ?_⟩ <;> omega
theorem sp_P_cd {R S : Nat} {L SL : Nat → Nat} {rf sx cx pt fg sl w : Nat → Int32} {n s U Q : Nat} (hU : U < 11) (hQ : Q < 11) : sp_P R S L SL rf sx cx pt fg sl w n (s * 121 + U * 11 + Q) ↔ sp_G R S L SL rf sx cx pt fg sl w n s U Q := by
  obtain ⟨h1, h2, h3⟩ := sp_cd (s := s) hU hQ
  unfold sp_P
  rw [h1, h2, h3]
/-- a word with a 9 in it has no derivation -/
theorem sp_P_9 {R S : Nat} {L SL : Nat → Nat} {pl rf sx cx pt fg sl w : Nat → Int32} {n : Nat} (hR : sp_RU R L pl pt) (hsl : ∀ s, s < S → ∀ i, i < SL s → sp_ltr (sl (s * 12 + i))) (h9 : ∃ i, i < n ∧ w i = 9) (c : Nat) : ¬ sp_P R S L SL rf sx cx pt fg sl w n c := by
  intro ⟨h1, h2, h3, h4, h5, m, k, h6, h7⟩
  obtain ⟨i, hi, h9⟩ := h9
  have hA : c / 11 % 11 = 0 ∨ c / 11 % 11 - 1 < R := h2.1.elim Or.inl (fun z => Or.inr z.1)
  have hB : c % 11 = 0 ∨ c % 11 - 1 < R := h3.1.elim Or.inl (fun z => Or.inr z.1)
  have g1 := sp_SU_lf hR hA h6 (hsl _ h1)
  exact sp_ltr9 (sp_PU_lf hR hB h7 g1 i hi) h9
end
section
/-! the letter tree: C v*8+l is the child; sp_w walks it along a word -/
def sp_w (C : Nat → Nat) (w : Nat → Int32) : Nat → Nat
  | 0 => 0
  | i + 1 => C (sp_w C w i * 8 + ((w i).toNatClampNeg - 1))
theorem sp_w0 (C : Nat → Nat) (w : Nat → Int32) : sp_w C w 0 = 0 := rfl
theorem sp_ws (C : Nat → Nat) (w : Nat → Int32) (i : Nat) : sp_w C w (i + 1) = C (sp_w C w i * 8 + ((w i).toNatClampNeg - 1)) := rfl
theorem sp_w_cg {C : Nat → Nat} {w w' : Nat → Int32} : ∀ n, (∀ i, i < n → w i = w' i) → sp_w C w n = sp_w C w' n
  | 0, _ => rfl
  | n + 1, h => by
    rw [sp_ws, sp_ws, sp_w_cg n (fun i hi => h i (by omega)), h n (by omega)]
/-- more children keep a walk that met none wanting -/
theorem sp_w_ext {C C' : Nat → Nat} {w : Nat → Int32} (hC : ∀ j, C j ≠ 0 → C' j = C j) : ∀ n, (∀ i, i < n → sp_w C w (i + 1) ≠ 0) → sp_w C' w n = sp_w C w n
  | 0, _ => rfl
  | n + 1, h => by
    rw [sp_ws, sp_w_ext hC n (fun i hi => h i (by omega))]
    exact hC _ (h n (by omega))
/-- the tree: N nodes, gp v the word of node v, gl v its length -/
def sp_TR (C : Nat → Nat) (N : Nat) (gp : Nat → Nat → Int32) (gl : Nat → Nat) : Prop :=
  (1 ≤ N ∧ gl 0 = 0) ∧ (∀ j, C j < N) ∧ (∀ j, N * 8 ≤ j → C j = 0) ∧
  ∀ v l, v < N → l < 8 → C (v * 8 + l) ≠ 0 → gl (C (v * 8 + l)) = gl v + 1 ∧ gp (C (v * 8 + l)) (gl v) = nI (l + 1) ∧ ∀ i, i < gl v → gp (C (v * 8 + l)) i = gp v i
theorem sp_w_lt {C : Nat → Nat} {N : Nat} {gp : Nat → Nat → Int32} {gl : Nat → Nat} (hT : sp_TR C N gp gl) (w : Nat → Int32) : ∀ n, sp_w C w n < N
  | 0 => hT.1.1
  | n + 1 => hT.2.1 _
theorem sp_w_gp {C : Nat → Nat} {N : Nat} {gp : Nat → Nat → Int32} {gl : Nat → Nat} (hT : sp_TR C N gp gl) {w : Nat → Int32} : ∀ n, (∀ i, i < n → sp_ltr (w i)) → (∀ i, i < n → sp_w C w (i + 1) ≠ 0) → gl (sp_w C w n) = n ∧ ∀ i, i < n → gp (sp_w C w n) i = w i
  | 0, _, _ => ⟨hT.1.2, fun i hi => absurd hi (Nat.not_lt_zero i)⟩
  | n + 1, hl, h => by
    obtain ⟨h1, h2⟩ := sp_w_gp hT n (fun i hi => hl i (by omega)) (fun i hi => h i (by omega))
    obtain ⟨l, hl8, el⟩ := hl n (by omega)
    have e : (w n).toNatClampNeg - 1 = l := by rw [el, nI_clamp (by omega)]; omega
    have h3 := h n (by omega)
    rw [sp_ws, e] at h3
    obtain ⟨g1, g2, g3⟩ := hT.2.2.2 _ l (sp_w_lt hT w n) hl8 h3
    rw [sp_ws, e]
    refine ⟨by rw [g1, h1], fun i hi => ?_⟩
    rw [h1] at g2 g3
    by_cases hin : i = n
    · subst hin; rw [g2, el]
    · rw [g3 i (by omega), h2 i (by omega)]
/-- the stems: lengths, letters, the nodes where they end -/
def sp_ST (C : Nat → Nat) (S : Nat) (SL : Nat → Nat) (sl : Nat → Int32) (e : Nat → Nat) : Prop :=
  ∀ s, s < S → (1 ≤ SL s ∧ SL s ≤ 12) ∧ (∀ i, i < SL s → sp_ltr (sl (s * 12 + i))) ∧ e s = sp_w C (fun i => sl (s * 12 + i)) (SL s) ∧ ∀ i, i < SL s → sp_w C (fun i => sl (s * 12 + i)) (i + 1) ≠ 0
/-- which stems end where a word leads -/
theorem sp_end {C : Nat → Nat} {N S : Nat} {gp : Nat → Nat → Int32} {gl SL e : Nat → Nat} {sl : Nat → Int32} (hT : sp_TR C N gp gl) (hS : sp_ST C S SL sl e) {w : Nat → Int32} {k s : Nat} (hs : s < S) (hl : ∀ i, i < k → sp_ltr (w i)) (hw : ∀ i, i < k → sp_w C w (i + 1) ≠ 0) :
    e s = sp_w C w k ↔ (SL s = k ∧ ∀ i, i < SL s → sl (s * 12 + i) = w i) := by
  obtain ⟨h1, h2, h3, h4⟩ := hS s hs
  obtain ⟨g1, g2⟩ := sp_w_gp hT k hl hw
  obtain ⟨f1, f2⟩ := sp_w_gp hT (w := fun i => sl (s * 12 + i)) (SL s) h2 h4
  rw [h3]
  constructor
  · intro h
    rw [h] at f1 f2
    refine ⟨by omega, fun i hi => ?_⟩
    have := f2 i hi
    rw [← g2 i (by omega)]; exact this.symm
  · intro ⟨h5, h6⟩
    rw [h5]
    exact sp_w_cg k (fun i hi => h6 i (by omega))
theorem sp_noend {C : Nat → Nat} {S : Nat} {SL e : Nat → Nat} {sl : Nat → Int32} (hS : sp_ST C S SL sl e) {w : Nat → Int32} {k s : Nat} (hs : s < S) (hw : ∃ i, i < k ∧ sp_w C w (i + 1) = 0) : ¬ (SL s = k ∧ ∀ i, i < SL s → sl (s * 12 + i) = w i) := by
  intro ⟨h5, h6⟩
  obtain ⟨h1, h2, h3, h4⟩ := hS s hs
  obtain ⟨i, hi, h⟩ := hw
  refine h4 i (by omega) ?_
  rw [← h]
  exact sp_w_cg (i + 1) (fun j hj => h6 j (by omega))
/-- x is the least stem from a on that ends at v, or -1 -/
def sp_N (e : Nat → Nat) (S v a : Nat) (x : Int32) : Prop :=
  (∃ s, (a ≤ s ∧ s < S) ∧ e s = v ∧ (∀ j, a ≤ j → j < s → e j ≠ v) ∧ x = nI s) ∨ ((∀ j, a ≤ j → j < S → e j ≠ v) ∧ x = -1)
/-- the chains -/
def sp_CH (e : Nat → Nat) (S N : Nat) (fs ns : Nat → Int32) : Prop :=
  (∀ v, v < N → sp_N e S v 0 (fs v)) ∧ ∀ s, s < S → sp_N e S (e s) (s + 1) (ns s)
/-- a new node -/
def sp_u (f : Nat → Nat) (k v : Nat) : Nat → Nat := fun j => if j = k then v else f j
theorem sp_us {f : Nat → Nat} {k v : Nat} : sp_u f k v k = v := if_pos rfl
theorem sp_un {f : Nat → Nat} {k v j : Nat} (h : j ≠ k) : sp_u f k v j = f j := if_neg h
theorem sp_u_nI {a : Nat → Int32} {f : Nat → Nat} {k v : Nat} (h : ∀ j, a j = nI (f j)) (j : Nat) : upd a k (nI v) j = nI (sp_u f k v j) := by
  by_cases hj : j = k
  · subst hj; rw [pk_us, sp_us]
  · rw [pk_un hj, sp_un hj, h j]
def sp_ug (g : Nat → Nat → Int32) (k : Nat) (v : Nat → Int32) : Nat → Nat → Int32 := fun j => if j = k then v else g j
theorem sp_ugs {g : Nat → Nat → Int32} {k : Nat} {v : Nat → Int32} : sp_ug g k v k = v := if_pos rfl
theorem sp_ugn {g : Nat → Nat → Int32} {k j : Nat} {v : Nat → Int32} (h : j ≠ k) : sp_ug g k v j = g j := if_neg h
theorem sp_TR_new {C : Nat → Nat} {N : Nat} {gp : Nat → Nat → Int32} {gl : Nat → Nat} (hT : sp_TR C N gp gl) {v l : Nat} (hv : v < N) (hl : l < 8) (h0 : C (v * 8 + l) = 0) :
    sp_TR (sp_u C (v * 8 + l) N) (N + 1) (sp_ug gp N (upd (gp v) (gl v) (nI (l + 1)))) (sp_u gl N (gl v + 1)) := by
  obtain ⟨⟨h1, h2⟩, h3, h4, h5⟩ := hT
  refine ⟨⟨by omega, ?_⟩, fun j => ?_, fun j hj => ?_, fun v' l' hv' hl' hne => ?_⟩
  · rw [sp_un (by omega)]; exact h2
  · by_cases hj : j = v * 8 + l
    · rw [hj, sp_us]; omega
    · rw [sp_un hj]; have := h3 j; omega
  · rw [sp_un (by omega)]; exact h4 j (by omega)
  · by_cases hj : v' * 8 + l' = v * 8 + l
    · have e1 : v' = v := by omega
      have e2 : l' = l := by omega
      subst e1 e2
      rw [sp_us, sp_us, sp_un (show v' ≠ N by omega), sp_ugs, sp_ugn (show v' ≠ N by omega)]
      refine ⟨rfl, pk_us, fun i hi => pk_un (by omega)⟩
    · rw [sp_un hj] at hne ⊢
      by_cases hvN : v' = N
      · exact absurd (h4 (v' * 8 + l') (by omega)) hne
      · have hc := h3 (v' * 8 + l')
        rw [sp_un (show C (v' * 8 + l') ≠ N by omega), sp_un hvN, sp_ugn (show C (v' * 8 + l') ≠ N by omega), sp_ugn hvN]
        exact h5 v' l' (by omega) hl' hne
theorem sp_ST_ext {C C' : Nat → Nat} {S : Nat} {SL e : Nat → Nat} {sl : Nat → Int32} (hC : ∀ j, C j ≠ 0 → C' j = C j) (hS : sp_ST C S SL sl e) : sp_ST C' S SL sl e := by
  intro s hs
  obtain ⟨h1, h2, h3, h4⟩ := hS s hs
  refine ⟨h1, h2, ?_, fun i hi => ?_⟩
  · rw [sp_w_ext hC _ h4]; exact h3
  · rw [sp_w_ext hC (i + 1) (fun j hj => h4 j (by omega))]; exact h4 i hi
theorem sp_u_ext {C : Nat → Nat} {k v : Nat} (h0 : C k = 0) (j : Nat) (hj : C j ≠ 0) : sp_u C k v j = C j :=
  sp_un (fun z => hj (z ▸ h0))
theorem sp_e_lt {C : Nat → Nat} {N S : Nat} {gp : Nat → Nat → Int32} {gl SL e : Nat → Nat} {sl : Nat → Int32} (hT : sp_TR C N gp gl) (hS : sp_ST C S SL sl e) {s : Nat} (hs : s < S) : e s < N := by
  rw [(hS s hs).2.2.1]; exact sp_w_lt hT _ _
theorem sp_CH_node {e : Nat → Nat} {S N : Nat} {fs ns : Nat → Int32} (h : sp_CH e S N fs ns) (he : ∀ s, s < S → e s < N) : sp_CH e S (N + 1) (upd fs N (-1)) ns := by
  refine ⟨fun v hv => ?_, h.2⟩
  by_cases hvN : v = N
  · subst hvN
    rw [pk_us]
    exact Or.inr ⟨fun j _ hj => by have := he j hj; omega, rfl⟩
  · rw [pk_un hvN]; exact h.1 v (by omega)
/-- a new stem at the end of its node's chain -/
theorem sp_N_oth {e : Nat → Nat} {S v v' a : Nat} {x : Int32} (hne : v' ≠ v) (h : sp_N e S v' a x) : sp_N (sp_u e S v) (S + 1) v' a x := by
  rcases h with ⟨s, ⟨h1, h2⟩, h3, h4, h5⟩ | ⟨h1, h2⟩
  · refine Or.inl ⟨s, ⟨h1, by omega⟩, by rw [sp_un (by omega)]; exact h3, fun j hj1 hj2 => by rw [sp_un (by omega)]; exact h4 j hj1 hj2, h5⟩
  · refine Or.inr ⟨fun j hj1 hj2 => ?_, h2⟩
    by_cases hj : j = S
    · subst hj; rw [sp_us]; exact fun z => hne z.symm
    · rw [sp_un hj]; exact h1 j hj1 (by omega)
theorem sp_N_some {e : Nat → Nat} {S v v' a : Nat} {x : Int32} (hx : ¬ x < 0) (h : sp_N e S v' a x) : sp_N (sp_u e S v) (S + 1) v' a x := by
  rcases h with ⟨s, ⟨h1, h2⟩, h3, h4, h5⟩ | ⟨h1, h2⟩
  · exact Or.inl ⟨s, ⟨h1, by omega⟩, by rw [sp_un (by omega)]; exact h3, fun j hj1 hj2 => by rw [sp_un (by omega)]; exact h4 j hj1 hj2, h5⟩
  · subst h2; exact absurd (by decide) hx
theorem sp_N_none {e : Nat → Nat} {S v a : Nat} {x : Int32} (ha : a ≤ S) (hx : x < 0) (hS : S < 2 ^ 31) (h : sp_N e S v a x) : sp_N (sp_u e S v) (S + 1) v a (nI S) := by
  rcases h with ⟨s, ⟨h1, h2⟩, h3, h4, h5⟩ | ⟨h1, h2⟩
  · subst h5; exact absurd hx (nI_pos (by omega))
  · exact Or.inl ⟨S, ⟨ha, by omega⟩, sp_us, fun j hj1 hj2 => by rw [sp_un (by omega)]; exact h1 j hj1 hj2, rfl⟩
theorem sp_CH_first {e : Nat → Nat} {S N v : Nat} {fs ns : Nat → Int32} (hS : S < 2 ^ 31) (h : sp_CH e S N fs ns) (hv : v < N) (hx : fs v < 0) : sp_CH (sp_u e S v) (S + 1) N (upd fs v (nI S)) (upd ns S (-1)) := by
  have hn : ∀ j, j < S → e j ≠ v := by
    rcases h.1 v hv with ⟨s, ⟨h1, h2⟩, h3, h4, h5⟩ | ⟨h1, h2⟩
    · rw [h5] at hx; exact absurd hx (nI_pos (by omega))
    · exact fun j hj => h1 j (by omega) hj
  refine ⟨fun v' hv' => ?_, fun s hs => ?_⟩
  · by_cases hvv : v' = v
    · subst hvv; rw [pk_us]; exact sp_N_none (Nat.zero_le _) hx hS (h.1 v' hv')
    · rw [pk_un hvv]; exact sp_N_oth hvv (h.1 v' hv')
  · by_cases hsS : s = S
    · subst hsS; rw [pk_us]
      exact Or.inr ⟨fun j h1 h2 => by omega, rfl⟩
    · rw [pk_un hsS, sp_un hsS]
      exact sp_N_oth (hn s (by omega)) (h.2 s (by omega))
theorem sp_CH_last {e : Nat → Nat} {S N v t : Nat} {fs ns : Nat → Int32} (hS : S < 2 ^ 31) (h : sp_CH e S N fs ns) (ht : t < S) (het : e t = v) (hx : ns t < 0) : sp_CH (sp_u e S v) (S + 1) N fs (upd (upd ns S (-1)) t (nI S)) := by
  have hn : ∀ j, t < j → j < S → e j ≠ v := by
    rcases h.2 t ht with ⟨s, ⟨h1, h2⟩, h3, h4, h5⟩ | ⟨h1, h2⟩
    · rw [h5] at hx; exact absurd hx (nI_pos (by omega))
    · intro j h3 h4; rw [← het]; exact h1 j (by omega) h4
  refine ⟨fun v' hv' => ?_, fun s hs => ?_⟩
  · by_cases hvv : v' = v
    · subst hvv
      refine sp_N_some ?_ (h.1 v' hv')
      rcases h.1 v' hv' with ⟨s, ⟨h1, h2⟩, h3, h4, h5⟩ | ⟨h1, h2⟩
      · rw [h5]; exact nI_pos (by omega)
      · exact absurd het (h1 t (by omega) ht)
    · exact sp_N_oth hvv (h.1 v' hv')
  · by_cases hsS : s = S
    · subst hsS
      rw [pk_un (by omega), pk_us]
      exact Or.inr ⟨fun j h1 h2 => by omega, rfl⟩
    · by_cases hst : s = t
      · subst hst
        rw [pk_us, sp_un hsS, het]
        have := h.2 s ht
        rw [het] at this
        exact sp_N_none (by omega) hx hS this
      · rw [pk_un hst, pk_un hsS, sp_un hsS]
        by_cases hev : e s = v
        · have hlt : s < t := by
            by_cases hh : t < s
            · exact absurd hev (hn s hh (by omega))
            · omega
          rw [hev]
          have h9 := h.2 s (by omega)
          rw [hev] at h9
          refine sp_N_some ?_ h9
          rcases h9 with ⟨s', ⟨h1, h2⟩, h3, h4, h5⟩ | ⟨h1, h2⟩
          · rw [h5]; exact nI_pos (by omega)
          · exact absurd het (h1 t (by omega) ht)
        · exact sp_N_oth hev (h.2 s (by omega))
end
section
/-! indices; the two scans for a 9 -/
theorem sp_m3 (r : Nat) : nI r * 3 = nI (r * 3) := pk_mul r 3
theorem sp_m8 (r : Nat) : nI r * 8 = nI (r * 8) := pk_mul r 8
theorem sp_m9 (r : Nat) : nI r * 9 = nI (r * 9) := pk_mul r 9
theorem sp_m11 (r : Nat) : nI r * 11 = nI (r * 11) := pk_mul r 11
theorem sp_m12 (r : Nat) : nI r * 12 = nI (r * 12) := pk_mul r 12
theorem sp_m121 (r : Nat) : nI r * 121 = nI (r * 121) := pk_mul r 121
theorem sp_p2 (r : Nat) : nI r + 2 = nI (r + 2) := nI_add r 2
theorem sp_p3 (r : Nat) : nI r + 3 = nI (r + 3) := nI_add r 3
theorem sp_p6 (r : Nat) : nI r + 6 = nI (r + 6) := nI_add r 6
/-- rule or none: 0 is -1 -/
def sp_m : Nat → Int32
  | 0 => -1
  | u + 1 => nI u
theorem sp_m1 (U : Nat) : sp_m U + 1 = nI U := by
  cases U with
  | zero => decide
  | succ u => exact nI_1 u
theorem sp_code (s U Q : Nat) : ((nI s * 121 + (sp_m U + 1) * 11) + sp_m Q) + 1 = nI (s * 121 + U * 11 + Q) := by
  rw [sp_m1, sp_m121, sp_m11, nI_add, Int32.add_assoc, sp_m1, nI_add]
section
variable {tl ru st nd wl il cl fo : Int32} {ty kl kp rf sx cx pl pt fg ch fs ns wd nn co li : Nat → Int32}
theorem sx_any2 {post : Int32 → Prop} {T : Nat} (hT : T ≤ 12) (h1 : (∃ j, j < T ∧ ty j = 9) → post 1) (h0 : (∀ j, j < T → ¬ ty j = 9) → post 0) :
    ∀ n i, i ≤ T → T - i < n → (∀ j, j < i → ¬ ty j = 9) → wX_hasAny_2 post (nI T) ru st nd wl il cl fo ty kl kp rf sx cx pl pt fg ch fs ns wd nn co li n (nI i) := by
  intro n
  induction n with
  | zero => intro i _ h; omega
  | succ n ih =>
    intro i hi hn hb
    have ci := nI_clamp (n := i) (by omega)
    refine pk_le T i (fun h => h0 (fun j hj => hb j (by omega))) (fun h => ⟨vp_in_nI (by omega) (by omega), ?_⟩)
    rw [ci]
    exact br_c (fun z => h1 ⟨i, h, z⟩) (fun z => nm_r (nI_1 i) (ih (i + 1) (by omega) (by omega) (lt_s hb z)))
theorem sx_any {post : Int32 → Prop} {T : Nat} (hT : T ≤ 12) (h1 : (∃ j, j < T ∧ ty j = 9) → post 1) (h0 : (∀ j, j < T → ¬ ty j = 9) → post 0) :
    wpX_hasAny post (nI T, ru, st, nd, wl, il, cl, fo, ty, kl, kp, rf, sx, cx, pl, pt, fg, ch, fs, ns, wd, nn, co, li) :=
  ⟨T + 1, sx_any2 hT h1 h0 (T + 1) 0 (by omega) (by omega) (fun j hj => absurd hj (Nat.not_lt_zero j))⟩
end
section
variable {sz ru st ws zS zP : Int32} {bu kp kl rf sx cx pt pl fg zl sl yw yo : Nat → Int32}
theorem sy_nine2 {post : Int32 → Prop} {T : Nat} (hT : T ≤ 12) (h1 : (∃ j, j < T ∧ bu j = 9) → post 1) (h0 : (∀ j, j < T → ¬ bu j = 9) → post 0) :
    ∀ n i, i ≤ T → T - i < n → (∀ j, j < i → ¬ bu j = 9) → wY_nine_2 post (nI T) ru st ws zS zP bu kp kl rf sx cx pt pl fg zl sl yw yo n (nI i) := by
  intro n
  induction n with
  | zero => intro i _ h; omega
  | succ n ih =>
    intro i hi hn hb
    have ci := nI_clamp (n := i) (by omega)
    refine pk_le T i (fun h => h0 (fun j hj => hb j (by omega))) (fun h => ⟨vp_in_nI (by omega) (by omega), ?_⟩)
    rw [ci]
    exact br_c (fun z => h1 ⟨i, h, z⟩) (fun z => nm_r (nI_1 i) (ih (i + 1) (by omega) (by omega) (lt_s hb z)))
theorem sy_nine {post : Int32 → Prop} {T : Nat} (hT : T ≤ 12) (h1 : (∃ j, j < T ∧ bu j = 9) → post 1) (h0 : (∀ j, j < T → ¬ bu j = 9) → post 0) :
    wpY_nine post (nI T, ru, st, ws, zS, zP, bu, kp, kl, rf, sx, cx, pt, pl, fg, zl, sl, yw, yo) :=
  ⟨T + 1, sy_nine2 hT h1 h0 (T + 1) 0 (by omega) (by omega) (fun j hj => absurd hj (Nat.not_lt_zero j))⟩
end
end
section
/-! undoPrefix -/
section
variable {tl ru st nd wl il cl fo : Int32} {ty kl kp rf sx cx pl pt fg ch fs ns wd nn co li : Nat → Int32}
theorem sx_up179 {post : Int32 → SX → Prop} {r q : Nat} (hr : r < 10) (hq : q ≤ 3) (h1 : (∀ i, i < q → pt (r * 9 + 6 + i) = 9 ∨ pt (r * 9 + 6 + i) = nn i) → post 1 (tl, ru, st, nd, wl, il, cl, fo, ty, kl, kp, rf, sx, cx, pl, pt, fg, ch, fs, ns, wd, nn, co, li))
    (h0 : (∃ i, i < q ∧ ¬ pt (r * 9 + 6 + i) = 9 ∧ ¬ pt (r * 9 + 6 + i) = nn i) → post 0 (tl, ru, st, nd, wl, il, cl, fo, ty, kl, kp, rf, sx, cx, pl, pt, fg, ch, fs, ns, wd, nn, co, li)) :
    ∀ n i, i ≤ q → q - i < n → (∀ j, j < i → pt (r * 9 + 6 + j) = 9 ∨ pt (r * 9 + 6 + j) = nn j) → wX_undoPrefix_179 post (nI r) (nI q) tl ru st nd wl il cl fo ty kl kp rf sx cx pl pt fg ch fs ns wd nn co li n (nI i) := by
  intro n
  induction n with
  | zero => intro i _ h; omega
  | succ n ih =>
    intro i hi hn hb
    have ci := nI_clamp (n := i) (by omega)
    have e : nI r * 9 + 6 + nI i = nI (r * 9 + 6 + i) := by rw [sp_m9, sp_p6, nI_add]
    have ce := nI_clamp (n := r * 9 + 6 + i) (by omega)
    refine pk_le q i (fun h => h1 (fun j hj => hb j (by omega))) (fun h => ?_)
    rw [e, ce, ci]
    exact ⟨vp_in_nI (by omega) (by omega), nm_e (br_c (fun z => nm_r (nI_1 i) (ih (i + 1) (by omega) (by omega) (lt_s hb (Or.inl z))))
      (fun z => ⟨vp_in_nI (by omega) (by omega), br_c (fun y => nm_r (nI_1 i) (ih (i + 1) (by omega) (by omega) (lt_s hb (Or.inr y)))) (fun y => h0 ⟨i, h, z, y⟩)⟩))⟩
theorem sx_up108 {post : Int32 → SX → Prop} {r z a q w : Nat} (hr : r < 10) (hz : z ≤ 3) (ha : a ≤ w) (hw : w ≤ 12) (hq : q ≤ 3) (hpq : pl (r * 3 + 2) = nI q)
    (h1 : ∀ mm, (∀ i, i < z → mm i = pt (r * 9 + i)) → (∀ i, i < w - a → mm (z + i) = wd (a + i)) → q ≤ z + (w - a) → (∀ i, i < q → pt (r * 9 + 6 + i) = 9 ∨ pt (r * 9 + 6 + i) = mm i) → post 1 (tl, ru, st, nd, nI w, nI (z + (w - a)), cl, fo, ty, kl, kp, rf, sx, cx, pl, pt, fg, ch, fs, ns, wd, mm, co, li))
    (h0 : ∀ mm, (∀ i, i < z → mm i = pt (r * 9 + i)) → (∀ i, i < w - a → mm (z + i) = wd (a + i)) → (z + (w - a) < q ∨ ∃ i, i < q ∧ ¬ pt (r * 9 + 6 + i) = 9 ∧ ¬ pt (r * 9 + 6 + i) = mm i) → post 0 (tl, ru, st, nd, nI w, nI (z + (w - a)), cl, fo, ty, kl, kp, rf, sx, cx, pl, pt, fg, ch, fs, ns, wd, mm, co, li)) :
    ∀ n i (nn : Nat → Int32), a ≤ i → i ≤ w → w - i < n → (∀ j, j < z → nn j = pt (r * 9 + j)) → (∀ j, j < i - a → nn (z + j) = wd (a + j)) → wX_undoPrefix_108 post (nI r) (nI a) (nI z) tl ru st nd (nI w) il cl fo n (nI i) ty kl kp rf sx cx pl pt fg ch fs ns wd nn co li := by
  intro n
  induction n with
  | zero => intro i _ _ _ h; omega
  | succ n ih =>
    intro i mm hai hi hn hb1 hb2
    have ci := nI_clamp (n := i) (by omega)
    have e : nI z + nI i - nI a = nI (z + i - a) := by rw [nI_add, pk_sub (by omega)]
    have ce := nI_clamp (n := z + i - a) (by omega)
    have e2 : nI r * 3 + 2 = nI (r * 3 + 2) := by rw [sp_m3, sp_p2]
    have ce2 := nI_clamp (n := r * 3 + 2) (by omega)
    have e3 : nI z + nI w - nI a = nI (z + (w - a)) := by rw [nI_add, pk_sub (by omega)]; exact congrArg nI (by omega)
    refine pk_le w i (fun h => ?_) (fun h => ?_)
    · have hiw : i = w := by omega
      subst hiw
      refine nm_r e3 ?_
      rw [e2, ce2]
      refine ⟨vp_in_nI (by omega) (by omega), nm_r hpq ?_⟩
      exact pk_le q (z + (i - a)) (fun hle => ⟨q + 1, sx_up179 hr hq (fun g => h1 mm hb1 hb2 hle g) (fun g => h0 mm hb1 hb2 (Or.inr g)) (q + 1) 0 (by omega) (by omega) (fun j hj => absurd hj (Nat.not_lt_zero j))⟩)
        (fun hlt => h0 mm hb1 hb2 (Or.inl hlt))
    · rw [e, ce, ci]
      refine ⟨vp_in_nI (by omega) (by omega), vp_in_nI (by omega) (by omega), nm_e (nm_r (nI_1 i) (ih (i + 1) _ (by omega) (by omega) (by omega) (fun j hj => ?_) (fun j hj => ?_)))⟩
      · rw [pk_un (by omega)]; exact hb1 j hj
      · by_cases hj2 : j = i - a
        · have e5 : z + j = z + i - a := by omega
          have e6 : a + j = i := by omega
          rw [e5, pk_us, e6]
        · rw [pk_un (by omega)]; exact hb2 j (by omega)
theorem sx_up74 {post : Int32 → SX → Prop} {r z a : Nat} (hr : r < 10) (hz : z ≤ 3)
    (h : ∀ mm, (∀ i, i < z → mm i = pt (r * 9 + i)) → ∃ n, wX_undoPrefix_108 post (nI r) (nI a) (nI z) tl ru st nd wl il cl fo n (nI a) ty kl kp rf sx cx pl pt fg ch fs ns wd mm co li) :
    ∀ n i (nn : Nat → Int32), i ≤ z → z - i < n → (∀ j, j < i → nn j = pt (r * 9 + j)) → wX_undoPrefix_74 post (nI r) (nI a) (nI z) tl ru st nd wl il cl fo n (nI i) ty kl kp rf sx cx pl pt fg ch fs ns wd nn co li := by
  intro n
  induction n with
  | zero => intro i _ _ h; omega
  | succ n ih =>
    intro i mm hi hn hb
    have ci := nI_clamp (n := i) (by omega)
    have e : nI r * 9 + nI i = nI (r * 9 + i) := by rw [sp_m9, nI_add]
    have ce := nI_clamp (n := r * 9 + i) (by omega)
    refine pk_le z i (fun g => h mm (fun j hj => hb j (by omega))) (fun g => ?_)
    rw [e, ce, ci]
    refine ⟨vp_in_nI (by omega) (by omega), vp_in_nI (by omega) (by omega), nm_e (nm_r (nI_1 i) (ih (i + 1) _ (by omega) (by omega) (fun j hj => ?_)))⟩
    by_cases hj2 : j = i
    · subst hj2; rw [pk_us]
    · rw [pk_un hj2]; exact hb j (by omega)
theorem sx_up33 {post : Int32 → SX → Prop} {r z a : Nat} (hr : r < 10) (ha : a ≤ 3)
    (h : (∀ i, i < a → wd i = pt (r * 9 + 3 + i)) → ∃ n, wX_undoPrefix_74 post (nI r) (nI a) (nI z) tl ru st nd wl il cl fo n 0 ty kl kp rf sx cx pl pt fg ch fs ns wd nn co li)
    (h0 : (∃ i, i < a ∧ ¬ wd i = pt (r * 9 + 3 + i)) → post 0 (tl, ru, st, nd, wl, il, cl, fo, ty, kl, kp, rf, sx, cx, pl, pt, fg, ch, fs, ns, wd, nn, co, li)) :
    ∀ n i, i ≤ a → a - i < n → (∀ j, j < i → wd j = pt (r * 9 + 3 + j)) → wX_undoPrefix_33 post (nI r) (nI a) (nI z) tl ru st nd wl il cl fo ty kl kp rf sx cx pl pt fg ch fs ns wd nn co li n (nI i) := by
  intro n
  induction n with
  | zero => intro i _ h; omega
  | succ n ih =>
    intro i hi hn hb
    have ci := nI_clamp (n := i) (by omega)
    have e : nI r * 9 + 3 + nI i = nI (r * 9 + 3 + i) := by rw [sp_m9, sp_p3, nI_add]
    have ce := nI_clamp (n := r * 9 + 3 + i) (by omega)
    refine pk_le a i (fun g => h (fun j hj => hb j (by omega))) (fun g => ?_)
    rw [e, ce, ci]
    exact ⟨vp_in_nI (by omega) (by omega), vp_in_nI (by omega) (by omega), br_c (fun y => nm_r (nI_1 i) (ih (i + 1) (by omega) (by omega) (lt_s hb y))) (fun y => h0 ⟨i, g, y⟩)⟩
theorem sx_undoPrefix {post : Int32 → SX → Prop} {R r w : Nat} {L : Nat → Nat} (hR : sp_RU R L pl pt) (hr : r < R) (hw : w ≤ 12)
    (h1 : ∀ mm k, sp_PR pt (r * 9) (L (r * 3)) (L (r * 3 + 1)) (L (r * 3 + 2)) mm k wd w → post 1 (tl, ru, st, nd, nI w, nI k, cl, fo, ty, kl, kp, rf, sx, cx, pl, pt, fg, ch, fs, ns, wd, mm, co, li))
    (h0 : ∀ mm y, (∀ m k, ¬ sp_PR pt (r * 9) (L (r * 3)) (L (r * 3 + 1)) (L (r * 3 + 2)) m k wd w) → post 0 (tl, ru, st, nd, nI w, y, cl, fo, ty, kl, kp, rf, sx, cx, pl, pt, fg, ch, fs, ns, wd, mm, co, li)) :
    wpX_undoPrefix post (tl, ru, st, nd, nI w, il, cl, fo, ty, kl, kp, rf, sx, cx, pl, pt, fg, ch, fs, ns, wd, nn, co, li) (nI r) := by
  have hR10 := hR.1
  obtain ⟨hpz, hz⟩ := hR.2.1 (r * 3)
  obtain ⟨hpa, ha⟩ := hR.2.1 (r * 3 + 1)
  obtain ⟨hpq, hq⟩ := hR.2.1 (r * 3 + 2)
  generalize L (r * 3) = z at *
  generalize L (r * 3 + 1) = a at *
  generalize L (r * 3 + 2) = q at *
  have e1 : nI r * 3 + 1 = nI (r * 3 + 1) := by rw [sp_m3, nI_1]
  have ce1 := nI_clamp (n := r * 3 + 1) (by omega)
  have ce0 := nI_clamp (n := r * 3) (by omega)
  have go : vp_in (nI (r * 3 + 1)) 30 ∧ (∀ x2, x2 = pl (nI (r * 3 + 1)).toNatClampNeg → vp_in (nI (r * 3)) 30 ∧ ∀ x3, x3 = pl (nI (r * 3)).toNatClampNeg →
      (x2 ≤ nI w → ∃ n, wX_undoPrefix_33 post (nI r) x2 x3 tl ru st nd (nI w) il cl fo ty kl kp rf sx cx pl pt fg ch fs ns wd nn co li n 0) ∧ (¬ x2 ≤ nI w → post 0 (tl, ru, st, nd, nI w, il, cl, fo, ty, kl, kp, rf, sx, cx, pl, pt, fg, ch, fs, ns, wd, nn, co, li))) := by
    rw [ce1, ce0]
    refine ⟨vp_in_nI (by omega) (by omega), nm_r hpa ⟨vp_in_nI (by omega) (by omega), nm_r hpz ?_⟩⟩
    refine pk_le a w (fun haw => ⟨a + 1, ?_⟩) (fun haw => h0 nn il (fun m k hm => ?_))
    · refine sx_up33 (by omega) ha (fun g1 => ⟨z + 1, ?_⟩) (fun g1 => h0 nn il (fun m k hm => ?_)) (a + 1) 0 (by omega) (by omega) (fun j hj => absurd hj (Nat.not_lt_zero j))
      · refine sx_up74 (by omega) hz (fun mm g2 => ⟨w + 1, ?_⟩) (z + 1) 0 nn (by omega) (by omega) (fun j hj => absurd hj (Nat.not_lt_zero j))
        refine sx_up108 (q := q) (by omega) hz haw hw hq hpq (fun mm g3 g4 g5 g6 => h1 mm _ ⟨⟨by omega, by omega⟩, g3, g1, ?_, g5, g6⟩) (fun mm g3 g4 g5 => h0 mm _ (fun m k hm => ?_)) (w + 1) a mm (by omega) (by omega) (by omega) g2 (fun j hj => absurd hj (by omega))
        · intro i hi; exact g4 i (by omega)
        · obtain ⟨⟨k1, k2⟩, k3, k4, k5, k6, k7⟩ := hm
          have ek : k = z + (w - a) := by omega
          subst ek
          rcases g5 with g5 | ⟨i, hi, g6, g7⟩
          · omega
          · have em : m i = mm i := by
              by_cases hiz : i < z
              · rw [k3 i hiz, g3 i hiz]
              · have ei : i = z + (i - z) := by omega
                rw [ei, k5 (i - z) (by omega), g4 (i - z) (by omega)]
            rcases k7 i hi with k8 | k8
            · exact g6 k8
            · rw [em] at k8; exact g7 k8
      · obtain ⟨i, hi, g2⟩ := g1
        exact g2 (hm.2.2.1 i hi)
    · have := hm.1
      omega
  rw [← e1, ← sp_m3] at go
  exact go
end
end
section
/-! undoSuffix -/
section
variable {tl ru st nd wl il cl fo : Int32} {ty kl kp rf sx cx pl pt fg ch fs ns wd nn co li : Nat → Int32}
theorem sx_us180 {post : Int32 → SX → Prop} {r q k : Nat} (hr : r < 10) (hq : q ≤ k) (hq3 : q ≤ 3) (hk : k ≤ 18) (h1 : (∀ i, i < q → pt (r * 9 + 6 + i) = 9 ∨ pt (r * 9 + 6 + i) = co (k - q + i)) → post 1 (tl, ru, st, nd, wl, il, nI k, fo, ty, kl, kp, rf, sx, cx, pl, pt, fg, ch, fs, ns, wd, nn, co, li))
    (h0 : (∃ i, i < q ∧ ¬ pt (r * 9 + 6 + i) = 9 ∧ ¬ pt (r * 9 + 6 + i) = co (k - q + i)) → post 0 (tl, ru, st, nd, wl, il, nI k, fo, ty, kl, kp, rf, sx, cx, pl, pt, fg, ch, fs, ns, wd, nn, co, li)) :
    ∀ n i, i ≤ q → q - i < n → (∀ j, j < i → pt (r * 9 + 6 + j) = 9 ∨ pt (r * 9 + 6 + j) = co (k - q + j)) → wX_undoSuffix_180 post (nI r) (nI q) tl ru st nd wl il (nI k) fo ty kl kp rf sx cx pl pt fg ch fs ns wd nn co li n (nI i) := by
  intro n
  induction n with
  | zero => intro i _ h; omega
  | succ n ih =>
    intro i hi hn hb
    have e : nI r * 9 + 6 + nI i = nI (r * 9 + 6 + i) := by rw [sp_m9, sp_p6, nI_add]
    have ce := nI_clamp (n := r * 9 + 6 + i) (by omega)
    have e2 : nI k - nI q + nI i = nI (k - q + i) := by rw [pk_sub hq, nI_add]
    have ce2 := nI_clamp (n := k - q + i) (by omega)
    refine pk_le q i (fun h => h1 (fun j hj => hb j (by omega))) (fun h => ?_)
    rw [e, ce, e2, ce2]
    exact ⟨vp_in_nI (by omega) (by omega), nm_e (br_c (fun z => nm_r (nI_1 i) (ih (i + 1) (by omega) (by omega) (lt_s hb (Or.inl z))))
      (fun z => ⟨vp_in_nI (by omega) (by omega), br_c (fun y => nm_r (nI_1 i) (ih (i + 1) (by omega) (by omega) (lt_s hb (Or.inr y)))) (fun y => h0 ⟨i, h, z, y⟩)⟩))⟩
theorem sx_us112 {post : Int32 → SX → Prop} {r z t q : Nat} (hr : r < 10) (hz : z ≤ 3) (ht : t ≤ 15) (hq : q ≤ 3) (hpq : pl (r * 3 + 2) = nI q)
    (h1 : ∀ mm, (∀ i, i < t → mm i = nn i) → (∀ i, i < z → mm (t + i) = pt (r * 9 + i)) → q ≤ t + z → (∀ i, i < q → pt (r * 9 + 6 + i) = 9 ∨ pt (r * 9 + 6 + i) = mm (t + z - q + i)) → post 1 (tl, ru, st, nd, wl, il, nI (t + z), fo, ty, kl, kp, rf, sx, cx, pl, pt, fg, ch, fs, ns, wd, nn, mm, li))
    (h0 : ∀ mm, (∀ i, i < t → mm i = nn i) → (∀ i, i < z → mm (t + i) = pt (r * 9 + i)) → (t + z < q ∨ ∃ i, i < q ∧ ¬ pt (r * 9 + 6 + i) = 9 ∧ ¬ pt (r * 9 + 6 + i) = mm (t + z - q + i)) → post 0 (tl, ru, st, nd, wl, il, nI (t + z), fo, ty, kl, kp, rf, sx, cx, pl, pt, fg, ch, fs, ns, wd, nn, mm, li)) :
    ∀ n i (co : Nat → Int32), i ≤ z → z - i < n → (∀ j, j < t → co j = nn j) → (∀ j, j < i → co (t + j) = pt (r * 9 + j)) → wX_undoSuffix_112 post (nI r) (nI z) (nI t) tl ru st nd wl il cl fo n (nI i) ty kl kp rf sx cx pl pt fg ch fs ns wd nn co li := by
  intro n
  induction n with
  | zero => intro i _ _ h; omega
  | succ n ih =>
    intro i mm hi hn hb1 hb2
    have ci := nI_clamp (n := i) (by omega)
    have e : nI t + nI i = nI (t + i) := nI_add t i
    have ce := nI_clamp (n := t + i) (by omega)
    have e1 : nI r * 9 + nI i = nI (r * 9 + i) := by rw [sp_m9, nI_add]
    have ce1 := nI_clamp (n := r * 9 + i) (by omega)
    have e2 : nI r * 3 + 2 = nI (r * 3 + 2) := by rw [sp_m3, sp_p2]
    have ce2 := nI_clamp (n := r * 3 + 2) (by omega)
    refine pk_le z i (fun h => ?_) (fun h => ?_)
    · have hiw : i = z := by omega
      subst hiw
      refine nm_r (nI_add t i) ?_
      rw [e2, ce2]
      refine ⟨vp_in_nI (by omega) (by omega), nm_r hpq ?_⟩
      exact pk_le q (t + i) (fun hle => ⟨q + 1, sx_us180 hr hle hq (by omega) (fun g => h1 mm hb1 hb2 hle g) (fun g => h0 mm hb1 hb2 (Or.inr g)) (q + 1) 0 (by omega) (by omega) (fun j hj => absurd hj (Nat.not_lt_zero j))⟩)
        (fun hlt => h0 mm hb1 hb2 (Or.inl hlt))
    · rw [e1, ce1, e, ce]
      refine ⟨vp_in_nI (by omega) (by omega), vp_in_nI (by omega) (by omega), nm_e (nm_r (nI_1 i) (ih (i + 1) _ (by omega) (by omega) (fun j hj => ?_) (fun j hj => ?_)))⟩
      · rw [pk_un (by omega)]; exact hb1 j hj
      · by_cases hj2 : j = i
        · subst hj2; rw [pk_us]
        · rw [pk_un (by omega)]; exact hb2 j (by omega)
theorem sx_us82 {post : Int32 → SX → Prop} {r z t : Nat} (ht : t ≤ 15)
    (h : ∀ mm, (∀ i, i < t → mm i = nn i) → ∃ n, wX_undoSuffix_112 post (nI r) (nI z) (nI t) tl ru st nd wl il cl fo n 0 ty kl kp rf sx cx pl pt fg ch fs ns wd nn mm li) :
    ∀ n i (co : Nat → Int32), i ≤ t → t - i < n → (∀ j, j < i → co j = nn j) → wX_undoSuffix_82 post (nI r) (nI z) (nI t) tl ru st nd wl il cl fo n (nI i) ty kl kp rf sx cx pl pt fg ch fs ns wd nn co li := by
  intro n
  induction n with
  | zero => intro i _ _ h; omega
  | succ n ih =>
    intro i mm hi hn hb
    have ci := nI_clamp (n := i) (by omega)
    refine pk_le t i (fun g => h mm (fun j hj => hb j (by omega))) (fun g => ?_)
    rw [ci]
    refine ⟨vp_in_nI (by omega) (by omega), vp_in_nI (by omega) (by omega), nm_e (nm_r (nI_1 i) (ih (i + 1) _ (by omega) (by omega) (fun j hj => ?_)))⟩
    by_cases hj2 : j = i
    · subst hj2; rw [pk_us]
    · rw [pk_un hj2]; exact hb j (by omega)
theorem sx_us38 {post : Int32 → SX → Prop} {r z a t : Nat} (hr : r < 10) (ha : a ≤ 3) (ht : t + a ≤ 15)
    (h : (∀ i, i < a → nn (t + i) = pt (r * 9 + 3 + i)) → ∃ n, wX_undoSuffix_82 post (nI r) (nI z) (nI t) tl ru st nd wl il cl fo n 0 ty kl kp rf sx cx pl pt fg ch fs ns wd nn co li)
    (h0 : (∃ i, i < a ∧ ¬ nn (t + i) = pt (r * 9 + 3 + i)) → post 0 (tl, ru, st, nd, wl, il, cl, fo, ty, kl, kp, rf, sx, cx, pl, pt, fg, ch, fs, ns, wd, nn, co, li)) :
    ∀ n i, i ≤ a → a - i < n → (∀ j, j < i → nn (t + j) = pt (r * 9 + 3 + j)) → wX_undoSuffix_38 post (nI r) (nI a) (nI z) (nI t) tl ru st nd wl il cl fo ty kl kp rf sx cx pl pt fg ch fs ns wd nn co li n (nI i) := by
  intro n
  induction n with
  | zero => intro i _ h; omega
  | succ n ih =>
    intro i hi hn hb
    have e : nI r * 9 + 3 + nI i = nI (r * 9 + 3 + i) := by rw [sp_m9, sp_p3, nI_add]
    have ce := nI_clamp (n := r * 9 + 3 + i) (by omega)
    have e1 : nI t + nI i = nI (t + i) := nI_add t i
    have ce1 := nI_clamp (n := t + i) (by omega)
    refine pk_le a i (fun g => h (fun j hj => hb j (by omega))) (fun g => ?_)
    rw [e, ce, e1, ce1]
    exact ⟨vp_in_nI (by omega) (by omega), vp_in_nI (by omega) (by omega), br_c (fun y => nm_r (nI_1 i) (ih (i + 1) (by omega) (by omega) (lt_s hb y))) (fun y => h0 ⟨i, g, y⟩)⟩
theorem sx_undoSuffix {post : Int32 → SX → Prop} {R r w : Nat} {L : Nat → Nat} (hR : sp_RU R L pl pt) (hr : r < R) (hw : w ≤ 15)
    (h1 : ∀ mm k, sp_SR pt (r * 9) (L (r * 3)) (L (r * 3 + 1)) (L (r * 3 + 2)) mm k nn w → post 1 (tl, ru, st, nd, wl, nI w, nI k, fo, ty, kl, kp, rf, sx, cx, pl, pt, fg, ch, fs, ns, wd, nn, mm, li))
    (h0 : ∀ mm y, (∀ m k, ¬ sp_SR pt (r * 9) (L (r * 3)) (L (r * 3 + 1)) (L (r * 3 + 2)) m k nn w) → post 0 (tl, ru, st, nd, wl, nI w, y, fo, ty, kl, kp, rf, sx, cx, pl, pt, fg, ch, fs, ns, wd, nn, mm, li)) :
    wpX_undoSuffix post (tl, ru, st, nd, wl, nI w, cl, fo, ty, kl, kp, rf, sx, cx, pl, pt, fg, ch, fs, ns, wd, nn, co, li) (nI r) := by
  have hR10 := hR.1
  obtain ⟨hpz, hz⟩ := hR.2.1 (r * 3)
  obtain ⟨hpa, ha⟩ := hR.2.1 (r * 3 + 1)
  obtain ⟨hpq, hq⟩ := hR.2.1 (r * 3 + 2)
  generalize L (r * 3) = z at *
  generalize L (r * 3 + 1) = a at *
  generalize L (r * 3 + 2) = q at *
  have e1 : nI r * 3 + 1 = nI (r * 3 + 1) := by rw [sp_m3, nI_1]
  have ce1 := nI_clamp (n := r * 3 + 1) (by omega)
  have ce0 := nI_clamp (n := r * 3) (by omega)
  have go : vp_in (nI (r * 3 + 1)) 30 ∧ (∀ x2, x2 = pl (nI (r * 3 + 1)).toNatClampNeg → vp_in (nI (r * 3)) 30 ∧ ∀ x3, x3 = pl (nI (r * 3)).toNatClampNeg → ∀ x4, x4 = nI w - x2 →
      (0 ≤ x4 → ∃ n, wX_undoSuffix_38 post (nI r) x2 x3 x4 tl ru st nd wl (nI w) cl fo ty kl kp rf sx cx pl pt fg ch fs ns wd nn co li n 0) ∧ (¬ 0 ≤ x4 → post 0 (tl, ru, st, nd, wl, nI w, cl, fo, ty, kl, kp, rf, sx, cx, pl, pt, fg, ch, fs, ns, wd, nn, co, li))) := by
    rw [ce1, ce0]
    refine ⟨vp_in_nI (by omega) (by omega), nm_r hpa ⟨vp_in_nI (by omega) (by omega), nm_r hpz ?_⟩⟩
    by_cases haw : a ≤ w
    · refine nm_r (pk_sub haw) (br_t (nI_pos' (by omega)) ⟨a + 1, ?_⟩)
      refine sx_us38 (by omega) ha (by omega) (fun g1 => ⟨w - a + 1, ?_⟩) (fun g1 => h0 co cl (fun m k hm => ?_)) (a + 1) 0 (by omega) (by omega) (fun j hj => absurd hj (Nat.not_lt_zero j))
      · refine sx_us82 (by omega) (fun mm g2 => ⟨z + 1, ?_⟩) (w - a + 1) 0 co (by omega) (by omega) (fun j hj => absurd hj (Nat.not_lt_zero j))
        refine sx_us112 (q := q) (by omega) hz (by omega) hq hpq (fun mm g3 g4 g5 g6 => h1 mm _ ?_) (fun mm g3 g4 g5 => h0 mm _ (fun m k hm => ?_)) (z + 1) 0 mm (by omega) (by omega) g2 (fun j hj => absurd hj (Nat.not_lt_zero j))
        · have ek : w - a + z - z = w - a := by omega
          refine ⟨⟨by omega, by omega⟩, ?_, ?_, ?_, g5, g6⟩
          · rw [ek]; exact g4
          · rw [ek]; exact g1
          · rw [ek]; exact g3
        · obtain ⟨⟨k1, k2⟩, k3, k4, k5, k6, k7⟩ := hm
          have ek : k = w - a + z := by omega
          subst ek
          have ek : w - a + z - z = w - a := by omega
          rw [ek] at k3 k4 k5
          rcases g5 with g5 | ⟨i, hi, g6, g7⟩
          · omega
          · have em : ∀ j, j < w - a + z → m j = mm j := by
              intro j hj
              by_cases hiz : j < w - a
              · rw [k5 j hiz, g3 j hiz]
              · have ei : j = w - a + (j - (w - a)) := by omega
                rw [ei, k3 (j - (w - a)) (by omega), g4 (j - (w - a)) (by omega)]
            rcases k7 i hi with k8 | k8
            · exact g6 k8
            · rw [em _ (by omega)] at k8; exact g7 k8
      · obtain ⟨i, hi, g2⟩ := g1
        have hm1 := hm.1
        have hm3 := hm.2.2.1 i hi
        have ek : k - z = w - a := by omega
        rw [ek] at hm3
        exact g2 hm3
    · refine nm_e (br_f (fun hh => ?_) (h0 co cl (fun m k hm => ?_)))
      · have hs := pk_sneg (a := w) (b := a) (by omega) (by omega)
        exact absurd hs (Int32.not_lt.mpr hh)
      · have := hm.1
        omega
  rw [← e1, ← sp_m3] at go
  exact go
end
end
section
/-! the search's progress; findCore, allows, addFound, takeStems -/
theorem sp_cdec (c : Nat) : c = c / 11 / 11 * 121 + c / 11 % 11 * 11 + c % 11 := by omega
theorem sp_PP_skip {P : Nat → Prop} {Q U a b : Nat} (hab : a ≤ b) (hn : ∀ j, a ≤ j → j < b → ¬ P (j * 121 + U * 11 + Q)) (c : Nat) : sp_PP P Q U a c ↔ sp_PP P Q U b c := by
  constructor
  · intro ⟨h1, h2⟩
    exact ⟨h1, by omega⟩
  · intro ⟨h1, h2⟩
    refine ⟨h1, ?_⟩
    by_cases h3 : c % 11 = Q ∧ c / 11 % 11 = U ∧ a ≤ c / 11 / 11 ∧ c / 11 / 11 < b
    · obtain ⟨g1, g2, g3, g4⟩ := h3
      refine absurd ?_ (hn (c / 11 / 11) g3 g4)
      rw [← g1, ← g2, ← sp_cdec c]; exact h1
    · omega
theorem sp_PP_add {P : Nat → Prop} {Q U s : Nat} (hU : U < 11) (hQ : Q < 11) (hp : P (s * 121 + U * 11 + Q)) (c : Nat) : (sp_PP P Q U s c ∨ c = s * 121 + U * 11 + Q) ↔ sp_PP P Q U (s + 1) c := by
  constructor
  · intro h
    rcases h with ⟨h1, h2⟩ | h
    · exact ⟨h1, by omega⟩
    · subst h
      obtain ⟨g1, g2, g3⟩ := sp_cd (s := s) hU hQ
      refine ⟨hp, ?_⟩
      rw [g1, g2, g3]; omega
  · intro ⟨h1, h2⟩
    by_cases h3 : c = s * 121 + U * 11 + Q
    · exact Or.inr h3
    · exact Or.inl ⟨h1, by omega⟩
theorem sp_PP_next {P : Nat → Prop} {Q U a S : Nat} (hP : ∀ c, P c → c / 11 / 11 < S) (hn : ∀ j, a ≤ j → j < S → ¬ P (j * 121 + U * 11 + Q)) (c : Nat) : sp_PP P Q U a c ↔ sp_PP P Q (U + 1) 0 c := by
  constructor
  · intro ⟨h1, h2⟩
    exact ⟨h1, by omega⟩
  · intro ⟨h1, h2⟩
    refine ⟨h1, ?_⟩
    by_cases h3 : c % 11 = Q ∧ c / 11 % 11 = U ∧ a ≤ c / 11 / 11
    · obtain ⟨g1, g2, g3⟩ := h3
      refine absurd ?_ (hn (c / 11 / 11) g3 (hP c h1))
      rw [← g1, ← g2, ← sp_cdec c]; exact h1
    · omega
theorem sp_PP_Q {P : Nat → Prop} {Q U : Nat} (hn : ∀ j U', U ≤ U' → U' < 11 → ¬ P (j * 121 + U' * 11 + Q)) (c : Nat) : sp_PP P Q U 0 c ↔ sp_PP P (Q + 1) 0 0 c := by
  constructor
  · intro ⟨h1, h2⟩
    exact ⟨h1, by omega⟩
  · intro ⟨h1, h2⟩
    refine ⟨h1, ?_⟩
    by_cases h3 : c % 11 = Q ∧ U ≤ c / 11 % 11
    · obtain ⟨g1, g3⟩ := h3
      refine absurd ?_ (hn (c / 11 / 11) (c / 11 % 11) g3 (by omega))
      rw [← g1, ← sp_cdec c]; exact h1
    · omega
theorem sp_z {n : Nat} (h : n < 2 ^ 31) : nI n = 0 ↔ n = 0 := by
  have := nI_eq (a := n) (b := 0) h (by omega)
  rw [nI_0] at this; exact this
/-- what the search knows of rules, tree, stems and chains -/
def sp_DX (R S N : Nat) (L SL C e gl : Nat → Nat) (gp : Nat → Nat → Int32) (pl pt ch fs ns sl : Nat → Int32) : Prop :=
  sp_RU R L pl pt ∧ (S ≤ 12 ∧ N ≤ 1 + 12 * S) ∧ (∀ j, ch j = nI (C j)) ∧ sp_TR C N gp gl ∧ sp_ST C S SL sl e ∧ sp_CH e S N fs ns
section
variable {tl ru st nd wl il cl fo : Int32} {ty kl kp rf sx cx pl pt fg ch fs ns wd nn co li : Nat → Int32}
theorem sx_find4 {post : Int32 → Prop} {k N : Nat} {C gl : Nat → Nat} {gp : Nat → Nat → Int32} (hT : sp_TR C N gp gl) (hN : N ≤ 145) (hch : ∀ j, ch j = nI (C j)) (hk : k ≤ 18) (hl : ∀ i, i < k → sp_ltr (co i))
    (h1 : (∀ i, i < k → sp_w C co (i + 1) ≠ 0) → post (nI (sp_w C co k))) (h0 : (∃ i, i < k ∧ sp_w C co (i + 1) = 0) → post (-1)) :
    ∀ n i, i ≤ k → k - i < n → (∀ j, j < i → sp_w C co (j + 1) ≠ 0) → wX_findCore_4 post tl ru st nd wl il (nI k) fo ty kl kp rf sx cx pl pt fg ch fs ns wd nn co li n (nI (sp_w C co i)) (nI i) := by
  intro n
  induction n with
  | zero => intro i _ h; omega
  | succ n ih =>
    intro i hi hn hb
    have ci := nI_clamp (n := i) (by omega)
    refine pk_le k i (fun h => ?_) (fun h => ?_)
    · have hik : i = k := by omega
      subst hik; exact h1 hb
    · obtain ⟨l, hl8, el⟩ := hl i h
      have hv := sp_w_lt hT co i
      have hv1 := sp_w_lt hT co (i + 1)
      have e : nI (sp_w C co i) * 8 + co i - 1 = nI (sp_w C co i * 8 + l) := by
        rw [el, sp_m8, nI_add]; exact nI_pred (sp_w C co i * 8 + l)
      have es : sp_w C co (i + 1) = C (sp_w C co i * 8 + l) := by
        rw [sp_ws, el, nI_clamp (n := l + 1) (by omega), Nat.add_sub_cancel]
      have ce := nI_clamp (n := sp_w C co i * 8 + l) (by omega)
      rw [ci, e, ce]
      refine ⟨vp_in_nI (by omega) (by omega), vp_in_nI (by omega) (by omega), nm_r (e' := nI (sp_w C co (i + 1))) (by rw [hch, es]) (br_c (fun z => h0 ⟨i, h, ?_⟩) (fun z => nm_r (nI_1 i) (ih (i + 1) (by omega) (by omega) (lt_s hb ?_))))⟩
      · exact (sp_z (by omega)).mp z
      · exact fun y => z ((sp_z (by omega)).mpr y)
theorem sx_findCore {post : Int32 → Prop} {k N : Nat} {C gl : Nat → Nat} {gp : Nat → Nat → Int32} (hT : sp_TR C N gp gl) (hN : N ≤ 145) (hch : ∀ j, ch j = nI (C j)) (hk : k ≤ 18) (hl : ∀ i, i < k → sp_ltr (co i))
    (h1 : (∀ i, i < k → sp_w C co (i + 1) ≠ 0) → post (nI (sp_w C co k))) (h0 : (∃ i, i < k ∧ sp_w C co (i + 1) = 0) → post (-1)) : wpX_findCore post (tl, ru, st, nd, wl, il, nI k, fo, ty, kl, kp, rf, sx, cx, pl, pt, fg, ch, fs, ns, wd, nn, co, li) :=
  ⟨k + 1, sx_find4 hT hN hch hk hl h1 h0 (k + 1) 0 (by omega) (by omega) (fun j hj => absurd hj (Nat.not_lt_zero j))⟩
theorem sx_allows {post : Int32 → Prop} {s U : Nat} (hs : s < 12) (hU : U ≤ 10) (h1 : sp_al fg rf s U → post 1) (h0 : ¬ sp_al fg rf s U → post 0) : wpX_allows post (tl, ru, st, nd, wl, il, cl, fo, ty, kl, kp, rf, sx, cx, pl, pt, fg, ch, fs, ns, wd, nn, co, li) (nI s) (sp_m U) := by
  cases U with
  | zero => exact br_t (show (-1 : Int32) < 0 by decide) (h1 (Or.inl rfl))
  | succ u =>
    have cs := nI_clamp (n := s) (by omega)
    have cu := nI_clamp (n := u) (by omega)
    show wpX_allows post (tl, ru, st, nd, wl, il, cl, fo, ty, kl, kp, rf, sx, cx, pl, pt, fg, ch, fs, ns, wd, nn, co, li) (nI s) (nI u)
    refine br_f (nI_pos (by omega)) ?_
    rw [cs, cu]
    exact ⟨vp_in_nI (by omega) (by omega), vp_in_nI (by omega) (by omega), br_c (fun z => h1 (Or.inr z)) (fun z => h0 (fun y => y.elim (fun y1 => absurd y1 (Nat.succ_ne_zero u)) z))⟩
theorem sx_add52 {post : SX → Prop} {x a K : Nat} (ha : a < 440) (h : post (tl, ru, st, nd, wl, il, cl, nI (K + 1), ty, kl, kp, rf, sx, cx, pl, pt, fg, ch, fs, ns, wd, nn, co, upd li a (nI x))) : wX_addFound_52 post (nI x) (nI a) tl ru st nd wl il cl (nI K) ty kl kp rf sx cx pl pt fg ch fs ns wd nn co li := by
  have ca := nI_clamp (n := a) (by omega)
  exact And.intro (vp_in_nI ha (by omega)) (nm_r (e' := upd li a (nI x)) (by rw [ca]) (nm_r (nI_1 K) h))
theorem sx_add16 {post : SX → Prop} {P : Nat → Prop} {x K : Nat} {l0 : Nat → Int32} (hx : ¬ P x) (hx2 : x < 1452) (hb : ∀ c, P c → c < 1452) (hl : ∀ c, P c → l0 (sp_c P c) = nI c) (hK : K = sp_c P 1452) (hK2 : K < 440)
    (h : ∀ l2, sp_L (fun c => P c ∨ c = x) (nI (K + 1)) l2 → post (tl, ru, st, nd, wl, il, cl, nI (K + 1), ty, kl, kp, rf, sx, cx, pl, pt, fg, ch, fs, ns, wd, nn, co, l2)) :
    ∀ n a (li : Nat → Int32), a < n → a ≤ K → (∀ j, j < a → li j = l0 j) → (∀ j, a ≤ j → j < K → li (j + 1) = l0 j) → (∀ j, a ≤ j → j < K → ¬ l0 j ≤ nI x) → wX_addFound_16 post (nI x) tl ru st nd wl il cl (nI K) n (nI a) ty kl kp rf sx cx pl pt fg ch fs ns wd nn co li := by
  intro n
  induction n with
  | zero => intro a _ h; omega
  | succ n ih =>
    intro a ll hn ha h1 h2 h3
    have fin : (a = 0 ∨ l0 (a - 1) ≤ nI x) → wX_addFound_52 post (nI x) (nI a) tl ru st nd wl il cl (nI K) ty kl kp rf sx cx pl pt fg ch fs ns wd nn co ll := by
      intro g
      refine sx_add52 (by omega) (h _ ?_)
      subst hK
      exact sp_L_add hx hx2 hb hl ha h1 h2 h3 g
    refine pk_le a 0 (fun g => fin (Or.inl (by omega))) (fun g => ?_)
    obtain ⟨b, rfl⟩ : ∃ b, a = b + 1 := ⟨a - 1, by omega⟩
    have cb := nI_clamp (n := b) (by omega)
    have cb1 := nI_clamp (n := b + 1) (by omega)
    have eb : ll b = l0 b := h1 b (by omega)
    rw [nI_pred b, cb, cb1]
    refine ⟨vp_in_nI (by omega) (by omega), br_c (fun z => fin (Or.inr ?_)) (fun z => ⟨vp_in_nI (by omega) (by omega), vp_in_nI (by omega) (by omega), nm_e (nm_r (pk_m1 b) (ih b _ (by omega) (by omega) (fun j hj => ?_) (fun j hj1 hj2 => ?_) (fun j hj1 hj2 => ?_)))⟩)⟩
    · rw [eb] at z; exact z
    · rw [pk_un (by omega)]; exact h1 j (by omega)
    · by_cases hj : j = b
      · subst hj; rw [pk_us, eb]
      · rw [pk_un (by omega)]; exact h2 j (by omega) hj2
    · by_cases hj : j = b
      · subst hj; rw [eb] at z; exact z
      · exact h3 j (by omega) hj2
theorem sx_add {post : SX → Prop} {P : Nat → Prop} {x : Nat} (hx : ¬ P x) (hx2 : x < 1452) (hL : sp_L P fo li) (hK : sp_c P 1452 < 440)
    (h : ∀ f2 l2, sp_L (fun c => P c ∨ c = x) f2 l2 → post (tl, ru, st, nd, wl, il, cl, f2, ty, kl, kp, rf, sx, cx, pl, pt, fg, ch, fs, ns, wd, nn, co, l2)) : wpX_addFound post (tl, ru, st, nd, wl, il, cl, fo, ty, kl, kp, rf, sx, cx, pl, pt, fg, ch, fs, ns, wd, nn, co, li) (nI x) := by
  obtain ⟨hf, hb, hl⟩ := hL
  subst hf
  have hlt : nI (sp_c P 1452) < 440 := nI_lt (b := 440) hK (by omega)
  refine br_t hlt ⟨sp_c P 1452 + 1, ?_⟩
  exact sx_add16 hx hx2 hb hl rfl hK (fun l2 g => h _ l2 g) (sp_c P 1452 + 1) (sp_c P 1452) li (by omega) (Nat.le_refl _) (fun j _ => rfl) (fun j g1 g2 => by omega) (fun j g1 g2 => by omega)
theorem sx_ts56_0 {post : SX → Prop} {J : Int32 → Int32 → Int32 → Int32 → Int32 → Int32 → Int32 → Int32 → Int32 → Int32 → (Nat → Int32) → (Nat → Int32) → (Nat → Int32) → (Nat → Int32) → (Nat → Int32) → (Nat → Int32) → (Nat → Int32) → (Nat → Int32) → (Nat → Int32) → (Nat → Int32) → (Nat → Int32) → (Nat → Int32) → (Nat → Int32) → (Nat → Int32) → (Nat → Int32) → (Nat → Int32) → Prop} {x1 x2 : Int32} {s i : Nat} (hs : s < 12) (h : J (ns s) (nI (i + 1)) tl ru st nd wl il cl fo ty kl kp rf sx cx pl pt fg ch fs ns wd nn co li) : wX_takeStems_56 post J x1 x2 (nI s) (nI i) 0 tl ru st nd wl il cl fo ty kl kp rf sx cx pl pt fg ch fs ns wd nn co li := by
  have cs := nI_clamp (n := s) (by omega)
  exact br_t rfl ⟨vp_in_nI hs (by omega), nm_r (e' := ns s) (by rw [cs]) (nm_r (nI_1 i) h)⟩
theorem sx_ts56_1 {post : SX → Prop} {J : Int32 → Int32 → Int32 → Int32 → Int32 → Int32 → Int32 → Int32 → Int32 → Int32 → (Nat → Int32) → (Nat → Int32) → (Nat → Int32) → (Nat → Int32) → (Nat → Int32) → (Nat → Int32) → (Nat → Int32) → (Nat → Int32) → (Nat → Int32) → (Nat → Int32) → (Nat → Int32) → (Nat → Int32) → (Nat → Int32) → (Nat → Int32) → (Nat → Int32) → (Nat → Int32) → Prop} {P : Nat → Prop} {U Q s i : Nat} (hs : s < 12) (hx : ¬ P (s * 121 + U * 11 + Q)) (hx2 : s * 121 + U * 11 + Q < 1452) (hL : sp_L P fo li) (hK : sp_c P 1452 < 440)
    (h : ∀ f2 l2, sp_L (fun c => P c ∨ c = s * 121 + U * 11 + Q) f2 l2 → J (ns s) (nI (i + 1)) tl ru st nd wl il cl f2 ty kl kp rf sx cx pl pt fg ch fs ns wd nn co l2) : wX_takeStems_56 post J (sp_m U) (sp_m Q) (nI s) (nI i) 1 tl ru st nd wl il cl fo ty kl kp rf sx cx pl pt fg ch fs ns wd nn co li := by
  have cs := nI_clamp (n := s) (by omega)
  refine br_f (by decide) ?_
  rw [sp_code]
  exact sx_add hx hx2 hL hK (fun f2 l2 g => ⟨vp_in_nI hs (by omega), nm_r (e' := ns s) (by rw [cs]) (nm_r (nI_1 i) (h f2 l2 g))⟩)
theorem sx_ts21 {post : SX → Prop} {P : Nat → Prop} {R S N U Q v : Nat} {e : Nat → Nat} (hS : S ≤ 12) (hU : U ≤ 10) (hQ : Q ≤ 10) (hP1 : ∀ c, P c → sp_V sx R c) (hP2 : ∀ c, P c → c / 11 / 11 < S) (hCH : sp_CH e S N fs ns)
    (hiff : ∀ s, s < S → (P (s * 121 + U * 11 + Q) ↔ e s = v ∧ sp_al fg rf s U ∧ sp_al fg rf s Q))
    (h : ∀ f2 l2, sp_L (sp_PP P Q (U + 1) 0) f2 l2 → post (tl, ru, st, nd, wl, il, cl, f2, ty, kl, kp, rf, sx, cx, pl, pt, fg, ch, fs, ns, wd, nn, co, l2)) :
    ∀ n i a x4 (fo : Int32) (li : Nat → Int32), i ≤ 12 → i ≤ a → 12 - i < n → sp_N e S v a x4 → sp_L (sp_PP P Q U a) fo li → wX_takeStems_21 post (sp_m U) (sp_m Q) n x4 (nI i) tl ru st nd wl il cl fo ty kl kp rf sx cx pl pt fg ch fs ns wd nn co li := by
  intro n
  induction n with
  | zero => intro i _ _ _ _ _ _ h; omega
  | succ n ih =>
    intro i a x4 ff ll hi12 hia hn hN hL
    have done : (∀ j, a ≤ j → j < S → e j ≠ v) → post (tl, ru, st, nd, wl, il, cl, ff, ty, kl, kp, rf, sx, cx, pl, pt, fg, ch, fs, ns, wd, nn, co, ll) := by
      intro g
      refine h ff ll (sp_L_cg (sp_PP_next hP2 (fun j h1 h2 hp => g j h1 h2 ((hiff j h2).mp hp).1)) hL)
    refine pk_le 12 i (fun h12 => done (fun j h1 h2 => by omega)) (fun h12 => ?_)
    rcases hN with ⟨s, ⟨h1, h2⟩, h3, h4, rfl⟩ | ⟨h1, rfl⟩
    · refine br_f (nI_pos (by omega)) ?_
      have hL1 : sp_L (sp_PP P Q U s) ff ll := sp_L_cg (sp_PP_skip h1 (fun j g1 g2 hp => h4 j g1 g2 ((hiff j (by omega)).mp hp).1)) hL
      have hNs : sp_N e S v (s + 1) (ns s) := by
        have := hCH.2 s h2
        rw [h3] at this; exact this
      have noadd : ¬ P (s * 121 + U * 11 + Q) → wX_takeStems_56 post (wX_takeStems_21 post (sp_m U) (sp_m Q) n) (sp_m U) (sp_m Q) (nI s) (nI i) 0 tl ru st nd wl il cl ff ty kl kp rf sx cx pl pt fg ch fs ns wd nn co ll := by
        intro g
        refine sx_ts56_0 (by omega) (ih (i + 1) (s + 1) _ ff ll (by omega) (by omega) (by omega) hNs (sp_L_cg (sp_PP_skip (by omega) (fun j g1 g2 hp => ?_)) hL1))
        have ej : j = s := by omega
        subst ej; exact g hp
      have add : P (s * 121 + U * 11 + Q) → wX_takeStems_56 post (wX_takeStems_21 post (sp_m U) (sp_m Q) n) (sp_m U) (sp_m Q) (nI s) (nI i) 1 tl ru st nd wl il cl ff ty kl kp rf sx cx pl pt fg ch fs ns wd nn co ll := by
        intro g
        have hx : ¬ sp_PP P Q U s (s * 121 + U * 11 + Q) := by
          intro ⟨_, hz⟩
          obtain ⟨g1, g2, g3⟩ := sp_cd (s := s) (U := U) (Q := Q) (by omega) (by omega)
          rw [g1, g2, g3] at hz; omega
        refine sx_ts56_1 (by omega) hx (by omega) hL1 ?_ (fun f2 l2 g2 => ih (i + 1) (s + 1) _ f2 l2 (by omega) (by omega) (by omega) hNs (sp_L_cg (sp_PP_add (by omega) (by omega) g) g2))
        have k1 : sp_c (sp_PP P Q U s) 1452 ≤ sp_c (sp_V sx R) 1452 := sp_c_sub (fun c hc => hP1 c hc.1) 1452
        have k2 := sp_V_le sx R
        omega
      refine sx_allows (by omega) hU (fun g1 => ?_) (fun g1 => ?_)
      · refine br_f (by decide) (sx_allows (by omega) hQ (fun g2 => ?_) (fun g2 => ?_))
        · exact add ((hiff s h2).mpr ⟨h3, g1, g2⟩)
        · exact noadd (fun hp => g2 ((hiff s h2).mp hp).2.2)
      · exact br_t rfl (noadd (fun hp => g1 ((hiff s h2).mp hp).2.1))
    · exact br_t (by decide) (done h1)
theorem sx_take {post : SX → Prop} {P : Nat → Prop} {R S N U Q k : Nat} {L SL C e gl : Nat → Nat} {gp : Nat → Nat → Int32} {sl : Nat → Int32} (hD : sp_DX R S N L SL C e gl gp pl pt ch fs ns sl) (hU : U ≤ 10) (hQ : Q ≤ 10) (hP1 : ∀ c, P c → sp_V sx R c) (hP2 : ∀ c, P c → c / 11 / 11 < S) (hk : k ≤ 18) (hl : ∀ i, i < k → sp_ltr (co i))
    (hiff : ∀ s, s < S → (P (s * 121 + U * 11 + Q) ↔ (SL s = k ∧ ∀ i, i < SL s → sl (s * 12 + i) = co i) ∧ sp_al fg rf s U ∧ sp_al fg rf s Q))
    (hL : sp_L (sp_PP P Q U 0) fo li)
    (h : ∀ f2 l2, sp_L (sp_PP P Q (U + 1) 0) f2 l2 → post (tl, ru, st, nd, wl, il, nI k, f2, ty, kl, kp, rf, sx, cx, pl, pt, fg, ch, fs, ns, wd, nn, co, l2)) : wpX_takeStems post (tl, ru, st, nd, wl, il, nI k, fo, ty, kl, kp, rf, sx, cx, pl, pt, fg, ch, fs, ns, wd, nn, co, li) (sp_m U) (sp_m Q) := by
  obtain ⟨hR, ⟨hS, hN⟩, hch, hT, hST, hCH⟩ := hD
  refine sx_findCore hT (by omega) hch hk hl (fun g => ?_) (fun g => ?_)
  · have hv := sp_w_lt hT co k
    have cv := nI_clamp (n := sp_w C co k) (by omega)
    refine br_t (nI_pos' (by omega)) ?_
    rw [cv]
    refine ⟨vp_in_nI (by omega) (by omega), nm_e ⟨13, ?_⟩⟩
    refine sx_ts21 (v := sp_w C co k) hS hU hQ hP1 hP2 hCH (fun s hs => ?_) h 13 0 0 _ fo li (by omega) (by omega) (by omega) (hCH.1 _ hv) hL
    rw [sp_end hT hST hs hl g]; exact hiff s hs
  · exact br_f (by decide) (h fo li (sp_L_cg (sp_PP_next hP2 (fun j _ h2 hp => sp_noend hST h2 g ((hiff j h2).mp hp).1)) hL))
end
end
section
/-! searchSuffixes, search, searchTyped -/
section
variable {tl ru st nd wl il cl fo : Int32} {ty kl kp rf sx cx pl pt fg ch fs ns wd nn co li : Nat → Int32}
theorem sx_ss83 {post : SX → Prop} {J : Int32 → Int32 → Int32 → Int32 → Int32 → Int32 → Int32 → Int32 → Int32 → (Nat → Int32) → (Nat → Int32) → (Nat → Int32) → (Nat → Int32) → (Nat → Int32) → (Nat → Int32) → (Nat → Int32) → (Nat → Int32) → (Nat → Int32) → (Nat → Int32) → (Nat → Int32) → (Nat → Int32) → (Nat → Int32) → (Nat → Int32) → (Nat → Int32) → (Nat → Int32) → Prop}
    {P : Nat → Prop} {R S N Q r k : Nat} {L SL C e gl : Nat → Nat} {gp : Nat → Nat → Int32} {sl : Nat → Int32} (hD : sp_DX R S N L SL C e gl gp pl pt ch fs ns sl) (hQ : Q ≤ 10) (hr : r < R) (hP1 : ∀ c, P c → sp_V sx R c) (hP2 : ∀ c, P c → c / 11 / 11 < S) (hk : k ≤ 15) (hl : ∀ i, i < k → sp_ltr (nn i))
    (hinn : ∀ s, s < S → (P (s * 121 + (r + 1) * 11 + Q) ↔ sp_SU L pt (r + 1) (fun i => sl (s * 12 + i)) (SL s) nn k ∧ sp_al fg rf s (r + 1) ∧ sp_al fg rf s Q))
    (hL : sp_L (sp_PP P Q (r + 1) 0) fo li)
    (h : ∀ y f2 mm l2, sp_L (sp_PP P Q (r + 2) 0) f2 l2 → J (nI (r + 1)) tl ru st nd wl (nI k) y f2 ty kl kp rf sx cx pl pt fg ch fs ns wd nn mm l2) : wX_searchSuffixes_83 post J (sp_m Q) (nI r) tl ru st nd wl (nI k) cl fo ty kl kp rf sx cx pl pt fg ch fs ns wd nn co li := by
  have hR := hD.1
  have hR10 := hR.1
  refine sx_undoSuffix hR hr hk (fun mm kc hs => ?_) (fun mm y hs => ?_)
  · have hs' : sp_SU L pt (r + 1) mm kc nn k := hs
    have hlen := sp_SU_len hR hs'
    refine br_f (by decide) (sx_take (U := r + 1) hD (by omega) hQ hP1 hP2 (by omega) (sp_SU_lb hR (Or.inr (by omega)) hs' hl) (fun s hsS => ?_) hL (fun f2 l2 g => nm_r (nI_1 r) (h _ f2 mm l2 g)))
    rw [hinn s hsS]
    constructor
    · intro ⟨g1, g2⟩
      obtain ⟨g3, g4⟩ := sp_SU_inj g1 hs'
      exact ⟨⟨g3, g4⟩, g2⟩
    · intro ⟨⟨g1, g2⟩, g3⟩
      refine ⟨?_, g3⟩
      rw [g1]
      exact sp_SU_cg hs' (fun i hi => (g2 i (by omega)).symm) (fun _ _ => rfl)
  · refine br_t rfl (nm_r (nI_1 r) (h _ fo mm li (sp_L_cg (sp_PP_next hP2 (fun j _ h2 hp => ?_)) hL)))
    have hs2 : sp_SU L pt (r + 1) (fun i => sl (j * 12 + i)) (SL j) nn k := ((hinn j h2).mp hp).1
    exact hs (fun i => sl (j * 12 + i)) (SL j) hs2
theorem sx_ss44 {post : SX → Prop} {P : Nat → Prop} {R S N Q k : Nat} {L SL C e gl : Nat → Nat} {gp : Nat → Nat → Int32} {sl : Nat → Int32} (hD : sp_DX R S N L SL C e gl gp pl pt ch fs ns sl) (hQ : Q = 0 ∨ Q - 1 < R) (hP1 : ∀ c, P c → sp_V sx R c) (hP2 : ∀ c, P c → c / 11 / 11 < S) (hk : k ≤ 15) (hl : ∀ i, i < k → sp_ltr (nn i))
    (hinn : ∀ s U, s < S → U < 11 → (P (s * 121 + U * 11 + Q) ↔ (sp_VA sx R U ∧ sp_al fg rf s U) ∧ sp_al fg rf s Q ∧ sp_cr cx U Q ∧ sp_SU L pt U (fun i => sl (s * 12 + i)) (SL s) nn k))
    (h : ∀ y f2 mm l2, sp_L (sp_PP P (Q + 1) 0 0) f2 l2 → post (tl, nI R, st, nd, wl, nI k, y, f2, ty, kl, kp, rf, sx, cx, pl, pt, fg, ch, fs, ns, wd, nn, mm, l2)) :
    ∀ n r (cl fo : Int32) (co li : Nat → Int32), r ≤ R → R - r < n → sp_L (sp_PP P Q (r + 1) 0) fo li → wX_searchSuffixes_44 post (sp_m Q) n (nI r) tl (nI R) st nd wl (nI k) cl fo ty kl kp rf sx cx pl pt fg ch fs ns wd nn co li := by
  have hR10 := hD.1.1
  have hPS : ∀ s U, U < 11 → P (s * 121 + U * 11 + Q) → s < S := by
    intro s U hU hp
    have h1 := hP2 _ hp
    obtain ⟨g1, g2, g3⟩ := sp_cd (s := s) (U := U) (Q := Q) hU (by omega)
    rw [g1] at h1; exact h1
  intro n
  induction n with
  | zero => intro r _ _ _ _ _ h; omega
  | succ n ih =>
    intro r cc ff mm ll hr hn hL
    have skip : (∀ s, s < S → ¬ P (s * 121 + (r + 1) * 11 + Q)) → r < R → wX_searchSuffixes_44 post (sp_m Q) n (nI (r + 1)) tl (nI R) st nd wl (nI k) cc ff ty kl kp rf sx cx pl pt fg ch fs ns wd nn mm ll := by
      intro g hrR
      exact ih (r + 1) cc ff mm ll (by omega) (by omega) (sp_L_cg (sp_PP_next hP2 (fun j _ h2 => g j h2)) hL)
    have cr := nI_clamp (n := r) (by omega)
    refine pk_le R r (fun g => h cc ff mm ll (sp_L_cg (sp_PP_Q (fun j U' h1 h2 hp => ?_)) hL)) (fun g => ?_)
    · have hva := ((hinn j U' (hPS j U' h2 hp) h2).mp hp).1.1
      rcases hva with z | ⟨z, _⟩
      · omega
      · omega
    · have take : ¬ sx r = 0 → sp_cr cx (r + 1) Q → wX_searchSuffixes_83 post (wX_searchSuffixes_44 post (sp_m Q) n) (sp_m Q) (nI r) tl (nI R) st nd wl (nI k) cc ff ty kl kp rf sx cx pl pt fg ch fs ns wd nn mm ll := by
        intro g1 g2
        refine sx_ss83 hD (by omega) g hP1 hP2 hk hl (fun s hs => ?_) hL (fun y f2 m2 l2 g3 => ih (r + 1) y f2 m2 l2 (by omega) (by omega) g3)
        rw [hinn s (r + 1) hs (by omega)]
        constructor
        · intro ⟨⟨_, k2⟩, k3, _, k5⟩; exact ⟨k5, k2, k3⟩
        · intro ⟨k5, k2, k3⟩; exact ⟨⟨Or.inr ⟨g, g1⟩, k2⟩, k3, g2, k5⟩
      rw [cr]
      refine ⟨vp_in_nI (by omega) (by omega), br_c (fun z => nm_r (nI_1 r) (skip (fun s hs hp => ?_) g)) (fun z => ?_)⟩
      · rcases ((hinn s (r + 1) hs (by omega)).mp hp).1.1 with y | ⟨_, y⟩
        · omega
        · exact y z
      · cases Q with
        | zero => exact br_t (show (-1 : Int32) < 0 by decide) (take z (Or.inr (Or.inl rfl)))
        | succ q =>
          have cq := nI_clamp (n := q) (by omega)
          refine br_f (show ¬ nI q < 0 from nI_pos (by omega)) ⟨vp_in_nI (by omega) (by omega), br_c (fun y => nm_r (nI_1 r) (skip (fun s hs hp => ?_) g)) (fun y => ?_)⟩
          · rcases ((hinn s (r + 1) hs (by omega)).mp hp).2.2.1 with x | x | x
            · omega
            · omega
            · exact x.1 y
          · show vp_in (nI q) 10 ∧ _
            have hq : cx (sp_m (q + 1)).toNatClampNeg = cx q := by show cx (nI q).toNatClampNeg = cx q; rw [cq]
            rw [hq]
            refine ⟨vp_in_nI (by omega) (by omega), br_c (fun x => nm_r (nI_1 r) (skip (fun s hs hp => ?_) g)) (fun x => take z (Or.inr (Or.inr ⟨y, x⟩)))⟩
            rcases ((hinn s (r + 1) hs (by omega)).mp hp).2.2.1 with v | v | v
            · omega
            · omega
            · exact v.2 x
theorem sx_ss2 {post : SX → Prop} {P : Nat → Prop} {R S N Q k : Nat} {L SL C e gl : Nat → Nat} {gp : Nat → Nat → Int32} {sl : Nat → Int32} (hD : sp_DX R S N L SL C e gl gp pl pt ch fs ns sl) (hQ : Q = 0 ∨ Q - 1 < R) (hP1 : ∀ c, P c → sp_V sx R c) (hP2 : ∀ c, P c → c / 11 / 11 < S) (hk : k ≤ 15) (hl : ∀ i, i < k → sp_ltr (nn i))
    (hinn : ∀ s U, s < S → U < 11 → (P (s * 121 + U * 11 + Q) ↔ (sp_VA sx R U ∧ sp_al fg rf s U) ∧ sp_al fg rf s Q ∧ sp_cr cx U Q ∧ sp_SU L pt U (fun i => sl (s * 12 + i)) (SL s) nn k))
    (hL : sp_L (sp_PP P Q 0 0) fo li)
    (h : ∀ y f2 mm l2, sp_L (sp_PP P (Q + 1) 0 0) f2 l2 → post (tl, nI R, st, nd, wl, nI k, y, f2, ty, kl, kp, rf, sx, cx, pl, pt, fg, ch, fs, ns, wd, nn, mm, l2)) :
    ∀ n i (co : Nat → Int32), i ≤ k → k - i < n → (∀ j, j < i → co j = nn j) → wX_searchSuffixes_2 post (sp_m Q) tl (nI R) st nd wl (nI k) cl fo n (nI i) ty kl kp rf sx cx pl pt fg ch fs ns wd nn co li := by
  have hR10 := hD.1.1
  intro n
  induction n with
  | zero => intro i _ _ h; omega
  | succ n ih =>
    intro i mm hi hn hb
    have ci := nI_clamp (n := i) (by omega)
    refine pk_le k i (fun g => ?_) (fun g => ?_)
    · have hik : i = k := by omega
      subst hik
      refine sx_take (U := 0) hD (by omega) (by omega) hP1 hP2 (by omega) (fun j hj => by rw [hb j hj]; exact hl j hj) (fun s hs => ?_) hL (fun f2 l2 g2 => ⟨R + 1, sx_ss44 hD hQ hP1 hP2 hk hl hinn h (R + 1) 0 _ f2 mm l2 (by omega) (by omega) g2⟩)
      have hinn0 := hinn s 0 hs (by omega)
      rw [hinn0]
      constructor
      · intro ⟨⟨_, k2⟩, k3, _, k5, k6⟩
        exact ⟨⟨k5, fun j hj => by rw [hb j (by omega)]; exact k6 j hj⟩, k2, k3⟩
      · intro ⟨⟨k5, k6⟩, k2, k3⟩
        exact ⟨⟨Or.inl rfl, k2⟩, k3, Or.inl rfl, k5, fun j hj => by rw [← hb j (by omega)]; exact k6 j hj⟩
    · rw [ci]
      refine ⟨vp_in_nI (by omega) (by omega), vp_in_nI (by omega) (by omega), nm_e (nm_r (nI_1 i) (ih (i + 1) _ (by omega) (by omega) (fun j hj => ?_)))⟩
      by_cases hj2 : j = i
      · subst hj2; rw [pk_us]
      · rw [pk_un hj2]; exact hb j (by omega)
theorem sx_searchSuffixes {post : SX → Prop} {P : Nat → Prop} {R S N Q k : Nat} {L SL C e gl : Nat → Nat} {gp : Nat → Nat → Int32} {sl : Nat → Int32} (hD : sp_DX R S N L SL C e gl gp pl pt ch fs ns sl) (hQ : Q = 0 ∨ Q - 1 < R) (hP1 : ∀ c, P c → sp_V sx R c) (hP2 : ∀ c, P c → c / 11 / 11 < S) (hk : k ≤ 15) (hl : ∀ i, i < k → sp_ltr (nn i))
    (hinn : ∀ s U, s < S → U < 11 → (P (s * 121 + U * 11 + Q) ↔ (sp_VA sx R U ∧ sp_al fg rf s U) ∧ sp_al fg rf s Q ∧ sp_cr cx U Q ∧ sp_SU L pt U (fun i => sl (s * 12 + i)) (SL s) nn k))
    (hL : sp_L (sp_PP P Q 0 0) fo li)
    (h : ∀ y f2 mm l2, sp_L (sp_PP P (Q + 1) 0 0) f2 l2 → post (tl, nI R, st, nd, wl, nI k, y, f2, ty, kl, kp, rf, sx, cx, pl, pt, fg, ch, fs, ns, wd, nn, mm, l2)) :
    wpX_searchSuffixes post (tl, nI R, st, nd, wl, nI k, cl, fo, ty, kl, kp, rf, sx, cx, pl, pt, fg, ch, fs, ns, wd, nn, co, li) (sp_m Q) :=
  ⟨k + 1, sx_ss2 hD hQ hP1 hP2 hk hl hinn hL h (k + 1) 0 co (by omega) (by omega) (fun j hj => absurd hj (Nat.not_lt_zero j))⟩
end
/-- the word's derivations by the word with the first rule undone -/
theorem sp_inn {R S Q k n : Nat} {L SL : Nat → Nat} {rf sx cx pt fg sl wd nn : Nat → Int32} (hQ : Q < 11) (hVB : sp_VB sx R Q) (hn : n ≠ 0) (hPU : sp_PU L pt Q nn k wd n) :
    ∀ s U, s < S → U < 11 → (sp_P R S L SL rf sx cx pt fg sl wd n (s * 121 + U * 11 + Q) ↔ (sp_VA sx R U ∧ sp_al fg rf s U) ∧ sp_al fg rf s Q ∧ sp_cr cx U Q ∧ sp_SU L pt U (fun i => sl (s * 12 + i)) (SL s) nn k) := by
  intro s U hs hU
  rw [sp_P_cd hU hQ]
  constructor
  · intro ⟨_, h2, h3, h4, _, m, k', h6, h7⟩
    obtain ⟨g1, g2⟩ := sp_PU_inj h7 hPU
    subst g1
    exact ⟨h2, h3.2, h4, sp_SU_cg h6 (fun _ _ => rfl) g2⟩
  · intro ⟨h2, h3, h4, h5⟩
    exact ⟨hs, h2, ⟨hVB, h3⟩, h4, hn, nn, k, h5, hPU⟩
section
variable {tl ru st nd wl il cl fo : Int32} {ty kl kp rf sx cx pl pt fg ch fs ns wd nn co li : Nat → Int32}
theorem sx_se56 {post : SX → Prop} {R S N w : Nat} {L SL C e gl : Nat → Nat} {gp : Nat → Nat → Int32} {sl : Nat → Int32} (hD : sp_DX R S N L SL C e gl gp pl pt ch fs ns sl) (hw : w ≤ 12) (hw0 : w ≠ 0) (hl : ∀ i, i < w → sp_ltr (wd i))
    (h : ∀ x y f2 ii mm l2, sp_L (sp_P R S L SL rf sx cx pt fg sl wd w) f2 l2 → post (tl, nI R, st, nd, nI w, x, y, f2, ty, kl, kp, rf, sx, cx, pl, pt, fg, ch, fs, ns, wd, ii, mm, l2)) :
    ∀ n r (il cl fo : Int32) (nn co li : Nat → Int32), r ≤ R → R - r < n → sp_L (sp_PP (sp_P R S L SL rf sx cx pt fg sl wd w) (r + 1) 0 0) fo li → wX_search_56 post n (nI r) tl (nI R) st nd (nI w) il cl fo ty kl kp rf sx cx pl pt fg ch fs ns wd nn co li := by
  have hR := hD.1
  have hR10 := hR.1
  have hS := hD.2.1.1
  have hP1 : ∀ c, sp_P R S L SL rf sx cx pt fg sl wd w c → sp_V sx R c := fun c hc => sp_P_V hS hc
  have hP2 : ∀ c, sp_P R S L SL rf sx cx pt fg sl wd w c → c / 11 / 11 < S := fun c hc => hc.1
  intro n
  induction n with
  | zero => intro r _ _ _ _ _ _ _ h; omega
  | succ n ih =>
    intro r ii cc ff nn mm ll hr hn hL
    have cr := nI_clamp (n := r) (by omega)
    have skip : (∀ s U, U < 11 → ¬ sp_P R S L SL rf sx cx pt fg sl wd w (s * 121 + U * 11 + (r + 1))) → r < R → ∀ x y n2 m2, wX_search_56 post n (nI (r + 1)) tl (nI R) st nd (nI w) x y ff ty kl kp rf sx cx pl pt fg ch fs ns wd n2 m2 ll := by
      intro g hrR x y n2 m2
      exact ih (r + 1) x y ff n2 m2 ll (by omega) (by omega) (sp_L_cg (sp_PP_Q (fun j U' _ h2 => g j U' h2)) hL)
    refine pk_le R r (fun g => h _ _ _ _ _ _ (sp_L_cg (fun c => ?_) hL)) (fun g => ?_)
    · constructor
      · exact fun z => z.1
      · intro z
        refine ⟨z, ?_⟩
        rcases z.2.2.1.1 with y | ⟨y, _⟩
        · omega
        · omega
    · rw [cr]
      refine ⟨vp_in_nI (by omega) (by omega), br_c (fun z => ?_) (fun z => nm_r (nI_1 r) (skip (fun s U hU hp => ?_) g _ _ _ _))⟩
      · refine sx_undoPrefix hR g hw (fun n2 k hp => ?_) (fun n2 y hp => ?_)
        · have hp' : sp_PU L pt (r + 1) n2 k wd w := hp
          have hlen := sp_PU_len hR hp'
          refine br_f (by decide) (sx_searchSuffixes (Q := r + 1) hD (Or.inr (by omega)) hP1 hP2 (by omega) (sp_PU_lb hR (Or.inr (by omega)) hp' hl) (sp_inn (by omega) (Or.inr ⟨g, z⟩) hw0 hp') hL (fun y f2 m2 l2 g2 => nm_r (nI_1 r) (ih (r + 1) _ y f2 n2 m2 l2 (by omega) (by omega) g2)))
        · refine br_t rfl (nm_r (nI_1 r) (skip (fun s U hU hq => ?_) g _ _ _ _))
          rw [sp_P_cd hU (by omega)] at hq
          obtain ⟨_, _, _, _, _, m, k, _, h7⟩ := hq
          exact hp m k h7
      · rw [sp_P_cd hU (by omega)] at hp
        rcases hp.2.2.1.1 with y | ⟨_, y⟩
        · omega
        · exact z y
theorem sx_se15 {post : SX → Prop} {R S N w : Nat} {L SL C e gl : Nat → Nat} {gp : Nat → Nat → Int32} {sl : Nat → Int32} (hD : sp_DX R S N L SL C e gl gp pl pt ch fs ns sl) (hw : w ≤ 12) (hw0 : w ≠ 0) (hl : ∀ i, i < w → sp_ltr (wd i))
    (h : ∀ x y f2 ii mm l2, sp_L (sp_P R S L SL rf sx cx pt fg sl wd w) f2 l2 → post (tl, nI R, st, nd, nI w, x, y, f2, ty, kl, kp, rf, sx, cx, pl, pt, fg, ch, fs, ns, wd, ii, mm, l2)) :
    ∀ n i (nn : Nat → Int32), i ≤ w → w - i < n → (∀ j, j < i → nn j = wd j) → wX_search_15 post tl (nI R) st nd (nI w) il cl 0 n (nI i) ty kl kp rf sx cx pl pt fg ch fs ns wd nn co li := by
  have hR10 := hD.1.1
  have hS := hD.2.1.1
  intro n
  induction n with
  | zero => intro i _ _ h; omega
  | succ n ih =>
    intro i mm hi hn hb
    have ci := nI_clamp (n := i) (by omega)
    refine pk_le w i (fun g => ?_) (fun g => ?_)
    · have hik : i = w := by omega
      subst hik
      have hPU : sp_PU L pt 0 mm i wd i := ⟨rfl, hb⟩
      refine sx_searchSuffixes (P := sp_P R S L SL rf sx cx pt fg sl wd i) (Q := 0) hD (Or.inl rfl) (fun c hc => sp_P_V hS hc) (fun c hc => hc.1) (by omega) (fun j hj => by rw [hb j hj]; exact hl j hj) (sp_inn (by omega) (Or.inl rfl) hw0 hPU) (sp_L_0 (fun c hc => ?_)) (fun y f2 m2 l2 g2 => ⟨R + 1, sx_se56 hD hw hw0 hl h (R + 1) 0 _ y f2 mm m2 l2 (by omega) (by omega) g2⟩)
      have := hc.2
      omega
    · rw [ci]
      refine ⟨vp_in_nI (by omega) (by omega), vp_in_nI (by omega) (by omega), nm_e (nm_r (nI_1 i) (ih (i + 1) _ (by omega) (by omega) (fun j hj => ?_)))⟩
      by_cases hj2 : j = i
      · subst hj2; rw [pk_us]
      · rw [pk_un hj2]; exact hb j (by omega)
theorem sx_search {post : SX → Prop} {R S N w : Nat} {L SL C e gl : Nat → Nat} {gp : Nat → Nat → Int32} {sl : Nat → Int32} (hD : sp_DX R S N L SL C e gl gp pl pt ch fs ns sl) (hw : w ≤ 12) (hl : ∀ i, i < w → sp_ltr (wd i))
    (h : ∀ x y f2 ii mm l2, sp_L (sp_P R S L SL rf sx cx pt fg sl wd w) f2 l2 → post (tl, nI R, st, nd, nI w, x, y, f2, ty, kl, kp, rf, sx, cx, pl, pt, fg, ch, fs, ns, wd, ii, mm, l2)) : wpX_search post (tl, nI R, st, nd, nI w, il, cl, fo, ty, kl, kp, rf, sx, cx, pl, pt, fg, ch, fs, ns, wd, nn, co, li) := by
  by_cases hw0 : w = 0
  · subst hw0
    exact br_t nI_0 (h il cl 0 nn co li (sp_L_0 (fun c hc => hc.2.2.2.2.1 rfl)))
  · exact br_f (fun z => hw0 ((sp_z (by omega)).mp z)) ⟨w + 1, sx_se15 hD hw hw0 hl h (w + 1) 0 nn (by omega) (by omega) (fun j hj => absurd hj (Nat.not_lt_zero j))⟩
theorem sx_st23 {post : SX → Prop} {R S N w : Nat} {L SL C e gl : Nat → Nat} {gp : Nat → Nat → Int32} {sl : Nat → Int32} (hD : sp_DX R S N L SL C e gl gp pl pt ch fs ns sl) (hw : w ≤ 12) (hl : ∀ i, i < w → sp_ltr (ty i))
    (h : ∀ x y f2 ww ii mm l2, sp_L (sp_P R S L SL rf sx cx pt fg sl ty w) f2 l2 → post (tl, nI R, st, nd, nI w, x, y, f2, ty, kl, kp, rf, sx, cx, pl, pt, fg, ch, fs, ns, ww, ii, mm, l2)) :
    ∀ n i (wd : Nat → Int32), i ≤ w → w - i < n → (∀ j, j < i → wd j = ty j) → wX_searchTyped_23 post tl (nI R) st nd (nI w) il cl fo n (nI i) ty kl kp rf sx cx pl pt fg ch fs ns wd nn co li := by
  intro n
  induction n with
  | zero => intro i _ _ h; omega
  | succ n ih =>
    intro i ww hi hn hb
    have ci := nI_clamp (n := i) (by omega)
    refine pk_le w i (fun g => ?_) (fun g => ?_)
    · have hik : i = w := by omega
      subst hik
      refine sx_search hD hw (fun j hj => by rw [hb j hj]; exact hl j hj) (fun x y f2 ii mm l2 g2 => h x y f2 ww ii mm l2 ?_)
      rw [sp_P_eq hb] at g2; exact g2
    · rw [ci]
      refine ⟨vp_in_nI (by omega) (by omega), vp_in_nI (by omega) (by omega), nm_e (nm_r (nI_1 i) (ih (i + 1) _ (by omega) (by omega) (fun j hj => ?_)))⟩
      by_cases hj2 : j = i
      · subst hj2; rw [pk_us]
      · rw [pk_un hj2]; exact hb j (by omega)
theorem sx_searchTyped {post : SX → Prop} {R S N T : Nat} {L SL C e gl : Nat → Nat} {gp : Nat → Nat → Int32} {sl : Nat → Int32} (hD : sp_DX R S N L SL C e gl gp pl pt ch fs ns sl) (hT : T ≤ 12) (hl : ∀ i, i < T → sp_ltr (ty i) ∨ ty i = 9)
    (h : ∀ a x y f2 ww ii mm l2, sp_L (sp_P R S L SL rf sx cx pt fg sl ty T) f2 l2 → post (nI T, nI R, st, nd, a, x, y, f2, ty, kl, kp, rf, sx, cx, pl, pt, fg, ch, fs, ns, ww, ii, mm, l2)) : wpX_searchTyped post (nI T, nI R, st, nd, wl, il, cl, fo, ty, kl, kp, rf, sx, cx, pl, pt, fg, ch, fs, ns, wd, nn, co, li) := by
  refine sx_any hT (fun g => ?_) (fun g => ?_)
  · refine br_f (by decide) ⟨1, sx_st23 (w := 0) hD (by omega) (fun i hi => absurd hi (Nat.not_lt_zero i)) (fun x y f2 ww ii mm l2 g2 => h _ x y f2 ww ii mm l2 (sp_L_cg (fun c => ?_) g2)) 1 0 wd (by omega) (by omega) (fun j hj => absurd hj (Nat.not_lt_zero j))⟩
    constructor
    · exact fun z => absurd rfl z.2.2.2.2.1
    · exact fun z => absurd z (sp_P_9 hD.1 (fun s hs => (hD.2.2.2.2.1 s hs).2.1) g c)
  · refine br_t rfl ⟨T + 1, sx_st23 hD hT (fun i hi => (hl i hi).elim id (fun z => absurd z (g i hi))) (fun x y f2 ww ii mm l2 g2 => h _ x y f2 ww ii mm l2 g2) (T + 1) 0 wd (by omega) (by omega) (fun j hj => absurd hj (Nat.not_lt_zero j))⟩
end
end
section
/-! the reference: stands, apply -/
section
variable {sz ru st ws zS zP : Int32} {bu kp kl rf sx cx pt pl fg zl sl yw yo : Nat → Int32}
theorem sy_st43 {post : Int32 → Prop} {r p q f : Nat} (hr : r < 10) (hp : p ≤ 2) (hq : q ≤ 3) (hf : f + q ≤ 24) (h1 : (∀ i, i < q → pt (r * 9 + p * 3 + i) = 9 ∨ pt (r * 9 + p * 3 + i) = yw (f + i)) → post 1)
    (h0 : (∃ i, i < q ∧ ¬ pt (r * 9 + p * 3 + i) = 9 ∧ ¬ pt (r * 9 + p * 3 + i) = yw (f + i)) → post 0) :
    ∀ n i, i ≤ q → q - i < n → (∀ j, j < i → pt (r * 9 + p * 3 + j) = 9 ∨ pt (r * 9 + p * 3 + j) = yw (f + j)) → wY_stands_43 post (nI r) (nI p) (nI q) (nI f) sz ru st ws zS zP bu kp kl rf sx cx pt pl fg zl sl yw yo n (nI i) := by
  intro n
  induction n with
  | zero => intro i _ h; omega
  | succ n ih =>
    intro i hi hn hb
    have e : nI r * 9 + nI p * 3 + nI i = nI (r * 9 + p * 3 + i) := by rw [sp_m9, sp_m3, nI_add, nI_add]
    have ce := nI_clamp (n := r * 9 + p * 3 + i) (by omega)
    have e2 : nI f + nI i = nI (f + i) := nI_add f i
    have ce2 := nI_clamp (n := f + i) (by omega)
    refine pk_le q i (fun h => h1 (fun j hj => hb j (by omega))) (fun h => ?_)
    rw [e, ce, e2, ce2]
    exact ⟨vp_in_nI (by omega) (by omega), nm_e (br_c (fun z => nm_r (nI_1 i) (ih (i + 1) (by omega) (by omega) (lt_s hb (Or.inl z))))
      (fun z => ⟨vp_in_nI (by omega) (by omega), br_c (fun y => nm_r (nI_1 i) (ih (i + 1) (by omega) (by omega) (lt_s hb (Or.inr y)))) (fun y => h0 ⟨i, h, z, y⟩)⟩))⟩
theorem sy_stands {post : Int32 → Prop} {x : Int32} {r p q k f : Nat} (hr : r < 10) (hp : p ≤ 2) (hq : q ≤ 3) (hk : k ≤ 20) (hpl : pl (r * 3 + p) = nI q) (hf : (x = 0 ∧ f = 0) ∨ (¬ x = 0 ∧ f = k - q))
    (h1 : q ≤ k → (∀ i, i < q → pt (r * 9 + p * 3 + i) = 9 ∨ pt (r * 9 + p * 3 + i) = yw (f + i)) → post 1)
    (h0 : (k < q ∨ ∃ i, i < q ∧ ¬ pt (r * 9 + p * 3 + i) = 9 ∧ ¬ pt (r * 9 + p * 3 + i) = yw (f + i)) → post 0) : wpY_stands post (sz, ru, st, nI k, zS, zP, bu, kp, kl, rf, sx, cx, pt, pl, fg, zl, sl, yw, yo) (nI r) (nI p) x := by
  have e : nI r * 3 + nI p = nI (r * 3 + p) := by rw [sp_m3, nI_add]
  have ce := nI_clamp (n := r * 3 + p) (by omega)
  have go : vp_in (nI (r * 3 + p)) 30 ∧ (∀ x4, x4 = pl (nI (r * 3 + p)).toNatClampNeg → (x4 ≤ nI k → (x = 0 → ∃ n, wY_stands_43 post (nI r) (nI p) x4 0 sz ru st (nI k) zS zP bu kp kl rf sx cx pt pl fg zl sl yw yo n 0) ∧ (¬ x = 0 → ∀ x5, x5 = nI k - x4 → ∃ n, wY_stands_43 post (nI r) (nI p) x4 x5 sz ru st (nI k) zS zP bu kp kl rf sx cx pt pl fg zl sl yw yo n 0)) ∧ (¬ x4 ≤ nI k → post 0)) := by
    rw [ce]
    refine ⟨vp_in_nI (by omega) (by omega), nm_r hpl (pk_le q k (fun h => ?_) (fun h => h0 (Or.inl h)))⟩
    rcases hf with ⟨hx, hf⟩ | ⟨hx, hf⟩
    · subst hf
      exact br_t hx ⟨q + 1, sy_st43 (f := 0) hr hp hq (by omega) (h1 h) (fun g => h0 (Or.inr g)) (q + 1) 0 (by omega) (by omega) (fun j hj => absurd hj (Nat.not_lt_zero j))⟩
    · subst hf
      exact br_f hx (nm_r (pk_sub h) ⟨q + 1, sy_st43 hr hp hq (by omega) (h1 h) (fun g => h0 (Or.inr g)) (q + 1) 0 (by omega) (by omega) (fun j hj => absurd hj (Nat.not_lt_zero j))⟩)
  rw [← e] at go
  exact go
theorem sy_ap169 {post : Int32 → SY → Prop} {k : Nat} (hk : k ≤ 24) (h : ∀ ww, (∀ j, j < k → ww j = yo j) → post 1 (sz, ru, st, nI k, zS, zP, bu, kp, kl, rf, sx, cx, pt, pl, fg, zl, sl, ww, yo)) :
    ∀ n i (yw : Nat → Int32), i ≤ k → k - i < n → (∀ j, j < i → yw j = yo j) → wY_apply_169 post sz ru st (nI k) zS zP n (nI i) bu kp kl rf sx cx pt pl fg zl sl yw yo := by
  intro n
  induction n with
  | zero => intro i _ _ h; omega
  | succ n ih =>
    intro i ww hi hn hb
    have ci := nI_clamp (n := i) (by omega)
    refine pk_le k i (fun g => h ww (fun j hj => hb j (by omega))) (fun g => ?_)
    rw [ci]
    refine ⟨vp_in_nI (by omega) (by omega), vp_in_nI (by omega) (by omega), nm_e (nm_r (nI_1 i) (ih (i + 1) _ (by omega) (by omega) (fun j hj => ?_)))⟩
    by_cases hj2 : j = i
    · subst hj2; rw [pk_us]
    · rw [pk_un hj2]; exact hb j (by omega)
theorem sy_ap112 {post : Int32 → SY → Prop} {x2 : Int32} {r a t c d b : Nat} (hr : r < 10) (ha : a ≤ 3) (ht : t ≤ 20) (hx : (x2 = 0 ∧ d = a ∧ b = 0) ∨ (¬ x2 = 0 ∧ d = 0 ∧ b = t))
    (h : ∀ oo, (∀ i, i < t → oo (d + i) = yw (c + i)) → (∀ i, i < a → oo (b + i) = pt (r * 9 + 3 + i)) → ∃ n, wY_apply_169 post sz ru st (nI (t + a)) zS zP n 0 bu kp kl rf sx cx pt pl fg zl sl yw oo) :
    ∀ n i (yo : Nat → Int32), i ≤ a → a - i < n → (∀ j, j < t → yo (d + j) = yw (c + j)) → (∀ j, j < i → yo (b + j) = pt (r * 9 + 3 + j)) → wY_apply_112 post (nI r) x2 (nI a) (nI t) sz ru st ws zS zP n (nI i) bu kp kl rf sx cx pt pl fg zl sl yw yo := by
  intro n
  induction n with
  | zero => intro i _ _ h; omega
  | succ n ih =>
    intro i oo hi hn hb1 hb2
    have e1 : nI r * 9 + 3 + nI i = nI (r * 9 + 3 + i) := by rw [sp_m9, sp_p3, nI_add]
    have ce1 := nI_clamp (n := r * 9 + 3 + i) (by omega)
    have k1 : i < a → ∀ j, j < t → upd oo (b + i) (pt (r * 9 + 3 + i)) (d + j) = yw (c + j) := by
      intro hia j hj
      rw [pk_un (by omega)]; exact hb1 j hj
    have k2 : ∀ j, j < i + 1 → upd oo (b + i) (pt (r * 9 + 3 + i)) (b + j) = pt (r * 9 + 3 + j) := by
      intro j hj
      by_cases hji : j = i
      · subst hji; rw [pk_us]
      · rw [pk_un (by omega)]; exact hb2 j (by omega)
    have e2 : ∀ z0 : Int32, z0 = nI b → z0 + nI i = nI (b + i) := fun z0 hz => by rw [hz, nI_add]
    have ce2 : b ≤ 20 → (nI (b + i)).toNatClampNeg = b + i := fun hb => nI_clamp (n := b + i) (by omega)
    have step : ∀ z0 : Int32, z0 = nI b → b ≤ 20 → i < a → wY_apply_133 post (wY_apply_112 post (nI r) x2 (nI a) (nI t) sz ru st ws zS zP n) (nI r) x2 (nI a) (nI t) (nI i) z0 sz ru st ws zS zP bu kp kl rf sx cx pt pl fg zl sl yw oo := by
      intro z0 hz hb20 hia
      have go : vp_in (nI r * 9 + 3 + nI i) 90 ∧ (vp_in (z0 + nI i) 24 ∧ ∀ o2, o2 = upd oo (z0 + nI i).toNatClampNeg (pt (nI r * 9 + 3 + nI i).toNatClampNeg) → ∀ x6, x6 = nI i + 1 → wY_apply_112 post (nI r) x2 (nI a) (nI t) sz ru st ws zS zP n x6 bu kp kl rf sx cx pt pl fg zl sl yw o2) := by
        rw [e1, ce1, e2 z0 hz, ce2 hb20]
        exact ⟨vp_in_nI (by omega) (by omega), vp_in_nI (by omega) (by omega), nm_e (nm_r (nI_1 i) (ih (i + 1) _ (by omega) (by omega) (k1 hia) k2))⟩
      exact go
    refine pk_le a i (fun g => nm_r (nI_add t a) (h oo hb1 (fun j hj => hb2 j (by omega)))) (fun g => ?_)
    rcases hx with ⟨hx, hd, hb⟩ | ⟨hx, hd, hb⟩
    · exact br_t hx (step 0 (by rw [hb]; exact nI_0.symm) (by omega) g)
    · exact br_f hx (step (nI t) (by rw [hb]) (by omega) g)
theorem sy_ap61 {post : Int32 → SY → Prop} {x2 : Int32} {r z a t c d : Nat} (ha : a ≤ 3) (ht : t + z ≤ 20) (hx : (x2 = 0 ∧ c = z ∧ d = a) ∨ (¬ x2 = 0 ∧ c = 0 ∧ d = 0))
    (h : ∀ oo, (∀ i, i < t → oo (d + i) = yw (c + i)) → ∃ n, wY_apply_112 post (nI r) x2 (nI a) (nI t) sz ru st ws zS zP n 0 bu kp kl rf sx cx pt pl fg zl sl yw oo) :
    ∀ n i (yo : Nat → Int32), i ≤ t → t - i < n → (∀ j, j < i → yo (d + j) = yw (c + j)) → wY_apply_61 post (nI r) x2 (nI z) (nI a) (nI t) sz ru st ws zS zP n (nI i) bu kp kl rf sx cx pt pl fg zl sl yw yo := by
  intro n
  induction n with
  | zero => intro i _ _ h; omega
  | succ n ih =>
    intro i oo hi hn hb
    have k2 : ∀ j, j < i + 1 → upd oo (d + i) (yw (c + i)) (d + j) = yw (c + j) := by
      intro j hj
      by_cases hji : j = i
      · subst hji; rw [pk_us]
      · rw [pk_un (by omega)]; exact hb j (by omega)
    refine pk_le t i (fun g => h oo (fun j hj => hb j (by omega))) (fun g => ?_)
    have ce1 := nI_clamp (n := c + i) (by omega)
    have ce2 := nI_clamp (n := d + i) (by omega)
    rcases hx with ⟨hx, hc, hd⟩ | ⟨hx, hc, hd⟩
    · subst hc hd
      have e1 := nI_add c i
      have e2 := nI_add d i
      refine br_t hx (br_t hx ?_)
      rw [e1, e2, ce1, ce2]
      exact ⟨vp_in_nI (by omega) (by omega), vp_in_nI (by omega) (by omega), nm_e (nm_r (nI_1 i) (ih (i + 1) _ (by omega) (by omega) k2))⟩
    · subst hc hd
      have e1 : (0 : Int32) + nI i = nI (0 + i) := nI_add 0 i
      refine br_f hx (br_f hx ?_)
      rw [e1, ce1]
      exact ⟨vp_in_nI (by omega) (by omega), vp_in_nI (by omega) (by omega), nm_e (nm_r (nI_1 i) (ih (i + 1) _ (by omega) (by omega) k2))⟩
theorem sy_ap {post : Int32 → SY → Prop} {x2 : Int32} {r z a t c d b : Nat} (hr : r < 10) (ha : a ≤ 3) (ht : t + z ≤ 20) (hx : (x2 = 0 ∧ c = z ∧ d = a ∧ b = 0) ∨ (¬ x2 = 0 ∧ c = 0 ∧ d = 0 ∧ b = t))
    (h : ∀ ww oo, (∀ i, i < t → ww (d + i) = yw (c + i)) → (∀ i, i < a → ww (b + i) = pt (r * 9 + 3 + i)) → post 1 (sz, ru, st, nI (t + a), zS, zP, bu, kp, kl, rf, sx, cx, pt, pl, fg, zl, sl, ww, oo)) :
    ∃ n, wY_apply_61 post (nI r) x2 (nI z) (nI a) (nI t) sz ru st ws zS zP n 0 bu kp kl rf sx cx pt pl fg zl sl yw yo := by
  refine ⟨t + 1, sy_ap61 (c := c) (d := d) ha ht (hx.elim (fun y => Or.inl ⟨y.1, y.2.1, y.2.2.1⟩) (fun y => Or.inr ⟨y.1, y.2.1, y.2.2.1⟩)) (fun oo g1 => ⟨a + 1, ?_⟩) (t + 1) 0 yo (by omega) (by omega) (fun j hj => absurd hj (Nat.not_lt_zero j))⟩
  refine sy_ap112 (c := c) (d := d) (b := b) hr ha (by omega) (hx.elim (fun y => Or.inl ⟨y.1, y.2.2⟩) (fun y => Or.inr ⟨y.1, y.2.2⟩)) (fun o2 g2 g3 => ⟨t + a + 1, ?_⟩) (a + 1) 0 oo (by omega) (by omega) g1 (fun j hj => absurd hj (Nat.not_lt_zero j))
  refine sy_ap169 (by omega) (fun ww g4 => h ww o2 (fun i hi => ?_) (fun i hi => ?_)) (t + a + 1) 0 yw (by omega) (by omega) (fun j hj => absurd hj (Nat.not_lt_zero j))
  · rw [g4 _ (by omega)]; exact g2 i hi
  · rw [g4 _ (by omega)]; exact g3 i hi
theorem sy_apply {post : Int32 → SY → Prop} {x : Int32} {r z a q k c d b fz fq : Nat} (hr : r < 10) (hz : z ≤ 3) (ha : a ≤ 3) (hq : q ≤ 3) (hk : k ≤ 17) (hpz : pl (r * 3) = nI z) (hpa : pl (r * 3 + 1) = nI a) (hpq : pl (r * 3 + 2) = nI q)
    (hx : sx r = x) (hc : (x = 0 ∧ c = z ∧ d = a ∧ b = 0 ∧ fz = 0 ∧ fq = 0) ∨ (¬ x = 0 ∧ c = 0 ∧ d = 0 ∧ b = k - z ∧ fz = k - z ∧ fq = k - q))
    (h1 : z ≤ k → (∀ i, i < z → pt (r * 9 + i) = 9 ∨ pt (r * 9 + i) = yw (fz + i)) → q ≤ k → (∀ i, i < q → pt (r * 9 + 6 + i) = 9 ∨ pt (r * 9 + 6 + i) = yw (fq + i)) →
      ∀ ww oo, (∀ i, i < k - z → ww (d + i) = yw (c + i)) → (∀ i, i < a → ww (b + i) = pt (r * 9 + 3 + i)) → post 1 (sz, ru, st, nI (k - z + a), zS, zP, bu, kp, kl, rf, sx, cx, pt, pl, fg, zl, sl, ww, oo))
    (h0 : (k < z ∨ (∃ i, i < z ∧ ¬ pt (r * 9 + i) = 9 ∧ ¬ pt (r * 9 + i) = yw (fz + i)) ∨ k < q ∨ (∃ i, i < q ∧ ¬ pt (r * 9 + 6 + i) = 9 ∧ ¬ pt (r * 9 + 6 + i) = yw (fq + i))) → post 0 (sz, ru, st, nI k, zS, zP, bu, kp, kl, rf, sx, cx, pt, pl, fg, zl, sl, yw, yo)) :
    wpY_apply post (sz, ru, st, nI k, zS, zP, bu, kp, kl, rf, sx, cx, pt, pl, fg, zl, sl, yw, yo) (nI r) := by
  have cr := nI_clamp (n := r) (by omega)
  have e1 : nI r * 3 + 1 = nI (r * 3 + 1) := by rw [sp_m3, nI_1]
  have ce1 := nI_clamp (n := r * 3 + 1) (by omega)
  have e0 : nI r * 3 = nI (r * 3) := sp_m3 r
  have ce0 := nI_clamp (n := r * 3) (by omega)
  refine And.intro (vp_in_nI (by omega) (by omega)) (nm_r (e' := x) (by rw [cr]; exact hx) ?_)
  refine sy_stands (p := 0) (q := z) (f := fz) hr (by omega) hz (by omega) hpz (hc.elim (fun y => Or.inl ⟨y.1, y.2.2.2.2.1⟩) (fun y => Or.inr ⟨y.1, y.2.2.2.2.1⟩)) (fun g1 g2 => ?_) (fun g => ?_)
  · refine br_f (by decide) (sy_stands (p := 2) (q := q) (f := fq) hr (by omega) hq (by omega) hpq (hc.elim (fun y => Or.inl ⟨y.1, y.2.2.2.2.2⟩) (fun y => Or.inr ⟨y.1, y.2.2.2.2.2⟩)) (fun g3 g4 => ?_) (fun g => ?_))
    · refine br_f (by decide) ?_
      rw [e1, ce1, e0, ce0]
      refine ⟨vp_in_nI (by omega) (by omega), nm_r hpz ⟨vp_in_nI (by omega) (by omega), nm_r hpa (nm_r (pk_sub g1) ?_)⟩⟩
      exact sy_ap (c := c) (d := d) (b := b) hr ha (by omega) (hc.elim (fun y => Or.inl ⟨y.1, y.2.1, y.2.2.1, y.2.2.2.1⟩) (fun y => Or.inr ⟨y.1, y.2.1, y.2.2.1, y.2.2.2.1⟩)) (h1 g1 g2 g3 g4)
    · exact br_t rfl (h0 (Or.inr (Or.inr g)))
  · refine br_t rfl (h0 ?_)
    rcases g with g | g
    · exact Or.inl g
    · exact Or.inr (Or.inl g)
theorem sy_applyP {post : Int32 → SY → Prop} {R r k : Nat} {L : Nat → Nat} (hR : sp_RU R L pl pt) (hr : r < R) (hx : sx r = 0) (hk : k ≤ 17)
    (h1 : ∀ ww n oo, sp_PR pt (r * 9) (L (r * 3)) (L (r * 3 + 1)) (L (r * 3 + 2)) yw k ww n → post 1 (sz, ru, st, nI n, zS, zP, bu, kp, kl, rf, sx, cx, pt, pl, fg, zl, sl, ww, oo))
    (h0 : (∀ w n, ¬ sp_PR pt (r * 9) (L (r * 3)) (L (r * 3 + 1)) (L (r * 3 + 2)) yw k w n) → post 0 (sz, ru, st, nI k, zS, zP, bu, kp, kl, rf, sx, cx, pt, pl, fg, zl, sl, yw, yo)) : wpY_apply post (sz, ru, st, nI k, zS, zP, bu, kp, kl, rf, sx, cx, pt, pl, fg, zl, sl, yw, yo) (nI r) := by
  have hR10 := hR.1
  have hl9 : ∀ i, i < L (r * 3) → ¬ pt (r * 9 + i) = 9 := fun i hi => sp_ltr9 (hR.2.2.1 r hr i hi)
  obtain ⟨hpz, hz⟩ := hR.2.1 (r * 3)
  obtain ⟨hpa, ha⟩ := hR.2.1 (r * 3 + 1)
  obtain ⟨hpq, hq⟩ := hR.2.1 (r * 3 + 2)
  generalize L (r * 3) = z at *
  generalize L (r * 3 + 1) = a at *
  generalize L (r * 3 + 2) = q at *
  refine sy_apply (x := 0) (c := z) (d := a) (b := 0) (fz := 0) (fq := 0) (by omega) hz ha hq hk hpz hpa hpq hx (Or.inl ⟨rfl, rfl, rfl, rfl, rfl, rfl⟩) (fun g1 g2 g3 g4 ww oo g5 g6 => ?_) (fun g => h0 (fun w n hp => ?_))
  · refine h1 ww _ oo ⟨⟨g1, by omega⟩, fun i hi => ?_, fun i hi => ?_, fun i hi => (g5 i hi).symm, g3, fun i hi => ?_⟩
    · have := g2 i hi
      rw [Nat.zero_add] at this
      rcases this with y | y
      · exact absurd y (hl9 i hi)
      · exact y.symm
    · have := g6 i hi
      rw [Nat.zero_add] at this; exact this
    · have := g4 i hi
      rw [Nat.zero_add] at this; exact this
  · obtain ⟨⟨k1, k2⟩, k3, k4, k5, k6, k7⟩ := hp
    rcases g with g | ⟨i, hi, g, y⟩ | g | ⟨i, hi, g, y⟩
    · omega
    · rw [Nat.zero_add] at y
      exact y (k3 i hi).symm
    · omega
    · rw [Nat.zero_add] at y
      rcases k7 i hi with x | x
      · exact g x
      · exact y x
theorem sy_applyS {post : Int32 → SY → Prop} {R r k : Nat} {L : Nat → Nat} (hR : sp_RU R L pl pt) (hr : r < R) (hx : ¬ sx r = 0) (hk : k ≤ 17)
    (h1 : ∀ ww n oo, sp_SR pt (r * 9) (L (r * 3)) (L (r * 3 + 1)) (L (r * 3 + 2)) yw k ww n → post 1 (sz, ru, st, nI n, zS, zP, bu, kp, kl, rf, sx, cx, pt, pl, fg, zl, sl, ww, oo))
    (h0 : (∀ w n, ¬ sp_SR pt (r * 9) (L (r * 3)) (L (r * 3 + 1)) (L (r * 3 + 2)) yw k w n) → post 0 (sz, ru, st, nI k, zS, zP, bu, kp, kl, rf, sx, cx, pt, pl, fg, zl, sl, yw, yo)) : wpY_apply post (sz, ru, st, nI k, zS, zP, bu, kp, kl, rf, sx, cx, pt, pl, fg, zl, sl, yw, yo) (nI r) := by
  have hR10 := hR.1
  have hl9 : ∀ i, i < L (r * 3) → ¬ pt (r * 9 + i) = 9 := fun i hi => sp_ltr9 (hR.2.2.1 r hr i hi)
  obtain ⟨hpz, hz⟩ := hR.2.1 (r * 3)
  obtain ⟨hpa, ha⟩ := hR.2.1 (r * 3 + 1)
  obtain ⟨hpq, hq⟩ := hR.2.1 (r * 3 + 2)
  generalize L (r * 3) = z at *
  generalize L (r * 3 + 1) = a at *
  generalize L (r * 3 + 2) = q at *
  refine sy_apply (x := sx r) (c := 0) (d := 0) (b := k - z) (fz := k - z) (fq := k - q) (by omega) hz ha hq hk hpz hpa hpq rfl (Or.inr ⟨hx, rfl, rfl, rfl, rfl, rfl⟩) (fun g1 g2 g3 g4 ww oo g5 g6 => ?_) (fun g => h0 (fun w n hp => ?_))
  · refine h1 ww _ oo ⟨⟨g1, rfl⟩, fun i hi => ?_, g6, fun i hi => ?_, g3, g4⟩
    · rcases g2 i hi with y | y
      · exact absurd y (hl9 i hi)
      · exact y.symm
    · have := g5 i hi
      rw [Nat.zero_add] at this; exact this.symm
  · obtain ⟨⟨k1, k2⟩, k3, k4, k5, k6, k7⟩ := hp
    rcases g with g | ⟨i, hi, g, y⟩ | g | ⟨i, hi, g, y⟩
    · omega
    · exact y (k3 i hi).symm
    · omega
    · rcases k7 i hi with x | x
      · exact g x
      · exact y x
end
end
section
/-! the reference: gives -/
theorem sp_mneg (U : Nat) : sp_m 0 < 0 := show (-1 : Int32) < 0 by decide
section
variable {sz ru st ws zS zP : Int32} {bu kp kl rf sx cx pt pl fg zl sl yw yo : Nat → Int32}
theorem sy_g214 {post : Int32 → SY → Prop} {T : Nat} (hT : T ≤ 12) (h1 : (∀ i, i < T → yw i = bu i) → post 1 (nI T, ru, st, ws, zS, zP, bu, kp, kl, rf, sx, cx, pt, pl, fg, zl, sl, yw, yo)) (h0 : (∃ i, i < T ∧ ¬ yw i = bu i) → post 0 (nI T, ru, st, ws, zS, zP, bu, kp, kl, rf, sx, cx, pt, pl, fg, zl, sl, yw, yo)) :
    ∀ n i, i ≤ T → T - i < n → (∀ j, j < i → yw j = bu j) → wY_gives_214 post (nI T) ru st ws zS zP bu kp kl rf sx cx pt pl fg zl sl yw yo n (nI i) := by
  intro n
  induction n with
  | zero => intro i _ h; omega
  | succ n ih =>
    intro i hi hn hb
    have ci := nI_clamp (n := i) (by omega)
    refine pk_le T i (fun h => h1 (fun j hj => hb j (by omega))) (fun h => ?_)
    rw [ci]
    exact ⟨vp_in_nI (by omega) (by omega), vp_in_nI (by omega) (by omega), br_c (fun y => nm_r (nI_1 i) (ih (i + 1) (by omega) (by omega) (lt_s hb y))) (fun y => h0 ⟨i, h, y⟩)⟩
theorem sy_g191 {post : Int32 → SY → Prop} {T k : Nat} (hT : T ≤ 12) (hk : k ≤ 20) (h1 : k = T → T ≠ 0 → (∀ i, i < T → yw i = bu i) → post 1 (nI T, ru, st, nI k, zS, zP, bu, kp, kl, rf, sx, cx, pt, pl, fg, zl, sl, yw, yo)) (h0 : ¬ (k = T ∧ T ≠ 0 ∧ ∀ i, i < T → yw i = bu i) → post 0 (nI T, ru, st, nI k, zS, zP, bu, kp, kl, rf, sx, cx, pt, pl, fg, zl, sl, yw, yo)) :
    wY_gives_191 post (nI T) ru st (nI k) zS zP bu kp kl rf sx cx pt pl fg zl sl yw yo := by
  refine pk_eq k T (fun g => ?_) (fun g => h0 (fun z => g z.1))
  refine pk_eq T 0 (fun g2 => h0 (fun z => z.2.1 g2)) (fun g2 => ⟨T + 1, ?_⟩)
  exact sy_g214 hT (h1 g g2) (fun ⟨i, hi, y⟩ => h0 (fun z => y (z.2.2 i hi))) (T + 1) 0 (by omega) (by omega) (fun j hj => absurd hj (Nat.not_lt_zero j))
theorem sy_g177 {post : Int32 → SY → Prop} {R T k Q : Nat} {L : Nat → Nat} (hR : sp_RU R L pl pt) (hT : T ≤ 12) (hk : k ≤ 17) (hQ : sp_VB sx R Q)
    (h1 : T ≠ 0 → sp_PU L pt Q yw k bu T → ∀ a ww oo, post 1 (nI T, ru, st, a, zS, zP, bu, kp, kl, rf, sx, cx, pt, pl, fg, zl, sl, ww, oo)) (h0 : ¬ (T ≠ 0 ∧ sp_PU L pt Q yw k bu T) → ∀ a ww oo, post 0 (nI T, ru, st, a, zS, zP, bu, kp, kl, rf, sx, cx, pt, pl, fg, zl, sl, ww, oo)) :
    wY_gives_177 post (sp_m Q) (nI T) ru st (nI k) zS zP bu kp kl rf sx cx pt pl fg zl sl yw yo := by
  cases Q with
  | zero =>
    refine br_t (show (-1 : Int32) < 0 by decide) (sy_g191 hT (by omega) (fun g1 g2 g3 => ?_) (fun g => ?_))
    · subst g1; exact h1 g2 ⟨rfl, g3⟩ _ _ _
    · refine h0 (fun z => g ?_) _ _ _
      obtain ⟨z1, z2, z3⟩ := z
      subst z2
      exact ⟨rfl, z1, z3⟩
  | succ q =>
    rcases hQ with hQ | ⟨hq, hx⟩
    · omega
    · have hq' : q < R := hq
      have hx' : sx q = 0 := hx
      have hR10 := hR.1
      refine br_f (show ¬ nI q < 0 from nI_pos (by omega)) (sy_applyP hR hq' hx' hk (fun ww n oo hp => ?_) (fun hp => ?_))
      · have hp' : sp_PU L pt (q + 1) yw k ww n := hp
        have hlen := sp_PU_len hR hp'
        refine br_f (by decide) (sy_g191 hT (by omega) (fun g1 g2 g3 => ?_) (fun g => ?_))
        · subst g1; exact h1 g2 (sp_PU_cg hp' (fun _ _ => rfl) g3) _ _ _
        · refine h0 (fun z => g ?_) _ _ _
          obtain ⟨z1, z2⟩ := sp_PU_fun hp' z.2
          subst z1
          exact ⟨rfl, z.1, z2⟩
      · exact br_t rfl (h0 (fun z => hp _ _ z.2) _ _ _)
theorem sy_g129 {post : Int32 → SY → Prop} {R T k s U Q : Nat} {L : Nat → Nat} (hR : sp_RU R L pl pt) (hs : s < 12) (hT : T ≤ 12) (hk : k ≤ 12) (hU : sp_VA sx R U) (hQ : sp_VB sx R Q)
    (h1 : T ≠ 0 → (∃ m n, sp_SU L pt U (fun i => sl (s * 12 + i)) k m n ∧ sp_PU L pt Q m n bu T) → ∀ a ww oo, post 1 (nI T, ru, st, a, zS, zP, bu, kp, kl, rf, sx, cx, pt, pl, fg, zl, sl, ww, oo))
    (h0 : ¬ (T ≠ 0 ∧ ∃ m n, sp_SU L pt U (fun i => sl (s * 12 + i)) k m n ∧ sp_PU L pt Q m n bu T) → ∀ a ww oo, post 0 (nI T, ru, st, a, zS, zP, bu, kp, kl, rf, sx, cx, pt, pl, fg, zl, sl, ww, oo)) :
    ∀ n i (yw : Nat → Int32), i ≤ k → k - i < n → (∀ j, j < i → yw j = sl (s * 12 + j)) → wY_gives_129 post (nI s) (sp_m U) (sp_m Q) (nI T) ru st (nI k) zS zP n (nI i) bu kp kl rf sx cx pt pl fg zl sl yw yo := by
  intro n
  induction n with
  | zero => intro i _ _ h; omega
  | succ n ih =>
    intro i ww hi hn hb
    have ci := nI_clamp (n := i) (by omega)
    have e : nI s * 12 + nI i = nI (s * 12 + i) := by rw [sp_m12, nI_add]
    have ce := nI_clamp (n := s * 12 + i) (by omega)
    refine pk_le k i (fun g => ?_) (fun g => ?_)
    · have hik : i = k := by omega
      subst hik
      cases U with
      | zero =>
        refine br_t (show (-1 : Int32) < 0 by decide) (sy_g177 hR hT (by omega) hQ (fun g1 g2 => h1 g1 ⟨ww, i, ⟨rfl, fun j hj => (hb j hj).symm⟩, g2⟩) (fun g1 => h0 (fun z => g1 ?_)))
        obtain ⟨z0, m, n', ⟨z1, z2⟩, z3⟩ := z
        subst z1
        exact ⟨z0, sp_PU_cg z3 (fun j hj => by rw [hb j hj]; exact (z2 j hj).symm) (fun _ _ => rfl)⟩
      | succ u =>
        rcases hU with hU | ⟨hu, hx⟩
        · omega
        · have hu' : u < R := hu
          have hx' : ¬ sx u = 0 := hx
          have hR10 := hR.1
          refine br_f (show ¬ nI u < 0 from nI_pos (by omega)) (sy_applyS hR hu' hx' (by omega) (fun w2 n2 oo hp => ?_) (fun hp => ?_))
          · have hp' : sp_SU L pt (u + 1) ww i w2 n2 := hp
            have hlen := sp_SU_len hR hp'
            have hp2 : sp_SU L pt (u + 1) (fun j => sl (s * 12 + j)) i w2 n2 := sp_SU_cg hp' hb (fun _ _ => rfl)
            refine br_f (by decide) (sy_g177 hR hT (by omega) hQ (fun g1 g2 => h1 g1 ⟨w2, n2, hp2, g2⟩) (fun g1 => h0 (fun z => g1 ?_)))
            obtain ⟨z0, m, n', z1, z3⟩ := z
            obtain ⟨y1, y2⟩ := sp_SU_fun z1 hp2
            subst y1
            exact ⟨z0, sp_PU_cg z3 y2 (fun _ _ => rfl)⟩
          · refine br_t rfl (h0 (fun z => ?_) _ _ _)
            obtain ⟨z0, m, n', z1, z3⟩ := z
            have z2 : sp_SU L pt (u + 1) ww i m n' := sp_SU_cg z1 (fun j hj => (hb j hj).symm) (fun _ _ => rfl)
            exact hp m n' z2
    · rw [e, ce, ci]
      refine ⟨vp_in_nI (by omega) (by omega), vp_in_nI (by omega) (by omega), nm_e (nm_r (nI_1 i) (ih (i + 1) _ (by omega) (by omega) (fun j hj => ?_)))⟩
      by_cases hj2 : j = i
      · subst hj2; rw [pk_us]
      · rw [pk_un hj2]; exact hb j (by omega)
theorem sy_g116 {post : Int32 → SY → Prop} {R T k s U Q : Nat} {L : Nat → Nat} (hR : sp_RU R L pl pt) (hs : s < 12) (hT : T ≤ 12) (hk : k ≤ 12) (hzl : zl s = nI k) (hU : sp_VA sx R U) (hQ : sp_VB sx R Q)
    (h1 : T ≠ 0 → (∃ m n, sp_SU L pt U (fun i => sl (s * 12 + i)) k m n ∧ sp_PU L pt Q m n bu T) → ∀ a ww oo, post 1 (nI T, ru, st, a, zS, zP, bu, kp, kl, rf, sx, cx, pt, pl, fg, zl, sl, ww, oo))
    (h0 : ¬ (T ≠ 0 ∧ ∃ m n, sp_SU L pt U (fun i => sl (s * 12 + i)) k m n ∧ sp_PU L pt Q m n bu T) → ∀ a ww oo, post 0 (nI T, ru, st, a, zS, zP, bu, kp, kl, rf, sx, cx, pt, pl, fg, zl, sl, ww, oo)) :
    wY_gives_116 post (nI s) (sp_m U) (sp_m Q) (nI T) ru st ws zS zP bu kp kl rf sx cx pt pl fg zl sl yw yo := by
  have cs := nI_clamp (n := s) (by omega)
  refine And.intro (vp_in_nI (by omega) (by omega)) (nm_r (e' := nI k) (by rw [cs]; exact hzl) ⟨k + 1, ?_⟩)
  exact sy_g129 hR hs hT hk hU hQ h1 h0 (k + 1) 0 yw (by omega) (by omega) (fun j hj => absurd hj (Nat.not_lt_zero j))
theorem sy_g76 {post : Int32 → SY → Prop} {R S T s U Q : Nat} {L SL : Nat → Nat} (hR : sp_RU R L pl pt) (hs : s < S) (hS : S ≤ 12) (hT : T ≤ 12) (hk : SL s ≤ 12) (hzl : zl s = nI (SL s)) (hU : sp_VA sx R U) (hQ : sp_VB sx R Q) (hU2 : sp_al fg rf s U) (hQ2 : sp_al fg rf s Q)
    (h1 : sp_G R S L SL rf sx cx pt fg sl bu T s U Q → ∀ a ww oo, post 1 (nI T, ru, st, a, zS, zP, bu, kp, kl, rf, sx, cx, pt, pl, fg, zl, sl, ww, oo))
    (h0 : ¬ sp_G R S L SL rf sx cx pt fg sl bu T s U Q → ∀ a ww oo, post 0 (nI T, ru, st, a, zS, zP, bu, kp, kl, rf, sx, cx, pt, pl, fg, zl, sl, ww, oo)) :
    wY_gives_76 post (nI s) (sp_m U) (sp_m Q) 1 1 (nI T) ru st ws zS zP bu kp kl rf sx cx pt pl fg zl sl yw yo := by
  have hR10 := hR.1
  have go : sp_cr cx U Q → wY_gives_116 post (nI s) (sp_m U) (sp_m Q) (nI T) ru st ws zS zP bu kp kl rf sx cx pt pl fg zl sl yw yo := by
    intro hc
    refine sy_g116 hR (by omega) hT hk hzl hU hQ (fun g1 ⟨m, n, g2, g3⟩ => h1 ⟨hs, ⟨hU, hU2⟩, ⟨hQ, hQ2⟩, hc, g1, m, n, g2, g3⟩) (fun g => h0 (fun z => g ?_))
    obtain ⟨_, _, _, _, z5, m, n, z6, z7⟩ := z
    exact ⟨z5, m, n, z6, z7⟩
  refine br_f (by decide) (br_f (by decide) ?_)
  cases U with
  | zero => exact br_t (show (-1 : Int32) < 0 by decide) (go (Or.inl rfl))
  | succ u =>
    have hu : u < R := hU.elim (fun z => absurd z (Nat.succ_ne_zero u)) (fun z => z.1)
    have cu := nI_clamp (n := u) (by omega)
    refine br_f (show ¬ nI u < 0 from nI_pos (by omega)) ?_
    cases Q with
    | zero => exact br_t (show (-1 : Int32) < 0 by decide) (go (Or.inr (Or.inl rfl)))
    | succ q =>
      have hq : q < R := hQ.elim (fun z => absurd z (Nat.succ_ne_zero q)) (fun z => z.1)
      have cq := nI_clamp (n := q) (by omega)
      refine br_f (show ¬ nI q < 0 from nI_pos (by omega)) ?_
      have eu : cx (sp_m (u + 1)).toNatClampNeg = cx u := congrArg cx cu
      have eq : cx (sp_m (q + 1)).toNatClampNeg = cx q := congrArg cx cq
      rw [eu, eq]
      refine ⟨show vp_in (nI u) 10 from vp_in_nI (by omega) (by omega), br_c (fun z => h0 (fun y => ?_) _ _ _) (fun z => ⟨show vp_in (nI q) 10 from vp_in_nI (by omega) (by omega), br_c (fun x => h0 (fun y => ?_) _ _ _) (fun x => go (Or.inr (Or.inr ⟨z, x⟩)))⟩)⟩
      · rcases y.2.2.2.1 with v | v | v
        · omega
        · omega
        · exact v.1 z
      · rcases y.2.2.2.1 with v | v | v
        · omega
        · omega
        · exact v.2 x
theorem sy_g76n {post : Int32 → SY → Prop} {x1 x2 x3 x4 z0 : Int32} (h : x4 = 0 ∨ z0 = 0) (h0 : post 0 (sz, ru, st, ws, zS, zP, bu, kp, kl, rf, sx, cx, pt, pl, fg, zl, sl, yw, yo)) : wY_gives_76 post x1 x2 x3 x4 z0 sz ru st ws zS zP bu kp kl rf sx cx pt pl fg zl sl yw yo := by
  by_cases hx : x4 = 0
  · exact br_t hx h0
  · refine br_f hx (br_t (h.elim (fun z => absurd z hx) id) h0)
theorem sy_g37 {post : Int32 → SY → Prop} {R s Q : Nat} {x2 z0 : Int32} (hR : R ≤ 10) (hs : s < 12) (hQ : Q = 0 ∨ Q - 1 < R)
    (h1 : sp_VB sx R Q ∧ sp_al fg rf s Q → wY_gives_76 post (nI s) x2 (sp_m Q) z0 1 sz ru st ws zS zP bu kp kl rf sx cx pt pl fg zl sl yw yo)
    (h0 : ¬ (sp_VB sx R Q ∧ sp_al fg rf s Q) → wY_gives_76 post (nI s) x2 (sp_m Q) z0 0 sz ru st ws zS zP bu kp kl rf sx cx pt pl fg zl sl yw yo) :
    wY_gives_37 post (nI s) x2 (sp_m Q) z0 sz ru st ws zS zP bu kp kl rf sx cx pt pl fg zl sl yw yo := by
  cases Q with
  | zero => exact br_t (show (-1 : Int32) < 0 by decide) (h1 ⟨Or.inl rfl, Or.inl rfl⟩)
  | succ q =>
    have hq : q < R := hQ.elim (fun z => absurd z (Nat.succ_ne_zero q)) id
    have cs := nI_clamp (n := s) (by omega)
    have cq := nI_clamp (n := q) (by omega)
    have cq' : (sp_m (q + 1)).toNatClampNeg = q := cq
    have hi : vp_in (sp_m (q + 1)) 10 := show vp_in (nI q) 10 from vp_in_nI (by omega) (by omega)
    refine br_f (show ¬ nI q < 0 from nI_pos (by omega)) ?_
    rw [cq', cs]
    refine ⟨hi, br_c (fun z => ⟨vp_in_nI (by omega) (by omega), hi, br_c (fun y => h1 ⟨Or.inr ⟨hq, z⟩, Or.inr y⟩) (fun y => h0 (fun v => ?_))⟩) (fun z => h0 (fun v => ?_))⟩
    · exact v.2.elim (fun w => absurd w (Nat.succ_ne_zero q)) y
    · exact v.1.elim (fun w => absurd w (Nat.succ_ne_zero q)) (fun w => z w.2)
theorem sy_gtop {post : Int32 → SY → Prop} {R s U : Nat} {x3 : Int32} (hR : R ≤ 10) (hs : s < 12) (hU : U = 0 ∨ U - 1 < R)
    (h1 : sp_VA sx R U ∧ sp_al fg rf s U → wY_gives_37 post (nI s) (sp_m U) x3 1 sz ru st ws zS zP bu kp kl rf sx cx pt pl fg zl sl yw yo)
    (h0 : ¬ (sp_VA sx R U ∧ sp_al fg rf s U) → wY_gives_37 post (nI s) (sp_m U) x3 0 sz ru st ws zS zP bu kp kl rf sx cx pt pl fg zl sl yw yo) :
    wpY_gives post (sz, ru, st, ws, zS, zP, bu, kp, kl, rf, sx, cx, pt, pl, fg, zl, sl, yw, yo) (nI s) (sp_m U) x3 := by
  cases U with
  | zero => exact br_t (show (-1 : Int32) < 0 by decide) (h1 ⟨Or.inl rfl, Or.inl rfl⟩)
  | succ q =>
    have hq : q < R := hU.elim (fun z => absurd z (Nat.succ_ne_zero q)) id
    have cs := nI_clamp (n := s) (by omega)
    have cq := nI_clamp (n := q) (by omega)
    have cq' : (sp_m (q + 1)).toNatClampNeg = q := cq
    have hi : vp_in (sp_m (q + 1)) 10 := show vp_in (nI q) 10 from vp_in_nI (by omega) (by omega)
    refine br_f (show ¬ nI q < 0 from nI_pos (by omega)) ?_
    rw [cq', cs]
    refine ⟨hi, br_c (fun z => h0 (fun v => ?_)) (fun z => ⟨vp_in_nI (by omega) (by omega), hi, br_c (fun y => h1 ⟨Or.inr ⟨hq, z⟩, Or.inr y⟩) (fun y => h0 (fun v => ?_))⟩)⟩
    · exact v.1.elim (fun w => absurd w (Nat.succ_ne_zero q)) (fun w => w.2 z)
    · exact v.2.elim (fun w => absurd w (Nat.succ_ne_zero q)) y
/-- what the reference holds of rules and stems -/
def sp_DY (R S : Nat) (L SL : Nat → Nat) (pl pt zl : Nat → Int32) : Prop := sp_RU R L pl pt ∧ S ≤ 12 ∧ ∀ s, s < S → zl s = nI (SL s) ∧ SL s ≤ 12
theorem sy_gives {post : Int32 → SY → Prop} {R S T s U Q : Nat} {L SL : Nat → Nat} (hD : sp_DY R S L SL pl pt zl) (hs : s < S) (hT : T ≤ 12) (hU : U = 0 ∨ U - 1 < R) (hQ : Q = 0 ∨ Q - 1 < R)
    (h1 : sp_G R S L SL rf sx cx pt fg sl bu T s U Q → ∀ a ww oo, post 1 (nI T, ru, st, a, zS, zP, bu, kp, kl, rf, sx, cx, pt, pl, fg, zl, sl, ww, oo))
    (h0 : ¬ sp_G R S L SL rf sx cx pt fg sl bu T s U Q → ∀ a ww oo, post 0 (nI T, ru, st, a, zS, zP, bu, kp, kl, rf, sx, cx, pt, pl, fg, zl, sl, ww, oo)) :
    wpY_gives post (nI T, ru, st, ws, zS, zP, bu, kp, kl, rf, sx, cx, pt, pl, fg, zl, sl, yw, yo) (nI s) (sp_m U) (sp_m Q) := by
  obtain ⟨hR, hS, hz⟩ := hD
  obtain ⟨hz1, hz2⟩ := hz s hs
  refine sy_gtop hR.1 (by omega) hU (fun g1 => sy_g37 hR.1 (by omega) hQ (fun g2 => ?_) (fun g2 => ?_)) (fun g1 => sy_g37 hR.1 (by omega) hQ (fun g2 => ?_) (fun g2 => ?_))
  · exact sy_g76 hR hs hS hT hz2 hz1 g1.1 g2.1 g1.2 g2.2 h1 h0
  · exact sy_g76n (Or.inr rfl) (h0 (fun z => g2 z.2.2.1) _ _ _)
  · exact sy_g76n (Or.inl rfl) (h0 (fun z => g1 z.2.1) _ _ _)
  · exact sy_g76n (Or.inl rfl) (h0 (fun z => g1 z.2.1) _ _ _)
end
end
section
/-! the reference: ofStem, find, derivations -/
def sp_F : Nat → Int32
  | 0 => -6
  | u + 1 => nI u
theorem sp_mle {R Q : Nat} (hR : R < 2 ^ 31) (hQ : Q < 2 ^ 31) : nI R ≤ sp_m Q ↔ R < Q := by
  cases Q with
  | zero =>
    constructor
    · intro h
      have h1 : (0 : Int32) ≤ nI R := nI_pos' hR
      have h2 : (0 : Int32) ≤ -1 := Int32.le_trans h1 h
      exact absurd h2 (by decide)
    · intro h; omega
  | succ q =>
    show nI R ≤ nI q ↔ _
    rw [nI_leI hR (by omega)]; omega
theorem sp_ms (Q : Nat) : sp_m Q + 1 = sp_m (Q + 1) := sp_m1 Q
/-- the noted rules are those of the code whose number in stem s is x, if it lies below c1 -/
def sp_FI (P : Nat → Prop) (s : Nat) (x : Int32) (c1 : Nat) (zS zP : Int32) : Prop :=
  ∀ c, s * 121 ≤ c → c < c1 → P c → nI (sp_c P c - sp_c P (s * 121)) = x → zS = sp_F (c / 11 % 11) ∧ zP = sp_F (c % 11)
theorem sp_FI_0 {P : Nat → Prop} {s : Nat} {x zS zP : Int32} : sp_FI P s x (s * 121) zS zP := fun c h1 h2 => by omega
theorem sp_FI_gap {P : Nat → Prop} {s c1 c2 : Nat} {x zS zP : Int32} (h : sp_FI P s x c1 zS zP) (hn : ∀ c, c1 ≤ c → c < c2 → ¬ P c) : sp_FI P s x c2 zS zP := by
  intro c h1 h2 hp hx
  by_cases h3 : c < c1
  · exact h c h1 h3 hp hx
  · exact absurd hp (hn c (by omega) h2)
theorem sp_FI_new {P : Nat → Prop} {s c1 : Nat} {x : Int32} (hs : s * 121 ≤ c1) (hb : c1 < 1452) (hp1 : P c1) (hx1 : nI (sp_c P c1 - sp_c P (s * 121)) = x) : sp_FI P s x (c1 + 1) (sp_F (c1 / 11 % 11)) (sp_F (c1 % 11)) := by
  intro c h1 h2 hp hx
  have h3 : c = c1 := by
    by_cases h4 : c = c1
    · exact h4
    · have h5 := sp_c_lt (b := c1) hp (by omega)
      have h6 : sp_c P (s * 121) ≤ sp_c P c := sp_c_mn h1
      have h7 := sp_c_le P c1
      rw [← hx1, nI_eq (by omega) (by omega)] at hx
      omega
  subst h3
  exact ⟨rfl, rfl⟩
theorem sp_FI_old {P : Nat → Prop} {s c1 : Nat} {x zS zP : Int32} (h : sp_FI P s x c1 zS zP) (hx1 : ¬ nI (sp_c P c1 - sp_c P (s * 121)) = x) : sp_FI P s x (c1 + 1) zS zP := by
  intro c h1 h2 hp hx
  by_cases h3 : c = c1
  · subst h3; exact absurd hx hx1
  · exact h c h1 (by omega) hp hx
section
variable {sz ru st ws zS zP : Int32} {bu kp kl rf sx cx pt pl fg zl sl yw yo : Nat → Int32}
theorem sy_of56 {post : Int32 → SY → Prop} {J5 J17 : Int32 → Int32 → Int32 → Int32 → Int32 → Int32 → Int32 → Int32 → (Nat → Int32) → (Nat → Int32) → (Nat → Int32) → (Nat → Int32) → (Nat → Int32) → (Nat → Int32) → (Nat → Int32) → (Nat → Int32) → (Nat → Int32) → (Nat → Int32) → (Nat → Int32) → (Nat → Int32) → (Nat → Int32) → Prop} {x1 x2 x4 z0 : Int32} {m Q : Nat} (hQ : Q < 2 ^ 31) (h : J17 (nI (m + 1)) (sp_m (Q + 1)) sz ru st ws z0 (sp_F Q) bu kp kl rf sx cx pt pl fg zl sl yw yo) : wY_ofStem_56 post J5 J17 x1 x2 (nI m) x4 (sp_m Q) z0 sz ru st ws zS zP bu kp kl rf sx cx pt pl fg zl sl yw yo := by
  cases Q with
  | zero => exact br_f (show ¬ (0 : Int32) ≤ -1 by decide) (nm_r (nI_1 m) (nm_r (sp_ms 0) h))
  | succ q => exact br_t (show (0 : Int32) ≤ nI q from nI_pos' (by omega)) (nm_r (nI_1 m) (nm_r (sp_ms (q + 1)) h))
theorem sy_of17 {post : Int32 → SY → Prop} {J5 : Int32 → Int32 → Int32 → Int32 → Int32 → Int32 → Int32 → Int32 → (Nat → Int32) → (Nat → Int32) → (Nat → Int32) → (Nat → Int32) → (Nat → Int32) → (Nat → Int32) → (Nat → Int32) → (Nat → Int32) → (Nat → Int32) → (Nat → Int32) → (Nat → Int32) → (Nat → Int32) → (Nat → Int32) → Prop} {R S T s U : Nat} {x : Int32} {L SL : Nat → Nat} {P : Nat → Prop} (hP : P = sp_P R S L SL rf sx cx pt fg sl bu T) (hD : sp_DY R S L SL pl pt zl) (hs : s < S) (hT : T ≤ 12) (hU : U ≤ R)
    (h : ∀ a b d ww oo, sp_FI P s x (s * 121 + (U + 1) * 11) b d → J5 (nI (sp_c P (s * 121 + (U + 1) * 11) - sp_c P (s * 121))) (sp_m (U + 1)) (nI T) (nI R) st a b d bu kp kl rf sx cx pt pl fg zl sl ww oo) :
    ∀ n Q (ws zS zP : Int32) (yw yo : Nat → Int32), Q ≤ R + 1 → R + 1 - Q < n → sp_FI P s x (s * 121 + U * 11 + Q) zS zP → wY_ofStem_17 post J5 (nI s) x (sp_m U) n (nI (sp_c P (s * 121 + U * 11 + Q) - sp_c P (s * 121))) (sp_m Q) (nI T) (nI R) st ws zS zP bu kp kl rf sx cx pt pl fg zl sl yw yo := by
  have hR10 := hD.1.1
  have hS12 := hD.2.1
  intro n
  induction n with
  | zero => intro Q _ _ _ _ _ _ h; omega
  | succ n ih =>
    intro Q aa bb dd ww oo hQ hn hF
    have hle := sp_mle (R := R) (Q := Q) (by omega) (by omega)
    have hcm : sp_c P (s * 121) ≤ sp_c P (s * 121 + U * 11 + Q) := sp_c_mn (by omega)
    have hcl := sp_c_le P (s * 121 + U * 11 + Q)
    by_cases hQR : R < Q
    · have hgap : ∀ c, s * 121 + U * 11 + Q ≤ c → c < s * 121 + (U + 1) * 11 → ¬ P c := by
        intro c g1 g2 hp
        rw [hP] at hp
        rcases hp.2.2.1.1 with y | ⟨y, _⟩
        · omega
        · omega
      have hg := sp_c_gap (P := P) (a := s * 121 + U * 11 + Q) (b := s * 121 + (U + 1) * 11) (by omega) hgap
      refine br_t (hle.mpr hQR) (nm_r (sp_ms U) ?_)
      rw [← hg]
      exact h aa bb dd ww oo (sp_FI_gap hF hgap)
    · refine br_f (fun z => hQR (hle.mp z)) ?_
      have hcd := sp_cd (s := s) (U := U) (Q := Q) (by omega) (by omega)
      have hG : P (s * 121 + U * 11 + Q) ↔ sp_G R S L SL rf sx cx pt fg sl bu T s U Q := by
        rw [hP]; exact sp_P_cd (by omega) (by omega)
      refine sy_gives (U := U) (Q := Q) hD hs hT (by omega) (by omega) (fun g a2 w2 o2 => ?_) (fun g a2 w2 o2 => ?_)
      · have hp := hG.mpr g
        have hc1 : sp_c P (s * 121 + U * 11 + Q) - sp_c P (s * 121) + 1 = sp_c P (s * 121 + U * 11 + (Q + 1)) - sp_c P (s * 121) := by
          have := sp_cs P (s * 121 + U * 11 + Q)
          rw [sp_bt hp] at this
          have e9 : s * 121 + U * 11 + (Q + 1) = s * 121 + U * 11 + Q + 1 := by omega
          rw [e9, this]; omega
        refine br_f (by decide) (br_c (fun z => ?_) (fun z => ?_))
        · have hF2 := sp_FI_new (s := s) (x := x) (by omega) (by omega) hp z
          rw [hcd.2.1, hcd.2.2] at hF2
          have nx := ih (Q + 1) a2 (sp_F U) (sp_F Q) w2 o2 (by omega) (by omega) hF2
          rw [← hc1] at nx
          cases U with
          | zero => exact br_f (show ¬ (0 : Int32) ≤ -1 by decide) (sy_of56 (by omega) nx)
          | succ u => exact br_t (show (0 : Int32) ≤ nI u from nI_pos' (by omega)) (sy_of56 (by omega) nx)
        · have nx := ih (Q + 1) a2 bb dd w2 o2 (by omega) (by omega) (sp_FI_old hF z)
          rw [← hc1] at nx
          exact nm_r (nI_1 _) (nm_r (sp_ms Q) nx)
      · have hp : ¬ P (s * 121 + U * 11 + Q) := fun z => g (hG.mp z)
        have hc1 : sp_c P (s * 121 + U * 11 + (Q + 1)) = sp_c P (s * 121 + U * 11 + Q) := by
          have := sp_cs P (s * 121 + U * 11 + Q)
          rw [sp_bf hp] at this
          exact this
        have nx := ih (Q + 1) a2 bb dd w2 o2 (by omega) (by omega) (sp_FI_gap hF (fun c g1 g2 => by
          have ec : c = s * 121 + U * 11 + Q := by omega
          rw [ec]; exact hp))
        rw [hc1] at nx
        exact br_t rfl (nm_r (sp_ms Q) nx)
theorem sy_of5 {post : Int32 → SY → Prop} {R S T s : Nat} {x : Int32} {L SL : Nat → Nat} {P : Nat → Prop} (hP : P = sp_P R S L SL rf sx cx pt fg sl bu T) (hD : sp_DY R S L SL pl pt zl) (hs : s < S) (hT : T ≤ 12)
    (h : ∀ a b d ww oo, sp_FI P s x ((s + 1) * 121) b d → post (nI (sp_c P ((s + 1) * 121) - sp_c P (s * 121))) (nI T, nI R, st, a, b, d, bu, kp, kl, rf, sx, cx, pt, pl, fg, zl, sl, ww, oo)) :
    ∀ n U (ws zS zP : Int32) (yw yo : Nat → Int32), U ≤ R + 1 → R + 1 - U < n → sp_FI P s x (s * 121 + U * 11) zS zP → wY_ofStem_5 post (nI s) x n (nI (sp_c P (s * 121 + U * 11) - sp_c P (s * 121))) (sp_m U) (nI T) (nI R) st ws zS zP bu kp kl rf sx cx pt pl fg zl sl yw yo := by
  have hR10 := hD.1.1
  intro n
  induction n with
  | zero => intro U _ _ _ _ _ _ h; omega
  | succ n ih =>
    intro U aa bb dd ww oo hU hn hF
    have hle := sp_mle (R := R) (Q := U) (by omega) (by omega)
    by_cases hUR : R < U
    · have hgap : ∀ c, s * 121 + U * 11 ≤ c → c < (s + 1) * 121 → ¬ P c := by
        intro c g1 g2 hp
        rw [hP] at hp
        rcases hp.2.1.1 with y | ⟨y, _⟩
        · omega
        · omega
      have hg := sp_c_gap (P := P) (a := s * 121 + U * 11) (b := (s + 1) * 121) (by omega) hgap
      refine br_t (hle.mpr hUR) ?_
      rw [← hg]
      exact h aa bb dd ww oo (sp_FI_gap hF hgap)
    · refine br_f (fun z => hUR (hle.mp z)) ⟨R + 2, ?_⟩
      exact sy_of17 hP hD hs hT (by omega) (fun a b d w2 o2 g => ih (U + 1) a b d w2 o2 (by omega) (by omega) g) (R + 2) 0 aa bb dd ww oo (by omega) (by omega) hF
theorem sy_ofStem {post : Int32 → SY → Prop} {R S T s : Nat} {x : Int32} {L SL : Nat → Nat} {P : Nat → Prop} (hP : P = sp_P R S L SL rf sx cx pt fg sl bu T) (hD : sp_DY R S L SL pl pt zl) (hs : s < S) (hT : T ≤ 12)
    (h : ∀ a b d ww oo, sp_FI P s x ((s + 1) * 121) b d → post (nI (sp_c P ((s + 1) * 121) - sp_c P (s * 121))) (nI T, nI R, st, a, b, d, bu, kp, kl, rf, sx, cx, pt, pl, fg, zl, sl, ww, oo)) :
    wpY_ofStem post (nI T, nI R, st, ws, zS, zP, bu, kp, kl, rf, sx, cx, pt, pl, fg, zl, sl, yw, yo) (nI s) x := by
  have h0 := sy_of5 (post := post) hP hD hs hT h (R + 2) 0 ws zS zP yw yo (by omega) (by omega) sp_FI_0
  have e : sp_c P (s * 121 + 0 * 11) - sp_c P (s * 121) = 0 := Nat.sub_self _
  rw [e] at h0
  exact ⟨R + 2, h0⟩
theorem sy_de4 {post : Int32 → SY → Prop} {R S T : Nat} {L SL : Nat → Nat} {P : Nat → Prop} (hP : P = sp_P R S L SL rf sx cx pt fg sl bu T) (hD : sp_DY R S L SL pl pt zl) (hT : T ≤ 12)
    (h : ∀ a b d ww oo, post (nI (sp_c P 1452)) (nI T, nI R, nI S, a, b, d, bu, kp, kl, rf, sx, cx, pt, pl, fg, zl, sl, ww, oo)) :
    ∀ n s (ws zS zP : Int32) (yw yo : Nat → Int32), s ≤ S → S - s < n → wY_derivations_4 post n (nI (sp_c P (s * 121))) (nI s) (nI T) (nI R) (nI S) ws zS zP bu kp kl rf sx cx pt pl fg zl sl yw yo := by
  have hS12 := hD.2.1
  intro n
  induction n with
  | zero => intro s _ _ _ _ _ _ h; omega
  | succ n ih =>
    intro s aa bb dd ww oo hs hn
    refine pk_le S s (fun g => ?_) (fun g => ?_)
    · have hsS : s = S := by omega
      subst hsS
      have hg := sp_c_gap (P := P) (a := s * 121) (b := 1452) (by omega) (fun c g1 _ hp => by
        rw [hP] at hp
        have h1 : c / 11 / 11 < s := hp.1
        omega)
      rw [← hg]
      exact h aa bb dd ww oo
    · refine sy_ofStem hP hD g hT (fun a b d w2 o2 _ => ?_)
      have hm : sp_c P (s * 121) ≤ sp_c P ((s + 1) * 121) := sp_c_mn (by omega)
      have e : nI (sp_c P (s * 121)) + nI (sp_c P ((s + 1) * 121) - sp_c P (s * 121)) = nI (sp_c P ((s + 1) * 121)) := by
        rw [nI_add]; exact congrArg nI (by omega)
      exact nm_r e (nm_r (nI_1 s) (ih (s + 1) a b d w2 o2 (by omega) (by omega)))
theorem sy_derivations {post : Int32 → SY → Prop} {R S T : Nat} {L SL : Nat → Nat} {P : Nat → Prop} (hP : P = sp_P R S L SL rf sx cx pt fg sl bu T) (hD : sp_DY R S L SL pl pt zl) (hT : T ≤ 12)
    (h : ∀ a b d ww oo, post (nI (sp_c P 1452)) (nI T, nI R, nI S, a, b, d, bu, kp, kl, rf, sx, cx, pt, pl, fg, zl, sl, ww, oo)) : wpY_derivations post (nI T, nI R, nI S, ws, zS, zP, bu, kp, kl, rf, sx, cx, pt, pl, fg, zl, sl, yw, yo) :=
  ⟨S + 1, sy_de4 hP hD hT h (S + 1) 0 ws zS zP yw yo (by omega) (by omega)⟩
theorem sy_fi16 {post : Int32 → SY → Prop} {R S T j : Nat} {L SL : Nat → Nat} {P : Nat → Prop} (hP : P = sp_P R S L SL rf sx cx pt fg sl bu T) (hD : sp_DY R S L SL pl pt zl) (hT : T ≤ 12) (hj : j < 2 ^ 31)
    (h1 : ∀ c, P c → sp_c P c = j → ∀ a ww oo, post (nI (c / 11 / 11)) (nI T, nI R, nI S, a, sp_F (c / 11 % 11), sp_F (c % 11), bu, kp, kl, rf, sx, cx, pt, pl, fg, zl, sl, ww, oo))
    (h0 : sp_c P 1452 ≤ j → ∀ a b d ww oo, post (-6) (nI T, nI R, nI S, a, b, d, bu, kp, kl, rf, sx, cx, pt, pl, fg, zl, sl, ww, oo)) :
    ∀ n s (ws zS zP : Int32) (yw yo : Nat → Int32), s ≤ S → S - s < n → sp_c P (s * 121) ≤ j → wY_find_16 post (nI j) n (nI (sp_c P (s * 121))) (nI s) (nI T) (nI R) (nI S) ws zS zP bu kp kl rf sx cx pt pl fg zl sl yw yo := by
  have hS12 := hD.2.1
  intro n
  induction n with
  | zero => intro s _ _ _ _ _ _ h; omega
  | succ n ih =>
    intro s aa bb dd ww oo hs hn hB
    have hcl := sp_c_le P (s * 121)
    have hcl2 := sp_c_le P ((s + 1) * 121)
    refine pk_le S s (fun g => ?_) (fun g => ?_)
    · have hsS : s = S := by omega
      subst hsS
      have hg := sp_c_gap (P := P) (a := s * 121) (b := 1452) (by omega) (fun c g1 _ hp => by
        rw [hP] at hp
        have h1 : c / 11 / 11 < s := hp.1
        omega)
      exact h0 (by omega) aa bb dd ww oo
    · refine br_t (nI_le hB hj) ?_
      rw [pk_sub hB]
      refine sy_ofStem hP hD g hT (fun a b d w2 o2 hF => ?_)
      have hm : sp_c P (s * 121) ≤ sp_c P ((s + 1) * 121) := sp_c_mn (by omega)
      have e : nI (sp_c P (s * 121)) + nI (sp_c P ((s + 1) * 121) - sp_c P (s * 121)) = nI (sp_c P ((s + 1) * 121)) := by
        rw [nI_add]; exact congrArg nI (by omega)
      refine br_f (nI_nlt hB hj) ?_
      rw [e]
      refine pk_le (sp_c P ((s + 1) * 121)) j (fun g2 => nm_e (nm_r (nI_1 s) (ih (s + 1) a b d w2 o2 (by omega) (by omega) g2))) (fun g2 => ?_)
      obtain ⟨c, k1, k2, k3⟩ := sp_c_ex _ j g2
      have k4 : s * 121 ≤ c := by
        by_cases hh : s * 121 ≤ c
        · exact hh
        · have := sp_c_lt (b := s * 121) k2 (by omega)
          omega
      obtain ⟨f1, f2⟩ := hF c k4 k1 k2 (by rw [k3])
      have k5 : c / 11 / 11 = s := by omega
      have := h1 c k2 k3 a w2 o2
      rw [k5, ← f1, ← f2] at this
      exact this
theorem sy_find {post : Int32 → SY → Prop} {R S T j : Nat} {L SL : Nat → Nat} {P : Nat → Prop} (hP : P = sp_P R S L SL rf sx cx pt fg sl bu T) (hD : sp_DY R S L SL pl pt zl) (hT : T ≤ 12) (hj : j < 2 ^ 31)
    (h1 : ∀ c, P c → sp_c P c = j → ∀ a ww oo, post (nI (c / 11 / 11)) (nI T, nI R, nI S, a, sp_F (c / 11 % 11), sp_F (c % 11), bu, kp, kl, rf, sx, cx, pt, pl, fg, zl, sl, ww, oo))
    (h0 : sp_c P 1452 ≤ j → ∀ a b d ww oo, post (-6) (nI T, nI R, nI S, a, b, d, bu, kp, kl, rf, sx, cx, pt, pl, fg, zl, sl, ww, oo)) : wpY_find post (nI T, nI R, nI S, ws, zS, zP, bu, kp, kl, rf, sx, cx, pt, pl, fg, zl, sl, yw, yo) (nI j) :=
  ⟨S + 1, sy_fi16 hP hD hT hj h1 h0 (S + 1) 0 ws (-6) (-6) yw yo (by omega) (by omega) (Nat.zero_le _)⟩
theorem sy_fn16 {post : Int32 → SY → Prop} {S : Nat} {x : Int32} (hx : x < 0) (hS : S ≤ 12) (h : post (-6) (sz, ru, nI S, ws, zS, zP, bu, kp, kl, rf, sx, cx, pt, pl, fg, zl, sl, yw, yo)) :
    ∀ n s, s ≤ S → S - s < n → wY_find_16 post x n 0 (nI s) sz ru (nI S) ws zS zP bu kp kl rf sx cx pt pl fg zl sl yw yo := by
  intro n
  induction n with
  | zero => intro s _ h; omega
  | succ n ih =>
    intro s hs hn
    refine pk_le S s (fun g => h) (fun g => br_f (fun z => absurd hx (Int32.not_lt.mpr z)) (br_t hx (nm_r (e' := 0) (by decide) (nm_r (nI_1 s) (ih (s + 1) (by omega) (by omega))))))
theorem sy_findn {post : Int32 → SY → Prop} {S : Nat} {x : Int32} (hx : x < 0) (hS : S ≤ 12) (h : ∀ a b d ww oo, post (-6) (sz, ru, nI S, a, b, d, bu, kp, kl, rf, sx, cx, pt, pl, fg, zl, sl, ww, oo)) : wpY_find post (sz, ru, nI S, ws, zS, zP, bu, kp, kl, rf, sx, cx, pt, pl, fg, zl, sl, yw, yo) x :=
  ⟨S + 1, sy_fn16 hx hS (h _ _ _ _ _) (S + 1) 0 (by omega) (by omega)⟩
end
end
section
/-! the relation -/
def sp_BU (T : Nat) (ty bu : Nat → Int32) : Prop := T ≤ 12 ∧ ∀ i, i < T → (sp_ltr (ty i) ∨ ty i = 9) ∧ bu i = ty i
def sp_KE (KL : Nat → Nat) (kl kp : Nat → Int32) : Prop := (∀ j, kl j = nI (KL j) ∧ KL j ≤ 3) ∧ (∀ i, i < KL 0 → sp_ltr (kp i)) ∧ ∀ i, i < KL 1 → sp_ltr (kp (3 + i))
def sp_I (T R S N : Nat) (KL L SL C e gl : Nat → Nat) (gp : Nat → Nat → Int32) (ty kl kp pl pt ch fs ns bu zl sl : Nat → Int32) : Prop :=
  sp_BU T ty bu ∧ sp_KE KL kl kp ∧ sp_DX R S N L SL C e gl gp pl pt ch fs ns sl ∧ ∀ j, zl j = nI (SL j)
def sp_Rel (tl ru st nd : Int32) (ty kl kp rf sx cx pl pt fg ch fs ns : Nat → Int32) (sz yru yst : Int32) (bu ykp ykl yrf ysx ycx ypt ypl yfg zl sl : Nat → Int32) : Prop :=
  ∃ (T R S N : Nat) (KL L SL C e gl : Nat → Nat) (gp : Nat → Nat → Int32), (tl = nI T ∧ ru = nI R ∧ st = nI S ∧ nd = nI N ∧ sz = nI T ∧ yru = nI R ∧ yst = nI S) ∧ (ykp = kp ∧ ykl = kl ∧ yrf = rf ∧ ysx = sx ∧ ycx = cx ∧ ypt = pt ∧ ypl = pl ∧ yfg = fg) ∧ sp_I T R S N KL L SL C e gl gp ty kl kp pl pt ch fs ns bu zl sl
def i_Rel (k : Nat) (u : SX) (v : SY) : Prop :=
  match u, v with
  | (tl, ru, st, nd, wl, il, cl, fo, ty, kl, kp, rf, sx, cx, pl, pt, fg, ch, fs, ns, wd, nn, co, li), (sz, yru, yst, ws, zS, zP, bu, ykp, ykl, yrf, ysx, ycx, ypt, ypl, yfg, zl, sl, yw, yo) => sp_Rel tl ru st nd ty kl kp rf sx cx pl pt fg ch fs ns sz yru yst bu ykp ykl yrf ysx ycx ypt ypl yfg zl sl
theorem i_up {k : Nat} {u : SX} {v : SY} (h : i_Rel k u v) : i_Rel (k + 4) u v := h
theorem zz_el {k : Nat} {u : SX} {v : SY} {Pr : SX → SY → Prop}
    (h : ∀ (T R S N : Nat) (KL L SL C e gl : Nat → Nat) (gp : Nat → Nat → Int32) (wl il cl fo ws zS zP : Int32) (ty kl kp rf sx cx pl pt fg ch fs ns wd nn co li bu zl sl yw yo : Nat → Int32), sp_I T R S N KL L SL C e gl gp ty kl kp pl pt ch fs ns bu zl sl → Pr (nI T, nI R, nI S, nI N, wl, il, cl, fo, ty, kl, kp, rf, sx, cx, pl, pt, fg, ch, fs, ns, wd, nn, co, li) (nI T, nI R, nI S, ws, zS, zP, bu, kp, kl, rf, sx, cx, pt, pl, fg, zl, sl, yw, yo))
    (I : i_Rel k u v) : Pr u v := by
  obtain ⟨tl, ru, st, nd, wl, il, cl, fo, ty, kl, kp, rf, sx, cx, pl, pt, fg, ch, fs, ns, wd, nn, co, li⟩ := u
  obtain ⟨sz, yru, yst, ws, zS, zP, bu, ykp, ykl, yrf, ysx, ycx, ypt, ypl, yfg, zl, sl, yw, yo⟩ := v
  obtain ⟨T, R, S, N, KL, L, SL, C, e, gl, gp, ⟨h1, h2, h3, h4, h5, h6, h7⟩, ⟨g1, g2, g3, g4, g5, g6, g7, g8⟩, hI⟩ := I
  subst h1 h2 h3 h4 h5 h6 h7 g1 g2 g3 g4 g5 g6 g7 g8
  exact h T R S N KL L SL C e gl gp wl il cl fo ws zS zP _ _ _ _ _ _ _ _ _ _ _ _ _ _ _ _ _ _ _ _ _ hI
section
variable {tl ru st nd wl il cl fo : Int32} {ty kl kp rf sx cx pl pt fg ch fs ns wd nn co li : Nat → Int32}
variable {ws zS zP : Int32} {bu zl sl yw yo : Nat → Int32} {KL L SL C e gl : Nat → Nat} {gp : Nat → Nat → Int32}
theorem zz_in {k : Nat} (T R S N : Nat) (hI : sp_I T R S N KL L SL C e gl gp ty kl kp pl pt ch fs ns bu zl sl) : i_Rel k (nI T, nI R, nI S, nI N, wl, il, cl, fo, ty, kl, kp, rf, sx, cx, pl, pt, fg, ch, fs, ns, wd, nn, co, li) (nI T, nI R, nI S, ws, zS, zP, bu, kp, kl, rf, sx, cx, pt, pl, fg, zl, sl, yw, yo) :=
  ⟨T, R, S, N, KL, L, SL, C, e, gl, gp, ⟨rfl, rfl, rfl, rfl, rfl, rfl, rfl⟩, ⟨rfl, rfl, rfl, rfl, rfl, rfl, rfl, rfl⟩, hI⟩
theorem zz_g {k : Nat} {sz : Int32} (T R S N : Nat) (e1 : tl = nI T) (e2 : ru = nI R) (e3 : st = nI S) (e4 : nd = nI N) (e5 : sz = nI T) (hI : sp_I T R S N KL L SL C e gl gp ty kl kp pl pt ch fs ns bu zl sl) : i_Rel k (tl, ru, st, nd, wl, il, cl, fo, ty, kl, kp, rf, sx, cx, pl, pt, fg, ch, fs, ns, wd, nn, co, li) (sz, ru, st, ws, zS, zP, bu, kp, kl, rf, sx, cx, pt, pl, fg, zl, sl, yw, yo) :=
  ⟨T, R, S, N, KL, L, SL, C, e, gl, gp, ⟨e1, e2, e3, e4, e5, e2, e3⟩, ⟨rfl, rfl, rfl, rfl, rfl, rfl, rfl, rfl⟩, hI⟩
end
theorem i_vc0 : wpX_init (fun u => wpY_init (fun v => i_Rel 0 u v)) := by
  intro fs hfs
  show i_Rel 0 (0, 0, 0, 1, 0, 0, 0, 0, fun _ => 0, fun _ => 0, fun _ => 0, fun _ => 0, fun _ => 0, fun _ => 0, fun _ => 0, fun _ => 0, fun _ => 0, fun _ => 0, fs, fun _ => 0, fun _ => 0, fun _ => 0, fun _ => 0, fun _ => 0) (0, 0, 0, 0, 0, 0, fun _ => 0, fun _ => 0, fun _ => 0, fun _ => 0, fun _ => 0, fun _ => 0, fun _ => 0, fun _ => 0, fun _ => 0, fun _ => 0, fun _ => 0, fun _ => 0, fun _ => 0)
  refine zz_g (KL := fun _ => 0) (L := fun _ => 0) (SL := fun _ => 0) (C := fun _ => 0) (e := fun _ => 0) (gl := fun _ => 0) (gp := fun _ _ => 0) 0 0 0 1 nI_0.symm nI_0.symm nI_0.symm rfl nI_0.symm ?_
  subst hfs
  refine ⟨⟨by omega, fun i hi => absurd hi (Nat.not_lt_zero i)⟩, ⟨fun j => ⟨nI_0.symm, Nat.zero_le 3⟩, fun i hi => absurd hi (Nat.not_lt_zero i), fun i hi => absurd hi (Nat.not_lt_zero i)⟩, ⟨⟨Nat.zero_le 10, fun j => ⟨nI_0.symm, Nat.zero_le 3⟩, fun r hr => absurd hr (Nat.not_lt_zero r), fun r hr => absurd hr (Nat.not_lt_zero r)⟩, ⟨Nat.zero_le 12, Nat.le_refl 1⟩, fun j => nI_0.symm, ⟨⟨Nat.le_refl 1, rfl⟩, fun j => Nat.zero_lt_one, fun j _ => rfl, fun v l _ _ z => absurd rfl z⟩, fun s hs => absurd hs (Nat.not_lt_zero s), ⟨fun v hv => ?_, fun s hs => absurd hs (Nat.not_lt_zero s)⟩⟩, fun j => nI_0.symm⟩
  have hv0 : v = 0 := by omega
  subst hv0
  exact Or.inr ⟨fun j _ hj => absurd hj (Nat.not_lt_zero j), pk_us⟩
/-- a letter from the script -/
theorem sp_let {x : Int32} (h1 : ¬ x < 1) (h9 : x ≤ 9) : sp_ltr x ∨ x = 9 := by
  have h1' : (1 : Int32) ≤ x := Int32.not_lt.mp h1
  rcases pk_ix x (n := 10) (by omega) with h | h | ⟨j, hj, rfl⟩
  · exact absurd (Int32.lt_of_le_of_lt h1' h) (by decide)
  · have : nI 10 ≤ nI 9 := Int32.le_trans h h9
    rw [nI_leI (by omega) (by omega)] at this
    omega
  · have h2 : nI 1 ≤ nI j := h1'
    rw [nI_leI (by omega) (by omega)] at h2
    by_cases hj9 : j = 9
    · subst hj9; exact Or.inr rfl
    · exact Or.inl ⟨j - 1, by omega, congrArg nI (by omega)⟩
theorem i_vc_type {k : Nat} {u : SX} {v : SY} (I : i_Rel k u v) (hk : k + 4 ≤ 2048) (v1 : Int32) : wpX_type (fun r u' => wpY_type (fun r' v' => r' = r ∧ i_Rel (k + 4) u' v') v v1) u v1 := by
  refine zz_el (Pr := fun u v => wpX_type (fun r u' => wpY_type (fun r' v' => r' = r ∧ i_Rel (k + 4) u' v') v v1) u v1) ?_ I
  intro T R S N KL L SL C e gl gp wl il cl fo ws zS zP ty kl kp rf sx cx pl pt fg ch fs ns wd nn co li bu zl sl yw yo hI
  have hT := hI.1.1
  by_cases h1 : v1 < 1
  · exact br_t h1 (br_t h1 ⟨rfl, zz_in T R S N hI⟩)
  · by_cases h9 : v1 ≤ 9
    · refine br_f h1 (br_t h9 ?_)
      by_cases hT12 : T < 12
      · have cT := nI_clamp (n := T) (by omega)
        refine br_t (nI_lt (b := 12) hT12 (by omega)) ⟨vp_in_nI hT12 (by omega), nm_e (nm_r (nI_1 T) (br_f h1 (br_t h9 (br_f ?_ ⟨vp_in_nI hT12 (by omega), nm_e (nm_r (nI_1 T) ⟨rfl, ?_⟩)⟩))))⟩
        · intro z
          have z2 : nI T = nI 12 := z
          rw [nI_eq (by omega) (by omega)] at z2
          omega
        · refine zz_in (T + 1) R S N ⟨⟨by omega, fun i hi => ?_⟩, hI.2⟩
          rw [cT]
          by_cases hiT : i = T
          · subst hiT; rw [pk_us, pk_us]; exact ⟨sp_let h1 h9, rfl⟩
          · rw [pk_un hiT, pk_un hiT]; exact hI.1.2 i (by omega)
      · have hT2 : T = 12 := by omega
        subst hT2
        exact br_f (nI_nlt (b := 12) (by omega) (by omega)) (br_f h1 (br_t h9 (br_t rfl ⟨rfl, zz_in 12 R S N hI⟩)))
    · exact br_f h1 (br_f h9 (br_f h1 (br_f h9 ⟨rfl, zz_in T R S N hI⟩)))
theorem i_vc_erase {k : Nat} {u : SX} {v : SY} (I : i_Rel k u v) (hk : k + 4 ≤ 2048) : wpX_erase (fun u' => wpY_erase (fun v' => i_Rel (k + 4) u' v') v) u := by
  refine zz_el (Pr := fun u v => wpX_erase (fun u' => wpY_erase (fun v' => i_Rel (k + 4) u' v') v) u) ?_ I
  intro T R S N KL L SL C e gl gp wl il cl fo ws zS zP ty kl kp rf sx cx pl pt fg ch fs ns wd nn co li bu zl sl yw yo hI
  show i_Rel (k + 4) (0, nI R, nI S, nI N, wl, il, cl, fo, ty, kl, kp, rf, sx, cx, pl, pt, fg, ch, fs, ns, wd, nn, co, li) (0, nI R, nI S, ws, zS, zP, bu, kp, kl, rf, sx, cx, pt, pl, fg, zl, sl, yw, yo)
  exact zz_g 0 R S N nI_0.symm rfl rfl rfl nI_0.symm ⟨⟨by omega, fun i hi => absurd hi (Nat.not_lt_zero i)⟩, hI.2⟩
theorem i_vc_length {k : Nat} {u : SX} {v : SY} (I : i_Rel k u v) (hk : k + 4 ≤ 2048) : wpX_length (fun r => wpY_length (fun r' => r' = r ∧ i_Rel (k + 4) u v) v) u := by
  have I2 := I
  revert I2
  refine zz_el (Pr := fun u v => i_Rel k u v → wpX_length (fun r => wpY_length (fun r' => r' = r ∧ i_Rel (k + 4) u v) v) u) ?_ I
  intro T R S N KL L SL C e gl gp wl il cl fo ws zS zP ty kl kp rf sx cx pl pt fg ch fs ns wd nn co li bu zl sl yw yo hI I2
  exact ⟨rfl, I2⟩
theorem i_vc_reflag {k : Nat} {u : SX} {v : SY} (I : i_Rel k u v) (hk : k + 4 ≤ 2048) (v1 : Int32) (v2 : Int32) : wpX_reflag (fun r u' => wpY_reflag (fun r' v' => r' = r ∧ i_Rel (k + 4) u' v') v v1 v2) u v1 v2 := by
  refine zz_el (Pr := fun u v => wpX_reflag (fun r u' => wpY_reflag (fun r' v' => r' = r ∧ i_Rel (k + 4) u' v') v v1 v2) u v1 v2) ?_ I
  intro T R S N KL L SL C e gl gp wl il cl fo ws zS zP ty kl kp rf sx cx pl pt fg ch fs ns wd nn co li bu zl sl yw yo hI
  have hS := hI.2.2.1.2.1.1
  by_cases h0 : v1 < 0
  · exact br_t h0 (br_t h0 ⟨rfl, zz_in T R S N hI⟩)
  · obtain ⟨s, hs, rfl⟩ := nI_of h0
    by_cases hsS : s < S
    · have hlt : nI s < nI S := nI_lt hsS (by omega)
      have hin : vp_in (nI s) 12 := vp_in_nI (by omega) (by omega)
      exact br_f h0 (br_t hlt ⟨hin, nm_e ⟨hin, nm_e (br_f h0 (br_t hlt ⟨hin, nm_e ⟨hin, nm_e ⟨rfl, zz_in T R S N hI⟩⟩⟩))⟩⟩)
    · have hlt : ¬ nI s < nI S := nI_nlt (by omega) (by omega)
      exact br_f h0 (br_f hlt (br_f h0 (br_f hlt ⟨rfl, zz_in T R S N hI⟩)))
end
section
/-! keep and rule -/
def sp_cp (f : Nat → Int32) (o : Nat) (g : Nat → Int32) : Nat → Nat → Int32
  | 0 => f
  | i + 1 => upd (sp_cp f o g i) (o + i) (g i)
theorem sp_cp0 (f : Nat → Int32) (o : Nat) (g : Nat → Int32) : sp_cp f o g 0 = f := rfl
theorem sp_cps (f : Nat → Int32) (o : Nat) (g : Nat → Int32) (i : Nat) : sp_cp f o g (i + 1) = upd (sp_cp f o g i) (o + i) (g i) := rfl
theorem sp_cp_in {f : Nat → Int32} {o : Nat} {g : Nat → Int32} : ∀ n j, j < n → sp_cp f o g n (o + j) = g j := by
  intro n
  induction n with
  | zero => intro j h; omega
  | succ n ih =>
    intro j hj
    rw [sp_cps]
    by_cases h : j = n
    · subst h; exact pk_us
    · rw [pk_un (by omega)]; exact ih j (by omega)
theorem sp_cp_out {f : Nat → Int32} {o : Nat} {g : Nat → Int32} : ∀ n j, j < o ∨ o + n ≤ j → sp_cp f o g n j = f j := by
  intro n
  induction n with
  | zero => intro j _; rfl
  | succ n ih =>
    intro j hj
    rw [sp_cps, pk_un (by omega)]; exact ih j (by omega)
theorem sp_cp_cg {f : Nat → Int32} {o : Nat} {g h : Nat → Int32} : ∀ n, (∀ i, i < n → g i = h i) → sp_cp f o g n = sp_cp f o h n := by
  intro n
  induction n with
  | zero => intro _; rfl
  | succ n ih =>
    intro hh
    rw [sp_cps, sp_cps, ih (fun i hi => hh i (by omega)), hh n (by omega)]
section
variable {tl ru st nd wl il cl fo : Int32} {ty kl kp rf sx cx pl pt fg ch fs ns wd nn co li : Nat → Int32}
theorem sx_k49 {post : Int32 → SX → Prop} {T p : Nat} (hT : T ≤ 3) (hp : p < 3) (h : post (kl p) (0, ru, st, nd, wl, il, cl, fo, ty, kl, sp_cp kp (p * 3) ty T, rf, sx, cx, pl, pt, fg, ch, fs, ns, wd, nn, co, li)) :
    ∀ n i, i ≤ T → T - i < n → wX_keep_49 post (nI p) (nI T) ru st nd wl il cl fo n (nI i) ty kl (sp_cp kp (p * 3) ty i) rf sx cx pl pt fg ch fs ns wd nn co li := by
  intro n
  induction n with
  | zero => intro i _ h; omega
  | succ n ih =>
    intro i hi hn
    have ci := nI_clamp (n := i) (by omega)
    have cp := nI_clamp (n := p) (by omega)
    have e : nI p * 3 + nI i = nI (p * 3 + i) := by rw [sp_m3, nI_add]
    have ce := nI_clamp (n := p * 3 + i) (by omega)
    refine pk_le T i (fun g => ?_) (fun g => ?_)
    · have hiT : i = T := by omega
      subst hiT
      rw [cp]
      exact ⟨vp_in_nI (by omega) (by omega), h⟩
    · rw [e, ce, ci]
      exact ⟨vp_in_nI (by omega) (by omega), vp_in_nI (by omega) (by omega), nm_e (nm_r (nI_1 i) (ih (i + 1) (by omega) (by omega)))⟩
theorem sx_k37 {post : Int32 → SX → Prop} {T p : Nat} (hT : T ≤ 3) (hp : p < 3) (h : post (nI T) (0, ru, st, nd, wl, il, cl, fo, ty, upd kl p (nI T), sp_cp kp (p * 3) ty T, rf, sx, cx, pl, pt, fg, ch, fs, ns, wd, nn, co, li)) : wX_keep_37 post (nI p) (nI T) ru st nd wl il cl fo ty kl kp rf sx cx pl pt fg ch fs ns wd nn co li := by
  have cp := nI_clamp (n := p) (by omega)
  refine And.intro (vp_in_nI hp (by omega)) (nm_r (e' := upd kl p (nI T)) (by rw [cp]) ⟨T + 1, sx_k49 hT hp ?_ (T + 1) 0 (by omega) (by omega)⟩)
  rw [pk_us]; exact h
theorem sx_r92 {post : Int32 → SX → Prop} {R : Nat} (hR : R < 10) (h : post (nI R) (tl, nI (R + 1), st, nd, wl, il, cl, fo, ty, kl, kp, rf, sx, cx, pl, sp_cp pt (R * 9) kp 9, fg, ch, fs, ns, wd, nn, co, li)) :
    ∀ n i, i ≤ 9 → 9 - i < n → wX_rule_92 post (nI R) tl (nI R) st nd wl il cl fo n (nI i) ty kl kp rf sx cx pl (sp_cp pt (R * 9) kp i) fg ch fs ns wd nn co li := by
  intro n
  induction n with
  | zero => intro i _ h; omega
  | succ n ih =>
    intro i hi hn
    have ci := nI_clamp (n := i) (by omega)
    have e : nI R * 9 + nI i = nI (R * 9 + i) := by rw [sp_m9, nI_add]
    have ce := nI_clamp (n := R * 9 + i) (by omega)
    refine pk_le 9 i (fun g => ?_) (fun g => ?_)
    · have hi9 : i = 9 := by omega
      subst hi9
      exact nm_r (nI_1 R) h
    · rw [e, ce, ci]
      exact ⟨vp_in_nI (by omega) (by omega), vp_in_nI (by omega) (by omega), nm_e (nm_r (nI_1 i) (ih (i + 1) (by omega) (by omega)))⟩
theorem sx_r58 {post : Int32 → SX → Prop} {R : Nat} (hR : R < 10) (h : ∃ n, wX_rule_92 post (nI R) tl (nI R) st nd wl il cl fo n 0 ty kl kp rf sx cx (sp_cp pl (R * 3) kl 3) pt fg ch fs ns wd nn co li) :
    ∀ n i, i ≤ 3 → 3 - i < n → wX_rule_58 post (nI R) tl (nI R) st nd wl il cl fo n (nI i) ty kl kp rf sx cx (sp_cp pl (R * 3) kl i) pt fg ch fs ns wd nn co li := by
  intro n
  induction n with
  | zero => intro i _ h; omega
  | succ n ih =>
    intro i hi hn
    have ci := nI_clamp (n := i) (by omega)
    have e : nI R * 3 + nI i = nI (R * 3 + i) := by rw [sp_m3, nI_add]
    have ce := nI_clamp (n := R * 3 + i) (by omega)
    refine pk_le 3 i (fun g => ?_) (fun g => ?_)
    · have hi9 : i = 3 := by omega
      subst hi9
      exact h
    · rw [e, ce, ci]
      exact ⟨vp_in_nI (by omega) (by omega), vp_in_nI (by omega) (by omega), nm_e (nm_r (nI_1 i) (ih (i + 1) (by omega) (by omega)))⟩
end
section
variable {sz ru st ws zS zP : Int32} {bu kp kl rf sx cx pt pl fg zl sl yw yo : Nat → Int32}
theorem sy_k37 {post : Int32 → SY → Prop} {T p : Nat} (hT : T ≤ 3) (hp : p < 3) (h : post (nI T) (0, ru, st, ws, zS, zP, bu, sp_cp kp (p * 3) bu T, upd kl p (nI T), rf, sx, cx, pt, pl, fg, zl, sl, yw, yo)) :
    ∀ n i, i ≤ T → T - i < n → wY_keep_37 post (nI p) (nI T) ru st ws zS zP n (nI i) bu (sp_cp kp (p * 3) bu i) kl rf sx cx pt pl fg zl sl yw yo := by
  intro n
  induction n with
  | zero => intro i _ h; omega
  | succ n ih =>
    intro i hi hn
    have ci := nI_clamp (n := i) (by omega)
    have cp := nI_clamp (n := p) (by omega)
    have e : nI p * 3 + nI i = nI (p * 3 + i) := by rw [sp_m3, nI_add]
    have ce := nI_clamp (n := p * 3 + i) (by omega)
    refine pk_le T i (fun g => ?_) (fun g => ?_)
    · have hiT : i = T := by omega
      subst hiT
      rw [cp]
      refine ⟨vp_in_nI (by omega) (by omega), nm_e ⟨vp_in_nI (by omega) (by omega), ?_⟩⟩
      rw [pk_us]; exact h
    · rw [e, ce, ci]
      exact ⟨vp_in_nI (by omega) (by omega), vp_in_nI (by omega) (by omega), nm_e (nm_r (nI_1 i) (ih (i + 1) (by omega) (by omega)))⟩
theorem sy_r96 {post : Int32 → SY → Prop} {R : Nat} (hR : R < 10) (h : post (nI R) (sz, nI (R + 1), st, ws, zS, zP, bu, kp, kl, rf, sx, cx, pt, sp_cp pl (R * 3) kl 3, fg, zl, sl, yw, yo)) :
    ∀ n i, i ≤ 3 → 3 - i < n → wY_rule_96 post sz (nI R) st ws zS zP n (nI i) bu kp kl rf sx cx pt (sp_cp pl (R * 3) kl i) fg zl sl yw yo := by
  intro n
  induction n with
  | zero => intro i _ h; omega
  | succ n ih =>
    intro i hi hn
    have ci := nI_clamp (n := i) (by omega)
    have e : nI R * 3 + nI i = nI (R * 3 + i) := by rw [sp_m3, nI_add]
    have ce := nI_clamp (n := R * 3 + i) (by omega)
    refine pk_le 3 i (fun g => ?_) (fun g => ?_)
    · have hi9 : i = 3 := by omega
      subst hi9
      refine nm_r (nI_1 R) ?_
      rw [nI_pred]; exact h
    · rw [e, ce, ci]
      exact ⟨vp_in_nI (by omega) (by omega), vp_in_nI (by omega) (by omega), nm_e (nm_r (nI_1 i) (ih (i + 1) (by omega) (by omega)))⟩
theorem sy_r58 {post : Int32 → SY → Prop} {R : Nat} (hR : R < 10) (h : ∃ n, wY_rule_96 post sz (nI R) st ws zS zP n 0 bu kp kl rf sx cx (sp_cp pt (R * 9) kp 9) pl fg zl sl yw yo) :
    ∀ n i, i ≤ 9 → 9 - i < n → wY_rule_58 post sz (nI R) st ws zS zP n (nI i) bu kp kl rf sx cx (sp_cp pt (R * 9) kp i) pl fg zl sl yw yo := by
  intro n
  induction n with
  | zero => intro i _ h; omega
  | succ n ih =>
    intro i hi hn
    have ci := nI_clamp (n := i) (by omega)
    have e : nI R * 9 + nI i = nI (R * 9 + i) := by rw [sp_m9, nI_add]
    have ce := nI_clamp (n := R * 9 + i) (by omega)
    refine pk_le 9 i (fun g => ?_) (fun g => ?_)
    · have hi9 : i = 9 := by omega
      subst hi9
      exact h
    · rw [e, ce, ci]
      exact ⟨vp_in_nI (by omega) (by omega), vp_in_nI (by omega) (by omega), nm_e (nm_r (nI_1 i) (ih (i + 1) (by omega) (by omega)))⟩
end
theorem sp_KE_keep {KL : Nat → Nat} {kl kp ty : Nat → Int32} {T p : Nat} (h : sp_KE KL kl kp) (hT : T ≤ 3) (hp : p < 3) (hl : p = 2 ∨ ∀ i, i < T → sp_ltr (ty i)) : sp_KE (sp_u KL p T) (upd kl p (nI T)) (sp_cp kp (p * 3) ty T) := by
  obtain ⟨h1, h2, h3⟩ := h
  refine ⟨fun j => ⟨sp_u_nI (fun j => (h1 j).1) j, ?_⟩, fun i hi => ?_, fun i hi => ?_⟩
  · by_cases hj : j = p
    · subst hj; rw [sp_us]; exact hT
    · rw [sp_un hj]; exact (h1 j).2
  · by_cases hp0 : p = 0
    · subst hp0
      rw [sp_us] at hi
      have e := sp_cp_in (f := kp) (o := 0 * 3) (g := ty) T i hi
      rw [Nat.zero_mul, Nat.zero_add] at e
      rw [Nat.zero_mul, e]
      exact hl.elim (fun z => by omega) (fun z => z i hi)
    · rw [sp_un (by omega)] at hi
      have := (h1 0).2
      rw [sp_cp_out T i (by omega)]; exact h2 i hi
  · by_cases hp0 : p = 1
    · subst hp0
      rw [sp_us] at hi
      have e := sp_cp_in (f := kp) (o := 1 * 3) (g := ty) T i hi
      have e2 : 1 * 3 = 3 := rfl
      rw [e2] at e
      rw [e2, e]
      exact hl.elim (fun z => by omega) (fun z => z i hi)
    · rw [sp_un (by omega)] at hi
      have := (h1 1).2
      rw [sp_cp_out T (3 + i) (by omega)]; exact h3 i hi
theorem i_vc_keep {k : Nat} {u : SX} {v : SY} (I : i_Rel k u v) (hk : k + 4 ≤ 2048) (v1 : Int32) : wpX_keep (fun r u' => wpY_keep (fun r' v' => r' = r ∧ i_Rel (k + 4) u' v') v v1) u v1 := by
  refine zz_el (Pr := fun u v => wpX_keep (fun r u' => wpY_keep (fun r' v' => r' = r ∧ i_Rel (k + 4) u' v') v v1) u v1) ?_ I
  intro T R S N KL L SL C e gl gp wl il cl fo ws zS zP ty kl kp rf sx cx pl pt fg ch fs ns wd nn co li bu zl sl yw yo hI
  have hT := hI.1.1
  have hbu := hI.1.2
  by_cases h0 : v1 < 0
  · exact br_t h0 (br_t h0 ⟨rfl, zz_in T R S N hI⟩)
  · by_cases h2 : v1 ≤ 2
    · obtain ⟨p, hp, rfl⟩ := nI_of2 (M := 2) (n := 2) (by decide) h0 h2
      by_cases hT3 : 3 < T
      · have hlt : (3 : Int32) < nI T := nI_lt (a := 3) hT3 (by omega)
        exact br_f h0 (br_t h2 (sx_any hT (fun _ => br_t hlt (br_f h0 (br_t h2 (br_t hlt ⟨rfl, zz_in T R S N hI⟩)))) (fun _ => br_t hlt (br_f h0 (br_t h2 (br_t hlt ⟨rfl, zz_in T R S N hI⟩))))))
      · have hlt : ¬ (3 : Int32) < nI T := nI_nlt (b := T) (a := 3) (by omega) (by omega)
        have go : (p = 2 ∨ ∀ i, i < T → sp_ltr (ty i)) → i_Rel (k + 4) (0, nI R, nI S, nI N, wl, il, cl, fo, ty, upd kl p (nI T), sp_cp kp (p * 3) ty T, rf, sx, cx, pl, pt, fg, ch, fs, ns, wd, nn, co, li) (0, nI R, nI S, ws, zS, zP, bu, sp_cp kp (p * 3) bu T, upd kl p (nI T), rf, sx, cx, pt, pl, fg, zl, sl, yw, yo) := by
          intro hl
          rw [sp_cp_cg (g := bu) (h := ty) T (fun i hi => (hbu i hi).2)]
          exact zz_g 0 R S N nI_0.symm rfl rfl rfl nI_0.symm ⟨⟨by omega, fun i hi => absurd hi (Nat.not_lt_zero i)⟩, sp_KE_keep hI.2.1 (by omega) (by omega) hl, hI.2.2⟩
        by_cases hp2 : p = 2
        · subst hp2
          have fin : wX_keep_37 (fun r u' => wpY_keep (fun r' v' => r' = r ∧ i_Rel (k + 4) u' v') (nI T, nI R, nI S, ws, zS, zP, bu, kp, kl, rf, sx, cx, pt, pl, fg, zl, sl, yw, yo) (nI 2)) (nI 2) (nI T) (nI R) (nI S) (nI N) wl il cl fo ty kl kp rf sx cx pl pt fg ch fs ns wd nn co li := by
            refine sx_k37 (by omega) (by omega) (br_f h0 (br_t h2 (br_f hlt (br_t rfl ⟨T + 1, ?_⟩))))
            exact sy_k37 (by omega) (by omega) ⟨rfl, go (Or.inl rfl)⟩ (T + 1) 0 (by omega) (by omega)
          exact br_f h0 (br_t h2 (sx_any hT (fun _ => br_f hlt (br_f (by decide) (br_t rfl fin))) (fun _ => br_f hlt (br_t rfl fin))))
        · have hne : ¬ nI p = 2 := by
            intro z
            have z2 : nI p = nI 2 := z
            rw [nI_eq (by omega) (by omega)] at z2
            exact hp2 z2
          refine br_f h0 (br_t h2 (sx_any hT (fun g => br_f hlt (br_f (by decide) (br_f hne ?_))) (fun g => br_f hlt (br_t rfl ?_))))
          · refine br_f h0 (br_t h2 (br_f hlt (br_f hne (sy_nine hT (fun _ => br_f (by decide) ⟨rfl, zz_in T R S N hI⟩) (fun g2 => ?_)))))
            obtain ⟨j, hj, g9⟩ := g
            exact absurd ((hbu j hj).2.trans g9) (g2 j hj)
          · refine sx_k37 (by omega) (by omega) (br_f h0 (br_t h2 (br_f hlt (br_f hne (sy_nine hT (fun g2 => ?_) (fun _ => br_t rfl ⟨T + 1, ?_⟩))))))
            · obtain ⟨j, hj, g9⟩ := g2
              exact absurd ((hbu j hj).2.symm.trans g9) (g j hj)
            · exact sy_k37 (by omega) (by omega) ⟨rfl, go (Or.inr (fun i hi => (hbu i hi).1.elim id (fun z => absurd z (g i hi))))⟩ (T + 1) 0 (by omega) (by omega)
    · exact br_f h0 (br_f h2 (br_f h0 (br_f h2 ⟨rfl, zz_in T R S N hI⟩)))
def sp_L2 (L KL : Nat → Nat) (R : Nat) : Nat → Nat := fun j => if R * 3 ≤ j ∧ j < R * 3 + 3 then KL (j - R * 3) else L j
theorem sp_RU_rule {R : Nat} {L KL : Nat → Nat} {pl pt kl kp : Nat → Int32} (hR : R < 10) (h : sp_RU R L pl pt) (hK : sp_KE KL kl kp) : sp_RU (R + 1) (sp_L2 L KL R) (sp_cp pl (R * 3) kl 3) (sp_cp pt (R * 9) kp 9) := by
  obtain ⟨h1, h2, h3, h4⟩ := h
  obtain ⟨k1, k2, k3⟩ := hK
  have hin : ∀ p, p < 3 → sp_L2 L KL R (R * 3 + p) = KL p := by
    intro p hp
    unfold sp_L2
    rw [if_pos (by omega), Nat.add_sub_cancel_left]
  have hout : ∀ j, j < R * 3 ∨ R * 3 + 3 ≤ j → sp_L2 L KL R j = L j := by
    intro j hj
    unfold sp_L2
    rw [if_neg (by omega)]
  have hin0 := hin 0 (by omega)
  rw [Nat.add_zero] at hin0
  refine ⟨by omega, fun j => ?_, fun r hr i hi => ?_, fun r hr i hi => ?_⟩
  · by_cases hj : R * 3 ≤ j ∧ j < R * 3 + 3
    · have e : j = R * 3 + (j - R * 3) := by omega
      rw [e, sp_cp_in 3 (j - R * 3) (by omega), hin (j - R * 3) (by omega)]
      exact k1 _
    · rw [sp_cp_out 3 j (by omega), hout j (by omega)]; exact h2 j
  · by_cases hrR : r = R
    · subst hrR
      rw [hin0] at hi
      have := (k1 0).2
      rw [sp_cp_in 9 i (by omega)]; exact k2 i hi
    · rw [hout _ (by omega)] at hi
      have := (h2 (r * 3)).2
      rw [sp_cp_out 9 _ (by omega)]; exact h3 r (by omega) i hi
  · by_cases hrR : r = R
    · subst hrR
      rw [hin 1 (by omega)] at hi
      have := (k1 1).2
      rw [Nat.add_assoc, sp_cp_in 9 (3 + i) (by omega)]; exact k3 i hi
    · rw [hout _ (by omega)] at hi
      have := (h2 (r * 3 + 1)).2
      rw [sp_cp_out 9 _ (by omega)]; exact h4 r (by omega) i hi
theorem i_vc_rule {k : Nat} {u : SX} {v : SY} (I : i_Rel k u v) (hk : k + 4 ≤ 2048) (v1 : Int32) (v2 : Int32) (v3 : Int32) : wpX_rule (fun r u' => wpY_rule (fun r' v' => r' = r ∧ i_Rel (k + 4) u' v') v v1 (lw_bz v2) (lw_bz v3)) u v1 (lw_bz v2) (lw_bz v3) := by
  refine zz_el (Pr := fun u v => wpX_rule (fun r u' => wpY_rule (fun r' v' => r' = r ∧ i_Rel (k + 4) u' v') v v1 (lw_bz v2) (lw_bz v3)) u v1 (lw_bz v2) (lw_bz v3)) ?_ I
  intro T R S N KL L SL C e gl gp wl il cl fo ws zS zP ty kl kp rf sx cx pl pt fg ch fs ns wd nn co li bu zl sl yw yo hI
  have hR := hI.2.2.1.1.1
  by_cases h0 : v1 < 0
  · exact br_t h0 (br_t h0 ⟨rfl, zz_in T R S N hI⟩)
  · by_cases h7 : v1 ≤ 7
    · by_cases hR10 : R < 10
      · have hlt : nI R < 10 := nI_lt (b := 10) hR10 (by omega)
        have hne : ¬ nI R = 10 := by
          intro z
          have z2 : nI R = nI 10 := z
          rw [nI_eq (by omega) (by omega)] at z2
          omega
        have hin : vp_in (nI R) 10 := vp_in_nI hR10 (by omega)
        have cR := nI_clamp (n := R) (by omega)
        refine br_f h0 (br_t h7 (br_t hlt ⟨hin, nm_e ⟨hin, nm_e ⟨hin, nm_e ⟨4, sx_r58 hR10 ⟨10, sx_r92 hR10 ?_ 10 0 (by omega) (by omega)⟩ 4 0 (by omega) (by omega)⟩⟩⟩⟩))
        refine br_f h0 (br_t h7 (br_f hne ⟨hin, nm_e ⟨hin, nm_e ⟨hin, nm_e ⟨10, sy_r58 hR10 ⟨4, sy_r96 hR10 ?_ 4 0 (by omega) (by omega)⟩ 10 0 (by omega) (by omega)⟩⟩⟩⟩))
        refine ⟨rfl, zz_in T (R + 1) S N ⟨hI.1, hI.2.1, ⟨sp_RU_rule hR10 hI.2.2.1.1 hI.2.1, hI.2.2.1.2⟩, hI.2.2.2⟩⟩
      · have hR2 : R = 10 := by omega
        subst hR2
        exact br_f h0 (br_t h7 (br_f (nI_nlt (b := 10) (by omega) (by omega)) (br_f h0 (br_t h7 (br_t rfl ⟨rfl, zz_in T 10 S N hI⟩)))))
    · exact br_f h0 (br_f h7 (br_f h0 (br_f h7 ⟨rfl, zz_in T R S N hI⟩)))
end
section
/-! stem -/
section
variable {tl ru st nd wl il cl fo : Int32} {ty kl kp rf sx cx pl pt fg ch fs ns wd nn co li : Nat → Int32}
theorem sx_childOf {post : Int32 → SX → Prop} {v l N : Nat} {C : Nat → Nat} (hv : v < N) (hN : N ≤ 144) (hl : l < 8) (hC : ∀ j, C j < N) (hch : ∀ j, ch j = nI (C j))
    (h1 : C (v * 8 + l) ≠ 0 → post (nI (C (v * 8 + l))) (tl, ru, st, nI N, wl, il, cl, fo, ty, kl, kp, rf, sx, cx, pl, pt, fg, ch, fs, ns, wd, nn, co, li))
    (h0 : C (v * 8 + l) = 0 → post (nI N) (tl, ru, st, nI (N + 1), wl, il, cl, fo, ty, kl, kp, rf, sx, cx, pl, pt, fg, upd ch (v * 8 + l) (nI N), upd fs N (-1), ns, wd, nn, co, li)) : wpX_childOf post (tl, ru, st, nI N, wl, il, cl, fo, ty, kl, kp, rf, sx, cx, pl, pt, fg, ch, fs, ns, wd, nn, co, li) (nI v) (nI l) := by
  have e : nI v * 8 + nI l = nI (v * 8 + l) := by rw [sp_m8, nI_add]
  have ce := nI_clamp (n := v * 8 + l) (by omega)
  have cN := nI_clamp (n := N) (by omega)
  have hin : vp_in (nI (v * 8 + l)) 1160 := vp_in_nI (by omega) (by omega)
  have hCl := hC (v * 8 + l)
  refine nm_r e ?_
  rw [ce, cN]
  refine ⟨hin, br_c (fun z => ?_) (fun z => ⟨hin, ?_⟩)⟩
  · rw [hch, sp_z (by omega)] at z
    refine br_f (nI_ge (b := 145) (by omega) (by omega)) ⟨hin, nm_e ⟨vp_in_nI (by omega) (by omega), nm_e (nm_r (nI_1 N) ⟨hin, ?_⟩)⟩⟩
    rw [pk_us]; exact h0 z
  · rw [hch] at z ⊢
    exact h1 (fun y => z ((sp_z (by omega)).mpr y))
theorem sx_ch27 {post : SX → Prop} {S N v : Nat} {e : Nat → Nat} {fs ns : Nat → Int32} (hS : S < 12) (hCH : sp_CH e S N fs ns)
    (h : ∀ f2 n2, sp_CH (sp_u e S v) (S + 1) N f2 n2 → post (tl, ru, st, nd, wl, il, cl, fo, ty, kl, kp, rf, sx, cx, pl, pt, fg, ch, f2, n2, wd, nn, co, li)) :
    ∀ n t i, t < S → e t = v → i ≤ t → 12 - i < n → wX_chain_27 post (nI S) tl ru st nd wl il cl fo ty kl kp rf sx cx pl pt fg ch fs (upd ns S (-1)) wd nn co li n (nI t) (nI i) := by
  intro n
  induction n with
  | zero => intro t i _ _ _ h; omega
  | succ n ih =>
    intro t i ht het hit hn
    have ct := nI_clamp (n := t) (by omega)
    have en : upd ns S (-1) t = ns t := pk_un (by omega)
    have hin : vp_in (nI t) 12 := vp_in_nI (by omega) (by omega)
    refine pk_le 12 i (fun g => by omega) (fun g => ?_)
    rw [ct, en]
    refine ⟨hin, br_c (fun z => ⟨hin, nm_e (h _ _ (sp_CH_last (by omega) hCH ht het z))⟩) (fun z => ⟨hin, ?_⟩)⟩
    rcases hCH.2 t ht with ⟨s, ⟨k1, k2⟩, k3, k4, k5⟩ | ⟨k1, k2⟩
    · exact nm_r k5 (nm_r (nI_1 i) (ih s (i + 1) k2 (by rw [k3, het]) (by omega) (by omega)))
    · rw [k2] at z; exact absurd (by decide) z
theorem sx_chain {post : SX → Prop} {S N v : Nat} {e : Nat → Nat} {fs ns : Nat → Int32} (hS : S < 12) (hN : N ≤ 145) (hv : v < N) (hCH : sp_CH e S N fs ns)
    (h : ∀ f2 n2, sp_CH (sp_u e S v) (S + 1) N f2 n2 → post (tl, ru, st, nd, wl, il, cl, fo, ty, kl, kp, rf, sx, cx, pl, pt, fg, ch, f2, n2, wd, nn, co, li)) : wpX_chain post (tl, ru, st, nd, wl, il, cl, fo, ty, kl, kp, rf, sx, cx, pl, pt, fg, ch, fs, upd ns S (-1), wd, nn, co, li) (nI v) (nI S) := by
  have cv := nI_clamp (n := v) (by omega)
  have hin : vp_in (nI v) 145 := vp_in_nI (by omega) (by omega)
  refine And.intro hin ?_
  rw [cv]
  refine br_c (fun z => ⟨hin, ?_⟩) (fun z => ⟨hin, nm_e (h _ _ (sp_CH_first (by omega) hCH hv (Int32.not_le.mp z)))⟩)
  rcases hCH.1 v hv with ⟨s, ⟨k1, k2⟩, k3, k4, k5⟩ | ⟨k1, k2⟩
  · exact nm_r k5 ⟨13, sx_ch27 hS hCH h 13 s 0 k2 k3 (by omega) (by omega)⟩
  · rw [k2] at z; exact absurd z (by decide)
theorem sx_stem36 {post : Int32 → SX → Prop} {T S : Nat} {SL e : Nat → Nat} {sl : Nat → Int32} {x1 : Int32} (hT : T ≤ 12) (hS : S < 12) (hl : ∀ i, i < T → sp_ltr (ty i))
    (h : ∀ N C gl gp cc ff n2, (∀ j, cc j = nI (C j)) → sp_TR C N gp gl → sp_ST C S SL sl e → (∀ j, j < T → sp_w C ty (j + 1) ≠ 0) → sp_CH (sp_u e S (sp_w C ty T)) (S + 1) N ff n2 → N ≤ 1 + 12 * (S + 1) → post (nI S) (0, ru, nI (S + 1), nI N, wl, il, cl, fo, ty, kl, kp, rf, sx, cx, pl, pt, upd fg S (x1 &&& 255), cc, ff, n2, wd, nn, co, li)) :
    ∀ n i N (C gl : Nat → Nat) (gp : Nat → Nat → Int32) (ch fs : Nat → Int32), i ≤ T → T - i < n → (∀ j, ch j = nI (C j)) → sp_TR C N gp gl → sp_ST C S SL sl e → sp_CH e S N fs ns → N ≤ 1 + 12 * S + i → (∀ j, j < i → sp_w C ty (j + 1) ≠ 0) → wX_stem_36 post x1 n (nI (sp_w C ty i)) (nI i) (nI T) ru (nI S) (nI N) wl il cl fo ty kl kp rf sx cx pl pt fg ch fs ns wd nn co li := by
  intro n
  induction n with
  | zero => intro i _ _ _ _ _ _ _ h; omega
  | succ n ih =>
    intro i N C gl gp cc ff hi hn hch hTR hST hCH hN hw
    have ci := nI_clamp (n := i) (by omega)
    have cS := nI_clamp (n := S) (by omega)
    have hinS : vp_in (nI S) 12 := vp_in_nI (by omega) (by omega)
    refine pk_le T i (fun g => ?_) (fun g => ?_)
    · have hiT : i = T := by omega
      subst hiT
      rw [cS]
      refine ⟨hinS, nm_e ⟨hinS, nm_e (sx_chain hS (by omega) (sp_w_lt hTR ty i) hCH (fun f2 n2 g2 => nm_r (nI_1 S) (h N C gl gp cc f2 n2 hch hTR hST hw g2 (by omega))))⟩⟩
    · obtain ⟨l, hl8, el⟩ := hl i g
      have hv := sp_w_lt hTR ty i
      have e1 : ty i - 1 = nI l := by rw [el, nI_pred]
      have es : ∀ C' : Nat → Nat, sp_w C' ty (i + 1) = C' (sp_w C' ty i * 8 + l) := by
        intro C'
        rw [sp_ws, el, nI_clamp (n := l + 1) (by omega), Nat.add_sub_cancel]
      rw [ci, e1]
      refine ⟨vp_in_nI (by omega) (by omega), sx_childOf hv (by omega) hl8 hTR.2.1 hch (fun g2 => nm_r (nI_1 i) ?_) (fun g2 => nm_r (nI_1 i) ?_)⟩
      · rw [← es C] at g2 ⊢
        exact ih (i + 1) N C gl gp cc ff (by omega) (by omega) hch hTR hST hCH (by omega) (lt_s hw g2)
      · have hext := sp_u_ext (C := C) (k := sp_w C ty i * 8 + l) (v := N) g2
        have hw2 : ∀ j, j ≤ i → sp_w (sp_u C (sp_w C ty i * 8 + l) N) ty j = sp_w C ty j := fun j hj => sp_w_ext hext j (fun a ha => hw a (by omega))
        have hlast : sp_w (sp_u C (sp_w C ty i * 8 + l) N) ty (i + 1) = N := by
          rw [es, hw2 i (Nat.le_refl i), sp_us]
        have hN1 := hTR.1.1
        have nx := ih (i + 1) (N + 1) (sp_u C (sp_w C ty i * 8 + l) N) _ _ (upd cc (sp_w C ty i * 8 + l) (nI N)) (upd ff N (-1)) (by omega) (by omega) (sp_u_nI hch) (sp_TR_new hTR hv hl8 g2) (sp_ST_ext hext hST) (sp_CH_node hCH (fun s hs => sp_e_lt hTR hST hs)) (by omega) (lt_s (fun j hj => by rw [hw2 (j + 1) (by omega)]; exact hw j hj) (by rw [hlast]; omega))
        rw [hlast] at nx
        exact nx
end
section
variable {sz ru st ws zS zP : Int32} {bu kp kl rf sx cx pt pl fg zl sl yw yo : Nat → Int32}
theorem sy_s31 {post : Int32 → SY → Prop} {T S : Nat} {x1 : Int32} (hT : T ≤ 12) (hS : S < 12) (h : post (nI S) (0, ru, nI (S + 1), ws, zS, zP, bu, kp, kl, rf, sx, cx, pt, pl, upd fg S (x1 &&& 255), upd zl S (nI T), sp_cp sl (S * 12) bu T, yw, yo)) :
    ∀ n i, i ≤ T → T - i < n → wY_stem_31 post x1 (nI T) ru (nI S) ws zS zP n (nI i) bu kp kl rf sx cx pt pl fg zl (sp_cp sl (S * 12) bu i) yw yo := by
  intro n
  induction n with
  | zero => intro i _ h; omega
  | succ n ih =>
    intro i hi hn
    have ci := nI_clamp (n := i) (by omega)
    have cS := nI_clamp (n := S) (by omega)
    have hinS : vp_in (nI S) 12 := vp_in_nI (by omega) (by omega)
    have e : nI S * 12 + nI i = nI (S * 12 + i) := by rw [sp_m12, nI_add]
    have ce := nI_clamp (n := S * 12 + i) (by omega)
    refine pk_le T i (fun g => ?_) (fun g => ?_)
    · have hiT : i = T := by omega
      subst hiT
      rw [cS]
      refine ⟨hinS, nm_e ⟨hinS, nm_e (nm_r (nI_1 S) ?_)⟩⟩
      rw [nI_pred]; exact h
    · rw [e, ce, ci]
      exact ⟨vp_in_nI (by omega) (by omega), vp_in_nI (by omega) (by omega), nm_e (nm_r (nI_1 i) (ih (i + 1) (by omega) (by omega)))⟩
end
theorem sp_ST_new {C : Nat → Nat} {S T : Nat} {SL e : Nat → Nat} {sl ty : Nat → Int32} (hT1 : 1 ≤ T) (hT : T ≤ 12) (hl : ∀ i, i < T → sp_ltr (ty i)) (hST : sp_ST C S SL sl e) (hw : ∀ j, j < T → sp_w C ty (j + 1) ≠ 0) :
    sp_ST C (S + 1) (sp_u SL S T) (sp_cp sl (S * 12) ty T) (sp_u e S (sp_w C ty T)) := by
  intro s hs
  by_cases hsS : s = S
  · subst hsS
    have hin : ∀ i, i < T → sp_cp sl (s * 12) ty T (s * 12 + i) = ty i := fun i hi => sp_cp_in T i hi
    rw [sp_us, sp_us]
    refine ⟨⟨hT1, hT⟩, fun i hi => ?_, ?_, fun i hi => ?_⟩
    · rw [hin i hi]; exact hl i hi
    · exact sp_w_cg T (fun i hi => (hin i hi).symm)
    · rw [sp_w_cg (w := fun i => sp_cp sl (s * 12) ty T (s * 12 + i)) (w' := ty) (i + 1) (fun j hj => hin j (by omega))]
      exact hw i hi
  · obtain ⟨h1, h2, h3, h4⟩ := hST s (by omega)
    have hout : ∀ i, i < SL s → sp_cp sl (S * 12) ty T (s * 12 + i) = sl (s * 12 + i) := fun i hi => sp_cp_out T _ (by omega)
    rw [sp_un hsS, sp_un hsS]
    refine ⟨h1, fun i hi => ?_, ?_, fun i hi => ?_⟩
    · rw [hout i hi]; exact h2 i hi
    · rw [h3]; exact sp_w_cg _ (fun i hi => (hout i hi).symm)
    · rw [sp_w_cg (w := fun i => sp_cp sl (S * 12) ty T (s * 12 + i)) (w' := fun i => sl (s * 12 + i)) (i + 1) (fun j hj => hout j (by omega))]
      exact h4 i hi
theorem i_vc_stem {k : Nat} {u : SX} {v : SY} (I : i_Rel k u v) (hk : k + 4 ≤ 2048) (v1 : Int32) : wpX_stem (fun r u' => wpY_stem (fun r' v' => r' = r ∧ i_Rel (k + 4) u' v') v v1) u v1 := by
  refine zz_el (Pr := fun u v => wpX_stem (fun r u' => wpY_stem (fun r' v' => r' = r ∧ i_Rel (k + 4) u' v') v v1) u v1) ?_ I
  intro T R S N KL L SL C e gl gp wl il cl fo ws zS zP ty kl kp rf sx cx pl pt fg ch fs ns wd nn co li bu zl sl yw yo hI
  have hT := hI.1.1
  have hbu := hI.1.2
  obtain ⟨hB, hK, ⟨hRU, ⟨hS12, hN⟩, hch, hTR, hST, hCH⟩, hzl⟩ := hI
  have hI : sp_I T R S N KL L SL C e gl gp ty kl kp pl pt ch fs ns bu zl sl := ⟨hB, hK, ⟨hRU, ⟨hS12, hN⟩, hch, hTR, hST, hCH⟩, hzl⟩
  by_cases hT0 : T = 0
  · subst hT0
    exact sx_any hT (fun _ => br_t nI_0 (br_t nI_0 ⟨rfl, zz_in 0 R S N hI⟩)) (fun _ => br_t nI_0 (br_t nI_0 ⟨rfl, zz_in 0 R S N hI⟩))
  · have hne : ¬ nI T = 0 := fun z => hT0 ((sp_z (by omega)).mp z)
    refine sx_any hT (fun g => br_f hne (br_f (by decide) ?_)) (fun g => br_f hne (br_t rfl ?_))
    · refine br_f hne (sy_nine hT (fun _ => br_f (by decide) ⟨rfl, zz_in T R S N hI⟩) (fun g2 => ?_))
      obtain ⟨j, hj, g9⟩ := g
      exact absurd ((hbu j hj).2.trans g9) (g2 j hj)
    · have no9 : ∀ post : Int32 → Prop, post 0 → wpY_nine post (nI T, nI R, nI S, ws, zS, zP, bu, kp, kl, rf, sx, cx, pt, pl, fg, zl, sl, yw, yo) := by
        intro post hp
        refine sy_nine hT (fun g2 => ?_) (fun _ => hp)
        obtain ⟨j, hj, g9⟩ := g2
        exact absurd ((hbu j hj).2.symm.trans g9) (g j hj)
      have hl : ∀ i, i < T → sp_ltr (ty i) := fun i hi => (hbu i hi).1.elim id (fun z => absurd z (g i hi))
      by_cases hSS : S < 12
      · have hneS : ¬ nI S = 12 := by
          intro z
          have z2 : nI S = nI 12 := z
          rw [nI_eq (by omega) (by omega)] at z2
          omega
        refine br_t (nI_lt (b := 12) hSS (by omega)) ⟨T + 1, ?_⟩
        refine sx_stem36 (SL := SL) (e := e) (sl := sl) hT hSS hl (fun N2 C2 gl2 gp2 cc ff n2 a1 a2 a3 a4 a5 a6 => ?_) (T + 1) 0 N C gl gp ch fs (by omega) (by omega) hch hTR hST hCH (by omega) (fun j hj => absurd hj (Nat.not_lt_zero j))
        refine br_f hne (no9 _ (br_t rfl (br_f hneS ⟨T + 1, sy_s31 hT hSS ⟨rfl, ?_⟩ (T + 1) 0 (by omega) (by omega)⟩)))
        rw [sp_cp_cg (g := bu) (h := ty) T (fun i hi => (hbu i hi).2)]
        refine zz_g 0 R (S + 1) N2 nI_0.symm rfl rfl rfl nI_0.symm ⟨⟨by omega, fun i hi => absurd hi (Nat.not_lt_zero i)⟩, hK, ⟨hRU, ⟨by omega, a6⟩, a1, a2, sp_ST_new (by omega) hT hl a3 a4, a5⟩, sp_u_nI hzl⟩
      · have hS2 : S = 12 := by omega
        subst hS2
        exact br_f (nI_nlt (b := 12) (by omega) (by omega)) (br_f hne (no9 _ (br_t rfl (br_t rfl ⟨rfl, zz_in T R 12 N hI⟩))))
end
section
/-! the questions -/
theorem sp_DYX {R S N : Nat} {L SL C e gl : Nat → Nat} {gp : Nat → Nat → Int32} {pl pt ch fs ns sl zl : Nat → Int32} (hD : sp_DX R S N L SL C e gl gp pl pt ch fs ns sl) (hzl : ∀ j, zl j = nI (SL j)) : sp_DY R S L SL pl pt zl :=
  ⟨hD.1, hD.2.1.1, fun s hs => ⟨hzl s, (hD.2.2.2.2.1 s hs).1.2⟩⟩
theorem i_vc_derivations {k : Nat} {u : SX} {v : SY} (I : i_Rel k u v) (hk : k + 4 ≤ 2048) : wpX_derivations (fun r u' => wpY_derivations (fun r' v' => r' = r ∧ i_Rel (k + 4) u' v') v) u := by
  refine zz_el (Pr := fun u v => wpX_derivations (fun r u' => wpY_derivations (fun r' v' => r' = r ∧ i_Rel (k + 4) u' v') v) u) ?_ I
  intro T R S N KL L SL C e gl gp wl il cl fo ws zS zP ty kl kp rf sx cx pl pt fg ch fs ns wd nn co li bu zl sl yw yo hI
  have hT := hI.1.1
  refine sx_searchTyped hI.2.2.1 hT (fun i hi => (hI.1.2 i hi).1) (fun a x y f2 ww ii mm l2 hL => ?_)
  obtain ⟨hf, hb, hl⟩ := hL
  have hPe : sp_P R S L SL rf sx cx pt fg sl ty T = sp_P R S L SL rf sx cx pt fg sl bu T := sp_P_eq (fun i hi => (hI.1.2 i hi).2.symm)
  refine sy_derivations hPe (sp_DYX hI.2.2.1 hI.2.2.2) hT (fun a2 b d w2 o2 => ⟨hf.symm, zz_in T R S N hI⟩)
/-- both sides' answer to a question about derivation v1 -/
theorem sp_ask {T R S N : Nat} {KL L SL C e gl : Nat → Nat} {gp : Nat → Nat → Int32} {ty kl kp rf sx cx pl pt fg ch fs ns bu zl sl : Nat → Int32} (hI : sp_I T R S N KL L SL C e gl gp ty kl kp pl pt ch fs ns bu zl sl) {ws zS zP : Int32} {yw yo : Nat → Int32} {post : Int32 → SY → Prop} {j : Nat} {c : Nat} {f2 : Int32} {l2 : Nat → Int32} (hL : sp_L (sp_P R S L SL rf sx cx pt fg sl ty T) f2 l2) (hc : sp_P R S L SL rf sx cx pt fg sl ty T c) (hj : sp_c (sp_P R S L SL rf sx cx pt fg sl ty T) c = j)
    (h : ∀ a w2 o2, post (nI (c / 11 / 11)) (nI T, nI R, nI S, a, sp_F (c / 11 % 11), sp_F (c % 11), bu, kp, kl, rf, sx, cx, pt, pl, fg, zl, sl, w2, o2)) : wpY_find post (nI T, nI R, nI S, ws, zS, zP, bu, kp, kl, rf, sx, cx, pt, pl, fg, zl, sl, yw, yo) (nI j) := by
  have hPe : sp_P R S L SL rf sx cx pt fg sl ty T = sp_P R S L SL rf sx cx pt fg sl bu T := sp_P_eq (fun i hi => (hI.1.2 i hi).2.symm)
  have hc1 := hL.2.1 c hc
  have hlt := sp_c_lt hc hc1
  have hle := sp_c_le (sp_P R S L SL rf sx cx pt fg sl ty T) 1452
  refine sy_find hPe (sp_DYX hI.2.2.1 hI.2.2.2) hI.1.1 (by omega) (fun c' g1 g2 => ?_) (fun g => by omega)
  have ec : c' = c := sp_c_inj g1 hc (by rw [g2, hj])
  subst ec
  exact h
theorem sp_askn {T R S N : Nat} {KL L SL C e gl : Nat → Nat} {gp : Nat → Nat → Int32} {ty kl kp rf sx cx pl pt fg ch fs ns bu zl sl : Nat → Int32} (hI : sp_I T R S N KL L SL C e gl gp ty kl kp pl pt ch fs ns bu zl sl) {ws zS zP : Int32} {yw yo : Nat → Int32} {post : Int32 → SY → Prop} {j : Nat} (hj : j < 2 ^ 31) (hjl : sp_c (sp_P R S L SL rf sx cx pt fg sl ty T) 1452 ≤ j)
    (h : ∀ a b d w2 o2, post (-6) (nI T, nI R, nI S, a, b, d, bu, kp, kl, rf, sx, cx, pt, pl, fg, zl, sl, w2, o2)) : wpY_find post (nI T, nI R, nI S, ws, zS, zP, bu, kp, kl, rf, sx, cx, pt, pl, fg, zl, sl, yw, yo) (nI j) := by
  have hPe : sp_P R S L SL rf sx cx pt fg sl ty T = sp_P R S L SL rf sx cx pt fg sl bu T := sp_P_eq (fun i hi => (hI.1.2 i hi).2.symm)
  refine sy_find hPe (sp_DYX hI.2.2.1 hI.2.2.2) hI.1.1 hj (fun c' g1 g2 => ?_) (fun _ => h)
  have hc1 : c' < 1452 := sp_P_lt hI.2.2.1.2.1.1 g1
  have := sp_c_lt g1 hc1
  omega
theorem sp_cnt440 {T R S N : Nat} {KL L SL C e gl : Nat → Nat} {gp : Nat → Nat → Int32} {ty kl kp rf sx cx pl pt fg ch fs ns bu zl sl : Nat → Int32} (hI : sp_I T R S N KL L SL C e gl gp ty kl kp pl pt ch fs ns bu zl sl) : sp_c (sp_P R S L SL rf sx cx pt fg sl ty T) 1452 ≤ 440 := by
  have k1 : sp_c (sp_P R S L SL rf sx cx pt fg sl ty T) 1452 ≤ sp_c (sp_V sx R) 1452 := sp_c_sub (fun c hc => sp_P_V hI.2.2.1.2.1.1 hc) 1452
  have k2 := sp_V_le sx R
  omega
theorem i_vc_stemOf {k : Nat} {u : SX} {v : SY} (I : i_Rel k u v) (hk : k + 4 ≤ 2048) (v1 : Int32) : wpX_stemOf (fun r u' => wpY_stemOf (fun r' v' => r' = r ∧ i_Rel (k + 4) u' v') v v1) u v1 := by
  refine zz_el (Pr := fun u v => wpX_stemOf (fun r u' => wpY_stemOf (fun r' v' => r' = r ∧ i_Rel (k + 4) u' v') v v1) u v1) ?_ I
  intro T R S N KL L SL C e gl gp wl il cl fo ws zS zP ty kl kp rf sx cx pl pt fg ch fs ns wd nn co li bu zl sl yw yo hI
  refine sx_searchTyped hI.2.2.1 hI.1.1 (fun i hi => (hI.1.2 i hi).1) (fun a x y f2 ww ii mm l2 hL => ?_)
  have h440 := sp_cnt440 (rf := rf) (sx := sx) (cx := cx) (fg := fg) hI
  by_cases h0 : v1 < 0
  · exact br_t h0 (sy_findn (zS := zS) (zP := zP) h0 hI.2.2.1.2.1.1 (fun a2 b d w2 o2 => ⟨rfl, zz_in T R S N hI⟩))
  · refine br_f h0 ?_
    obtain ⟨j, hj, rfl⟩ := nI_of h0
    have hL2 := hL
    obtain ⟨hf, hb, hl⟩ := hL2
    subst hf
    by_cases hjK : j < sp_c (sp_P R S L SL rf sx cx pt fg sl ty T) 1452
    · obtain ⟨c, c1, c2, c3⟩ := sp_c_ex 1452 j hjK
      have cj := nI_clamp (n := j) hj
      have el : l2 j = nI c := by rw [← c3]; exact hl c c2
      have ed : nI c / 121 = nI (c / 11 / 11) := by
        have h1 : nI c / nI 121 = nI (c / 121) := pk_div (by omega) (by omega) (by omega)
        have h2 : c / 121 = c / 11 / 11 := by omega
        rw [h2] at h1; exact h1
      refine br_t (nI_lt hjK (by omega)) ?_
      rw [cj, el, ed]
      exact ⟨vp_in_nI (by omega) (by omega), by decide, sp_ask (zS := zS) (zP := zP) hI hL c2 c3 (fun a2 w2 o2 => ⟨rfl, zz_in T R S N hI⟩)⟩
    · exact br_f (nI_nlt (by omega) hj) (sp_askn (zS := zS) (zP := zP) hI hj (by omega) (fun a2 b d w2 o2 => ⟨rfl, zz_in T R S N hI⟩))
theorem sp_mF {U : Nat} {A : Int32 → Prop} (hU : U < 2 ^ 31) (h : A (sp_F U)) : ∀ x, x = nI U - 1 → (0 ≤ x → A x) ∧ (¬ 0 ≤ x → A (-6)) := by
  intro x hx
  cases U with
  | zero =>
    have hx2 : x = -1 := by rw [hx, nI_0]; decide
    subst hx2
    exact br_f (by decide) h
  | succ u =>
    rw [nI_pred] at hx
    subst hx
    exact br_t (nI_pos' (by omega)) h
theorem sp_s6 {s : Nat} (h : s < 2 ^ 31) : ¬ nI s = -6 := by
  intro z
  have h1 : (0 : Int32) ≤ nI s := nI_pos' h
  rw [z] at h1
  exact absurd h1 (by decide)
theorem i_vc_suffixOf {k : Nat} {u : SX} {v : SY} (I : i_Rel k u v) (hk : k + 4 ≤ 2048) (v1 : Int32) : wpX_suffixOf (fun r u' => wpY_suffixOf (fun r' v' => r' = r ∧ i_Rel (k + 4) u' v') v v1) u v1 := by
  refine zz_el (Pr := fun u v => wpX_suffixOf (fun r u' => wpY_suffixOf (fun r' v' => r' = r ∧ i_Rel (k + 4) u' v') v v1) u v1) ?_ I
  intro T R S N KL L SL C e gl gp wl il cl fo ws zS zP ty kl kp rf sx cx pl pt fg ch fs ns wd nn co li bu zl sl yw yo hI
  refine sx_searchTyped hI.2.2.1 hI.1.1 (fun i hi => (hI.1.2 i hi).1) (fun a x y f2 ww ii mm l2 hL => ?_)
  have h440 := sp_cnt440 (rf := rf) (sx := sx) (cx := cx) (fg := fg) hI
  by_cases h0 : v1 < 0
  · exact br_t h0 (sy_findn (zS := zS) (zP := zP) h0 hI.2.2.1.2.1.1 (fun a2 b d w2 o2 => br_t rfl ⟨rfl, zz_in T R S N hI⟩))
  · refine br_f h0 ?_
    obtain ⟨j, hj, rfl⟩ := nI_of h0
    have hL2 := hL
    obtain ⟨hf, hb, hl⟩ := hL2
    subst hf
    by_cases hjK : j < sp_c (sp_P R S L SL rf sx cx pt fg sl ty T) 1452
    · obtain ⟨c, c1, c2, c3⟩ := sp_c_ex 1452 j hjK
      have cj := nI_clamp (n := j) hj
      have el : l2 j = nI c := by rw [← c3]; exact hl c c2
      have ed1 : nI c / 11 = nI (c / 11) := pk_div (d := 11) (by omega) (by omega) (by omega)
      have ed : nI (c / 11) - nI (c / 11) / 11 * 11 = nI (c / 11 % 11) := pk_rem (d := 11) (by omega) (by omega) (by omega)
      refine br_t (nI_lt hjK (by omega)) ?_
      rw [cj, el, ed1, ed]
      refine ⟨vp_in_nI (by omega) (by omega), by decide, by decide, ?_⟩
      refine sp_mF (A := fun r => wpY_suffixOf (fun r' v' => r' = r ∧ i_Rel (k + 4) (nI T, nI R, nI S, nI N, a, x, y, nI (sp_c (sp_P R S L SL rf sx cx pt fg sl ty T) 1452), ty, kl, kp, rf, sx, cx, pl, pt, fg, ch, fs, ns, ww, ii, mm, l2) v') (nI T, nI R, nI S, ws, zS, zP, bu, kp, kl, rf, sx, cx, pt, pl, fg, zl, sl, yw, yo) (nI j)) (by omega) ?_
      exact sp_ask (zS := zS) (zP := zP) hI hL c2 c3 (fun a2 w2 o2 => br_f (sp_s6 (by omega)) ⟨rfl, zz_in T R S N hI⟩)
    · exact br_f (nI_nlt (by omega) hj) (sp_askn (zS := zS) (zP := zP) hI hj (by omega) (fun a2 b d w2 o2 => br_t rfl ⟨rfl, zz_in T R S N hI⟩))
theorem i_vc_prefixOf {k : Nat} {u : SX} {v : SY} (I : i_Rel k u v) (hk : k + 4 ≤ 2048) (v1 : Int32) : wpX_prefixOf (fun r u' => wpY_prefixOf (fun r' v' => r' = r ∧ i_Rel (k + 4) u' v') v v1) u v1 := by
  refine zz_el (Pr := fun u v => wpX_prefixOf (fun r u' => wpY_prefixOf (fun r' v' => r' = r ∧ i_Rel (k + 4) u' v') v v1) u v1) ?_ I
  intro T R S N KL L SL C e gl gp wl il cl fo ws zS zP ty kl kp rf sx cx pl pt fg ch fs ns wd nn co li bu zl sl yw yo hI
  refine sx_searchTyped hI.2.2.1 hI.1.1 (fun i hi => (hI.1.2 i hi).1) (fun a x y f2 ww ii mm l2 hL => ?_)
  have h440 := sp_cnt440 (rf := rf) (sx := sx) (cx := cx) (fg := fg) hI
  by_cases h0 : v1 < 0
  · exact br_t h0 (sy_findn (zS := zS) (zP := zP) h0 hI.2.2.1.2.1.1 (fun a2 b d w2 o2 => br_t rfl ⟨rfl, zz_in T R S N hI⟩))
  · refine br_f h0 ?_
    obtain ⟨j, hj, rfl⟩ := nI_of h0
    have hL2 := hL
    obtain ⟨hf, hb, hl⟩ := hL2
    subst hf
    by_cases hjK : j < sp_c (sp_P R S L SL rf sx cx pt fg sl ty T) 1452
    · obtain ⟨c, c1, c2, c3⟩ := sp_c_ex 1452 j hjK
      have cj := nI_clamp (n := j) hj
      have el : l2 j = nI c := by rw [← c3]; exact hl c c2
      have ed : nI c - nI c / 11 * 11 = nI (c % 11) := pk_rem (d := 11) (by omega) (by omega) (by omega)
      refine br_t (nI_lt hjK (by omega)) ?_
      rw [cj, el, ed]
      refine ⟨vp_in_nI (by omega) (by omega), by decide, ?_⟩
      refine sp_mF (A := fun r => wpY_prefixOf (fun r' v' => r' = r ∧ i_Rel (k + 4) (nI T, nI R, nI S, nI N, a, x, y, nI (sp_c (sp_P R S L SL rf sx cx pt fg sl ty T) 1452), ty, kl, kp, rf, sx, cx, pl, pt, fg, ch, fs, ns, ww, ii, mm, l2) v') (nI T, nI R, nI S, ws, zS, zP, bu, kp, kl, rf, sx, cx, pt, pl, fg, zl, sl, yw, yo) (nI j)) (by omega) ?_
      exact sp_ask (zS := zS) (zP := zP) hI hL c2 c3 (fun a2 w2 o2 => br_f (sp_s6 (by omega)) ⟨rfl, zz_in T R S N hI⟩)
    · exact br_f (nI_nlt (by omega) hj) (sp_askn (zS := zS) (zP := zP) hI hj (by omega) (fun a2 b d w2 o2 => br_t rfl ⟨rfl, zz_in T R S N hI⟩))
end
section
/-! continuations -/
/-- letter i + 1 behind the buffer gives a word with a derivation -/
def sp_A (R S : Nat) (L SL : Nat → Nat) (rf sx cx pt fg sl ty : Nat → Int32) (T i : Nat) : Prop := 0 < sp_c (sp_P R S L SL rf sx cx pt fg sl (upd ty T (nI (i + 1))) (T + 1)) 1452
section
variable {tl ru st nd wl il cl fo : Int32} {ty kl kp rf sx cx pl pt fg ch fs ns wd nn co li : Nat → Int32}
theorem sx_c33 {post : Int32 → SX → Prop} {J : Int32 → Int32 → Int32 → Int32 → Int32 → Int32 → Int32 → Int32 → Int32 → Int32 → (Nat → Int32) → (Nat → Int32) → (Nat → Int32) → (Nat → Int32) → (Nat → Int32) → (Nat → Int32) → (Nat → Int32) → (Nat → Int32) → (Nat → Int32) → (Nat → Int32) → (Nat → Int32) → (Nat → Int32) → (Nat → Int32) → (Nat → Int32) → (Nat → Int32) → (Nat → Int32) → Prop}
    {R S N T l m : Nat} {L SL C e gl : Nat → Nat} {gp : Nat → Nat → Int32} {sl : Nat → Int32} (hD : sp_DX R S N L SL C e gl gp pl pt ch fs ns sl) (hT : T < 12) (hl : ∀ i, i < T → sp_ltr (ty i)) (hl8 : l < 8)
    (h1 : sp_A R S L SL rf sx cx pt fg sl ty T l → ∀ a x y f ww ii mm l2, J (nI (m + 1)) (nI (l + 2)) (nI T) (nI R) st nd a x y f ty kl kp rf sx cx pl pt fg ch fs ns ww ii mm l2)
    (h0 : ¬ sp_A R S L SL rf sx cx pt fg sl ty T l → ∀ a x y f ww ii mm l2, J (nI m) (nI (l + 2)) (nI T) (nI R) st nd a x y f ty kl kp rf sx cx pl pt fg ch fs ns ww ii mm l2) :
    ∀ n i (wd : Nat → Int32), i ≤ T → T - i < n → (∀ j, j < i → wd j = ty j) → wX_continuations_33 post J (nI m) (nI (l + 1)) (nI T) (nI R) st nd wl il cl fo n (nI i) ty kl kp rf sx cx pl pt fg ch fs ns wd nn co li := by
  intro n
  induction n with
  | zero => intro i _ _ h; omega
  | succ n ih =>
    intro i ww hi hn hb
    have ci := nI_clamp (n := i) (by omega)
    have cT := nI_clamp (n := T) (by omega)
    refine pk_le T i (fun g => ?_) (fun g => ?_)
    · have hiT : i = T := by omega
      subst hiT
      rw [cT]
      have hagree : ∀ j, j < i + 1 → upd ww i (nI (l + 1)) j = upd ty i (nI (l + 1)) j := by
        intro j hj
        by_cases hji : j = i
        · subst hji; rw [pk_us, pk_us]
        · rw [pk_un hji, pk_un hji]; exact hb j (by omega)
      refine ⟨vp_in_nI (by omega) (by omega), nm_e (nm_r (nI_1 i) (sx_search hD (by omega) (fun j hj => ?_) (fun x y f2 ii mm l2 hL => ?_)))⟩
      · rw [hagree j hj]
        by_cases hji : j = i
        · subst hji; rw [pk_us]; exact ⟨l, hl8, rfl⟩
        · rw [pk_un hji]; exact hl j (by omega)
      · rw [sp_P_eq hagree] at hL
        obtain ⟨hf, _, _⟩ := hL
        subst hf
        have hcl := sp_c_le (sp_P R S L SL rf sx cx pt fg sl (upd ty i (nI (l + 1))) (i + 1)) 1452
        refine pk_le _ 0 (fun g2 => nm_r (nI_1 (l + 1)) (h0 (fun z => ?_) _ _ _ _ _ _ _ _)) (fun g2 => nm_r (nI_1 m) (nm_r (nI_1 (l + 1)) (h1 g2 _ _ _ _ _ _ _ _)))
        have z2 : 0 < sp_c (sp_P R S L SL rf sx cx pt fg sl (upd ty i (nI (l + 1))) (i + 1)) 1452 := z
        omega
    · rw [ci]
      refine ⟨vp_in_nI (by omega) (by omega), vp_in_nI (by omega) (by omega), nm_e (nm_r (nI_1 i) (ih (i + 1) _ (by omega) (by omega) (fun j hj => ?_)))⟩
      by_cases hj2 : j = i
      · subst hj2; rw [pk_us]
      · rw [pk_un hj2]; exact hb j (by omega)
theorem sx_c24 {post : Int32 → SX → Prop} {R S N T : Nat} {L SL C e gl : Nat → Nat} {gp : Nat → Nat → Int32} {sl : Nat → Int32} (hD : sp_DX R S N L SL C e gl gp pl pt ch fs ns sl) (hT : T < 12) (hl : ∀ i, i < T → sp_ltr (ty i))
    (h : ∀ a x y f ww ii mm l2, post (nI (sp_c (sp_A R S L SL rf sx cx pt fg sl ty T) 8)) (nI T, nI R, st, nd, a, x, y, f, ty, kl, kp, rf, sx, cx, pl, pt, fg, ch, fs, ns, ww, ii, mm, l2)) :
    ∀ n l (wl il cl fo : Int32) (wd nn co li : Nat → Int32), l ≤ 8 → 8 - l < n → wX_continuations_24 post n (nI (sp_c (sp_A R S L SL rf sx cx pt fg sl ty T) l)) (nI (l + 1)) (nI T) (nI R) st nd wl il cl fo ty kl kp rf sx cx pl pt fg ch fs ns wd nn co li := by
  intro n
  induction n with
  | zero => intro l _ _ _ _ _ _ _ _ _ h; omega
  | succ n ih =>
    intro l a0 x0 y0 f0 w0 i0 m0 l0 hl8 hn
    refine pk_lt 8 (l + 1) (fun g => ?_) (fun g => ⟨T + 1, ?_⟩)
    · have hl9 : l = 8 := by omega
      subst hl9
      exact h _ _ _ _ _ _ _ _
    · refine sx_c33 hD hT hl (by omega) (fun g1 a x y f ww ii mm l2 => ?_) (fun g1 a x y f ww ii mm l2 => ?_) (T + 1) 0 w0 (by omega) (by omega) (fun j hj => absurd hj (Nat.not_lt_zero j))
      · have nx := ih (l + 1) a x y f ww ii mm l2 (by omega) (by omega)
        rw [sp_cs, sp_bt g1] at nx
        exact nx
      · have nx := ih (l + 1) a x y f ww ii mm l2 (by omega) (by omega)
        rw [sp_cs, sp_bf g1, Nat.add_zero] at nx
        exact nx
end
section
variable {sz ru st ws zS zP : Int32} {bu kp kl rf sx cx pt pl fg zl sl yw yo : Nat → Int32}
theorem sy_c32 {post : Int32 → SY → Prop} {R S T : Nat} {L SL : Nat → Nat} {ty : Nat → Int32} (hD : sp_DY R S L SL pl pt zl) (hT : T < 12)
    (h : ∀ a b d bb ww oo, (∀ i, i < T → bb i = ty i) → post (nI (sp_c (sp_A R S L SL rf sx cx pt fg sl ty T) 8)) (nI T, nI R, nI S, a, b, d, bb, kp, kl, rf, sx, cx, pt, pl, fg, zl, sl, ww, oo)) :
    ∀ n l (ws zS zP : Int32) (bu yw yo : Nat → Int32), l ≤ 8 → 8 - l < n → (∀ i, i < T → bu i = ty i) → wY_continuations_32 post n (nI (sp_c (sp_A R S L SL rf sx cx pt fg sl ty T) l)) (nI (l + 1)) (nI (T + 1)) (nI R) (nI S) ws zS zP bu kp kl rf sx cx pt pl fg zl sl yw yo := by
  intro n
  induction n with
  | zero => intro l _ _ _ _ _ _ _ h; omega
  | succ n ih =>
    intro l a0 b0 d0 bb w0 o0 hl8 hn hb
    have cT := nI_clamp (n := T) (by omega)
    refine pk_le 9 (l + 1) (fun g => ?_) (fun g => ?_)
    · have hl9 : l = 8 := by omega
      subst hl9
      exact nm_r (nI_pred T) (h _ _ _ _ _ _ hb)
    · rw [nI_pred, cT]
      have hagree : ∀ j, j < T + 1 → upd ty T (nI (l + 1)) j = upd bb T (nI (l + 1)) j := by
        intro j hj
        by_cases hji : j = T
        · subst hji; rw [pk_us, pk_us]
        · rw [pk_un hji, pk_un hji]; exact (hb j (by omega)).symm
      have hPe : sp_P R S L SL rf sx cx pt fg sl (upd ty T (nI (l + 1))) (T + 1) = sp_P R S L SL rf sx cx pt fg sl (upd bb T (nI (l + 1))) (T + 1) := sp_P_eq hagree
      have hb2 : ∀ i, i < T → upd bb T (nI (l + 1)) i = ty i := fun i hi => by rw [pk_un (by omega)]; exact hb i hi
      have hcl := sp_c_le (sp_P R S L SL rf sx cx pt fg sl (upd ty T (nI (l + 1))) (T + 1)) 1452
      refine ⟨vp_in_nI (by omega) (by omega), nm_e (sy_derivations hPe hD (by omega) (fun a b d w2 o2 => ?_))⟩
      have nx := ih (l + 1) a b d (upd bb T (nI (l + 1))) w2 o2 (by omega) (by omega) hb2
      refine pk_le _ 0 (fun g2 => nm_r (nI_1 (l + 1)) ?_) (fun g2 => nm_r (nI_1 _) (nm_r (nI_1 (l + 1)) ?_))
      · have hA : ¬ sp_A R S L SL rf sx cx pt fg sl ty T l := by
          intro z
          have z2 : 0 < sp_c (sp_P R S L SL rf sx cx pt fg sl (upd ty T (nI (l + 1))) (T + 1)) 1452 := z
          omega
        rw [sp_cs, sp_bf hA, Nat.add_zero] at nx
        exact nx
      · have hA : sp_A R S L SL rf sx cx pt fg sl ty T l := g2
        rw [sp_cs, sp_bt hA] at nx
        exact nx
end
theorem i_vc_continuations {k : Nat} {u : SX} {v : SY} (I : i_Rel k u v) (hk : k + 4 ≤ 2048) : wpX_continuations (fun r u' => wpY_continuations (fun r' v' => r' = r ∧ i_Rel (k + 4) u' v') v) u := by
  refine zz_el (Pr := fun u v => wpX_continuations (fun r u' => wpY_continuations (fun r' v' => r' = r ∧ i_Rel (k + 4) u' v') v) u) ?_ I
  intro T R S N KL L SL C e gl gp wl il cl fo ws zS zP ty kl kp rf sx cx pl pt fg ch fs ns wd nn co li bu zl sl yw yo hI
  have hT := hI.1.1
  have hbu := hI.1.2
  by_cases hT12 : T < 12
  · have hne : ¬ nI T = 12 := by
      intro z
      have z2 : nI T = nI 12 := z
      rw [nI_eq (by omega) (by omega)] at z2
      omega
    refine sx_any hT (fun g => br_f (by decide) ?_) (fun g => br_t rfl (br_t (nI_lt (b := 12) hT12 (by omega)) ⟨9, ?_⟩))
    · refine br_f hne (sy_nine hT (fun _ => br_f (by decide) ⟨rfl, zz_in T R S N hI⟩) (fun g2 => ?_))
      obtain ⟨j, hj, g9⟩ := g
      exact absurd ((hbu j hj).2.trans g9) (g2 j hj)
    · have hl : ∀ i, i < T → sp_ltr (ty i) := fun i hi => (hbu i hi).1.elim id (fun z => absurd z (g i hi))
      refine sx_c24 hI.2.2.1 hT12 hl (fun a x y f ww ii mm l2 => ?_) 9 0 wl il cl fo wd nn co li (by omega) (by omega)
      refine br_f hne (sy_nine hT (fun g2 => ?_) (fun _ => br_t rfl (nm_r (nI_1 T) ⟨9, ?_⟩)))
      · obtain ⟨j, hj, g9⟩ := g2
        exact absurd ((hbu j hj).2.symm.trans g9) (g j hj)
      · refine sy_c32 (ty := ty) (sp_DYX hI.2.2.1 hI.2.2.2) hT12 (fun a2 b d bb w2 o2 hb => ⟨rfl, zz_in T R S N ⟨⟨hT, fun i hi => ⟨(hbu i hi).1, hb i hi⟩⟩, hI.2⟩⟩) 9 0 ws zS zP bu yw yo (by omega) (by omega) (fun i hi => (hbu i hi).2)
  · have hT2 : T = 12 := by omega
    subst hT2
    have hge : ¬ nI 12 < 12 := nI_nlt (b := 12) (by omega) (by omega)
    refine sx_any hT (fun g => br_f (by decide) (br_t rfl ⟨rfl, zz_in 12 R S N hI⟩)) (fun g => br_t rfl (br_f hge (br_t rfl ⟨rfl, zz_in 12 R S N hI⟩)))
end
