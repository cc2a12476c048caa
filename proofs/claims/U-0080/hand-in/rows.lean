section
/-! pure rows to paste: stores, nI and lN arithmetic, masks, shifts, narrowing, branches by naturals (pk_le, pk_lt, pk_eq), loops (lp1 .. lp16: the measure of the state; rp1 ..: recursion), negatives. Take what you need -/
theorem pk_us {f : Nat → Int32} {k : Nat} {x : Int32} : upd f k x k = x := if_pos rfl
theorem pk_un {f : Nat → Int32} {k j : Nat} {x : Int32} (h : j ≠ k) : upd f k x j = f j := if_neg h
theorem pk_uLs {f : Nat → Int64} {k : Nat} {x : Int64} : vp_updL f k x k = x := if_pos rfl
theorem pk_uLn {f : Nat → Int64} {k j : Nat} {x : Int64} (h : j ≠ k) : vp_updL f k x j = f j := if_neg h
theorem pk_sub {a b : Nat} (h : b ≤ a) : nI a - nI b = nI (a - b) := by
  obtain ⟨c, rfl⟩ : ∃ c, a = c + b := ⟨a - b, by omega⟩
  rw [← nI_add, Int32.add_sub_cancel, Nat.add_sub_cancel]
theorem pk_m1 (n : Nat) : nI (n + 1) + (-1) = nI n := by
  rw [← nI_1, Int32.add_assoc, show (1 : Int32) + (-1) = 0 from rfl, Int32.add_zero]
theorem pk_mul (a b : Nat) : nI a * nI b = nI (a * b) := (Int32.ofNat_mul a b).symm
theorem pk_div {a d : Nat} (ha : a < 2 ^ 31) (h0 : 0 < d) (hd : d < 2 ^ 31) : nI a / nI d = nI (a / d) := by
  apply Int32.toInt_inj.mp
  rw [lg_idiv_nonneg (by rw [nI_toInt ha]; omega) (by rw [nI_toInt hd]; omega), nI_toInt ha, nI_toInt hd, nI_toInt (Nat.lt_of_le_of_lt (Nat.div_le_self a d) ha)]
  first | rfl | exact (Int.natCast_ediv _ _).symm
theorem pk_rem {a d : Nat} (ha : a < 2 ^ 31) (h0 : 0 < d) (hd : d < 2 ^ 31) : nI a - nI a / nI d * nI d = nI (a % d) := by
  rw [pk_div ha h0 hd, pk_mul, pk_sub (Nat.div_mul_le_self a d)]
  exact congrArg nI (by have := Nat.div_add_mod' a d; omega)
theorem pk_sub_toInt {a b : Nat} (ha : a < 2 ^ 30) (hb : b < 2 ^ 30) : (nI a - nI b).toInt = (a : Int) - b := by
  rw [Int32.toInt_sub, nI_toInt (by omega), nI_toInt (by omega)]
  exact Int.bmod_eq_of_le (by omega) (by omega)
theorem pk_sneg {a b : Nat} (hb : b < 2 ^ 30) (h : a < b) : nI a - nI b < 0 := by
  rw [Int32.lt_iff_toInt_lt, pk_sub_toInt (by omega) hb, show (0 : Int32).toInt = 0 from by decide]
  omega
theorem pk_ix (x : Int32) {n : Nat} (hn : n < 2 ^ 31) : x < 0 ∨ nI n ≤ x ∨ ∃ j : Nat, j < n ∧ x = nI j := by
  by_cases h : x < 0
  · exact Or.inl h
  · obtain ⟨j, hj, rfl⟩ := nI_of h
    by_cases h2 : j < n
    · exact Or.inr (Or.inr ⟨j, h2, rfl⟩)
    · exact Or.inr (Or.inl (nI_le (by omega) hj))
theorem pk_le {x y : Int32} {A B : Prop} (a b : Nat) (f : a ≤ b → A) (g : b < a → B) (hx : x = nI a := by rfl) (hy : y = nI b := by rfl) (ha : a < 2 ^ 31 := by omega) (hb : b < 2 ^ 31 := by omega) : (x ≤ y → A) ∧ (¬ x ≤ y → B) := by
  subst hx hy
  rw [nI_leI ha hb]
  exact ⟨f, fun z => g (by omega)⟩
theorem pk_lt {x y : Int32} {A B : Prop} (a b : Nat) (f : a < b → A) (g : b ≤ a → B) (hx : x = nI a := by rfl) (hy : y = nI b := by rfl) (ha : a < 2 ^ 31 := by omega) (hb : b < 2 ^ 31 := by omega) : (x < y → A) ∧ (¬ x < y → B) := by
  subst hx hy
  rw [nI_ltI ha hb]
  exact ⟨f, fun z => g (by omega)⟩
theorem pk_eq {x y : Int32} {A B : Prop} (a b : Nat) (f : a = b → A) (g : a ≠ b → B) (hx : x = nI a := by rfl) (hy : y = nI b := by rfl) (ha : a < 2 ^ 31 := by omega) (hb : b < 2 ^ 31 := by omega) : (x = y → A) ∧ (¬ x = y → B) := by
  subst hx hy
  rw [nI_eq ha hb]
  exact ⟨f, g⟩
theorem pk_in {x : Int32} (n N : Nat) (h : n < N) (hx : x = nI n := by rfl) (hN : N < 2 ^ 31 := by omega) : vp_in x N := by
  subst hx
  exact vp_in_nI h hN
theorem pk_cl {x : Int32} (n : Nat) (hx : x = nI n := by rfl) (h : n < 2 ^ 31 := by omega) : x.toNatClampNeg = n := by
  subst hx
  exact nI_clamp h
theorem pk_tn {n : Nat} (h : n < 2 ^ 32) : (nI n).toBitVec.toNat = n := Nat.mod_eq_of_lt h
theorem pk_and (x : Int32) {m : Int32} (k : Nat) (hm : m.toBitVec.toNat = 2 ^ k - 1) : x &&& m = nI (x.toBitVec.toNat % 2 ^ k) := by
  apply Int32.toBitVec_inj.mp
  apply BitVec.eq_of_toNat_eq
  rw [Int32.toBitVec_and, BitVec.toNat_and, hm, Nat.and_two_pow_sub_one_eq_mod]
  show _ = (BitVec.ofNat 32 _).toNat
  rw [BitVec.toNat_ofNat]
  exact (Nat.mod_eq_of_lt (Nat.lt_of_le_of_lt (Nat.mod_le _ _) x.toBitVec.isLt)).symm
theorem pk_andN {n : Nat} (h : n < 2 ^ 32) {m : Int32} (k : Nat) (hm : m.toBitVec.toNat = 2 ^ k - 1) : nI n &&& m = nI (n % 2 ^ k) := by
  rw [pk_and _ k hm, pk_tn h]
noncomputable def mg_b (P : Prop) : Nat := @ite Nat P (Classical.propDecidable P) 1 0
theorem mg_b_t {P : Prop} (h : P) : mg_b P = 1 := by unfold mg_b; rw [if_pos h]
theorem mg_b_f {P : Prop} (h : ¬ P) : mg_b P = 0 := by unfold mg_b; rw [if_neg h]
theorem mg_b_le (P : Prop) : mg_b P ≤ 1 := by
  rcases Classical.em P with h | h
  · rw [mg_b_t h]; omega
  · rw [mg_b_f h]; omega
theorem mg_b_mono {P Q : Prop} (h : P → Q) : mg_b P ≤ mg_b Q := by
  rcases Classical.em P with hp | hp
  · rw [mg_b_t hp, mg_b_t (h hp)]; omega
  · rw [mg_b_f hp]; omega
theorem mg_b_iff {P Q : Prop} (h : P ↔ Q) : mg_b P = mg_b Q := Nat.le_antisymm (mg_b_mono h.mp) (mg_b_mono h.mpr)
noncomputable def mg_cn (P : Nat → Prop) : Nat → Nat
  | 0 => 0
  | k + 1 => mg_cn P k + mg_b (P k)
theorem mg_cn_mono {P Q : Nat → Prop} : ∀ {N : Nat}, (∀ k, k < N → P k → Q k) → mg_cn P N ≤ mg_cn Q N
  | 0, _ => Nat.le_refl _
  | N + 1, h => by
    have a := mg_cn_mono (P := P) (Q := Q) (N := N) (fun k hk => h k (by omega))
    have b := mg_b_mono (h N (by omega))
    simp only [mg_cn]; omega
theorem mg_cn_lt {P Q : Nat → Prop} {a : Nat} (hp : ¬ P a) (hq : Q a) : ∀ {N : Nat}, (∀ k, k < N → P k → Q k) → a < N → mg_cn P N < mg_cn Q N
  | 0, _, h => by omega
  | N + 1, h, ha => by
    simp only [mg_cn]
    rcases Nat.lt_or_ge a N with z | z
    · have x := mg_cn_lt hp hq (N := N) (fun k hk => h k (by omega)) z
      have b := mg_b_mono (h N (by omega))
      omega
    · have e : a = N := by omega
      subst e
      have x := mg_cn_mono (P := P) (Q := Q) (N := a) (fun k hk => h k (by omega))
      rw [mg_b_t hq, mg_b_f hp]; omega
theorem mg_cn_le (P : Nat → Prop) : ∀ N, mg_cn P N ≤ N
  | 0 => Nat.le_refl _
  | N + 1 => by have := mg_cn_le P N; have := mg_b_le (P N); simp only [mg_cn]; omega
theorem mg_cn_eq {P Q : Nat → Prop} {N : Nat} (h : ∀ k, k < N → (P k ↔ Q k)) : mg_cn P N = mg_cn Q N :=
  Nat.le_antisymm (mg_cn_mono fun k hk => (h k hk).mp) (mg_cn_mono fun k hk => (h k hk).mpr)
theorem mg_cn_add {P : Nat → Prop} {a : Nat} (hp : ¬ P a) : ∀ {N : Nat}, a < N → mg_cn (fun k => P k ∨ k = a) N = mg_cn P N + 1
  | 0, h => by omega
  | N + 1, h => by
    simp only [mg_cn]
    rcases Nat.lt_or_ge a N with z | z
    · rw [mg_cn_add hp z]
      have : mg_b (P N ∨ N = a) = mg_b (P N) := Nat.le_antisymm (mg_b_mono fun q => q.elim id (fun e => by omega)) (mg_b_mono Or.inl)
      omega
    · have e : a = N := by omega
      subst e
      rw [mg_cn_eq (P := fun k => P k ∨ k = a) (Q := P) (fun k hk => ⟨fun q => q.elim id (fun e => by omega), Or.inl⟩), mg_b_t (Or.inr rfl), mg_b_f hp]
theorem mg_cn_0 {P : Nat → Prop} : ∀ {N : Nat}, (∀ k, k < N → ¬ P k) → mg_cn P N = 0
  | 0, _ => rfl
  | N + 1, h => by
    simp only [mg_cn]
    rw [mg_cn_0 (N := N) (fun k hk => h k (by omega)), mg_b_f (h N (by omega))]
/-- n different numbers below N: n is at most N -/
theorem mg_inj {N : Nat} (f : Nat → Nat) : ∀ n, (∀ i, i < n → f i < N) → (∀ i j, i < n → j < n → f i = f j → i = j) → mg_cn (fun k => ∃ i, i < n ∧ f i = k) N = n
  | 0, _, _ => mg_cn_0 (fun k _ h => by obtain ⟨i, hi, _⟩ := h; omega)
  | n + 1, h, g => by
    have ih := mg_inj (N := N) f n (fun i hi => h i (by omega)) (fun i j hi hj => g i j (by omega) (by omega))
    have nn : ¬ (∃ i, i < n ∧ f i = f n) := fun ⟨i, hi, e⟩ => by have := g i n (by omega) (by omega) e; omega
    have a := mg_cn_add (P := fun k => ∃ i, i < n ∧ f i = k) nn (h n (by omega))
    rw [ih] at a
    rw [← a]
    apply mg_cn_eq
    intro k _
    constructor
    · rintro ⟨i, hi, e⟩
      rcases Nat.lt_or_ge i n with z | z
      · exact Or.inl ⟨i, z, e⟩
      · have : i = n := by omega
        subst this
        exact Or.inr e.symm
    · rintro (⟨i, hi, e⟩ | e)
      · exact ⟨i, by omega, e⟩
      · exact ⟨n, by omega, e.symm⟩
theorem mg_inj_le {N n : Nat} (f : Nat → Nat) (h : ∀ i, i < n → f i < N) (g : ∀ i j, i < n → j < n → f i = f j → i = j) : n ≤ N := by
  have := mg_inj f n h g
  have := mg_cn_le (fun k => ∃ i, i < n ∧ f i = k) N
  omega
theorem mg_nar1 : vp_nar .boolean 1 = 1 := rfl
theorem mg_nar0 : vp_nar .boolean 0 = 0 := rfl
theorem mg_10 : ¬ (1 : Int32) = 0 := by decide
theorem mg_ne {x : Nat} (h : x < 2 ^ 31) {t : Int32} (ht : t.toInt < 0) : ¬ nI x = t := fun e => by
  have := nI_toInt h
  rw [e] at this
  omega
theorem ek_v {α : Sort _} {P : α → Prop} {a b : α} (e : a = b) (h : P b) : P a := e ▸ h
end
section
/-! terms, assignments, atoms, rules -/
def mg_tv (t : Int32) (s : Nat × Nat × Nat) : Nat := if t = -1 then s.1 else if t = -2 then s.2.1 else if t = -3 then s.2.2 else t.toNatClampNeg
def mg_D (C : Nat) (s : Nat × Nat × Nat) : Prop := s.1 < C ∧ s.2.1 < C ∧ s.2.2 < C
def mg_T (C : Nat) (t : Int32) : Prop := t = -1 ∨ t = -2 ∨ t = -3 ∨ ∃ x, x < C ∧ t = nI x
theorem mg_tv1 (s : Nat × Nat × Nat) : mg_tv (-1) s = s.1 := if_pos rfl
theorem mg_tv2 (s : Nat × Nat × Nat) : mg_tv (-2) s = s.2.1 := by unfold mg_tv; rw [if_neg (by decide), if_pos rfl]
theorem mg_tv3 (s : Nat × Nat × Nat) : mg_tv (-3) s = s.2.2 := by unfold mg_tv; rw [if_neg (by decide), if_neg (by decide), if_pos rfl]
theorem mg_tvc {x : Nat} (h : x < 2 ^ 31) (s : Nat × Nat × Nat) : mg_tv (nI x) s = x := by
  unfold mg_tv
  rw [if_neg (mg_ne h (by decide)), if_neg (mg_ne h (by decide)), if_neg (mg_ne h (by decide)), nI_clamp h]
theorem mg_tv_lt {C : Nat} (hC : C ≤ 5) {t : Int32} (ht : mg_T C t) {s : Nat × Nat × Nat} (hs : mg_D C s) : mg_tv t s < C := by
  rcases ht with rfl | rfl | rfl | ⟨x, hx, rfl⟩
  · rw [mg_tv1]; exact hs.1
  · rw [mg_tv2]; exact hs.2.1
  · rw [mg_tv3]; exact hs.2.2
  · rw [mg_tvc (by omega)]; exact hx
theorem mg_i32 {x y : Int32} (h : x.toInt = y.toInt) : x = y := Int32.toInt_inj.mp h
theorem mg_T_of {C : Nat} (hC : C ≤ 5) {t : Int32} (h1 : ¬ t < -3) (h2 : ¬ nI C ≤ t) : mg_T C t := by
  by_cases h0 : t < 0
  · rw [Int32.lt_iff_toInt_lt] at h0 h1
    have e3 : (-3 : Int32).toInt = -3 := by decide
    have e0 : (0 : Int32).toInt = 0 := by decide
    rw [e3] at h1
    rw [e0] at h0
    have hh : t.toInt = -1 ∨ t.toInt = -2 ∨ t.toInt = -3 := by omega
    rcases hh with e | e | e
    · exact Or.inl (mg_i32 (by rw [e]; decide))
    · exact Or.inr (Or.inl (mg_i32 (by rw [e]; decide)))
    · exact Or.inr (Or.inr (Or.inl (mg_i32 (by rw [e]; decide))))
  · obtain ⟨x, hx, rfl⟩ := nI_of h0
    rw [nI_leI (by omega) hx] at h2
    exact Or.inr (Or.inr (Or.inr ⟨x, by omega, rfl⟩))
theorem mg_T_to {C : Nat} (hC : C ≤ 5) {t : Int32} (h : mg_T C t) : ¬ t < -3 ∧ ¬ nI C ≤ t := by
  have e3 : (-3 : Int32).toInt = -3 := by decide
  rw [Int32.lt_iff_toInt_lt, Int32.le_iff_toInt_le, nI_toInt (by omega), e3]
  rcases h with rfl | rfl | rfl | ⟨x, hx, rfl⟩
  · rw [show (-1 : Int32).toInt = -1 by decide]; omega
  · rw [show (-2 : Int32).toInt = -2 by decide]; omega
  · rw [e3]; omega
  · rw [nI_toInt (by omega)]; omega
theorem mg_T_neg {C : Nat} {t : Int32} (h : mg_T C t) (h0 : t < 0) (hC : C ≤ 5) : t = -1 ∨ t = -2 ∨ t = -3 := by
  rcases h with h | h | h | ⟨x, hx, rfl⟩
  · exact Or.inl h
  · exact Or.inr (Or.inl h)
  · exact Or.inr (Or.inr h)
  · exact absurd h0 (nI_pos (by omega))
theorem mg_T_pos {C : Nat} {t : Int32} (h : mg_T C t) (h0 : ¬ t < 0) : ∃ x, x < C ∧ t = nI x := by
  rcases h with rfl | rfl | rfl | h
  · exact absurd (by decide) h0
  · exact absurd (by decide) h0
  · exact absurd (by decide) h0
  · exact h
abbrev mg_A : Type := Nat × Int32 × Int32
abbrev mg_R : Type := mg_A × List mg_A
def mg_f (a : mg_A) (s : Nat × Nat × Nat) : Nat := a.1 * 25 + mg_tv a.2.1 s * 5 + mg_tv a.2.2 s
def mg_rc (C : Nat) (S : Nat → Prop) (r : mg_R) : Prop := ∀ s, mg_D C s → (∀ a, a ∈ r.2 → S (mg_f a s)) → S (mg_f r.1 s)
def mg_cl (C : Nat) (P : List mg_R) (S : Nat → Prop) : Prop := ∀ r, r ∈ P → mg_rc C S r
/-- the least model -/
def mg_lm (C : Nat) (P : List mg_R) (F : Nat → Prop) (k : Nat) : Prop := ∀ S : Nat → Prop, (∀ f, F f → S f) → mg_cl C P S → S k
theorem mg_lm_in {C : Nat} {P : List mg_R} {F : Nat → Prop} {k : Nat} (h : F k) : mg_lm C P F k := fun _ hS _ => hS k h
theorem mg_lm_cl {C : Nat} {P : List mg_R} {F : Nat → Prop} : mg_cl C P (mg_lm C P F) := fun r hr s hs hb S hS hc => hc r hr s hs (fun a ha => hb a ha S hS hc)
/-! codes: three bits a variable -/
def mg_V (C c : Nat) : Prop := c < 512 ∧ c % 8 ≤ C ∧ c / 8 % 8 ≤ C ∧ c / 64 % 8 ≤ C
def mg_S (c : Nat) (s : Nat × Nat × Nat) : Prop := (c % 8 = 0 ∨ c % 8 = s.1 + 1) ∧ (c / 8 % 8 = 0 ∨ c / 8 % 8 = s.2.1 + 1) ∧ (c / 64 % 8 = 0 ∨ c / 64 % 8 = s.2.2 + 1)
def mg_B (t : Int32) (c : Nat) : Prop := (t = -1 → c % 8 ≠ 0) ∧ (t = -2 → c / 8 % 8 ≠ 0) ∧ (t = -3 → c / 64 % 8 ≠ 0)
def mg_can (c : Nat) : Nat × Nat × Nat := (c % 8 - 1, c / 8 % 8 - 1, c / 64 % 8 - 1)
theorem mg_can_S (c : Nat) : mg_S c (mg_can c) := by
  unfold mg_S mg_can
  dsimp only
  omega
theorem mg_can_D {C c : Nat} (hC : 1 ≤ C) (h : mg_V C c) : mg_D C (mg_can c) := by
  unfold mg_V at h
  unfold mg_D mg_can
  dsimp only
  omega
theorem mg_sh0 : ∀ c, c < 512 → (nI c >>> ((3 * ((-1) - (-1 : Int32))) &&& 31)) &&& 7 = nI (c % 8) := by decide +kernel
theorem mg_sh1 : ∀ c, c < 512 → (nI c >>> ((3 * ((-1) - (-2 : Int32))) &&& 31)) &&& 7 = nI (c / 8 % 8) := by decide +kernel
theorem mg_sh2 : ∀ c, c < 512 → (nI c >>> ((3 * ((-1) - (-3 : Int32))) &&& 31)) &&& 7 = nI (c / 64 % 8) := by decide +kernel
theorem mg_or0 : ∀ c, c < 512 → ∀ x, x < 5 → c % 8 = 0 → nI c ||| ((nI x + 1) <<< ((3 * ((-1) - (-1 : Int32))) &&& 31)) = nI (c + (x + 1)) := by decide +kernel
theorem mg_or1 : ∀ c, c < 512 → ∀ x, x < 5 → c / 8 % 8 = 0 → nI c ||| ((nI x + 1) <<< ((3 * ((-1) - (-2 : Int32))) &&& 31)) = nI (c + (x + 1) * 8) := by decide +kernel
theorem mg_or2 : ∀ c, c < 512 → ∀ x, x < 5 → c / 64 % 8 = 0 → nI c ||| ((nI x + 1) <<< ((3 * ((-1) - (-3 : Int32))) &&& 31)) = nI (c + (x + 1) * 64) := by decide +kernel
/-- what match answers: the code of the assignments of code c at which t is x, or -1 where there are none -/
def mg_mt (C c : Nat) (t : Int32) (x : Nat) (r : Int32) : Prop :=
  (r = -1 ∧ ∀ s, mg_S c s → mg_tv t s ≠ x) ∨ ∃ c', r = nI c' ∧ mg_V C c' ∧ (∀ s, mg_S c' s ↔ (mg_S c s ∧ mg_tv t s = x)) ∧ mg_B t c' ∧ ∀ t', mg_B t' c → mg_B t' c'
theorem mg_B_c {x c : Nat} (h : x < 2 ^ 31) : mg_B (nI x) c :=
  ⟨fun e => absurd e (mg_ne h (by decide)), fun e => absurd e (mg_ne h (by decide)), fun e => absurd e (mg_ne h (by decide))⟩
theorem mg_mt0 {C c x : Nat} (hc : mg_V C c) (hx : x < C) (hC : C ≤ 5) (z : c % 8 = 0) : mg_mt C c (-1) x (nI (c + (x + 1))) := by
  obtain ⟨h0, h1, h2, h3⟩ := hc
  have f0 : (c + (x + 1)) % 8 = x + 1 := by omega
  have f1 : (c + (x + 1)) / 8 % 8 = c / 8 % 8 := by omega
  have f2 : (c + (x + 1)) / 64 % 8 = c / 64 % 8 := by omega
  refine Or.inr ⟨_, rfl, ⟨by omega, by omega, by omega, by omega⟩, fun s => ?_, ⟨fun _ => by omega, fun e => absurd e (by decide), fun e => absurd e (by decide)⟩, fun t' b => ⟨fun e => by have := b.1 e; omega, fun e => by have := b.2.1 e; omega, fun e => by have := b.2.2 e; omega⟩⟩
  unfold mg_S
  rw [f0, f1, f2, mg_tv1]
  omega
theorem mg_mt1 {C c x : Nat} (hc : mg_V C c) (hx : x < C) (hC : C ≤ 5) (z : c / 8 % 8 = 0) : mg_mt C c (-2) x (nI (c + (x + 1) * 8)) := by
  obtain ⟨h0, h1, h2, h3⟩ := hc
  have f0 : (c + (x + 1) * 8) % 8 = c % 8 := by omega
  have f1 : (c + (x + 1) * 8) / 8 % 8 = x + 1 := by omega
  have f2 : (c + (x + 1) * 8) / 64 % 8 = c / 64 % 8 := by omega
  refine Or.inr ⟨_, rfl, ⟨by omega, by omega, by omega, by omega⟩, fun s => ?_, ⟨fun e => absurd e (by decide), fun _ => by omega, fun e => absurd e (by decide)⟩, fun t' b => ⟨fun e => by have := b.1 e; omega, fun e => by have := b.2.1 e; omega, fun e => by have := b.2.2 e; omega⟩⟩
  unfold mg_S
  rw [f0, f1, f2, mg_tv2]
  omega
theorem mg_mt2 {C c x : Nat} (hc : mg_V C c) (hx : x < C) (hC : C ≤ 5) (z : c / 64 % 8 = 0) : mg_mt C c (-3) x (nI (c + (x + 1) * 64)) := by
  obtain ⟨h0, h1, h2, h3⟩ := hc
  have f0 : (c + (x + 1) * 64) % 8 = c % 8 := by omega
  have f1 : (c + (x + 1) * 64) / 8 % 8 = c / 8 % 8 := by omega
  have f2 : (c + (x + 1) * 64) / 64 % 8 = x + 1 := by omega
  refine Or.inr ⟨_, rfl, ⟨by omega, by omega, by omega, by omega⟩, fun s => ?_, ⟨fun e => absurd e (by decide), fun e => absurd e (by decide), fun _ => by omega⟩, fun t' b => ⟨fun e => by have := b.1 e; omega, fun e => by have := b.2.1 e; omega, fun e => by have := b.2.2 e; omega⟩⟩
  unfold mg_S
  rw [f0, f1, f2, mg_tv3]
  omega
theorem mg_mt_same {C c x : Nat} {t : Int32} (hc : mg_V C c) (h : ∀ s, mg_S c s → mg_tv t s = x) (hb : mg_B t c) : mg_mt C c t x (nI c) :=
  Or.inr ⟨c, rfl, hc, fun s => ⟨fun h' => ⟨h', h s h'⟩, fun h' => h'.1⟩, hb, fun _ b => b⟩
section
variable {cC pC rL rC dO sC zP zQ qT gC aC fC bC nA gO rE : Int32} {ce bl kn qu aR aF aS gL iA aQ bP fr ba an : Nat → Int32}
theorem xx_match {post : Int32 → Prop} {C c x : Nat} {t : Int32} (hC : C ≤ 5) (hc : mg_V C c) (ht : mg_T C t) (hx : x < C) (h : ∀ r, mg_mt C c t x r → post r) : wpX_match post (cC, pC, rL, rC, dO, sC, zP, zQ, qT, gC, aC, fC, bC, nA, gO, rE, ce, bl, kn, qu, aR, aF, aS, gL, iA, aQ, bP, fr, ba, an) (nI c) t (nI x) := by
  have h5 := hc.1
  unfold wpX_match
  refine br_t (nI_pos' (by omega)) ?_
  rcases ht with rfl | rfl | rfl | ⟨y, hy, rfl⟩
  · refine br_t (by decide) ?_
    intro x4 e4 x5 e5
    subst e4
    rw [mg_sh0 c h5] at e5
    subst e5
    refine br_c (fun z => ?_) (fun z => ?_)
    · rw [show (0 : Int32) = nI 0 from rfl, nI_eq (by omega) (by omega)] at z
      rw [mg_or0 c h5 x (by omega) z]
      exact h _ (mg_mt0 hc hx hC z)
    · rw [show (0 : Int32) = nI 0 from rfl, nI_eq (by omega) (by omega)] at z
      rw [nI_1, nI_eq (by omega) (by omega)]
      refine br_c (fun w => h _ (mg_mt_same hc (fun s hs => ?_) ⟨fun _ => z, fun e => absurd e (by decide), fun e => absurd e (by decide)⟩)) (fun w => h _ (Or.inl ⟨rfl, fun s hs => ?_⟩))
      · rw [mg_tv1]; unfold mg_S at hs; omega
      · rw [mg_tv1]; unfold mg_S at hs; omega
  · refine br_t (by decide) ?_
    intro x4 e4 x5 e5
    subst e4
    rw [mg_sh1 c h5] at e5
    subst e5
    refine br_c (fun z => ?_) (fun z => ?_)
    · rw [show (0 : Int32) = nI 0 from rfl, nI_eq (by omega) (by omega)] at z
      rw [mg_or1 c h5 x (by omega) z]
      exact h _ (mg_mt1 hc hx hC z)
    · rw [show (0 : Int32) = nI 0 from rfl, nI_eq (by omega) (by omega)] at z
      rw [nI_1, nI_eq (by omega) (by omega)]
      refine br_c (fun w => h _ (mg_mt_same hc (fun s hs => ?_) ⟨fun e => absurd e (by decide), fun _ => z, fun e => absurd e (by decide)⟩)) (fun w => h _ (Or.inl ⟨rfl, fun s hs => ?_⟩))
      · rw [mg_tv2]; unfold mg_S at hs; omega
      · rw [mg_tv2]; unfold mg_S at hs; omega
  · refine br_t (by decide) ?_
    intro x4 e4 x5 e5
    subst e4
    rw [mg_sh2 c h5] at e5
    subst e5
    refine br_c (fun z => ?_) (fun z => ?_)
    · rw [show (0 : Int32) = nI 0 from rfl, nI_eq (by omega) (by omega)] at z
      rw [mg_or2 c h5 x (by omega) z]
      exact h _ (mg_mt2 hc hx hC z)
    · rw [show (0 : Int32) = nI 0 from rfl, nI_eq (by omega) (by omega)] at z
      rw [nI_1, nI_eq (by omega) (by omega)]
      refine br_c (fun w => h _ (mg_mt_same hc (fun s hs => ?_) ⟨fun e => absurd e (by decide), fun e => absurd e (by decide), fun _ => z⟩)) (fun w => h _ (Or.inl ⟨rfl, fun s hs => ?_⟩))
      · rw [mg_tv3]; unfold mg_S at hs; omega
      · rw [mg_tv3]; unfold mg_S at hs; omega
  · refine br_f (nI_pos (by omega)) ?_
    refine pk_eq y x (fun e => ?_) (fun e => ?_)
    · exact h _ (mg_mt_same hc (fun s _ => by rw [mg_tvc (by omega)]; exact e) (mg_B_c (by omega)))
    · exact h _ (Or.inl ⟨rfl, fun s _ => by rw [mg_tvc (by omega)]; exact e⟩)
theorem xx_match_neg {post : Int32 → Prop} {t x : Int32} (h : post (-1)) : wpX_match post (cC, pC, rL, rC, dO, sC, zP, zQ, qT, gC, aC, fC, bC, nA, gO, rE, ce, bl, kn, qu, aR, aF, aS, gL, iA, aQ, bP, fr, ba, an) (-1) t x := br_f (by decide) h
theorem mg_val {C c : Nat} {t : Int32} (hc : mg_V C c) (hC : C ≤ 5) (hb : mg_B t c) (ht : mg_T C t) {s : Nat × Nat × Nat} (hs : mg_S c s) : mg_tv t s = mg_tv t (mg_can c) := by
  unfold mg_S at hs
  rcases ht with rfl | rfl | rfl | ⟨y, hy, rfl⟩
  · rw [mg_tv1, mg_tv1]; have := hb.1 rfl; unfold mg_can; dsimp only; omega
  · rw [mg_tv2, mg_tv2]; have := hb.2.1 rfl; unfold mg_can; dsimp only; omega
  · rw [mg_tv3, mg_tv3]; have := hb.2.2 rfl; unfold mg_can; dsimp only; omega
  · rw [mg_tvc (by omega), mg_tvc (by omega)]
theorem xx_valueOf {post : Int32 → Prop} {C c : Nat} {t : Int32} (hc : mg_V C c) (hC : C ≤ 5) (hb : mg_B t c) (ht : mg_T C t) (h : post (nI (mg_tv t (mg_can c)))) : wpX_valueOf post (cC, pC, rL, rC, dO, sC, zP, zQ, qT, gC, aC, fC, bC, nA, gO, rE, ce, bl, kn, qu, aR, aF, aS, gL, iA, aQ, bP, fr, ba, an) (nI c) t := by
  have h5 := hc.1
  unfold wpX_valueOf
  rcases ht with rfl | rfl | rfl | ⟨y, hy, rfl⟩
  · refine br_t (by decide) ?_
    have := hb.1 rfl
    rw [mg_sh0 c h5, show (1 : Int32) = nI 1 from rfl, pk_sub (by omega)]
    rw [mg_tv1] at h
    exact h
  · refine br_t (by decide) ?_
    have := hb.2.1 rfl
    rw [mg_sh1 c h5, show (1 : Int32) = nI 1 from rfl, pk_sub (by omega)]
    rw [mg_tv2] at h
    exact h
  · refine br_t (by decide) ?_
    have := hb.2.2 rfl
    rw [mg_sh2 c h5, show (1 : Int32) = nI 1 from rfl, pk_sub (by omega)]
    rw [mg_tv3] at h
    exact h
  · refine br_f (nI_pos (by omega)) ?_
    rw [mg_tvc (by omega)] at h
    exact h
end
/-! lists of codes that exclude each other -/
def mg_Den (f : Nat → Int32) (n : Nat) (s : Nat × Nat × Nat) : Prop := ∃ i, i < n ∧ mg_S (f i).toNatClampNeg s
def mg_Ok (C : Nat) (TS : Int32 → Prop) (f : Nat → Int32) (n : Nat) : Prop :=
  (∀ i, i < n → ∃ c, f i = nI c ∧ mg_V C c ∧ ∀ t, TS t → mg_B t c) ∧
  ∀ i j s, i < n → j < n → mg_D C s → mg_S (f i).toNatClampNeg s → mg_S (f j).toNatClampNeg s → i = j
theorem mg_Ok_le {C : Nat} {TS : Int32 → Prop} {f : Nat → Int32} {n : Nat} (hC : 1 ≤ C ∧ C ≤ 5) (h : mg_Ok C TS f n) : n ≤ 125 := by
  refine mg_inj_le (fun i => (mg_can (f i).toNatClampNeg).1 + 5 * (mg_can (f i).toNatClampNeg).2.1 + 25 * (mg_can (f i).toNatClampNeg).2.2) (fun i hi => ?_) (fun i j hi hj e => ?_)
  · obtain ⟨c, e, hv, _⟩ := h.1 i hi
    have hd := mg_can_D hC.1 hv
    unfold mg_D at hd
    rw [e, nI_clamp (by have := hv.1; omega)]
    omega
  · obtain ⟨c, ec, hv, _⟩ := h.1 i hi
    obtain ⟨d, ed, hw, _⟩ := h.1 j hj
    have hd := mg_can_D hC.1 hv
    have hd' := mg_can_D hC.1 hw
    have s1 := mg_can_S c
    have s2 := mg_can_S d
    have k1 : (f i).toNatClampNeg = c := by rw [ec, nI_clamp (by have := hv.1; omega)]
    have k2 : (f j).toNatClampNeg = d := by rw [ed, nI_clamp (by have := hw.1; omega)]
    rw [k1, k2] at e
    have ee : mg_can c = mg_can d := by
      unfold mg_D at hd hd'
      generalize mg_can c = p at *
      generalize mg_can d = q at *
      obtain ⟨p1, p2, p3⟩ := p
      obtain ⟨q1, q2, q3⟩ := q
      dsimp only at *
      have : p1 = q1 ∧ p2 = q2 ∧ p3 = q3 := by omega
      rw [this.1, this.2.1, this.2.2]
    exact h.2 i j (mg_can c) hi hj hd (by rw [k1]; exact s1) (by rw [k2, ee]; exact s2)
theorem mg_Ok_0 {C : Nat} {TS : Int32 → Prop} {f : Nat → Int32} : mg_Ok C TS f 0 := ⟨fun i h => by omega, fun i j s h => by omega⟩
theorem mg_Den_0 {f : Nat → Int32} {s : Nat × Nat × Nat} : ¬ mg_Den f 0 s := fun ⟨i, h, _⟩ => by omega
theorem mg_push_den {f : Nat → Int32} {n e : Nat} (he : e < 512) (s : Nat × Nat × Nat) : mg_Den (upd f n (nI e)) (n + 1) s ↔ (mg_Den f n s ∨ mg_S e s) := by
  constructor
  · rintro ⟨i, hi, h⟩
    by_cases z : i = n
    · subst z
      rw [pk_us, nI_clamp (by omega)] at h
      exact Or.inr h
    · rw [pk_un z] at h
      exact Or.inl ⟨i, by omega, h⟩
  · rintro (⟨i, hi, h⟩ | h)
    · exact ⟨i, by omega, by rw [pk_un (by omega)]; exact h⟩
    · exact ⟨n, by omega, by rw [pk_us, nI_clamp (by omega)]; exact h⟩
theorem mg_push {C : Nat} {TS : Int32 → Prop} {f : Nat → Int32} {n e : Nat} (h : mg_Ok C TS f n) (hv : mg_V C e) (hb : ∀ t, TS t → mg_B t e) (hx : ∀ s, mg_D C s → mg_S e s → ¬ mg_Den f n s) : mg_Ok C TS (upd f n (nI e)) (n + 1) := by
  have he : e < 2 ^ 31 := by have := hv.1; omega
  refine ⟨fun i hi => ?_, fun i j s hi hj hs h1 h2 => ?_⟩
  · by_cases z : i = n
    · subst z
      exact ⟨e, pk_us, hv, hb⟩
    · rw [pk_un z]
      exact h.1 i (by omega)
  · by_cases z : i = n
    · by_cases y : j = n
      · omega
      · subst z
        rw [pk_us, nI_clamp he] at h1
        rw [pk_un y] at h2
        exact absurd ⟨j, by omega, h2⟩ (hx s hs h1)
    · rw [pk_un z] at h1
      by_cases y : j = n
      · subst y
        rw [pk_us, nI_clamp he] at h2
        exact absurd ⟨i, by omega, h1⟩ (hx s hs h2)
      · rw [pk_un y] at h2
        exact h.2 i j s (by omega) (by omega) hs h1 h2
end
section
/-! X: the joins (extendRow, extendOne, extendAll) -/
theorem mg_Ok_congr {C : Nat} {TS : Int32 → Prop} {f g : Nat → Int32} {n : Nat} (e : ∀ j, j < n → g j = f j) (h : mg_Ok C TS f n) : mg_Ok C TS g n := by
  refine ⟨fun i hi => ?_, fun i j s hi hj hs h1 h2 => ?_⟩
  · rw [e i hi]; exact h.1 i hi
  · rw [e i hi] at h1
    rw [e j hj] at h2
    exact h.2 i j s hi hj hs h1 h2
theorem mg_Den_congr {f g : Nat → Int32} {n : Nat} (e : ∀ j, j < n → g j = f j) (s : Nat × Nat × Nat) : mg_Den g n s ↔ mg_Den f n s := by
  constructor
  · rintro ⟨i, hi, h⟩
    exact ⟨i, hi, by rw [e i hi] at h; exact h⟩
  · rintro ⟨i, hi, h⟩
    exact ⟨i, hi, by rw [e i hi]; exact h⟩
theorem mg_Ok_TS {C : Nat} {TS TS' : Int32 → Prop} {f : Nat → Int32} {n : Nat} (e : ∀ t, TS' t → TS t) (h : mg_Ok C TS f n) : mg_Ok C TS' f n :=
  ⟨fun i hi => by obtain ⟨c, h1, h2, h3⟩ := h.1 i hi; exact ⟨c, h1, h2, fun t ht => h3 t (e t ht)⟩, h.2⟩
section
variable {cC pC rL rC dO sC zP zQ qT gC aC fC bC nA gO rE : Int32} {ce bl kn qu aR aF aS gL iA aQ bP fr ba an : Nat → Int32}
theorem xx_extendRow_18 {post : SX → Prop} {C c k rel x n0 : Nat} {TS : Int32 → Prop} {ba0 : Nat → Int32}
    (hC : 1 ≤ C ∧ C ≤ 5) (hc : mg_V C c) (hk : k < 720) (hr : rel < 40) (hx : x < C) (hT : mg_T C (aS k))
    (hTS : ∀ c', (∀ t, mg_B t c → mg_B t c') → mg_B (aS k) c' → ∀ t, TS t → mg_B t c')
    (hex : ∀ s, mg_D C s → mg_S c s → ¬ mg_Den ba0 n0 s)
    (K : ∀ m ba', mg_Ok C TS ba' m → (∀ s, mg_D C s → (mg_Den ba' m s ↔ (mg_Den ba0 n0 s ∨ (mg_S c s ∧ kn (rel * 25 + x * 5 + mg_tv (aS k) s) ≠ 0)))) → post (nI C, pC, rL, rC, dO, sC, zP, zQ, qT, gC, aC, fC, nI m, nA, gO, rE, ce, bl, kn, qu, aR, aF, aS, gL, iA, aQ, bP, fr, ba', an)) :
    ∀ n y m ba, C < n + y → y ≤ C → mg_Ok C TS ba m → (∀ s, mg_D C s → (mg_Den ba m s ↔ (mg_Den ba0 n0 s ∨ (mg_S c s ∧ mg_tv (aS k) s < y ∧ kn (rel * 25 + x * 5 + mg_tv (aS k) s) ≠ 0)))) →
    wX_extendRow_18 post (nI c) (nI k) (nI (rel * 25 + x * 5)) (nI C) pC rL rC dO sC zP zQ qT gC aC fC nA gO rE n (nI y) (nI m) ce bl kn qu aR aF aS gL iA aQ bP fr ba an := by
  intro n
  induction n with
  | zero => intro y m ba h1 h2; omega
  | succ n ih =>
    intro y m ba hn hy hok hden
    unfold wX_extendRow_18
    refine pk_le C y (fun e => ?_) (fun e => ?_)
    · refine K m ba hok (fun s hs => ?_)
      have hlt := mg_tv_lt hC.2 hT hs
      rw [hden s hs]
      constructor
      · rintro (h | ⟨h1, _, h3⟩)
        · exact Or.inl h
        · exact Or.inr ⟨h1, h3⟩
      · rintro (h | ⟨h1, h3⟩)
        · exact Or.inl h
        · exact Or.inr ⟨h1, by omega, h3⟩
    · refine ⟨vp_in_nI hk (by omega), ?_⟩
      rw [nI_clamp (show k < 2 ^ 31 by omega)]
      refine xx_match hC.2 hc hT (by omega) (fun r hr => ?_)
      rcases hr with ⟨rfl, hno⟩ | ⟨e1, rfl, hV, hS, hB, hBB⟩
      · refine br_t (by decide) (nm_r (nI_1 y) (ih (y + 1) m ba (by omega) (by omega) hok (fun s hs => ?_)))
        rw [hden s hs]
        constructor
        · rintro (h | ⟨h1, h2, h3⟩)
          · exact Or.inl h
          · exact Or.inr ⟨h1, by omega, h3⟩
        · rintro (h | ⟨h1, h2, h3⟩)
          · exact Or.inl h
          · exact Or.inr ⟨h1, by have := hno s h1; omega, h3⟩
      · have hb : rel * 25 + x * 5 + y < 1000 := by omega
        refine br_f (nI_pos (by have := hV.1; omega)) ?_
        rw [nI_add (rel * 25 + x * 5) y]
        refine ⟨vp_in_nI hb (by omega), ?_⟩
        rw [nI_clamp (show rel * 25 + x * 5 + y < 2 ^ 31 by omega)]
        refine br_c (fun z => ?_) (fun z => ?_)
        · refine nm_r (nI_1 y) (ih (y + 1) m ba (by omega) (by omega) hok (fun s hs => ?_))
          rw [hden s hs]
          constructor
          · rintro (h | ⟨h1, h2, h3⟩)
            · exact Or.inl h
            · exact Or.inr ⟨h1, by omega, h3⟩
          · rintro (h | ⟨h1, h2, h3⟩)
            · exact Or.inl h
            · refine Or.inr ⟨h1, ?_, h3⟩
              rcases Nat.lt_or_ge (mg_tv (aS k) s) y with g | g
              · exact g
              · have : mg_tv (aS k) s = y := by omega
                rw [this] at h3
                exact absurd z h3
        · have hx' : ∀ s, mg_D C s → mg_S e1 s → ¬ mg_Den ba m s := fun s hs h => by
            rw [hden s hs]
            have hh := (hS s).mp h
            rintro (g | ⟨_, g, _⟩)
            · exact hex s hs hh.1 g
            · omega
          have ok' := mg_push hok hV (hTS e1 hBB hB) hx'
          have hm := mg_Ok_le hC ok'
          refine ⟨vp_in_nI (by omega) (by omega), ?_⟩
          rw [nI_clamp (show m < 2 ^ 31 by omega)]
          refine nm_e (nm_r (nI_1 m) (nm_r (nI_1 y) (ih (y + 1) (m + 1) (upd ba m (nI e1)) (by omega) (by omega) ok' (fun s hs => ?_))))
          rw [mg_push_den hV.1, hden s hs, hS s]
          constructor
          · rintro ((h | ⟨h1, h2, h3⟩) | ⟨h1, h2⟩)
            · exact Or.inl h
            · exact Or.inr ⟨h1, by omega, h3⟩
            · exact Or.inr ⟨h1, by omega, by rw [h2]; exact z⟩
          · rintro (h | ⟨h1, h2, h3⟩)
            · exact Or.inl (Or.inl h)
            · rcases Nat.lt_or_ge (mg_tv (aS k) s) y with g | g
              · exact Or.inl (Or.inr ⟨h1, g, h3⟩)
              · exact Or.inr ⟨h1, by omega⟩
theorem xx_extendRow {post : SX → Prop} {C c k rel x m : Nat} {TS : Int32 → Prop}
    (hC : 1 ≤ C ∧ C ≤ 5) (hc : mg_V C c) (hk : k < 720) (hR : aR k = nI rel) (hr : rel < 40) (hx : x < C) (hT : mg_T C (aS k))
    (hTS : ∀ c', (∀ t, mg_B t c → mg_B t c') → mg_B (aS k) c' → ∀ t, TS t → mg_B t c')
    (hok : mg_Ok C TS ba m) (hex : ∀ s, mg_D C s → mg_S c s → ¬ mg_Den ba m s)
    (K : ∀ m' ba', mg_Ok C TS ba' m' → (∀ s, mg_D C s → (mg_Den ba' m' s ↔ (mg_Den ba m s ∨ (mg_S c s ∧ kn (rel * 25 + x * 5 + mg_tv (aS k) s) ≠ 0)))) → post (nI C, pC, rL, rC, dO, sC, zP, zQ, qT, gC, aC, fC, nI m', nA, gO, rE, ce, bl, kn, qu, aR, aF, aS, gL, iA, aQ, bP, fr, ba', an)) :
    wpX_extendRow post (nI C, pC, rL, rC, dO, sC, zP, zQ, qT, gC, aC, fC, nI m, nA, gO, rE, ce, bl, kn, qu, aR, aF, aS, gL, iA, aQ, bP, fr, ba, an) (nI c) (nI k) (nI x) := by
  unfold wpX_extendRow
  refine And.intro (vp_in_nI hk (by omega)) ?_
  rw [nI_clamp (show k < 2 ^ 31 by omega), hR]
  refine nm_r (e' := nI (rel * 25 + x * 5)) ?_ ⟨C + 1, xx_extendRow_18 hC hc hk hr hx hT hTS hex K (C + 1) 0 m ba (by omega) (by omega) hok (fun s hs => ?_)⟩
  · rw [show (25 : Int32) = nI 25 from rfl, show (5 : Int32) = nI 5 from rfl, pk_mul, pk_mul, nI_add]
  · constructor
    · exact Or.inl
    · rintro (h | ⟨_, h, _⟩)
      · exact h
      · omega
theorem xx_extendOne_2 {post : SX → Prop} {C c k rel n0 : Nat} {TS : Int32 → Prop} {ba0 : Nat → Int32}
    (hC : 1 ≤ C ∧ C ≤ 5) (hc : mg_V C c) (hk : k < 720) (hR : aR k = nI rel) (hr : rel < 40) (hT1 : mg_T C (aF k)) (hT2 : mg_T C (aS k))
    (hTS : ∀ c', (∀ t, mg_B t c → mg_B t c') → mg_B (aF k) c' → mg_B (aS k) c' → ∀ t, TS t → mg_B t c')
    (hex : ∀ s, mg_D C s → mg_S c s → ¬ mg_Den ba0 n0 s)
    (K : ∀ m ba', mg_Ok C TS ba' m → (∀ s, mg_D C s → (mg_Den ba' m s ↔ (mg_Den ba0 n0 s ∨ (mg_S c s ∧ kn (mg_f (rel, aF k, aS k) s) ≠ 0)))) → post (nI C, pC, rL, rC, dO, sC, zP, zQ, qT, gC, aC, fC, nI m, nA, gO, rE, ce, bl, kn, qu, aR, aF, aS, gL, iA, aQ, bP, fr, ba', an)) :
    ∀ n x m ba, C < n + x → x ≤ C → mg_Ok C TS ba m → (∀ s, mg_D C s → (mg_Den ba m s ↔ (mg_Den ba0 n0 s ∨ (mg_S c s ∧ mg_tv (aF k) s < x ∧ kn (mg_f (rel, aF k, aS k) s) ≠ 0)))) →
    wX_extendOne_2 post (nI c) (nI k) n (nI x) (nI C) pC rL rC dO sC zP zQ qT gC aC fC (nI m) nA gO rE ce bl kn qu aR aF aS gL iA aQ bP fr ba an := by
  intro n
  induction n with
  | zero => intro x m ba h1 h2; omega
  | succ n ih =>
    intro x m ba hn hy hok hden
    unfold wX_extendOne_2
    refine pk_le C x (fun e => ?_) (fun e => ?_)
    · refine K m ba hok (fun s hs => ?_)
      have hlt := mg_tv_lt hC.2 hT1 hs
      rw [hden s hs]
      constructor
      · rintro (h | ⟨h1, _, h3⟩)
        · exact Or.inl h
        · exact Or.inr ⟨h1, h3⟩
      · rintro (h | ⟨h1, h3⟩)
        · exact Or.inl h
        · exact Or.inr ⟨h1, by omega, h3⟩
    · refine ⟨vp_in_nI hk (by omega), ?_⟩
      rw [nI_clamp (show k < 2 ^ 31 by omega)]
      refine xx_match hC.2 hc hT1 (by omega) (fun r hr => ?_)
      rcases hr with ⟨rfl, hno⟩ | ⟨e1, rfl, hV, hS, hB, hBB⟩
      · refine br_t (by decide) (nm_r (nI_1 x) (ih (x + 1) m ba (by omega) (by omega) hok (fun s hs => ?_)))
        rw [hden s hs]
        constructor
        · rintro (h | ⟨h1, h2, h3⟩)
          · exact Or.inl h
          · exact Or.inr ⟨h1, by omega, h3⟩
        · rintro (h | ⟨h1, h2, h3⟩)
          · exact Or.inl h
          · exact Or.inr ⟨h1, by have := hno s h1; omega, h3⟩
      · refine br_f (nI_pos (by have := hV.1; omega)) ?_
        refine xx_extendRow (TS := TS) hC hV hk hR hr (by omega) hT2 (fun c' h1 h2 => hTS c' (fun t ht => h1 t (hBB t ht)) (h1 _ hB) h2) hok (fun s hs h => ?_) (fun m' ba' hok' hden' => ?_)
        · rw [hden s hs]
          have hh := (hS s).mp h
          rintro (g | ⟨_, g, _⟩)
          · exact hex s hs hh.1 g
          · omega
        · refine nm_r (nI_1 x) (ih (x + 1) m' ba' (by omega) (by omega) hok' (fun s hs => ?_))
          rw [hden' s hs, hden s hs, hS s]
          constructor
          · rintro ((h | ⟨h1, h2, h3⟩) | ⟨⟨h1, h2⟩, h3⟩)
            · exact Or.inl h
            · exact Or.inr ⟨h1, by omega, h3⟩
            · refine Or.inr ⟨h1, by omega, ?_⟩
              unfold mg_f
              rw [h2]
              exact h3
          · rintro (h | ⟨h1, h2, h3⟩)
            · exact Or.inl (Or.inl h)
            · rcases Nat.lt_or_ge (mg_tv (aF k) s) x with g | g
              · exact Or.inl (Or.inr ⟨h1, g, h3⟩)
              · have ex : mg_tv (aF k) s = x := by omega
                refine Or.inr ⟨⟨h1, ex⟩, ?_⟩
                unfold mg_f at h3
                rw [ex] at h3
                exact h3
theorem xx_extendOne {post : SX → Prop} {C c k rel m : Nat} {TS : Int32 → Prop}
    (hC : 1 ≤ C ∧ C ≤ 5) (hc : mg_V C c) (hk : k < 720) (hR : aR k = nI rel) (hr : rel < 40) (hT1 : mg_T C (aF k)) (hT2 : mg_T C (aS k))
    (hTS : ∀ c', (∀ t, mg_B t c → mg_B t c') → mg_B (aF k) c' → mg_B (aS k) c' → ∀ t, TS t → mg_B t c')
    (hok : mg_Ok C TS ba m) (hex : ∀ s, mg_D C s → mg_S c s → ¬ mg_Den ba m s)
    (K : ∀ m' ba', mg_Ok C TS ba' m' → (∀ s, mg_D C s → (mg_Den ba' m' s ↔ (mg_Den ba m s ∨ (mg_S c s ∧ kn (mg_f (rel, aF k, aS k) s) ≠ 0)))) → post (nI C, pC, rL, rC, dO, sC, zP, zQ, qT, gC, aC, fC, nI m', nA, gO, rE, ce, bl, kn, qu, aR, aF, aS, gL, iA, aQ, bP, fr, ba', an)) :
    wpX_extendOne post (nI C, pC, rL, rC, dO, sC, zP, zQ, qT, gC, aC, fC, nI m, nA, gO, rE, ce, bl, kn, qu, aR, aF, aS, gL, iA, aQ, bP, fr, ba, an) (nI c) (nI k) := by
  unfold wpX_extendOne
  refine ⟨C + 1, xx_extendOne_2 hC hc hk hR hr hT1 hT2 hTS hex K (C + 1) 0 m ba (by omega) (by omega) hok (fun s hs => ?_)⟩
  constructor
  · exact Or.inl
  · rintro (h | ⟨_, h, _⟩)
    · exact h
    · omega
theorem xx_extendAll_34 {post : SX → Prop} {m : Nat} (hm : m ≤ 125) (K : ∀ fr', (∀ j, j < m → fr' j = ba j) → post (cC, pC, rL, rC, dO, sC, zP, zQ, qT, gC, aC, nI m, nI m, nA, gO, rE, ce, bl, kn, qu, aR, aF, aS, gL, iA, aQ, bP, fr', ba, an)) :
    ∀ n i fr, m < n + i → i ≤ m → (∀ j, j < i → fr j = ba j) → wX_extendAll_34 post cC pC rL rC dO sC zP zQ qT gC aC fC (nI m) nA gO rE n (nI i) ce bl kn qu aR aF aS gL iA aQ bP fr ba an := by
  intro n
  induction n with
  | zero => intro i fr h1 h2; omega
  | succ n ih =>
    intro i fr hn hi hf
    unfold wX_extendAll_34
    refine pk_le m i (fun e => ?_) (fun e => ?_)
    · exact K fr (fun j hj => hf j (by omega))
    · refine ⟨vp_in_nI (by omega) (by omega), vp_in_nI (by omega) (by omega), ?_⟩
      rw [nI_clamp (show i < 2 ^ 31 by omega)]
      refine nm_e (nm_r (nI_1 i) (ih (i + 1) (upd fr i (ba i)) (by omega) (by omega) (fun j hj => ?_)))
      by_cases z : j = i
      · subst z; exact pk_us
      · rw [pk_un z]; exact hf j (by omega)
theorem xx_extendAll_7 {post : SX → Prop} {C k rel M : Nat} {TS TS' : Int32 → Prop}
    (hC : 1 ≤ C ∧ C ≤ 5) (hk : k < 720) (hR : aR k = nI rel) (hr : rel < 40) (hT1 : mg_T C (aF k)) (hT2 : mg_T C (aS k))
    (hTS : ∀ t, TS' t → TS t ∨ t = aF k ∨ t = aS k) (hfr : mg_Ok C TS fr M)
    (K : ∀ m fr' ba', mg_Ok C TS' fr' m → (∀ s, mg_D C s → (mg_Den fr' m s ↔ (mg_Den fr M s ∧ kn (mg_f (rel, aF k, aS k) s) ≠ 0))) → post (nI C, pC, rL, rC, dO, sC, zP, zQ, qT, gC, aC, nI m, nI m, nA, gO, rE, ce, bl, kn, qu, aR, aF, aS, gL, iA, aQ, bP, fr', ba', an)) :
    ∀ n i m ba, M < n + i → i ≤ M → mg_Ok C TS' ba m → (∀ s, mg_D C s → (mg_Den ba m s ↔ (mg_Den fr i s ∧ kn (mg_f (rel, aF k, aS k) s) ≠ 0))) →
    wX_extendAll_7 post (nI k) n (nI i) (nI C) pC rL rC dO sC zP zQ qT gC aC (nI M) (nI m) nA gO rE ce bl kn qu aR aF aS gL iA aQ bP fr ba an := by
  have hM := mg_Ok_le hC hfr
  intro n
  induction n with
  | zero => intro i m ba h1 h2; omega
  | succ n ih =>
    intro i m ba hn hi hok hden
    unfold wX_extendAll_7
    refine pk_le M i (fun e => ?_) (fun e => ?_)
    · have ei : i = M := by omega
      subst ei
      have hm := mg_Ok_le hC hok
      refine ⟨m + 1, xx_extendAll_34 hm (fun fr' hf => ?_) (m + 1) 0 fr (by omega) (by omega) (fun j hj => by omega)⟩
      refine K m fr' ba (mg_Ok_congr hf hok) (fun s hs => ?_)
      rw [mg_Den_congr hf, hden s hs]
    · refine ⟨vp_in_nI (by omega) (by omega), ?_⟩
      obtain ⟨c, ec, hV, hB⟩ := hfr.1 i e
      rw [nI_clamp (show i < 2 ^ 31 by omega), ec]
      have hcl : (fr i).toNatClampNeg = c := by rw [ec, nI_clamp (by have := hV.1; omega)]
      refine xx_extendOne (TS := TS') hC hV hk hR hr hT1 hT2 (fun c' h1 h2 h3 t ht => ?_) hok (fun s hs h => ?_) (fun m' ba' hok' hden' => ?_)
      · rcases hTS t ht with g | g | g
        · exact h1 t (hB t g)
        · rw [g]; exact h2
        · rw [g]; exact h3
      · rw [hden s hs]
        rintro ⟨⟨j, hj, g⟩, _⟩
        have := hfr.2 j i s (by omega) e hs g (by rw [hcl]; exact h)
        omega
      · refine nm_r (nI_1 i) (ih (i + 1) m' ba' (by omega) (by omega) hok' (fun s hs => ?_))
        rw [hden' s hs, hden s hs]
        constructor
        · rintro (⟨⟨j, hj, g⟩, h⟩ | ⟨h1, h2⟩)
          · exact ⟨⟨j, by omega, g⟩, h⟩
          · exact ⟨⟨i, by omega, by rw [hcl]; exact h1⟩, h2⟩
        · rintro ⟨⟨j, hj, g⟩, h⟩
          by_cases z : j = i
          · subst z
            rw [hcl] at g
            exact Or.inr ⟨g, h⟩
          · exact Or.inl ⟨⟨j, by omega, g⟩, h⟩
theorem xx_extendAll {post : SX → Prop} {C k rel M : Nat} {TS TS' : Int32 → Prop}
    (hC : 1 ≤ C ∧ C ≤ 5) (hk : k < 720) (hR : aR k = nI rel) (hr : rel < 40) (hT1 : mg_T C (aF k)) (hT2 : mg_T C (aS k))
    (hTS : ∀ t, TS' t → TS t ∨ t = aF k ∨ t = aS k) (hfr : mg_Ok C TS fr M)
    (K : ∀ m fr' ba', mg_Ok C TS' fr' m → (∀ s, mg_D C s → (mg_Den fr' m s ↔ (mg_Den fr M s ∧ kn (mg_f (rel, aF k, aS k) s) ≠ 0))) → post (nI C, pC, rL, rC, dO, sC, zP, zQ, qT, gC, aC, nI m, nI m, nA, gO, rE, ce, bl, kn, qu, aR, aF, aS, gL, iA, aQ, bP, fr', ba', an)) :
    wpX_extendAll post (nI C, pC, rL, rC, dO, sC, zP, zQ, qT, gC, aC, nI M, bC, nA, gO, rE, ce, bl, kn, qu, aR, aF, aS, gL, iA, aQ, bP, fr, ba, an) (nI k) := by
  unfold wpX_extendAll
  refine ⟨M + 1, xx_extendAll_7 hC hk hR hr hT1 hT2 hTS hfr K (M + 1) 0 0 ba (by omega) (by omega) mg_Ok_0 (fun s hs => ?_)⟩
  exact ⟨fun h => absurd h mg_Den_0, fun h => absurd h.1 mg_Den_0⟩
end
end
section
/-! X: the worklist. The window lo .. lo + w - 1 of known is what is queued -/
def mg_Q (C lo w : Nat) (kn qu : Nat → Int32) (t : Nat) : Prop :=
  (∀ i, i < t → ∃ id, qu i = nI id ∧ lo ≤ id ∧ id < lo + w ∧ id / 5 % 5 < C ∧ id % 5 < C ∧ kn id ≠ 0) ∧
  (∀ id, lo ≤ id → id < lo + w → kn id ≠ 0 → ∃ i, i < t ∧ qu i = nI id) ∧
  mg_cn (fun k => kn (lo + k) ≠ 0) w = t
def mg_st (C lo w : Nat) (kn qu : Nat → Int32) (t : Nat) (kn' qu' : Nat → Int32) (t' : Nat) : Prop :=
  mg_Q C lo w kn' qu' t' ∧ t ≤ t' ∧ (∀ i, i < t → qu' i = qu i) ∧ (∀ k, kn k ≠ 0 → kn' k ≠ 0) ∧ (∀ k, (k < lo ∨ lo + w ≤ k) → kn' k = kn k)
theorem mg_st_rf {C lo w t : Nat} {kn qu : Nat → Int32} (h : mg_Q C lo w kn qu t) : mg_st C lo w kn qu t kn qu t := ⟨h, Nat.le_refl _, fun _ _ => rfl, fun _ h => h, fun _ _ => rfl⟩
theorem mg_st_tr {C lo w t t1 t2 : Nat} {kn qu kn1 qu1 kn2 qu2 : Nat → Int32} (h : mg_st C lo w kn qu t kn1 qu1 t1) (g : mg_st C lo w kn1 qu1 t1 kn2 qu2 t2) : mg_st C lo w kn qu t kn2 qu2 t2 := by
  obtain ⟨_, a2, a3, a4, a5⟩ := h
  obtain ⟨b1, b2, b3, b4, b5⟩ := g
  exact ⟨b1, by omega, fun i hi => by rw [b3 i (by omega), a3 i hi], fun k hk => b4 k (a4 k hk), fun k hk => by rw [b5 k hk, a5 k hk]⟩
theorem mg_Q_le {C lo w t : Nat} {kn qu : Nat → Int32} (h : mg_Q C lo w kn qu t) : t ≤ w := by
  have := mg_cn_le (fun k => kn (lo + k) ≠ 0) w
  have := h.2.2
  omega
section
variable {cC pC rL rC dO sC zP zQ qT gC aC fC bC nA gO rE : Int32} {ce bl kn qu aR aF aS gL iA aQ bP fr ba an : Nat → Int32}
theorem xx_enqueue {post : SX → Prop} {C lo w t id : Nat} (hw : lo + w ≤ 1000) (h1 : lo ≤ id) (h2 : id < lo + w) (hx : id / 5 % 5 < C) (hy : id % 5 < C) (hQ : mg_Q C lo w kn qu t)
    (K : ∀ kn' qu' t', mg_st C lo w kn qu t kn' qu' t' → kn' id ≠ 0 → (∀ k, kn' k ≠ 0 → kn k ≠ 0 ∨ k = id) → post (cC, pC, rL, rC, dO, sC, zP, zQ, nI t', gC, aC, fC, bC, nA, gO, rE, ce, bl, kn', qu', aR, aF, aS, gL, iA, aQ, bP, fr, ba, an)) :
    wpX_enqueue post (cC, pC, rL, rC, dO, sC, zP, zQ, nI t, gC, aC, fC, bC, nA, gO, rE, ce, bl, kn, qu, aR, aF, aS, gL, iA, aQ, bP, fr, ba, an) (nI id) := by
  unfold wpX_enqueue
  refine And.intro (vp_in_nI (by omega) (by omega)) ?_
  rw [nI_clamp (show id < 2 ^ 31 by omega)]
  refine br_c (fun z => ?_) (fun z => K kn qu t (mg_st_rf hQ) z (fun k h => Or.inl h))
  have cnt : mg_cn (fun k => upd kn id 1 (lo + k) ≠ 0) w = t + 1 := by
    have a := mg_cn_add (P := fun k => kn (lo + k) ≠ 0) (a := id - lo) (N := w) (by rw [show lo + (id - lo) = id by omega]; exact fun h => h z) (by omega)
    rw [hQ.2.2] at a
    rw [← a]
    apply mg_cn_eq
    intro k _
    by_cases e : lo + k = id
    · rw [e, pk_us]
      exact ⟨fun _ => Or.inr (by omega), fun _ => mg_10⟩
    · rw [pk_un e]
      exact ⟨Or.inl, fun h => h.elim (fun h => h) (fun h => by omega)⟩
  have ht : t + 1 ≤ w := by rw [← cnt]; exact mg_cn_le _ _
  refine ⟨vp_in_nI (by omega) (by omega), nm_e ⟨vp_in_nI (by omega) (by omega), ?_⟩⟩
  rw [nI_clamp (show t < 2 ^ 31 by omega)]
  refine nm_e (nm_r (nI_1 t) (K (upd kn id 1) (upd qu t (nI id)) (t + 1) ⟨⟨fun i hi => ?_, fun k hk1 hk2 hk => ?_, cnt⟩, by omega, fun i hi => pk_un (by omega), fun k hk => ?_, fun k hk => pk_un (by omega)⟩ (by rw [pk_us]; exact mg_10) (fun k hk => ?_)))
  · by_cases e : i = t
    · subst e
      exact ⟨id, pk_us, h1, h2, hx, hy, by rw [pk_us]; exact mg_10⟩
    · obtain ⟨d, e1, e2, e3, e4, e5, e6⟩ := hQ.1 i (by omega)
      refine ⟨d, by rw [pk_un e]; exact e1, e2, e3, e4, e5, ?_⟩
      by_cases g : d = id
      · rw [g, pk_us]; exact mg_10
      · rw [pk_un g]; exact e6
  · by_cases g : k = id
    · exact ⟨t, by omega, by rw [pk_us, g]⟩
    · rw [pk_un g] at hk
      obtain ⟨i, hi, e⟩ := hQ.2.1 k hk1 hk2 hk
      exact ⟨i, by omega, by rw [pk_un (by omega)]; exact e⟩
  · by_cases g : k = id
    · rw [g, pk_us]; exact mg_10
    · rw [pk_un g]; exact hk
  · by_cases g : k = id
    · exact Or.inr g
    · rw [pk_un g] at hk
      exact Or.inl hk
end
def mg_wf (C lo w : Nat) (r : mg_R) : Prop :=
  r.2.length ≤ 4 ∧ (∀ a, (a = r.1 ∨ a ∈ r.2) → a.1 < 40 ∧ mg_T C a.2.1 ∧ mg_T C a.2.2) ∧ lo ≤ r.1.1 * 25 ∧ r.1.1 * 25 + 25 ≤ lo + w ∧
  (∃ a, a ∈ r.2 ∧ lo ≤ a.1 * 25 ∧ a.1 * 25 + 25 ≤ lo + w) ∧ (∀ t, (t = r.1.2.1 ∨ t = r.1.2.2) → t < 0 → ∃ a, a ∈ r.2 ∧ (t = a.2.1 ∨ t = a.2.2))
def mg_at (aR aF aS : Nat → Int32) (k : Nat) (a : mg_A) : Prop := aR k = nI a.1 ∧ aF k = a.2.1 ∧ aS k = a.2.2
def mg_rep (P : List mg_R) (aR aF aS gL : Nat → Int32) : Prop := ∀ g r, P[g]? = some r → gL g = nI r.2.length ∧ mg_at aR aF aS (g * 5) r.1 ∧ ∀ j a, r.2[j]? = some a → mg_at aR aF aS (g * 5 + (j + 1)) a
theorem mg_f_lt {C : Nat} (hC : C ≤ 5) {a : mg_A} {s : Nat × Nat × Nat} (hs : mg_D C s) (h1 : mg_T C a.2.1) (h2 : mg_T C a.2.2) : a.1 * 25 ≤ mg_f a s ∧ mg_f a s < a.1 * 25 + 25 ∧ mg_f a s / 25 = a.1 ∧ mg_f a s / 5 % 5 = mg_tv a.2.1 s ∧ mg_f a s % 5 = mg_tv a.2.2 s := by
  have u := mg_tv_lt hC h1 hs
  have v := mg_tv_lt hC h2 hs
  unfold mg_f
  generalize mg_tv a.2.1 s = x at *
  generalize mg_tv a.2.2 s = y at *
  omega
/-- what a firing (of rule r at its atom a) does to the known facts -/
def mg_fi (C : Nat) (r : mg_R) (a : mg_A) (x y : Nat) (kn kn' : Nat → Int32) : Prop :=
  (∀ S : Nat → Prop, (∀ k, kn k ≠ 0 → S k) → mg_rc C S r → ∀ k, kn' k ≠ 0 → S k) ∧
  (∀ s, mg_D C s → mg_tv a.2.1 s = x → mg_tv a.2.2 s = y → (∀ b, b ∈ r.2 → kn (mg_f b s) ≠ 0) → kn' (mg_f r.1 s) ≠ 0)
section
variable {cC pC rL rC dO sC zP zQ qT gC aC fC bC nA gO rE : Int32} {ce bl kn qu aR aF aS gL iA aQ bP fr ba an : Nat → Int32}
theorem xx_fire_98 {post : SX → Prop} {C lo w k M : Nat} {h : mg_A} {TS : Int32 → Prop} {kn0 qu0 : Nat → Int32} {t0 : Nat}
    (hC : 1 ≤ C ∧ C ≤ 5) (hw : lo + w ≤ 1000) (hk : k < 720) (ha : mg_at aR aF aS k h) (hh : mg_T C h.2.1 ∧ mg_T C h.2.2) (hl : lo ≤ h.1 * 25) (hl2 : h.1 * 25 + 25 ≤ lo + w)
    (hfr : mg_Ok C TS fr M) (hTS : TS h.2.1 ∧ TS h.2.2)
    (K : ∀ kn' qu' t', mg_st C lo w kn0 qu0 t0 kn' qu' t' → (∀ i, i < M → kn' (mg_f h (mg_can (fr i).toNatClampNeg)) ≠ 0) → (∀ k, kn' k ≠ 0 → kn0 k ≠ 0 ∨ ∃ i, i < M ∧ k = mg_f h (mg_can (fr i).toNatClampNeg)) → post (cC, pC, rL, rC, dO, sC, zP, zQ, nI t', gC, aC, nI M, bC, nA, gO, rE, ce, bl, kn', qu', aR, aF, aS, gL, iA, aQ, bP, fr, ba, an)) :
    ∀ n i t kn qu, M < n + i → i ≤ M → mg_st C lo w kn0 qu0 t0 kn qu t → (∀ j, j < i → kn (mg_f h (mg_can (fr j).toNatClampNeg)) ≠ 0) → (∀ k, kn k ≠ 0 → kn0 k ≠ 0 ∨ ∃ j, j < i ∧ k = mg_f h (mg_can (fr j).toNatClampNeg)) →
    wX_fire_98 post (nI k) n (nI i) cC pC rL rC dO sC zP zQ (nI t) gC aC (nI M) bC nA gO rE ce bl kn qu aR aF aS gL iA aQ bP fr ba an := by
  have hM := mg_Ok_le hC hfr
  obtain ⟨a1, a2, a3⟩ := ha
  intro n
  induction n with
  | zero => intro i t kn qu h1 h2; omega
  | succ n ih =>
    intro i t kn qu hn hi hst hc hs
    unfold wX_fire_98
    refine pk_le M i (fun e => ?_) (fun e => ?_)
    · have ei : i = M := by omega
      subst ei
      exact K kn qu t hst hc hs
    · obtain ⟨c, ec, hV, hB⟩ := hfr.1 i e
      have hcl : (fr i).toNatClampNeg = c := by rw [ec, nI_clamp (by have := hV.1; omega)]
      have hv1 : vp_in (nI i) 125 := vp_in_nI (by omega) (by omega)
      have hv2 : vp_in (nI k) 720 := vp_in_nI (by omega) (by omega)
      refine ⟨hv1, hv2, ?_⟩
      rw [nI_clamp (show i < 2 ^ 31 by omega), nI_clamp (show k < 2 ^ 31 by omega), ec, a1, a2, a3]
      refine xx_valueOf hV hC.2 (hB _ hTS.1) hh.1 ?_
      refine ⟨hv1, hv2, ?_⟩
      refine xx_valueOf hV hC.2 (hB _ hTS.2) hh.2 ?_
      refine ⟨hv2, ?_⟩
      have hd := mg_can_D hC.1 hV
      have hf := mg_f_lt hC.2 hd hh.1 hh.2
      have t1 := mg_tv_lt hC.2 hh.1 hd
      have t2 := mg_tv_lt hC.2 hh.2 hd
      rw [show (25 : Int32) = nI 25 from rfl, show (5 : Int32) = nI 5 from rfl, pk_mul, pk_mul, nI_add, nI_add]
      refine xx_enqueue (id := mg_f h (mg_can c)) hw (by omega) (by omega) (by omega) (by omega) hst.1 (fun kn' qu' t' h1 h2 h3 => ?_)
      refine nm_r (nI_1 i) (ih (i + 1) t' kn' qu' (by omega) (by omega) (mg_st_tr hst h1) (fun j hj => ?_) (fun k hk => ?_))
      · by_cases z : j = i
        · rw [z, hcl]; exact h2
        · exact h1.2.2.2.1 _ (hc j (by omega))
      · rcases h3 k hk with g | g
        · rcases hs k g with g | ⟨j, hj, g⟩
          · exact Or.inl g
          · exact Or.inr ⟨j, by omega, g⟩
        · exact Or.inr ⟨i, by omega, by rw [hcl]; exact g⟩
/-- the terms that are bound ahead of body atom q + 1 -/
def mg_ts (r : mg_R) (a : mg_A) (q : Nat) (t : Int32) : Prop := (t = a.2.1 ∨ t = a.2.2) ∨ ∃ j b, j + 1 < q ∧ r.2[j]? = some b ∧ (t = b.2.1 ∨ t = b.2.2)
theorem mg_B_T {C c : Nat} {t : Int32} (hC : C ≤ 5) (h : mg_T C t) (hb : t < 0 → mg_B t c) : mg_B t c := by
  by_cases z : t < 0
  · exact hb z
  · obtain ⟨x, hx, rfl⟩ := mg_T_pos h z
    exact mg_B_c (by omega)
theorem xx_fire_63 {post : SX → Prop} {C lo w g j0 x y t : Nat} {r : mg_R} {a : mg_A}
    (hC : 1 ≤ C ∧ C ≤ 5) (hw : lo + w ≤ 1000) (hg : g < 144) (hwf : mg_wf C lo w r)
    (hgl : gL g = nI r.2.length) (hhd : mg_at aR aF aS (g * 5) r.1) (hbd : ∀ j a, r.2[j]? = some a → mg_at aR aF aS (g * 5 + (j + 1)) a)
    (hj : r.2[j0]? = some a) (hkn : kn (a.1 * 25 + x * 5 + y) ≠ 0) (hQ : mg_Q C lo w kn qu t)
    (K : ∀ fC' bC' kn' qu' t' fr' ba', mg_st C lo w kn qu t kn' qu' t' → mg_fi C r a x y kn kn' → post (nI C, pC, rL, rC, dO, sC, zP, zQ, nI t', gC, aC, fC', bC', nA, gO, rE, ce, bl, kn', qu', aR, aF, aS, gL, iA, aQ, bP, fr', ba', an)) :
    ∀ n q M bC fr ba, r.2.length + 1 < n + q → 1 ≤ q → q ≤ r.2.length + 1 → mg_Ok C (mg_ts r a q) fr M →
    (∀ s, mg_D C s → (mg_Den fr M s ↔ ((mg_tv a.2.1 s = x ∧ mg_tv a.2.2 s = y) ∧ ∀ j b, j + 1 < q → j ≠ j0 → r.2[j]? = some b → kn (mg_f b s) ≠ 0))) →
    wX_fire_63 post (nI g) (nI (j0 + 1)) (nI (g * 5)) n (nI q) (nI C) pC rL rC dO sC zP zQ (nI t) gC aC (nI M) bC nA gO rE ce bl kn qu aR aF aS gL iA aQ bP fr ba an := by
  obtain ⟨w1, w2, w3, w4, w5, w6⟩ := hwf
  intro n
  induction n with
  | zero => intro q M bC fr ba h1 h2; omega
  | succ n ih =>
    intro q M bC fr ba hn hq1 hq hok hden
    unfold wX_fire_63
    refine ⟨vp_in_nI (by omega) (by omega), ?_⟩
    rw [nI_clamp (show g < 2 ^ 31 by omega), hgl]
    have hj0 : j0 < r.2.length := by
      rcases Nat.lt_or_ge j0 r.2.length with z | z
      · exact z
      · rw [List.getElem?_eq_none z] at hj; exact absurd hj (by simp)
    refine pk_lt r.2.length q (fun e => ?_) (fun e => ?_)
    · have eq : q = r.2.length + 1 := by omega
      have hb1 : ∀ t, (t = r.1.2.1 ∨ t = r.1.2.2) → t < 0 → mg_ts r a q t := fun t ht h0 => by
        obtain ⟨b, hb, e⟩ := w6 t ht h0
        obtain ⟨j, hj', eb⟩ := List.getElem_of_mem hb
        exact Or.inr ⟨j, b, by omega, by rw [List.getElem?_eq_getElem hj', eb], e⟩
      have wh := w2 r.1 (Or.inl rfl)
      have hok' : mg_Ok C (fun t => t = r.1.2.1 ∨ t = r.1.2.2) fr M := by
        refine ⟨fun i hi => ?_, hok.2⟩
        obtain ⟨c, e1, e2, e3⟩ := hok.1 i hi
        refine ⟨c, e1, e2, fun t ht => ?_⟩
        have hT : mg_T C t := by
          rcases ht with z | z
          · rw [z]; exact wh.2.1
          · rw [z]; exact wh.2.2
        exact mg_B_T hC.2 hT (fun h0 => e3 t (hb1 t ht h0))
      refine ⟨M + 1, xx_fire_98 (h := r.1) hC hw (by omega) hhd wh.2 w3 w4 hok' ⟨Or.inl rfl, Or.inr rfl⟩ (fun kn' qu' t' h1 h2 h3 => ?_) (M + 1) 0 t kn qu (by omega) (by omega) (mg_st_rf hQ) (fun j hj => by omega) (fun k hk => Or.inl hk)⟩
      have den : ∀ s, mg_D C s → (mg_Den fr M s ↔ ((mg_tv a.2.1 s = x ∧ mg_tv a.2.2 s = y) ∧ ∀ b, b ∈ r.2 → kn (mg_f b s) ≠ 0)) := fun s hs => by
        rw [hden s hs]
        constructor
        · rintro ⟨⟨g1, g2⟩, g3⟩
          refine ⟨⟨g1, g2⟩, fun b hb => ?_⟩
          obtain ⟨j, hj', eb⟩ := List.getElem_of_mem hb
          have ej : r.2[j]? = some b := by rw [List.getElem?_eq_getElem hj', eb]
          by_cases z : j = j0
          · rw [z, hj] at ej
            have : a = b := Option.some.inj ej
            rw [← this]
            unfold mg_f
            rw [g1, g2]
            exact hkn
          · exact g3 j b (by omega) z ej
        · rintro ⟨g1, g2⟩
          exact ⟨g1, fun j b _ _ ej => g2 b (List.mem_of_getElem? ej)⟩
      refine K _ _ kn' qu' t' _ _ h1 ⟨fun S hS hr k hk => ?_, fun s hs e1 e2 hb => ?_⟩
      · rcases h3 k hk with g | ⟨i, hi, g⟩
        · exact hS k g
        · obtain ⟨c, ec, hV, hB⟩ := hok'.1 i hi
          have hcl : (fr i).toNatClampNeg = c := by rw [ec, nI_clamp (by have := hV.1; omega)]
          rw [hcl] at g
          have hd := mg_can_D hC.1 hV
          have dd := (den _ hd).mp ⟨i, hi, by rw [hcl]; exact mg_can_S c⟩
          rw [g]
          exact hr _ hd (fun b hb => hS _ (dd.2 b hb))
      · obtain ⟨i, hi, g⟩ := (den s hs).mpr ⟨⟨e1, e2⟩, hb⟩
        obtain ⟨c, ec, hV, hB⟩ := hok'.1 i hi
        have hcl : (fr i).toNatClampNeg = c := by rw [ec, nI_clamp (by have := hV.1; omega)]
        have hh := h2 i hi
        rw [hcl] at g hh
        have f1 := mg_val hV hC.2 (hB _ (Or.inl rfl)) wh.2.1 g
        have f2 := mg_val hV hC.2 (hB _ (Or.inr rfl)) wh.2.2 g
        unfold mg_f at hh ⊢
        rw [f1, f2]
        exact hh
    · refine pk_eq q (j0 + 1) (fun z => ?_) (fun z => ?_)
      · refine nm_r (nI_1 q) (ih (q + 1) M bC fr ba (by omega) (by omega) (by omega) (mg_Ok_TS (fun t ht => ?_) hok) (fun s hs => ?_))
        · rcases ht with ht | ⟨j, b, h1, h2, h3⟩
          · exact Or.inl ht
          · by_cases y : j = j0
            · rw [y, hj] at h2
              have : a = b := Option.some.inj h2
              rw [← this] at h3
              exact Or.inl h3
            · exact Or.inr ⟨j, b, by omega, h2, h3⟩
        · rw [hden s hs]
          constructor
          · rintro ⟨g1, g2⟩
            exact ⟨g1, fun j b h1 h2 h3 => g2 j b (by omega) h2 h3⟩
          · rintro ⟨g1, g2⟩
            exact ⟨g1, fun j b h1 h2 h3 => g2 j b (by omega) h2 h3⟩
      · obtain ⟨b0, hb0⟩ : ∃ b, r.2[q - 1]? = some b := ⟨_, List.getElem?_eq_getElem (show q - 1 < r.2.length by omega)⟩
        have hat := hbd _ _ hb0
        rw [show g * 5 + (q - 1 + 1) = g * 5 + q by omega] at hat
        obtain ⟨a1, a2, a3⟩ := hat
        have wb := w2 b0 (Or.inr (List.mem_of_getElem? hb0))
        rw [nI_add]
        refine xx_extendAll (rel := b0.1) (TS := mg_ts r a q) (TS' := mg_ts r a (q + 1)) hC (by omega) a1 wb.1 (by rw [a2]; exact wb.2.1) (by rw [a3]; exact wb.2.2) (fun t ht => ?_) hok (fun m fr' ba' hok' hden' => ?_)
        · rcases ht with ht | ⟨j, b, h1, h2, h3⟩
          · exact Or.inl (Or.inl ht)
          · by_cases y : j + 1 = q
            · have : q - 1 = j := by omega
              rw [this, h2] at hb0
              have : b = b0 := Option.some.inj hb0
              rw [a2, a3, ← this]
              exact Or.inr h3
            · exact Or.inl (Or.inr ⟨j, b, by omega, h2, h3⟩)
        · refine nm_r (nI_1 q) (ih (q + 1) m (nI m) fr' ba' (by omega) (by omega) (by omega) hok' (fun s hs => ?_))
          rw [hden' s hs, hden s hs, a2, a3]
          constructor
          · rintro ⟨⟨g1, g2⟩, g3⟩
            refine ⟨g1, fun j b h1 h2 h3 => ?_⟩
            by_cases y : j + 1 = q
            · have : q - 1 = j := by omega
              rw [this, h3] at hb0
              have : b = b0 := Option.some.inj hb0
              rw [this]
              exact g3
            · exact g2 j b (by omega) h2 h3
          · rintro ⟨g1, g2⟩
            refine ⟨⟨g1, fun j b h1 h2 h3 => g2 j b (by omega) h2 h3⟩, g2 (q - 1) b0 (by omega) (by omega) hb0⟩
theorem xx_fire {post : SX → Prop} {C lo w g j0 x y t : Nat} {r : mg_R} {a : mg_A}
    (hC : 1 ≤ C ∧ C ≤ 5) (hw : lo + w ≤ 1000) (hg : g < 144) (hwf : mg_wf C lo w r)
    (hgl : gL g = nI r.2.length) (hhd : mg_at aR aF aS (g * 5) r.1) (hbd : ∀ j a, r.2[j]? = some a → mg_at aR aF aS (g * 5 + (j + 1)) a)
    (hj : r.2[j0]? = some a) (hx : x < C) (hy : y < C) (hkn : kn (a.1 * 25 + x * 5 + y) ≠ 0) (hQ : mg_Q C lo w kn qu t)
    (K : ∀ fC' bC' kn' qu' t' fr' ba', mg_st C lo w kn qu t kn' qu' t' → mg_fi C r a x y kn kn' → post (nI C, pC, rL, rC, dO, sC, zP, zQ, nI t', gC, aC, fC', bC', nA, gO, rE, ce, bl, kn', qu', aR, aF, aS, gL, iA, aQ, bP, fr', ba', an)) :
    wpX_fire post (nI C, pC, rL, rC, dO, sC, zP, zQ, nI t, gC, aC, fC, bC, nA, gO, rE, ce, bl, kn, qu, aR, aF, aS, gL, iA, aQ, bP, fr, ba, an) (nI g) (nI (j0 + 1)) (nI x) (nI y) := by
  have hl := hwf.1
  have hj0 : j0 < r.2.length := by
    rcases Nat.lt_or_ge j0 r.2.length with z | z
    · exact z
    · rw [List.getElem?_eq_none z] at hj; exact absurd hj (by simp)
  obtain ⟨a1, a2, a3⟩ := hbd _ _ hj
  have wa := hwf.2.1 a (Or.inr (List.mem_of_getElem? hj))
  have hv0 : mg_V C 0 := ⟨by omega, by omega, by omega, by omega⟩
  have hs0 : ∀ s, mg_S 0 s := fun s => ⟨Or.inl rfl, Or.inl rfl, Or.inl rfl⟩
  have no : (∀ s, mg_tv a.2.1 s = x → mg_tv a.2.2 s ≠ y) → mg_fi C r a x y kn kn := fun h => ⟨fun S hS _ => hS, fun s _ e1 e2 => absurd e2 (h s e1)⟩
  unfold wpX_fire
  refine nm_r (e' := nI (g * 5)) (by rw [show (5 : Int32) = nI 5 from rfl, pk_mul]) ?_
  rw [nI_add]
  refine And.intro (vp_in_nI (by omega) (by omega)) ?_
  rw [nI_clamp (show g * 5 + (j0 + 1) < 2 ^ 31 by omega), a2, a3]
  refine xx_match (c := 0) hC.2 hv0 wa.2.1 hx (fun r1 h1 => And.intro (vp_in_nI (by omega) (by omega)) ?_)
  rcases h1 with ⟨rfl, h1⟩ | ⟨c1, rfl, hV, hS, hB, hBB⟩
  · refine xx_match_neg (br_f (by decide) ?_)
    exact K _ _ _ _ _ _ _ (mg_st_rf hQ) (no (fun s e1 => absurd e1 (h1 s (hs0 s))))
  · refine xx_match hC.2 hV wa.2.2 hy (fun r2 h2 => ?_)
    rcases h2 with ⟨rfl, h2⟩ | ⟨c2, rfl, hV2, hS2, hB2, hBB2⟩
    · refine br_f (by decide) ?_
      exact K _ _ _ _ _ _ _ (mg_st_rf hQ) (no (fun s e1 => h2 s ((hS s).mpr ⟨hs0 s, e1⟩)))
    · refine br_t (nI_pos' (by have := hV2.1; omega)) (nm_e ?_)
      refine ⟨r.2.length + 2, xx_fire_63 hC hw hg hwf hgl hhd hbd hj hkn hQ K (r.2.length + 2) 1 1 bC (upd fr 0 (nI c2)) ba (by omega) (by omega) (by omega) ?_ (fun s hs => ?_)⟩
      · refine mg_push (f := fr) (n := 0) mg_Ok_0 hV2 (fun t ht => ?_) (fun s _ _ => mg_Den_0)
        rcases ht with (ht | ht) | ⟨j, b, h1, _⟩
        · rw [ht]; exact hBB2 _ hB
        · rw [ht]; exact hB2
        · omega
      · rw [mg_push_den (f := fr) (n := 0) hV2.1, hS2 s, hS s]
        constructor
        · rintro (h | ⟨⟨_, h1⟩, h2⟩)
          · exact absurd h mg_Den_0
          · exact ⟨⟨h1, h2⟩, fun j b h => by omega⟩
        · rintro ⟨⟨h1, h2⟩, _⟩
          exact Or.inr ⟨⟨hs0 s, h1⟩, h2⟩
end
end
section
/-! X: trigger, saturate -/
def mg_TI (C : Nat) (P : List mg_R) (id : Nat) (kn0 kn : Nat → Int32) (g q : Nat) : Prop :=
  (∀ S : Nat → Prop, (∀ k, kn0 k ≠ 0 → S k) → mg_cl C P S → ∀ k, kn k ≠ 0 → S k) ∧
  (∀ g' r j a s, P[g']? = some r → r.2[j]? = some a → (g' < g ∨ (g' = g ∧ j + 1 < q)) → mg_D C s → mg_f a s = id → (∀ b, b ∈ r.2 → kn0 (mg_f b s) ≠ 0) → kn (mg_f r.1 s) ≠ 0)
theorem mg_gl {α : Type} {l : List α} {j : Nat} {a : α} (h : l[j]? = some a) : j < l.length := by
  rcases Nat.lt_or_ge j l.length with z | z
  · exact z
  · rw [List.getElem?_eq_none z] at h; exact absurd h (by simp)
section
variable {cC pC rL rC dO sC zP zQ qT gC aC fC bC nA gO rE : Int32} {ce bl kn qu aR aF aS gL iA aQ bP fr ba an : Nat → Int32}
theorem xx_trigger_31 {post : SX → Prop} {C lo w id g t0 : Nat} {P : List mg_R} {r : mg_R} {J : _} {kn0 qu0 : Nat → Int32}
    (hC : 1 ≤ C ∧ C ≤ 5) (hw : lo + w ≤ 1000) (hg : g < 144) (hrep : mg_rep P aR aF aS gL) (hwf : ∀ r, r ∈ P → mg_wf C lo w r) (hr : P[g]? = some r)
    (hid : kn0 id ≠ 0) (hi : id < 1000) (hx : id / 5 % 5 < C) (hy : id % 5 < C)
    (K : ∀ fC bC kn qu t fr ba, mg_st C lo w kn0 qu0 t0 kn qu t → mg_TI C P id kn0 kn (g + 1) 1 → J (nI (g + 1)) (nI C) pC rL rC dO sC zP zQ (nI t) gC aC fC bC nA gO rE ce bl kn qu aR aF aS gL iA aQ bP fr ba an) :
    ∀ n q fC bC kn qu t fr ba, r.2.length + 1 < n + q → 1 ≤ q → q ≤ r.2.length + 1 → mg_st C lo w kn0 qu0 t0 kn qu t → mg_TI C P id kn0 kn g q →
    wX_trigger_31 post J (nI (id / 25)) (nI (id / 5 % 5)) (nI (id % 5)) (nI g) n (nI q) (nI C) pC rL rC dO sC zP zQ (nI t) gC aC fC bC nA gO rE ce bl kn qu aR aF aS gL iA aQ bP fr ba an := by
  have wf := hwf r (List.mem_of_getElem? hr)
  obtain ⟨hgl, hhd, hbd⟩ := hrep g r hr
  have hlen := wf.1
  intro n
  induction n with
  | zero => intro q fC bC kn qu t fr ba h1 h2; omega
  | succ n ih =>
    intro q fC bC kn qu t fr ba hn hq1 hq hst hti
    unfold wX_trigger_31
    refine ⟨vp_in_nI (by omega) (by omega), ?_⟩
    rw [nI_clamp (show g < 2 ^ 31 by omega), hgl]
    refine pk_lt r.2.length q (fun e => ?_) (fun e => ?_)
    · refine nm_r (nI_1 g) (K fC bC kn qu t fr ba hst ⟨hti.1, fun g' r' j a s h1 h2 h3 => ?_⟩)
      refine hti.2 g' r' j a s h1 h2 ?_
      rcases h3 with h3 | h3
      · by_cases z : g' = g
        · subst z
          rw [hr] at h1
          have : r = r' := Option.some.inj h1
          subst this
          exact Or.inr ⟨rfl, by have := mg_gl h2; omega⟩
        · exact Or.inl (by omega)
      · omega
    · obtain ⟨b0, hb0⟩ : ∃ b, r.2[q - 1]? = some b := ⟨_, List.getElem?_eq_getElem (show q - 1 < r.2.length by omega)⟩
      have hat := hbd _ _ hb0
      rw [show g * 5 + (q - 1 + 1) = g * 5 + q by omega] at hat
      obtain ⟨a1, a2, a3⟩ := hat
      have wb := wf.2.1 b0 (Or.inr (List.mem_of_getElem? hb0))
      rw [show (5 : Int32) = nI 5 from rfl, pk_mul, nI_add]
      refine ⟨vp_in_nI (by omega) (by omega), ?_⟩
      rw [nI_clamp (show g * 5 + q < 2 ^ 31 by omega), a1]
      have other : ∀ kn' : Nat → Int32, (∀ k, kn k ≠ 0 → kn' k ≠ 0) → (∀ s, mg_D C s → mg_f b0 s = id → (∀ b, b ∈ r.2 → kn0 (mg_f b s) ≠ 0) → kn' (mg_f r.1 s) ≠ 0) → ∀ g' r j a s, P[g']? = some r → r.2[j]? = some a → (g' < g ∨ (g' = g ∧ j + 1 < q + 1)) → mg_D C s → mg_f a s = id → (∀ b, b ∈ r.2 → kn0 (mg_f b s) ≠ 0) → kn' (mg_f r.1 s) ≠ 0 := fun kn' hm hn g' r' j a s h1 h2 h3 h4 h5 h6 => by
        by_cases z : g' = g ∧ j + 1 = q
        · obtain ⟨z1, z2⟩ := z
          subst z1
          rw [hr] at h1
          have er : r = r' := Option.some.inj h1
          subst er
          have : q - 1 = j := by omega
          rw [this, h2] at hb0
          have ea : a = b0 := Option.some.inj hb0
          subst ea
          exact hn s h4 h5 h6
        · exact hm _ (hti.2 g' r' j a s h1 h2 (by omega) h4 h5 h6)
      refine pk_eq b0.1 (id / 25) (fun z => ?_) (fun z => ?_)
      · have hst4 := hst.2.2.2.1
        have ek : kn (b0.1 * 25 + id / 5 % 5 * 5 + id % 5) ≠ 0 := by
          rw [show b0.1 * 25 + id / 5 % 5 * 5 + id % 5 = id by omega]
          exact hst4 id hid
        have hb0' := hb0
        refine ek_v (P := fun z => wpX_fire _ _ _ z _ _) (show nI q = nI (q - 1 + 1) by rw [show q - 1 + 1 = q by omega]) ?_
        refine xx_fire hC hw hg wf hgl hhd hbd hb0' hx hy ek hst.1 (fun fC' bC' kn' qu' t' fr' ba' h1 h2 => ?_)
        refine nm_r (nI_1 q) (ih (q + 1) fC' bC' kn' qu' t' fr' ba' (by omega) (by omega) (by omega) (mg_st_tr hst h1) ⟨fun S hS hc => ?_, other kn' h1.2.2.2.1 (fun s hs hf hb => ?_)⟩)
        · exact h2.1 S (hti.1 S hS hc) (hc r (List.mem_of_getElem? hr))
        · have hf' := mg_f_lt hC.2 hs wb.2.1 wb.2.2
          rw [hf] at hf'
          exact h2.2 s hs hf'.2.2.2.1.symm hf'.2.2.2.2.symm (fun b hb' => hst4 _ (hb b hb'))
      · refine nm_r (nI_1 q) (ih (q + 1) fC bC kn qu t fr ba (by omega) (by omega) (by omega) hst ⟨hti.1, other kn (fun _ h => h) (fun s hs hf _ => ?_)⟩)
        have hf' := mg_f_lt hC.2 hs wb.2.1 wb.2.2
        rw [hf] at hf'
        exact absurd hf'.2.2.1.symm z
theorem xx_trigger_19 {post : SX → Prop} {C lo w id t0 : Nat} {P : List mg_R} {kn0 qu0 : Nat → Int32}
    (hC : 1 ≤ C ∧ C ≤ 5) (hw : lo + w ≤ 1000) (hP : P.length ≤ 144) (hrep : mg_rep P aR aF aS gL) (hwf : ∀ r, r ∈ P → mg_wf C lo w r)
    (hid : kn0 id ≠ 0) (hi : id < 1000) (hx : id / 5 % 5 < C) (hy : id % 5 < C)
    (K : ∀ fC bC kn qu t fr ba, mg_st C lo w kn0 qu0 t0 kn qu t → mg_TI C P id kn0 kn P.length 1 → post (nI C, pC, rL, rC, dO, sC, zP, zQ, nI t, nI P.length, aC, fC, bC, nA, gO, rE, ce, bl, kn, qu, aR, aF, aS, gL, iA, aQ, bP, fr, ba, an)) :
    ∀ n g fC bC kn qu t fr ba, P.length < n + g → g ≤ P.length → mg_st C lo w kn0 qu0 t0 kn qu t → mg_TI C P id kn0 kn g 1 →
    wX_trigger_19 post (nI (id / 25)) (nI (id / 5 % 5)) (nI (id % 5)) n (nI g) (nI C) pC rL rC dO sC zP zQ (nI t) (nI P.length) aC fC bC nA gO rE ce bl kn qu aR aF aS gL iA aQ bP fr ba an := by
  intro n
  induction n with
  | zero => intro g fC bC kn qu t fr ba h1 h2; omega
  | succ n ih =>
    intro g fC bC kn qu t fr ba hn hg hst hti
    unfold wX_trigger_19
    refine pk_le P.length g (fun e => ?_) (fun e => ?_)
    · have eg : g = P.length := by omega
      subst eg
      exact K fC bC kn qu t fr ba hst hti
    · have hr : P[g]? = some P[g] := List.getElem?_eq_getElem e
      exact ⟨P[g].2.length + 2, xx_trigger_31 hC hw (by omega) hrep hwf hr hid hi hx hy (fun fC bC kn qu t fr ba h1 h2 => ih (g + 1) fC bC kn qu t fr ba (by omega) (by omega) h1 h2) (P[g].2.length + 2) 1 fC bC kn qu t fr ba (by omega) (by omega) (by omega) hst hti⟩
theorem xx_trigger {post : SX → Prop} {C lo w id t : Nat} {P : List mg_R}
    (hC : 1 ≤ C ∧ C ≤ 5) (hw : lo + w ≤ 1000) (hP : P.length ≤ 144) (hrep : mg_rep P aR aF aS gL) (hwf : ∀ r, r ∈ P → mg_wf C lo w r)
    (hid : kn id ≠ 0) (hi : id < 1000) (hx : id / 5 % 5 < C) (hy : id % 5 < C) (hQ : mg_Q C lo w kn qu t)
    (K : ∀ fC' bC' kn' qu' t' fr' ba', mg_st C lo w kn qu t kn' qu' t' → mg_TI C P id kn kn' P.length 1 → post (nI C, pC, rL, rC, dO, sC, zP, zQ, nI t', nI P.length, aC, fC', bC', nA, gO, rE, ce, bl, kn', qu', aR, aF, aS, gL, iA, aQ, bP, fr', ba', an)) :
    wpX_trigger post (nI C, pC, rL, rC, dO, sC, zP, zQ, nI t, nI P.length, aC, fC, bC, nA, gO, rE, ce, bl, kn, qu, aR, aF, aS, gL, iA, aQ, bP, fr, ba, an) (nI id) := by
  unfold wpX_trigger
  refine And.intro (by decide) (nm_r (e' := nI (id / 25)) (by rw [show (25 : Int32) = nI 25 from rfl, pk_div (by omega) (by omega) (by omega)]) (And.intro (by decide) (And.intro (by decide) (nm_r (e' := nI (id / 5 % 5)) (by rw [show (5 : Int32) = nI 5 from rfl, pk_div (a := id) (by omega) (by omega) (by omega), pk_rem (by omega) (by omega) (by omega)]) (And.intro (by decide) (nm_r (e' := nI (id % 5)) (by rw [show (5 : Int32) = nI 5 from rfl, pk_rem (by omega) (by omega) (by omega)]) ?_))))))
  exact ⟨P.length + 1, xx_trigger_19 hC hw hP hrep hwf hid hi hx hy K (P.length + 1) 0 fC bC kn qu t fr ba (by omega) (by omega) (mg_st_rf hQ) ⟨fun S hS _ => hS, fun g' r j a s h1 h2 h3 => by omega⟩⟩
end
def mg_SI (C : Nat) (P : List mg_R) (lo w : Nat) (kn0 kn qu : Nat → Int32) (i : Nat) : Prop :=
  (∀ S : Nat → Prop, (∀ k, kn0 k ≠ 0 → S k) → mg_cl C P S → ∀ k, kn k ≠ 0 → S k) ∧
  (∀ r, r ∈ P → ∀ s, mg_D C s → (∀ b, b ∈ r.2 → kn (mg_f b s) ≠ 0 ∧ ((mg_f b s < lo ∨ lo + w ≤ mg_f b s) ∨ ∃ i', i' < i ∧ qu i' = nI (mg_f b s))) → (∃ b, b ∈ r.2 ∧ ∃ i', i' < i ∧ qu i' = nI (mg_f b s)) → kn (mg_f r.1 s) ≠ 0)
theorem mg_f_1000 {C : Nat} (hC : C ≤ 5) {a : mg_A} {s : Nat × Nat × Nat} (hs : mg_D C s) (h : a.1 < 40 ∧ mg_T C a.2.1 ∧ mg_T C a.2.2) : mg_f a s < 1000 := by
  have := mg_f_lt hC hs h.2.1 h.2.2
  omega
theorem mg_SI_step {C lo w id i t t' : Nat} {P : List mg_R} {kn0 kn qu kn' qu' : Nat → Int32} (hC : C ≤ 5) (hw : lo + w ≤ 1000) (hwf : ∀ r, r ∈ P → mg_wf C lo w r) (hQ : mg_Q C lo w kn qu t) (hit : i < t) (eid : qu i = nI id) (hid : id < 1000)
    (h : mg_SI C P lo w kn0 kn qu i) (hst : mg_st C lo w kn qu t kn' qu' t') (hti : mg_TI C P id kn kn' P.length 1) : mg_SI C P lo w kn0 kn' qu' (i + 1) := by
  refine ⟨fun S hS hc => hti.1 S (h.1 S hS hc) hc, fun r hr s hs hb hx => ?_⟩
  have w2 := (hwf r hr).2.1
  have kb : ∀ b, b ∈ r.2 → kn (mg_f b s) ≠ 0 := fun b hbm => by
    have hf := mg_f_1000 hC hs (w2 b (Or.inr hbm))
    obtain ⟨h1, h2⟩ := hb b hbm
    rcases h2 with h2 | ⟨i', hi', e⟩
    · rw [hst.2.2.2.2 _ h2] at h1; exact h1
    · rw [hst.2.2.1 i' (by omega)] at e
      obtain ⟨d, e1, e2, e3, _, _, e6⟩ := hQ.1 i' (by omega)
      rw [e1, nI_eq (by omega) (by omega)] at e
      rw [← e]
      exact e6
  by_cases z : ∃ b, b ∈ r.2 ∧ mg_f b s = id
  · obtain ⟨b, hbm, e⟩ := z
    obtain ⟨g, hg, eg⟩ := List.getElem_of_mem hr
    obtain ⟨j, hj, ej⟩ := List.getElem_of_mem hbm
    exact hti.2 g r j b s (by rw [List.getElem?_eq_getElem hg, eg]) (by rw [List.getElem?_eq_getElem hj, ej]) (Or.inl hg) hs e kb
  · have old : ∀ b, b ∈ r.2 → ∀ i', i' < i + 1 → qu' i' = nI (mg_f b s) → i' < i ∧ qu i' = nI (mg_f b s) := fun b hbm i' hi' e => by
      rw [hst.2.2.1 i' (by omega)] at e
      refine ⟨?_, e⟩
      by_cases y : i' = i
      · rw [y, eid, nI_eq (by omega) (by have := mg_f_1000 hC hs (w2 b (Or.inr hbm)); omega)] at e
        exact absurd ⟨b, hbm, e.symm⟩ z
      · omega
    refine hst.2.2.2.1 _ (h.2 r hr s hs (fun b hbm => ⟨kb b hbm, ?_⟩) ?_)
    · rcases (hb b hbm).2 with g | ⟨i', hi', e⟩
      · exact Or.inl g
      · exact Or.inr ⟨i', old b hbm i' hi' e⟩
    · obtain ⟨b, hbm, i', hi', e⟩ := hx
      exact ⟨b, hbm, i', old b hbm i' hi' e⟩
theorem mg_SI_end {C lo w i t : Nat} {P : List mg_R} {kn0 kn qu : Nat → Int32} (hC : C ≤ 5) (hwf : ∀ r, r ∈ P → mg_wf C lo w r) (hQ : mg_Q C lo w kn qu t) (hit : t ≤ i) (hm : ∀ k, kn0 k ≠ 0 → kn k ≠ 0)
    (h : mg_SI C P lo w kn0 kn qu i) : ∀ k, kn k ≠ 0 ↔ mg_lm C P (fun k => kn0 k ≠ 0) k := by
  intro k
  constructor
  · intro hk S hS hc
    exact h.1 S hS hc k hk
  · intro hk
    refine hk (fun k => kn k ≠ 0) hm (fun r hr s hs hb => ?_)
    have inq : ∀ b, b ∈ r.2 → (lo ≤ mg_f b s ∧ mg_f b s < lo + w) → ∃ i', i' < i ∧ qu i' = nI (mg_f b s) := fun b hbm hlw => by
      obtain ⟨i', hi', e⟩ := hQ.2.1 _ hlw.1 hlw.2 (hb b hbm)
      exact ⟨i', by omega, e⟩
    refine h.2 r hr s hs (fun b hbm => ⟨hb b hbm, ?_⟩) ?_
    · by_cases z : lo ≤ mg_f b s ∧ mg_f b s < lo + w
      · exact Or.inr (inq b hbm z)
      · exact Or.inl (by omega)
    · obtain ⟨b, hbm, h1, h2⟩ := (hwf r hr).2.2.2.2.1
      have w2 := (hwf r hr).2.1 b (Or.inr hbm)
      have hf := mg_f_lt hC hs w2.2.1 w2.2.2
      exact ⟨b, hbm, inq b hbm (by omega)⟩
section
variable {cC pC rL rC dO sC zP zQ qT gC aC fC bC nA gO rE : Int32} {ce bl kn qu aR aF aS gL iA aQ bP fr ba an : Nat → Int32}
theorem xx_saturate_2 {post : SX → Prop} {C lo w t0 : Nat} {P : List mg_R} {kn0 qu0 : Nat → Int32}
    (hC : 1 ≤ C ∧ C ≤ 5) (hw : lo + w ≤ 1000) (hP : P.length ≤ 144) (hrep : mg_rep P aR aF aS gL) (hwf : ∀ r, r ∈ P → mg_wf C lo w r)
    (K : ∀ fC bC kn qu t fr ba, mg_st C lo w kn0 qu0 t0 kn qu t → (∀ k, kn k ≠ 0 ↔ mg_lm C P (fun k => kn0 k ≠ 0) k) → post (nI C, pC, rL, rC, dO, sC, zP, zQ, nI t, nI P.length, aC, fC, bC, nA, gO, rE, ce, bl, kn, qu, aR, aF, aS, gL, iA, aQ, bP, fr, ba, an)) :
    ∀ n i fC bC kn qu t fr ba, 1000 < n + i → i ≤ 1000 → mg_st C lo w kn0 qu0 t0 kn qu t → mg_SI C P lo w kn0 kn qu i →
    wX_saturate_2 post n (nI i) (nI C) pC rL rC dO sC zP zQ (nI t) (nI P.length) aC fC bC nA gO rE ce bl kn qu aR aF aS gL iA aQ bP fr ba an := by
  intro n
  induction n with
  | zero => intro i fC bC kn qu t fr ba h1 h2; omega
  | succ n ih =>
    intro i fC bC kn qu t fr ba hn hi hst hsi
    have htw := mg_Q_le hst.1
    unfold wX_saturate_2
    refine pk_le 1000 i (fun e => ?_) (fun e => ?_)
    · exact K fC bC kn qu t fr ba hst (mg_SI_end hC.2 hwf hst.1 (by omega) hst.2.2.2.1 hsi)
    · refine pk_le t i (fun e => ?_) (fun e => ?_)
      · exact K fC bC kn qu t fr ba hst (mg_SI_end hC.2 hwf hst.1 (by omega) hst.2.2.2.1 hsi)
      · obtain ⟨id, e1, e2, e3, e4, e5, e6⟩ := hst.1.1 i e
        refine ⟨vp_in_nI (by omega) (by omega), ?_⟩
        rw [nI_clamp (show i < 2 ^ 31 by omega), e1]
        refine xx_trigger hC hw hP hrep hwf e6 (by omega) e4 e5 hst.1 (fun fC' bC' kn' qu' t' fr' ba' h1 h2 => ?_)
        exact nm_r (nI_1 i) (ih (i + 1) fC' bC' kn' qu' t' fr' ba' (by omega) (by omega) (mg_st_tr hst h1) (mg_SI_step hC.2 hw hwf hst.1 e e1 (by omega) hsi h1 h2))
theorem xx_saturate {post : SX → Prop} {C lo w t : Nat} {P : List mg_R}
    (hC : 1 ≤ C ∧ C ≤ 5) (hw : lo + w ≤ 1000) (hP : P.length ≤ 144) (hrep : mg_rep P aR aF aS gL) (hwf : ∀ r, r ∈ P → mg_wf C lo w r) (hQ : mg_Q C lo w kn qu t)
    (K : ∀ fC' bC' kn' qu' t' fr' ba', mg_st C lo w kn qu t kn' qu' t' → (∀ k, kn' k ≠ 0 ↔ mg_lm C P (fun k => kn k ≠ 0) k) → post (nI C, pC, rL, rC, dO, sC, zP, zQ, nI t', nI P.length, aC, fC', bC', nA, gO, rE, ce, bl, kn', qu', aR, aF, aS, gL, iA, aQ, bP, fr', ba', an)) :
    wpX_saturate post (nI C, pC, rL, rC, dO, sC, zP, zQ, nI t, nI P.length, aC, fC, bC, nA, gO, rE, ce, bl, kn, qu, aR, aF, aS, gL, iA, aQ, bP, fr, ba, an) := by
  unfold wpX_saturate
  exact ⟨1001, xx_saturate_2 hC hw hP hrep hwf K 1001 0 fC bC kn qu t fr ba (by omega) (by omega) (mg_st_rf hQ) ⟨fun S hS _ => hS, fun r _ s _ _ h => by obtain ⟨b, _, i', h, _⟩ := h; omega⟩⟩
end
end
section
/-! the rules in the cells, the rewritten program, and the theorem on magic sets -/
def mg_ca (ce : Nat → Int32) (k : Nat) : mg_A := ((ce k).toNatClampNeg, ce (k + 1), ce (k + 2))
def mg_n (bl : Nat → Int32) (r : Nat) : Nat := (bl r).toNatClampNeg
def mg_p (ce : Nat → Int32) (r : Nat) : Nat := (ce (12 * r)).toNatClampNeg
def mg_pr (ce bl : Nat → Int32) (r : Nat) : mg_R := (mg_ca ce (12 * r), (List.range (mg_n bl r)).map (fun j => mg_ca ce (12 * r + 3 * (j + 1))))
def mg_pp (ce bl : Nat → Int32) (rc : Nat) : List mg_R := (List.range rc).map (mg_pr ce bl)
def mg_ao (C Pn : Nat) (ce : Nat → Int32) (k : Nat) : Prop := (∃ p, p < Pn ∧ ce k = nI p) ∧ mg_T C (ce (k + 1)) ∧ mg_T C (ce (k + 2))
def mg_ro (C Pn : Nat) (ce bl : Nat → Int32) (r : Nat) : Prop := (∃ b, b ≤ 3 ∧ bl r = nI b) ∧ ∀ j, j ≤ mg_n bl r → mg_ao C Pn ce (12 * r + 3 * j)
def mg_sf (ce bl : Nat → Int32) (r : Nat) : Prop := 1 ≤ mg_n bl r ∧ ∀ t, (t = ce (12 * r + 1) ∨ t = ce (12 * r + 2)) → t < 0 → ∃ j, 1 ≤ j ∧ j ≤ mg_n bl r ∧ (t = ce (12 * r + 3 * j + 1) ∨ t = ce (12 * r + 3 * j + 2))
def mg_ok (C Pn : Nat) (ce bl : Nat → Int32) (rc : Nat) : Prop := ∀ r, r < rc → mg_ro C Pn ce bl r ∧ mg_sf ce bl r
theorem mg_ro_n {C Pn : Nat} {ce bl : Nat → Int32} {r : Nat} (h : mg_ro C Pn ce bl r) : bl r = nI (mg_n bl r) ∧ mg_n bl r ≤ 3 := by
  obtain ⟨b, hb, e⟩ := h.1
  have : mg_n bl r = b := by unfold mg_n; rw [e, nI_clamp (by omega)]
  rw [this]
  exact ⟨e, hb⟩
theorem mg_ao_p {C Pn : Nat} {ce : Nat → Int32} {k : Nat} (hP : Pn ≤ 4) (h : mg_ao C Pn ce k) : ce k = nI (ce k).toNatClampNeg ∧ (ce k).toNatClampNeg < Pn := by
  obtain ⟨p, hp, e⟩ := h.1
  have : (ce k).toNatClampNeg = p := by rw [e, nI_clamp (by omega)]
  rw [this]
  exact ⟨e, hp⟩
def mg_kp (ce : Nat → Int32) (r n d : Nat) (t : Int32) : Prop := ¬ t < 0 ∨ (∃ j, 1 ≤ j ∧ j ≤ n ∧ (ce (12 * r + 3 * j + 1) = t ∨ ce (12 * r + 3 * j + 2) = t)) ∨ (d % 2 = 1 ∧ ce (12 * r + 1) = t) ∨ (d / 2 % 2 = 1 ∧ ce (12 * r + 2) = t)
noncomputable def mg_ad (ce : Nat → Int32) (r i d : Nat) : Nat := mg_b (mg_kp ce r (i - 1) d (ce (12 * r + 3 * i + 1))) + 2 * mg_b (mg_kp ce r (i - 1) d (ce (12 * r + 3 * i + 2)))
noncomputable def mg_bp (ce : Nat → Int32) (r i d : Nat) : Nat := (ce (12 * r + 3 * i)).toNatClampNeg * 4 + mg_ad ce r i d
theorem mg_ad_lt (ce : Nat → Int32) (r i d : Nat) : mg_ad ce r i d < 4 := by
  unfold mg_ad
  have := mg_b_le (mg_kp ce r (i - 1) d (ce (12 * r + 3 * i + 1)))
  have := mg_b_le (mg_kp ce r (i - 1) d (ce (12 * r + 3 * i + 2)))
  omega
def mg_fb (d : Nat) (t : Int32) : Int32 := if d % 2 = 1 then t else 0
def mg_sb (d : Nat) (t : Int32) : Int32 := if d / 2 % 2 = 1 then t else 0
def mg_ga (pr : Nat) (s t : Int32) : mg_A := (24 + pr, mg_fb pr s, mg_sb pr t)
noncomputable def mg_gp (ce : Nat → Int32) (r pr before : Nat) : List mg_A :=
  mg_ga pr (ce (12 * r + 1)) (ce (12 * r + 2)) :: (List.range (before - 1)).map (fun j => ((8 + mg_bp ce r (j + 1) (pr % 4), ce (12 * r + 3 * (j + 1) + 1), ce (12 * r + 3 * (j + 1) + 2)) : mg_A))
noncomputable def mg_mr (ce : Nat → Int32) (r pr i : Nat) : mg_R := (mg_ga (mg_bp ce r i (pr % 4)) (ce (12 * r + 3 * i + 1)) (ce (12 * r + 3 * i + 2)), mg_gp ce r pr i)
noncomputable def mg_dr (ce bl : Nat → Int32) (r pr : Nat) : mg_R := ((8 + pr, ce (12 * r + 1), ce (12 * r + 2)), mg_gp ce r pr (mg_n bl r + 1))
def mg_sr (pr : Nat) : mg_R := ((8 + pr, -1, -2), [mg_ga pr (-1) (-2), (4 + pr / 4, -1, -2)])
/-- x is one of the rules that rewriting rule r for pair pr gives -/
def mg_rm (ce bl : Nat → Int32) (pr r : Nat) (x : mg_R) : Prop := x = mg_dr ce bl r pr ∨ ∃ i, 1 ≤ i ∧ i ≤ mg_n bl r ∧ x = mg_mr ce r pr i
def mg_pm (ce bl : Nat → Int32) (rc pr : Nat) (x : mg_R) : Prop := x = mg_sr pr ∨ ∃ r, r < rc ∧ mg_p ce r = pr / 4 ∧ mg_rm ce bl pr r x
/-- the adorned pairs of a query -/
def mg_ac (ce bl : Nat → Int32) (rc : Nat) (S : Nat → Prop) : Prop := ∀ x, S x → ∀ r, r < rc → mg_p ce r = x / 4 → ∀ i, 1 ≤ i → i ≤ mg_n bl r → S (mg_bp ce r i (x % 4))
def mg_as (ce bl : Nat → Int32) (rc q x : Nat) : Prop := ∀ S : Nat → Prop, S q → mg_ac ce bl rc S → S x
theorem mg_as_q {ce bl : Nat → Int32} {rc q : Nat} : mg_as ce bl rc q q := fun _ h _ => h
theorem mg_as_c {ce bl : Nat → Int32} {rc q : Nat} : mg_ac ce bl rc (mg_as ce bl rc q) := fun x hx r hr hp i h1 h2 S hS hc => hc x (hx S hS hc) r hr hp i h1 h2
theorem mg_bp_lt {C Pn : Nat} {ce bl : Nat → Int32} {rc r i d : Nat} (hP : Pn ≤ 4) (h : mg_ok C Pn ce bl rc) (hr : r < rc) (hi : i ≤ mg_n bl r) : mg_bp ce r i d < 16 ∧ mg_bp ce r i d % 4 = mg_ad ce r i d ∧ mg_bp ce r i d / 4 = (ce (12 * r + 3 * i)).toNatClampNeg ∧ (ce (12 * r + 3 * i)).toNatClampNeg < Pn := by
  have a := mg_ad_lt ce r i d
  have b := mg_ao_p hP ((h r hr).1.2 i hi)
  unfold mg_bp
  omega
theorem mg_as_lt {C Pn : Nat} {ce bl : Nat → Int32} {rc q x : Nat} (hP : Pn ≤ 4) (h : mg_ok C Pn ce bl rc) (hq : q < 16) (hx : mg_as ce bl rc q x) : x < 16 :=
  hx (fun x => x < 16) hq (fun _ _ _ hr _ _ _ hi => (mg_bp_lt hP h hr hi).1)
/-- the goals of a query, as the reference closes them -/
def mg_go (f d : Nat) : Nat := 100 * d + f / 25 * 25 + (if d % 2 = 1 then f / 5 % 5 * 5 else 0) + (if d / 2 % 2 = 1 then f % 5 else 0)
def mg_gc (C : Nat) (ce bl : Nat → Int32) (rc : Nat) (M S : Nat → Prop) : Prop :=
  ∀ r, r < rc → ∀ d, d < 4 → ∀ i, 1 ≤ i → i ≤ mg_n bl r → ∀ s, mg_D C s → S (mg_go (mg_f (mg_ca ce (12 * r)) s) d) → (∀ j, 1 ≤ j → j < i → M (mg_f (mg_ca ce (12 * r + 3 * j)) s)) → S (mg_go (mg_f (mg_ca ce (12 * r + 3 * i)) s) (mg_ad ce r i d))
def mg_gs (C : Nat) (ce bl : Nat → Int32) (rc : Nat) (M : Nat → Prop) (g0 k : Nat) : Prop := ∀ S : Nat → Prop, S g0 → mg_gc C ce bl rc M S → S k
theorem mg_gs_0 {C : Nat} {ce bl : Nat → Int32} {rc : Nat} {M : Nat → Prop} {g0 : Nat} : mg_gs C ce bl rc M g0 g0 := fun _ h _ => h
theorem mg_gs_c {C : Nat} {ce bl : Nat → Int32} {rc : Nat} {M : Nat → Prop} {g0 : Nat} : mg_gc C ce bl rc M (mg_gs C ce bl rc M g0) := fun r hr d hd i h1 h2 s hs hg hb S hS hc => hc r hr d hd i h1 h2 s hs (hg S hS hc) hb
/-! indices: X's goal of pair pr for a fact x, y; X's found fact; and back to the reference's places -/
def mg_gi (pr x y : Nat) : Nat := (24 + pr) * 25 + (if pr % 2 = 1 then x else 0) * 5 + (if pr / 2 % 2 = 1 then y else 0)
def mg_fi2 (pr x y : Nat) : Nat := (8 + pr) * 25 + x * 5 + y
def mg_xy (k : Nat) : Nat := 100 * ((k / 25 - 24) % 4) + 25 * ((k / 25 - 24) / 4) + k % 25
def mg_yx (g : Nat) : Nat := (24 + 4 * (g % 100 / 25) + g / 100) * 25 + g % 25
theorem mg_ga_f {pr : Nat} {a b : Int32} {s : Nat × Nat × Nat} : mg_f (mg_ga pr a b) s = mg_gi pr (mg_tv a s) (mg_tv b s) := by
  have z : mg_tv 0 s = 0 := mg_tvc (x := 0) (by omega) s
  unfold mg_f mg_ga mg_gi mg_fb mg_sb
  dsimp only
  by_cases h1 : pr % 2 = 1
  · by_cases h2 : pr / 2 % 2 = 1
    · rw [if_pos h1, if_pos h2, if_pos h1, if_pos h2]
    · rw [if_pos h1, if_neg h2, if_pos h1, if_neg h2, z]
  · by_cases h2 : pr / 2 % 2 = 1
    · rw [if_neg h1, if_pos h2, if_neg h1, if_pos h2, z]
    · rw [if_neg h1, if_neg h2, if_neg h1, if_neg h2, z]
theorem mg_gi_r {pr x y : Nat} (hp : pr < 16) (hx : x < 5) (hy : y < 5) : 600 ≤ mg_gi pr x y ∧ mg_gi pr x y < 1000 ∧ mg_gi pr x y / 25 - 24 = pr ∧ mg_xy (mg_gi pr x y) = mg_go (25 * (pr / 4) + 5 * x + y) (pr % 4) := by
  have e1 : (pr % 4) % 2 = pr % 2 := by omega
  have e2 : (pr % 4) / 2 % 2 = pr / 2 % 2 := by omega
  unfold mg_xy mg_go mg_gi
  rw [e1, e2]
  by_cases h1 : pr % 2 = 1
  · by_cases h2 : pr / 2 % 2 = 1
    · rw [if_pos h1, if_pos h2, if_pos h1, if_pos h2]; omega
    · rw [if_pos h1, if_neg h2, if_pos h1, if_neg h2]; omega
  · by_cases h2 : pr / 2 % 2 = 1
    · rw [if_neg h1, if_pos h2, if_neg h1, if_pos h2]; omega
    · rw [if_neg h1, if_neg h2, if_neg h1, if_neg h2]; omega
theorem mg_yx_r {p d x y : Nat} (hp : p < 4) (hd : d < 4) (hx : x < 5) (hy : y < 5) : mg_yx (mg_go (25 * p + 5 * x + y) d) = mg_gi (p * 4 + d) x y := by
  have e1 : (p * 4 + d) % 2 = d % 2 := by omega
  have e2 : (p * 4 + d) / 2 % 2 = d / 2 % 2 := by omega
  unfold mg_yx mg_go mg_gi
  rw [e1, e2]
  by_cases h1 : d % 2 = 1
  · by_cases h2 : d / 2 % 2 = 1
    · rw [if_pos h1, if_pos h2, if_pos h1, if_pos h2]; omega
    · rw [if_pos h1, if_neg h2, if_pos h1, if_neg h2]; omega
  · by_cases h2 : d / 2 % 2 = 1
    · rw [if_neg h1, if_pos h2, if_neg h1, if_pos h2]; omega
    · rw [if_neg h1, if_neg h2, if_neg h1, if_neg h2]; omega
theorem mg_xyx {k : Nat} (h1 : 600 ≤ k) (h2 : k < 1000) : mg_yx (mg_xy k) = k := by unfold mg_yx mg_xy; omega
/-- the setting of a query -/
def mg_set (C Pn : Nat) (ce bl : Nat → Int32) (rc : Nat) (F K0 : Nat → Prop) (P : List mg_R) (q g0 : Nat) : Prop :=
  (1 ≤ C ∧ C ≤ 5) ∧ Pn ≤ 4 ∧ mg_ok C Pn ce bl rc ∧ (∀ f, F f → f < 100 ∧ f / 5 % 5 < C ∧ f % 5 < C) ∧ (∀ f, f < 100 → (K0 (100 + f) ↔ F f)) ∧ (∀ k, K0 k → k < 200 ∨ k = g0) ∧ K0 g0 ∧ 600 ≤ g0 ∧ g0 < 1000 ∧ g0 / 25 - 24 = q ∧
  (∀ x, x ∈ P ↔ ∃ pr, mg_as ce bl rc q pr ∧ mg_pm ce bl rc pr x)
section
variable {C Pn rc q g0 : Nat} {ce bl : Nat → Int32} {F K0 : Nat → Prop} {P : List mg_R}
theorem mg_q16 (h : mg_set C Pn ce bl rc F K0 P q g0) : q < 16 := by
  obtain ⟨_, _, _, _, _, _, _, h8, h9, h10, _⟩ := h
  omega
theorem mg_ca_f {C Pn : Nat} {ce : Nat → Int32} {k : Nat} {s : Nat × Nat × Nat} (hC : C ≤ 5) (hP : Pn ≤ 4) (h : mg_ao C Pn ce k) (hs : mg_D C s) : mg_f (mg_ca ce k) s = 25 * (ce k).toNatClampNeg + 5 * mg_tv (ce (k + 1)) s + mg_tv (ce (k + 2)) s ∧ mg_tv (ce (k + 1)) s < C ∧ mg_tv (ce (k + 2)) s < C ∧ (ce k).toNatClampNeg < Pn ∧ mg_f (mg_ca ce k) s < 100 := by
  have t1 := mg_tv_lt hC h.2.1 hs
  have t2 := mg_tv_lt hC h.2.2 hs
  have p := (mg_ao_p hP h).2
  have e : mg_f (mg_ca ce k) s = (ce k).toNatClampNeg * 25 + mg_tv (ce (k + 1)) s * 5 + mg_tv (ce (k + 2)) s := rfl
  rw [e]
  omega
theorem mg_mem_gp {ce : Nat → Int32} {r pr b : Nat} {x : mg_A} : x ∈ mg_gp ce r pr (b + 1) ↔ (x = mg_ga pr (ce (12 * r + 1)) (ce (12 * r + 2)) ∨ ∃ j, 1 ≤ j ∧ j ≤ b ∧ x = (8 + mg_bp ce r j (pr % 4), ce (12 * r + 3 * j + 1), ce (12 * r + 3 * j + 2))) := by
  unfold mg_gp
  rw [List.mem_cons, List.mem_map, Nat.add_sub_cancel]
  constructor
  · rintro (h | ⟨j, hj, h⟩)
    · exact Or.inl h
    · rw [List.mem_range] at hj
      exact Or.inr ⟨j + 1, by omega, by omega, h.symm⟩
  · rintro (h | ⟨j, h1, h2, h⟩)
    · exact Or.inl h
    · refine Or.inr ⟨j - 1, List.mem_range.mpr (by omega), ?_⟩
      rw [show j - 1 + 1 = j by omega]
      exact h.symm
/-- soundness: all that the rewritten program gives is asked for and true -/
theorem mg_sound (h : mg_set C Pn ce bl rc F K0 P q g0) (k : Nat) (hk : mg_lm C P K0 k) :
    (k < 200 → K0 k) ∧ (200 ≤ k → k < 600 → mg_as ce bl rc q (k / 25 - 8) ∧ mg_lm C (mg_pp ce bl rc) F (25 * ((k / 25 - 8) / 4) + k % 25) ∧ mg_gs C ce bl rc (mg_lm C (mg_pp ce bl rc) F) (mg_xy g0) (mg_go (25 * ((k / 25 - 8) / 4) + k % 25) ((k / 25 - 8) % 4))) ∧
    (600 ≤ k → mg_as ce bl rc q (k / 25 - 24) ∧ mg_gs C ce bl rc (mg_lm C (mg_pp ce bl rc) F) (mg_xy g0) (mg_xy k)) := by
  have hq := mg_q16 h
  obtain ⟨hC, hP, hok, hF, hK, hK2, hK3, g1, g2, g3, hm⟩ := h
  refine hk (fun k => (k < 200 → K0 k) ∧ (200 ≤ k → k < 600 → mg_as ce bl rc q (k / 25 - 8) ∧ mg_lm C (mg_pp ce bl rc) F (25 * ((k / 25 - 8) / 4) + k % 25) ∧ mg_gs C ce bl rc (mg_lm C (mg_pp ce bl rc) F) (mg_xy g0) (mg_go (25 * ((k / 25 - 8) / 4) + k % 25) ((k / 25 - 8) % 4))) ∧
    (600 ≤ k → mg_as ce bl rc q (k / 25 - 24) ∧ mg_gs C ce bl rc (mg_lm C (mg_pp ce bl rc) F) (mg_xy g0) (mg_xy k))) (fun f hf => ?_) (fun x hx s hs hb => ?_)
  · rcases hK2 f hf with z | z
    · exact ⟨fun _ => hf, fun _ => by omega, fun _ => by omega⟩
    · subst z
      exact ⟨fun _ => by omega, fun _ => by omega, fun _ => ⟨by rw [g3]; exact mg_as_q, mg_gs_0⟩⟩
  · obtain ⟨pr, hA, hx⟩ := (hm x).mp hx
    have hp16 := mg_as_lt hP hok hq hA
    have d1 := hs.1
    have d2 := hs.2.1
    -- a goal atom's meaning
    have G : ∀ a b : Int32, mg_tv a s < 5 → mg_tv b s < 5 → ((600 ≤ mg_f (mg_ga pr a b) s → mg_as ce bl rc q (mg_f (mg_ga pr a b) s / 25 - 24) ∧ mg_gs C ce bl rc (mg_lm C (mg_pp ce bl rc) F) (mg_xy g0) (mg_xy (mg_f (mg_ga pr a b) s)))) → mg_gs C ce bl rc (mg_lm C (mg_pp ce bl rc) F) (mg_xy g0) (mg_go (25 * (pr / 4) + 5 * mg_tv a s + mg_tv b s) (pr % 4)) := fun a b ha hb' hh => by
      have gi := mg_gi_r hp16 ha hb'
      rw [mg_ga_f] at hh
      have := (hh gi.1).2
      rw [gi.2.2.2] at this
      exact this
    -- a found atom's meaning
    have FD : ∀ pb x y, pb < 16 → x < 5 → y < 5 → ((200 ≤ (8 + pb) * 25 + x * 5 + y → (8 + pb) * 25 + x * 5 + y < 600 → mg_as ce bl rc q (((8 + pb) * 25 + x * 5 + y) / 25 - 8) ∧ mg_lm C (mg_pp ce bl rc) F (25 * ((((8 + pb) * 25 + x * 5 + y) / 25 - 8) / 4) + ((8 + pb) * 25 + x * 5 + y) % 25) ∧ mg_gs C ce bl rc (mg_lm C (mg_pp ce bl rc) F) (mg_xy g0) (mg_go (25 * ((((8 + pb) * 25 + x * 5 + y) / 25 - 8) / 4) + ((8 + pb) * 25 + x * 5 + y) % 25) ((((8 + pb) * 25 + x * 5 + y) / 25 - 8) % 4))) ↔ (mg_as ce bl rc q pb ∧ mg_lm C (mg_pp ce bl rc) F (25 * (pb / 4) + 5 * x + y) ∧ mg_gs C ce bl rc (mg_lm C (mg_pp ce bl rc) F) (mg_xy g0) (mg_go (25 * (pb / 4) + 5 * x + y) (pb % 4)))) := fun pb x y h1 h2 h3 => by
      have e1 : ((8 + pb) * 25 + x * 5 + y) / 25 - 8 = pb := by omega
      have e2 : ((8 + pb) * 25 + x * 5 + y) % 25 = 5 * x + y := by omega
      rw [e1, e2, ← Nat.add_assoc]
      exact ⟨fun g => g (by omega) (by omega), fun g _ _ => g⟩
    rcases hx with rfl | ⟨r, hr, hpr, hx⟩
    · -- the stored rule
      have b1 := hb (mg_ga pr (-1) (-2)) (List.mem_cons_self ..)
      have b2 := hb (4 + pr / 4, -1, -2) (List.mem_cons_of_mem _ (List.mem_cons_self ..))
      have gg := G (-1) (-2) (by rw [mg_tv1]; omega) (by rw [mg_tv2]; omega) b1.2.2
      rw [mg_tv1, mg_tv2] at gg
      have ff : F (25 * (pr / 4) + 5 * s.1 + s.2.1) := by
        have e : mg_f (4 + pr / 4, -1, -2) s = 100 + (25 * (pr / 4) + 5 * s.1 + s.2.1) := by
          unfold mg_f; dsimp only; rw [mg_tv1, mg_tv2]; omega
        rw [e] at b2
        exact (hK _ (by omega)).mp (b2.1 (by omega))
      have e : mg_f (mg_sr pr).1 s = (8 + pr) * 25 + s.1 * 5 + s.2.1 := by
        unfold mg_f mg_sr; dsimp only; rw [mg_tv1, mg_tv2]
      rw [e]
      exact ⟨fun _ => by omega, (FD pr s.1 s.2.1 hp16 (by omega) (by omega)).mpr ⟨hA, mg_lm_in ff, gg⟩, fun _ => by omega⟩
    · obtain ⟨hro, hsf⟩ := hok r hr
      have hn3 := (mg_ro_n hro).2
      have ca : ∀ j, j ≤ mg_n bl r → _ := fun j hj => mg_ca_f hC.2 hP (hro.2 j hj) hs
      have c0 := ca 0 (by omega)
      rw [show 12 * r + 3 * 0 = 12 * r by omega] at c0
      -- the meaning of a guard list
      have PF : ∀ b, b ≤ mg_n bl r → (∀ a, a ∈ mg_gp ce r pr (b + 1) → (mg_f a s < 200 → K0 (mg_f a s)) ∧ (200 ≤ mg_f a s → mg_f a s < 600 → mg_as ce bl rc q (mg_f a s / 25 - 8) ∧ mg_lm C (mg_pp ce bl rc) F (25 * ((mg_f a s / 25 - 8) / 4) + mg_f a s % 25) ∧ mg_gs C ce bl rc (mg_lm C (mg_pp ce bl rc) F) (mg_xy g0) (mg_go (25 * ((mg_f a s / 25 - 8) / 4) + mg_f a s % 25) ((mg_f a s / 25 - 8) % 4))) ∧ (600 ≤ mg_f a s → mg_as ce bl rc q (mg_f a s / 25 - 24) ∧ mg_gs C ce bl rc (mg_lm C (mg_pp ce bl rc) F) (mg_xy g0) (mg_xy (mg_f a s)))) →
          mg_gs C ce bl rc (mg_lm C (mg_pp ce bl rc) F) (mg_xy g0) (mg_go (mg_f (mg_ca ce (12 * r)) s) (pr % 4)) ∧ ∀ j, 1 ≤ j → j ≤ b → mg_lm C (mg_pp ce bl rc) F (mg_f (mg_ca ce (12 * r + 3 * j)) s) := fun b hb1 hb2 => by
        constructor
        · have := G _ _ (by omega) (by omega) (hb2 _ (mg_mem_gp.mpr (Or.inl rfl))).2.2
          rw [c0.1, show (ce (12 * r)).toNatClampNeg = pr / 4 from hpr]
          exact this
        · intro j h1 h2
          have cj := ca j (by omega)
          have bl' := mg_bp_lt (d := pr % 4) hP hok hr (show j ≤ mg_n bl r by omega)
          have hh := (hb2 _ (mg_mem_gp.mpr (Or.inr ⟨j, h1, h2, rfl⟩))).2.1
          have := ((FD (mg_bp ce r j (pr % 4)) (mg_tv (ce (12 * r + 3 * j + 1)) s) (mg_tv (ce (12 * r + 3 * j + 2)) s) bl'.1 (by omega) (by omega)).mp hh).2.1
          rw [bl'.2.2.1] at this
          rw [cj.1]
          exact this
      rcases hx with rfl | ⟨i, hi1, hi2, rfl⟩
      · -- the modified rule
        obtain ⟨p1, p2⟩ := PF (mg_n bl r) (Nat.le_refl _) hb
        have hM : mg_lm C (mg_pp ce bl rc) F (mg_f (mg_ca ce (12 * r)) s) := by
          refine mg_lm_cl (mg_pr ce bl r) (List.mem_map.mpr ⟨r, List.mem_range.mpr hr, rfl⟩) s hs (fun a ha => ?_)
          obtain ⟨j, hj, rfl⟩ := List.mem_map.mp ha
          rw [List.mem_range] at hj
          exact p2 (j + 1) (by omega) (by omega)
        have e : mg_f (mg_dr ce bl r pr).1 s = (8 + pr) * 25 + mg_tv (ce (12 * r + 1)) s * 5 + mg_tv (ce (12 * r + 2)) s := rfl
        rw [c0.1, show (ce (12 * r)).toNatClampNeg = pr / 4 from hpr] at hM p1
        rw [e]
        exact ⟨fun _ => by omega, (FD pr _ _ hp16 (by omega) (by omega)).mpr ⟨hA, hM, p1⟩, fun _ => by omega⟩
      · -- a magic rule
        have hb' := hb
        rw [show mg_mr ce r pr i = (mg_ga (mg_bp ce r i (pr % 4)) (ce (12 * r + 3 * i + 1)) (ce (12 * r + 3 * i + 2)), mg_gp ce r pr (i - 1 + 1)) by unfold mg_mr; rw [show i - 1 + 1 = i by omega]] at hb'
        obtain ⟨p1, p2⟩ := PF (i - 1) (by omega) hb'
        have ci := ca i hi2
        have bl' := mg_bp_lt (d := pr % 4) hP hok hr hi2
        have hG := mg_gs_c (g0 := mg_xy g0) r hr (pr % 4) (by omega) i hi1 hi2 s hs p1 (fun j h1 h2 => p2 j h1 (by omega))
        have gi := mg_gi_r (pr := mg_bp ce r i (pr % 4)) (x := mg_tv (ce (12 * r + 3 * i + 1)) s) (y := mg_tv (ce (12 * r + 3 * i + 2)) s) bl'.1 (by omega) (by omega)
        have e : mg_f (mg_mr ce r pr i).1 s = mg_gi (mg_bp ce r i (pr % 4)) (mg_tv (ce (12 * r + 3 * i + 1)) s) (mg_tv (ce (12 * r + 3 * i + 2)) s) := mg_ga_f
        rw [e]
        refine ⟨fun _ => by omega, fun _ => by omega, fun _ => ⟨?_, ?_⟩⟩
        · rw [gi.2.2.1]
          exact mg_as_c pr hA r hr hpr i hi1 hi2
        · rw [gi.2.2.2, bl'.2.2.1, bl'.2.1]
          rw [ci.1] at hG
          exact hG
/-- what the goals of a rule's head raise, where what is true and asked for is found -/
theorem mg_chain (h : mg_set C Pn ce bl rc F K0 P q g0) {pr r : Nat} {s : Nat × Nat × Nat} (hA : mg_as ce bl rc q pr) (hr : r < rc) (hpr : mg_p ce r = pr / 4) (hs : mg_D C s)
    (hg : mg_lm C P K0 (mg_gi pr (mg_tv (ce (12 * r + 1)) s) (mg_tv (ce (12 * r + 2)) s))) :
    ∀ b, b ≤ mg_n bl r → (∀ j, 1 ≤ j → j ≤ b → mg_lm C P K0 (mg_gi (mg_bp ce r j (pr % 4)) (mg_tv (ce (12 * r + 3 * j + 1)) s) (mg_tv (ce (12 * r + 3 * j + 2)) s)) → mg_lm C P K0 (mg_fi2 (mg_bp ce r j (pr % 4)) (mg_tv (ce (12 * r + 3 * j + 1)) s) (mg_tv (ce (12 * r + 3 * j + 2)) s))) →
    (∀ a, a ∈ mg_gp ce r pr (b + 1) → mg_lm C P K0 (mg_f a s)) := by
  obtain ⟨hC, hP, hok, hF, hK, hK2, hK3, g1, g2, g3, hm⟩ := h
  intro b
  induction b with
  | zero =>
    intro _ _ a ha
    rcases mg_mem_gp.mp ha with rfl | ⟨j, h1, h2, _⟩
    · rw [mg_ga_f]; exact hg
    · omega
  | succ b ih =>
    intro hb hT a ha
    have ih' := ih (by omega) (fun j h1 h2 => hT j h1 (by omega))
    rcases mg_mem_gp.mp ha with rfl | ⟨j, h1, h2, rfl⟩
    · rw [mg_ga_f]; exact hg
    · by_cases z : j = b + 1
      · subst z
        have hmr : mg_mr ce r pr (b + 1) ∈ P := (hm _).mpr ⟨pr, hA, Or.inr ⟨r, hr, hpr, Or.inr ⟨b + 1, by omega, by omega, rfl⟩⟩⟩
        have hgo := mg_lm_cl _ hmr s hs ih'
        rw [show mg_f (mg_mr ce r pr (b + 1)).1 s = mg_gi (mg_bp ce r (b + 1) (pr % 4)) (mg_tv (ce (12 * r + 3 * (b + 1) + 1)) s) (mg_tv (ce (12 * r + 3 * (b + 1) + 2)) s) from mg_ga_f] at hgo
        exact hT (b + 1) (by omega) (by omega) hgo
      · exact ih' _ (mg_mem_gp.mpr (Or.inr ⟨j, h1, by omega, rfl⟩))
/-- what is true and asked for is found -/
theorem mg_found (h : mg_set C Pn ce bl rc F K0 P q g0) (f : Nat) (hf : mg_lm C (mg_pp ce bl rc) F f) :
    ∀ pr x y, pr < 16 → x < C → y < C → f = 25 * (pr / 4) + 5 * x + y → mg_lm C P K0 (mg_gi pr x y) → mg_lm C P K0 (mg_fi2 pr x y) := by
  have h' := h
  have hq := mg_q16 h
  have hsd := mg_sound h
  obtain ⟨hC, hP, hok, hF, hK, hK2, hK3, g1, g2, g3, hm⟩ := h
  have hAg : ∀ pr x y, pr < 16 → x < C → y < C → mg_lm C P K0 (mg_gi pr x y) → mg_as ce bl rc q pr := fun pr x y h1 h2 h3 h4 => by
    have gi := mg_gi_r h1 (show x < 5 by omega) (show y < 5 by omega)
    have := ((hsd _ h4).2.2 gi.1).1
    rw [gi.2.2.1] at this
    exact this
  refine hf (fun f => ∀ pr x y, pr < 16 → x < C → y < C → f = 25 * (pr / 4) + 5 * x + y → mg_lm C P K0 (mg_gi pr x y) → mg_lm C P K0 (mg_fi2 pr x y)) (fun f hf pr x y h1 h2 h3 e hg => ?_) (fun R hR s hs hb pr x y h1 h2 h3 e hg => ?_)
  · have hA := hAg pr x y h1 h2 h3 hg
    have hsr : mg_sr pr ∈ P := (hm _).mpr ⟨pr, hA, Or.inl rfl⟩
    have := mg_lm_cl (F := K0) _ hsr (x, y, 0) ⟨h2, h3, by show 0 < C; omega⟩ (fun a ha => ?_)
    · have e : mg_f (mg_sr pr).1 (x, y, 0) = mg_fi2 pr x y := by
        unfold mg_f mg_sr mg_fi2; dsimp only; rw [mg_tv1, mg_tv2]
      rw [e] at this
      exact this
    · rcases List.mem_cons.mp ha with rfl | ha
      · rw [mg_ga_f, mg_tv1, mg_tv2]; exact hg
      · rcases List.mem_cons.mp ha with rfl | ha
        · have e' : mg_f (4 + pr / 4, -1, -2) (x, y, 0) = 100 + f := by
            unfold mg_f; dsimp only; rw [mg_tv1, mg_tv2, e]; dsimp only; omega
          rw [e']
          exact mg_lm_in ((hK f (hF f hf).1).mpr hf)
        · exact absurd ha (by simp)
  · obtain ⟨r, hr, rfl⟩ := List.mem_map.mp hR
    rw [List.mem_range] at hr
    have hA := hAg pr x y h1 h2 h3 hg
    obtain ⟨hro, hsf⟩ := hok r hr
    have ca : ∀ j, j ≤ mg_n bl r → _ := fun j hj => mg_ca_f hC.2 hP (hro.2 j hj) hs
    have c0 := ca 0 (by omega)
    rw [show 12 * r + 3 * 0 = 12 * r by omega] at c0
    have e0 : mg_f (mg_pr ce bl r).1 s = mg_f (mg_ca ce (12 * r)) s := rfl
    rw [e0, c0.1] at e
    have ep : mg_p ce r = pr / 4 := by show (ce (12 * r)).toNatClampNeg = pr / 4; omega
    have ex : mg_tv (ce (12 * r + 1)) s = x := by omega
    have ey : mg_tv (ce (12 * r + 2)) s = y := by omega
    rw [← ex, ← ey] at hg
    have ch := mg_chain h' hA hr ep hs hg (mg_n bl r) (Nat.le_refl _) (fun j j1 j2 hj => ?_)
    · have hdr : mg_dr ce bl r pr ∈ P := (hm _).mpr ⟨pr, hA, Or.inr ⟨r, hr, ep, Or.inl rfl⟩⟩
      have := mg_lm_cl _ hdr s hs ch
      rw [show mg_f (mg_dr ce bl r pr).1 s = mg_fi2 pr (mg_tv (ce (12 * r + 1)) s) (mg_tv (ce (12 * r + 2)) s) from rfl, ex, ey] at this
      exact this
    · have cj := ca j j2
      have bl' := mg_bp_lt (d := pr % 4) hP hok hr j2
      have hbj := hb (mg_ca ce (12 * r + 3 * j)) (List.mem_map.mpr ⟨j - 1, List.mem_range.mpr (by omega), by rw [show j - 1 + 1 = j by omega]⟩)
      exact hbj _ _ _ bl'.1 cj.2.1 cj.2.2.1 (by rw [cj.1, bl'.2.2.1]) hj
theorem mg_goals (h : mg_set C Pn ce bl rc F K0 P q g0) (g : Nat) (hg : mg_gs C ce bl rc (mg_lm C (mg_pp ce bl rc) F) (mg_xy g0) g) : mg_lm C P K0 (mg_yx g) := by
  have h' := h
  have hq := mg_q16 h
  have hsd := mg_sound h
  have hfd := mg_found h
  obtain ⟨hC, hP, hok, hF, hK, hK2, hK3, g1, g2, g3, hm⟩ := h
  refine hg (fun g => mg_lm C P K0 (mg_yx g)) ?_ (fun r hr d hd i hi1 hi2 s hs hh hb => ?_)
  · rw [mg_xyx g1 g2]
    exact mg_lm_in hK3
  · obtain ⟨hro, hsf⟩ := hok r hr
    have ca : ∀ j, j ≤ mg_n bl r → _ := fun j hj => mg_ca_f hC.2 hP (hro.2 j hj) hs
    have c0 := ca 0 (by omega)
    rw [show 12 * r + 3 * 0 = 12 * r by omega] at c0
    have hp4 : (ce (12 * r)).toNatClampNeg < 4 := by omega
    dsimp only at hh ⊢
    rw [c0.1, mg_yx_r hp4 hd (by omega) (by omega)] at hh
    have hpr : mg_p ce r = ((ce (12 * r)).toNatClampNeg * 4 + d) / 4 := by show (ce (12 * r)).toNatClampNeg = _; omega
    have ed : ((ce (12 * r)).toNatClampNeg * 4 + d) % 4 = d := by omega
    have hA : mg_as ce bl rc q ((ce (12 * r)).toNatClampNeg * 4 + d) := by
      have gi := mg_gi_r (pr := (ce (12 * r)).toNatClampNeg * 4 + d) (by omega) (show mg_tv (ce (12 * r + 1)) s < 5 by omega) (show mg_tv (ce (12 * r + 2)) s < 5 by omega)
      have := ((hsd _ hh).2.2 gi.1).1
      rw [gi.2.2.1] at this
      exact this
    have ch := mg_chain h' hA hr hpr hs hh (i - 1) (by omega) (fun j j1 j2 hj => ?_)
    · have hmr : mg_mr ce r ((ce (12 * r)).toNatClampNeg * 4 + d) i ∈ P := (hm _).mpr ⟨_, hA, Or.inr ⟨r, hr, hpr, Or.inr ⟨i, hi1, hi2, rfl⟩⟩⟩
      have ci := ca i hi2
      rw [show i - 1 + 1 = i by omega] at ch
      have := mg_lm_cl _ hmr s hs ch
      rw [show mg_f (mg_mr ce r ((ce (12 * r)).toNatClampNeg * 4 + d) i).1 s = mg_gi (mg_bp ce r i (((ce (12 * r)).toNatClampNeg * 4 + d) % 4)) (mg_tv (ce (12 * r + 3 * i + 1)) s) (mg_tv (ce (12 * r + 3 * i + 2)) s) from mg_ga_f, ed] at this
      rw [ci.1, mg_yx_r (by omega) (mg_ad_lt ..) (by omega) (by omega)]
      exact this
    · have cj := ca j (by omega)
      have bl' := mg_bp_lt (d := ((ce (12 * r)).toNatClampNeg * 4 + d) % 4) hP hok hr (show j ≤ mg_n bl r by omega)
      exact hfd _ (hb j j1 (by omega)) _ _ _ bl'.1 cj.2.1 cj.2.2.1 (by rw [cj.1, bl'.2.2.1]) hj
/-- the theorem -/
theorem mg_goals_iff (h : mg_set C Pn ce bl rc F K0 P q g0) {k : Nat} (h1 : 600 ≤ k) (h2 : k < 1000) : mg_lm C P K0 k ↔ mg_gs C ce bl rc (mg_lm C (mg_pp ce bl rc) F) (mg_xy g0) (mg_xy k) := by
  constructor
  · exact fun hk => ((mg_sound h k hk).2.2 h1).2
  · intro hg
    have := mg_goals h _ hg
    rw [mg_xyx h1 h2] at this
    exact this
theorem mg_found_iff (h : mg_set C Pn ce bl rc F K0 P q g0) {pr x y : Nat} (hp : pr < 16) (hx : x < C) (hy : y < C) :
    mg_lm C P K0 ((8 + pr) * 25 + x * 5 + y) ↔ (mg_lm C (mg_pp ce bl rc) F (25 * (pr / 4) + 5 * x + y) ∧ mg_gs C ce bl rc (mg_lm C (mg_pp ce bl rc) F) (mg_xy g0) (mg_go (25 * (pr / 4) + 5 * x + y) (pr % 4))) := by
  have hC := h.1
  constructor
  · intro hk
    have := ((mg_sound h _ hk).2.1 (by omega) (by omega)).2
    rw [show ((8 + pr) * 25 + x * 5 + y) / 25 - 8 = pr by omega, show ((8 + pr) * 25 + x * 5 + y) % 25 = 5 * x + y by omega, ← Nat.add_assoc] at this
    exact this
  · rintro ⟨h1, h2⟩
    have hg := mg_goals h _ h2
    have := mg_yx_r (p := pr / 4) (d := pr % 4) (x := x) (y := y) (by omega) (by omega) (by omega) (by omega)
    rw [this, show pr / 4 * 4 + pr % 4 = pr by omega] at hg
    exact mg_found h _ h1 pr x y hp hx hy rfl hg
end
end
section
/-! Y: what reads -/
theorem mg_ix0 (r j : Nat) : (12 : Int32) * nI r + 3 * nI j = nI (12 * r + 3 * j) := by rw [show (12 : Int32) = nI 12 from rfl, show (3 : Int32) = nI 3 from rfl, pk_mul, pk_mul, nI_add]
theorem mg_ix1 (r j : Nat) : (12 : Int32) * nI r + 3 * nI j + 1 = nI (12 * r + 3 * j + 1) := by rw [mg_ix0, nI_1]
theorem mg_ix2 (r j : Nat) : (12 : Int32) * nI r + 3 * nI j + 2 = nI (12 * r + 3 * j + 2) := by rw [mg_ix0, show (2 : Int32) = nI 2 from rfl, nI_add]
theorem mg_ih0 (r : Nat) : (12 : Int32) * nI r = nI (12 * r) := by rw [show (12 : Int32) = nI 12 from rfl, pk_mul]
theorem mg_ih1 (r : Nat) : (12 : Int32) * nI r + 1 = nI (12 * r + 1) := by rw [mg_ih0, nI_1]
theorem mg_ih2 (r : Nat) : (12 : Int32) * nI r + 2 = nI (12 * r + 2) := by rw [mg_ih0, show (2 : Int32) = nI 2 from rfl, nI_add]
theorem mg_a1 : ∀ d, d < 4 → ((nI d &&& 1 = 0) ↔ ¬ d % 2 = 1) := by decide +kernel
theorem mg_a2 : ∀ d, d < 4 → ((nI d &&& 2 = 0) ↔ ¬ d / 2 % 2 = 1) := by decide +kernel
def mg_sq (ce : Nat → Int32) (r n : Nat) (t : Int32) : Prop := ¬ t < 0 ∨ ∃ j, 1 ≤ j ∧ j ≤ n ∧ (ce (12 * r + 3 * j + 1) = t ∨ ce (12 * r + 3 * j + 2) = t)
theorem mg_sq_s {ce : Nat → Int32} {r n : Nat} {t : Int32} : mg_sq ce r (n + 1) t ↔ (mg_sq ce r n t ∨ ce (12 * r + 3 * (n + 1) + 1) = t ∨ ce (12 * r + 3 * (n + 1) + 2) = t) := by
  unfold mg_sq
  constructor
  · rintro (h | ⟨j, h1, h2, h3⟩)
    · exact Or.inl (Or.inl h)
    · by_cases z : j = n + 1
      · subst z; exact Or.inr h3
      · exact Or.inl (Or.inr ⟨j, h1, by omega, h3⟩)
  · rintro ((h | ⟨j, h1, h2, h3⟩) | h)
    · exact Or.inl h
    · exact Or.inr ⟨j, h1, by omega, h3⟩
    · exact Or.inr ⟨n + 1, by omega, by omega, h⟩
theorem mg_kp_sq {ce : Nat → Int32} {r n d : Nat} {t : Int32} : mg_kp ce r n d t ↔ (mg_sq ce r n t ∨ (d % 2 = 1 ∧ ce (12 * r + 1) = t) ∨ (d / 2 % 2 = 1 ∧ ce (12 * r + 2) = t)) := by
  unfold mg_kp mg_sq
  rw [or_assoc]
section
variable {cC pC rL rC qp qs qt dO zP zQ : Int32} {ce bl fa mo pa go : Nat → Int32}
theorem yy_stands_14 {post : Int32 → Prop} {r n : Nat} {t : Int32} (hr : r ≤ 8) (hn : n ≤ 3) (h1 : mg_sq ce r n t → post 1) (h0 : ¬ mg_sq ce r n t → post 0) :
    ∀ m j (x4 : Int32), n + 1 < m + j → j ≤ n → ((x4 = 1 ∧ mg_sq ce r j t) ∨ (x4 = 0 ∧ ¬ mg_sq ce r j t)) → wY_stands_14 post (nI r) (nI n) t cC pC rL rC qp qs qt dO zP zQ ce bl fa mo pa go m x4 (nI (j + 1)) := by
  intro m
  induction m with
  | zero => intro j x4 h; omega
  | succ m ih =>
    intro j x4 hm hj hx
    unfold wY_stands_14
    refine pk_lt n (j + 1) (fun e => ?_) (fun e => ?_)
    · have ej : j = n := by omega
      subst ej
      rcases hx with ⟨rfl, hx⟩ | ⟨rfl, hx⟩
      · exact ⟨narrow_b1, h1 hx⟩
      · exact ⟨narrow_b0, h0 hx⟩
    · refine pk_lt 3 (j + 1) (fun e => absurd e (by omega)) (fun e2 => ?_)
      rcases hx with ⟨rfl, hx⟩ | ⟨rfl, hx⟩
      · exact br_f mg_10 (nm_r (nI_1 (j + 1)) (ih (j + 1) 1 (by omega) (by omega) (Or.inl ⟨rfl, mg_sq_s.mpr (Or.inl hx)⟩)))
      · refine br_t rfl ?_
        rw [mg_ix1, mg_ix2]
        refine ⟨vp_in_nI (by omega) (by omega), ?_⟩
        rw [nI_clamp (show 12 * r + 3 * (j + 1) + 1 < 2 ^ 31 by omega), nI_clamp (show 12 * r + 3 * (j + 1) + 2 < 2 ^ 31 by omega)]
        refine br_c (fun z => nm_r (nI_1 (j + 1)) (ih (j + 1) 1 (by omega) (by omega) (Or.inl ⟨rfl, mg_sq_s.mpr (Or.inr (Or.inl z))⟩))) (fun z => ⟨vp_in_nI (by omega) (by omega), ?_⟩)
        refine br_c (fun y => nm_r (nI_1 (j + 1)) (ih (j + 1) 1 (by omega) (by omega) (Or.inl ⟨rfl, mg_sq_s.mpr (Or.inr (Or.inr y))⟩))) (fun y => nm_r (nI_1 (j + 1)) (ih (j + 1) 0 (by omega) (by omega) (Or.inr ⟨rfl, fun h => ?_⟩)))
        rcases mg_sq_s.mp h with g | g | g
        · exact hx g
        · exact z g
        · exact y g
theorem yy_stands {post : Int32 → Prop} {r n : Nat} {t : Int32} (hr : r ≤ 8) (hn : n ≤ 3) (h1 : mg_sq ce r n t → post 1) (h0 : ¬ mg_sq ce r n t → post 0) : wpY_stands post (cC, pC, rL, rC, qp, qs, qt, dO, zP, zQ, ce, bl, fa, mo, pa, go) (nI r) (nI n) t := by
  unfold wpY_stands
  refine br_c (fun z => ⟨n + 3, yy_stands_14 hr hn h1 h0 (n + 3) 0 0 (by omega) (by omega) (Or.inr ⟨rfl, ?_⟩)⟩) (fun z => ⟨n + 3, yy_stands_14 hr hn h1 h0 (n + 3) 0 1 (by omega) (by omega) (Or.inl ⟨rfl, Or.inl z⟩)⟩)
  rintro (h | ⟨j, h1, h2, _⟩)
  · exact h z
  · omega
theorem yy_known_35 {post : Int32 → Prop} {r d : Nat} {t : Int32} (hr : r ≤ 8) (hd : d < 4) (h1 : (d / 2 % 2 = 1 ∧ ce (12 * r + 2) = t) → post 1) (h0 : ¬ (d / 2 % 2 = 1 ∧ ce (12 * r + 2) = t) → post 0) : wY_known_35 post (nI r) (nI d) t cC pC rL rC qp qs qt dO zP zQ ce bl fa mo pa go := by
  unfold wY_known_35
  rw [mg_a2 d hd, mg_ih2]
  refine br_c (fun z => h0 (fun h => z h.1)) (fun z => ⟨vp_in_nI (by omega) (by omega), ?_⟩)
  rw [nI_clamp (show 12 * r + 2 < 2 ^ 31 by omega)]
  exact br_c (fun y => h1 ⟨Classical.not_not.mp z, y⟩) (fun y => h0 (fun h => y h.2))
theorem yy_known {post : Int32 → Prop} {r i d : Nat} {t : Int32} (hr : r ≤ 8) (hi : 1 ≤ i) (hi3 : i ≤ 3) (hd : d < 4) (h1 : mg_kp ce r (i - 1) d t → post 1) (h0 : ¬ mg_kp ce r (i - 1) d t → post 0) : wpY_known post (cC, pC, rL, rC, qp, qs, qt, dO, zP, zQ, ce, bl, fa, mo, pa, go) (nI r) (nI i) (nI d) t := by
  rw [mg_kp_sq] at h1 h0
  unfold wpY_known
  refine ek_v (P := fun z => wpY_stands _ _ _ z _) (show nI i - 1 = nI (i - 1) from pk_sub (b := 1) hi) ?_
  refine yy_stands hr (by omega) (fun hq => br_f mg_10 (h1 (Or.inl hq))) (fun hq => br_t rfl ?_)
  rw [mg_a1 d hd, mg_ih1]
  refine br_c (fun z => yy_known_35 hr hd (fun h => h1 (Or.inr (Or.inr h))) (fun h => h0 ?_)) (fun z => ⟨vp_in_nI (by omega) (by omega), ?_⟩)
  · rintro (g | g | g)
    · exact hq g
    · exact z g.1
    · exact h g
  · rw [nI_clamp (show 12 * r + 1 < 2 ^ 31 by omega)]
    refine br_c (fun y => h1 (Or.inr (Or.inl ⟨Classical.not_not.mp z, y⟩))) (fun y => yy_known_35 hr hd (fun h => h1 (Or.inr (Or.inr h))) (fun h => h0 ?_))
    rintro (g | g | g)
    · exact hq g
    · exact y g.2
    · exact h g
theorem yy_adornment {post : Int32 → Prop} {r i d : Nat} (hr : r ≤ 8) (hi : 1 ≤ i) (hi3 : i ≤ 3) (hd : d < 4) (h : post (nI (mg_ad ce r i d))) : wpY_adornment post (cC, pC, rL, rC, qp, qs, qt, dO, zP, zQ, ce, bl, fa, mo, pa, go) (nI r) (nI i) (nI d) := by
  unfold wpY_adornment
  rw [mg_ix1, mg_ix2]
  refine And.intro (vp_in_nI (by omega) (by omega)) ?_
  rw [nI_clamp (show 12 * r + 3 * i + 1 < 2 ^ 31 by omega), nI_clamp (show 12 * r + 3 * i + 2 < 2 ^ 31 by omega)]
  unfold mg_ad at h
  refine yy_known hr hi hi3 hd (fun k1 => And.intro (vp_in_nI (by omega) (by omega)) ?_) (fun k1 => And.intro (vp_in_nI (by omega) (by omega)) ?_)
  · rw [mg_b_t k1] at h
    refine yy_known hr hi hi3 hd (fun k2 => br_f mg_10 ?_) (fun k2 => br_f mg_10 ?_)
    · rw [mg_b_t k2] at h
      exact br_f mg_10 h
    · rw [mg_b_f k2] at h
      exact br_t rfl h
  · rw [mg_b_f k1] at h
    refine yy_known hr hi hi3 hd (fun k2 => br_t rfl ?_) (fun k2 => br_t rfl ?_)
    · rw [mg_b_t k2] at h
      exact br_f mg_10 h
    · rw [mg_b_f k2] at h
      exact br_t rfl h
theorem yy_value {post : Int32 → Prop} {C a b c : Nat} {t : Int32} (hC : C ≤ 5) (ht : mg_T C t) (h : post (nI (mg_tv t (a, b, c)))) : wpY_value post (cC, pC, rL, rC, qp, qs, qt, dO, zP, zQ, ce, bl, fa, mo, pa, go) t (nI a) (nI b) (nI c) := by
  unfold wpY_value
  rcases ht with rfl | rfl | rfl | ⟨x, hx, rfl⟩
  · rw [mg_tv1] at h
    exact br_t (by decide) (br_t rfl h)
  · rw [mg_tv2] at h
    exact br_t (by decide) (br_f (by decide) (br_t rfl h))
  · rw [mg_tv3] at h
    exact br_t (by decide) (br_f (by decide) (br_f (by decide) h))
  · rw [mg_tvc (by omega)] at h
    exact br_f (nI_pos (by omega)) h
theorem yy_factOf {post : Int32 → Prop} {C Pn a b c k : Nat} (hC : C ≤ 5) (hP : Pn ≤ 4) (hk : k < 106) (ha : mg_ao C Pn ce k) (h : post (nI (mg_f (mg_ca ce k) (a, b, c)))) : wpY_factOf post (cC, pC, rL, rC, qp, qs, qt, dO, zP, zQ, ce, bl, fa, mo, pa, go) (nI k) (nI a) (nI b) (nI c) := by
  unfold wpY_factOf
  rw [nI_1, show (2 : Int32) = nI 2 from rfl, nI_add]
  refine And.intro (vp_in_nI (by omega) (by omega)) ?_
  rw [nI_clamp (show k + 1 < 2 ^ 31 by omega), nI_clamp (show k + 2 < 2 ^ 31 by omega), nI_clamp (show k < 2 ^ 31 by omega)]
  refine yy_value hC ha.2.1 (And.intro (vp_in_nI (by omega) (by omega)) (yy_value hC ha.2.2 (And.intro (vp_in_nI (by omega) (by omega)) ?_)))
  have e := (mg_ao_p hP ha).1
  have ef : (25 : Int32) * ce k + 5 * nI (mg_tv (ce (k + 1)) (a, b, c)) + nI (mg_tv (ce (k + 2)) (a, b, c)) = nI (mg_f (mg_ca ce k) (a, b, c)) := by
    have e1 : mg_f (mg_ca ce k) (a, b, c) = 25 * (ce k).toNatClampNeg + 5 * mg_tv (ce (k + 1)) (a, b, c) + mg_tv (ce (k + 2)) (a, b, c) := by
      show (ce k).toNatClampNeg * 25 + mg_tv (ce (k + 1)) (a, b, c) * 5 + mg_tv (ce (k + 2)) (a, b, c) = _
      omega
    rw [e1, e, nI_clamp (show (ce k).toNatClampNeg < 2 ^ 31 by have := (mg_ao_p hP ha).2; omega), show (25 : Int32) = nI 25 from rfl, show (5 : Int32) = nI 5 from rfl, pk_mul, pk_mul, nI_add, nI_add]
  rw [ef]
  exact h
theorem yy_goalOf {post : Int32 → Prop} {f d : Nat} (hf : f < 100) (hd : d < 4) (h : post (nI (mg_go f d))) : wpY_goalOf post (cC, pC, rL, rC, qp, qs, qt, dO, zP, zQ, ce, bl, fa, mo, pa, go) (nI f) (nI d) := by
  unfold wpY_goalOf
  have e5 : nI f / 5 = nI (f / 5) := pk_div (d := 5) (by omega) (by omega) (by omega)
  have e25 : nI f / 25 = nI (f / 25) := pk_div (d := 25) (by omega) (by omega) (by omega)
  have e55 : nI (f / 5) - nI (f / 5) / 5 * 5 = nI (f / 5 % 5) := pk_rem (d := 5) (by omega) (by omega) (by omega)
  have er : nI f - nI f / 5 * 5 = nI (f % 5) := pk_rem (d := 5) (by omega) (by omega) (by omega)
  have eb : (100 : Int32) * nI d + nI (f / 25) * 25 = nI (100 * d + f / 25 * 25) := by rw [show (100 : Int32) = nI 100 from rfl, show (25 : Int32) = nI 25 from rfl, pk_mul, pk_mul, nI_add]
  have e5' : nI (f / 5 % 5) * 5 = nI (f / 5 % 5 * 5) := by rw [show (5 : Int32) = nI 5 from rfl, pk_mul]
  unfold mg_go at h
  refine And.intro (by decide) ?_
  rw [mg_a1 d hd, e5, e55, e25, eb, e5']
  refine br_c (fun z => ?_) (fun z => And.intro (by decide) (And.intro (by decide) ?_))
  · unfold wY_goalOf_29
    rw [mg_a2 d hd, er]
    rw [if_neg z] at h
    refine br_c (fun y => ?_) (fun y => And.intro (by decide) ?_)
    · rw [if_neg y] at h
      rw [show (0 : Int32) = nI 0 from rfl, nI_add, nI_add]
      exact h
    · rw [if_pos (Classical.not_not.mp y)] at h
      rw [show (0 : Int32) = nI 0 from rfl, nI_add, nI_add]
      exact h
  · unfold wY_goalOf_29
    rw [mg_a2 d hd, er]
    rw [if_pos (Classical.not_not.mp z)] at h
    refine br_c (fun y => ?_) (fun y => And.intro (by decide) ?_)
    · rw [if_neg y] at h
      rw [show (0 : Int32) = nI 0 from rfl, nI_add, nI_add]
      exact h
    · rw [if_pos (Classical.not_not.mp y)] at h
      rw [nI_add, nI_add]
      exact h
theorem yy_bodyHolds_6 {post : Int32 → Prop} {C Pn r n a b c : Nat} (hC : C ≤ 5) (hP : Pn ≤ 4) (hr : r ≤ 8) (hn : n ≤ 3) (hs : mg_D C (a, b, c)) (ho : ∀ j, 1 ≤ j → j ≤ n → mg_ao C Pn ce (12 * r + 3 * j))
    (h1 : (∀ j, 1 ≤ j → j ≤ n → mo (mg_f (mg_ca ce (12 * r + 3 * j)) (a, b, c)) ≠ 0) → post 1) (h0 : ¬ (∀ j, 1 ≤ j → j ≤ n → mo (mg_f (mg_ca ce (12 * r + 3 * j)) (a, b, c)) ≠ 0) → post 0) :
    ∀ m j (x6 : Int32), n + 1 < m + j → j ≤ n → ((x6 = 1 ∧ ∀ i, 1 ≤ i → i ≤ j → mo (mg_f (mg_ca ce (12 * r + 3 * i)) (a, b, c)) ≠ 0) ∨ (x6 = 0 ∧ ¬ ∀ i, 1 ≤ i → i ≤ j → mo (mg_f (mg_ca ce (12 * r + 3 * i)) (a, b, c)) ≠ 0)) →
    wY_bodyHolds_6 post (nI r) (nI n) (nI a) (nI b) (nI c) cC pC rL rC qp qs qt dO zP zQ ce bl fa mo pa go m x6 (nI (j + 1)) := by
  intro m
  induction m with
  | zero => intro j x h; omega
  | succ m ih =>
    intro j x6 hm hj hx
    unfold wY_bodyHolds_6
    refine pk_lt n (j + 1) (fun e => ?_) (fun e => ?_)
    · have ej : j = n := by omega
      subst ej
      rcases hx with ⟨rfl, hx⟩ | ⟨rfl, hx⟩
      · exact ⟨narrow_b1, h1 hx⟩
      · exact ⟨narrow_b0, h0 hx⟩
    · refine pk_lt 3 (j + 1) (fun e => absurd e (by omega)) (fun e2 => ?_)
      rcases hx with ⟨rfl, hx⟩ | ⟨rfl, hx⟩
      · refine br_f mg_10 ?_
        have hao := ho (j + 1) (by omega) (by omega)
        have hf := mg_ca_f hC hP hao hs
        rw [mg_ix0]
        refine yy_factOf hC hP (by omega) hao (And.intro (vp_in_nI hf.2.2.2.2 (by omega)) ?_)
        rw [nI_clamp (by omega)]
        refine br_c (fun z => nm_r (nI_1 (j + 1)) (ih (j + 1) 0 (by omega) (by omega) (Or.inr ⟨rfl, fun h => h (j + 1) (by omega) (by omega) z⟩))) (fun z => nm_r (nI_1 (j + 1)) (ih (j + 1) 1 (by omega) (by omega) (Or.inl ⟨rfl, fun i i1 i2 => ?_⟩)))
        by_cases y : i = j + 1
        · subst y; exact z
        · exact hx i i1 (by omega)
      · exact br_t rfl (nm_r (nI_1 (j + 1)) (ih (j + 1) 0 (by omega) (by omega) (Or.inr ⟨rfl, fun h => hx (fun i i1 i2 => h i i1 (by omega))⟩)))
theorem yy_bodyHolds {post : Int32 → Prop} {C Pn r n a b c : Nat} (hC : C ≤ 5) (hP : Pn ≤ 4) (hr : r ≤ 8) (hn : n ≤ 3) (hs : mg_D C (a, b, c)) (ho : ∀ j, 1 ≤ j → j ≤ n → mg_ao C Pn ce (12 * r + 3 * j))
    (h1 : (∀ j, 1 ≤ j → j ≤ n → mo (mg_f (mg_ca ce (12 * r + 3 * j)) (a, b, c)) ≠ 0) → post 1) (h0 : ¬ (∀ j, 1 ≤ j → j ≤ n → mo (mg_f (mg_ca ce (12 * r + 3 * j)) (a, b, c)) ≠ 0) → post 0) :
    wpY_bodyHolds post (cC, pC, rL, rC, qp, qs, qt, dO, zP, zQ, ce, bl, fa, mo, pa, go) (nI r) (nI n) (nI a) (nI b) (nI c) := by
  unfold wpY_bodyHolds
  exact ⟨n + 3, yy_bodyHolds_6 hC hP hr hn hs ho h1 h0 (n + 3) 0 1 (by omega) (by omega) (Or.inl ⟨rfl, fun i h1 h2 => by omega⟩)⟩
theorem yy_derive {post : Int32 → SY → Prop} {C Pn r a b c : Nat} (hC : C ≤ 5) (hP : Pn ≤ 4) (hr : r ≤ 8) (hs : mg_D C (a, b, c)) (ho : mg_ro C Pn ce bl r)
    (h0 : (mo (mg_f (mg_ca ce (12 * r)) (a, b, c)) ≠ 0 ∨ ¬ (∀ j, 1 ≤ j → j ≤ mg_n bl r → mo (mg_f (mg_ca ce (12 * r + 3 * j)) (a, b, c)) ≠ 0)) → post 0 (cC, pC, rL, rC, qp, qs, qt, dO, zP, zQ, ce, bl, fa, mo, pa, go))
    (h1 : mo (mg_f (mg_ca ce (12 * r)) (a, b, c)) = 0 → (∀ j, 1 ≤ j → j ≤ mg_n bl r → mo (mg_f (mg_ca ce (12 * r + 3 * j)) (a, b, c)) ≠ 0) → post 1 (cC, pC, rL, rC, qp, qs, qt, dO, zP, zQ, ce, bl, fa, upd mo (mg_f (mg_ca ce (12 * r)) (a, b, c)) 1, pa, go)) :
    wpY_derive post (cC, pC, rL, rC, qp, qs, qt, dO, zP, zQ, ce, bl, fa, mo, pa, go) (nI r) (nI a) (nI b) (nI c) := by
  have hao := ho.2 0 (by omega)
  rw [show 12 * r + 3 * 0 = 12 * r by omega] at hao
  have hf := mg_ca_f hC hP hao hs
  have hn := mg_ro_n ho
  unfold wpY_derive
  rw [mg_ih0]
  refine yy_factOf hC hP (by omega) hao (And.intro (vp_in_nI hf.2.2.2.2 (by omega)) ?_)
  rw [nI_clamp (by omega), nI_clamp (show r < 2 ^ 31 by omega), hn.1]
  refine br_c (fun z => And.intro (vp_in_nI (by omega) (by omega)) ?_) (fun z => h0 (Or.inl z))
  refine yy_bodyHolds hC hP hr hn.2 hs (fun j _ h => ho.2 j h) (fun hb => br_f mg_10 (And.intro (vp_in_nI hf.2.2.2.2 (by omega)) ?_)) (fun hb => br_t rfl (h0 (Or.inr hb)))
  exact nm_e (h1 z hb)
end
end
section
/-! Y: the closing loops -/
def mg_s (f : Nat → Int32) : Nat → Prop := fun k => f k ≠ 0
theorem mg_s_upd {f : Nat → Int32} {k j : Nat} : mg_s (upd f k 1) j ↔ (mg_s f j ∨ j = k) := by
  unfold mg_s
  by_cases z : j = k
  · subst z
    rw [pk_us]
    exact ⟨fun _ => Or.inr rfl, fun _ => mg_10⟩
  · rw [pk_un z]
    exact ⟨Or.inl, fun h => h.elim (fun h => h) (fun h => absurd h z)⟩
theorem mg_s_same {f : Nat → Int32} {k : Nat} (h : mg_s f k) : mg_s (upd f k 1) = mg_s f := by
  funext j
  apply propext
  rw [mg_s_upd]
  exact ⟨fun g => g.elim (fun h => h) (fun e => by rw [e]; exact h), Or.inl⟩
theorem mg_s_lt {f : Nat → Int32} {k N : Nat} (hk : k < N) (h : ¬ mg_s f k) : mg_cn (mg_s f) N < mg_cn (mg_s (upd f k 1)) N :=
  mg_cn_lt h (mg_s_upd.mpr (Or.inr rfl)) (fun j _ hj => mg_s_upd.mpr (Or.inl hj)) hk
theorem mg_s_le {f : Nat → Int32} {k N : Nat} : mg_cn (mg_s f) N ≤ mg_cn (mg_s (upd f k 1)) N :=
  mg_cn_mono (fun j _ hj => mg_s_upd.mpr (Or.inl hj))
theorem mg_go_lt {f d : Nat} (hf : f < 100) (hd : d < 4) : mg_go f d < 400 := by
  unfold mg_go
  by_cases h1 : d % 2 = 1
  · by_cases h2 : d / 2 % 2 = 1
    · rw [if_pos h1, if_pos h2]; omega
    · rw [if_pos h1, if_neg h2]; omega
  · by_cases h2 : d / 2 % 2 = 1
    · rw [if_neg h1, if_pos h2]; omega
    · rw [if_neg h1, if_neg h2]; omega
/-- one step of a closing: I what is kept, SC what a step without news shows, cnt what news add to -/
def mg_Stp (C rc : Nat) (I : (Nat → Int32) → (Nat → Int32) → Prop) (SC : Nat → (Nat × Nat × Nat) → (Nat → Prop) → (Nat → Prop) → Prop) (cnt : (Nat → Prop) → (Nat → Prop) → Nat) (T : (Nat → Int32) → (Nat → Int32) → SY) (W : (Int32 → SY → Prop) → SY → Int32 → Int32 → Int32 → Int32 → Prop) : Prop :=
  ∀ r a b c mo go, r < rc → a < C → b < C → c < C → I mo go → ∀ post : Int32 → SY → Prop, (∀ z mo' go', I mo' go' → ((z = 0 ∧ mg_s mo' = mg_s mo ∧ mg_s go' = mg_s go ∧ SC r (a, b, c) (mg_s mo) (mg_s go)) ∨ (z = 1 ∧ cnt (mg_s mo) (mg_s go) < cnt (mg_s mo') (mg_s go'))) → post z (T mo' go')) → W post (T mo go) (nI r) (nI a) (nI b) (nI c)
def mg_G (I : (Nat → Int32) → (Nat → Int32) → Prop) (SC : Nat → (Nat × Nat × Nat) → (Nat → Prop) → (Nat → Prop) → Prop) (cnt : (Nat → Prop) → (Nat → Prop) → Nat) (A0 B0 : Nat → Prop) (Z : Nat → Nat → Nat → Nat → Prop) (x : Int32) (mo go : Nat → Int32) : Prop :=
  I mo go ∧ ((x = 0 ∧ mg_s mo = A0 ∧ mg_s go = B0 ∧ ∀ r a b c, Z r a b c → SC r (a, b, c) A0 B0) ∨ (x = 1 ∧ cnt A0 B0 < cnt (mg_s mo) (mg_s go)))
def mg_lx (C r a b c r' a' b' c' : Nat) : Prop := a' < C ∧ b' < C ∧ c' < C ∧ (r' < r ∨ (r' = r ∧ (a' < a ∨ (a' = a ∧ (b' < b ∨ (b' = b ∧ c' < c))))))
section
variable {I : (Nat → Int32) → (Nat → Int32) → Prop} {SC : Nat → (Nat × Nat × Nat) → (Nat → Prop) → (Nat → Prop) → Prop} {cnt : (Nat → Prop) → (Nat → Prop) → Nat} {A0 B0 : Nat → Prop}
theorem mg_G_w {Z Z' : Nat → Nat → Nat → Nat → Prop} {x : Int32} {mo go : Nat → Int32} (h : ∀ r a b c, Z' r a b c → Z r a b c) (g : mg_G I SC cnt A0 B0 Z x mo go) : mg_G I SC cnt A0 B0 Z' x mo go := by
  refine ⟨g.1, ?_⟩
  rcases g.2 with ⟨h1, h2, h3, h4⟩ | g2
  · exact Or.inl ⟨h1, h2, h3, fun r a b c hz => h4 r a b c (h r a b c hz)⟩
  · exact Or.inr g2
theorem mg_G_0 {Z Z' : Nat → Nat → Nat → Nat → Prop} {x z : Int32} {mo go mo' go' : Nat → Int32} {r a b c : Nat} (g : mg_G I SC cnt A0 B0 Z x mo go) (hx : x = 0) (hz : z = 0) (hI : I mo' go')
    (hh : (z = 0 ∧ mg_s mo' = mg_s mo ∧ mg_s go' = mg_s go ∧ SC r (a, b, c) (mg_s mo) (mg_s go)) ∨ (z = 1 ∧ cnt (mg_s mo) (mg_s go) < cnt (mg_s mo') (mg_s go')))
    (hZ : ∀ r' a' b' c', Z' r' a' b' c' → Z r' a' b' c' ∨ (r' = r ∧ a' = a ∧ b' = b ∧ c' = c)) : mg_G I SC cnt A0 B0 Z' 0 mo' go' := by
  refine ⟨hI, Or.inl ⟨rfl, ?_⟩⟩
  rcases hh with ⟨_, e1, e2, sc⟩ | ⟨e, _⟩
  · rcases g.2 with ⟨_, f1, f2, f3⟩ | ⟨e, _⟩
    · refine ⟨e1.trans f1, e2.trans f2, fun r' a' b' c' hz => ?_⟩
      rcases hZ r' a' b' c' hz with y | ⟨rfl, rfl, rfl, rfl⟩
      · exact f3 _ _ _ _ y
      · rw [f1, f2] at sc; exact sc
    · rw [hx] at e; exact absurd e (by decide)
  · rw [hz] at e; exact absurd e (by decide)
theorem mg_G_1 {Z Z' : Nat → Nat → Nat → Nat → Prop} {x z : Int32} {mo go mo' go' : Nat → Int32} {r a b c : Nat} (g : mg_G I SC cnt A0 B0 Z x mo go) (hx : ¬ x = 0 ∨ ¬ z = 0) (hI : I mo' go')
    (hh : (z = 0 ∧ mg_s mo' = mg_s mo ∧ mg_s go' = mg_s go ∧ SC r (a, b, c) (mg_s mo) (mg_s go)) ∨ (z = 1 ∧ cnt (mg_s mo) (mg_s go) < cnt (mg_s mo') (mg_s go'))) : mg_G I SC cnt A0 B0 Z' 1 mo' go' := by
  refine ⟨hI, Or.inr ⟨rfl, ?_⟩⟩
  rcases g.2 with ⟨e, f1, f2, _⟩ | ⟨e, f⟩
  · rcases hh with ⟨e', _⟩ | ⟨_, h⟩
    · exact absurd hx (fun h => h.elim (fun h => h e) (fun h => h e'))
    · rw [f1, f2] at h; exact h
  · rcases hh with ⟨_, e1, e2, _⟩ | ⟨_, h⟩
    · rw [e1, e2]; exact f
    · omega
variable {cC pC rL rC qp qs qt dO zP zQ : Int32} {ce bl fa mo pa go : Nat → Int32}
theorem yy_close_96 {post : SY → Prop} {J4 J20 J32 J44 J56 : _} {x1 x2 x3 x4 x5 x6 z : Int32} {c : Nat} (h0 : x2 = 0 → z = 0 → J56 0 (nI (c + 1)) cC pC rL rC qp qs qt dO zP zQ ce bl fa mo pa go) (h1 : (¬ x2 = 0 ∨ ¬ z = 0) → J56 1 (nI (c + 1)) cC pC rL rC qp qs qt dO zP zQ ce bl fa mo pa go) : wY_close_96 post J4 J20 J32 J44 J56 x1 x2 x3 x4 x5 x6 (nI c) z cC pC rL rC qp qs qt dO zP zQ ce bl fa mo pa go := by
  unfold wY_close_96
  exact br_c (fun e => br_c (fun e' => nm_r (nI_1 c) (h0 e e')) (fun e' => nm_r (nI_1 c) (h1 (Or.inr e')))) (fun e => nm_r (nI_1 c) (h1 (Or.inl e)))
theorem yy_close_56 {post : SY → Prop} {J4 J20 J32 J44 : _} {C rc r a b : Nat} {md x3 : Int32} (hC : C ≤ 5) (hr : r < rc) (ha : a < C) (hb : b < C)
    (hD : md = 0 → mg_Stp C rc I SC cnt (fun mo go => (nI C, pC, rL, nI rc, qp, qs, qt, dO, zP, zQ, ce, bl, fa, mo, pa, go)) wpY_derive) (hR : ¬ md = 0 → mg_Stp C rc I SC cnt (fun mo go => (nI C, pC, rL, nI rc, qp, qs, qt, dO, zP, zQ, ce, bl, fa, mo, pa, go)) wpY_raise)
    (K : ∀ x mo go, mg_G I SC cnt A0 B0 (mg_lx C r a (b + 1) 0) x mo go → J44 x (nI (b + 1)) (nI C) pC rL (nI rc) qp qs qt dO zP zQ ce bl fa mo pa go) :
    ∀ n c x mo go, C < n + c → c ≤ C → mg_G I SC cnt A0 B0 (mg_lx C r a b c) x mo go → wY_close_56 post J4 J20 J32 J44 md x3 (nI r) (nI a) (nI b) n x (nI c) (nI C) pC rL (nI rc) qp qs qt dO zP zQ ce bl fa mo pa go := by
  intro n
  induction n with
  | zero => intro c x mo go h1 h2; omega
  | succ n ih =>
    intro c x mo go hn hc hG
    have hZ : ∀ r' a' b' c', mg_lx C r a b (c + 1) r' a' b' c' → mg_lx C r a b c r' a' b' c' ∨ (r' = r ∧ a' = a ∧ b' = b ∧ c' = c) := by
      intro r' a' b' c' h
      unfold mg_lx at h ⊢
      omega
    unfold wY_close_56
    refine pk_le C c (fun e => nm_r (nI_1 b) (K x mo go (mg_G_w ?_ hG))) (fun e => br_c (fun z => ?_) (fun z => ?_))
    · intro r' a' b' c' h
      unfold mg_lx at h ⊢
      omega
    · refine hD z r a b c mo go hr ha hb e hG.1 _ (fun v mo' go' hI' hh => ?_)
      exact yy_close_96 (fun e1 e2 => ih (c + 1) 0 mo' go' (by omega) (by omega) (mg_G_0 hG e1 e2 hI' hh hZ)) (fun e1 => ih (c + 1) 1 mo' go' (by omega) (by omega) (mg_G_1 hG e1 hI' hh))
    · refine hR z r a b c mo go hr ha hb e hG.1 _ (fun v mo' go' hI' hh => ?_)
      exact yy_close_96 (fun e1 e2 => ih (c + 1) 0 mo' go' (by omega) (by omega) (mg_G_0 hG e1 e2 hI' hh hZ)) (fun e1 => ih (c + 1) 1 mo' go' (by omega) (by omega) (mg_G_1 hG e1 hI' hh))
theorem yy_close_44 {post : SY → Prop} {J4 J20 J32 : _} {C rc r a : Nat} {md x3 : Int32} (hC : C ≤ 5) (hr : r < rc) (ha : a < C)
    (hD : md = 0 → mg_Stp C rc I SC cnt (fun mo go => (nI C, pC, rL, nI rc, qp, qs, qt, dO, zP, zQ, ce, bl, fa, mo, pa, go)) wpY_derive) (hR : ¬ md = 0 → mg_Stp C rc I SC cnt (fun mo go => (nI C, pC, rL, nI rc, qp, qs, qt, dO, zP, zQ, ce, bl, fa, mo, pa, go)) wpY_raise)
    (K : ∀ x mo go, mg_G I SC cnt A0 B0 (mg_lx C r (a + 1) 0 0) x mo go → J32 x (nI (a + 1)) (nI C) pC rL (nI rc) qp qs qt dO zP zQ ce bl fa mo pa go) :
    ∀ n b x mo go, C < n + b → b ≤ C → mg_G I SC cnt A0 B0 (mg_lx C r a b 0) x mo go → wY_close_44 post J4 J20 J32 md x3 (nI r) (nI a) n x (nI b) (nI C) pC rL (nI rc) qp qs qt dO zP zQ ce bl fa mo pa go := by
  intro n
  induction n with
  | zero => intro c x mo go h1 h2; omega
  | succ n ih =>
    intro b x mo go hn hc hG
    unfold wY_close_44
    refine pk_le C b (fun e => nm_r (nI_1 a) (K x mo go (mg_G_w ?_ hG))) (fun e => ?_)
    · intro r' a' b' c' h
      unfold mg_lx at h ⊢
      omega
    · exact ⟨C + 1, yy_close_56 hC hr ha e hD hR (fun x mo go h => ih (b + 1) x mo go (by omega) (by omega) h) (C + 1) 0 x mo go (by omega) (by omega) hG⟩
theorem yy_close_32 {post : SY → Prop} {J4 J20 : _} {C rc r : Nat} {md x3 : Int32} (hC : C ≤ 5) (hr : r < rc)
    (hD : md = 0 → mg_Stp C rc I SC cnt (fun mo go => (nI C, pC, rL, nI rc, qp, qs, qt, dO, zP, zQ, ce, bl, fa, mo, pa, go)) wpY_derive) (hR : ¬ md = 0 → mg_Stp C rc I SC cnt (fun mo go => (nI C, pC, rL, nI rc, qp, qs, qt, dO, zP, zQ, ce, bl, fa, mo, pa, go)) wpY_raise)
    (K : ∀ x mo go, mg_G I SC cnt A0 B0 (mg_lx C (r + 1) 0 0 0) x mo go → J20 x (nI (r + 1)) (nI C) pC rL (nI rc) qp qs qt dO zP zQ ce bl fa mo pa go) :
    ∀ n a x mo go, C < n + a → a ≤ C → mg_G I SC cnt A0 B0 (mg_lx C r a 0 0) x mo go → wY_close_32 post J4 J20 md x3 (nI r) n x (nI a) (nI C) pC rL (nI rc) qp qs qt dO zP zQ ce bl fa mo pa go := by
  intro n
  induction n with
  | zero => intro c x mo go h1 h2; omega
  | succ n ih =>
    intro a x mo go hn hc hG
    unfold wY_close_32
    refine pk_le C a (fun e => nm_r (nI_1 r) (K x mo go (mg_G_w ?_ hG))) (fun e => ?_)
    · intro r' a' b' c' h
      unfold mg_lx at h ⊢
      omega
    · exact ⟨C + 1, yy_close_44 hC hr e hD hR (fun x mo go h => ih (a + 1) x mo go (by omega) (by omega) h) (C + 1) 0 x mo go (by omega) (by omega) hG⟩
theorem yy_close_20 {post : SY → Prop} {J4 : _} {C rc k : Nat} {md : Int32} (hC : C ≤ 5) (hrc : rc ≤ 8)
    (hD : md = 0 → mg_Stp C rc I SC cnt (fun mo go => (nI C, pC, rL, nI rc, qp, qs, qt, dO, zP, zQ, ce, bl, fa, mo, pa, go)) wpY_derive) (hR : ¬ md = 0 → mg_Stp C rc I SC cnt (fun mo go => (nI C, pC, rL, nI rc, qp, qs, qt, dO, zP, zQ, ce, bl, fa, mo, pa, go)) wpY_raise)
    (K : ∀ x mo go, mg_G I SC cnt A0 B0 (mg_lx C rc 0 0 0) x mo go → J4 x (nI (k + 1)) (nI C) pC rL (nI rc) qp qs qt dO zP zQ ce bl fa mo pa go) :
    ∀ n r x mo go, rc < n + r → r ≤ rc → mg_G I SC cnt A0 B0 (mg_lx C r 0 0 0) x mo go → wY_close_20 post J4 md (nI k) n x (nI r) (nI C) pC rL (nI rc) qp qs qt dO zP zQ ce bl fa mo pa go := by
  intro n
  induction n with
  | zero => intro c x mo go h1 h2; omega
  | succ n ih =>
    intro r x mo go hn hc hG
    unfold wY_close_20
    refine pk_le rc r (fun e => nm_r (nI_1 k) (K x mo go (mg_G_w ?_ hG))) (fun e => ?_)
    · intro r' a' b' c' h
      unfold mg_lx at h ⊢
      omega
    · exact ⟨C + 1, yy_close_32 hC e hD hR (fun x mo go h => ih (r + 1) x mo go (by omega) (by omega) h) (C + 1) 0 x mo go (by omega) (by omega) hG⟩
theorem yy_close_4 {post : SY → Prop} {C rc : Nat} {md : Int32} (hC : C ≤ 5) (hrc : rc ≤ 8) (hcnt : ∀ A B, cnt A B ≤ 400)
    (hD : md = 0 → mg_Stp C rc I SC cnt (fun mo go => (nI C, pC, rL, nI rc, qp, qs, qt, dO, zP, zQ, ce, bl, fa, mo, pa, go)) wpY_derive) (hR : ¬ md = 0 → mg_Stp C rc I SC cnt (fun mo go => (nI C, pC, rL, nI rc, qp, qs, qt, dO, zP, zQ, ce, bl, fa, mo, pa, go)) wpY_raise)
    (K : ∀ mo go, I mo go → (∀ r a b c, r < rc → a < C → b < C → c < C → SC r (a, b, c) (mg_s mo) (mg_s go)) → post (nI C, pC, rL, nI rc, qp, qs, qt, dO, zP, zQ, ce, bl, fa, mo, pa, go)) :
    ∀ n k x mo go, 401 < n + k → k ≤ 401 → I mo go → ((x = 0 ∧ ∀ r a b c, r < rc → a < C → b < C → c < C → SC r (a, b, c) (mg_s mo) (mg_s go)) ∨ (x = 1 ∧ k ≤ cnt (mg_s mo) (mg_s go))) → wY_close_4 post md n x (nI k) (nI C) pC rL (nI rc) qp qs qt dO zP zQ ce bl fa mo pa go := by
  intro n
  induction n with
  | zero => intro k x mo go h1 h2; omega
  | succ n ih =>
    intro k x mo go hn hk hI hG
    unfold wY_close_4
    refine pk_lt 400 k (fun e => ?_) (fun e => ?_)
    · rcases hG with ⟨_, h⟩ | ⟨_, h⟩
      · exact K mo go hI h
      · have := hcnt (mg_s mo) (mg_s go); omega
    · rcases hG with ⟨rfl, h⟩ | ⟨rfl, h⟩
      · exact br_t rfl (K mo go hI h)
      · refine br_f mg_10 ⟨rc + 1, yy_close_20 (A0 := mg_s mo) (B0 := mg_s go) hC hrc hD hR (fun x mo' go' hg => ih (k + 1) x mo' go' (by omega) (by omega) hg.1 ?_) (rc + 1) 0 0 mo go (by omega) (by omega) ⟨hI, Or.inl ⟨rfl, rfl, rfl, fun r a b c hz => ?_⟩⟩⟩
        · rcases hg.2 with ⟨e1, e2, e3, e4⟩ | ⟨e1, e2⟩
          · refine Or.inl ⟨e1, fun r a b c h1 h2 h3 h4 => ?_⟩
            rw [e2, e3]
            exact e4 r a b c ⟨h2, h3, h4, Or.inl h1⟩
          · exact Or.inr ⟨e1, by omega⟩
        · unfold mg_lx at hz; omega
theorem yy_close {post : SY → Prop} {C rc : Nat} {md : Int32} (hC : C ≤ 5) (hrc : rc ≤ 8) (hcnt : ∀ A B, cnt A B ≤ 400)
    (hD : md = 0 → mg_Stp C rc I SC cnt (fun mo go => (nI C, pC, rL, nI rc, qp, qs, qt, dO, zP, zQ, ce, bl, fa, mo, pa, go)) wpY_derive) (hR : ¬ md = 0 → mg_Stp C rc I SC cnt (fun mo go => (nI C, pC, rL, nI rc, qp, qs, qt, dO, zP, zQ, ce, bl, fa, mo, pa, go)) wpY_raise) (hI : I mo go)
    (K : ∀ mo go, I mo go → (∀ r a b c, r < rc → a < C → b < C → c < C → SC r (a, b, c) (mg_s mo) (mg_s go)) → post (nI C, pC, rL, nI rc, qp, qs, qt, dO, zP, zQ, ce, bl, fa, mo, pa, go)) :
    wpY_close post (nI C, pC, rL, nI rc, qp, qs, qt, dO, zP, zQ, ce, bl, fa, mo, pa, go) md := by
  unfold wpY_close
  exact ⟨402, yy_close_4 hC hrc hcnt hD hR K 402 0 1 mo go (by omega) (by omega) hI (Or.inr ⟨rfl, by omega⟩)⟩
end
section
variable {cC pC rL rC qp qs qt dO zP zQ : Int32} {ce bl fa mo pa go : Nat → Int32}
/-- the model -/
theorem yy_model {post : SY → Prop} {C Pn rc : Nat} (hC : C ≤ 5) (hP : Pn ≤ 4) (hrc : rc ≤ 8) (hok : mg_ok C Pn ce bl rc) (hmo : ∀ k, k < 100 → mo k = fa k)
    (K : ∀ mo', (∀ k, k < 100 → (mo' k ≠ 0 ↔ mg_lm C (mg_pp ce bl rc) (fun f => f < 100 ∧ fa f ≠ 0) k)) → post (nI C, pC, rL, nI rc, qp, qs, qt, dO, zP, zQ, ce, bl, fa, mo', pa, go)) :
    wpY_close post (nI C, pC, rL, nI rc, qp, qs, qt, dO, zP, zQ, ce, bl, fa, mo, pa, go) 0 := by
  refine yy_close (I := fun mo' go' => go' = go ∧ (∀ k, k < 100 → mo' k ≠ 0 → mg_lm C (mg_pp ce bl rc) (fun f => f < 100 ∧ fa f ≠ 0) k) ∧ ∀ k, k < 100 → fa k ≠ 0 → mo' k ≠ 0)
    (SC := fun r s A _ => (∀ j, 1 ≤ j → j ≤ mg_n bl r → A (mg_f (mg_ca ce (12 * r + 3 * j)) s)) → A (mg_f (mg_ca ce (12 * r)) s))
    (cnt := fun A _ => mg_cn A 100) hC hrc (fun A _ => by have := mg_cn_le A 100; omega) (fun _ => ?_) (fun h => absurd rfl h) ⟨rfl, fun k hk h => mg_lm_in ⟨hk, by rw [← hmo k hk]; exact h⟩, fun k hk h => by rw [hmo k hk]; exact h⟩ (fun mo' go' hI hcl => ?_)
  · intro r a b c mo' go' hr ha hb hc hI post' hp
    obtain ⟨rfl, h1, h2⟩ := hI
    obtain ⟨hro, hsf⟩ := hok r hr
    have hs : mg_D C (a, b, c) := ⟨ha, hb, hc⟩
    have hao := hro.2 0 (by omega)
    rw [show 12 * r + 3 * 0 = 12 * r by omega] at hao
    have hf := mg_ca_f hC hP hao hs
    refine yy_derive hC hP (by omega) hs hro (fun h => hp 0 mo' go' ⟨rfl, h1, h2⟩ (Or.inl ⟨rfl, rfl, rfl, fun hh => ?_⟩)) (fun z hh => hp 1 _ go' ⟨rfl, fun k hk hk' => ?_, fun k hk hk' => ?_⟩ (Or.inr ⟨rfl, mg_s_lt (f := mo') hf.2.2.2.2 (fun h => h z)⟩))
    · rcases h with h | h
      · exact h
      · exact absurd hh h
    · rcases mg_s_upd.mp hk' with g | g
      · exact h1 k hk g
      · rw [g]
        refine mg_lm_cl (mg_pr ce bl r) (List.mem_map.mpr ⟨r, List.mem_range.mpr hr, rfl⟩) _ hs (fun x hx => ?_)
        obtain ⟨j, hj, rfl⟩ := List.mem_map.mp hx
        rw [List.mem_range] at hj
        have hf' := mg_ca_f hC hP (hro.2 (j + 1) (by omega)) hs
        exact h1 _ hf'.2.2.2.2 (hh (j + 1) (by omega) (by omega))
    · exact mg_s_upd.mpr (Or.inl (h2 k hk hk'))
  · obtain ⟨rfl, h1, h2⟩ := hI
    refine K mo' (fun k hk => ⟨h1 k hk, fun hm => ?_⟩)
    refine hm (fun k => mo' k ≠ 0) (fun f hf => h2 f hf.1 hf.2) (fun R hR s hs hb => ?_)
    obtain ⟨r, hr, rfl⟩ := List.mem_map.mp hR
    rw [List.mem_range] at hr
    obtain ⟨a, b, c⟩ := s
    refine hcl r a b c hr hs.1 hs.2.1 hs.2.2 (fun j j1 j2 => ?_)
    exact hb _ (List.mem_map.mpr ⟨j - 1, List.mem_range.mpr (by omega), by rw [show j - 1 + 1 = j by omega]⟩)
theorem yy_makeModel_2 {post : SY → Prop} {C Pn rc : Nat} (hC : C ≤ 5) (hP : Pn ≤ 4) (hrc : rc ≤ 8) (hok : mg_ok C Pn ce bl rc) (hfa : ∀ k, k < 100 → fa k = 0 ∨ fa k = 1)
    (K : ∀ mo', (∀ k, k < 100 → (mo' k ≠ 0 ↔ mg_lm C (mg_pp ce bl rc) (fun f => f < 100 ∧ fa f ≠ 0) k)) → post (nI C, pC, rL, nI rc, qp, qs, qt, dO, zP, zQ, ce, bl, fa, mo', pa, go)) :
    ∀ n i mo, 100 < n + i → i ≤ 100 → (∀ k, k < i → mo k = fa k) → wY_makeModel_2 post (nI C) pC rL (nI rc) qp qs qt dO zP zQ n (nI i) ce bl fa mo pa go := by
  intro n
  induction n with
  | zero => intro i mo h1 h2; omega
  | succ n ih =>
    intro i mo hn hi hm
    unfold wY_makeModel_2
    refine pk_le 100 i (fun e => ?_) (fun e => ?_)
    · exact yy_model hC hP hrc hok (fun k hk => hm k (by omega)) K
    · refine ⟨vp_in_nI (by omega) (by omega), vp_in_nI (by omega) (by omega), ?_⟩
      rw [nI_clamp (show i < 2 ^ 31 by omega)]
      have ef : vp_nar .boolean (fa i) = fa i := by
        rcases hfa i e with h | h
        · rw [h]; exact mg_nar0
        · rw [h]; exact mg_nar1
      rw [ef]
      refine nm_e (nm_r (nI_1 i) (ih (i + 1) (upd mo i (fa i)) (by omega) (by omega) (fun k hk => ?_)))
      by_cases z : k = i
      · subst z; exact pk_us
      · rw [pk_un z]; exact hm k (by omega)
theorem yy_makeModel {post : SY → Prop} {C Pn rc : Nat} (hC : C ≤ 5) (hP : Pn ≤ 4) (hrc : rc ≤ 8) (hok : mg_ok C Pn ce bl rc) (hfa : ∀ k, k < 100 → fa k = 0 ∨ fa k = 1)
    (K : ∀ mo', (∀ k, k < 100 → (mo' k ≠ 0 ↔ mg_lm C (mg_pp ce bl rc) (fun f => f < 100 ∧ fa f ≠ 0) k)) → post (nI C, pC, rL, nI rc, qp, qs, qt, dO, zP, zQ, ce, bl, fa, mo', pa, go)) :
    wpY_makeModel post (nI C, pC, rL, nI rc, qp, qs, qt, dO, zP, zQ, ce, bl, fa, mo, pa, go) := by
  unfold wpY_makeModel
  exact ⟨101, yy_makeModel_2 hC hP hrc hok hfa K 101 0 mo (by omega) (by omega) (fun k hk => by omega)⟩
end
end
section
/-! Y: raise, the goals, the pairs -/
def mg_rs (ce : Nat → Int32) (r : Nat) (s : Nat × Nat × Nat) (A B : Nat → Prop) (d i : Nat) : Prop :=
  B (mg_go (mg_f (mg_ca ce (12 * r)) s) d) → (∀ j, 1 ≤ j → j < i → A (mg_f (mg_ca ce (12 * r + 3 * j)) s)) → B (mg_go (mg_f (mg_ca ce (12 * r + 3 * i)) s) (mg_ad ce r i d))
def mg_RG (ce : Nat → Int32) (r : Nat) (s : Nat × Nat × Nat) (n : Nat) (A B0 : Nat → Prop) (I : (Nat → Int32) → Prop) (d i : Nat) (x : Int32) (go : Nat → Int32) : Prop :=
  I go ∧ ((x = 0 ∧ mg_s go = B0 ∧ ∀ d' i', d' < 4 → 1 ≤ i' → i' ≤ n → (d' < d ∨ (d' = d ∧ i' < i)) → mg_rs ce r s A B0 d' i') ∨ (x = 1 ∧ mg_cn B0 400 < mg_cn (mg_s go) 400))
theorem mg_RG_skip {ce : Nat → Int32} {r : Nat} {s : Nat × Nat × Nat} {n : Nat} {A B0 : Nat → Prop} {I : (Nat → Int32) → Prop} {d i : Nat} {x : Int32} {go : Nat → Int32} (h : mg_RG ce r s n A B0 I d i x go) (hs : mg_rs ce r s A (mg_s go) d i) : mg_RG ce r s n A B0 I d (i + 1) x go := by
  refine ⟨h.1, ?_⟩
  rcases h.2 with ⟨e1, e2, e3⟩ | g
  · refine Or.inl ⟨e1, e2, fun d' i' h1 h2 h3 h4 => ?_⟩
    by_cases z : d' = d ∧ i' = i
    · rw [z.1, z.2, ← e2]; exact hs
    · exact e3 d' i' h1 h2 h3 (by omega)
  · exact Or.inr g
theorem mg_RG_set {ce : Nat → Int32} {r : Nat} {s : Nat × Nat × Nat} {n : Nat} {A B0 : Nat → Prop} {I : (Nat → Int32) → Prop} {d i g : Nat} {x : Int32} {go : Nat → Int32} (h : mg_RG ce r s n A B0 I d i x go) (hI : I (upd go g 1)) (hg : go g ≠ 0) (hs : mg_rs ce r s A (mg_s go) d i) : mg_RG ce r s n A B0 I d (i + 1) x (upd go g 1) := by
  have k := mg_RG_skip h hs
  refine ⟨hI, ?_⟩
  rw [mg_s_same (f := go) hg]
  exact k.2
theorem mg_RG_new {ce : Nat → Int32} {r : Nat} {s : Nat × Nat × Nat} {n : Nat} {A B0 : Nat → Prop} {I : (Nat → Int32) → Prop} {d i g : Nat} {x : Int32} {go : Nat → Int32} (h : mg_RG ce r s n A B0 I d i x go) (hI : I (upd go g 1)) (hg : g < 400) (hx : x = 1 ∨ go g = 0) : mg_RG ce r s n A B0 I d (i + 1) 1 (upd go g 1) := by
  refine ⟨hI, Or.inr ⟨rfl, ?_⟩⟩
  have le := mg_s_le (f := go) (k := g) (N := 400)
  rcases h.2 with ⟨e1, e2, _⟩ | ⟨_, e⟩
  · rcases hx with z | z
    · rw [e1] at z; exact absurd z (by decide)
    · rw [← e2]; exact mg_s_lt (f := go) hg (fun h => h z)
  · omega
section
variable {cC pC rL rC qp qs qt dO zP zQ : Int32} {ce bl fa mo pa go : Nat → Int32}
theorem yy_raise_138 {post : Int32 → SY → Prop} {J20 J29 : _} {x1 x2 x3 x4 x6 x7 z : Int32} {i g : Nat} (hg : g < 400) (h : J29 z (nI (i + 1)) ce bl fa mo pa (upd go g 1)) : wY_raise_138 post J20 J29 x1 x2 x3 x4 x6 x7 (nI i) (nI g) z cC pC rL rC qp qs qt dO zP zQ ce bl fa mo pa go := by
  unfold wY_raise_138
  refine ⟨vp_in_nI hg (by omega), ?_⟩
  rw [nI_clamp (show g < 2 ^ 31 by omega)]
  exact nm_e (nm_r (nI_1 i) h)
theorem yy_raise_29 {post : Int32 → SY → Prop} {J20 : _} {C Pn r a b c d : Nat} {I : (Nat → Int32) → Prop} {B0 : Nat → Prop} (hC : C ≤ 5) (hP : Pn ≤ 4) (hr : r ≤ 8) (hs : mg_D C (a, b, c)) (ho : mg_ro C Pn ce bl r) (hd : d < 4)
    (hI : ∀ go i, I go → 1 ≤ i → i ≤ mg_n bl r → go (mg_go (mg_f (mg_ca ce (12 * r)) (a, b, c)) d) ≠ 0 → (∀ j, 1 ≤ j → j < i → mo (mg_f (mg_ca ce (12 * r + 3 * j)) (a, b, c)) ≠ 0) → I (upd go (mg_go (mg_f (mg_ca ce (12 * r + 3 * i)) (a, b, c)) (mg_ad ce r i d)) 1))
    (K : ∀ x go, mg_RG ce r (a, b, c) (mg_n bl r) (mg_s mo) B0 I (d + 1) 1 x go → J20 x (nI (d + 1)) ce bl fa mo pa go) :
    ∀ m i x go, mg_n bl r + 1 < m + i → 1 ≤ i → i ≤ mg_n bl r + 1 → mg_RG ce r (a, b, c) (mg_n bl r) (mg_s mo) B0 I d i x go →
    wY_raise_29 post J20 (nI r) (nI a) (nI b) (nI c) (nI (mg_f (mg_ca ce (12 * r)) (a, b, c))) (nI d) cC pC rL rC qp qs qt dO zP zQ m x (nI i) ce bl fa mo pa go := by
  have hn := mg_ro_n ho
  have hao := ho.2 0 (by omega)
  rw [show 12 * r + 3 * 0 = 12 * r by omega] at hao
  have hf := mg_ca_f hC hP hao hs
  have hgo := mg_go_lt hf.2.2.2.2 hd
  intro m
  induction m with
  | zero => intro i x go h1 h2; omega
  | succ m ih =>
    intro i x go hm hi1 hi hG
    have fin : mg_n bl r < i → mg_RG ce r (a, b, c) (mg_n bl r) (mg_s mo) B0 I (d + 1) 1 x go := fun e => by
      refine ⟨hG.1, ?_⟩
      rcases hG.2 with ⟨e1, e2, e3⟩ | g
      · exact Or.inl ⟨e1, e2, fun d' i' h1 h2 h3 h4 => e3 d' i' h1 h2 h3 (by omega)⟩
      · exact Or.inr g
    unfold wY_raise_29
    refine ⟨vp_in_nI (by omega) (by omega), ?_⟩
    rw [nI_clamp (show r < 2 ^ 31 by omega), hn.1]
    refine pk_lt (mg_n bl r) i (fun e => nm_r (nI_1 d) (K x go (fin e))) (fun e => ?_)
    refine pk_lt 3 i (fun e => absurd e (by omega)) (fun e2 => ?_)
    refine yy_goalOf hf.2.2.2.2 hd (And.intro (vp_in_nI hgo (by omega)) ?_)
    rw [nI_clamp (show mg_go (mg_f (mg_ca ce (12 * r)) (a, b, c)) d < 2 ^ 31 by omega)]
    refine br_c (fun z => nm_r (nI_1 i) (ih (i + 1) x go (by omega) (by omega) (by omega) (mg_RG_skip hG (fun h => absurd z h)))) (fun z => ?_)
    refine ek_v (P := fun w => wpY_bodyHolds _ _ _ w _ _ _) (show nI i - 1 = nI (i - 1) from pk_sub (b := 1) hi1) ?_
    refine yy_bodyHolds hC hP hr (by omega) hs (fun j _ h => ho.2 j (by omega)) (fun hb => br_f mg_10 ?_) (fun hb => br_t rfl (nm_r (nI_1 i) (ih (i + 1) x go (by omega) (by omega) (by omega) (mg_RG_skip hG (fun _ h => absurd (fun j j1 j2 => h j j1 (by omega)) hb)))))
    have haoi := ho.2 i (by omega)
    have hfi := mg_ca_f hC hP haoi hs
    rw [mg_ix0]
    refine yy_factOf hC hP (by omega) haoi (yy_adornment hr hi1 (by omega) hd (yy_goalOf hfi.2.2.2.2 (mg_ad_lt ..) ?_))
    have hg := mg_go_lt hfi.2.2.2.2 (mg_ad_lt ce r i d)
    have hI' := hI go i hG.1 hi1 (by omega) z (fun j j1 j2 => hb j j1 (by omega))
    refine br_c (fun ex => And.intro (vp_in_nI hg (by omega)) ?_) (fun ex => ?_)
    · rw [nI_clamp (show mg_go (mg_f (mg_ca ce (12 * r + 3 * i)) (a, b, c)) (mg_ad ce r i d) < 2 ^ 31 by omega)]
      subst ex
      refine br_c (fun y => ?_) (fun y => ?_)
      · unfold wY_raise_133
        exact yy_raise_138 hg (ih (i + 1) 1 _ (by omega) (by omega) (by omega) (mg_RG_new hG hI' hg (Or.inr y)))
      · exact yy_raise_138 hg (ih (i + 1) 0 _ (by omega) (by omega) (by omega) (mg_RG_set hG hI' y (fun _ _ => y)))
    · have x1 : x = 1 := by
        rcases hG.2 with ⟨e, _⟩ | ⟨e, _⟩
        · exact absurd e ex
        · exact e
      unfold wY_raise_133
      exact yy_raise_138 hg (ih (i + 1) 1 _ (by omega) (by omega) (by omega) (mg_RG_new hG hI' hg (Or.inl x1)))
theorem yy_raise_20 {post : Int32 → SY → Prop} {C Pn r a b c : Nat} {I : (Nat → Int32) → Prop} {B0 : Nat → Prop} (hC : C ≤ 5) (hP : Pn ≤ 4) (hr : r ≤ 8) (hs : mg_D C (a, b, c)) (ho : mg_ro C Pn ce bl r)
    (hI : ∀ d go i, d < 4 → I go → 1 ≤ i → i ≤ mg_n bl r → go (mg_go (mg_f (mg_ca ce (12 * r)) (a, b, c)) d) ≠ 0 → (∀ j, 1 ≤ j → j < i → mo (mg_f (mg_ca ce (12 * r + 3 * j)) (a, b, c)) ≠ 0) → I (upd go (mg_go (mg_f (mg_ca ce (12 * r + 3 * i)) (a, b, c)) (mg_ad ce r i d)) 1))
    (K : ∀ x go, mg_RG ce r (a, b, c) (mg_n bl r) (mg_s mo) B0 I 4 1 x go → post x (cC, pC, rL, rC, qp, qs, qt, dO, zP, zQ, ce, bl, fa, mo, pa, go)) :
    ∀ m d x go, 4 < m + d → d ≤ 4 → mg_RG ce r (a, b, c) (mg_n bl r) (mg_s mo) B0 I d 1 x go →
    wY_raise_20 post (nI r) (nI a) (nI b) (nI c) (nI (mg_f (mg_ca ce (12 * r)) (a, b, c))) cC pC rL rC qp qs qt dO zP zQ m x (nI d) ce bl fa mo pa go := by
  intro m
  induction m with
  | zero => intro d x go h1 h2; omega
  | succ m ih =>
    intro d x go hm hd hG
    unfold wY_raise_20
    refine pk_le 4 d (fun e => ?_) (fun e => ?_)
    · have ed : d = 4 := by omega
      subst ed
      refine ⟨?_, K x go hG⟩
      rcases hG.2 with ⟨e, _⟩ | ⟨e, _⟩
      · rw [e]; exact narrow_b0
      · rw [e]; exact narrow_b1
    · exact ⟨mg_n bl r + 2, yy_raise_29 hC hP hr hs ho e (fun go i => hI d go i e) (fun x go h => ih (d + 1) x go (by omega) (by omega) h) (mg_n bl r + 2) 1 x go (by omega) (by omega) (by omega) hG⟩
theorem yy_raise {post : Int32 → SY → Prop} {C Pn r a b c : Nat} {I : (Nat → Int32) → Prop} (hC : C ≤ 5) (hP : Pn ≤ 4) (hr : r ≤ 8) (hs : mg_D C (a, b, c)) (ho : mg_ro C Pn ce bl r)
    (hI : ∀ d go i, d < 4 → I go → 1 ≤ i → i ≤ mg_n bl r → go (mg_go (mg_f (mg_ca ce (12 * r)) (a, b, c)) d) ≠ 0 → (∀ j, 1 ≤ j → j < i → mo (mg_f (mg_ca ce (12 * r + 3 * j)) (a, b, c)) ≠ 0) → I (upd go (mg_go (mg_f (mg_ca ce (12 * r + 3 * i)) (a, b, c)) (mg_ad ce r i d)) 1)) (h : I go)
    (K : ∀ x go', mg_RG ce r (a, b, c) (mg_n bl r) (mg_s mo) (mg_s go) I 4 1 x go' → post x (cC, pC, rL, rC, qp, qs, qt, dO, zP, zQ, ce, bl, fa, mo, pa, go')) :
    wpY_raise post (cC, pC, rL, rC, qp, qs, qt, dO, zP, zQ, ce, bl, fa, mo, pa, go) (nI r) (nI a) (nI b) (nI c) := by
  have hao := ho.2 0 (by omega)
  rw [show 12 * r + 3 * 0 = 12 * r by omega] at hao
  unfold wpY_raise
  rw [mg_ih0]
  refine yy_factOf hC hP (by omega) hao ?_
  exact ⟨5, yy_raise_20 hC hP hr hs ho hI K 5 0 0 go (by omega) (by omega) ⟨h, Or.inl ⟨rfl, rfl, fun d i h1 h2 h3 h4 => by omega⟩⟩⟩
/-- the goals -/
theorem yy_goals {post : SY → Prop} {C Pn rc g0 : Nat} {M : Nat → Prop} (hC : C ≤ 5) (hP : Pn ≤ 4) (hrc : rc ≤ 8) (hok : mg_ok C Pn ce bl rc) (hM : ∀ k, k < 100 → (mo k ≠ 0 ↔ M k)) (hg0 : g0 < 400) (hgo : ∀ k, k < 400 → (go k ≠ 0 ↔ k = g0))
    (K : ∀ go', (∀ k, k < 400 → (go' k ≠ 0 ↔ mg_gs C ce bl rc M g0 k)) → post (nI C, pC, rL, nI rc, qp, qs, qt, dO, zP, zQ, ce, bl, fa, mo, pa, go')) :
    wpY_close post (nI C, pC, rL, nI rc, qp, qs, qt, dO, zP, zQ, ce, bl, fa, mo, pa, go) 1 := by
  refine yy_close (I := fun mo' go' => mo' = mo ∧ (∀ k, k < 400 → go' k ≠ 0 → mg_gs C ce bl rc M g0 k) ∧ go' g0 ≠ 0)
    (SC := fun r s A B => ∀ d i, d < 4 → 1 ≤ i → i ≤ mg_n bl r → mg_rs ce r s A B d i)
    (cnt := fun _ B => mg_cn B 400) hC hrc (fun _ B => mg_cn_le B 400) (fun h => absurd h mg_10) (fun _ => ?_) ⟨rfl, fun k hk h => by rw [(hgo k hk).mp h]; exact mg_gs_0, (hgo g0 hg0).mpr rfl⟩ (fun mo' go' hI hcl => ?_)
  · intro r a b c mo' go' hr ha hb hc hI post' hp
    obtain ⟨rfl, h1, h2⟩ := hI
    obtain ⟨hro, hsf⟩ := hok r hr
    have hs : mg_D C (a, b, c) := ⟨ha, hb, hc⟩
    have hao := hro.2 0 (by omega)
    rw [show 12 * r + 3 * 0 = 12 * r by omega] at hao
    have hf := mg_ca_f hC hP hao hs
    refine yy_raise (I := fun go' => (∀ k, k < 400 → go' k ≠ 0 → mg_gs C ce bl rc M g0 k) ∧ go' g0 ≠ 0) hC hP (by omega) hs hro (fun d go1 i hd hI hi1 hi2 hz hb' => ⟨fun k hk hk' => ?_, mg_s_upd.mpr (Or.inl hI.2)⟩) ⟨h1, h2⟩ (fun x go1 hG => ?_)
    · rcases mg_s_upd.mp hk' with g | g
      · exact hI.1 k hk g
      · rw [g]
        refine mg_gs_c r hr d hd i hi1 hi2 _ hs (hI.1 _ (mg_go_lt hf.2.2.2.2 hd) hz) (fun j j1 j2 => ?_)
        exact (hM _ (mg_ca_f hC hP (hro.2 j (by omega)) hs).2.2.2.2).mp (hb' j j1 j2)
    · refine hp x mo' go1 ⟨rfl, hG.1⟩ ?_
      rcases hG.2 with ⟨e1, e2, e3⟩ | ⟨e1, e2⟩
      · exact Or.inl ⟨e1, rfl, e2, fun d i hd hi1 hi2 => e3 d i hd hi1 hi2 (Or.inl hd)⟩
      · exact Or.inr ⟨e1, e2⟩
  · obtain ⟨rfl, h1, h2⟩ := hI
    refine K go' (fun k hk => ⟨h1 k hk, fun hm => ?_⟩)
    refine hm (fun k => go' k ≠ 0) h2 (fun r hr d hd i hi1 hi2 s hs hh hb => ?_)
    obtain ⟨a, b, c⟩ := s
    refine hcl r a b c hr hs.1 hs.2.1 hs.2.2 d i hd hi1 hi2 hh (fun j j1 j2 => ?_)
    exact (hM _ (mg_ca_f hC hP ((hok r hr).1.2 j (by omega)) hs).2.2.2.2).mpr (hb j j1 j2)
end
/-! the pairs -/
def mg_ps (ce : Nat → Int32) (r d i : Nat) (B : Nat → Prop) : Prop := B (4 * mg_p ce r + d) → B (mg_bp ce r i d)
def mg_yc (ce bl : Nat → Int32) (rc : Nat) (B : Nat → Prop) : Prop := ∀ r d i, r < rc → d < 4 → 1 ≤ i → i ≤ mg_n bl r → mg_ps ce r d i B
theorem mg_yc_ac {ce bl : Nat → Int32} {rc : Nat} {B : Nat → Prop} (h : mg_yc ce bl rc B) : mg_ac ce bl rc B := fun x hx r hr hp i h1 h2 => by
  refine h r (x % 4) i hr (by omega) h1 h2 ?_
  rw [hp, show 4 * (x / 4) + x % 4 = x by omega]
  exact hx
theorem mg_ac_yc {ce bl : Nat → Int32} {rc : Nat} {B : Nat → Prop} (h : mg_ac ce bl rc B) : mg_yc ce bl rc B := fun r d i hr hd h1 h2 hx => by
  have := h (4 * mg_p ce r + d) hx r hr (by omega) i h1 h2
  rw [show (4 * mg_p ce r + d) % 4 = d by omega] at this
  exact this
def mg_PG (ce bl : Nat → Int32) (rc : Nat) (B0 : Nat → Prop) (I : (Nat → Int32) → Prop) (r d i : Nat) (pa : Nat → Int32) : Prop :=
  I pa ∧ (mg_yc ce bl rc B0 → mg_s pa = B0) ∧ ((mg_s pa = B0 ∧ ∀ r' d' i', d' < 4 → 1 ≤ i' → i' ≤ mg_n bl r' → (r' < r ∨ (r' = r ∧ (d' < d ∨ (d' = d ∧ i' < i)))) → mg_ps ce r' d' i' B0) ∨ mg_cn B0 16 < mg_cn (mg_s pa) 16)
theorem mg_PG_w {ce bl : Nat → Int32} {rc : Nat} {B0 : Nat → Prop} {I : (Nat → Int32) → Prop} {r d i r1 d1 i1 : Nat} {pa : Nat → Int32} (hw : ∀ r' d' i', d' < 4 → 1 ≤ i' → i' ≤ mg_n bl r' → (r' < r1 ∨ (r' = r1 ∧ (d' < d1 ∨ (d' = d1 ∧ i' < i1)))) → (r' < r ∨ (r' = r ∧ (d' < d ∨ (d' = d ∧ i' < i))))) (h : mg_PG ce bl rc B0 I r d i pa) : mg_PG ce bl rc B0 I r1 d1 i1 pa := by
  refine ⟨h.1, h.2.1, ?_⟩
  rcases h.2.2 with ⟨e1, e2⟩ | g
  · exact Or.inl ⟨e1, fun r' d' i' h1 h2 h3 h4 => e2 r' d' i' h1 h2 h3 (hw r' d' i' h1 h2 h3 h4)⟩
  · exact Or.inr g
theorem mg_PG_skip {ce bl : Nat → Int32} {rc : Nat} {B0 : Nat → Prop} {I : (Nat → Int32) → Prop} {r d i : Nat} {pa : Nat → Int32} (h : mg_PG ce bl rc B0 I r d i pa) (hs : mg_ps ce r d i (mg_s pa)) : mg_PG ce bl rc B0 I r d (i + 1) pa := by
  refine ⟨h.1, h.2.1, ?_⟩
  rcases h.2.2 with ⟨e1, e2⟩ | g
  · refine Or.inl ⟨e1, fun r' d' i' h1 h2 h3 h4 => ?_⟩
    by_cases z : r' = r ∧ d' = d ∧ i' = i
    · rw [z.1, z.2.1, z.2.2, ← e1]; exact hs
    · exact e2 r' d' i' h1 h2 h3 (by omega)
  · exact Or.inr g
theorem mg_PG_set {ce bl : Nat → Int32} {rc : Nat} {B0 : Nat → Prop} {I : (Nat → Int32) → Prop} {r d i : Nat} {pa : Nat → Int32} (h : mg_PG ce bl rc B0 I r d i pa) (hr : r < rc) (hd : d < 4) (h1 : 1 ≤ i) (h2 : i ≤ mg_n bl r) (hI : I (upd pa (mg_bp ce r i d) 1)) (hg : mg_bp ce r i d < 16) (hs : mg_s pa (4 * mg_p ce r + d)) : mg_PG ce bl rc B0 I r d (i + 1) (upd pa (mg_bp ce r i d) 1) := by
  by_cases z : mg_s pa (mg_bp ce r i d)
  · have k := mg_PG_skip h (fun _ => z)
    refine ⟨hI, ?_⟩
    rw [mg_s_same z]
    exact k.2
  · refine ⟨hI, fun hc => ?_, Or.inr ?_⟩
    · have e := h.2.1 hc
      rw [e] at hs z
      exact absurd (hc r d i hr hd h1 h2 hs) z
    · have lt := mg_s_lt hg z
      rcases h.2.2 with ⟨e1, _⟩ | g
      · rw [← e1]; exact lt
      · omega
section
variable {cC pC rL rC qp qs qt dO zP zQ : Int32} {ce bl fa mo pa go : Nat → Int32}
theorem yy_closePairs_28 {post : SY → Prop} {J2 J10 J20 : _} {C Pn rc r d : Nat} {x1 : Int32} {I : (Nat → Int32) → Prop} {B0 : Nat → Prop} (hP : Pn ≤ 4) (hok : mg_ok C Pn ce bl rc) (hrc : rc ≤ 8) (hr : r < rc) (hd : d < 4)
    (hI : ∀ pa i, I pa → 1 ≤ i → i ≤ mg_n bl r → pa (4 * mg_p ce r + d) ≠ 0 → I (upd pa (mg_bp ce r i d) 1))
    (K : ∀ pa, mg_PG ce bl rc B0 I r (d + 1) 1 pa → J20 (nI (d + 1)) ce bl fa mo pa go) :
    ∀ m i pa, mg_n bl r + 1 < m + i → 1 ≤ i → i ≤ mg_n bl r + 1 → mg_PG ce bl rc B0 I r d i pa →
    wY_closePairs_28 post J2 J10 J20 x1 (nI r) (nI d) cC pC rL (nI rc) qp qs qt dO zP zQ m (nI i) ce bl fa mo pa go := by
  have hro := (hok r hr).1
  have hn := mg_ro_n hro
  have hao := hro.2 0 (by omega)
  rw [show 12 * r + 3 * 0 = 12 * r by omega] at hao
  have hp := mg_ao_p hP hao
  have ep : (ce (12 * r)).toNatClampNeg = mg_p ce r := rfl
  rw [ep] at hp
  intro m
  induction m with
  | zero => intro i pa h1 h2; omega
  | succ m ih =>
    intro i pa hm hi1 hi hG
    have fin : mg_n bl r < i → mg_PG ce bl rc B0 I r (d + 1) 1 pa := fun e => mg_PG_w (fun r' d' i' h1 h2 h3 h4 => by
      by_cases z : r' = r
      · subst z; omega
      · omega) hG
    unfold wY_closePairs_28
    refine ⟨vp_in_nI (by omega) (by omega), ?_⟩
    rw [nI_clamp (show r < 2 ^ 31 by omega), hn.1]
    refine pk_lt (mg_n bl r) i (fun e => nm_r (nI_1 d) (K pa (fin e))) (fun e => ?_)
    refine pk_lt 3 i (fun e => absurd e (by omega)) (fun e2 => ?_)
    rw [mg_ix0, mg_ih0]
    refine ⟨vp_in_nI (by omega) (by omega), ?_⟩
    rw [nI_clamp (show 12 * r < 2 ^ 31 by omega), nI_clamp (show 12 * r + 3 * i < 2 ^ 31 by omega), hp.1]
    have e4 : (4 : Int32) * nI (mg_p ce r) + nI d = nI (4 * mg_p ce r + d) := by rw [show (4 : Int32) = nI 4 from rfl, pk_mul, nI_add]
    rw [e4]
    refine ⟨vp_in_nI (by omega) (by omega), ?_⟩
    rw [nI_clamp (show 4 * mg_p ce r + d < 2 ^ 31 by omega)]
    refine br_c (fun z => nm_r (nI_1 i) (ih (i + 1) pa (by omega) (by omega) (by omega) (mg_PG_skip hG (fun h => absurd z h)))) (fun z => ⟨vp_in_nI (by omega) (by omega), ?_⟩)
    refine yy_adornment (by omega) hi1 (by omega) hd ?_
    have haoi := mg_ao_p hP (hro.2 i (by omega))
    have hb := mg_bp_lt (d := d) hP hok hr (show i ≤ mg_n bl r by omega)
    have e5 : (4 : Int32) * ce (12 * r + 3 * i) + nI (mg_ad ce r i d) = nI (mg_bp ce r i d) := by
      rw [haoi.1, show (4 : Int32) = nI 4 from rfl, pk_mul, nI_add]
      unfold mg_bp
      rw [Nat.mul_comm]
    rw [e5]
    refine And.intro (vp_in_nI hb.1 (by omega)) ?_
    rw [nI_clamp (show mg_bp ce r i d < 2 ^ 31 by omega)]
    exact nm_e (nm_r (nI_1 i) (ih (i + 1) _ (by omega) (by omega) (by omega) (mg_PG_set hG hr hd hi1 (by omega) (hI pa i hG.1 hi1 (by omega) z) hb.1 z)))
theorem yy_closePairs_20 {post : SY → Prop} {J2 J10 : _} {C Pn rc r : Nat} {x1 : Int32} {I : (Nat → Int32) → Prop} {B0 : Nat → Prop} (hP : Pn ≤ 4) (hok : mg_ok C Pn ce bl rc) (hrc : rc ≤ 8) (hr : r < rc)
    (hI : ∀ d pa i, d < 4 → I pa → 1 ≤ i → i ≤ mg_n bl r → pa (4 * mg_p ce r + d) ≠ 0 → I (upd pa (mg_bp ce r i d) 1))
    (K : ∀ pa, mg_PG ce bl rc B0 I (r + 1) 0 1 pa → J10 (nI (r + 1)) ce bl fa mo pa go) :
    ∀ m d pa, 4 < m + d → d ≤ 4 → mg_PG ce bl rc B0 I r d 1 pa →
    wY_closePairs_20 post J2 J10 x1 (nI r) cC pC rL (nI rc) qp qs qt dO zP zQ m (nI d) ce bl fa mo pa go := by
  intro m
  induction m with
  | zero => intro d pa h1 h2; omega
  | succ m ih =>
    intro d pa hm hd hG
    unfold wY_closePairs_20
    refine pk_le 4 d (fun e => nm_r (nI_1 r) (K pa (mg_PG_w (fun r' d' i' h1 h2 h3 h4 => by omega) hG))) (fun e => ?_)
    exact ⟨mg_n bl r + 2, yy_closePairs_28 hP hok hrc hr e (fun pa i => hI d pa i e) (fun pa h => ih (d + 1) pa (by omega) (by omega) h) (mg_n bl r + 2) 1 pa (by omega) (by omega) (by omega) hG⟩
theorem yy_closePairs_10 {post : SY → Prop} {J2 : _} {C Pn rc k : Nat} {I : (Nat → Int32) → Prop} {B0 : Nat → Prop} (hP : Pn ≤ 4) (hok : mg_ok C Pn ce bl rc) (hrc : rc ≤ 8)
    (hI : ∀ r d pa i, r < rc → d < 4 → I pa → 1 ≤ i → i ≤ mg_n bl r → pa (4 * mg_p ce r + d) ≠ 0 → I (upd pa (mg_bp ce r i d) 1))
    (K : ∀ pa, mg_PG ce bl rc B0 I rc 0 1 pa → J2 (nI (k + 1)) ce bl fa mo pa go) :
    ∀ m r pa, rc < m + r → r ≤ rc → mg_PG ce bl rc B0 I r 0 1 pa →
    wY_closePairs_10 post J2 (nI k) cC pC rL (nI rc) qp qs qt dO zP zQ m (nI r) ce bl fa mo pa go := by
  intro m
  induction m with
  | zero => intro d pa h1 h2; omega
  | succ m ih =>
    intro r pa hm hr hG
    unfold wY_closePairs_10
    refine pk_le rc r (fun e => nm_r (nI_1 k) (K pa (mg_PG_w (fun r' d' i' h1 h2 h3 h4 => by omega) hG))) (fun e => ?_)
    exact ⟨5, yy_closePairs_20 hP hok hrc e (fun d pa i => hI r d pa i e) (fun pa h => ih (r + 1) pa (by omega) (by omega) h) 5 0 pa (by omega) (by omega) hG⟩
theorem yy_closePairs_2 {post : SY → Prop} {C Pn rc : Nat} {I : (Nat → Int32) → Prop} (hP : Pn ≤ 4) (hok : mg_ok C Pn ce bl rc) (hrc : rc ≤ 8)
    (hI : ∀ r d pa i, r < rc → d < 4 → I pa → 1 ≤ i → i ≤ mg_n bl r → pa (4 * mg_p ce r + d) ≠ 0 → I (upd pa (mg_bp ce r i d) 1))
    (K : ∀ pa, I pa → mg_yc ce bl rc (mg_s pa) → post (cC, pC, rL, nI rc, qp, qs, qt, dO, zP, zQ, ce, bl, fa, mo, pa, go)) :
    ∀ m k pa, 16 < m + k → k ≤ 16 → I pa → (mg_yc ce bl rc (mg_s pa) ∨ k + 1 ≤ mg_cn (mg_s pa) 16) →
    wY_closePairs_2 post cC pC rL (nI rc) qp qs qt dO zP zQ m (nI k) ce bl fa mo pa go := by
  intro m
  induction m with
  | zero => intro d pa h1 h2; omega
  | succ m ih =>
    intro k pa hm hk hIp hG
    unfold wY_closePairs_2
    refine pk_le 16 k (fun e => ?_) (fun e => ?_)
    · rcases hG with h | h
      · exact K pa hIp h
      · have := mg_cn_le (mg_s pa) 16; omega
    · refine ⟨rc + 1, yy_closePairs_10 (B0 := mg_s pa) hP hok hrc hI (fun pa' h => ih (k + 1) pa' (by omega) (by omega) h.1 ?_) (rc + 1) 0 pa (by omega) (by omega) ⟨hIp, fun _ => rfl, Or.inl ⟨rfl, fun r' d' i' h1 h2 h3 h4 => by omega⟩⟩⟩
      rcases h.2.2 with ⟨e1, e2⟩ | g
      · rw [e1]
        exact Or.inl (fun r d i hr hd h1 h2 => e2 r d i hd h1 h2 (Or.inl hr))
      · rcases hG with hG | hG
        · rw [h.2.1 hG]; exact Or.inl hG
        · exact Or.inr (by omega)
theorem yy_closePairs {post : SY → Prop} {C Pn rc q : Nat} (hP : Pn ≤ 4) (hok : mg_ok C Pn ce bl rc) (hrc : rc ≤ 8) (hq : q < 16) (hpa : ∀ k, k < 16 → (pa k ≠ 0 ↔ k = q))
    (K : ∀ pa', (∀ k, k < 16 → (pa' k ≠ 0 ↔ mg_as ce bl rc q k)) → post (cC, pC, rL, nI rc, qp, qs, qt, dO, zP, zQ, ce, bl, fa, mo, pa', go)) :
    wpY_closePairs post (cC, pC, rL, nI rc, qp, qs, qt, dO, zP, zQ, ce, bl, fa, mo, pa, go) := by
  unfold wpY_closePairs
  refine ⟨17, yy_closePairs_2 (I := fun pa => (∀ k, k < 16 → pa k ≠ 0 → mg_as ce bl rc q k) ∧ pa q ≠ 0) hP hok hrc (fun r d pa i hr hd hI h1 h2 hz => ⟨fun k hk hk' => ?_, mg_s_upd.mpr (Or.inl hI.2)⟩) (fun pa' hI hc => ?_) 17 0 pa (by omega) (by omega) ⟨fun k hk h => by rw [(hpa k hk).mp h]; exact mg_as_q, (hpa q hq).mpr rfl⟩ (Or.inr ?_)⟩
  · rcases mg_s_upd.mp hk' with g | g
    · exact hI.1 k hk g
    · rw [g]
      have hao := (hok r hr).1.2 0 (by omega)
      rw [show 12 * r + 3 * 0 = 12 * r by omega] at hao
      have hp := (mg_ao_p hP hao).2
      exact mg_ac_yc mg_as_c r d i hr hd h1 h2 (hI.1 _ (by show 4 * (ce (12 * r)).toNatClampNeg + d < 16; omega) hz)
  · refine K pa' (fun k hk => ⟨hI.1 k hk, fun h => ?_⟩)
    exact h (mg_s pa') hI.2 (mg_yc_ac hc)
  · have := mg_cn_lt (P := fun _ => False) (Q := mg_s pa) (a := q) (N := 16) (fun h => h) ((hpa q hq).mpr rfl) (fun _ _ h => h.elim) hq
    omega
end
end
section
/-! X: the generator -/
def mg_bs (v : Nat) (u : Int32) : Prop := (u = -1 ∧ v % 2 = 1) ∨ (u = -2 ∧ v / 2 % 2 = 1) ∨ (u = -3 ∧ v / 4 % 2 = 1)
def mg_vv (t : Int32) : Nat := if t = -1 then 1 else if t = -2 then 2 else if t = -3 then 4 else 0
theorem mg_vv1 : mg_vv (-1) = 1 := by decide
theorem mg_vv2 : mg_vv (-2) = 2 := by decide
theorem mg_vv3 : mg_vv (-3) = 4 := by decide
theorem mg_vvc {x : Nat} (h : x < 2 ^ 31) : mg_vv (nI x) = 0 := by
  unfold mg_vv
  rw [if_neg (mg_ne h (by decide)), if_neg (mg_ne h (by decide)), if_neg (mg_ne h (by decide))]
theorem mg_vv_lt (t : Int32) : mg_vv t < 8 := by
  unfold mg_vv
  by_cases h1 : t = -1
  · rw [if_pos h1]; omega
  · by_cases h2 : t = -2
    · rw [if_neg h1, if_pos h2]; omega
    · by_cases h3 : t = -3
      · rw [if_neg h1, if_neg h2, if_pos h3]; omega
      · rw [if_neg h1, if_neg h2, if_neg h3]; omega
theorem mg_or : ∀ a, a < 8 → ∀ b, b < 8 → nI a ||| nI b = nI (a ||| b) := by decide +kernel
theorem mg_or_f : ∀ a, a < 8 → ∀ b, b < 8 → (a ||| b) < 8 ∧ ((a ||| b) % 2 = 1 ↔ (a % 2 = 1 ∨ b % 2 = 1)) ∧ ((a ||| b) / 2 % 2 = 1 ↔ (a / 2 % 2 = 1 ∨ b / 2 % 2 = 1)) ∧ ((a ||| b) / 4 % 2 = 1 ↔ (a / 4 % 2 = 1 ∨ b / 4 % 2 = 1)) := by decide +kernel
theorem mg_bs_or {a b : Nat} (ha : a < 8) (hb : b < 8) (u : Int32) : mg_bs (a ||| b) u ↔ (mg_bs a u ∨ mg_bs b u) := by
  obtain ⟨_, h1, h2, h3⟩ := mg_or_f a ha b hb
  unfold mg_bs
  rw [h1, h2, h3]
  constructor
  · rintro (⟨e, h | h⟩ | ⟨e, h | h⟩ | ⟨e, h | h⟩)
    · exact Or.inl (Or.inl ⟨e, h⟩)
    · exact Or.inr (Or.inl ⟨e, h⟩)
    · exact Or.inl (Or.inr (Or.inl ⟨e, h⟩))
    · exact Or.inr (Or.inr (Or.inl ⟨e, h⟩))
    · exact Or.inl (Or.inr (Or.inr ⟨e, h⟩))
    · exact Or.inr (Or.inr (Or.inr ⟨e, h⟩))
  · rintro ((⟨e, h⟩ | ⟨e, h⟩ | ⟨e, h⟩) | (⟨e, h⟩ | ⟨e, h⟩ | ⟨e, h⟩))
    · exact Or.inl ⟨e, Or.inl h⟩
    · exact Or.inr (Or.inl ⟨e, Or.inl h⟩)
    · exact Or.inr (Or.inr ⟨e, Or.inl h⟩)
    · exact Or.inl ⟨e, Or.inr h⟩
    · exact Or.inr (Or.inl ⟨e, Or.inr h⟩)
    · exact Or.inr (Or.inr ⟨e, Or.inr h⟩)
def mg_ng (u : Int32) : Prop := u = -1 ∨ u = -2 ∨ u = -3
theorem mg_ng_lt {u : Int32} (h : mg_ng u) : u < 0 := by
  rcases h with rfl | rfl | rfl <;> decide
theorem mg_bs_vv {C : Nat} {t u : Int32} (hC : C ≤ 5) (ht : mg_T C t) (hu : mg_ng u) : mg_bs (mg_vv t) u ↔ u = t := by
  unfold mg_bs
  rcases ht with rfl | rfl | rfl | ⟨x, hx, rfl⟩
  · rw [mg_vv1]
    rcases hu with rfl | rfl | rfl <;> decide
  · rw [mg_vv2]
    rcases hu with rfl | rfl | rfl <;> decide
  · rw [mg_vv3]
    rcases hu with rfl | rfl | rfl <;> decide
  · rw [mg_vvc (by omega)]
    constructor
    · rintro (⟨_, h⟩ | ⟨_, h⟩ | ⟨_, h⟩) <;> omega
    · intro h
      rw [h] at hu
      exact absurd (mg_ng_lt hu) (nI_pos (by omega))
theorem mg_n1 : ∀ b, b < 8 → ((nI 1 &&& (nI b ^^^ (-1))) = 0 ↔ b % 2 = 1) := by decide +kernel
theorem mg_n2 : ∀ b, b < 8 → ((nI 2 &&& (nI b ^^^ (-1))) = 0 ↔ b / 2 % 2 = 1) := by decide +kernel
theorem mg_n3 : ∀ b, b < 8 → ((nI 4 &&& (nI b ^^^ (-1))) = 0 ↔ b / 4 % 2 = 1) := by decide +kernel
theorem mg_n0 : ∀ b, b < 8 → ((nI 0 &&& (nI b ^^^ (-1))) = 0) := by decide +kernel
theorem mg_adc {C b : Nat} {t : Int32} (hC : C ≤ 5) (ht : mg_T C t) (hb : b < 8) : ((nI (mg_vv t) &&& (nI b ^^^ (-1))) = 0) ↔ (¬ t < 0 ∨ mg_bs b t) := by
  unfold mg_bs
  rcases ht with rfl | rfl | rfl | ⟨x, hx, rfl⟩
  · rw [mg_vv1, mg_n1 b hb]
    exact ⟨fun h => Or.inr (Or.inl ⟨rfl, h⟩), fun h => by
      rcases h with h | ⟨_, h⟩ | ⟨e, _⟩ | ⟨e, _⟩
      · exact absurd (by decide) h
      · exact h
      · exact absurd e (by decide)
      · exact absurd e (by decide)⟩
  · rw [mg_vv2, mg_n2 b hb]
    exact ⟨fun h => Or.inr (Or.inr (Or.inl ⟨rfl, h⟩)), fun h => by
      rcases h with h | ⟨e, _⟩ | ⟨_, h⟩ | ⟨e, _⟩
      · exact absurd (by decide) h
      · exact absurd e (by decide)
      · exact h
      · exact absurd e (by decide)⟩
  · rw [mg_vv3, mg_n3 b hb]
    exact ⟨fun h => Or.inr (Or.inr (Or.inr ⟨rfl, h⟩)), fun h => by
      rcases h with h | ⟨e, _⟩ | ⟨e, _⟩ | ⟨_, h⟩
      · exact absurd (by decide) h
      · exact absurd e (by decide)
      · exact absurd e (by decide)
      · exact h⟩
  · rw [mg_vvc (by omega)]
    exact ⟨fun _ => Or.inl (nI_pos (by omega)), fun _ => mg_n0 b hb⟩
section
variable {cC pC rL rC dO sC zP zQ qT gC aC fC bC nA gO rE : Int32} {ce bl kn qu aR aF aS gL iA aQ bP fr ba an : Nat → Int32}
theorem xx_vb13 {post : Int32 → Prop} {C a : Nat} {t : Int32} (hC : C ≤ 5) (ht : mg_T C t) (ha : a < 8) (h : post (nI (a ||| mg_vv t))) : wX_variableBits_13 post t (nI a) cC pC rL rC dO sC zP zQ qT gC aC fC bC nA gO rE ce bl kn qu aR aF aS gL iA aQ bP fr ba an := by
  unfold wX_variableBits_13
  rcases ht with rfl | rfl | rfl | ⟨x, hx, rfl⟩
  · refine br_f (by decide) (nm_r (e' := nI 1) (by decide) ?_)
    rw [mg_or a ha 1 (by omega)]; exact h
  · refine br_f (by decide) (nm_r (e' := nI 2) (by decide) ?_)
    rw [mg_or a ha 2 (by omega)]; exact h
  · refine br_f (by decide) (nm_r (e' := nI 4) (by decide) ?_)
    rw [mg_or a ha 4 (by omega)]; exact h
  · refine br_t (nI_pos' (by omega)) ?_
    rw [mg_vvc (by omega), Nat.or_zero] at h
    rw [show (0 : Int32) = nI 0 from rfl, mg_or a ha 0 (by omega), Nat.or_zero]
    exact h
theorem xx_variableBits {post : Int32 → Prop} {C : Nat} {s t : Int32} (hC : C ≤ 5) (hs : mg_T C s) (ht : mg_T C t) (h : post (nI (mg_vv s ||| mg_vv t))) : wpX_variableBits post (cC, pC, rL, rC, dO, sC, zP, zQ, qT, gC, aC, fC, bC, nA, gO, rE, ce, bl, kn, qu, aR, aF, aS, gL, iA, aQ, bP, fr, ba, an) s t := by
  unfold wpX_variableBits
  rcases hs with rfl | rfl | rfl | ⟨x, hx, rfl⟩
  · refine br_f (by decide) ?_
    exact ek_v (P := fun z => wX_variableBits_13 _ _ z cC pC rL rC dO sC zP zQ qT gC aC fC bC nA gO rE ce bl kn qu aR aF aS gL iA aQ bP fr ba an) (show (1 : Int32) <<< (((-1) - (-1)) &&& 31) = nI 1 by decide) (xx_vb13 hC ht (by omega) h)
  · refine br_f (by decide) ?_
    exact ek_v (P := fun z => wX_variableBits_13 _ _ z cC pC rL rC dO sC zP zQ qT gC aC fC bC nA gO rE ce bl kn qu aR aF aS gL iA aQ bP fr ba an) (show (1 : Int32) <<< (((-1) - (-2)) &&& 31) = nI 2 by decide) (xx_vb13 hC ht (by omega) h)
  · refine br_f (by decide) ?_
    exact ek_v (P := fun z => wX_variableBits_13 _ _ z cC pC rL rC dO sC zP zQ qT gC aC fC bC nA gO rE ce bl kn qu aR aF aS gL iA aQ bP fr ba an) (show (1 : Int32) <<< (((-1) - (-3)) &&& 31) = nI 4 by decide) (xx_vb13 hC ht (by omega) h)
  · refine br_t (nI_pos' (by omega)) ?_
    rw [mg_vvc (by omega)] at h
    exact xx_vb13 (a := 0) hC ht (by omega) h
theorem xx_adornment {post : Int32 → Prop} {C b : Nat} {s t : Int32} (hC : C ≤ 5) (hs : mg_T C s) (ht : mg_T C t) (hb : b < 8) (h : post (nI (mg_b (¬ s < 0 ∨ mg_bs b s) + 2 * mg_b (¬ t < 0 ∨ mg_bs b t)))) : wpX_adornment post (cC, pC, rL, rC, dO, sC, zP, zQ, qT, gC, aC, fC, bC, nA, gO, rE, ce, bl, kn, qu, aR, aF, aS, gL, iA, aQ, bP, fr, ba, an) s t (nI b) := by
  unfold wpX_adornment
  refine xx_variableBits hC hs hs (xx_variableBits hC ht ht ?_)
  rw [Nat.or_self, Nat.or_self, mg_adc hC hs hb]
  refine br_c (fun z => ?_) (fun z => ?_)
  · unfold wX_adornment_30
    rw [mg_adc hC ht hb]
    rw [mg_b_t z] at h
    refine br_c (fun y => ?_) (fun y => ?_)
    · rw [mg_b_t y] at h; exact h
    · rw [mg_b_f y] at h; exact h
  · unfold wX_adornment_30
    rw [mg_adc hC ht hb]
    rw [mg_b_f z] at h
    refine br_c (fun y => ?_) (fun y => ?_)
    · rw [mg_b_t y] at h; exact h
    · rw [mg_b_f y] at h; exact h
theorem xx_firstIfBound {post : Int32 → Prop} {d : Nat} {t : Int32} (hd : d < 4) (h : post (mg_fb d t)) : wpX_firstIfBound post (cC, pC, rL, rC, dO, sC, zP, zQ, qT, gC, aC, fC, bC, nA, gO, rE, ce, bl, kn, qu, aR, aF, aS, gL, iA, aQ, bP, fr, ba, an) (nI d) t := by
  unfold wpX_firstIfBound
  unfold mg_fb at h
  rw [mg_a1 d hd]
  exact br_c (fun z => by rw [if_neg z] at h; exact h) (fun z => by rw [if_pos (Classical.not_not.mp z)] at h; exact h)
theorem xx_secondIfBound {post : Int32 → Prop} {d : Nat} {t : Int32} (hd : d < 4) (h : post (mg_sb d t)) : wpX_secondIfBound post (cC, pC, rL, rC, dO, sC, zP, zQ, qT, gC, aC, fC, bC, nA, gO, rE, ce, bl, kn, qu, aR, aF, aS, gL, iA, aQ, bP, fr, ba, an) (nI d) t := by
  unfold wpX_secondIfBound
  unfold mg_sb at h
  rw [mg_a2 d hd]
  exact br_c (fun z => by rw [if_neg z] at h; exact h) (fun z => by rw [if_pos (Classical.not_not.mp z)] at h; exact h)
end
theorem mg_fb4 {pr : Nat} {t : Int32} : mg_fb (pr % 4) t = mg_fb pr t := by unfold mg_fb; rw [show pr % 4 % 2 = pr % 2 by omega]
theorem mg_sb4 {pr : Nat} {t : Int32} : mg_sb (pr % 4) t = mg_sb pr t := by unfold mg_sb; rw [show pr % 4 / 2 % 2 = pr / 2 % 2 by omega]
theorem mg_fb_T {C d : Nat} {t : Int32} (hC : 1 ≤ C) (h : mg_T C t) : mg_T C (mg_fb d t) := by
  unfold mg_fb
  by_cases z : d % 2 = 1
  · rw [if_pos z]; exact h
  · rw [if_neg z]; exact Or.inr (Or.inr (Or.inr ⟨0, by omega, rfl⟩))
theorem mg_sb_T {C d : Nat} {t : Int32} (hC : 1 ≤ C) (h : mg_T C t) : mg_T C (mg_sb d t) := by
  unfold mg_sb
  by_cases z : d / 2 % 2 = 1
  · rw [if_pos z]; exact h
  · rw [if_neg z]; exact Or.inr (Or.inr (Or.inr ⟨0, by omega, rfl⟩))
/-! arrays that hold a program -/
theorem mg_app_get {α : Type} {P : List α} {x r : α} {g : Nat} (h : (P ++ [x])[g]? = some r) : (g < P.length ∧ P[g]? = some r) ∨ (g = P.length ∧ r = x) := by
  rcases Nat.lt_trichotomy g P.length with z | z | z
  · rw [List.getElem?_append_left z] at h
    exact Or.inl ⟨z, h⟩
  · subst z
    rw [List.getElem?_append_right (Nat.le_refl _), Nat.sub_self] at h
    exact Or.inr ⟨rfl, (Option.some.inj h).symm⟩
  · rw [List.getElem?_eq_none (by rw [List.length_append]; exact z)] at h
    exact absurd h (by simp)
def mg_GS (P : List mg_R) (aR aF aS gL : Nat → Int32) : Prop := (∀ r, r ∈ P → r.2.length ≤ 4) ∧ mg_rep P aR aF aS gL
theorem mg_GS_new {P : List mg_R} {aR aF aS gL : Nat → Int32} {h : mg_A} (hg : mg_GS P aR aF aS gL) : mg_GS (P ++ [(h, [])]) (upd aR (P.length * 5) (nI h.1)) (upd aF (P.length * 5) h.2.1) (upd aS (P.length * 5) h.2.2) (upd gL P.length 0) := by
  refine ⟨fun r hr => ?_, fun g r hgr => ?_⟩
  · rcases List.mem_append.mp hr with z | z
    · exact hg.1 r z
    · rw [List.mem_singleton.mp z]; exact Nat.zero_le _
  · rcases mg_app_get hgr with ⟨hl, e⟩ | ⟨rfl, rfl⟩
    · obtain ⟨e1, ⟨a1, a2, a3⟩, e3⟩ := hg.2 g r e
      have l4 := hg.1 r (List.mem_of_getElem? e)
      refine ⟨by rw [pk_un (by omega)]; exact e1, ⟨by rw [pk_un (by omega)]; exact a1, by rw [pk_un (by omega)]; exact a2, by rw [pk_un (by omega)]; exact a3⟩, fun j a hj => ?_⟩
      obtain ⟨b1, b2, b3⟩ := e3 j a hj
      have := mg_gl hj
      exact ⟨by rw [pk_un (by omega)]; exact b1, by rw [pk_un (by omega)]; exact b2, by rw [pk_un (by omega)]; exact b3⟩
    · exact ⟨pk_us, ⟨pk_us, pk_us, pk_us⟩, fun j a hj => absurd hj (by simp)⟩
theorem mg_GS_add {P : List mg_R} {aR aF aS gL : Nat → Int32} {h b : mg_A} {bs : List mg_A} (hb : bs.length < 4) (hg : mg_GS (P ++ [(h, bs)]) aR aF aS gL) :
    mg_GS (P ++ [(h, bs ++ [b])]) (upd aR (P.length * 5 + (bs.length + 1)) (nI b.1)) (upd aF (P.length * 5 + (bs.length + 1)) b.2.1) (upd aS (P.length * 5 + (bs.length + 1)) b.2.2) (upd gL P.length (nI (bs.length + 1))) := by
  refine ⟨fun r hr => ?_, fun g r hgr => ?_⟩
  · rcases List.mem_append.mp hr with z | z
    · exact hg.1 r (List.mem_append.mpr (Or.inl z))
    · rw [List.mem_singleton.mp z]
      show (bs ++ [b]).length ≤ 4
      rw [List.length_append]
      show bs.length + 1 ≤ 4
      omega
  · rcases mg_app_get hgr with ⟨hl, e⟩ | ⟨rfl, rfl⟩
    · obtain ⟨e1, ⟨a1, a2, a3⟩, e3⟩ := hg.2 g r (by rw [List.getElem?_append_left hl]; exact e)
      have l4 := hg.1 r (List.mem_append.mpr (Or.inl (List.mem_of_getElem? e)))
      refine ⟨by rw [pk_un (by omega)]; exact e1, ⟨by rw [pk_un (by omega)]; exact a1, by rw [pk_un (by omega)]; exact a2, by rw [pk_un (by omega)]; exact a3⟩, fun j a hj => ?_⟩
      obtain ⟨b1, b2, b3⟩ := e3 j a hj
      have := mg_gl hj
      exact ⟨by rw [pk_un (by omega)]; exact b1, by rw [pk_un (by omega)]; exact b2, by rw [pk_un (by omega)]; exact b3⟩
    · obtain ⟨e1, ⟨a1, a2, a3⟩, e3⟩ := hg.2 P.length (h, bs) (by rw [List.getElem?_append_right (Nat.le_refl _), Nat.sub_self]; rfl)
      refine ⟨by rw [pk_us, List.length_append]; rfl, ⟨by rw [pk_un (by omega)]; exact a1, by rw [pk_un (by omega)]; exact a2, by rw [pk_un (by omega)]; exact a3⟩, fun j a hj => ?_⟩
      rcases mg_app_get hj with ⟨hl, ej⟩ | ⟨rfl, rfl⟩
      · obtain ⟨b1, b2, b3⟩ := e3 j a ej
        exact ⟨by rw [pk_un (by omega)]; exact b1, by rw [pk_un (by omega)]; exact b2, by rw [pk_un (by omega)]; exact b3⟩
      · exact ⟨pk_us, pk_us, pk_us⟩
theorem mg_GS_len {P : List mg_R} {aR aF aS gL : Nat → Int32} {h : mg_A} {bs : List mg_A} (hg : mg_GS (P ++ [(h, bs)]) aR aF aS gL) : gL P.length = nI bs.length :=
  (hg.2 P.length (h, bs) (by rw [List.getElem?_append_right (Nat.le_refl _), Nat.sub_self]; rfl)).1
section
variable {cC pC rL rC dO sC zP zQ qT gC aC fC bC nA gO rE : Int32} {ce bl kn qu aR aF aS gL iA aQ bP fr ba an : Nat → Int32}
theorem xx_setAtom {post : SX → Prop} {k : Nat} {p s t : Int32} (hk : k < 720) (h : post (cC, pC, rL, rC, dO, sC, zP, zQ, qT, gC, aC, fC, bC, nA, gO, rE, ce, bl, kn, qu, upd aR k p, upd aF k s, upd aS k t, gL, iA, aQ, bP, fr, ba, an)) : wpX_setAtom post (cC, pC, rL, rC, dO, sC, zP, zQ, qT, gC, aC, fC, bC, nA, gO, rE, ce, bl, kn, qu, aR, aF, aS, gL, iA, aQ, bP, fr, ba, an) (nI k) p s t := by
  have hv : vp_in (nI k) 720 := vp_in_nI hk (by omega)
  unfold wpX_setAtom
  rw [nI_clamp (show k < 2 ^ 31 by omega)]
  exact And.intro hv (nm_e (And.intro hv (nm_e (And.intro hv (nm_e h)))))
theorem xx_openRule {post : SX → Prop} {P : List mg_R} {m : Nat} {h : mg_A} (hm : P.length = m) (hm2 : m < 144) (hg : mg_GS P aR aF aS gL)
    (K : ∀ aR' aF' aS' gL', mg_GS (P ++ [(h, [])]) aR' aF' aS' gL' → post (cC, pC, rL, rC, dO, sC, zP, zQ, qT, nI (m + 1), aC, fC, bC, nA, gO, rE, ce, bl, kn, qu, aR', aF', aS', gL', iA, aQ, bP, fr, ba, an)) : wpX_openRule post (cC, pC, rL, rC, dO, sC, zP, zQ, qT, nI m, aC, fC, bC, nA, gO, rE, ce, bl, kn, qu, aR, aF, aS, gL, iA, aQ, bP, fr, ba, an) (nI h.1) h.2.1 h.2.2 := by
  subst hm
  unfold wpX_openRule
  dsimp only
  rw [show (5 : Int32) = nI 5 from rfl, pk_mul]
  refine xx_setAtom (by omega) (And.intro (vp_in_nI hm2 (by omega)) ?_)
  rw [nI_clamp (show P.length < 2 ^ 31 by omega)]
  exact nm_e (nm_r (nI_1 _) (K _ _ _ _ (mg_GS_new hg)))
theorem xx_addBody {post : SX → Prop} {P : List mg_R} {m : Nat} {h b : mg_A} {bs : List mg_A} (hm : P.length = m) (hm2 : m < 144) (hb : bs.length < 4) (hg : mg_GS (P ++ [(h, bs)]) aR aF aS gL)
    (K : ∀ aR' aF' aS' gL', mg_GS (P ++ [(h, bs ++ [b])]) aR' aF' aS' gL' → post (cC, pC, rL, rC, dO, sC, zP, zQ, qT, nI (m + 1), aC, fC, bC, nA, gO, rE, ce, bl, kn, qu, aR', aF', aS', gL', iA, aQ, bP, fr, ba, an)) : wpX_addBody post (cC, pC, rL, rC, dO, sC, zP, zQ, qT, nI (m + 1), aC, fC, bC, nA, gO, rE, ce, bl, kn, qu, aR, aF, aS, gL, iA, aQ, bP, fr, ba, an) (nI b.1) b.2.1 b.2.2 := by
  subst hm
  have hv : vp_in (nI P.length) 144 := vp_in_nI hm2 (by omega)
  have hl := mg_GS_len hg
  unfold wpX_addBody
  refine nm_r (nI_pred P.length) ?_
  rw [nI_clamp (show P.length < 2 ^ 31 by omega), hl]
  refine And.intro hv (And.intro hv (nm_r (e' := upd gL P.length (nI (bs.length + 1))) (by rw [nI_1]) (And.intro hv ?_)))
  rw [pk_us, show (5 : Int32) = nI 5 from rfl, pk_mul, nI_add]
  exact xx_setAtom (by omega) (K _ _ _ _ (mg_GS_add hb hg))
end
theorem mg_jx0 (r : Nat) : nI r * 12 = nI (12 * r) := by rw [show (12 : Int32) = nI 12 from rfl, pk_mul, Nat.mul_comm]
theorem mg_jx (k i : Nat) : nI k + 3 * nI i = nI (k + 3 * i) := by rw [show (3 : Int32) = nI 3 from rfl, pk_mul, nI_add]
theorem mg_j2 (k : Nat) : nI k + 2 = nI (k + 2) := by rw [show (2 : Int32) = nI 2 from rfl, nI_add]
section
variable {cC pC rL rC dO sC zP zQ qT gC aC fC bC nA gO rE : Int32} {ce bl kn qu aR aF aS gL iA aQ bP fr ba an : Nat → Int32}
theorem xx_addPlainRule_33 {post : SX → Prop} {P : List mg_R} {C Pn m r : Nat} (hP : Pn ≤ 4) (hr : r < 8) (ho : mg_ro C Pn ce bl r) (hm : P.length = m) (hm2 : m < 144)
    (K : ∀ aR' aF' aS' gL', mg_GS (P ++ [mg_pr ce bl r]) aR' aF' aS' gL' → post (cC, pC, rL, rC, dO, sC, zP, zQ, qT, nI (m + 1), aC, fC, bC, nA, gO, rE, ce, bl, kn, qu, aR', aF', aS', gL', iA, aQ, bP, fr, ba, an)) :
    ∀ n j aR aF aS gL, mg_n bl r < n + j → j ≤ mg_n bl r → mg_GS (P ++ [(mg_ca ce (12 * r), (List.range j).map (fun j => mg_ca ce (12 * r + 3 * (j + 1))))]) aR aF aS gL →
    wX_addPlainRule_33 post (nI r) (nI (12 * r)) n (nI (j + 1)) cC pC rL rC dO sC zP zQ qT (nI (m + 1)) aC fC bC nA gO rE ce bl kn qu aR aF aS gL iA aQ bP fr ba an := by
  have hn := mg_ro_n ho
  intro n
  induction n with
  | zero => intro j aR aF aS gL h1 h2; omega
  | succ n ih =>
    intro j aR aF aS gL h1 h2 hg
    unfold wX_addPlainRule_33
    refine ⟨vp_in_nI (by omega) (by omega), ?_⟩
    rw [nI_clamp (show r < 2 ^ 31 by omega), hn.1]
    refine pk_lt (mg_n bl r) (j + 1) (fun e => ?_) (fun e => ?_)
    · have ej : j = mg_n bl r := by omega
      subst ej
      exact K _ _ _ _ hg
    · have ha := mg_ao_p hP (ho.2 (j + 1) e)
      refine nm_r (mg_jx (12 * r) (j + 1)) ?_
      rw [nI_1, mg_j2]
      refine ⟨vp_in_nI (by omega) (by omega), vp_in_nI (by omega) (by omega), vp_in_nI (by omega) (by omega), ?_⟩
      rw [nI_clamp (show 12 * r + 3 * (j + 1) < 2 ^ 31 by omega), nI_clamp (show 12 * r + 3 * (j + 1) + 1 < 2 ^ 31 by omega), nI_clamp (show 12 * r + 3 * (j + 1) + 2 < 2 ^ 31 by omega), ha.1]
      refine xx_addBody (b := mg_ca ce (12 * r + 3 * (j + 1))) hm hm2 (by rw [List.length_map, List.length_range]; omega) hg (fun aR' aF' aS' gL' hg' => ?_)
      refine nm_r (nI_1 (j + 1)) (ih (j + 1) aR' aF' aS' gL' (by omega) (by omega) ?_)
      rw [List.range_succ, List.map_append]
      exact hg'
theorem xx_addPlainRule {post : SX → Prop} {P : List mg_R} {C Pn m r : Nat} (hP : Pn ≤ 4) (hr : r < 8) (ho : mg_ro C Pn ce bl r) (hm : P.length = m) (hm2 : m < 144) (hg : mg_GS P aR aF aS gL)
    (K : ∀ aR' aF' aS' gL', mg_GS (P ++ [mg_pr ce bl r]) aR' aF' aS' gL' → post (cC, pC, rL, rC, dO, sC, zP, zQ, qT, nI (m + 1), aC, fC, bC, nA, gO, rE, ce, bl, kn, qu, aR', aF', aS', gL', iA, aQ, bP, fr, ba, an)) :
    wpX_addPlainRule post (cC, pC, rL, rC, dO, sC, zP, zQ, qT, nI m, aC, fC, bC, nA, gO, rE, ce, bl, kn, qu, aR, aF, aS, gL, iA, aQ, bP, fr, ba, an) (nI r) := by
  have hao := ho.2 0 (by omega)
  rw [show 12 * r + 3 * 0 = 12 * r by omega] at hao
  have ha := mg_ao_p hP hao
  unfold wpX_addPlainRule
  refine nm_r (mg_jx0 r) ?_
  rw [nI_1, mg_j2]
  refine ⟨vp_in_nI (by omega) (by omega), vp_in_nI (by omega) (by omega), vp_in_nI (by omega) (by omega), ?_⟩
  rw [nI_clamp (show 12 * r < 2 ^ 31 by omega), nI_clamp (show 12 * r + 1 < 2 ^ 31 by omega), nI_clamp (show 12 * r + 2 < 2 ^ 31 by omega), ha.1]
  refine xx_openRule (h := mg_ca ce (12 * r)) hm hm2 hg (fun aR' aF' aS' gL' hg' => ?_)
  exact ⟨mg_n bl r + 1, xx_addPlainRule_33 hP hr ho hm hm2 K (mg_n bl r + 1) 0 aR' aF' aS' gL' (by omega) (by omega) hg'⟩
end
end
section
/-! X: the rewriting -/
def mg_W (iA aQ : Nat → Int32) (na : Nat) : Prop :=
  (∀ i, i < na → ∃ x, aQ i = nI x ∧ x < 16 ∧ iA x ≠ 0) ∧ (∀ x, x < 16 → iA x ≠ 0 → ∃ i, i < na ∧ aQ i = nI x) ∧ mg_cn (mg_s iA) 16 = na ∧ (∀ i j, i < na → j < na → aQ i = aQ j → i = j)
def mg_wt (iA aQ : Nat → Int32) (na : Nat) (iA' aQ' : Nat → Int32) (na' : Nat) : Prop :=
  mg_W iA' aQ' na' ∧ na ≤ na' ∧ (∀ i, i < na → aQ' i = aQ i) ∧ (∀ x, iA x ≠ 0 → iA' x ≠ 0)
theorem mg_wt_rf {iA aQ : Nat → Int32} {na : Nat} (h : mg_W iA aQ na) : mg_wt iA aQ na iA aQ na := ⟨h, Nat.le_refl _, fun _ _ => rfl, fun _ h => h⟩
theorem mg_wt_tr {iA aQ iA1 aQ1 iA2 aQ2 : Nat → Int32} {na n1 n2 : Nat} (h : mg_wt iA aQ na iA1 aQ1 n1) (g : mg_wt iA1 aQ1 n1 iA2 aQ2 n2) : mg_wt iA aQ na iA2 aQ2 n2 := by
  obtain ⟨_, a2, a3, a4⟩ := h
  obtain ⟨b1, b2, b3, b4⟩ := g
  exact ⟨b1, by omega, fun i hi => by rw [b3 i (by omega), a3 i hi], fun k hk => b4 k (a4 k hk)⟩
section
variable {cC pC rL rC dO sC zP zQ qT gC aC fC bC nA gO rE : Int32} {ce bl kn qu aR aF aS gL iA aQ bP fr ba an : Nat → Int32}
theorem xx_request {post : SX → Prop} {na pr : Nat} (hp : pr < 16) (hW : mg_W iA aQ na)
    (K : ∀ iA' aQ' na', mg_wt iA aQ na iA' aQ' na' → (∀ x, iA' x ≠ 0 ↔ (iA x ≠ 0 ∨ x = pr)) → post (cC, pC, rL, rC, dO, sC, zP, zQ, qT, gC, nI na', fC, bC, nA, gO, rE, ce, bl, kn, qu, aR, aF, aS, gL, iA', aQ', bP, fr, ba, an)) : wpX_request post (cC, pC, rL, rC, dO, sC, zP, zQ, qT, gC, nI na, fC, bC, nA, gO, rE, ce, bl, kn, qu, aR, aF, aS, gL, iA, aQ, bP, fr, ba, an) (nI pr) := by
  unfold wpX_request
  refine And.intro (vp_in_nI hp (by omega)) ?_
  rw [nI_clamp (show pr < 2 ^ 31 by omega)]
  refine br_c (fun z => ?_) (fun z => K iA aQ na (mg_wt_rf hW) (fun x => ⟨Or.inl, fun h => h.elim (fun h => h) (fun e => by rw [e]; exact z)⟩))
  have lt := mg_s_lt (f := iA) hp (fun h => h z)
  have cnt : mg_cn (mg_s (upd iA pr 1)) 16 = na + 1 := by
    have a := mg_cn_add (P := mg_s iA) (a := pr) (N := 16) (fun h => h z) hp
    rw [hW.2.2.1] at a
    rw [← a]
    exact mg_cn_eq (fun k _ => mg_s_upd)
  have ht : na + 1 ≤ 16 := by rw [← cnt]; exact mg_cn_le _ _
  refine ⟨vp_in_nI hp (by omega), nm_e ⟨vp_in_nI (by omega) (by omega), ?_⟩⟩
  rw [nI_clamp (show na < 2 ^ 31 by omega)]
  have nx : ∀ j, j < na → ¬ aQ j = nI pr := fun j hj e => by
    obtain ⟨x, e1, e2, e3⟩ := hW.1 j hj
    rw [e1, nI_eq (by omega) (by omega)] at e
    rw [e] at e3
    exact e3 z
  refine nm_e (nm_r (nI_1 na) (K (upd iA pr 1) (upd aQ na (nI pr)) (na + 1) ⟨⟨fun i hi => ?_, fun x hx hk => ?_, cnt, fun i j hi hj e => ?_⟩, by omega, fun i hi => pk_un (by omega), fun x hx => mg_s_upd.mpr (Or.inl hx)⟩ (fun x => mg_s_upd)))
  · by_cases e : i = na
    · subst e
      exact ⟨pr, pk_us, hp, mg_s_upd.mpr (Or.inr rfl)⟩
    · obtain ⟨d, e1, e2, e3⟩ := hW.1 i (by omega)
      exact ⟨d, by rw [pk_un e]; exact e1, e2, mg_s_upd.mpr (Or.inl e3)⟩
  · rcases mg_s_upd.mp hk with g | g
    · obtain ⟨i, hi, e⟩ := hW.2.1 x hx g
      exact ⟨i, by omega, by rw [pk_un (by omega)]; exact e⟩
    · exact ⟨na, by omega, by rw [pk_us, g]⟩
  · by_cases z1 : i = na
    · by_cases z2 : j = na
      · omega
      · rw [z1, pk_us, pk_un z2] at e
        exact absurd e.symm (nx j (by omega))
    · by_cases z2 : j = na
      · rw [z2, pk_us, pk_un z1] at e
        exact absurd e (nx i (by omega))
      · rw [pk_un z1, pk_un z2] at e
        exact hW.2.2.2 i j (by omega) (by omega) e
end
theorem mg_gp_1 {ce : Nat → Int32} {r pr : Nat} : mg_gp ce r pr 1 = [mg_ga pr (ce (12 * r + 1)) (ce (12 * r + 2))] := rfl
theorem mg_gp_s {ce : Nat → Int32} {r pr j : Nat} : mg_gp ce r pr (j + 1 + 1) = mg_gp ce r pr (j + 1) ++ [(8 + mg_bp ce r (j + 1) (pr % 4), ce (12 * r + 3 * (j + 1) + 1), ce (12 * r + 3 * (j + 1) + 2))] := by
  unfold mg_gp
  rw [Nat.add_sub_cancel, Nat.add_sub_cancel, List.range_succ, List.map_append]
  rfl
theorem mg_gp_l {ce : Nat → Int32} {r pr j : Nat} : (mg_gp ce r pr (j + 1)).length = j + 1 := by
  unfold mg_gp
  rw [List.length_cons, List.length_map, List.length_range, Nat.add_sub_cancel]
section
variable {cC pC rL rC dO sC zP zQ qT gC aC fC bC nA gO rE : Int32} {ce bl kn qu aR aF aS gL iA aQ bP fr ba an : Nat → Int32}
theorem xx_agp_52 {post : SX → Prop} {P : List mg_R} {h : mg_A} {r pr m b : Nat} (hr : r ≤ 8) (hb : b ≤ 3) (hbp : ∀ j, 1 ≤ j → j ≤ b → bP j = nI (mg_bp ce r j (pr % 4))) (hm : P.length = m) (hm2 : m < 144)
    (K : ∀ aR' aF' aS' gL', mg_GS (P ++ [(h, mg_gp ce r pr (b + 1))]) aR' aF' aS' gL' → post (cC, pC, rL, rC, dO, sC, zP, zQ, qT, nI (m + 1), aC, fC, bC, nA, gO, rE, ce, bl, kn, qu, aR', aF', aS', gL', iA, aQ, bP, fr, ba, an)) :
    ∀ n j aR aF aS gL, b < n + j → j ≤ b → mg_GS (P ++ [(h, mg_gp ce r pr (j + 1))]) aR aF aS gL →
    wX_addGuardedPrefix_52 post (nI (12 * r)) (nI (b + 1)) n (nI (j + 1)) cC pC rL rC dO sC zP zQ qT (nI (m + 1)) aC fC bC nA gO rE ce bl kn qu aR aF aS gL iA aQ bP fr ba an := by
  intro n
  induction n with
  | zero => intro j aR aF aS gL h1 h2; omega
  | succ n ih =>
    intro j aR aF aS gL h1 h2 hg
    unfold wX_addGuardedPrefix_52
    refine pk_le (b + 1) (j + 1) (fun e => ?_) (fun e => ?_)
    · have ej : j = b := by omega
      subst ej
      exact K _ _ _ _ hg
    · refine nm_r (mg_jx (12 * r) (j + 1)) ?_
      rw [nI_1 (12 * r + 3 * (j + 1)), mg_j2]
      refine ⟨vp_in_nI (by omega) (by omega), vp_in_nI (by omega) (by omega), vp_in_nI (by omega) (by omega), ?_⟩
      rw [nI_clamp (show j + 1 < 2 ^ 31 by omega), nI_clamp (show 12 * r + 3 * (j + 1) + 1 < 2 ^ 31 by omega), nI_clamp (show 12 * r + 3 * (j + 1) + 2 < 2 ^ 31 by omega), hbp (j + 1) (by omega) (by omega), show (8 : Int32) = nI 8 from rfl, nI_add]
      refine xx_addBody (b := (8 + mg_bp ce r (j + 1) (pr % 4), ce (12 * r + 3 * (j + 1) + 1), ce (12 * r + 3 * (j + 1) + 2))) hm hm2 (by rw [mg_gp_l]; omega) hg (fun aR' aF' aS' gL' hg' => ?_)
      refine nm_r (nI_1 (j + 1)) (ih (j + 1) aR' aF' aS' gL' (by omega) (by omega) ?_)
      rw [mg_gp_s]
      exact hg'
theorem xx_agp {post : SX → Prop} {P : List mg_R} {h : mg_A} {r pr m b : Nat} (hr : r ≤ 8) (hpr : pr < 16) (hb : b ≤ 3) (hbp : ∀ j, 1 ≤ j → j ≤ b → bP j = nI (mg_bp ce r j (pr % 4))) (hm : P.length = m) (hm2 : m < 144) (hg : mg_GS (P ++ [(h, [])]) aR aF aS gL)
    (K : ∀ aR' aF' aS' gL', mg_GS (P ++ [(h, mg_gp ce r pr (b + 1))]) aR' aF' aS' gL' → post (cC, pC, rL, rC, dO, sC, zP, zQ, qT, nI (m + 1), aC, fC, bC, nA, gO, rE, ce, bl, kn, qu, aR', aF', aS', gL', iA, aQ, bP, fr, ba, an)) :
    wpX_addGuardedPrefix post (cC, pC, rL, rC, dO, sC, zP, zQ, qT, nI (m + 1), aC, fC, bC, nA, gO, rE, ce, bl, kn, qu, aR, aF, aS, gL, iA, aQ, bP, fr, ba, an) (nI (12 * r)) (nI pr) (nI (b + 1)) := by
  unfold wpX_addGuardedPrefix
  refine And.intro (by decide) (nm_r (e' := nI (pr % 4)) (pk_rem (d := 4) (by omega) (by omega) (by omega)) ?_)
  rw [nI_1 (12 * r), mg_j2]
  refine And.intro (vp_in_nI (by omega) (by omega)) ?_
  rw [nI_clamp (show 12 * r + 1 < 2 ^ 31 by omega), nI_clamp (show 12 * r + 2 < 2 ^ 31 by omega)]
  refine xx_firstIfBound (by omega) (And.intro (vp_in_nI (by omega) (by omega)) (xx_secondIfBound (by omega) ?_))
  rw [mg_fb4, mg_sb4, show (24 : Int32) = nI 24 from rfl, nI_add]
  refine xx_addBody (b := mg_ga pr (ce (12 * r + 1)) (ce (12 * r + 2))) (bs := []) hm hm2 (by show 0 < 4; omega) hg (fun aR' aF' aS' gL' hg' => ?_)
  exact ⟨b + 1, xx_agp_52 hr hb hbp hm hm2 K (b + 1) 0 aR' aF' aS' gL' (by omega) (by omega) hg'⟩
end
def mg_bb (ce : Nat → Int32) (r n d bb : Nat) : Prop := bb < 8 ∧ ∀ u, mg_ng u → (mg_bs bb u ↔ mg_kp ce r n d u)
theorem mg_bs_ng {b : Nat} {u : Int32} (h : mg_bs b u) : mg_ng u := by
  rcases h with ⟨h, _⟩ | ⟨h, _⟩ | ⟨h, _⟩
  · exact Or.inl h
  · exact Or.inr (Or.inl h)
  · exact Or.inr (Or.inr h)
theorem mg_adk {C : Nat} {ce : Nat → Int32} {r n d bb : Nat} {t : Int32} (hC : C ≤ 5) (hb : mg_bb ce r n d bb) (ht : mg_T C t) : (¬ t < 0 ∨ mg_bs bb t) ↔ mg_kp ce r n d t := by
  constructor
  · rintro (h | h)
    · exact Or.inl h
    · exact (hb.2 t (mg_bs_ng h)).mp h
  · intro h
    by_cases z : t < 0
    · exact Or.inr ((hb.2 t (mg_T_neg ht z hC)).mpr h)
    · exact Or.inl z
theorem mg_kp_s {ce : Nat → Int32} {r n d : Nat} {t : Int32} : mg_kp ce r (n + 1) d t ↔ (mg_kp ce r n d t ∨ (ce (12 * r + 3 * (n + 1) + 1) = t ∨ ce (12 * r + 3 * (n + 1) + 2) = t)) := by
  rw [mg_kp_sq, mg_kp_sq, mg_sq_s]
  constructor
  · rintro ((h | h) | h)
    · exact Or.inl (Or.inl h)
    · exact Or.inr h
    · exact Or.inl (Or.inr h)
  · rintro ((h | h) | h)
    · exact Or.inl (Or.inl h)
    · exact Or.inr h
    · exact Or.inl (Or.inr h)
theorem mg_bb_s {C : Nat} {ce : Nat → Int32} {r n d bb : Nat} (hC : C ≤ 5) (h1 : mg_T C (ce (12 * r + 3 * (n + 1) + 1))) (h2 : mg_T C (ce (12 * r + 3 * (n + 1) + 2))) (hb : mg_bb ce r n d bb) : mg_bb ce r (n + 1) d (bb ||| (mg_vv (ce (12 * r + 3 * (n + 1) + 1)) ||| mg_vv (ce (12 * r + 3 * (n + 1) + 2)))) := by
  have l1 := mg_vv_lt (ce (12 * r + 3 * (n + 1) + 1))
  have l2 := mg_vv_lt (ce (12 * r + 3 * (n + 1) + 2))
  have l3 := (mg_or_f _ l1 _ l2).1
  refine ⟨(mg_or_f _ hb.1 _ l3).1, fun u hu => ?_⟩
  rw [mg_bs_or hb.1 l3, mg_bs_or l1 l2, mg_bs_vv hC h1 hu, mg_bs_vv hC h2 hu, hb.2 u hu, mg_kp_s]
  constructor
  · rintro (h | h | h)
    · exact Or.inl h
    · exact Or.inr (Or.inl h.symm)
    · exact Or.inr (Or.inr h.symm)
  · rintro (h | h | h)
    · exact Or.inl h
    · exact Or.inr (Or.inl h.symm)
    · exact Or.inr (Or.inr h.symm)
theorem mg_bb_0 {C : Nat} {ce : Nat → Int32} {r d : Nat} (hC : 1 ≤ C ∧ C ≤ 5) (h1 : mg_T C (ce (12 * r + 1))) (h2 : mg_T C (ce (12 * r + 2))) : mg_bb ce r 0 d (mg_vv (mg_fb d (ce (12 * r + 1))) ||| mg_vv (mg_sb d (ce (12 * r + 2)))) := by
  have l1 := mg_vv_lt (mg_fb d (ce (12 * r + 1)))
  have l2 := mg_vv_lt (mg_sb d (ce (12 * r + 2)))
  refine ⟨(mg_or_f _ l1 _ l2).1, fun u hu => ?_⟩
  have hu0 := mg_ng_lt hu
  have hz : ¬ u = 0 := fun e => by rw [e] at hu0; exact absurd hu0 (by decide)
  have f1 : u = mg_fb d (ce (12 * r + 1)) ↔ (d % 2 = 1 ∧ ce (12 * r + 1) = u) := by
    unfold mg_fb
    by_cases z : d % 2 = 1
    · rw [if_pos z]; exact ⟨fun h => ⟨z, h.symm⟩, fun h => h.2.symm⟩
    · rw [if_neg z]; exact ⟨fun h => absurd h hz, fun h => absurd h.1 z⟩
  have f2 : u = mg_sb d (ce (12 * r + 2)) ↔ (d / 2 % 2 = 1 ∧ ce (12 * r + 2) = u) := by
    unfold mg_sb
    by_cases z : d / 2 % 2 = 1
    · rw [if_pos z]; exact ⟨fun h => ⟨z, h.symm⟩, fun h => h.2.symm⟩
    · rw [if_neg z]; exact ⟨fun h => absurd h hz, fun h => absurd h.1 z⟩
  rw [mg_bs_or l1 l2, mg_bs_vv hC.2 (mg_fb_T hC.1 h1) hu, mg_bs_vv hC.2 (mg_sb_T hC.1 h2) hu, f1, f2]
  unfold mg_kp
  constructor
  · exact fun h => Or.inr (Or.inr h)
  · rintro (h | ⟨j, j1, j2, _⟩ | h)
    · exact absurd hu0 h
    · omega
    · exact h
section
variable {cC pC rL rC dO sC zP zQ qT gC aC fC bC nA gO rE : Int32} {ce bl kn qu aR aF aS gL iA aQ bP fr ba an : Nat → Int32}
theorem xx_addMagicRule {post : SX → Prop} {P : List mg_R} {C Pn r pr i bb m na : Nat} (hC : 1 ≤ C ∧ C ≤ 5) (hP : Pn ≤ 4) (hr : r ≤ 8) (ho : mg_ro C Pn ce bl r) (hpr : pr < 16) (hi : i + 1 ≤ mg_n bl r) (hbb : mg_bb ce r i (pr % 4) bb)
    (hbp : ∀ j, 1 ≤ j → j ≤ i → bP j = nI (mg_bp ce r j (pr % 4))) (hm : P.length = m) (hm2 : m < 144) (hg : mg_GS P aR aF aS gL) (hW : mg_W iA aQ na)
    (K : ∀ aR' aF' aS' gL' iA' aQ' na', mg_GS (P ++ [mg_mr ce r pr (i + 1)]) aR' aF' aS' gL' → mg_wt iA aQ na iA' aQ' na' → (∀ x, iA' x ≠ 0 ↔ (iA x ≠ 0 ∨ x = mg_bp ce r (i + 1) (pr % 4))) → post (cC, pC, rL, rC, dO, sC, zP, zQ, qT, nI (m + 1), nI na', fC, bC, nA, gO, rE, ce, bl, kn, qu, aR', aF', aS', gL', iA', aQ', upd bP (i + 1) (nI (mg_bp ce r (i + 1) (pr % 4))), fr, ba, an)) :
    wpX_addMagicRule post (cC, pC, rL, rC, dO, sC, zP, zQ, qT, nI m, nI na, fC, bC, nA, gO, rE, ce, bl, kn, qu, aR, aF, aS, gL, iA, aQ, bP, fr, ba, an) (nI (12 * r)) (nI pr) (nI (i + 1)) (nI bb) := by
  have hn := mg_ro_n ho
  have hao := ho.2 (i + 1) hi
  have hp := mg_ao_p hP hao
  have had := mg_ad_lt ce r (i + 1) (pr % 4)
  have hb16 : mg_bp ce r (i + 1) (pr % 4) < 16 := by unfold mg_bp; omega
  have hb4 : mg_bp ce r (i + 1) (pr % 4) % 4 = mg_ad ce r (i + 1) (pr % 4) := by unfold mg_bp; omega
  have hv1 : vp_in (nI (12 * r + 3 * (i + 1) + 1)) 108 := vp_in_nI (by omega) (by omega)
  have hv2 : vp_in (nI (12 * r + 3 * (i + 1) + 2)) 108 := vp_in_nI (by omega) (by omega)
  have hvi : vp_in (nI (i + 1)) 4 := vp_in_nI (by omega) (by omega)
  unfold wpX_addMagicRule
  refine nm_r (mg_jx (12 * r) (i + 1)) ?_
  rw [nI_1 (12 * r + 3 * (i + 1)), mg_j2]
  refine And.intro hv1 (And.intro hv2 ?_)
  rw [nI_clamp (show 12 * r + 3 * (i + 1) + 1 < 2 ^ 31 by omega), nI_clamp (show 12 * r + 3 * (i + 1) + 2 < 2 ^ 31 by omega), nI_clamp (show 12 * r + 3 * (i + 1) < 2 ^ 31 by omega), nI_clamp (show i + 1 < 2 ^ 31 by omega)]
  refine xx_adornment hC.2 hao.2.1 hao.2.2 hbb.1 ?_
  have ea : mg_b (¬ ce (12 * r + 3 * (i + 1) + 1) < 0 ∨ mg_bs bb (ce (12 * r + 3 * (i + 1) + 1))) + 2 * mg_b (¬ ce (12 * r + 3 * (i + 1) + 2) < 0 ∨ mg_bs bb (ce (12 * r + 3 * (i + 1) + 2))) = mg_ad ce r (i + 1) (pr % 4) := by
    unfold mg_ad
    rw [Nat.add_sub_cancel, mg_b_iff (mg_adk hC.2 hbb hao.2.1), mg_b_iff (mg_adk hC.2 hbb hao.2.2)]
  rw [ea]
  have eb : ce (12 * r + 3 * (i + 1)) * 4 + nI (mg_ad ce r (i + 1) (pr % 4)) = nI (mg_bp ce r (i + 1) (pr % 4)) := by
    rw [hp.1, show (4 : Int32) = nI 4 from rfl, pk_mul, nI_add]
    rfl
  refine And.intro (vp_in_nI (by omega) (by omega)) (And.intro hvi (nm_r (e' := upd bP (i + 1) (nI (mg_bp ce r (i + 1) (pr % 4)))) (by rw [eb]) (And.intro hvi ?_)))
  rw [pk_us]
  refine xx_request hb16 hW (fun iA' aQ' na' hwt hiA => And.intro hv1 ?_)
  refine xx_firstIfBound had (And.intro hv2 (xx_secondIfBound had (And.intro hvi ?_)))
  rw [pk_us, show (24 : Int32) = nI 24 from rfl, nI_add, ← hb4, mg_fb4, mg_sb4]
  refine xx_openRule (P := P) (h := mg_ga (mg_bp ce r (i + 1) (pr % 4)) (ce (12 * r + 3 * (i + 1) + 1)) (ce (12 * r + 3 * (i + 1) + 2))) hm hm2 hg (fun aR' aF' aS' gL' hg' => ?_)
  refine xx_agp (P := P) hr hpr (by omega) (fun j j1 j2 => by rw [pk_un (by omega)]; exact hbp j j1 j2) hm hm2 hg' (fun aR2 aF2 aS2 gL2 hg2 => ?_)
  exact K aR2 aF2 aS2 gL2 iA' aQ' na' hg2 hwt hiA
theorem xx_rewriteRule_55 {post : SX → Prop} {P : List mg_R} {C Pn r pr m0 na0 : Nat} {iA0 aQ0 : Nat → Int32} (hC : 1 ≤ C ∧ C ≤ 5) (hP : Pn ≤ 4) (hr : r < 8) (ho : mg_ro C Pn ce bl r) (hpr : pr < 16) (hm : P.length = m0) (hm2 : m0 + mg_n bl r + 1 ≤ 144)
    (K : ∀ L aR' aF' aS' gL' iA' aQ' na' bP', mg_GS (P ++ L) aR' aF' aS' gL' → L.length = mg_n bl r + 1 → (∀ x, x ∈ L ↔ mg_rm ce bl pr r x) → mg_wt iA0 aQ0 na0 iA' aQ' na' → (∀ x, iA' x ≠ 0 ↔ (iA0 x ≠ 0 ∨ ∃ j, 1 ≤ j ∧ j ≤ mg_n bl r ∧ x = mg_bp ce r j (pr % 4))) → post (cC, pC, rL, rC, dO, sC, zP, zQ, qT, nI (m0 + (mg_n bl r + 1)), nI na', fC, bC, nA, gO, rE, ce, bl, kn, qu, aR', aF', aS', gL', iA', aQ', bP', fr, ba, an)) :
    ∀ n i bb L na aR aF aS gL iA aQ bP, mg_n bl r < n + i → i ≤ mg_n bl r → mg_bb ce r i (pr % 4) bb → mg_GS (P ++ L) aR aF aS gL → L.length = i → (∀ x, x ∈ L ↔ ∃ j, 1 ≤ j ∧ j ≤ i ∧ x = mg_mr ce r pr j) → mg_wt iA0 aQ0 na0 iA aQ na → (∀ x, iA x ≠ 0 ↔ (iA0 x ≠ 0 ∨ ∃ j, 1 ≤ j ∧ j ≤ i ∧ x = mg_bp ce r j (pr % 4))) → (∀ j, 1 ≤ j → j ≤ i → bP j = nI (mg_bp ce r j (pr % 4))) →
    wX_rewriteRule_55 post (nI r) (nI pr) (nI (12 * r)) n (nI bb) (nI (i + 1)) cC pC rL rC dO sC zP zQ qT (nI (m0 + i)) (nI na) fC bC nA gO rE ce bl kn qu aR aF aS gL iA aQ bP fr ba an := by
  have hn := mg_ro_n ho
  intro n
  induction n with
  | zero => intro i bb L na aR aF aS gL iA aQ bP h1 h2; omega
  | succ n ih =>
    intro i bb L na aR aF aS gL iA aQ bP h1 h2 hbb hg hL hLm hwt hiA hbp
    have hPL : (P ++ L).length = m0 + i := by rw [List.length_append, hm, hL]
    unfold wX_rewriteRule_55
    refine ⟨vp_in_nI (by omega) (by omega), ?_⟩
    rw [nI_clamp (show r < 2 ^ 31 by omega), hn.1]
    refine pk_lt (mg_n bl r) (i + 1) (fun e => ?_) (fun e => ?_)
    · have ei : i = mg_n bl r := by omega
      subst ei
      rw [nI_1 (12 * r), mg_j2]
      refine ⟨vp_in_nI (by omega) (by omega), vp_in_nI (by omega) (by omega), ?_⟩
      rw [nI_clamp (show 12 * r + 1 < 2 ^ 31 by omega), nI_clamp (show 12 * r + 2 < 2 ^ 31 by omega), show (8 : Int32) = nI 8 from rfl, nI_add]
      refine xx_openRule (P := P ++ L) (h := (8 + pr, ce (12 * r + 1), ce (12 * r + 2))) hPL (by omega) hg (fun aR' aF' aS' gL' hg' => And.intro (vp_in_nI (by omega) (by omega)) ?_)
      rw [hn.1, nI_1 (mg_n bl r)]
      refine xx_agp (P := P ++ L) (by omega) hpr hn.2 hbp hPL (by omega) hg' (fun aR2 aF2 aS2 gL2 hg2 => ?_)
      refine K (L ++ [mg_dr ce bl r pr]) aR2 aF2 aS2 gL2 iA aQ na bP (by rw [← List.append_assoc]; exact hg2) (by rw [List.length_append, hL]; rfl) (fun x => ?_) hwt hiA
      rw [List.mem_append, List.mem_singleton, hLm]
      exact ⟨fun h => h.elim Or.inr Or.inl, fun h => h.elim Or.inr Or.inl⟩
    · have hao := ho.2 (i + 1) e
      refine nm_r (mg_jx (12 * r) (i + 1)) ?_
      refine xx_addMagicRule (P := P ++ L) hC hP (by omega) ho hpr e hbb hbp hPL (by omega) hg hwt.1 (fun aR' aF' aS' gL' iA' aQ' na' hg' hwt' hiA' => ?_)
      dsimp only
      rw [nI_1 (12 * r + 3 * (i + 1)), mg_j2]
      refine And.intro (vp_in_nI (by omega) (by omega)) (And.intro (vp_in_nI (by omega) (by omega)) ?_)
      rw [nI_clamp (show 12 * r + 3 * (i + 1) + 1 < 2 ^ 31 by omega), nI_clamp (show 12 * r + 3 * (i + 1) + 2 < 2 ^ 31 by omega)]
      refine xx_variableBits hC.2 hao.2.1 hao.2.2 ?_
      have hb2 := mg_bb_s hC.2 hao.2.1 hao.2.2 hbb
      have l3 := (mg_or_f _ (mg_vv_lt (ce (12 * r + 3 * (i + 1) + 1))) _ (mg_vv_lt (ce (12 * r + 3 * (i + 1) + 2)))).1
      refine nm_r (mg_or _ hbb.1 _ l3) (nm_r (nI_1 (i + 1)) (ih (i + 1) _ (L ++ [mg_mr ce r pr (i + 1)]) na' aR' aF' aS' gL' iA' aQ' _ (by omega) (by omega) hb2 (by rw [← List.append_assoc]; exact hg') (by rw [List.length_append, hL]; rfl) (fun x => ?_) (mg_wt_tr hwt hwt') (fun x => ?_) (fun j j1 j2 => ?_)))
      · rw [List.mem_append, List.mem_singleton, hLm]
        constructor
        · rintro (⟨j, j1, j2, e⟩ | e)
          · exact ⟨j, j1, by omega, e⟩
          · exact ⟨i + 1, by omega, by omega, e⟩
        · rintro ⟨j, j1, j2, e⟩
          by_cases z : j = i + 1
          · subst z; exact Or.inr e
          · exact Or.inl ⟨j, j1, by omega, e⟩
      · rw [hiA' x, hiA x]
        constructor
        · rintro ((h | ⟨j, j1, j2, e⟩) | e)
          · exact Or.inl h
          · exact Or.inr ⟨j, j1, by omega, e⟩
          · exact Or.inr ⟨i + 1, by omega, by omega, e⟩
        · rintro (h | ⟨j, j1, j2, e⟩)
          · exact Or.inl (Or.inl h)
          · by_cases z : j = i + 1
            · subst z; exact Or.inr e
            · exact Or.inl (Or.inr ⟨j, j1, by omega, e⟩)
      · by_cases z : j = i + 1
        · subst z; exact pk_us
        · rw [pk_un z]; exact hbp j j1 (by omega)
theorem xx_rewriteRule {post : SX → Prop} {P : List mg_R} {C Pn r pr m0 na0 : Nat} (hC : 1 ≤ C ∧ C ≤ 5) (hP : Pn ≤ 4) (hr : r < 8) (ho : mg_ro C Pn ce bl r) (hpr : pr < 16) (hm : P.length = m0) (hm2 : m0 + mg_n bl r + 1 ≤ 144) (hg : mg_GS P aR aF aS gL) (hW : mg_W iA aQ na0)
    (K : ∀ L aR' aF' aS' gL' iA' aQ' na' bP', mg_GS (P ++ L) aR' aF' aS' gL' → L.length = mg_n bl r + 1 → (∀ x, x ∈ L ↔ mg_rm ce bl pr r x) → mg_wt iA aQ na0 iA' aQ' na' → (∀ x, iA' x ≠ 0 ↔ (iA x ≠ 0 ∨ ∃ j, 1 ≤ j ∧ j ≤ mg_n bl r ∧ x = mg_bp ce r j (pr % 4))) → post (cC, pC, rL, rC, dO, sC, zP, zQ, qT, nI (m0 + (mg_n bl r + 1)), nI na', fC, bC, nA, gO, rE, ce, bl, kn, qu, aR', aF', aS', gL', iA', aQ', bP', fr, ba, an)) :
    wpX_rewriteRule post (cC, pC, rL, rC, dO, sC, zP, zQ, qT, nI m0, nI na0, fC, bC, nA, gO, rE, ce, bl, kn, qu, aR, aF, aS, gL, iA, aQ, bP, fr, ba, an) (nI r) (nI pr) := by
  have hao := ho.2 0 (by omega)
  rw [show 12 * r + 3 * 0 = 12 * r by omega] at hao
  unfold wpX_rewriteRule
  refine nm_r (mg_jx0 r) (And.intro (by decide) (nm_r (e' := nI (pr % 4)) (pk_rem (d := 4) (by omega) (by omega) (by omega)) ?_))
  rw [nI_1 (12 * r), mg_j2]
  refine And.intro (vp_in_nI (by omega) (by omega)) ?_
  rw [nI_clamp (show 12 * r + 1 < 2 ^ 31 by omega), nI_clamp (show 12 * r + 2 < 2 ^ 31 by omega)]
  refine xx_firstIfBound (by omega) (And.intro (vp_in_nI (by omega) (by omega)) (xx_secondIfBound (by omega) ?_))
  refine xx_variableBits hC.2 (mg_fb_T hC.1 hao.2.1) (mg_sb_T hC.1 hao.2.2) ?_
  exact ⟨mg_n bl r + 1, xx_rewriteRule_55 hC hP hr ho hpr hm hm2 K (mg_n bl r + 1) 0 _ [] na0 aR aF aS gL iA aQ bP (by omega) (by omega) (mg_bb_0 hC hao.2.1 hao.2.2) (by rw [List.append_nil]; exact hg) rfl (fun x => ⟨fun h => absurd h (by simp), fun h => by obtain ⟨j, j1, j2, _⟩ := h; omega⟩) (mg_wt_rf hW) (fun x => ⟨Or.inl, fun h => h.elim (fun h => h) (fun h => by obtain ⟨j, j1, j2, _⟩ := h; omega)⟩) (fun j j1 j2 => by omega)⟩
end
end
section
/-! X: rewritePair, rewriteProgram; the count of the rules -/
noncomputable def mg_U (ce bl : Nat → Int32) (pr : Nat) : Nat → Nat
  | 0 => 1
  | r + 1 => mg_U ce bl pr r + mg_b (mg_p ce r = pr / 4) * (mg_n bl r + 1)
theorem mg_U_mono {ce bl : Nat → Int32} {pr r : Nat} : ∀ k, mg_U ce bl pr r ≤ mg_U ce bl pr (r + k)
  | 0 => Nat.le_refl _
  | k + 1 => by
    have := mg_U_mono (ce := ce) (bl := bl) (pr := pr) (r := r) k
    have e : mg_U ce bl pr (r + (k + 1)) = mg_U ce bl pr (r + k) + mg_b (mg_p ce (r + k) = pr / 4) * (mg_n bl (r + k) + 1) := rfl
    rw [e]
    omega
theorem mg_U_le {ce bl : Nat → Int32} {pr r rc : Nat} (h : r ≤ rc) : mg_U ce bl pr r ≤ mg_U ce bl pr rc := by
  have := mg_U_mono (ce := ce) (bl := bl) (pr := pr) (r := r) (rc - r)
  rw [show r + (rc - r) = rc by omega] at this
  exact this
def mg_sm (f : Nat → Nat) : Nat → Nat
  | 0 => 0
  | k + 1 => mg_sm f k + f k
theorem mg_sm_le {f g : Nat → Nat} : ∀ {N : Nat}, (∀ k, k < N → f k ≤ g k) → mg_sm f N ≤ mg_sm g N
  | 0, _ => Nat.le_refl _
  | N + 1, h => by
    have a := mg_sm_le (f := f) (g := g) (N := N) (fun k hk => h k (by omega))
    have b := h N (by omega)
    simp only [mg_sm]; omega
theorem mg_sm_eq {f g : Nat → Nat} {N : Nat} (h : ∀ k, k < N → f k = g k) : mg_sm f N = mg_sm g N :=
  Nat.le_antisymm (mg_sm_le fun k hk => Nat.le_of_eq (h k hk)) (mg_sm_le fun k hk => Nat.le_of_eq (h k hk).symm)
theorem mg_sm_pt {f g : Nat → Nat} {a : Nat} : ∀ {N : Nat}, a < N → (∀ k, k < N → k ≠ a → f k = g k) → mg_sm f N + g a = mg_sm g N + f a
  | 0, h, _ => by omega
  | N + 1, h, e => by
    simp only [mg_sm]
    rcases Nat.lt_or_ge a N with z | z
    · have i := mg_sm_pt (f := f) (g := g) z (fun k hk => e k (by omega))
      have := e N (by omega) (by omega)
      omega
    · have ea : a = N := by omega
      subst ea
      have := mg_sm_eq (f := f) (g := g) (N := a) (fun k hk => e k (by omega) (by omega))
      omega
theorem mg_4b {p n : Nat} (hp : p < 4) (hn : n ≤ 3) : mg_b (p = 0) * (n + 1) + mg_b (p = 1) * (n + 1) + mg_b (p = 2) * (n + 1) + mg_b (p = 3) * (n + 1) ≤ 4 := by
  have h : p = 0 ∨ p = 1 ∨ p = 2 ∨ p = 3 := by omega
  rcases h with rfl | rfl | rfl | rfl
  · rw [mg_b_t (P := 0 = 0) rfl, mg_b_f (P := 0 = 1) (by omega), mg_b_f (P := 0 = 2) (by omega), mg_b_f (P := 0 = 3) (by omega)]; omega
  · rw [mg_b_t (P := 1 = 1) rfl, mg_b_f (P := 1 = 0) (by omega), mg_b_f (P := 1 = 2) (by omega), mg_b_f (P := 1 = 3) (by omega)]; omega
  · rw [mg_b_t (P := 2 = 2) rfl, mg_b_f (P := 2 = 0) (by omega), mg_b_f (P := 2 = 1) (by omega), mg_b_f (P := 2 = 3) (by omega)]; omega
  · rw [mg_b_t (P := 3 = 3) rfl, mg_b_f (P := 3 = 0) (by omega), mg_b_f (P := 3 = 1) (by omega), mg_b_f (P := 3 = 2) (by omega)]; omega
theorem mg_sm_add {f g : Nat → Nat} : ∀ N, mg_sm (fun k => f k + g k) N = mg_sm f N + mg_sm g N
  | 0 => rfl
  | N + 1 => by
    have := mg_sm_add (f := f) (g := g) N
    simp only [mg_sm]
    omega
theorem mg_sm_4 {p n : Nat} (hp : p < 4) (hn : n ≤ 3) : mg_sm (fun k => mg_b (p = k / 4) * (n + 1)) 16 ≤ 16 := by
  have b := mg_4b hp hn
  generalize e0 : mg_b (p = 0) * (n + 1) = a0 at b
  generalize e1 : mg_b (p = 1) * (n + 1) = a1 at b
  generalize e2 : mg_b (p = 2) * (n + 1) = a2 at b
  generalize e3 : mg_b (p = 3) * (n + 1) = a3 at b
  have h : mg_sm (fun k => mg_b (p = k / 4) * (n + 1)) 16 = 0 + a0 + a0 + a0 + a0 + a1 + a1 + a1 + a1 + a2 + a2 + a2 + a2 + a3 + a3 + a3 + a3 := by
    rw [← e0, ← e1, ← e2, ← e3]
    rfl
  omega
theorem mg_sm_U {ce bl : Nat → Int32} : ∀ rc, (∀ r, r < rc → mg_p ce r < 4 ∧ mg_n bl r ≤ 3) → mg_sm (fun k => mg_U ce bl k rc) 16 ≤ 16 + 16 * rc
  | 0, _ => by
    show mg_sm (fun _ => 1) 16 ≤ 16 + 16 * 0
    decide
  | rc + 1, h => by
    have ih := mg_sm_U (ce := ce) (bl := bl) rc (fun r hr => h r (by omega))
    have b := mg_sm_4 (h rc (by omega)).1 (h rc (by omega)).2
    have e := mg_sm_add (f := fun k => mg_U ce bl k rc) (g := fun k => mg_b (mg_p ce rc = k / 4) * (mg_n bl rc + 1)) 16
    have e2 : mg_sm (fun k => mg_U ce bl k (rc + 1)) 16 = mg_sm (fun k => mg_U ce bl k rc + mg_b (mg_p ce rc = k / 4) * (mg_n bl rc + 1)) 16 := rfl
    rw [e2, e]
    omega
section
variable {cC pC rL rC dO sC zP zQ qT gC aC fC bC nA gO rE : Int32} {ce bl kn qu aR aF aS gL iA aQ bP fr ba an : Nat → Int32}
theorem xx_rewritePair_61 {post : SX → Prop} {P : List mg_R} {C Pn pr rc m0 na0 : Nat} {iA0 aQ0 : Nat → Int32} (hC : 1 ≤ C ∧ C ≤ 5) (hP : Pn ≤ 4) (hrc : rc ≤ 8) (hok : mg_ok C Pn ce bl rc) (hpr : pr < 16) (hm : P.length = m0) (hm2 : m0 + mg_U ce bl pr rc ≤ 144)
    (K : ∀ L aR' aF' aS' gL' iA' aQ' na' bP', mg_GS (P ++ L) aR' aF' aS' gL' → L.length = mg_U ce bl pr rc → (∀ x, x ∈ L ↔ mg_pm ce bl rc pr x) → mg_wt iA0 aQ0 na0 iA' aQ' na' → (∀ x, iA' x ≠ 0 ↔ (iA0 x ≠ 0 ∨ ∃ r j, r < rc ∧ mg_p ce r = pr / 4 ∧ 1 ≤ j ∧ j ≤ mg_n bl r ∧ x = mg_bp ce r j (pr % 4))) → post (cC, pC, rL, nI rc, dO, sC, zP, zQ, qT, nI (m0 + mg_U ce bl pr rc), nI na', fC, bC, nA, gO, rE, ce, bl, kn, qu, aR', aF', aS', gL', iA', aQ', bP', fr, ba, an)) :
    ∀ n r L na aR aF aS gL iA aQ bP, rc < n + r → r ≤ rc → mg_GS (P ++ L) aR aF aS gL → L.length = mg_U ce bl pr r → (∀ x, x ∈ L ↔ mg_pm ce bl r pr x) → mg_wt iA0 aQ0 na0 iA aQ na → (∀ x, iA x ≠ 0 ↔ (iA0 x ≠ 0 ∨ ∃ r' j, r' < r ∧ mg_p ce r' = pr / 4 ∧ 1 ≤ j ∧ j ≤ mg_n bl r' ∧ x = mg_bp ce r' j (pr % 4))) →
    wX_rewritePair_61 post (nI pr) (nI (pr / 4)) n (nI r) cC pC rL (nI rc) dO sC zP zQ qT (nI (m0 + mg_U ce bl pr r)) (nI na) fC bC nA gO rE ce bl kn qu aR aF aS gL iA aQ bP fr ba an := by
  intro n
  induction n with
  | zero => intro r L na aR aF aS gL iA aQ bP h1 h2; omega
  | succ n ih =>
    intro r L na aR aF aS gL iA aQ bP h1 h2 hg hL hLm hwt hiA
    unfold wX_rewritePair_61
    refine pk_le rc r (fun e => ?_) (fun e => ?_)
    · have er : r = rc := by omega
      subst er
      exact K L aR aF aS gL iA aQ na bP hg hL hLm hwt hiA
    · have hro := (hok r e).1
      have hn := mg_ro_n hro
      have hao := hro.2 0 (by omega)
      rw [show 12 * r + 3 * 0 = 12 * r by omega] at hao
      have hp := mg_ao_p hP hao
      have hmo := mg_U_le (ce := ce) (bl := bl) (pr := pr) (show r + 1 ≤ rc by omega)
      have eU : mg_U ce bl pr (r + 1) = mg_U ce bl pr r + mg_b (mg_p ce r = pr / 4) * (mg_n bl r + 1) := rfl
      rw [mg_jx0]
      refine ⟨vp_in_nI (by omega) (by omega), ?_⟩
      rw [nI_clamp (show 12 * r < 2 ^ 31 by omega), hp.1]
      refine pk_eq (mg_p ce r) (pr / 4) (fun z => ?_) (fun z => ?_) rfl rfl (by show (ce (12 * r)).toNatClampNeg < _; omega)
      · rw [mg_b_t z, Nat.one_mul] at eU
        refine xx_rewriteRule (P := P ++ L) hC hP (by omega) hro hpr (by rw [List.length_append, hm, hL]) (by omega) hg hwt.1 (fun L' aR' aF' aS' gL' iA' aQ' na' bP' hg' hL' hLm' hwt' hiA' => ?_)
        refine nm_r (nI_1 r) ?_
        rw [show m0 + mg_U ce bl pr r + (mg_n bl r + 1) = m0 + mg_U ce bl pr (r + 1) by omega]
        refine ih (r + 1) (L ++ L') na' aR' aF' aS' gL' iA' aQ' bP' (by omega) (by omega) (by rw [← List.append_assoc]; exact hg') (by rw [List.length_append, hL, hL', eU]) (fun x => ?_) (mg_wt_tr hwt hwt') (fun x => ?_)
        · rw [List.mem_append, hLm, hLm']
          unfold mg_pm
          constructor
          · rintro ((h | ⟨r', r1, r2, h⟩) | h)
            · exact Or.inl h
            · exact Or.inr ⟨r', by omega, r2, h⟩
            · exact Or.inr ⟨r, by omega, z, h⟩
          · rintro (h | ⟨r', r1, r2, h⟩)
            · exact Or.inl (Or.inl h)
            · by_cases y : r' = r
              · subst y; exact Or.inr h
              · exact Or.inl (Or.inr ⟨r', by omega, r2, h⟩)
        · rw [hiA' x, hiA x]
          constructor
          · rintro ((h | ⟨r', j, r1, r2, h⟩) | ⟨j, h⟩)
            · exact Or.inl h
            · exact Or.inr ⟨r', j, by omega, r2, h⟩
            · exact Or.inr ⟨r, j, by omega, z, h⟩
          · rintro (h | ⟨r', j, r1, r2, h⟩)
            · exact Or.inl (Or.inl h)
            · by_cases y : r' = r
              · subst y; exact Or.inr ⟨j, h⟩
              · exact Or.inl (Or.inr ⟨r', j, by omega, r2, h⟩)
      · have eU : mg_U ce bl pr (r + 1) = mg_U ce bl pr r := by rw [eU, mg_b_f z, Nat.zero_mul, Nat.add_zero]
        refine nm_r (nI_1 r) ?_
        rw [← eU]
        refine ih (r + 1) L na aR aF aS gL iA aQ bP (by omega) (by omega) hg (by rw [eU]; exact hL) (fun x => ?_) hwt (fun x => ?_)
        · rw [hLm]
          unfold mg_pm
          constructor
          · rintro (h | ⟨r', r1, r2, h⟩)
            · exact Or.inl h
            · exact Or.inr ⟨r', by omega, r2, h⟩
          · rintro (h | ⟨r', r1, r2, h⟩)
            · exact Or.inl h
            · by_cases y : r' = r
              · subst y; exact absurd r2 z
              · exact Or.inr ⟨r', by omega, r2, h⟩
        · rw [hiA x]
          constructor
          · rintro (h | ⟨r', j, r1, r2, h⟩)
            · exact Or.inl h
            · exact Or.inr ⟨r', j, by omega, r2, h⟩
          · rintro (h | ⟨r', j, r1, r2, h⟩)
            · exact Or.inl h
            · by_cases y : r' = r
              · subst y; exact absurd r2 z
              · exact Or.inr ⟨r', j, by omega, r2, h⟩
theorem xx_rewritePair {post : SX → Prop} {P : List mg_R} {C Pn pr rc m0 na0 : Nat} (hC : 1 ≤ C ∧ C ≤ 5) (hP : Pn ≤ 4) (hrc : rc ≤ 8) (hok : mg_ok C Pn ce bl rc) (hpr : pr < 16) (hm : P.length = m0) (hm2 : m0 + mg_U ce bl pr rc ≤ 144) (hg : mg_GS P aR aF aS gL) (hW : mg_W iA aQ na0)
    (K : ∀ L aR' aF' aS' gL' iA' aQ' na' bP', mg_GS (P ++ L) aR' aF' aS' gL' → L.length = mg_U ce bl pr rc → (∀ x, x ∈ L ↔ mg_pm ce bl rc pr x) → mg_wt iA aQ na0 iA' aQ' na' → (∀ x, iA' x ≠ 0 ↔ (iA x ≠ 0 ∨ ∃ r j, r < rc ∧ mg_p ce r = pr / 4 ∧ 1 ≤ j ∧ j ≤ mg_n bl r ∧ x = mg_bp ce r j (pr % 4))) → post (cC, pC, rL, nI rc, dO, sC, zP, zQ, qT, nI (m0 + mg_U ce bl pr rc), nI na', fC, bC, nA, gO, rE, ce, bl, kn, qu, aR', aF', aS', gL', iA', aQ', bP', fr, ba, an)) :
    wpX_rewritePair post (cC, pC, rL, nI rc, dO, sC, zP, zQ, qT, nI m0, nI na0, fC, bC, nA, gO, rE, ce, bl, kn, qu, aR, aF, aS, gL, iA, aQ, bP, fr, ba, an) (nI pr) := by
  have hU0 := mg_U_le (ce := ce) (bl := bl) (pr := pr) (show 0 ≤ rc by omega)
  rw [show mg_U ce bl pr 0 = 1 from rfl] at hU0
  unfold wpX_rewritePair
  refine And.intro (by decide) (nm_r (e' := nI (pr / 4)) (pk_div (d := 4) (by omega) (by omega) (by omega)) (And.intro (by decide) (nm_r (e' := nI (pr % 4)) (pk_rem (d := 4) (by omega) (by omega) (by omega)) ?_)))
  refine xx_firstIfBound (by omega) (xx_secondIfBound (by omega) ?_)
  rw [mg_fb4, mg_sb4, show (8 : Int32) = nI 8 from rfl, nI_add]
  refine xx_openRule (P := P) (h := (8 + pr, -1, -2)) hm (by omega) hg (fun aR1 aF1 aS1 gL1 hg1 => ?_)
  dsimp only
  rw [show (24 : Int32) = nI 24 from rfl, nI_add]
  refine xx_addBody (P := P) (b := mg_ga pr (-1) (-2)) (bs := []) hm (by omega) (by show 0 < 4; omega) hg1 (fun aR2 aF2 aS2 gL2 hg2 => ?_)
  dsimp only
  rw [show (4 : Int32) = nI 4 from rfl, nI_add]
  refine xx_addBody (P := P) (b := (4 + pr / 4, -1, -2)) hm (by omega) (by show 1 < 4; omega) hg2 (fun aR3 aF3 aS3 gL3 hg3 => ?_)
  refine ⟨rc + 1, xx_rewritePair_61 hC hP hrc hok hpr hm hm2 K (rc + 1) 0 [mg_sr pr] na0 aR3 aF3 aS3 gL3 iA aQ bP (by omega) (by omega) hg3 rfl (fun x => ?_) (mg_wt_rf hW) (fun x => ⟨Or.inl, fun h => h.elim (fun h => h) (fun h => by obtain ⟨r, j, r1, _⟩ := h; omega)⟩)⟩
  rw [List.mem_singleton]
  exact ⟨Or.inl, fun h => h.elim (fun h => h) (fun h => by obtain ⟨r, r1, _⟩ := h; omega)⟩
end
end
section
/-! X: rewriteProgram; the rules are well formed -/
theorem mg_m1 {C : Nat} : mg_T C (-1) := Or.inl rfl
theorem mg_m2 {C : Nat} : mg_T C (-2) := Or.inr (Or.inl rfl)
theorem mg_fb_neg {d : Nat} {t u : Int32} (h : u = mg_fb d t) (h0 : u < 0) : d % 2 = 1 ∧ u = t := by
  unfold mg_fb at h
  by_cases z : d % 2 = 1
  · rw [if_pos z] at h; exact ⟨z, h⟩
  · rw [if_neg z] at h; rw [h] at h0; exact absurd h0 (by decide)
theorem mg_sb_neg {d : Nat} {t u : Int32} (h : u = mg_sb d t) (h0 : u < 0) : d / 2 % 2 = 1 ∧ u = t := by
  unfold mg_sb at h
  by_cases z : d / 2 % 2 = 1
  · rw [if_pos z] at h; exact ⟨z, h⟩
  · rw [if_neg z] at h; rw [h] at h0; exact absurd h0 (by decide)
theorem mg_b_1 {P : Prop} (h : mg_b P = 1) : P := by
  rcases Classical.em P with z | z
  · exact z
  · rw [mg_b_f z] at h; omega
theorem mg_pm_wf {C Pn rc pr : Nat} {ce bl : Nat → Int32} {x : mg_R} (hC : 1 ≤ C ∧ C ≤ 5) (hP : Pn ≤ 4) (hok : mg_ok C Pn ce bl rc) (hpr : pr < 16) (h : mg_pm ce bl rc pr x) : mg_wf C 200 800 x := by
  have ga : ∀ q s t, q < 16 → mg_T C s → mg_T C t → (mg_ga q s t).1 < 40 ∧ mg_T C (mg_ga q s t).2.1 ∧ mg_T C (mg_ga q s t).2.2 := fun q s t h1 h2 h3 => ⟨by show 24 + q < 40; omega, mg_fb_T hC.1 h2, mg_sb_T hC.1 h3⟩
  rcases h with rfl | ⟨r, hr, hp, h⟩
  · refine ⟨by show 2 ≤ 4; omega, fun a ha => ?_, by show 200 ≤ (8 + pr) * 25; omega, by show (8 + pr) * 25 + 25 ≤ 200 + 800; omega, ⟨mg_ga pr (-1) (-2), List.mem_cons_self .., by show 200 ≤ (24 + pr) * 25; omega, by show (24 + pr) * 25 + 25 ≤ 200 + 800; omega⟩, fun t ht _ => ⟨(4 + pr / 4, -1, -2), List.mem_cons_of_mem _ (List.mem_cons_self ..), ht⟩⟩
    rcases ha with rfl | ha
    · exact ⟨by show 8 + pr < 40; omega, mg_m1, mg_m2⟩
    · rcases List.mem_cons.mp ha with rfl | ha
      · exact ga pr _ _ hpr mg_m1 mg_m2
      · rw [List.mem_singleton.mp ha]
        exact ⟨by show 4 + pr / 4 < 40; omega, mg_m1, mg_m2⟩
  · obtain ⟨hro, hsf⟩ := hok r hr
    have hn := mg_ro_n hro
    have hao := hro.2 0 (by omega)
    rw [show 12 * r + 3 * 0 = 12 * r by omega] at hao
    -- a guard list
    have gp : ∀ b, b ≤ mg_n bl r → ∀ a, a ∈ mg_gp ce r pr (b + 1) → a.1 < 40 ∧ mg_T C a.2.1 ∧ mg_T C a.2.2 := fun b hb a ha => by
      rcases mg_mem_gp.mp ha with rfl | ⟨j, j1, j2, rfl⟩
      · exact ga pr _ _ hpr hao.2.1 hao.2.2
      · have hbp := mg_bp_lt (d := pr % 4) hP hok hr (show j ≤ mg_n bl r by omega)
        have haj := hro.2 j (by omega)
        exact ⟨by show 8 + mg_bp ce r j (pr % 4) < 40; omega, haj.2.1, haj.2.2⟩
    have gw : ∀ b, ∃ a, a ∈ mg_gp ce r pr (b + 1) ∧ 200 ≤ a.1 * 25 ∧ a.1 * 25 + 25 ≤ 200 + 800 := fun b => ⟨_, mg_mem_gp.mpr (Or.inl rfl), by show 200 ≤ (24 + pr) * 25; omega, by show (24 + pr) * 25 + 25 ≤ 200 + 800; omega⟩
    rcases h with rfl | ⟨i, i1, i2, rfl⟩
    · refine ⟨by show (mg_gp ce r pr (mg_n bl r + 1)).length ≤ 4; rw [mg_gp_l]; omega, fun a ha => ?_, by show 200 ≤ (8 + pr) * 25; omega, by show (8 + pr) * 25 + 25 ≤ 200 + 800; omega, gw _, fun t ht h0 => ?_⟩
      · rcases ha with rfl | ha
        · exact ⟨by show 8 + pr < 40; omega, hao.2.1, hao.2.2⟩
        · exact gp _ (Nat.le_refl _) a ha
      · obtain ⟨j, j1, j2, e⟩ := hsf.2 t ht h0
        exact ⟨_, mg_mem_gp.mpr (Or.inr ⟨j, j1, j2, rfl⟩), e⟩
    · have hbp := mg_bp_lt (d := pr % 4) hP hok hr i2
      have hai := hro.2 i i2
      obtain ⟨k, rfl⟩ : ∃ k, i = k + 1 := ⟨i - 1, by omega⟩
      have kp : ∀ t, t < 0 → mg_kp ce r k (pr % 4) t → ∃ a, a ∈ mg_gp ce r pr (k + 1) ∧ (t = a.2.1 ∨ t = a.2.2) := fun t h0 h => by
        rcases h with h | ⟨j, j1, j2, e⟩ | ⟨e1, e2⟩ | ⟨e1, e2⟩
        · exact absurd h0 h
        · exact ⟨_, mg_mem_gp.mpr (Or.inr ⟨j, j1, j2, rfl⟩), e.elim (fun e => Or.inl e.symm) (fun e => Or.inr e.symm)⟩
        · refine ⟨_, mg_mem_gp.mpr (Or.inl rfl), Or.inl ?_⟩
          show t = mg_fb pr (ce (12 * r + 1))
          rw [← mg_fb4, mg_fb, if_pos e1, e2]
        · refine ⟨_, mg_mem_gp.mpr (Or.inl rfl), Or.inr ?_⟩
          show t = mg_sb pr (ce (12 * r + 2))
          rw [← mg_sb4, mg_sb, if_pos e1, e2]
      refine ⟨by show (mg_gp ce r pr (k + 1)).length ≤ 4; rw [mg_gp_l]; omega, fun a ha => ?_, by show 200 ≤ (24 + mg_bp ce r (k + 1) (pr % 4)) * 25; omega, by show (24 + mg_bp ce r (k + 1) (pr % 4)) * 25 + 25 ≤ 200 + 800; omega, gw _, fun t ht h0 => ?_⟩
      · rcases ha with rfl | ha
        · exact ga _ _ _ hbp.1 hai.2.1 hai.2.2
        · exact gp _ (by omega) a ha
      · have b1 := mg_b_le (mg_kp ce r k (pr % 4) (ce (12 * r + 3 * (k + 1) + 1)))
        have b2 := mg_b_le (mg_kp ce r k (pr % 4) (ce (12 * r + 3 * (k + 1) + 2)))
        have ead : mg_bp ce r (k + 1) (pr % 4) % 4 = mg_b (mg_kp ce r k (pr % 4) (ce (12 * r + 3 * (k + 1) + 1))) + 2 * mg_b (mg_kp ce r k (pr % 4) (ce (12 * r + 3 * (k + 1) + 2))) := hbp.2.1
        rcases ht with ht | ht
        · obtain ⟨e1, e2⟩ := mg_fb_neg ht h0
          rw [e2]
          rw [e2] at h0
          exact kp _ h0 (mg_b_1 (by omega))
        · obtain ⟨e1, e2⟩ := mg_sb_neg ht h0
          rw [e2]
          rw [e2] at h0
          exact kp _ h0 (mg_b_1 (by omega))
/-- the state of rewriteProgram's loop ahead of the i-th pair -/
def mg_RP (ce bl : Nat → Int32) (rc q : Nat) (P : List mg_R) (iA aQ : Nat → Int32) (na i : Nat) : Prop :=
  P.length = mg_sm (fun k => mg_b (∃ i', i' < i ∧ aQ i' = nI k) * mg_U ce bl k rc) 16 ∧ mg_W iA aQ na ∧ (∀ x, x < 16 → iA x ≠ 0 → mg_as ce bl rc q x) ∧ iA q ≠ 0 ∧
  (∀ x, x ∈ P ↔ ∃ pr, pr < 16 ∧ (∃ i', i' < i ∧ aQ i' = nI pr) ∧ mg_pm ce bl rc pr x) ∧
  (∀ i' pr, i' < i → pr < 16 → aQ i' = nI pr → ∀ r j, r < rc → mg_p ce r = pr / 4 → 1 ≤ j → j ≤ mg_n bl r → iA (mg_bp ce r j (pr % 4)) ≠ 0)
theorem mg_RP_step {C Pn rc q : Nat} {ce bl : Nat → Int32} {P L : List mg_R} {iA aQ iA' aQ' : Nat → Int32} {na na' i pr : Nat} (hP : Pn ≤ 4) (hok : mg_ok C Pn ce bl rc) (h : mg_RP ce bl rc q P iA aQ na i) (hi : i < na) (hpr : pr < 16) (e : aQ i = nI pr)
    (hL : L.length = mg_U ce bl pr rc) (hLm : ∀ x, x ∈ L ↔ mg_pm ce bl rc pr x) (hwt : mg_wt iA aQ na iA' aQ' na') (hiA : ∀ x, iA' x ≠ 0 ↔ (iA x ≠ 0 ∨ ∃ r j, r < rc ∧ mg_p ce r = pr / 4 ∧ 1 ≤ j ∧ j ≤ mg_n bl r ∧ x = mg_bp ce r j (pr % 4))) :
    mg_RP ce bl rc q (P ++ L) iA' aQ' na' (i + 1) := by
  obtain ⟨h1, h2, h3, h4, h5, h6⟩ := h
  have pre : ∀ i', i' < i + 1 → aQ' i' = aQ i' := fun i' hi' => hwt.2.2.1 i' (by omega)
  have new : ¬ ∃ i', i' < i ∧ aQ i' = nI pr := fun ⟨i', h1, h2'⟩ => by
    have := h2.2.2.2 i' i (by omega) hi (by rw [h2', e])
    omega
  have hpr' : mg_as ce bl rc q pr := by
    obtain ⟨x, e1, e2, e3⟩ := h2.1 i hi
    rw [e, nI_eq (by omega) (by omega)] at e1
    rw [e1]
    exact h3 x e2 e3
  have sub : ∀ k, k < 16 → ((∃ i', i' < i + 1 ∧ aQ' i' = nI k) ↔ ((∃ i', i' < i ∧ aQ i' = nI k) ∨ k = pr)) := fun k hk => by
    constructor
    · rintro ⟨i', hi', e'⟩
      rw [pre i' hi'] at e'
      by_cases z : i' = i
      · rw [z, e, nI_eq (by omega) (by omega)] at e'
        exact Or.inr e'.symm
      · exact Or.inl ⟨i', by omega, e'⟩
    · rintro (⟨i', hi', e'⟩ | z)
      · exact ⟨i', by omega, by rw [pre i' (by omega)]; exact e'⟩
      · exact ⟨i, by omega, by rw [pre i (by omega), z]; exact e⟩
  refine ⟨?_, hwt.1, fun x hx hx' => ?_, hwt.2.2.2 q h4, fun x => ?_, fun i' p hi' hp e' r j r1 r2 j1 j2 => ?_⟩
  · have pt := mg_sm_pt (f := fun k => mg_b (∃ i', i' < i + 1 ∧ aQ' i' = nI k) * mg_U ce bl k rc) (g := fun k => mg_b (∃ i', i' < i ∧ aQ i' = nI k) * mg_U ce bl k rc) hpr (fun k hk hne => by
      rw [mg_b_iff (sub k hk), mg_b_iff (show ((∃ i', i' < i ∧ aQ i' = nI k) ∨ k = pr) ↔ (∃ i', i' < i ∧ aQ i' = nI k) from ⟨fun h => h.elim (fun h => h) (fun h => absurd h hne), Or.inl⟩)])
    rw [mg_b_t ((sub pr hpr).mpr (Or.inr rfl)), mg_b_f new, Nat.zero_mul, Nat.one_mul] at pt
    rw [List.length_append, hL, h1]
    omega
  · rcases (hiA x).mp hx' with g | ⟨r, j, r1, r2, j1, j2, e'⟩
    · exact h3 x hx g
    · rw [e']
      exact mg_as_c pr hpr' r r1 r2 j j1 j2
  · rw [List.mem_append, h5, hLm]
    constructor
    · rintro (⟨p, p1, p2, p3⟩ | g)
      · exact ⟨p, p1, (sub p p1).mpr (Or.inl p2), p3⟩
      · exact ⟨pr, hpr, (sub pr hpr).mpr (Or.inr rfl), g⟩
    · rintro ⟨p, p1, p2, p3⟩
      rcases (sub p p1).mp p2 with g | g
      · exact Or.inl ⟨p, p1, g, p3⟩
      · rw [g] at p3; exact Or.inr p3
  · rw [hiA]
    rcases (sub p hp).mp ⟨i', hi', e'⟩ with ⟨i2, g1, g2⟩ | g
    · exact Or.inl (h6 i2 p g1 hp g2 r j r1 r2 j1 j2)
    · rw [g] at r2 ⊢
      exact Or.inr ⟨r, j, r1, r2, j1, j2, rfl⟩
theorem mg_RP_end {C Pn rc q : Nat} {ce bl : Nat → Int32} {P : List mg_R} {iA aQ : Nat → Int32} {na i : Nat} (hP : Pn ≤ 4) (hok : mg_ok C Pn ce bl rc) (hq : q < 16) (h : mg_RP ce bl rc q P iA aQ na i) (hi : na ≤ i) (hi2 : i ≤ na) :
    (∀ x, x < 16 → (iA x ≠ 0 ↔ mg_as ce bl rc q x)) ∧ (∀ x, x ∈ P ↔ ∃ pr, mg_as ce bl rc q pr ∧ mg_pm ce bl rc pr x) := by
  obtain ⟨h1, h2, h3, h4, h5, h6⟩ := h
  have key : ∀ x, mg_as ce bl rc q x → x < 16 ∧ iA x ≠ 0 := fun x hx => by
    refine hx (fun x => x < 16 ∧ iA x ≠ 0) ⟨hq, h4⟩ (fun x hx r hr hp j j1 j2 => ⟨(mg_bp_lt hP hok hr j2).1, ?_⟩)
    obtain ⟨i', hi', e⟩ := h2.2.1 x hx.1 hx.2
    exact h6 i' x (by omega) hx.1 e r j hr hp j1 j2
  refine ⟨fun x hx => ⟨h3 x hx, fun h => (key x h).2⟩, fun x => ?_⟩
  rw [h5]
  constructor
  · rintro ⟨pr, p1, ⟨i', i1, e⟩, p3⟩
    obtain ⟨y, e1, e2, e3⟩ := h2.1 i' (by omega)
    rw [e, nI_eq (by omega) (by omega)] at e1
    rw [← e1] at e3
    exact ⟨pr, h3 pr p1 e3, p3⟩
  · rintro ⟨pr, p1, p2⟩
    obtain ⟨k1, k2⟩ := key pr p1
    obtain ⟨i', hi', e⟩ := h2.2.1 pr k1 k2
    exact ⟨pr, k1, ⟨i', by omega, e⟩, p2⟩
section
variable {cC pC rL rC dO sC zP zQ qT gC aC fC bC nA gO rE : Int32} {ce bl kn qu aR aF aS gL iA aQ bP fr ba an : Nat → Int32}
theorem xx_rewriteProgram_33 {post : SX → Prop} {C Pn rc q : Nat} (hC : 1 ≤ C ∧ C ≤ 5) (hP : Pn ≤ 4) (hrc : rc ≤ 8) (hok : mg_ok C Pn ce bl rc) (hq : q < 16)
    (K : ∀ P aR aF aS gL iA aQ na bP, mg_GS P aR aF aS gL → P.length ≤ 144 → (∀ x, x ∈ P ↔ ∃ pr, mg_as ce bl rc q pr ∧ mg_pm ce bl rc pr x) → (∀ x, x < 16 → (iA x ≠ 0 ↔ mg_as ce bl rc q x)) → post (cC, pC, rL, nI rc, dO, sC, zP, zQ, qT, nI P.length, nI na, fC, bC, nA, gO, rE, ce, bl, kn, qu, aR, aF, aS, gL, iA, aQ, bP, fr, ba, an)) :
    ∀ n i P aR aF aS gL iA aQ na bP, 16 < n + i → i ≤ na → mg_GS P aR aF aS gL → mg_RP ce bl rc q P iA aQ na i →
    wX_rewriteProgram_33 post n (nI i) cC pC rL (nI rc) dO sC zP zQ qT (nI P.length) (nI na) fC bC nA gO rE ce bl kn qu aR aF aS gL iA aQ bP fr ba an := by
  have hU : mg_sm (fun k => mg_U ce bl k rc) 16 ≤ 144 := by
    have := mg_sm_U (ce := ce) (bl := bl) rc (fun r hr => by
      have hro := (hok r hr).1
      have hao := hro.2 0 (by omega)
      rw [show 12 * r + 3 * 0 = 12 * r by omega] at hao
      have := (mg_ao_p hP hao).2
      exact ⟨by show (ce (12 * r)).toNatClampNeg < 4; omega, (mg_ro_n hro).2⟩)
    omega
  have le : ∀ (aQ : Nat → Int32) (i : Nat), mg_sm (fun k => mg_b (∃ i', i' < i ∧ aQ i' = nI k) * mg_U ce bl k rc) 16 ≤ 144 := fun aQ i => by
    refine Nat.le_trans (mg_sm_le (fun k _ => ?_)) hU
    have := mg_b_le (∃ i', i' < i ∧ aQ i' = nI k)
    exact Nat.le_trans (Nat.mul_le_mul_right _ this) (by rw [Nat.one_mul]; exact Nat.le_refl _)
  intro n
  induction n with
  | zero => intro i P aR aF aS gL iA aQ na bP h1 h2 _ h4; have := mg_cn_le (mg_s iA) 16; have := h4.2.1.2.2.1; omega
  | succ n ih =>
    intro i P aR aF aS gL iA aQ na bP h1 h2 hg hR
    have hna : na ≤ 16 := by have := mg_cn_le (mg_s iA) 16; have := hR.2.1.2.2.1; omega
    have fin : na ≤ i → post (cC, pC, rL, nI rc, dO, sC, zP, zQ, qT, nI P.length, nI na, fC, bC, nA, gO, rE, ce, bl, kn, qu, aR, aF, aS, gL, iA, aQ, bP, fr, ba, an) := fun e => by
      have en := mg_RP_end hP hok hq hR e h2
      exact K P aR aF aS gL iA aQ na bP hg (by rw [hR.1]; exact le aQ i) en.2 en.1
    unfold wX_rewriteProgram_33
    refine pk_le 16 i (fun e => fin (by omega)) (fun e => pk_le na i (fun e => fin e) (fun e => ⟨vp_in_nI (by omega) (by omega), ?_⟩))
    obtain ⟨pr, e1, e2, e3⟩ := hR.2.1.1 i e
    rw [nI_clamp (show i < 2 ^ 31 by omega), e1]
    have room : P.length + mg_U ce bl pr rc ≤ 144 := by
      have l2 := le aQ (i + 1)
      have pt := mg_sm_pt (f := fun k => mg_b (∃ i', i' < i + 1 ∧ aQ i' = nI k) * mg_U ce bl k rc) (g := fun k => mg_b (∃ i', i' < i ∧ aQ i' = nI k) * mg_U ce bl k rc) e2 (fun k hk hne => by
        rw [mg_b_iff (show (∃ i', i' < i + 1 ∧ aQ i' = nI k) ↔ (∃ i', i' < i ∧ aQ i' = nI k) from ⟨fun ⟨i', a1, a2⟩ => ⟨i', by
          by_cases z : i' = i
          · rw [z, e1, nI_eq (by omega) (by omega)] at a2
            exact absurd a2.symm hne
          · omega, a2⟩, fun ⟨i', a1, a2⟩ => ⟨i', by omega, a2⟩⟩)])
      rw [mg_b_t (P := ∃ i', i' < i + 1 ∧ aQ i' = nI pr) ⟨i, by omega, e1⟩, mg_b_f (P := ∃ i', i' < i ∧ aQ i' = nI pr) (fun ⟨i', a1, a2⟩ => by have := hR.2.1.2.2.2 i' i (by omega) e (by rw [a2, e1]); omega), Nat.zero_mul, Nat.one_mul] at pt
      have := hR.1
      omega
    refine xx_rewritePair (P := P) hC hP hrc hok e2 rfl room hg hR.2.1 (fun L aR' aF' aS' gL' iA' aQ' na' bP' hg' hL' hLm' hwt' hiA' => ?_)
    refine nm_r (nI_1 i) ?_
    rw [show P.length + mg_U ce bl pr rc = (P ++ L).length by rw [List.length_append, hL']]
    exact ih (i + 1) (P ++ L) aR' aF' aS' gL' iA' aQ' na' bP' (by omega) (by have := hwt'.2.1; omega) hg' (mg_RP_step hP hok hR e e2 e1 hL' hLm' hwt' hiA')
theorem xx_rewriteProgram_2 {post : SX → Prop} {C Pn rc q : Nat} (hC : 1 ≤ C ∧ C ≤ 5) (hP : Pn ≤ 4) (hrc : rc ≤ 8) (hok : mg_ok C Pn ce bl rc) (hq : q < 16)
    (K : ∀ P aR aF aS gL iA aQ na bP, mg_GS P aR aF aS gL → P.length ≤ 144 → (∀ x, x ∈ P ↔ ∃ pr, mg_as ce bl rc q pr ∧ mg_pm ce bl rc pr x) → (∀ x, x < 16 → (iA x ≠ 0 ↔ mg_as ce bl rc q x)) → post (cC, pC, rL, nI rc, dO, sC, zP, zQ, qT, nI P.length, nI na, fC, bC, nA, gO, rE, ce, bl, kn, qu, aR, aF, aS, gL, iA, aQ, bP, fr, ba, an)) :
    ∀ n i iA, 16 < n + i → i ≤ 16 → (∀ k, k < i → iA k = 0) → wX_rewriteProgram_2 post (nI q) cC pC rL (nI rc) dO sC zP zQ qT (nI 0) aC fC bC nA gO rE n (nI i) ce bl kn qu aR aF aS gL iA aQ bP fr ba an := by
  intro n
  induction n with
  | zero => intro i iA h1 h2; omega
  | succ n ih =>
    intro i iA h1 h2 h3
    unfold wX_rewriteProgram_2
    refine pk_le 16 i (fun e => ?_) (fun e => ⟨vp_in_nI (by omega) (by omega), ?_⟩)
    · have hc : mg_cn (mg_s iA) 16 = 0 := mg_cn_0 (fun k hk h => h (h3 k (by omega)))
      refine xx_request (na := 0) hq ⟨fun i hi => by omega, fun x hx h => absurd (h3 x (by omega)) h, hc, fun i j hi => by omega⟩ (fun iA' aQ' na' hwt hiA => ?_)
      refine ⟨17, xx_rewriteProgram_33 hC hP hrc hok hq K 17 0 [] aR aF aS gL iA' aQ' na' bP (by omega) (by omega) ⟨fun r hr => absurd hr (by simp), fun g r hg => absurd hg (by simp)⟩ ⟨?_, hwt.1, fun x hx h => ?_, (hiA q).mpr (Or.inr rfl), fun x => ⟨fun h => absurd h (by simp), fun h => by obtain ⟨pr, _, ⟨i', h, _⟩, _⟩ := h; omega⟩, fun i' pr h => by omega⟩⟩
      · have : mg_sm (fun k => mg_b (∃ i', i' < 0 ∧ aQ' i' = nI k) * mg_U ce bl k rc) 16 ≤ mg_sm (fun _ => 0) 16 := mg_sm_le (fun k _ => by rw [mg_b_f (fun ⟨i', h, _⟩ => by omega), Nat.zero_mul]; exact Nat.le_refl _)
        have e0 : mg_sm (fun _ => 0) 16 = 0 := rfl
        show 0 = _
        omega
      · rcases (hiA x).mp h with g | g
        · exact absurd (h3 x (by omega)) g
        · rw [g]; exact mg_as_q
    · rw [nI_clamp (show i < 2 ^ 31 by omega)]
      refine nm_e (nm_r (nI_1 i) (ih (i + 1) (upd iA i (vp_nar .boolean 0)) (by omega) (by omega) (fun k hk => ?_)))
      by_cases z : k = i
      · subst z; exact pk_us
      · rw [pk_un z]; exact h3 k (by omega)
theorem xx_rewriteProgram {post : SX → Prop} {C Pn rc q : Nat} (hC : 1 ≤ C ∧ C ≤ 5) (hP : Pn ≤ 4) (hrc : rc ≤ 8) (hok : mg_ok C Pn ce bl rc) (hq : q < 16)
    (K : ∀ P aR aF aS gL iA aQ na bP, mg_GS P aR aF aS gL → P.length ≤ 144 → (∀ x, x ∈ P ↔ ∃ pr, mg_as ce bl rc q pr ∧ mg_pm ce bl rc pr x) → (∀ x, x < 16 → (iA x ≠ 0 ↔ mg_as ce bl rc q x)) → post (cC, pC, rL, nI rc, dO, sC, zP, zQ, qT, nI P.length, nI na, fC, bC, nA, gO, rE, ce, bl, kn, qu, aR, aF, aS, gL, iA, aQ, bP, fr, ba, an)) :
    wpX_rewriteProgram post (cC, pC, rL, nI rc, dO, sC, zP, zQ, qT, 0, aC, fC, bC, nA, gO, rE, ce, bl, kn, qu, aR, aF, aS, gL, iA, aQ, bP, fr, ba, an) (nI q) := by
  unfold wpX_rewriteProgram
  exact ⟨17, xx_rewriteProgram_2 hC hP hrc hok hq K 17 0 iA (by omega) (by omega) (fun k hk => by omega)⟩
end
end
section
/-! both: checks and row copies -/
def mg_po (Pn : Nat) (p : Int32) : Prop := ∃ p', p' < Pn ∧ p = nI p'
theorem mg_po_of {Pn : Nat} {p : Int32} (hP : Pn ≤ 5) (h0 : ¬ p < 0) (h1 : ¬ nI Pn ≤ p) : mg_po Pn p := by
  obtain ⟨j, hj, rfl⟩ := nI_of h0
  rw [nI_leI (by omega) hj] at h1
  exact ⟨j, by omega, rfl⟩
theorem mg_po_of' {Pn : Nat} {p : Int32} (hP : Pn ≤ 5) (h0 : ¬ p < 0) (h1 : p < nI Pn) : mg_po Pn p := by
  obtain ⟨j, hj, rfl⟩ := nI_of h0
  rw [nI_ltI hj (by omega)] at h1
  exact ⟨j, h1, rfl⟩
theorem mg_po_1 {Pn : Nat} {p : Int32} (hP : Pn ≤ 5) (h : mg_po Pn p) : ¬ p < 0 := by
  obtain ⟨j, hj, rfl⟩ := h
  exact nI_pos (by omega)
theorem mg_po_2 {Pn : Nat} {p : Int32} (hP : Pn ≤ 5) (h : mg_po Pn p) : ¬ nI Pn ≤ p := by
  obtain ⟨j, hj, rfl⟩ := h
  exact nI_ge hj (by omega)
theorem mg_po_3 {Pn : Nat} {p : Int32} (hP : Pn ≤ 5) (h : mg_po Pn p) : p < nI Pn := by
  obtain ⟨j, hj, rfl⟩ := h
  exact nI_lt hj (by omega)
def mg_aok (C Pn : Nat) (p s t : Int32) : Prop := mg_po Pn p ∧ mg_T C s ∧ mg_T C t
def mg_fok (C Pn : Nat) (p x y : Int32) : Prop := mg_po Pn p ∧ mg_po C x ∧ mg_po C y
theorem mg_po_T {C : Nat} {x : Int32} (h : mg_po C x) : mg_T C x := Or.inr (Or.inr (Or.inr h))
section
variable {cC pC rL rC dO sC zP zQ qT gC aC fC bC nA gO rE : Int32} {ce bl kn qu aR aF aS gL iA aQ bP fr ba an : Nat → Int32}
theorem xx_isAtom {post : Int32 → Prop} {C Pn : Nat} {p s t : Int32} (hC : C ≤ 5) (hP : Pn ≤ 4) (h1 : mg_aok C Pn p s t → post 1) (h0 : ¬ mg_aok C Pn p s t → post 0) : wpX_isAtom post (nI C, nI Pn, rL, rC, dO, sC, zP, zQ, qT, gC, aC, fC, bC, nA, gO, rE, ce, bl, kn, qu, aR, aF, aS, gL, iA, aQ, bP, fr, ba, an) p s t := by
  unfold wpX_isAtom
  exact br_c (fun a => h0 (fun h => mg_po_1 (by omega) h.1 a)) (fun a => br_c (fun b => h0 (fun h => mg_po_2 (by omega) h.1 b)) (fun b => br_c (fun c => h0 (fun h => (mg_T_to hC h.2.1).1 c)) (fun c => br_c (fun d => h0 (fun h => (mg_T_to hC h.2.1).2 d)) (fun d => br_c (fun e => h0 (fun h => (mg_T_to hC h.2.2).1 e)) (fun e => br_c (fun f => h0 (fun h => (mg_T_to hC h.2.2).2 f)) (fun f => h1 ⟨mg_po_of (by omega) a b, mg_T_of hC c d, mg_T_of hC e f⟩))))))
theorem xx_isFact {post : Int32 → Prop} {C Pn : Nat} {p s t : Int32} (hC : C ≤ 5) (hP : Pn ≤ 4) (h1 : mg_fok C Pn p s t → post 1) (h0 : ¬ mg_fok C Pn p s t → post 0) : wpX_isFact post (nI C, nI Pn, rL, rC, dO, sC, zP, zQ, qT, gC, aC, fC, bC, nA, gO, rE, ce, bl, kn, qu, aR, aF, aS, gL, iA, aQ, bP, fr, ba, an) p s t := by
  unfold wpX_isFact
  refine xx_isAtom hC hP (fun h => br_f mg_10 (br_c (fun a => h0 (fun g => mg_po_1 hC g.2.1 a)) (fun a => br_c (fun b => h0 (fun g => mg_po_1 hC g.2.2 b)) (fun b => h1 ⟨h.1, mg_T_pos h.2.1 a, mg_T_pos h.2.2 b⟩)))) (fun h => br_t rfl (h0 (fun g => h ⟨g.1, mg_po_T g.2.1, mg_po_T g.2.2⟩)))
theorem xx_isPair {post : Int32 → Prop} {Pn : Nat} {p d : Int32} (hP : Pn ≤ 4) (h1 : mg_po Pn p ∧ mg_po 4 d → post 1) (h0 : ¬ (mg_po Pn p ∧ mg_po 4 d) → post 0) : wpX_isPair post (cC, nI Pn, rL, rC, dO, sC, zP, zQ, qT, gC, aC, fC, bC, nA, gO, rE, ce, bl, kn, qu, aR, aF, aS, gL, iA, aQ, bP, fr, ba, an) p d := by
  unfold wpX_isPair
  refine br_c (fun a => h0 (fun h => mg_po_1 (by omega) h.1 a)) (fun a => br_c (fun b => h0 (fun h => mg_po_2 (by omega) h.1 b)) (fun b => br_c (fun c => h0 (fun h => mg_po_1 (by omega) h.2 c)) (fun c => br_c (fun e => h0 (fun h => ?_)) (fun e => h1 ⟨mg_po_of (by omega) a b, mg_po_of (by omega) c (fun g => e ?_)⟩))))
  · obtain ⟨j, hj, rfl⟩ := h.2
    exact absurd e (nI_nlt (b := j) (a := 3) (by omega) (by omega))
  · obtain ⟨j, hj, rfl⟩ := nI_of c
    have := (nI_leI (a := 4) (b := j) (by omega) hj).mp g
    exact nI_lt (a := 3) (b := j) (by omega) hj
theorem xx_flag {post : Int32 → Prop} {r x y : Nat} (h : r * 25 + x * 5 + y < 1000) (h0 : kn (r * 25 + x * 5 + y) = 0 → post 0) (h1 : kn (r * 25 + x * 5 + y) ≠ 0 → post 1) : wpX_flag post (cC, pC, rL, rC, dO, sC, zP, zQ, qT, gC, aC, fC, bC, nA, gO, rE, ce, bl, kn, qu, aR, aF, aS, gL, iA, aQ, bP, fr, ba, an) (nI r) (nI x) (nI y) := by
  unfold wpX_flag
  have e : nI r * 25 + nI x * 5 + nI y = nI (r * 25 + x * 5 + y) := by rw [show (25 : Int32) = nI 25 from rfl, show (5 : Int32) = nI 5 from rfl, pk_mul, pk_mul, nI_add, nI_add]
  rw [e]
  refine And.intro (vp_in_nI h (by omega)) ?_
  rw [nI_clamp (show r * 25 + x * 5 + y < 2 ^ 31 by omega)]
  exact br_c h0 h1
end
section
variable {cC pC rL rC qp qs qt dO zP zQ : Int32} {ce bl fa mo pa go : Nat → Int32}
theorem yy_badPred {post : Int32 → Prop} {Pn : Nat} {p : Int32} (hP : Pn ≤ 4) (h0 : mg_po Pn p → post 0) (h1 : ¬ mg_po Pn p → post 1) : wpY_badPred post (cC, nI Pn, rL, rC, qp, qs, qt, dO, zP, zQ, ce, bl, fa, mo, pa, go) p := by
  unfold wpY_badPred
  exact br_c (fun a => h1 (fun h => mg_po_1 (by omega) h a)) (fun a => br_c (fun b => h0 (mg_po_of' (by omega) a b)) (fun b => h1 (fun h => b (mg_po_3 (by omega) h))))
theorem yy_badCon {post : Int32 → Prop} {C : Nat} {x : Int32} (hC : C ≤ 5) (h0 : mg_po C x → post 0) (h1 : ¬ mg_po C x → post 1) : wpY_badCon post (nI C, pC, rL, rC, qp, qs, qt, dO, zP, zQ, ce, bl, fa, mo, pa, go) x := by
  unfold wpY_badCon
  exact br_c (fun a => h1 (fun h => mg_po_1 (by omega) h a)) (fun a => br_c (fun b => h0 (mg_po_of' (by omega) a b)) (fun b => h1 (fun h => b (mg_po_3 (by omega) h))))
theorem yy_badFact {post : Int32 → Prop} {C Pn : Nat} {p s t : Int32} (hC : C ≤ 5) (hP : Pn ≤ 4) (h0 : mg_fok C Pn p s t → post 0) (h1 : ¬ mg_fok C Pn p s t → post 1) : wpY_badFact post (nI C, nI Pn, rL, rC, qp, qs, qt, dO, zP, zQ, ce, bl, fa, mo, pa, go) p s t := by
  unfold wpY_badFact
  refine yy_badPred hP (fun a => br_t rfl (yy_badCon hC (fun b => br_t rfl (yy_badCon hC (fun c => br_t rfl (h0 ⟨a, b, c⟩)) (fun c => br_f mg_10 (h1 (fun h => c h.2.2))))) (fun b => br_f mg_10 (h1 (fun h => b h.2.1))))) (fun a => br_f mg_10 (h1 (fun h => a h.1)))
theorem yy_badAtom {post : Int32 → Prop} {C Pn : Nat} {p s t : Int32} (hC : C ≤ 5) (hP : Pn ≤ 4) (h0 : mg_aok C Pn p s t → post 0) (h1 : ¬ mg_aok C Pn p s t → post 1) : wpY_badAtom post (nI C, nI Pn, rL, rC, qp, qs, qt, dO, zP, zQ, ce, bl, fa, mo, pa, go) p s t := by
  unfold wpY_badAtom
  refine yy_badPred hP (fun a => br_t rfl (br_c (fun c => h1 (fun h => (mg_T_to hC h.2.1).1 c)) (fun c => br_c (fun d => h1 (fun h => (mg_T_to hC h.2.1).2 d)) (fun d => br_c (fun e => h1 (fun h => (mg_T_to hC h.2.2).1 e)) (fun e => br_c (fun f => h0 ⟨a, mg_T_of hC c d, mg_T_of hC e (Int32.not_le.mpr f)⟩) (fun f => h1 (fun h => (mg_T_to hC h.2.2).2 (Int32.not_lt.mp f)))))))) (fun a => br_f mg_10 (h1 (fun h => a h.1)))
end
/-! rows -/
def mg_cr (ce : Nat → Int32) (f t : Nat) : Nat → (Nat → Int32)
  | 0 => ce
  | k + 1 => upd (mg_cr ce f t k) (12 * t + k) (mg_cr ce f t k (12 * f + k))
theorem mg_cr_lo {ce : Nat → Int32} {f t j : Nat} : ∀ k, k ≤ 12 → (j < 12 * t ∨ 12 * t + k ≤ j) → mg_cr ce f t k j = ce j
  | 0, _, _ => rfl
  | k + 1, hk, h => by
    show upd (mg_cr ce f t k) (12 * t + k) (mg_cr ce f t k (12 * f + k)) j = ce j
    rw [pk_un (by omega)]
    exact mg_cr_lo k (by omega) (by omega)
theorem mg_cr_at {ce : Nat → Int32} {f t i : Nat} (hft : f ≠ t) : ∀ k, k ≤ 12 → i < k → mg_cr ce f t k (12 * t + i) = ce (12 * f + i)
  | 0, _, h => by omega
  | k + 1, hk, h => by
    show upd (mg_cr ce f t k) (12 * t + k) (mg_cr ce f t k (12 * f + k)) (12 * t + i) = ce (12 * f + i)
    by_cases z : i = k
    · subst z
      rw [pk_us]
      exact mg_cr_lo i (by omega) (by omega)
    · rw [pk_un (by omega)]
      exact mg_cr_at hft k (by omega) (by omega)
section
variable {cC pC rL rC dO sC zP zQ qT gC aC fC bC nA gO rE : Int32} {ce bl kn qu aR aF aS gL iA aQ bP fr ba an : Nat → Int32}
theorem xx_copyRow_2 {post : SX → Prop} {f t : Nat} (hf : f ≤ 8) (ht : t ≤ 8) (K : post (cC, pC, rL, rC, dO, sC, zP, zQ, qT, gC, aC, fC, bC, nA, gO, rE, mg_cr ce f t 12, upd bl t (bl f), kn, qu, aR, aF, aS, gL, iA, aQ, bP, fr, ba, an)) :
    ∀ n k, 12 < n + k → k ≤ 12 → wX_copyRow_2 post (nI f) (nI t) cC pC rL rC dO sC zP zQ qT gC aC fC bC nA gO rE n (nI k) (mg_cr ce f t k) bl kn qu aR aF aS gL iA aQ bP fr ba an := by
  intro n
  induction n with
  | zero => intro k h1 h2; omega
  | succ n ih =>
    intro k h1 h2
    unfold wX_copyRow_2
    refine pk_le 12 k (fun e => ?_) (fun e => ?_)
    · have ek : k = 12 := by omega
      subst ek
      refine ⟨vp_in_nI (by omega) (by omega), vp_in_nI (by omega) (by omega), ?_⟩
      rw [nI_clamp (show t < 2 ^ 31 by omega), nI_clamp (show f < 2 ^ 31 by omega)]
      exact nm_e K
    · rw [mg_jx0, mg_jx0, nI_add, nI_add]
      refine ⟨vp_in_nI (by omega) (by omega), vp_in_nI (by omega) (by omega), ?_⟩
      rw [nI_clamp (show 12 * f + k < 2 ^ 31 by omega), nI_clamp (show 12 * t + k < 2 ^ 31 by omega)]
      exact nm_e (nm_r (nI_1 k) (ih (k + 1) (by omega) (by omega)))
theorem xx_copyRow {post : SX → Prop} {f t : Nat} (hf : f ≤ 8) (ht : t ≤ 8) (K : post (cC, pC, rL, rC, dO, sC, zP, zQ, qT, gC, aC, fC, bC, nA, gO, rE, mg_cr ce f t 12, upd bl t (bl f), kn, qu, aR, aF, aS, gL, iA, aQ, bP, fr, ba, an)) : wpX_copyRow post (cC, pC, rL, rC, dO, sC, zP, zQ, qT, gC, aC, fC, bC, nA, gO, rE, ce, bl, kn, qu, aR, aF, aS, gL, iA, aQ, bP, fr, ba, an) (nI f) (nI t) := by
  unfold wpX_copyRow
  exact ⟨13, xx_copyRow_2 hf ht K 13 0 (by omega) (by omega)⟩
end
section
variable {cC pC rL rC qp qs qt dO zP zQ : Int32} {ce bl fa mo pa go : Nat → Int32}
theorem yy_copyRow_2 {post : SY → Prop} {f t : Nat} (hf : f ≤ 8) (ht : t ≤ 8) (K : post (cC, pC, rL, rC, qp, qs, qt, dO, zP, zQ, mg_cr ce f t 12, upd bl t (bl f), fa, mo, pa, go)) :
    ∀ n k, 12 < n + k → k ≤ 12 → wY_copyRow_2 post (nI f) (nI t) cC pC rL rC qp qs qt dO zP zQ n (nI k) (mg_cr ce f t k) bl fa mo pa go := by
  intro n
  induction n with
  | zero => intro k h1 h2; omega
  | succ n ih =>
    intro k h1 h2
    unfold wY_copyRow_2
    refine pk_le 12 k (fun e => ?_) (fun e => ?_)
    · have ek : k = 12 := by omega
      subst ek
      refine ⟨vp_in_nI (by omega) (by omega), vp_in_nI (by omega) (by omega), ?_⟩
      rw [nI_clamp (show t < 2 ^ 31 by omega), nI_clamp (show f < 2 ^ 31 by omega)]
      exact nm_e K
    · rw [mg_ih0, mg_ih0, nI_add, nI_add]
      refine ⟨vp_in_nI (by omega) (by omega), vp_in_nI (by omega) (by omega), ?_⟩
      rw [nI_clamp (show 12 * f + k < 2 ^ 31 by omega), nI_clamp (show 12 * t + k < 2 ^ 31 by omega)]
      exact nm_e (nm_r (nI_1 k) (ih (k + 1) (by omega) (by omega)))
theorem yy_copyRow {post : SY → Prop} {f t : Nat} (hf : f ≤ 8) (ht : t ≤ 8) (K : post (cC, pC, rL, rC, qp, qs, qt, dO, zP, zQ, mg_cr ce f t 12, upd bl t (bl f), fa, mo, pa, go)) : wpY_copyRow post (cC, pC, rL, rC, qp, qs, qt, dO, zP, zQ, ce, bl, fa, mo, pa, go) (nI f) (nI t) := by
  unfold wpY_copyRow
  exact ⟨13, yy_copyRow_2 hf ht K 13 0 (by omega) (by omega)⟩
end
/-! a row is what its 12 cells are -/
theorem mg_row_n {bl bl' : Nat → Int32} {r r' : Nat} (hb : bl' r' = bl r) : mg_n bl' r' = mg_n bl r := by unfold mg_n; rw [hb]
theorem mg_ro_eq {C Pn : Nat} {ce bl ce' bl' : Nat → Int32} {r r' : Nat} (h : ∀ k, k < 12 → ce' (12 * r' + k) = ce (12 * r + k)) (hb : bl' r' = bl r) (g : mg_ro C Pn ce bl r) : mg_ro C Pn ce' bl' r' := by
  have hn := mg_ro_n g
  have e := mg_row_n hb
  refine ⟨by rw [hb]; exact g.1, fun j hj => ?_⟩
  rw [e] at hj
  have ga := g.2 j hj
  unfold mg_ao at ga ⊢
  rw [Nat.add_assoc, Nat.add_assoc, h (3 * j) (by omega), h (3 * j + 1) (by omega), h (3 * j + 2) (by omega)]
  rw [Nat.add_assoc, Nat.add_assoc] at ga
  exact ga
theorem mg_sf_eq {C Pn : Nat} {ce bl ce' bl' : Nat → Int32} {r r' : Nat} (h : ∀ k, k < 12 → ce' (12 * r' + k) = ce (12 * r + k)) (hb : bl' r' = bl r) (g : mg_ro C Pn ce bl r) (s : mg_sf ce bl r) : mg_sf ce' bl' r' := by
  have hn := mg_ro_n g
  have e := mg_row_n hb
  refine ⟨by rw [e]; exact s.1, fun t ht h0 => ?_⟩
  rw [h 1 (by omega), h 2 (by omega)] at ht
  obtain ⟨j, j1, j2, e2⟩ := s.2 t ht h0
  refine ⟨j, j1, by rw [e]; exact j2, ?_⟩
  rw [Nat.add_assoc, Nat.add_assoc, h (3 * j + 1) (by omega), h (3 * j + 2) (by omega)]
  rw [Nat.add_assoc, Nat.add_assoc] at e2
  exact e2
theorem mg_pr_eq {C Pn : Nat} {ce bl ce' bl' : Nat → Int32} {r : Nat} (h : ∀ k, k < 12 → ce' (12 * r + k) = ce (12 * r + k)) (hb : bl' r = bl r) (g : mg_ro C Pn ce bl r) : mg_pr ce' bl' r = mg_pr ce bl r := by
  have hn := mg_ro_n g
  have ca : ∀ j, j ≤ 3 → mg_ca ce' (12 * r + 3 * j) = mg_ca ce (12 * r + 3 * j) := fun j hj => by
    unfold mg_ca
    rw [Nat.add_assoc, Nat.add_assoc, h (3 * j) (by omega), h (3 * j + 1) (by omega), h (3 * j + 2) (by omega)]
  have c0 := ca 0 (by omega)
  rw [show 12 * r + 3 * 0 = 12 * r by omega] at c0
  unfold mg_pr
  rw [c0, mg_row_n hb]
  congr 1
  apply List.map_congr_left
  intro j hj
  rw [List.mem_range] at hj
  exact ca (j + 1) (by omega)
theorem mg_pp_eq {C Pn rc : Nat} {ce bl ce' bl' : Nat → Int32} (h : ∀ k, k < 12 * rc → ce' k = ce k) (hb : ∀ r, r < rc → bl' r = bl r) (g : mg_ok C Pn ce bl rc) : mg_pp ce' bl' rc = mg_pp ce bl rc := by
  unfold mg_pp
  apply List.map_congr_left
  intro r hr
  rw [List.mem_range] at hr
  exact mg_pr_eq (fun k hk => h _ (by omega)) (hb r hr) (g r hr).1
theorem mg_ok_eq {C Pn rc : Nat} {ce bl ce' bl' : Nat → Int32} (h : ∀ k, k < 12 * rc → ce' k = ce k) (hb : ∀ r, r < rc → bl' r = bl r) (g : mg_ok C Pn ce bl rc) : mg_ok C Pn ce' bl' rc := fun r hr =>
  ⟨mg_ro_eq (fun k hk => h _ (by omega)) (hb r hr) (g r hr).1, mg_sf_eq (fun k hk => h _ (by omega)) (hb r hr) (g r hr).1 (g r hr).2⟩
end
section
/-! the relation -/
def mg_M (C : Nat) (ce bl : Nat → Int32) (rc : Nat) (fa : Nat → Int32) : Nat → Prop := mg_lm C (mg_pp ce bl rc) (fun f => f < 100 ∧ fa f ≠ 0)
def mg_q (qs qt : Int32) (x y : Nat) : Prop := (qs < 0 ∨ qs = nI x) ∧ (qt < 0 ∨ qt = nI y) ∧ (¬ qs < 0 ∨ ¬ qs = qt ∨ x = y)
def mg_Qa (M : Nat → Prop) (p : Nat) (qs qt : Int32) (x y : Nat) : Prop := M (25 * p + 5 * x + y) ∧ mg_q qs qt x y
noncomputable def mg_rk (Q : Nat → Nat → Prop) (C x y : Nat) : Nat := mg_sm (fun x' => mg_cn (Q x') C) x + mg_cn (Q x) y
/-- the outcome of a query on both sides -/
def mg_J (C Pn : Nat) (M : Nat → Prop) (kn iA pa go an : Nat → Int32) (qp qs qt nA gO rE : Int32) : Prop :=
  ∃ p, p < Pn ∧ qp = nI p ∧ mg_T C qs ∧ mg_T C qt ∧ (∀ k, k < 16 → (iA k ≠ 0 ↔ pa k ≠ 0)) ∧
  (∀ k, 600 ≤ k → k < 1000 → (kn k ≠ 0 ↔ go (mg_xy k) ≠ 0)) ∧
  (∀ pr z, pr < 16 → z < 25 → (kn ((8 + pr) * 25 + z) ≠ 0 ↔ (M (25 * (pr / 4) + z) ∧ go (mg_go (25 * (pr / 4) + z) (pr % 4)) ≠ 0))) ∧
  nA = nI (mg_rk (mg_Qa M p qs qt) C C 0) ∧ (∀ x y, x < C → y < C → mg_Qa M p qs qt x y → an (mg_rk (mg_Qa M p qs qt) C x y) = nI (10 * x + y)) ∧
  gO = nI (mg_cn (mg_s go) 400) ∧ rE = nI (mg_cn (fun f => ∃ d, d < 4 ∧ M f ∧ go (mg_go f d) ≠ 0) 100)
def mg_I (C Pn Rl rc sc : Nat) (dO zP zQ : Int32) (ce bl kn fa mo iA pa go an : Nat → Int32) (qp qs qt nA gO rE : Int32) : Prop :=
  ((2 ≤ C ∧ C ≤ 5) ∧ (1 ≤ Pn ∧ Pn ≤ 4) ∧ (1 ≤ Rl ∧ Rl ≤ 8) ∧ rc ≤ Rl) ∧ mg_ok C Pn ce bl rc ∧ mg_ro C Pn ce bl 8 ∧
  (∀ f, f < 100 → kn (100 + f) = fa f ∧ (fa f = 0 ∨ fa f = 1) ∧ (fa f ≠ 0 → f / 5 % 5 < C ∧ f % 5 < C)) ∧ sc = mg_cn (mg_s fa) 100 ∧
  (zP ≠ 0 → ∀ k, k < 100 → (kn k ≠ 0 ↔ mg_M C ce bl rc fa k)) ∧ ((zP ≠ 0 ∨ zQ ≠ 0) → ∀ k, k < 100 → (mo k ≠ 0 ↔ mg_M C ce bl rc fa k)) ∧
  (zQ ≠ 0 → mg_J C Pn (mg_M C ce bl rc fa) kn iA pa go an qp qs qt nA gO rE)
/-- the relation at the head of a turn: the same cells, facts and flags; the results as the least model says -/
def i_Rel (_ : Nat) (u : SX) (v : SY) : Prop := ∃ (C Pn Rl rc sc : Nat) (dO zP zQ qT gC aC fC bC nA gO rE qp qs qt : Int32) (ce bl kn qu aR aF aS gL iA aQ bP fr ba an fa mo pa go : Nat → Int32), u = (nI C, nI Pn, nI Rl, nI rc, dO, nI sc, zP, zQ, qT, gC, aC, fC, bC, nA, gO, rE, ce, bl, kn, qu, aR, aF, aS, gL, iA, aQ, bP, fr, ba, an) ∧ v = (nI C, nI Pn, nI Rl, nI rc, qp, qs, qt, dO, zP, zQ, ce, bl, fa, mo, pa, go) ∧ mg_I C Pn Rl rc sc dO zP zQ ce bl kn fa mo iA pa go an qp qs qt nA gO rE
theorem i_up {k : Nat} {u : SX} {v : SY} (h : i_Rel k u v) : i_Rel (k + 5) u v := h
theorem zz_el {P : SX → SY → Prop} {k : Nat} {u : SX} {v : SY} (I : i_Rel k u v) (h : ∀ (C Pn Rl rc sc : Nat) (dO zP zQ qT gC aC fC bC nA gO rE qp qs qt : Int32) (ce bl kn qu aR aF aS gL iA aQ bP fr ba an fa mo pa go : Nat → Int32), mg_I C Pn Rl rc sc dO zP zQ ce bl kn fa mo iA pa go an qp qs qt nA gO rE → P (nI C, nI Pn, nI Rl, nI rc, dO, nI sc, zP, zQ, qT, gC, aC, fC, bC, nA, gO, rE, ce, bl, kn, qu, aR, aF, aS, gL, iA, aQ, bP, fr, ba, an) (nI C, nI Pn, nI Rl, nI rc, qp, qs, qt, dO, zP, zQ, ce, bl, fa, mo, pa, go)) : P u v := by
  unfold i_Rel at I
  exact Exists.elim I fun C I => Exists.elim I fun Pn I => Exists.elim I fun Rl I => Exists.elim I fun rc I => Exists.elim I fun sc I => Exists.elim I fun dO I => Exists.elim I fun zP I => Exists.elim I fun zQ I => Exists.elim I fun qT I => Exists.elim I fun gC I => Exists.elim I fun aC I => Exists.elim I fun fC I => Exists.elim I fun bC I => Exists.elim I fun nA I => Exists.elim I fun gO I => Exists.elim I fun rE I => Exists.elim I fun qp I => Exists.elim I fun qs I => Exists.elim I fun qt I => Exists.elim I fun ce I => Exists.elim I fun bl I => Exists.elim I fun kn I => Exists.elim I fun qu I => Exists.elim I fun aR I => Exists.elim I fun aF I => Exists.elim I fun aS I => Exists.elim I fun gL I => Exists.elim I fun iA I => Exists.elim I fun aQ I => Exists.elim I fun bP I => Exists.elim I fun fr I => Exists.elim I fun ba I => Exists.elim I fun an I => Exists.elim I fun fa I => Exists.elim I fun mo I => Exists.elim I fun pa I => Exists.elim I fun go I => (by rw [I.1, I.2.1]; exact h C Pn Rl rc sc dO zP zQ qT gC aC fC bC nA gO rE qp qs qt ce bl kn qu aR aF aS gL iA aQ bP fr ba an fa mo pa go I.2.2)
section
variable {C Pn Rl rc sc : Nat} {cC pC rL rC dO sC zP zQ qT gC aC fC bC nA gO rE : Int32} {ce bl kn qu aR aF aS gL iA aQ bP fr ba an : Nat → Int32} {qp qs qt : Int32} {fa mo pa go : Nat → Int32}
theorem zz_in {k : Nat} (h : mg_I C Pn Rl rc sc dO zP zQ ce bl kn fa mo iA pa go an qp qs qt nA gO rE) : i_Rel k (nI C, nI Pn, nI Rl, nI rc, dO, nI sc, zP, zQ, qT, gC, aC, fC, bC, nA, gO, rE, ce, bl, kn, qu, aR, aF, aS, gL, iA, aQ, bP, fr, ba, an) (nI C, nI Pn, nI Rl, nI rc, qp, qs, qt, dO, zP, zQ, ce, bl, fa, mo, pa, go) := ⟨C, Pn, Rl, rc, sc, dO, zP, zQ, qT, gC, aC, fC, bC, nA, gO, rE, qp, qs, qt, ce, bl, kn, qu, aR, aF, aS, gL, iA, aQ, bP, fr, ba, an, fa, mo, pa, go, rfl, rfl, h⟩
end
theorem mg_clamp (x : Int32) (lo hi : Nat) (h : lo ≤ hi) (hh : hi < 100) : ∃ c, lo ≤ c ∧ c ≤ hi ∧ ∀ post : Int32 → Prop, post (nI c) → ((nI lo ≤ x → ((x ≤ nI hi → post x) ∧ (¬ x ≤ nI hi → post (nI hi)))) ∧ (¬ nI lo ≤ x → post (nI lo))) := by
  by_cases h1 : nI lo ≤ x
  · by_cases h2 : x ≤ nI hi
    · have h0 : ¬ x < 0 := fun z => by
        rw [Int32.le_iff_toInt_le, nI_toInt (by omega)] at h1
        rw [Int32.lt_iff_toInt_lt, show (0 : Int32).toInt = 0 by decide] at z
        omega
      obtain ⟨j, hj, rfl⟩ := nI_of h0
      have a := (nI_leI (by omega) hj).mp h1
      have b := (nI_leI hj (by omega)).mp h2
      exact ⟨j, a, b, fun post hp => br_t h1 (br_t h2 hp)⟩
    · exact ⟨hi, h, Nat.le_refl _, fun post hp => br_t h1 (br_f h2 hp)⟩
  · exact ⟨lo, Nat.le_refl _, h, fun post hp => br_f h1 hp⟩
section
variable {cC pC rL rC dO sC zP zQ qT gC aC fC bC nA gO rE : Int32} {ce bl kn qu aR aF aS gL iA aQ bP fr ba an : Nat → Int32}
theorem xx_clamp {post : Int32 → Prop} {x : Int32} {lo hi c : Nat} (H : ∀ post : Int32 → Prop, post (nI c) → ((nI lo ≤ x → ((x ≤ nI hi → post x) ∧ (¬ x ≤ nI hi → post (nI hi)))) ∧ (¬ nI lo ≤ x → post (nI lo)))) (h : post (nI c)) : wpX_clamp post (cC, pC, rL, rC, dO, sC, zP, zQ, qT, gC, aC, fC, bC, nA, gO, rE, ce, bl, kn, qu, aR, aF, aS, gL, iA, aQ, bP, fr, ba, an) x (nI lo) (nI hi) := H post h
end
theorem mg_ok_0 {C Pn : Nat} {ce bl : Nat → Int32} : mg_ok C Pn ce bl 0 := fun r hr => by omega
theorem i_vc0 (k0 : Int32) (k1 : Int32) (k2 : Int32) : wpX_init (fun u => wpY_init (fun v => i_Rel 3 u v) k0 k1 k2) k0 k1 k2 := by
  obtain ⟨C, c1, c2, hC⟩ := mg_clamp k0 2 5 (by omega) (by omega)
  obtain ⟨P, p1, p2, hP⟩ := mg_clamp k1 1 4 (by omega) (by omega)
  obtain ⟨R, r1, r2, hR⟩ := mg_clamp k2 1 8 (by omega) (by omega)
  have fin : i_Rel 3 (nI C, nI P, nI R, 0, 0, 0, 0, 0, 0, 0, 0, 0, 0, 0, 0, 0, (fun _ => 0), (fun _ => 0), (fun _ => 0), (fun _ => 0), (fun _ => 0), (fun _ => 0), (fun _ => 0), (fun _ => 0), (fun _ => 0), (fun _ => 0), (fun _ => 0), (fun _ => 0), (fun _ => 0), (fun _ => 0)) (nI C, nI P, nI R, 0, 0, 0, 0, 0, 0, 0, (fun _ => 0), (fun _ => 0), (fun _ => 0), (fun _ => 0), (fun _ => 0), (fun _ => 0)) := by
    refine zz_in (C := C) (Pn := P) (Rl := R) (rc := 0) (sc := 0) ⟨⟨⟨c1, c2⟩, ⟨p1, p2⟩, ⟨r1, r2⟩, by omega⟩, mg_ok_0, ⟨⟨0, by omega, rfl⟩, fun j hj => ⟨⟨0, by omega, rfl⟩, Or.inr (Or.inr (Or.inr ⟨0, by omega, rfl⟩)), Or.inr (Or.inr (Or.inr ⟨0, by omega, rfl⟩))⟩⟩, fun f hf => ⟨rfl, Or.inl rfl, fun h => absurd rfl h⟩, (mg_cn_0 (fun k _ h => h rfl)).symm, fun h => absurd rfl h, fun h => by
      rcases h with h | h
      · exact absurd rfl h
      · exact absurd rfl h, fun h => absurd rfl h⟩
  unfold wpX_init
  refine xx_clamp hC ?_
  refine xx_clamp hP ?_
  refine xx_clamp hR ?_
  unfold wpY_init
  refine hC (fun r => wY_init_73 _ k1 k2 r 0 0 0 0 0 0 0 0 0 0 (fun _ => 0) (fun _ => 0) (fun _ => 0) (fun _ => 0) (fun _ => 0) (fun _ => 0)) ?_
  unfold wY_init_73
  refine hP (fun r => wY_init_96 _ k2 r (nI C) 0 0 0 0 0 0 0 0 0 (fun _ => 0) (fun _ => 0) (fun _ => 0) (fun _ => 0) (fun _ => 0) (fun _ => 0)) ?_
  unfold wY_init_96
  exact hR (fun r => i_Rel 3 _ (nI C, nI P, r, 0, 0, 0, 0, 0, 0, 0, (fun _ => 0), (fun _ => 0), (fun _ => 0), (fun _ => 0), (fun _ => 0), (fun _ => 0))) fin
end
section
/-! head, body, store, erase, stored, cell, holds -/
section
variable {cC pC rL rC dO sC zP zQ qT gC aC fC bC nA gO rE : Int32} {ce bl kn qu aR aF aS gL iA aQ bP fr ba an : Nat → Int32}
theorem xx_dropResults {post : SX → Prop} (h : post (cC, pC, rL, rC, dO, sC, 0, 0, qT, gC, aC, fC, bC, nA, gO, rE, ce, bl, kn, qu, aR, aF, aS, gL, iA, aQ, bP, fr, ba, an)) : wpX_dropResults post (cC, pC, rL, rC, dO, sC, zP, zQ, qT, gC, aC, fC, bC, nA, gO, rE, ce, bl, kn, qu, aR, aF, aS, gL, iA, aQ, bP, fr, ba, an) := h
theorem xx_setDraftAtom {post : SX → Prop} {j : Nat} {p s t : Int32} (hj : j ≤ 3) (h : post (cC, pC, rL, rC, dO, sC, zP, zQ, qT, gC, aC, fC, bC, nA, gO, rE, upd (upd (upd ce (96 + 3 * j) p) (96 + 3 * j + 1) s) (96 + 3 * j + 2) t, bl, kn, qu, aR, aF, aS, gL, iA, aQ, bP, fr, ba, an)) : wpX_setDraftAtom post (cC, pC, rL, rC, dO, sC, zP, zQ, qT, gC, aC, fC, bC, nA, gO, rE, ce, bl, kn, qu, aR, aF, aS, gL, iA, aQ, bP, fr, ba, an) (nI j) p s t := by
  unfold wpX_setDraftAtom
  refine nm_r (e' := nI (96 + 3 * j)) (mg_jx 96 j) ?_
  rw [nI_1, mg_j2, nI_clamp (show 96 + 3 * j < 2 ^ 31 by omega), nI_clamp (show 96 + 3 * j + 1 < 2 ^ 31 by omega), nI_clamp (show 96 + 3 * j + 2 < 2 ^ 31 by omega)]
  exact And.intro (vp_in_nI (by omega) (by omega)) (nm_e (And.intro (vp_in_nI (by omega) (by omega)) (nm_e (And.intro (vp_in_nI (by omega) (by omega)) (nm_e h)))))
end
section
variable {cC pC rL rC qp qs qt dO zP zQ : Int32} {ce bl fa mo pa go : Nat → Int32}
theorem yy_put {post : SY → Prop} {k : Nat} {p s t : Int32} (hk : k < 106) (h : post (cC, pC, rL, rC, qp, qs, qt, dO, zP, zQ, upd (upd (upd ce k p) (k + 1) s) (k + 2) t, bl, fa, mo, pa, go)) : wpY_put post (cC, pC, rL, rC, qp, qs, qt, dO, zP, zQ, ce, bl, fa, mo, pa, go) (nI k) p s t := by
  unfold wpY_put
  rw [nI_1, mg_j2, nI_clamp (show k < 2 ^ 31 by omega), nI_clamp (show k + 1 < 2 ^ 31 by omega), nI_clamp (show k + 2 < 2 ^ 31 by omega)]
  exact And.intro (vp_in_nI (by omega) (by omega)) (nm_e (And.intro (vp_in_nI (by omega) (by omega)) (nm_e (And.intro (vp_in_nI (by omega) (by omega)) (nm_e h)))))
end
theorem mg_M_eq {C Pn rc : Nat} {ce bl ce' bl' fa : Nat → Int32} (h : ∀ k, k < 12 * rc → ce' k = ce k) (hb : ∀ r, r < rc → bl' r = bl r) (g : mg_ok C Pn ce bl rc) : mg_M C ce' bl' rc fa = mg_M C ce bl rc fa := by
  unfold mg_M
  rw [mg_pp_eq h hb g]
section
variable {C Pn Rl rc sc : Nat} {dO zP zQ qp qs qt nA gO rE : Int32} {ce bl kn fa mo iA pa go an : Nat → Int32}
theorem mg_I_draft {dO' : Int32} {ce' bl' : Nat → Int32} (h : mg_I C Pn Rl rc sc dO zP zQ ce bl kn fa mo iA pa go an qp qs qt nA gO rE) (hc : ∀ k, k < 96 → ce' k = ce k) (hb : ∀ r, r < 8 → bl' r = bl r) (h8 : mg_ro C Pn ce' bl' 8) : mg_I C Pn Rl rc sc dO' zP zQ ce' bl' kn fa mo iA pa go an qp qs qt nA gO rE := by
  obtain ⟨⟨hC, hP, hR, hrc⟩, h2, h3, h4, h5, h6, h7, h9⟩ := h
  have a : ∀ k, k < 12 * rc → ce' k = ce k := fun k hk => hc k (by omega)
  have b : ∀ r, r < rc → bl' r = bl r := fun r hr => hb r (by omega)
  have e := mg_M_eq (fa := fa) a b h2
  unfold mg_I
  rw [e]
  exact ⟨⟨hC, hP, hR, hrc⟩, mg_ok_eq a b h2, h8, h4, h5, h6, h7, h9⟩
theorem mg_I_set {w : Int32} {f sc' : Nat} {kn' fa' : Nat → Int32} (h : mg_I C Pn Rl rc sc dO zP zQ ce bl kn fa mo iA pa go an qp qs qt nA gO rE) (hf : f < 100) (hw : w = 0 ∨ w = 1) (hd : w ≠ 0 → f / 5 % 5 < C ∧ f % 5 < C) (hk : kn' = upd kn (100 + f) w) (ha : fa' = upd fa f w) (hs : sc' = mg_cn (mg_s fa') 100) : mg_I C Pn Rl rc sc' dO 0 0 ce bl kn' fa' mo iA pa go an qp qs qt nA gO rE := by
  obtain ⟨h1, h2, h3, h4, h5, h6, h7, h9⟩ := h
  refine ⟨h1, h2, h3, fun g hg => ?_, hs, fun h => absurd rfl h, fun h => ?_, fun h => absurd rfl h⟩
  · rw [hk, ha]
    by_cases z : g = f
    · subst z
      rw [pk_us, pk_us]
      exact ⟨rfl, hw, hd⟩
    · rw [pk_un z, pk_un (by omega)]
      exact h4 g hg
  · rcases h with h | h
    · exact absurd rfl h
    · exact absurd rfl h
end
theorem i_vc_head {k : Nat} {u : SX} {v : SY} (I : i_Rel k u v) (hk : k + 5 ≤ 2563) (v1 : Int32) (v2 : Int32) (v3 : Int32) : wpX_head (fun r u' => wpY_head (fun r' v' => r' = r ∧ i_Rel (k + 5) u' v') v v1 v2 v3) u v1 v2 v3 := by
  refine zz_el (P := fun u v => wpX_head (fun r u' => wpY_head (fun r' v' => r' = r ∧ i_Rel (k + 5) u' v') v v1 v2 v3) u v1 v2 v3) I ?_
  intro C Pn Rl rc sc dO zP zQ qT gC aC fC bC nA gO rE qp qs qt ce bl kn qu aR aF aS gL iA aQ bP fr ba an fa mo pa go hI
  have hJ := hI
  obtain ⟨⟨hC, hP, hR, hrc⟩, h2, h3, _⟩ := hJ
  unfold wpX_head
  refine xx_isAtom hC.2 hP.2 (fun ha => br_f mg_10 (nm_e ?_)) (fun ha => br_t rfl ?_)
  · refine xx_setDraftAtom (j := 0) (by omega) ?_
    dsimp only
    unfold wpY_head
    refine yy_badAtom hC.2 hP.2 (fun _ => br_t rfl ?_) (fun h => absurd ha h)
    refine yy_put (k := 96) (by omega) (nm_e ⟨rfl, ?_⟩)
    refine zz_in (mg_I_draft hI (fun k hk => ?_) (fun r hr => pk_un (by omega)) ⟨⟨0, by omega, pk_us⟩, fun j hj => ?_⟩)
    · rw [pk_un (by omega), pk_un (by omega), pk_un (by omega)]
    · have e : mg_n (upd bl 8 0) 8 = 0 := by unfold mg_n; rw [pk_us]; decide
      rw [e] at hj
      have ej : j = 0 := by omega
      subst ej
      exact ha
  · unfold wpY_head
    exact yy_badAtom hC.2 hP.2 (fun h => absurd h ha) (fun _ => br_f mg_10 ⟨rfl, zz_in hI⟩)
theorem i_vc_body {k : Nat} {u : SX} {v : SY} (I : i_Rel k u v) (hk : k + 5 ≤ 2563) (v1 : Int32) (v2 : Int32) (v3 : Int32) : wpX_body (fun r u' => wpY_body (fun r' v' => r' = r ∧ i_Rel (k + 5) u' v') v v1 v2 v3) u v1 v2 v3 := by
  refine zz_el (P := fun u v => wpX_body (fun r u' => wpY_body (fun r' v' => r' = r ∧ i_Rel (k + 5) u' v') v v1 v2 v3) u v1 v2 v3) I ?_
  intro C Pn Rl rc sc dO zP zQ qT gC aC fC bC nA gO rE qp qs qt ce bl kn qu aR aF aS gL iA aQ bP fr ba an fa mo pa go hI
  have hJ := hI
  obtain ⟨⟨hC, hP, hR, hrc⟩, h2, h3, _⟩ := hJ
  have hn := mg_ro_n h3
  unfold wpX_body
  refine br_c (fun z => ?_) (fun z => ?_)
  · unfold wpY_body
    exact br_t z ⟨rfl, zz_in hI⟩
  · refine xx_isAtom hC.2 hP.2 (fun ha => br_f mg_10 ?_) (fun ha => br_t rfl ?_)
    · rw [hn.1]
      refine pk_lt (mg_n bl 8) 3 (fun e => ?_) (fun e => ?_)
      · rw [nI_1]
        refine nm_e ?_
        rw [pk_us]
        refine xx_setDraftAtom (by omega) ?_
        dsimp only
        unfold wpY_body
        refine br_f z (yy_badAtom hC.2 hP.2 (fun _ => br_t rfl ?_) (fun h => absurd ha h))
        rw [hn.1]
        refine pk_lt (mg_n bl 8) 3 (fun _ => ?_) (fun h => absurd h (by omega))
        rw [nI_1]
        refine nm_e ?_
        rw [pk_us]
        refine ek_v (P := fun w => wpY_put _ _ w _ _ _) (mg_jx 96 (mg_n bl 8 + 1)) ?_
        refine yy_put (by omega) ⟨rfl, ?_⟩
        refine zz_in (mg_I_draft hI (fun k hk => ?_) (fun r hr => pk_un (by omega)) ⟨⟨mg_n bl 8 + 1, by omega, pk_us⟩, fun j hj => ?_⟩)
        · rw [pk_un (by omega), pk_un (by omega), pk_un (by omega)]
        · have e : mg_n (upd bl 8 (nI (mg_n bl 8 + 1))) 8 = mg_n bl 8 + 1 := by
            show (upd bl 8 (nI (mg_n bl 8 + 1)) 8).toNatClampNeg = _
            rw [pk_us, nI_clamp (by omega)]
          rw [e] at hj
          by_cases y : j = mg_n bl 8 + 1
          · subst y
            show mg_ao C Pn _ (96 + 3 * (mg_n bl 8 + 1))
            unfold mg_ao
            rw [pk_un (by omega), pk_un (by omega), pk_us, pk_un (by omega), pk_us, pk_us]
            exact ha
          · have ga := h3.2 j (by omega)
            unfold mg_ao at ga ⊢
            rw [pk_un (by omega), pk_un (by omega), pk_un (by omega), pk_un (by omega), pk_un (by omega), pk_un (by omega), pk_un (by omega), pk_un (by omega), pk_un (by omega)]
            exact ga
      · unfold wpY_body
        refine br_f z (yy_badAtom hC.2 hP.2 (fun _ => br_t rfl ?_) (fun h => absurd ha h))
        rw [hn.1]
        exact pk_lt (mg_n bl 8) 3 (fun h => absurd h (by omega)) (fun _ => ⟨rfl, zz_in hI⟩)
    · unfold wpY_body
      exact br_f z (yy_badAtom hC.2 hP.2 (fun h => absurd h ha) (fun _ => br_f mg_10 ⟨rfl, zz_in hI⟩))
section
variable {cC pC rL rC qp qs qt dO zP zQ : Int32} {ce bl fa mo pa go : Nat → Int32}
theorem yy_set {post : Int32 → SY → Prop} {C Pn : Nat} {p x y w : Int32} (hC : C ≤ 5) (hP : Pn ≤ 4) (hw : vp_nar .boolean w = w) (hb : ¬ mg_fok C Pn p x y → post (-11) (nI C, nI Pn, rL, rC, qp, qs, qt, dO, zP, zQ, ce, bl, fa, mo, pa, go))
    (h0 : ∀ p' x' y', p' < Pn → x' < C → y' < C → p = nI p' → x = nI x' → y = nI y' → fa (25 * p' + 5 * x' + y') = w → post 0 (nI C, nI Pn, rL, rC, qp, qs, qt, dO, zP, zQ, ce, bl, fa, mo, pa, go))
    (h1 : ∀ p' x' y', p' < Pn → x' < C → y' < C → p = nI p' → x = nI x' → y = nI y' → ¬ fa (25 * p' + 5 * x' + y') = w → post 1 (nI C, nI Pn, rL, rC, qp, qs, qt, dO, 0, 0, ce, bl, upd fa (25 * p' + 5 * x' + y') w, mo, pa, go)) :
    wpY_set post (nI C, nI Pn, rL, rC, qp, qs, qt, dO, zP, zQ, ce, bl, fa, mo, pa, go) p x y w := by
  unfold wpY_set
  refine yy_badFact hC hP (fun h => br_t rfl ?_) (fun h => br_f mg_10 (hb h))
  obtain ⟨⟨p', hp, rfl⟩, ⟨x', hx, rfl⟩, ⟨y', hy, rfl⟩⟩ := h
  have e : (25 : Int32) * nI p' + 5 * nI x' + nI y' = nI (25 * p' + 5 * x' + y') := by rw [show (25 : Int32) = nI 25 from rfl, show (5 : Int32) = nI 5 from rfl, pk_mul, pk_mul, nI_add, nI_add]
  rw [e, hw]
  have hv : vp_in (nI (25 * p' + 5 * x' + y')) 100 := vp_in_nI (by omega) (by omega)
  refine And.intro hv ?_
  rw [nI_clamp (show 25 * p' + 5 * x' + y' < 2 ^ 31 by omega)]
  exact br_c (fun z => h0 p' x' y' hp hx hy rfl rfl rfl z) (fun z => And.intro hv (nm_e (h1 p' x' y' hp hx hy rfl rfl rfl z)))
end
theorem mg_id (p x y : Nat) : (4 + nI p) * 25 + nI x * 5 + nI y = nI (100 + (25 * p + 5 * x + y)) := by
  rw [show (4 : Int32) = nI 4 from rfl, show (25 : Int32) = nI 25 from rfl, show (5 : Int32) = nI 5 from rfl, nI_add, pk_mul, pk_mul, nI_add, nI_add]
  exact congrArg nI (by omega)
theorem i_vc_store {k : Nat} {u : SX} {v : SY} (I : i_Rel k u v) (hk : k + 5 ≤ 2563) (v1 : Int32) (v2 : Int32) (v3 : Int32) : wpX_store (fun r u' => wpY_store (fun r' v' => r' = r ∧ i_Rel (k + 5) u' v') v v1 v2 v3) u v1 v2 v3 := by
  refine zz_el (P := fun u v => wpX_store (fun r u' => wpY_store (fun r' v' => r' = r ∧ i_Rel (k + 5) u' v') v v1 v2 v3) u v1 v2 v3) I ?_
  intro C Pn Rl rc sc dO zP zQ qT gC aC fC bC nA gO rE qp qs qt ce bl kn qu aR aF aS gL iA aQ bP fr ba an fa mo pa go hI
  have hJ := hI
  obtain ⟨⟨hC, hP, hR, hrc⟩, h2, h3, h4, h5, _⟩ := hJ
  unfold wpX_store
  refine xx_isFact hC.2 hP.2 (fun h => br_f mg_10 ?_) (fun h => br_t rfl ?_)
  · have hh := h
    obtain ⟨⟨p', hp, rfl⟩, ⟨x', hx, rfl⟩, ⟨y', hy, rfl⟩⟩ := h
    refine nm_r (mg_id p' x' y') ?_
    have hv : vp_in (nI (100 + (25 * p' + 5 * x' + y'))) 1000 := vp_in_nI (by omega) (by omega)
    refine And.intro hv ?_
    rw [nI_clamp (show 100 + (25 * p' + 5 * x' + y') < 2 ^ 31 by omega)]
    have hf := h4 (25 * p' + 5 * x' + y') (by omega)
    have same : ∀ p2 x2 y2, p2 < Pn → x2 < C → y2 < C → nI p' = nI p2 → nI x' = nI x2 → nI y' = nI y2 → 25 * p2 + 5 * x2 + y2 = 25 * p' + 5 * x' + y' := fun p2 x2 y2 a1 a2 a3 b1 b2 b3 => by
      rw [nI_eq (by omega) (by omega)] at b1 b2 b3
      rw [b1, b2, b3]
    rw [hf.1]
    refine br_c (fun z => And.intro hv (nm_e ?_)) (fun z => ?_)
    · rw [nI_1]
      refine nm_e (xx_dropResults ?_)
      dsimp only
      unfold wpY_store
      refine yy_set hC.2 hP.2 mg_nar1 (fun g => absurd hh g) (fun p2 x2 y2 a1 a2 a3 b1 b2 b3 e => ?_) (fun p2 x2 y2 a1 a2 a3 b1 b2 b3 e => ⟨rfl, ?_⟩)
      · rw [same p2 x2 y2 a1 a2 a3 b1 b2 b3, z] at e
        exact absurd e (by decide)
      · rw [same p2 x2 y2 a1 a2 a3 b1 b2 b3]
        refine zz_in (mg_I_set (w := 1) hI (f := 25 * p' + 5 * x' + y') (by omega) (Or.inr rfl) (fun _ => by omega) rfl rfl ?_)
        rw [h5]
        have a := mg_cn_add (P := mg_s fa) (a := 25 * p' + 5 * x' + y') (N := 100) (fun h => h z) (by omega)
        rw [← a]
        exact (mg_cn_eq (fun k _ => mg_s_upd)).symm
    · show wpY_store _ _ _ _ _
      unfold wpY_store
      refine yy_set hC.2 hP.2 mg_nar1 (fun g => absurd hh g) (fun p2 x2 y2 a1 a2 a3 b1 b2 b3 e => ⟨rfl, zz_in hI⟩) (fun p2 x2 y2 a1 a2 a3 b1 b2 b3 e => ?_)
      rw [same p2 x2 y2 a1 a2 a3 b1 b2 b3] at e
      rcases hf.2.1 with g | g
      · exact absurd g z
      · exact absurd g e
  · unfold wpY_store
    exact yy_set hC.2 hP.2 mg_nar1 (fun _ => ⟨rfl, zz_in hI⟩) (fun p2 x2 y2 a1 a2 a3 b1 b2 b3 e => absurd ⟨⟨p2, a1, b1⟩, ⟨x2, a2, b2⟩, ⟨y2, a3, b3⟩⟩ h) (fun p2 x2 y2 a1 a2 a3 b1 b2 b3 e => absurd ⟨⟨p2, a1, b1⟩, ⟨x2, a2, b2⟩, ⟨y2, a3, b3⟩⟩ h)
theorem i_vc_erase {k : Nat} {u : SX} {v : SY} (I : i_Rel k u v) (hk : k + 5 ≤ 2563) (v1 : Int32) (v2 : Int32) (v3 : Int32) : wpX_erase (fun r u' => wpY_erase (fun r' v' => r' = r ∧ i_Rel (k + 5) u' v') v v1 v2 v3) u v1 v2 v3 := by
  refine zz_el (P := fun u v => wpX_erase (fun r u' => wpY_erase (fun r' v' => r' = r ∧ i_Rel (k + 5) u' v') v v1 v2 v3) u v1 v2 v3) I ?_
  intro C Pn Rl rc sc dO zP zQ qT gC aC fC bC nA gO rE qp qs qt ce bl kn qu aR aF aS gL iA aQ bP fr ba an fa mo pa go hI
  have hJ := hI
  obtain ⟨⟨hC, hP, hR, hrc⟩, h2, h3, h4, h5, _⟩ := hJ
  unfold wpX_erase
  refine xx_isFact hC.2 hP.2 (fun h => br_f mg_10 ?_) (fun h => br_t rfl ?_)
  · have hh := h
    obtain ⟨⟨p', hp, rfl⟩, ⟨x', hx, rfl⟩, ⟨y', hy, rfl⟩⟩ := h
    refine nm_r (mg_id p' x' y') ?_
    have hv : vp_in (nI (100 + (25 * p' + 5 * x' + y'))) 1000 := vp_in_nI (by omega) (by omega)
    refine And.intro hv ?_
    rw [nI_clamp (show 100 + (25 * p' + 5 * x' + y') < 2 ^ 31 by omega)]
    have hf := h4 (25 * p' + 5 * x' + y') (by omega)
    have same : ∀ p2 x2 y2, p2 < Pn → x2 < C → y2 < C → nI p' = nI p2 → nI x' = nI x2 → nI y' = nI y2 → 25 * p2 + 5 * x2 + y2 = 25 * p' + 5 * x' + y' := fun p2 x2 y2 a1 a2 a3 b1 b2 b3 => by
      rw [nI_eq (by omega) (by omega)] at b1 b2 b3
      rw [b1, b2, b3]
    rw [hf.1]
    refine br_c (fun z => ?_) (fun z => And.intro hv (nm_e ?_))
    · show wpY_erase _ _ _ _ _
      unfold wpY_erase
      refine yy_set hC.2 hP.2 mg_nar0 (fun g => absurd hh g) (fun p2 x2 y2 a1 a2 a3 b1 b2 b3 e => ⟨rfl, zz_in hI⟩) (fun p2 x2 y2 a1 a2 a3 b1 b2 b3 e => ?_)
      rw [same p2 x2 y2 a1 a2 a3 b1 b2 b3] at e
      exact absurd z e
    · have a := mg_cn_add (P := mg_s (upd fa (25 * p' + 5 * x' + y') 0)) (a := 25 * p' + 5 * x' + y') (N := 100) (fun h => h pk_us) (by omega)
      have b : mg_cn (fun k => mg_s (upd fa (25 * p' + 5 * x' + y') 0) k ∨ k = 25 * p' + 5 * x' + y') 100 = mg_cn (mg_s fa) 100 := mg_cn_eq (fun k _ => by
        unfold mg_s
        by_cases e : k = 25 * p' + 5 * x' + y'
        · subst e
          exact ⟨fun _ => z, fun _ => Or.inr rfl⟩
        · rw [pk_un e]
          exact ⟨fun h => h.elim (fun h => h) (fun h => absurd h e), Or.inl⟩)
      have es : nI sc - 1 = nI (sc - 1) := pk_sub (b := 1) (by omega)
      refine nm_r es (xx_dropResults ?_)
      dsimp only
      unfold wpY_erase
      refine yy_set hC.2 hP.2 mg_nar0 (fun g => absurd hh g) (fun p2 x2 y2 a1 a2 a3 b1 b2 b3 e => ?_) (fun p2 x2 y2 a1 a2 a3 b1 b2 b3 e => ⟨rfl, ?_⟩)
      · rw [same p2 x2 y2 a1 a2 a3 b1 b2 b3] at e
        exact absurd e z
      · rw [same p2 x2 y2 a1 a2 a3 b1 b2 b3]
        exact zz_in (mg_I_set (w := 0) hI (f := 25 * p' + 5 * x' + y') (by omega) (Or.inl rfl) (fun h => absurd rfl h) rfl rfl (by omega))
  · unfold wpY_erase
    exact yy_set hC.2 hP.2 mg_nar0 (fun _ => ⟨rfl, zz_in hI⟩) (fun p2 x2 y2 a1 a2 a3 b1 b2 b3 e => absurd ⟨⟨p2, a1, b1⟩, ⟨x2, a2, b2⟩, ⟨y2, a3, b3⟩⟩ h) (fun p2 x2 y2 a1 a2 a3 b1 b2 b3 e => absurd ⟨⟨p2, a1, b1⟩, ⟨x2, a2, b2⟩, ⟨y2, a3, b3⟩⟩ h)
end
section
/-! stored, holds, cell, endRule, dropRule -/
theorem i_vc_stored {k : Nat} {u : SX} {v : SY} (I : i_Rel k u v) (hk : k + 5 ≤ 2563) (v1 : Int32) (v2 : Int32) (v3 : Int32) : wpX_stored (fun r => wpY_stored (fun r' => r' = r ∧ i_Rel (k + 5) u v) v v1 v2 v3) u v1 v2 v3 := by
  refine zz_el (P := fun u v => wpX_stored (fun r => wpY_stored (fun r' => r' = r ∧ i_Rel (k + 5) u v) v v1 v2 v3) u v1 v2 v3) I ?_
  intro C Pn Rl rc sc dO zP zQ qT gC aC fC bC nA gO rE qp qs qt ce bl kn qu aR aF aS gL iA aQ bP fr ba an fa mo pa go hI
  have hJ := hI
  obtain ⟨⟨hC, hP, hR, hrc⟩, h2, h3, h4, h5, _⟩ := hJ
  unfold wpX_stored
  refine xx_isFact hC.2 hP.2 (fun h => br_f mg_10 ?_) (fun h => br_t rfl ?_)
  · have hh := h
    obtain ⟨⟨p', hp, rfl⟩, ⟨x', hx, rfl⟩, ⟨y', hy, rfl⟩⟩ := h
    rw [show (4 : Int32) = nI 4 from rfl, nI_add]
    have hf := (h4 (25 * p' + 5 * x' + y') (by omega)).1
    have ei : (4 + p') * 25 + x' * 5 + y' = 100 + (25 * p' + 5 * x' + y') := by omega
    have ey : (25 : Int32) * nI p' + 5 * nI x' + nI y' = nI (25 * p' + 5 * x' + y') := by rw [show (25 : Int32) = nI 25 from rfl, show (5 : Int32) = nI 5 from rfl, pk_mul, pk_mul, nI_add, nI_add]
    have hv : vp_in (nI (25 * p' + 5 * x' + y')) 100 := vp_in_nI (by omega) (by omega)
    refine xx_flag (by omega) (fun z => ?_) (fun z => ?_)
    · rw [ei, hf] at z
      unfold wpY_stored
      refine yy_badFact hC.2 hP.2 (fun _ => br_t rfl ?_) (fun g => absurd hh g)
      rw [ey]
      refine And.intro hv ?_
      rw [nI_clamp (show 25 * p' + 5 * x' + y' < 2 ^ 31 by omega)]
      exact br_t z ⟨rfl, zz_in hI⟩
    · rw [ei, hf] at z
      unfold wpY_stored
      refine yy_badFact hC.2 hP.2 (fun _ => br_t rfl ?_) (fun g => absurd hh g)
      rw [ey]
      refine And.intro hv ?_
      rw [nI_clamp (show 25 * p' + 5 * x' + y' < 2 ^ 31 by omega)]
      exact br_f z ⟨rfl, zz_in hI⟩
  · unfold wpY_stored
    exact yy_badFact hC.2 hP.2 (fun g => absurd g h) (fun _ => br_f mg_10 ⟨rfl, zz_in hI⟩)
theorem i_vc_holds {k : Nat} {u : SX} {v : SY} (I : i_Rel k u v) (hk : k + 5 ≤ 2563) (v1 : Int32) (v2 : Int32) (v3 : Int32) : wpX_holds (fun r => wpY_holds (fun r' => r' = r ∧ i_Rel (k + 5) u v) v v1 v2 v3) u v1 v2 v3 := by
  refine zz_el (P := fun u v => wpX_holds (fun r => wpY_holds (fun r' => r' = r ∧ i_Rel (k + 5) u v) v v1 v2 v3) u v1 v2 v3) I ?_
  intro C Pn Rl rc sc dO zP zQ qT gC aC fC bC nA gO rE qp qs qt ce bl kn qu aR aF aS gL iA aQ bP fr ba an fa mo pa go hI
  have hJ := hI
  obtain ⟨⟨hC, hP, hR, hrc⟩, h2, h3, h4, h5, h6, h7, _⟩ := hJ
  unfold wpX_holds
  refine br_c (fun z0 => ?_) (fun z0 => ?_)
  · unfold wpY_holds
    exact br_t z0 ⟨rfl, zz_in hI⟩
  · refine xx_isFact hC.2 hP.2 (fun h => br_f mg_10 ?_) (fun h => br_t rfl ?_)
    · have hh := h
      obtain ⟨⟨p', hp, rfl⟩, ⟨x', hx, rfl⟩, ⟨y', hy, rfl⟩⟩ := h
      have hf := (h6 z0 (25 * p' + 5 * x' + y') (by omega))
      have hg := (h7 (Or.inl z0) (25 * p' + 5 * x' + y') (by omega))
      have ei : p' * 25 + x' * 5 + y' = 25 * p' + 5 * x' + y' := by omega
      have ey : (25 : Int32) * nI p' + 5 * nI x' + nI y' = nI (25 * p' + 5 * x' + y') := by rw [show (25 : Int32) = nI 25 from rfl, show (5 : Int32) = nI 5 from rfl, pk_mul, pk_mul, nI_add, nI_add]
      have hv : vp_in (nI (25 * p' + 5 * x' + y')) 100 := vp_in_nI (by omega) (by omega)
      refine xx_flag (by omega) (fun z => ?_) (fun z => ?_)
      · rw [ei] at z
        unfold wpY_holds
        refine br_f z0 (yy_badFact hC.2 hP.2 (fun _ => br_t rfl ?_) (fun g => absurd hh g))
        rw [ey]
        refine And.intro hv ?_
        rw [nI_clamp (show 25 * p' + 5 * x' + y' < 2 ^ 31 by omega)]
        exact br_c (fun _ => ⟨rfl, zz_in hI⟩) (fun w => absurd (hf.mpr (hg.mp w)) (fun q => q z))
      · rw [ei] at z
        unfold wpY_holds
        refine br_f z0 (yy_badFact hC.2 hP.2 (fun _ => br_t rfl ?_) (fun g => absurd hh g))
        rw [ey]
        refine And.intro hv ?_
        rw [nI_clamp (show 25 * p' + 5 * x' + y' < 2 ^ 31 by omega)]
        exact br_f (hg.mpr (hf.mp z)) ⟨rfl, zz_in hI⟩
    · unfold wpY_holds
      exact br_f z0 (yy_badFact hC.2 hP.2 (fun g => absurd g h) (fun _ => br_f mg_10 ⟨rfl, zz_in hI⟩))
theorem mg_lt_of {n : Nat} {x : Int32} (hn : n < 100) (h0 : ¬ x < 0) (h1 : x < nI n) : ∃ j, j < n ∧ x = nI j := by
  obtain ⟨j, hj, rfl⟩ := nI_of h0
  rw [nI_ltI hj (by omega)] at h1
  exact ⟨j, h1, rfl⟩
section
variable {cC pC rL rC dO sC zP zQ qT gC aC fC bC nA gO rE : Int32} {ce bl kn qu aR aF aS gL iA aQ bP fr ba an : Nat → Int32}
theorem xx_cell_55 {post : Int32 → Prop} {k r : Nat} (hk : k ≤ 11) (hr : r ≤ 8) (h1 : nI k / 3 ≤ bl r → post (ce (12 * r + k))) (h0 : ¬ nI k / 3 ≤ bl r → post (-13)) : wX_cell_55 post (nI k) (nI r) cC pC rL rC dO sC zP zQ qT gC aC fC bC nA gO rE ce bl kn qu aR aF aS gL iA aQ bP fr ba an := by
  unfold wX_cell_55
  rw [mg_jx0, nI_add, nI_clamp (show r < 2 ^ 31 by omega), nI_clamp (show 12 * r + k < 2 ^ 31 by omega)]
  exact ⟨by decide, vp_in_nI (by omega) (by omega), br_c (fun z => ⟨vp_in_nI (by omega) (by omega), h1 z⟩) h0⟩
end
section
variable {cC pC rL rC qp qs qt dO zP zQ : Int32} {ce bl fa mo pa go : Nat → Int32}
theorem yy_cell_50 {post : Int32 → Prop} {k r : Nat} (hk : k ≤ 11) (hr : r ≤ 8) (h1 : nI k / 3 ≤ bl r → post (ce (12 * r + k))) (h0 : ¬ nI k / 3 ≤ bl r → post (-13)) : wY_cell_50 post (nI k) (nI r) cC pC rL rC qp qs qt dO zP zQ ce bl fa mo pa go := by
  unfold wY_cell_50
  rw [mg_ih0, nI_add, nI_clamp (show r < 2 ^ 31 by omega), nI_clamp (show 12 * r + k < 2 ^ 31 by omega)]
  exact ⟨by decide, vp_in_nI (by omega) (by omega), br_c (fun z => ⟨vp_in_nI (by omega) (by omega), h1 z⟩) h0⟩
end
theorem i_vc_cell {k : Nat} {u : SX} {v : SY} (I : i_Rel k u v) (hk : k + 5 ≤ 2563) (v1 : Int32) (v2 : Int32) : wpX_cell (fun r => wpY_cell (fun r' => r' = r ∧ i_Rel (k + 5) u v) v v1 v2) u v1 v2 := by
  refine zz_el (P := fun u v => wpX_cell (fun r => wpY_cell (fun r' => r' = r ∧ i_Rel (k + 5) u v) v v1 v2) u v1 v2) I ?_
  intro C Pn Rl rc sc dO zP zQ qT gC aC fC bC nA gO rE qp qs qt ce bl kn qu aR aF aS gL iA aQ bP fr ba an fa mo pa go hI
  have hJ := hI
  obtain ⟨⟨hC, hP, hR, hrc⟩, _⟩ := hJ
  unfold wpX_cell
  refine br_c (fun a => ?_) (fun a => ?_)
  · unfold wpY_cell
    exact br_t a ⟨rfl, zz_in hI⟩
  · refine br_c (fun b => ?_) (fun b => ?_)
    · have b' : ¬ nI rc ≤ v1 := Int32.not_le.mpr b
      refine br_c (fun c => ?_) (fun c => ?_)
      · unfold wpY_cell
        exact br_f a (br_f b' (br_t c ⟨rfl, zz_in hI⟩))
      · refine br_c (fun d => ?_) (fun d => ?_)
        · obtain ⟨q, hq, rfl⟩ := nI_of2 (n := 11) (M := 11) (by decide) c d
          refine br_c (fun e => ?_) (fun e => ?_)
          · refine br_c (fun f => ?_) (fun f => ?_)
            · unfold wpY_cell
              refine br_f a (br_f b' (br_f c (br_t d (br_t e ?_))))
              unfold wY_cell_37
              exact br_t e (br_t f ⟨rfl, zz_in hI⟩)
            · unfold wX_cell_44
              refine br_t e (xx_cell_55 (r := 8) hq (by omega) (fun g => ?_) (fun g => ?_))
              · unfold wpY_cell
                refine br_f a (br_f b' (br_f c (br_t d (br_t e ?_))))
                unfold wY_cell_37
                exact br_t e (br_f f (yy_cell_50 (r := 8) hq (by omega) (fun _ => ⟨rfl, zz_in hI⟩) (fun g' => absurd g g')))
              · unfold wpY_cell
                refine br_f a (br_f b' (br_f c (br_t d (br_t e ?_))))
                unfold wY_cell_37
                exact br_t e (br_f f (yy_cell_50 (r := 8) hq (by omega) (fun g' => absurd g' g) (fun _ => ⟨rfl, zz_in hI⟩)))
          · have h0 : ¬ v1 < 0 := fun z => by
              rw [Int32.lt_iff_toInt_lt] at a z
              rw [show (-1 : Int32).toInt = -1 by decide] at a
              rw [show (0 : Int32).toInt = 0 by decide] at z
              exact e (mg_i32 (by rw [show (-1 : Int32).toInt = -1 by decide]; omega))
            obtain ⟨r, hr, rfl⟩ := mg_lt_of (n := rc) (by omega) h0 b
            unfold wX_cell_44
            refine br_f e (xx_cell_55 hq (by omega) (fun g => ?_) (fun g => ?_))
            · unfold wpY_cell
              refine br_f a (br_f b' (br_f c (br_t d (br_f e ?_))))
              unfold wY_cell_37
              exact br_f e (yy_cell_50 hq (by omega) (fun _ => ⟨rfl, zz_in hI⟩) (fun g' => absurd g g'))
            · unfold wpY_cell
              refine br_f a (br_f b' (br_f c (br_t d (br_f e ?_))))
              unfold wY_cell_37
              exact br_f e (yy_cell_50 hq (by omega) (fun g' => absurd g' g) (fun _ => ⟨rfl, zz_in hI⟩))
        · unfold wpY_cell
          exact br_f a (br_f b' (br_f c (br_f d ⟨rfl, zz_in hI⟩)))
    · unfold wpY_cell
      exact br_f a (br_t (Int32.not_lt.mp b) ⟨rfl, zz_in hI⟩)
end
section
/-! endRule, dropRule -/
theorem mg_nb : ∀ a, a < 8 → ∀ b, b < 8 → ((nI a &&& (nI b ^^^ (-1))) = 0 ↔ ((a % 2 = 1 → b % 2 = 1) ∧ (a / 2 % 2 = 1 → b / 2 % 2 = 1) ∧ (a / 4 % 2 = 1 → b / 4 % 2 = 1))) := by decide +kernel
theorem mg_nb_bs {a b : Nat} (ha : a < 8) (hb : b < 8) : ((nI a &&& (nI b ^^^ (-1))) = 0) ↔ ∀ u, mg_bs a u → mg_bs b u := by
  rw [mg_nb a ha b hb]
  constructor
  · rintro ⟨h1, h2, h3⟩ u (⟨e, h⟩ | ⟨e, h⟩ | ⟨e, h⟩)
    · exact Or.inl ⟨e, h1 h⟩
    · exact Or.inr (Or.inl ⟨e, h2 h⟩)
    · exact Or.inr (Or.inr ⟨e, h3 h⟩)
  · intro h
    refine ⟨fun z => ?_, fun z => ?_, fun z => ?_⟩
    · rcases h (-1) (Or.inl ⟨rfl, z⟩) with ⟨_, g⟩ | ⟨e, _⟩ | ⟨e, _⟩
      · exact g
      · exact absurd e (by decide)
      · exact absurd e (by decide)
    · rcases h (-2) (Or.inr (Or.inl ⟨rfl, z⟩)) with ⟨e, _⟩ | ⟨_, g⟩ | ⟨e, _⟩
      · exact absurd e (by decide)
      · exact g
      · exact absurd e (by decide)
    · rcases h (-3) (Or.inr (Or.inr ⟨rfl, z⟩)) with ⟨e, _⟩ | ⟨e, _⟩ | ⟨_, g⟩
      · exact absurd e (by decide)
      · exact absurd e (by decide)
      · exact g
/-- the draft is safe, as the reference asks it -/
def mg_ys (ce bl : Nat → Int32) : Prop := 1 ≤ mg_n bl 8 ∧ mg_sq ce 8 (mg_n bl 8) (ce 97) ∧ mg_sq ce 8 (mg_n bl 8) (ce 98)
theorem mg_ys_sf {ce bl : Nat → Int32} (h : mg_ys ce bl) : mg_sf ce bl 8 := by
  refine ⟨h.1, fun t ht h0 => ?_⟩
  have hs : mg_sq ce 8 (mg_n bl 8) t := by
    rcases ht with e | e
    · rw [e]; exact h.2.1
    · rw [e]; exact h.2.2
  rcases hs with g | ⟨j, j1, j2, g⟩
  · exact absurd h0 g
  · exact ⟨j, j1, j2, g.elim (fun g => Or.inl g.symm) (fun g => Or.inr g.symm)⟩
section
variable {cC pC rL rC dO sC zP zQ qT gC aC fC bC nA gO rE : Int32} {ce bl kn qu aR aF aS gL iA aQ bP fr ba an : Nat → Int32}
theorem xx_isDraftSafe_4 {post : Int32 → Prop} {C Pn : Nat} (hC : 1 ≤ C ∧ C ≤ 5) (ho : mg_ro C Pn ce bl 8) (h1 : mg_ys ce bl → post 1) (h0 : ¬ mg_ys ce bl → post 0) :
    ∀ n j bb, mg_n bl 8 < n + j → j ≤ mg_n bl 8 → bb < 8 → (∀ u, mg_ng u → (mg_bs bb u ↔ mg_sq ce 8 j u)) → wX_isDraftSafe_4 post cC pC rL rC dO sC zP zQ qT gC aC fC bC nA gO rE ce bl kn qu aR aF aS gL iA aQ bP fr ba an n (nI bb) (nI (j + 1)) := by
  have hn := mg_ro_n ho
  intro n
  induction n with
  | zero => intro j bb a b; omega
  | succ n ih =>
    intro j bb a b hb hbs
    unfold wX_isDraftSafe_4
    rw [hn.1]
    refine pk_lt (mg_n bl 8) (j + 1) (fun e => ?_) (fun e => ?_)
    · have ej : j = mg_n bl 8 := by omega
      subst ej
      have hao := ho.2 0 (by omega)
      refine xx_variableBits hC.2 hao.2.1 hao.2.2 ?_
      have l1 := mg_vv_lt (ce 97)
      have l2 := mg_vv_lt (ce 98)
      have l3 := (mg_or_f _ l1 _ l2).1
      refine pk_le (mg_n bl 8) 0 (fun z => h0 (fun h => by have := h.1; omega)) (fun z => ?_)
      rw [mg_nb_bs l3 hb]
      have key : (∀ u, mg_bs (mg_vv (ce 97) ||| mg_vv (ce 98)) u → mg_bs bb u) ↔ mg_ys ce bl := by
        constructor
        · intro h
          have hh : ∀ t, mg_T C t → (t = ce 97 ∨ t = ce 98) → mg_sq ce 8 (mg_n bl 8) t := fun t hT ht => by
            by_cases w : t < 0
            · have ng : mg_ng t := mg_T_neg hT w hC.2
              refine (hbs t ng).mp (h t ?_)
              rw [mg_bs_or l1 l2, mg_bs_vv hC.2 hao.2.1 ng, mg_bs_vv hC.2 hao.2.2 ng]
              exact ht
            · exact Or.inl w
          exact ⟨z, hh _ hao.2.1 (Or.inl rfl), hh _ hao.2.2 (Or.inr rfl)⟩
        · intro h u hu
          have ng := mg_bs_ng hu
          rw [mg_bs_or l1 l2, mg_bs_vv hC.2 hao.2.1 ng, mg_bs_vv hC.2 hao.2.2 ng] at hu
          refine (hbs u ng).mpr ?_
          rcases hu with e | e
          · rw [e]; exact h.2.1
          · rw [e]; exact h.2.2
      rw [key]
      exact br_c h1 h0
    · have hao := ho.2 (j + 1) e
      refine nm_r (e' := nI (96 + 3 * (j + 1))) (mg_jx 96 (j + 1)) ?_
      rw [nI_1, mg_j2]
      refine ⟨vp_in_nI (by omega) (by omega), vp_in_nI (by omega) (by omega), ?_⟩
      rw [nI_clamp (show 96 + 3 * (j + 1) + 1 < 2 ^ 31 by omega), nI_clamp (show 96 + 3 * (j + 1) + 2 < 2 ^ 31 by omega)]
      refine xx_variableBits hC.2 hao.2.1 hao.2.2 ?_
      have l1 := mg_vv_lt (ce (96 + 3 * (j + 1) + 1))
      have l2 := mg_vv_lt (ce (96 + 3 * (j + 1) + 2))
      have l3 := (mg_or_f _ l1 _ l2).1
      refine nm_r (mg_or _ hb _ l3) (nm_r (nI_1 (j + 1)) (ih (j + 1) _ (by omega) (by omega) (mg_or_f _ hb _ l3).1 (fun u hu => ?_)))
      rw [mg_bs_or hb l3, mg_bs_or l1 l2, mg_bs_vv hC.2 hao.2.1 hu, mg_bs_vv hC.2 hao.2.2 hu, hbs u hu, mg_sq_s]
      constructor
      · rintro (h | h | h)
        · exact Or.inl h
        · exact Or.inr (Or.inl h.symm)
        · exact Or.inr (Or.inr h.symm)
      · rintro (h | h | h)
        · exact Or.inl h
        · exact Or.inr (Or.inl h.symm)
        · exact Or.inr (Or.inr h.symm)
theorem xx_isDraftSafe {post : Int32 → Prop} {C Pn : Nat} (hC : 1 ≤ C ∧ C ≤ 5) (ho : mg_ro C Pn ce bl 8) (h1 : mg_ys ce bl → post 1) (h0 : ¬ mg_ys ce bl → post 0) : wpX_isDraftSafe post (cC, pC, rL, rC, dO, sC, zP, zQ, qT, gC, aC, fC, bC, nA, gO, rE, ce, bl, kn, qu, aR, aF, aS, gL, iA, aQ, bP, fr, ba, an) := by
  unfold wpX_isDraftSafe
  refine ⟨mg_n bl 8 + 1, xx_isDraftSafe_4 hC ho h1 h0 (mg_n bl 8 + 1) 0 0 (by omega) (by omega) (by omega) (fun u hu => ?_)⟩
  constructor
  · rintro (⟨_, h⟩ | ⟨_, h⟩ | ⟨_, h⟩) <;> omega
  · rintro (h | ⟨j, j1, j2, _⟩)
    · exact absurd (mg_ng_lt hu) h
    · omega
end
theorem mg_cr_row {ce : Nat → Int32} {f t r : Nat} (h : r ≠ t) : ∀ k, k < 12 → mg_cr ce f t 12 (12 * r + k) = ce (12 * r + k) := fun k hk => mg_cr_lo 12 (by omega) (by omega)
theorem mg_cr_ok {C Pn rc f t : Nat} {ce bl : Nat → Int32} (hft : f ≠ t) (ho : ∀ r, r < rc → r ≠ t → mg_ro C Pn ce bl r ∧ mg_sf ce bl r) (hf : mg_ro C Pn ce bl f ∧ mg_sf ce bl f) : mg_ok C Pn (mg_cr ce f t 12) (upd bl t (bl f)) rc := fun r hr => by
  by_cases z : r = t
  · subst z
    have e : ∀ k, k < 12 → mg_cr ce f r 12 (12 * r + k) = ce (12 * f + k) := fun k hk => mg_cr_at hft 12 (by omega) hk
    exact ⟨mg_ro_eq e pk_us hf.1, mg_sf_eq e pk_us hf.1 hf.2⟩
  · exact ⟨mg_ro_eq (mg_cr_row z) (pk_un z) (ho r hr z).1, mg_sf_eq (mg_cr_row z) (pk_un z) (ho r hr z).1 (ho r hr z).2⟩
theorem mg_I_drop {C Pn Rl rc sc rc' : Nat} {dO dO' zP zQ qp qs qt nA gO rE : Int32} {ce bl kn fa mo iA pa go an ce' bl' : Nat → Int32} (h : mg_I C Pn Rl rc sc dO zP zQ ce bl kn fa mo iA pa go an qp qs qt nA gO rE) (h1 : rc' ≤ Rl) (h2 : mg_ok C Pn ce' bl' rc') (h3 : mg_ro C Pn ce' bl' 8) : mg_I C Pn Rl rc' sc dO' 0 0 ce' bl' kn fa mo iA pa go an qp qs qt nA gO rE := by
  obtain ⟨⟨hC, hP, hR, hrc⟩, _, _, h4, h5, _⟩ := h
  refine ⟨⟨hC, hP, hR, h1⟩, h2, h3, h4, h5, fun h => absurd rfl h, fun h => ?_, fun h => absurd rfl h⟩
  rcases h with h | h
  · exact absurd rfl h
  · exact absurd rfl h
theorem i_vc_endRule {k : Nat} {u : SX} {v : SY} (I : i_Rel k u v) (hk : k + 5 ≤ 2563) : wpX_endRule (fun r u' => wpY_endRule (fun r' v' => r' = r ∧ i_Rel (k + 5) u' v') v) u := by
  refine zz_el (P := fun u v => wpX_endRule (fun r u' => wpY_endRule (fun r' v' => r' = r ∧ i_Rel (k + 5) u' v') v) u) I ?_
  intro C Pn Rl rc sc dO zP zQ qT gC aC fC bC nA gO rE qp qs qt ce bl kn qu aR aF aS gL iA aQ bP fr ba an fa mo pa go hI
  have hJ := hI
  obtain ⟨⟨hC, hP, hR, hrc⟩, h2, h3, h4, h5, _⟩ := hJ
  have hn := mg_ro_n h3
  unfold wpX_endRule
  refine br_c (fun a => ?_) (fun a => ?_)
  · unfold wpY_endRule
    exact br_t a ⟨rfl, zz_in hI⟩
  · refine br_c (fun b => ?_) (fun b => ?_)
    · have hb := (nI_ltI (show rc < 2 ^ 31 by omega) (show Rl < 2 ^ 31 by omega)).mp b
      refine xx_isDraftSafe (C := C) (Pn := Pn) (by omega) h3 (fun hs => br_f mg_10 ?_) (fun hs => br_t rfl ?_)
      · refine xx_copyRow (f := 8) (by omega) (by omega) (nm_r (nI_1 rc) (xx_dropResults ?_))
        dsimp only
        rw [nI_pred]
        unfold wpY_endRule
        refine br_f a (br_t b ?_)
        rw [hn.1]
        refine pk_eq (mg_n bl 8) 0 (fun z => absurd hs.1 (by omega)) (fun _ => ?_)
        refine yy_stands (r := 8) (by omega) hn.2 (fun _ => br_f mg_10 ?_) (fun h => absurd hs.2.1 h)
        refine yy_stands (r := 8) (by omega) hn.2 (fun _ => br_f mg_10 ?_) (fun h => absurd hs.2.2 h)
        refine yy_copyRow (f := 8) (by omega) (by omega) (nm_r (nI_1 rc) ⟨nI_pred rc, ?_⟩)
        rw [← hn.1]
        refine zz_in (mg_I_drop (rc' := rc + 1) hI (by omega) (mg_cr_ok (f := 8) (t := rc) (by omega) (fun r hr hne => h2 r (by omega)) ⟨h3, mg_ys_sf hs⟩) (mg_ro_eq (mg_cr_row (by omega)) (pk_un (by omega)) h3))
      · unfold wpY_endRule
        refine br_f a (br_t b ?_)
        rw [hn.1]
        refine pk_eq (mg_n bl 8) 0 (fun _ => ⟨rfl, zz_in hI⟩) (fun z => ?_)
        refine yy_stands (r := 8) (by omega) hn.2 (fun g1 => br_f mg_10 ?_) (fun _ => br_t rfl ⟨rfl, zz_in hI⟩)
        exact yy_stands (r := 8) (by omega) hn.2 (fun g2 => absurd ⟨by omega, g1, g2⟩ hs) (fun _ => br_t rfl ⟨rfl, zz_in hI⟩)
    · unfold wpY_endRule
      exact br_f a (br_f b ⟨rfl, zz_in hI⟩)
def mg_sh : Nat → Nat → (Nat → Int32) × (Nat → Int32) → (Nat → Int32) × (Nat → Int32)
  | 0, _, s => s
  | d + 1, i, s => mg_sh d (i + 1) (mg_cr s.1 (i + 1) i 12, upd s.2 i (s.2 (i + 1)))
theorem mg_sh_ok {C Pn rc : Nat} : ∀ d i ce bl, i + d + 1 = rc → rc ≤ 8 → mg_ok C Pn ce bl rc → mg_ro C Pn ce bl 8 → mg_ok C Pn (mg_sh d i (ce, bl)).1 (mg_sh d i (ce, bl)).2 rc ∧ mg_ro C Pn (mg_sh d i (ce, bl)).1 (mg_sh d i (ce, bl)).2 8
  | 0, _, _, _, _, _, h, g => ⟨h, g⟩
  | d + 1, i, ce, bl, e, hrc, h, g =>
    mg_sh_ok d (i + 1) _ _ (by omega) hrc (mg_cr_ok (by omega) (fun r hr _ => h r hr) (h (i + 1) (by omega))) (mg_ro_eq (mg_cr_row (by omega)) (pk_un (by omega)) g)
section
variable {cC pC rL rC dO sC zP zQ qT gC aC fC bC nA gO rE : Int32} {ce bl kn qu aR aF aS gL iA aQ bP fr ba an : Nat → Int32}
theorem xx_dropRule_17 {post : Int32 → SX → Prop} {rc : Nat} (hrc : rc ≤ 8) : ∀ d i ce bl, i + d + 1 = rc → post 0 (cC, pC, rL, nI (rc - 1), dO, sC, 0, 0, qT, gC, aC, fC, bC, nA, gO, rE, (mg_sh d i (ce, bl)).1, (mg_sh d i (ce, bl)).2, kn, qu, aR, aF, aS, gL, iA, aQ, bP, fr, ba, an) → ∀ n, d < n → wX_dropRule_17 post n (nI i) cC pC rL (nI rc) dO sC zP zQ qT gC aC fC bC nA gO rE ce bl kn qu aR aF aS gL iA aQ bP fr ba an := by
  intro d
  induction d with
  | zero =>
    intro i ce bl e h n hn
    obtain ⟨n, rfl⟩ : ∃ k, n = k + 1 := ⟨n - 1, by omega⟩
    unfold wX_dropRule_17
    rw [nI_1 i]
    refine pk_le rc (i + 1) (fun _ => ?_) (fun e => absurd e (by omega))
    exact nm_r (pk_sub (b := 1) (by omega)) (xx_dropResults h)
  | succ d ih =>
    intro i ce bl e h n hn
    obtain ⟨n, rfl⟩ : ∃ k, n = k + 1 := ⟨n - 1, by omega⟩
    unfold wX_dropRule_17
    rw [nI_1 i]
    refine pk_le rc (i + 1) (fun e => absurd e (by omega)) (fun _ => ?_)
    refine xx_copyRow (by omega) (by omega) ?_
    exact nm_e (ih (i + 1) _ _ (by omega) h n (by omega))
end
section
variable {cC pC rL rC qp qs qt dO zP zQ : Int32} {ce bl fa mo pa go : Nat → Int32}
theorem yy_dropRule_17 {post : Int32 → SY → Prop} {rc : Nat} (hrc : rc ≤ 8) : ∀ d i ce bl, i + d + 1 = rc → post 0 (cC, pC, rL, nI (rc - 1), qp, qs, qt, dO, 0, 0, (mg_sh d i (ce, bl)).1, (mg_sh d i (ce, bl)).2, fa, mo, pa, go) → ∀ n, d < n → wY_dropRule_17 post n (nI i) cC pC rL (nI rc) qp qs qt dO zP zQ ce bl fa mo pa go := by
  intro d
  induction d with
  | zero =>
    intro i ce bl e h n hn
    obtain ⟨n, rfl⟩ : ∃ k, n = k + 1 := ⟨n - 1, by omega⟩
    have es : nI rc - 1 = nI (rc - 1) := pk_sub (b := 1) (by omega)
    unfold wY_dropRule_17
    rw [es]
    refine pk_le (rc - 1) i (fun _ => ?_) (fun e => absurd e (by omega))
    exact nm_e h
  | succ d ih =>
    intro i ce bl e h n hn
    obtain ⟨n, rfl⟩ : ∃ k, n = k + 1 := ⟨n - 1, by omega⟩
    have es : nI rc - 1 = nI (rc - 1) := pk_sub (b := 1) (by omega)
    unfold wY_dropRule_17
    rw [es, nI_1 i]
    refine pk_le (rc - 1) i (fun e => absurd e (by omega)) (fun _ => ?_)
    refine yy_copyRow (by omega) (by omega) ?_
    exact nm_e (ih (i + 1) _ _ (by omega) h n (by omega))
end
theorem i_vc_dropRule {k : Nat} {u : SX} {v : SY} (I : i_Rel k u v) (hk : k + 5 ≤ 2563) (v1 : Int32) : wpX_dropRule (fun r u' => wpY_dropRule (fun r' v' => r' = r ∧ i_Rel (k + 5) u' v') v v1) u v1 := by
  refine zz_el (P := fun u v => wpX_dropRule (fun r u' => wpY_dropRule (fun r' v' => r' = r ∧ i_Rel (k + 5) u' v') v v1) u v1) I ?_
  intro C Pn Rl rc sc dO zP zQ qT gC aC fC bC nA gO rE qp qs qt ce bl kn qu aR aF aS gL iA aQ bP fr ba an fa mo pa go hI
  have hJ := hI
  obtain ⟨⟨hC, hP, hR, hrc⟩, h2, h3, h4, h5, _⟩ := hJ
  unfold wpX_dropRule
  refine br_c (fun a => ?_) (fun a => ?_)
  · unfold wpY_dropRule
    exact br_t a ⟨rfl, zz_in hI⟩
  · refine br_c (fun b => ?_) (fun b => ?_)
    · obtain ⟨r, hr, rfl⟩ := mg_lt_of (by omega) a b
      refine ⟨rc - 1 - r + 1, xx_dropRule_17 (by omega) (rc - 1 - r) r ce bl (by omega) ?_ _ (by omega)⟩
      unfold wpY_dropRule
      refine br_f a (br_t b ⟨rc - 1 - r + 1, yy_dropRule_17 (by omega) (rc - 1 - r) r ce bl (by omega) ⟨rfl, ?_⟩ _ (by omega)⟩)
      obtain ⟨o1, o2⟩ := mg_sh_ok (C := C) (Pn := Pn) (rc := rc) (rc - 1 - r) r ce bl (by omega) (by omega) h2 h3
      exact zz_in (mg_I_drop hI (by omega) (fun q hq => o1 q (by omega)) o2)
    · unfold wpY_dropRule
      exact br_f a (br_f b ⟨rfl, zz_in hI⟩)
end
section
/-! runPlain -/
section
variable {cC pC rL rC dO sC zP zQ qT gC aC fC bC nA gO rE : Int32} {ce bl kn qu aR aF aS gL iA aQ bP fr ba an : Nat → Int32}
theorem xx_reset_2 {post : SX → Prop} {a b : Nat} (hb : b ≤ 1000) {kn0 : Nat → Int32} (K : ∀ kn', (∀ k, a ≤ k → k < b → kn' k = 0) → (∀ k, (k < a ∨ b ≤ k) → kn' k = kn0 k) → post (cC, pC, rL, rC, dO, sC, zP, zQ, 0, 0, aC, fC, bC, nA, gO, rE, ce, bl, kn', qu, aR, aF, aS, gL, iA, aQ, bP, fr, ba, an)) :
    ∀ n i kn, b < n + i → a ≤ i → i ≤ b → (∀ k, a ≤ k → k < i → kn k = 0) → (∀ k, (k < a ∨ i ≤ k) → kn k = kn0 k) → wX_reset_2 post (nI b) cC pC rL rC dO sC zP zQ qT gC aC fC bC nA gO rE n (nI i) ce bl kn qu aR aF aS gL iA aQ bP fr ba an := by
  intro n
  induction n with
  | zero => intro i kn h1 h2 h3; omega
  | succ n ih =>
    intro i kn h1 h2 h3 h4 h5
    unfold wX_reset_2
    refine pk_le b i (fun e => ?_) (fun e => ?_)
    · have ei : i = b := by omega
      subst ei
      exact K kn h4 h5
    · refine ⟨vp_in_nI (by omega) (by omega), ?_⟩
      rw [nI_clamp (show i < 2 ^ 31 by omega), mg_nar0]
      refine nm_e (nm_r (nI_1 i) (ih (i + 1) _ (by omega) (by omega) (by omega) (fun k k1 k2 => ?_) (fun k hk => ?_)))
      · by_cases z : k = i
        · subst z; exact pk_us
        · rw [pk_un z]; exact h4 k k1 (by omega)
      · rw [pk_un (by omega)]
        exact h5 k (by omega)
theorem xx_reset {post : SX → Prop} {a b : Nat} (hab : a ≤ b) (hb : b ≤ 1000) (K : ∀ kn', (∀ k, a ≤ k → k < b → kn' k = 0) → (∀ k, (k < a ∨ b ≤ k) → kn' k = kn k) → post (cC, pC, rL, rC, dO, sC, zP, zQ, 0, 0, aC, fC, bC, nA, gO, rE, ce, bl, kn', qu, aR, aF, aS, gL, iA, aQ, bP, fr, ba, an)) : wpX_reset post (cC, pC, rL, rC, dO, sC, zP, zQ, qT, gC, aC, fC, bC, nA, gO, rE, ce, bl, kn, qu, aR, aF, aS, gL, iA, aQ, bP, fr, ba, an) (nI a) (nI b) := by
  unfold wpX_reset
  exact ⟨b + 1, xx_reset_2 hb K (b + 1) a kn (by omega) (by omega) hab (fun k k1 k2 => by omega) (fun k _ => rfl)⟩
end
theorem mg_pr_wf {C Pn rc r : Nat} {ce bl : Nat → Int32} (hC : 1 ≤ C ∧ C ≤ 5) (hP : Pn ≤ 4) (hok : mg_ok C Pn ce bl rc) (hr : r < rc) : mg_wf C 0 100 (mg_pr ce bl r) := by
  obtain ⟨hro, hsf⟩ := hok r hr
  have hn := mg_ro_n hro
  have ca : ∀ j, j ≤ mg_n bl r → (mg_ca ce (12 * r + 3 * j)).1 < 4 ∧ mg_T C (mg_ca ce (12 * r + 3 * j)).2.1 ∧ mg_T C (mg_ca ce (12 * r + 3 * j)).2.2 := fun j hj => by
    have ha := hro.2 j hj
    have := (mg_ao_p hP ha).2
    exact ⟨by show (ce (12 * r + 3 * j)).toNatClampNeg < 4; omega, ha.2.1, ha.2.2⟩
  have c0 := ca 0 (by omega)
  rw [show 12 * r + 3 * 0 = 12 * r by omega] at c0
  have mem : ∀ j, 1 ≤ j → j ≤ mg_n bl r → mg_ca ce (12 * r + 3 * j) ∈ (mg_pr ce bl r).2 := fun j j1 j2 => List.mem_map.mpr ⟨j - 1, List.mem_range.mpr (by omega), by rw [show j - 1 + 1 = j by omega]⟩
  refine ⟨by show ((List.range (mg_n bl r)).map _).length ≤ 4; rw [List.length_map, List.length_range]; omega, fun a ha => ?_, by omega, by show (mg_ca ce (12 * r)).1 * 25 + 25 ≤ 0 + 100; omega, ⟨_, mem 1 (by omega) hsf.1, by omega, by have := (ca 1 hsf.1).1; omega⟩, fun t ht h0 => ?_⟩
  · rcases ha with rfl | ha
    · exact ⟨by show (mg_ca ce (12 * r)).1 < 40; omega, c0.2⟩
    · obtain ⟨j, hj, rfl⟩ := List.mem_map.mp ha
      rw [List.mem_range] at hj
      have := ca (j + 1) (by omega)
      exact ⟨by omega, this.2⟩
  · obtain ⟨j, j1, j2, e⟩ := hsf.2 t ht h0
    exact ⟨_, mem j j1 j2, e⟩
theorem mg_lm_plain {C Pn rc : Nat} {ce bl fa : Nat → Int32} {K0 : Nat → Prop} (hC : C ≤ 5) (hP : Pn ≤ 4) (hok : mg_ok C Pn ce bl rc) (hK : ∀ k, k < 100 → (K0 k ↔ fa k ≠ 0)) {k : Nat} (hk : k < 100) : mg_lm C (mg_pp ce bl rc) K0 k ↔ mg_M C ce bl rc fa k := by
  constructor
  · intro h S hS hc
    refine h (fun j => j < 100 → S j) (fun f hf h1 => hS f ⟨h1, (hK f h1).mp hf⟩) (fun R hR s hs hb _ => ?_) hk
    refine hc R hR s hs (fun a ha => hb a ha ?_)
    obtain ⟨r, hr, rfl⟩ := List.mem_map.mp hR
    rw [List.mem_range] at hr
    obtain ⟨j, hj, rfl⟩ := List.mem_map.mp ha
    rw [List.mem_range] at hj
    exact (mg_ca_f hC hP ((hok r hr).1.2 (j + 1) (by omega)) hs).2.2.2.2
  · intro h
    exact h _ (fun f hf => mg_lm_in ((hK f hf.1).mpr hf.2)) mg_lm_cl
theorem mg_J_kn {C Pn : Nat} {M : Nat → Prop} {kn kn' iA pa go an : Nat → Int32} {qp qs qt nA gO rE : Int32} (h : ∀ k, 100 ≤ k → kn' k = kn k) (g : mg_J C Pn M kn iA pa go an qp qs qt nA gO rE) : mg_J C Pn M kn' iA pa go an qp qs qt nA gO rE := by
  obtain ⟨p, p1, p2, p3, p4, p5, p6, p7, p8⟩ := g
  refine ⟨p, p1, p2, p3, p4, p5, fun k h1 h2 => ?_, fun pr z h1 h2 => ?_, p8⟩
  · rw [h k (by omega)]; exact p6 k h1 h2
  · rw [h _ (by omega)]; exact p7 pr z h1 h2
section
variable {cC pC rL rC dO sC zP zQ qT gC aC fC bC nA gO rE : Int32} {ce bl kn qu aR aF aS gL iA aQ bP fr ba an : Nat → Int32}
theorem xx_runPlain_31 {post : Int32 → SX → Prop} {C Pn rc : Nat} {fa kn0 : Nat → Int32} (hC : 1 ≤ C ∧ C ≤ 5) (hP : Pn ≤ 4) (hrc : rc ≤ 8) (hok : mg_ok C Pn ce bl rc) (hg : mg_GS (mg_pp ce bl rc) aR aF aS gL)
    (hfa : ∀ f, f < 100 → kn0 (100 + f) = fa f ∧ (fa f ≠ 0 → f / 5 % 5 < C ∧ f % 5 < C))
    (K : ∀ kn' qu' fC' bC' fr' ba', (∀ k, 100 ≤ k → kn' k = kn0 k) → (∀ k, k < 100 → (kn' k ≠ 0 ↔ mg_M C ce bl rc fa k)) → post (nI (mg_cn (mg_s kn') 100)) (nI C, pC, rL, nI rc, dO, sC, 1, zQ, nI (mg_cn (mg_s kn') 100), nI rc, aC, fC', bC', nA, gO, rE, ce, bl, kn', qu', aR, aF, aS, gL, iA, aQ, bP, fr', ba', an)) :
    ∀ n i t kn qu, 100 < n + i → i ≤ 100 → mg_Q C 0 100 kn qu t → (∀ k, 100 ≤ k → kn k = kn0 k) → (∀ k, k < 100 → (kn k ≠ 0 ↔ (k < i ∧ fa k ≠ 0))) →
    wX_runPlain_31 post n (nI (100 + i)) (nI C) pC rL (nI rc) dO sC zP zQ (nI t) (nI rc) aC fC bC nA gO rE ce bl kn qu aR aF aS gL iA aQ bP fr ba an := by
  have hl : (mg_pp ce bl rc).length = rc := by unfold mg_pp; rw [List.length_map, List.length_range]
  intro n
  induction n with
  | zero => intro i t kn qu h1 h2; omega
  | succ n ih =>
    intro i t kn qu h1 h2 hQ h3 h4
    unfold wX_runPlain_31
    refine pk_le 200 (100 + i) (fun e => ?_) (fun e => ?_)
    · have ei : i = 100 := by omega
      subst ei
      have eg : nI rc = nI (mg_pp ce bl rc).length := by rw [hl]
      refine ek_v (P := fun z => wpX_saturate _ (nI C, pC, rL, nI rc, dO, sC, zP, zQ, nI t, z, aC, fC, bC, nA, gO, rE, ce, bl, kn, qu, aR, aF, aS, gL, iA, aQ, bP, fr, ba, an)) eg ?_
      refine xx_saturate (lo := 0) (w := 100) hC (by omega) (by rw [hl]; omega) hg.2 (fun R hR => ?_) hQ (fun fC' bC' kn' qu' t' fr' ba' hst hlm => ?_)
      · obtain ⟨r, hr, rfl⟩ := List.mem_map.mp hR
        rw [List.mem_range] at hr
        exact mg_pr_wf hC hP hok hr
      · have ht : t' = mg_cn (mg_s kn') 100 := by
          rw [← hst.1.2.2]
          exact mg_cn_eq (fun k _ => by rw [Nat.zero_add]; exact Iff.rfl)
        subst ht
        rw [hl]
        refine K kn' qu' fC' bC' fr' ba' (fun k hk => ?_) (fun k hk => ?_)
        · rw [hst.2.2.2.2 k (Or.inr (by omega)), h3 k hk]
        · rw [hlm k]
          exact mg_lm_plain hC.2 hP hok (fun j hj => by rw [h4 j hj]; exact ⟨fun h => h.2, fun h => ⟨hj, h⟩⟩) hk
    · refine ⟨vp_in_nI (by omega) (by omega), ?_⟩
      rw [nI_clamp (show 100 + i < 2 ^ 31 by omega), h3 _ (by omega), (hfa i (by omega)).1]
      refine br_c (fun z => ?_) (fun z => ?_)
      · refine nm_r (nI_1 _) (ih (i + 1) t kn qu (by omega) (by omega) hQ h3 (fun k hk => ?_))
        rw [h4 k hk]
        constructor
        · rintro ⟨a, b⟩; exact ⟨by omega, b⟩
        · rintro ⟨a, b⟩
          refine ⟨?_, b⟩
          by_cases y : k = i
          · subst y; exact absurd z b
          · omega
      · refine ek_v (P := fun z => wpX_enqueue _ _ z) (show nI (100 + i) - 100 = nI i by rw [show (100 : Int32) = nI 100 from rfl, pk_sub (by omega)]; exact congrArg nI (by omega)) ?_
        have hd := (hfa i (by omega)).2 z
        refine xx_enqueue (lo := 0) (w := 100) (by omega) (by omega) (by omega) hd.1 hd.2 hQ (fun kn' qu' t' hst hid hs => ?_)
        refine nm_r (nI_1 _) (ih (i + 1) t' kn' qu' (by omega) (by omega) hst.1 (fun k hk => by rw [hst.2.2.2.2 k (Or.inr (by omega)), h3 k hk]) (fun k hk => ?_))
        constructor
        · intro h
          rcases hs k h with g | g
          · have := (h4 k hk).mp g
            exact ⟨by omega, this.2⟩
          · rw [g]; exact ⟨by omega, z⟩
        · rintro ⟨a, b⟩
          by_cases y : k = i
          · rw [y]; exact hid
          · exact hst.2.2.2.1 k ((h4 k hk).mpr ⟨by omega, b⟩)
theorem xx_runPlain_9 {post : Int32 → SX → Prop} {C Pn rc : Nat} {fa kn0 : Nat → Int32} (hC : 1 ≤ C ∧ C ≤ 5) (hP : Pn ≤ 4) (hrc : rc ≤ 8) (hok : mg_ok C Pn ce bl rc)
    (hfa : ∀ f, f < 100 → kn0 (100 + f) = fa f ∧ (fa f ≠ 0 → f / 5 % 5 < C ∧ f % 5 < C)) (hk0 : ∀ k, k < 100 → kn k = 0) (hk1 : ∀ k, 100 ≤ k → kn k = kn0 k)
    (K : ∀ kn' qu' fC' bC' fr' ba' aR' aF' aS' gL', (∀ k, 100 ≤ k → kn' k = kn0 k) → (∀ k, k < 100 → (kn' k ≠ 0 ↔ mg_M C ce bl rc fa k)) → post (nI (mg_cn (mg_s kn') 100)) (nI C, pC, rL, nI rc, dO, sC, 1, zQ, nI (mg_cn (mg_s kn') 100), nI rc, aC, fC', bC', nA, gO, rE, ce, bl, kn', qu', aR', aF', aS', gL', iA, aQ, bP, fr', ba', an)) :
    ∀ n r aR aF aS gL, rc < n + r → r ≤ rc → mg_GS (mg_pp ce bl r) aR aF aS gL → wX_runPlain_9 post n (nI r) (nI C) pC rL (nI rc) dO sC zP zQ (nI 0) (nI r) aC fC bC nA gO rE ce bl kn qu aR aF aS gL iA aQ bP fr ba an := by
  intro n
  induction n with
  | zero => intro r aR aF aS gL h1 h2; omega
  | succ n ih =>
    intro r aR aF aS gL h1 h2 hg
    unfold wX_runPlain_9
    refine pk_le rc r (fun e => ?_) (fun e => ?_)
    · have er : r = rc := by omega
      subst er
      refine ⟨101, xx_runPlain_31 hC hP hrc hok hg hfa (fun kn' qu' fC' bC' fr' ba' h1 h2 => K kn' qu' fC' bC' fr' ba' _ _ _ _ h1 h2) 101 0 0 kn qu (by omega) (by omega) ⟨fun i hi => by omega, fun id _ h1 h2 => absurd (hk0 id (by omega)) h2, mg_cn_0 (fun k hk h => h (hk0 _ (by omega)))⟩ hk1 (fun k hk => ⟨fun h => absurd (hk0 k hk) h, fun h => by omega⟩)⟩
    · refine xx_addPlainRule (P := mg_pp ce bl r) hP (by omega) (hok r e).1 (by unfold mg_pp; rw [List.length_map, List.length_range]) (by omega) hg (fun aR' aF' aS' gL' hg' => ?_)
      refine nm_r (nI_1 r) (ih (r + 1) aR' aF' aS' gL' (by omega) (by omega) ?_)
      unfold mg_pp
      rw [List.range_succ, List.map_append]
      exact hg'
theorem xx_runPlain {post : Int32 → SX → Prop} {C Pn rc : Nat} {fa : Nat → Int32} (hC : 1 ≤ C ∧ C ≤ 5) (hP : Pn ≤ 4) (hrc : rc ≤ 8) (hok : mg_ok C Pn ce bl rc)
    (hfa : ∀ f, f < 100 → kn (100 + f) = fa f ∧ (fa f ≠ 0 → f / 5 % 5 < C ∧ f % 5 < C))
    (K : ∀ kn' qu' fC' bC' fr' ba' aR' aF' aS' gL', (∀ k, 100 ≤ k → kn' k = kn k) → (∀ k, k < 100 → (kn' k ≠ 0 ↔ mg_M C ce bl rc fa k)) → post (nI (mg_cn (mg_s kn') 100)) (nI C, pC, rL, nI rc, dO, sC, 1, zQ, nI (mg_cn (mg_s kn') 100), nI rc, aC, fC', bC', nA, gO, rE, ce, bl, kn', qu', aR', aF', aS', gL', iA, aQ, bP, fr', ba', an)) :
    wpX_runPlain post (nI C, pC, rL, nI rc, dO, sC, zP, zQ, qT, gC, aC, fC, bC, nA, gO, rE, ce, bl, kn, qu, aR, aF, aS, gL, iA, aQ, bP, fr, ba, an) := by
  unfold wpX_runPlain
  refine xx_reset (a := 0) (b := 100) (by omega) (by omega) (fun kn1 h1 h2 => ?_)
  exact ⟨rc + 1, xx_runPlain_9 hC hP hrc hok hfa (fun k hk => h1 k (by omega) hk) (fun k hk => h2 k (Or.inr hk)) K (rc + 1) 0 aR aF aS gL (by omega) (by omega) ⟨fun r hr => absurd hr (by simp [mg_pp]), fun g r hg => absurd hg (by simp [mg_pp])⟩⟩
end
section
variable {cC pC rL rC qp qs qt dO zP zQ : Int32} {ce bl fa mo pa go : Nat → Int32}
theorem yy_runPlain_13 {post : Int32 → SY → Prop} (h : post (nI (mg_cn (mg_s mo) 100)) (cC, pC, rL, rC, qp, qs, qt, dO, zP, zQ, ce, bl, fa, mo, pa, go)) : ∀ n i, 100 < n + i → i ≤ 100 → wY_runPlain_13 post cC pC rL rC qp qs qt dO zP zQ ce bl fa mo pa go n (nI (mg_cn (mg_s mo) i)) (nI i) := by
  intro n
  induction n with
  | zero => intro i h1 h2; omega
  | succ n ih =>
    intro i h1 h2
    unfold wY_runPlain_13
    refine pk_le 100 i (fun e => ?_) (fun e => ⟨vp_in_nI (by omega) (by omega), ?_⟩)
    · have ei : i = 100 := by omega
      subst ei
      exact h
    · have ih' := ih (i + 1) (by omega) (by omega)
      have ec : mg_cn (mg_s mo) (i + 1) = mg_cn (mg_s mo) i + mg_b (mg_s mo i) := rfl
      rw [nI_clamp (show i < 2 ^ 31 by omega)]
      refine br_c (fun z => ?_) (fun z => ?_)
      · rw [mg_b_f (P := mg_s mo i) (fun h => h z)] at ec
        rw [ec] at ih'
        exact nm_r (nI_1 i) ih'
      · rw [mg_b_t (P := mg_s mo i) z] at ec
        rw [ec] at ih'
        exact nm_r (nI_1 _) (nm_r (nI_1 i) ih')
theorem yy_runPlain {post : Int32 → SY → Prop} {C Pn rc : Nat} (hC : C ≤ 5) (hP : Pn ≤ 4) (hrc : rc ≤ 8) (hok : mg_ok C Pn ce bl rc) (hfa : ∀ k, k < 100 → fa k = 0 ∨ fa k = 1)
    (K : ∀ mo', (∀ k, k < 100 → (mo' k ≠ 0 ↔ mg_M C ce bl rc fa k)) → post (nI (mg_cn (mg_s mo') 100)) (nI C, pC, rL, nI rc, qp, qs, qt, dO, 1, zQ, ce, bl, fa, mo', pa, go)) : wpY_runPlain post (nI C, pC, rL, nI rc, qp, qs, qt, dO, zP, zQ, ce, bl, fa, mo, pa, go) := by
  unfold wpY_runPlain
  exact yy_makeModel hC hP hrc hok hfa (fun mo' h => ⟨101, yy_runPlain_13 (K mo' h) 101 0 (by omega) (by omega)⟩)
end
theorem i_vc_runPlain {k : Nat} {u : SX} {v : SY} (I : i_Rel k u v) (hk : k + 5 ≤ 2563) : wpX_runPlain (fun r u' => wpY_runPlain (fun r' v' => r' = r ∧ i_Rel (k + 5) u' v') v) u := by
  refine zz_el (P := fun u v => wpX_runPlain (fun r u' => wpY_runPlain (fun r' v' => r' = r ∧ i_Rel (k + 5) u' v') v) u) I ?_
  intro C Pn Rl rc sc dO zP zQ qT gC aC fC bC nA gO rE qp qs qt ce bl kn qu aR aF aS gL iA aQ bP fr ba an fa mo pa go hI
  have hJ := hI
  obtain ⟨⟨hC, hP, hR, hrc⟩, h2, h3, h4, h5, h6, h7, h8⟩ := hJ
  refine xx_runPlain (by omega) hP.2 (by omega) h2 (fun f hf => ⟨(h4 f hf).1, (h4 f hf).2.2⟩) (fun kn' qu' fC' bC' fr' ba' aR' aF' aS' gL' k1 k2 => ?_)
  refine yy_runPlain hC.2 hP.2 (by omega) h2 (fun f hf => (h4 f hf).2.1) (fun mo' m1 => ⟨congrArg nI (mg_cn_eq (fun k hk => (m1 k hk).trans (k2 k hk).symm)), ?_⟩)
  exact zz_in ⟨⟨hC, hP, hR, hrc⟩, h2, h3, fun f hf => by rw [k1 _ (by omega)]; exact h4 f hf, h5, fun _ => k2, fun _ => m1, fun hz => mg_J_kn k1 (h8 hz)⟩
end
section
/-! answer, adorned, goal, found, size -/
theorem mg_rk_s {Q : Nat → Nat → Prop} {C x y : Nat} : mg_rk Q C x (y + 1) = mg_rk Q C x y + mg_b (Q x y) := by
  unfold mg_rk
  rw [show mg_cn (Q x) (y + 1) = mg_cn (Q x) y + mg_b (Q x y) from rfl, Nat.add_assoc]
theorem mg_rk_n {Q : Nat → Nat → Prop} {C x : Nat} : mg_rk Q C x C = mg_rk Q C (x + 1) 0 := rfl
theorem mg_rk_0 {Q : Nat → Nat → Prop} {C : Nat} : mg_rk Q C 0 0 = 0 := rfl
theorem mg_cn_up {P : Nat → Prop} {a : Nat} : ∀ k, mg_cn P a ≤ mg_cn P (a + k)
  | 0 => Nat.le_refl _
  | k + 1 => by
    have := mg_cn_up (P := P) (a := a) k
    have e : mg_cn P (a + (k + 1)) = mg_cn P (a + k) + mg_b (P (a + k)) := rfl
    omega
theorem mg_sm_up {f : Nat → Nat} {a : Nat} : ∀ k, mg_sm f a ≤ mg_sm f (a + k)
  | 0 => Nat.le_refl _
  | k + 1 => by
    have := mg_sm_up (f := f) (a := a) k
    have e : mg_sm f (a + (k + 1)) = mg_sm f (a + k) + f (a + k) := rfl
    omega
theorem mg_rk_lt {Q : Nat → Nat → Prop} {C x y : Nat} (hx : x < C) (hy : y < C) (h : Q x y) : mg_rk Q C x y < mg_rk Q C C 0 := by
  have a := mg_cn_up (P := Q x) (a := y + 1) (C - (y + 1))
  rw [show y + 1 + (C - (y + 1)) = C by omega] at a
  have b := mg_sm_up (f := fun x' => mg_cn (Q x') C) (a := x + 1) (C - (x + 1))
  rw [show x + 1 + (C - (x + 1)) = C by omega] at b
  have c : mg_cn (Q x) (y + 1) = mg_cn (Q x) y + mg_b (Q x y) := rfl
  have d : mg_sm (fun x' => mg_cn (Q x') C) (x + 1) = mg_sm (fun x' => mg_cn (Q x') C) x + mg_cn (Q x) C := rfl
  rw [mg_b_t h] at c
  have e1 : mg_rk Q C x y = mg_sm (fun x' => mg_cn (Q x') C) x + mg_cn (Q x) y := rfl
  have e2 : mg_rk Q C C 0 = mg_sm (fun x' => mg_cn (Q x') C) C + 0 := rfl
  omega
theorem mg_rk_25 {Q : Nat → Nat → Prop} {C : Nat} (hC : C ≤ 5) : mg_rk Q C C 0 ≤ 25 := by
  have a : mg_sm (fun x' => mg_cn (Q x') C) C ≤ mg_sm (fun _ => 5) C := mg_sm_le (fun k _ => by have := mg_cn_le (Q k) C; omega)
  have b := mg_sm_up (f := fun _ => 5) (a := C) (5 - C)
  rw [show C + (5 - C) = 5 by omega] at b
  have c : mg_sm (fun _ => 5) 5 = 25 := by decide
  have e2 : mg_rk Q C C 0 = mg_sm (fun x' => mg_cn (Q x') C) C + 0 := rfl
  omega
theorem mg_rk_le {Q : Nat → Nat → Prop} {C x y : Nat} (hC : C ≤ 5) (hx : x < C) (hy : y ≤ C) : mg_rk Q C x y ≤ 25 := by
  have a := mg_cn_up (P := Q x) (a := y) (C - y)
  rw [show y + (C - y) = C by omega] at a
  have b := mg_sm_up (f := fun x' => mg_cn (Q x') C) (a := x + 1) (C - (x + 1))
  rw [show x + 1 + (C - (x + 1)) = C by omega] at b
  have d : mg_sm (fun x' => mg_cn (Q x') C) (x + 1) = mg_sm (fun x' => mg_cn (Q x') C) x + mg_cn (Q x) C := rfl
  have e1 : mg_rk Q C x y = mg_sm (fun x' => mg_cn (Q x') C) x + mg_cn (Q x) y := rfl
  have e2 : mg_rk Q C C 0 = mg_sm (fun x' => mg_cn (Q x') C) C + 0 := rfl
  have := mg_rk_25 (Q := Q) hC
  omega
theorem mg_fidx (p x y : Nat) : (25 : Int32) * nI p + 5 * nI x + nI y = nI (25 * p + 5 * x + y) := by rw [show (25 : Int32) = nI 25 from rfl, show (5 : Int32) = nI 5 from rfl, pk_mul, pk_mul, nI_add, nI_add]
section
variable {cC pC rL rC qp qs qt dO zP zQ : Int32} {ce bl fa mo pa go : Nat → Int32}
theorem yy_isAnswer {post : Int32 → Prop} {p x y : Nat} (hp : p < 4) (hx : x < 5) (hy : y < 5) (h1 : mo (25 * p + 5 * x + y) ≠ 0 → mg_q qs qt x y → post 1) (h0 : (mo (25 * p + 5 * x + y) = 0 ∨ ¬ mg_q qs qt x y) → post 0) : wpY_isAnswer post (cC, pC, rL, rC, nI p, qs, qt, dO, zP, zQ, ce, bl, fa, mo, pa, go) (nI x) (nI y) := by
  unfold wpY_isAnswer
  dsimp only
  rw [mg_fidx]
  refine And.intro (vp_in_nI (by omega) (by omega)) ?_
  rw [nI_clamp (show 25 * p + 5 * x + y < 2 ^ 31 by omega)]
  refine br_c (fun z => h0 (Or.inl z)) (fun z => ?_)
  have w51 : (qs < 0 ∨ qs = nI x) → (qt < 0 ∨ qt = nI y) → wY_isAnswer_51 post (nI x) (nI y) cC pC rL rC (nI p) qs qt dO zP zQ ce bl fa mo pa go := fun a b => by
    unfold wY_isAnswer_51
    refine br_c (fun c => h1 z ⟨a, b, Or.inl (Int32.not_lt.mpr c)⟩) (fun c => br_c (fun d => pk_eq x y (fun e => h1 z ⟨a, b, Or.inr (Or.inr e)⟩) (fun e => h0 (Or.inr (fun h => ?_)))) (fun d => h1 z ⟨a, b, Or.inr (Or.inl d)⟩))
    rcases h.2.2 with g | g | g
    · exact c (Int32.not_lt.mp g)
    · exact g d
    · exact e g
  have w36 : (qs < 0 ∨ qs = nI x) → wY_isAnswer_36 post (nI x) (nI y) cC pC rL rC (nI p) qs qt dO zP zQ ce bl fa mo pa go := fun a => by
    unfold wY_isAnswer_36
    refine br_c (fun b => w51 a (Or.inl b)) (fun b => br_c (fun c => w51 a (Or.inr c)) (fun c => h0 (Or.inr (fun h => ?_))))
    rcases h.2.1 with g | g
    · exact b g
    · exact c g
  refine br_c (fun a => w36 (Or.inl a)) (fun a => br_c (fun b => w36 (Or.inr b)) (fun b => h0 (Or.inr (fun h => ?_))))
  rcases h.1 with g | g
  · exact a g
  · exact b g
theorem yy_answer_25 {post : Int32 → Prop} {J : _} {C p x : Nat} {v : Int32} {M : Nat → Prop} (hC : C ≤ 5) (hp : p < 4) (hx : x < C) (hM : ∀ k, k < 100 → (mo k ≠ 0 ↔ M k))
    (h1 : ∀ x y, x < C → y < C → mg_Qa M p qs qt x y → nI (mg_rk (mg_Qa M p qs qt) C x y) = v → post (nI (10 * x + y)))
    (K : (∀ m, m < mg_rk (mg_Qa M p qs qt) C (x + 1) 0 → ¬ nI m = v) → J (nI (mg_rk (mg_Qa M p qs qt) C (x + 1) 0)) (nI (x + 1))) :
    ∀ n y, C < n + y → y ≤ C → (∀ m, m < mg_rk (mg_Qa M p qs qt) C x y → ¬ nI m = v) → wY_answer_25 post J v (nI x) (nI C) pC rL rC (nI p) qs qt dO zP zQ ce bl fa mo pa go n (nI (mg_rk (mg_Qa M p qs qt) C x y)) (nI y) := by
  intro n
  induction n with
  | zero => intro y a b; omega
  | succ n ih =>
    intro y a b hm
    unfold wY_answer_25
    refine pk_le C y (fun e => ?_) (fun e => ?_)
    · have ey : y = C := by omega
      subst ey
      rw [mg_rk_n] at hm ⊢
      exact nm_r (nI_1 x) (K hm)
    · have hf : 25 * p + 5 * x + y < 100 := by omega
      have ih' := ih (y + 1) (by omega) (by omega)
      rw [mg_rk_s] at ih'
      refine yy_isAnswer hp (by omega) (by omega) (fun m1 q1 => br_f mg_10 ?_) (fun hq => br_t rfl ?_)
      · have hQ : mg_Qa M p qs qt x y := ⟨(hM _ hf).mp m1, q1⟩
        rw [mg_b_t hQ] at ih'
        refine br_c (fun z => ?_) (fun z => ?_)
        · have ex : (10 : Int32) * nI x + nI y = nI (10 * x + y) := by rw [show (10 : Int32) = nI 10 from rfl, pk_mul, nI_add]
          rw [ex]
          exact h1 x y hx e hQ z
        · refine nm_r (nI_1 _) (nm_r (nI_1 y) (ih' (fun m h => ?_)))
          by_cases y' : m = mg_rk (mg_Qa M p qs qt) C x y
          · rw [y']; exact z
          · exact hm m (by omega)
      · have hQ : ¬ mg_Qa M p qs qt x y := fun h => by
          rcases hq with g | g
          · exact (hM _ hf).mpr h.1 g
          · exact g h.2
        rw [mg_b_f hQ] at ih'
        exact nm_r (nI_1 y) (ih' hm)
theorem yy_answer {post : Int32 → Prop} {C p : Nat} {v : Int32} {M : Nat → Prop} (hC : C ≤ 5) (hp : p < 4) (hM : ∀ k, k < 100 → (mo k ≠ 0 ↔ M k)) (hz : ¬ zQ = 0)
    (h1 : ∀ x y, x < C → y < C → mg_Qa M p qs qt x y → nI (mg_rk (mg_Qa M p qs qt) C x y) = v → post (nI (10 * x + y)))
    (h0 : (∀ m, m < mg_rk (mg_Qa M p qs qt) C C 0 → ¬ nI m = v) → post (-11)) : wpY_answer post (nI C, pC, rL, rC, nI p, qs, qt, dO, zP, zQ, ce, bl, fa, mo, pa, go) v := by
  have loop : ∀ n x, C < n + x → x ≤ C → (∀ m, m < mg_rk (mg_Qa M p qs qt) C x 0 → ¬ nI m = v) → wY_answer_14 post v (nI C) pC rL rC (nI p) qs qt dO zP zQ ce bl fa mo pa go n (nI (mg_rk (mg_Qa M p qs qt) C x 0)) (nI x) := by
    intro n
    induction n with
    | zero => intro x a b; omega
    | succ n ih =>
      intro x a b hm
      unfold wY_answer_14
      refine pk_le C x (fun e => ?_) (fun e => ?_)
      · have ex : x = C := by omega
        subst ex
        exact h0 hm
      · exact ⟨C + 1, yy_answer_25 hC hp e hM h1 (fun h => ih (x + 1) (by omega) (by omega) h) (C + 1) 0 (by omega) (by omega) hm⟩
  unfold wpY_answer
  exact br_f hz ⟨C + 1, loop (C + 1) 0 (by omega) (by omega) (fun m h => by rw [mg_rk_0] at h; omega)⟩
theorem yy_isFound {post : Int32 → Prop} {f d : Nat} (hf : f < 100) (hd : d < 4) (h1 : mo f ≠ 0 → go (mg_go f d) ≠ 0 → post 1) (h0 : (mo f = 0 ∨ go (mg_go f d) = 0) → post 0) : wpY_isFound post (cC, pC, rL, rC, qp, qs, qt, dO, zP, zQ, ce, bl, fa, mo, pa, go) (nI f) (nI d) := by
  have hg := mg_go_lt hf hd
  unfold wpY_isFound
  refine And.intro (vp_in_nI hf (by omega)) ?_
  rw [nI_clamp (show f < 2 ^ 31 by omega)]
  refine br_c (fun z => h0 (Or.inl z)) (fun z => yy_goalOf hf hd (And.intro (vp_in_nI hg (by omega)) ?_))
  rw [nI_clamp (show mg_go f d < 2 ^ 31 by omega)]
  exact br_c (fun y => h0 (Or.inr y)) (fun y => h1 z y)
end
theorem i_vc_answer {k : Nat} {u : SX} {v : SY} (I : i_Rel k u v) (hk : k + 5 ≤ 2563) (v1 : Int32) : wpX_answer (fun r => wpY_answer (fun r' => r' = r ∧ i_Rel (k + 5) u v) v v1) u v1 := by
  refine zz_el (P := fun u v => wpX_answer (fun r => wpY_answer (fun r' => r' = r ∧ i_Rel (k + 5) u v) v v1) u v1) I ?_
  intro C Pn Rl rc sc dO zP zQ qT gC aC fC bC nA gO rE qp qs qt ce bl kn qu aR aF aS gL iA aQ bP fr ba an fa mo pa go hI
  have hJ := hI
  obtain ⟨⟨hC, hP, hR, hrc⟩, h2, h3, h4, h5, h6, h7, h8⟩ := hJ
  unfold wpX_answer
  refine br_c (fun a => ?_) (fun a => ?_)
  · unfold wpY_answer
    exact br_t a ⟨rfl, zz_in hI⟩
  · obtain ⟨p, p1, p2, p3, p4, p5, p6, p7, p8, p9, _⟩ := h8 a
    have hM := h7 (Or.inr a)
    have h25 := mg_rk_25 (Q := mg_Qa (mg_M C ce bl rc fa) p qs qt) hC.2
    subst p2 p8
    have bad : (∀ m, m < mg_rk (mg_Qa (mg_M C ce bl rc fa) p qs qt) C C 0 → ¬ nI m = v1) → wpY_answer (fun r' => r' = -11 ∧ i_Rel (k + 5) (nI C, nI Pn, nI Rl, nI rc, dO, nI sc, zP, zQ, qT, gC, aC, fC, bC, nI (mg_rk (mg_Qa (mg_M C ce bl rc fa) p qs qt) C C 0), gO, rE, ce, bl, kn, qu, aR, aF, aS, gL, iA, aQ, bP, fr, ba, an) (nI C, nI Pn, nI Rl, nI rc, nI p, qs, qt, dO, zP, zQ, ce, bl, fa, mo, pa, go)) (nI C, nI Pn, nI Rl, nI rc, nI p, qs, qt, dO, zP, zQ, ce, bl, fa, mo, pa, go) v1 := fun hb => yy_answer hC.2 (by omega) hM a (fun x y hx hy hq e => absurd e (hb _ (mg_rk_lt hx hy hq))) (fun _ => ⟨rfl, zz_in hI⟩)
    refine br_c (fun b => bad (fun m _ e => ?_)) (fun b => br_c (fun c => ?_) (fun c => bad (fun m hm e => ?_)))
    · rw [← e] at b; exact nI_pos (by omega) b
    · obtain ⟨j, hj, rfl⟩ := mg_lt_of (by omega) b c
      refine ⟨vp_in_nI (by omega) (by omega), ?_⟩
      rw [nI_clamp (show j < 2 ^ 31 by omega)]
      refine yy_answer hC.2 (by omega) hM a (fun x y hx hy hq e => ⟨?_, zz_in hI⟩) (fun h => absurd rfl (h j hj))
      have hlt := mg_rk_lt hx hy hq
      rw [nI_eq (by omega) (by omega)] at e
      rw [← e]
      exact (p9 x y hx hy hq).symm
    · rw [← e] at c; exact c (nI_lt hm (by omega))
theorem i_vc_adorned {k : Nat} {u : SX} {v : SY} (I : i_Rel k u v) (hk : k + 5 ≤ 2563) (v1 : Int32) (v2 : Int32) : wpX_adorned (fun r => wpY_adorned (fun r' => r' = r ∧ i_Rel (k + 5) u v) v v1 v2) u v1 v2 := by
  refine zz_el (P := fun u v => wpX_adorned (fun r => wpY_adorned (fun r' => r' = r ∧ i_Rel (k + 5) u v) v v1 v2) u v1 v2) I ?_
  intro C Pn Rl rc sc dO zP zQ qT gC aC fC bC nA gO rE qp qs qt ce bl kn qu aR aF aS gL iA aQ bP fr ba an fa mo pa go hI
  have hJ := hI
  obtain ⟨⟨hC, hP, hR, hrc⟩, h2, h3, h4, h5, h6, h7, h8⟩ := hJ
  unfold wpX_adorned
  refine br_c (fun a => ?_) (fun a => ?_)
  · unfold wpY_adorned
    exact br_t a ⟨rfl, zz_in hI⟩
  · obtain ⟨p, p1, p2, p3, p4, p5, _⟩ := h8 a
    have h3' : ∀ d, d < 4 → nI d ≤ (3 : Int32) := fun d hd => nI_le (b := 3) (by omega) (by omega)
    refine xx_isPair hP.2 (fun h => br_f mg_10 ?_) (fun h => br_t rfl ?_)
    · obtain ⟨⟨q, hq, rfl⟩, ⟨d, hd, rfl⟩⟩ := h
      have e1 : nI q * 4 + nI d = nI (4 * q + d) := by rw [show (4 : Int32) = nI 4 from rfl, pk_mul, nI_add, Nat.mul_comm]
      have e2 : (4 : Int32) * nI q + nI d = nI (4 * q + d) := by rw [show (4 : Int32) = nI 4 from rfl, pk_mul, nI_add]
      rw [e1]
      refine And.intro (vp_in_nI (by omega) (by omega)) ?_
      rw [nI_clamp (show 4 * q + d < 2 ^ 31 by omega)]
      have pp := p5 (4 * q + d) (by omega)
      refine br_c (fun z => ?_) (fun z => ?_)
      · unfold wpY_adorned
        refine br_f a (yy_badPred hP.2 (fun _ => br_t rfl (br_f (nI_pos (by omega)) (br_t (h3' d hd) ?_))) (fun h => absurd ⟨q, hq, rfl⟩ h))
        rw [e2]
        refine And.intro (vp_in_nI (by omega) (by omega)) ?_
        rw [nI_clamp (show 4 * q + d < 2 ^ 31 by omega)]
        exact br_c (fun _ => ⟨rfl, zz_in hI⟩) (fun w => absurd z (pp.mpr w))
      · unfold wpY_adorned
        refine br_f a (yy_badPred hP.2 (fun _ => br_t rfl (br_f (nI_pos (by omega)) (br_t (h3' d hd) ?_))) (fun h => absurd ⟨q, hq, rfl⟩ h))
        rw [e2]
        refine And.intro (vp_in_nI (by omega) (by omega)) ?_
        rw [nI_clamp (show 4 * q + d < 2 ^ 31 by omega)]
        exact br_f (pp.mp z) ⟨rfl, zz_in hI⟩
    · unfold wpY_adorned
      refine br_f a (yy_badPred hP.2 (fun g => br_t rfl (br_c (fun _ => ⟨rfl, zz_in hI⟩) (fun b => br_c (fun c => ?_) (fun _ => ⟨rfl, zz_in hI⟩)))) (fun _ => br_f mg_10 ⟨rfl, zz_in hI⟩))
      obtain ⟨d, hd, rfl⟩ := nI_of2 (n := 3) (M := 3) (by decide) b c
      exact absurd ⟨g, ⟨d, by omega, rfl⟩⟩ h
end
section
/-! goal, found, size -/
section
variable {cC pC rL rC qp qs qt dO zP zQ : Int32} {ce bl fa mo pa go : Nat → Int32}
theorem yy_goal_55 {post : Int32 → Prop} {C q d : Nat} {u w : Int32} (hC : C ≤ 5) (hq : q < 4) (hd : d < 4) (hb : ¬ (mg_po C u ∧ mg_po C w) → post (-11))
    (h0 : ∀ x y, x < C → y < C → u = nI x → w = nI y → go (100 * d + 25 * q + 5 * x + y) = 0 → post 0) (h1 : ∀ x y, x < C → y < C → u = nI x → w = nI y → go (100 * d + 25 * q + 5 * x + y) ≠ 0 → post 1) :
    wY_goal_55 post (nI q) (nI d) u w (nI C) pC rL rC qp qs qt dO zP zQ ce bl fa mo pa go := by
  unfold wY_goal_55
  refine yy_badCon hC (fun a => br_t rfl (yy_badCon hC (fun b => br_t rfl ?_) (fun b => br_f mg_10 (hb (fun h => b h.2))))) (fun a => br_f mg_10 (hb (fun h => a h.1)))
  obtain ⟨x, hx, rfl⟩ := a
  obtain ⟨y, hy, rfl⟩ := b
  have e : (100 : Int32) * nI d + 25 * nI q + 5 * nI x + nI y = nI (100 * d + 25 * q + 5 * x + y) := by rw [show (100 : Int32) = nI 100 from rfl, show (25 : Int32) = nI 25 from rfl, show (5 : Int32) = nI 5 from rfl, pk_mul, pk_mul, pk_mul, nI_add, nI_add, nI_add]
  rw [e]
  refine And.intro (vp_in_nI (by omega) (by omega)) ?_
  rw [nI_clamp (show 100 * d + 25 * q + 5 * x + y < 2 ^ 31 by omega)]
  exact br_c (fun z => h0 x y hx hy rfl rfl z) (fun z => h1 x y hx hy rfl rfl z)
theorem yy_goal {post : Int32 → Prop} {C Pn : Nat} {v1 v2 v3 v4 : Int32} (hC : C ≤ 5) (hP : Pn ≤ 4) (hz : ¬ zQ = 0) (hb1 : ¬ (mg_po Pn v1 ∧ mg_po 4 v2) → post (-11))
    (hb2 : ∀ q d, q < Pn → d < 4 → v1 = nI q → v2 = nI d → ¬ (mg_po C (mg_fb d v3) ∧ mg_po C (mg_sb d v4)) → post (-11))
    (h0 : ∀ q d x y, q < Pn → d < 4 → v1 = nI q → v2 = nI d → x < C → y < C → mg_fb d v3 = nI x → mg_sb d v4 = nI y → go (100 * d + 25 * q + 5 * x + y) = 0 → post 0)
    (h1 : ∀ q d x y, q < Pn → d < 4 → v1 = nI q → v2 = nI d → x < C → y < C → mg_fb d v3 = nI x → mg_sb d v4 = nI y → go (100 * d + 25 * q + 5 * x + y) ≠ 0 → post 1) :
    wpY_goal post (nI C, nI Pn, rL, rC, qp, qs, qt, dO, zP, zQ, ce, bl, fa, mo, pa, go) v1 v2 v3 v4 := by
  unfold wpY_goal
  refine br_f hz (yy_badPred hP (fun g => br_t rfl (br_c (fun a => hb1 (fun h => mg_po_1 (by omega) h.2 a)) (fun a => br_c (fun b => ?_) (fun b => hb1 (fun h => ?_))))) (fun g => br_f mg_10 (hb1 (fun h => g h.1))))
  · obtain ⟨q, hq, rfl⟩ := g
    obtain ⟨d, hd, rfl⟩ := nI_of2 (n := 3) (M := 3) (by decide) a b
    have hd4 : d < 4 := by omega
    have f55 : wY_goal_55 post (nI q) (nI d) (mg_fb d v3) (mg_sb d v4) (nI C) (nI Pn) rL rC qp qs qt dO zP zQ ce bl fa mo pa go := yy_goal_55 hC (by omega) hd4 (fun h => hb2 q d hq hd4 rfl rfl h) (fun x y hx hy e1 e2 z => h0 q d x y hq hd4 rfl rfl hx hy e1 e2 z) (fun x y hx hy e1 e2 z => h1 q d x y hq hd4 rfl rfl hx hy e1 e2 z)
    have f41 : wY_goal_41 post (nI q) (nI d) v4 (mg_fb d v3) (nI C) (nI Pn) rL rC qp qs qt dO zP zQ ce bl fa mo pa go := by
      unfold wY_goal_41
      rw [mg_a2 d hd4]
      refine br_c (fun z => ?_) (fun z => ?_)
      · rw [mg_sb, if_neg z] at f55; exact f55
      · rw [mg_sb, if_pos (Classical.not_not.mp z)] at f55; exact f55
    rw [mg_a1 d hd4]
    refine br_c (fun z => ?_) (fun z => ?_)
    · rw [mg_fb, if_neg z] at f41; exact f41
    · rw [mg_fb, if_pos (Classical.not_not.mp z)] at f41; exact f41
  · obtain ⟨_, ⟨d, hd, rfl⟩⟩ := h
    exact b (nI_le (b := 3) (by omega) (by omega))
theorem yy_found {post : Int32 → Prop} {C Pn : Nat} {v1 v2 v3 v4 : Int32} (hC : C ≤ 5) (hP : Pn ≤ 4) (hz : ¬ zQ = 0) (hb : ¬ (mg_fok C Pn v1 v3 v4 ∧ mg_po 4 v2) → post (-11))
    (h0 : ∀ q d x y, q < Pn → d < 4 → x < C → y < C → v1 = nI q → v2 = nI d → v3 = nI x → v4 = nI y → (mo (25 * q + 5 * x + y) = 0 ∨ go (mg_go (25 * q + 5 * x + y) d) = 0) → post 0)
    (h1 : ∀ q d x y, q < Pn → d < 4 → x < C → y < C → v1 = nI q → v2 = nI d → v3 = nI x → v4 = nI y → mo (25 * q + 5 * x + y) ≠ 0 → go (mg_go (25 * q + 5 * x + y) d) ≠ 0 → post 1) :
    wpY_found post (nI C, nI Pn, rL, rC, qp, qs, qt, dO, zP, zQ, ce, bl, fa, mo, pa, go) v1 v2 v3 v4 := by
  unfold wpY_found
  refine br_f hz (yy_badFact hC hP (fun g => br_t rfl (br_c (fun a => hb (fun h => mg_po_1 (by omega) h.2 a)) (fun a => br_c (fun b => ?_) (fun b => hb (fun h => ?_))))) (fun g => br_f mg_10 (hb (fun h => g h.1))))
  · obtain ⟨⟨q, hq, rfl⟩, ⟨x, hx, rfl⟩, ⟨y, hy, rfl⟩⟩ := g
    obtain ⟨d, hd, rfl⟩ := nI_of2 (n := 3) (M := 3) (by decide) a b
    rw [mg_fidx]
    exact yy_isFound (by omega) (by omega) (fun m g => br_f mg_10 (h1 q d x y hq (by omega) hx hy rfl rfl rfl rfl m g)) (fun m => br_t rfl (h0 q d x y hq (by omega) hx hy rfl rfl rfl rfl m))
  · obtain ⟨_, ⟨d, hd, rfl⟩⟩ := h
    exact b (nI_le (b := 3) (by omega) (by omega))
end
theorem i_vc_goal {k : Nat} {u : SX} {v : SY} (I : i_Rel k u v) (hk : k + 5 ≤ 2563) (v1 : Int32) (v2 : Int32) (v3 : Int32) (v4 : Int32) : wpX_goal (fun r => wpY_goal (fun r' => r' = r ∧ i_Rel (k + 5) u v) v v1 v2 v3 v4) u v1 v2 v3 v4 := by
  refine zz_el (P := fun u v => wpX_goal (fun r => wpY_goal (fun r' => r' = r ∧ i_Rel (k + 5) u v) v v1 v2 v3 v4) u v1 v2 v3 v4) I ?_
  intro C Pn Rl rc sc dO zP zQ qT gC aC fC bC nA gO rE qp qs qt ce bl kn qu aR aF aS gL iA aQ bP fr ba an fa mo pa go hI
  have hJ := hI
  obtain ⟨⟨hC, hP, hR, hrc⟩, h2, h3, h4, h5, h6, h7, h8⟩ := hJ
  unfold wpX_goal
  refine br_c (fun a => ?_) (fun a => ?_)
  · unfold wpY_goal
    exact br_t a ⟨rfl, zz_in hI⟩
  · obtain ⟨p, p1, p2, p3, p4, p5, p6, _⟩ := h8 a
    refine xx_isPair hP.2 (fun h => br_f mg_10 ?_) (fun h => br_t rfl ?_)
    · obtain ⟨⟨q, hq, rfl⟩, ⟨d, hd, rfl⟩⟩ := h
      refine xx_firstIfBound hd (xx_secondIfBound hd ?_)
      refine xx_isFact hC.2 hP.2 (fun g => br_f mg_10 ?_) (fun g => br_t rfl ?_)
      · obtain ⟨_, ⟨x, hx, ex⟩, ⟨y, hy, ey⟩⟩ := g
        have er : (24 : Int32) + nI q * 4 + nI d = nI (24 + q * 4 + d) := by rw [show (24 : Int32) = nI 24 from rfl, show (4 : Int32) = nI 4 from rfl, pk_mul, nI_add, nI_add]
        rw [er, ex, ey]
        have pk := p6 ((24 + q * 4 + d) * 25 + x * 5 + y) (by omega) (by omega)
        rw [show mg_xy ((24 + q * 4 + d) * 25 + x * 5 + y) = 100 * d + 25 * q + 5 * x + y by unfold mg_xy; omega] at pk
        have uq : ∀ q2 d2 x2 y2, q2 < Pn → d2 < 4 → nI q = nI q2 → nI d = nI d2 → x2 < C → y2 < C → mg_fb d2 v3 = nI x2 → mg_sb d2 v4 = nI y2 → 100 * d2 + 25 * q2 + 5 * x2 + y2 = 100 * d + 25 * q + 5 * x + y := fun q2 d2 x2 y2 a1 a2 b1 b2 a3 a4 b3 b4 => by
          rw [nI_eq (by omega) (by omega)] at b1 b2
          subst b1 b2
          rw [ex, nI_eq (by omega) (by omega)] at b3
          rw [ey, nI_eq (by omega) (by omega)] at b4
          omega
        refine xx_flag (by omega) (fun z => ?_) (fun z => ?_)
        · refine yy_goal hC.2 hP.2 a (fun h => absurd ⟨⟨q, hq, rfl⟩, ⟨d, hd, rfl⟩⟩ h) (fun q2 d2 a1 a2 b1 b2 h => ?_) (fun q2 d2 x2 y2 a1 a2 b1 b2 a3 a4 b3 b4 w => ⟨rfl, zz_in hI⟩) (fun q2 d2 x2 y2 a1 a2 b1 b2 a3 a4 b3 b4 w => ?_)
          · rw [nI_eq (by omega) (by omega)] at b2
            subst b2
            exact absurd ⟨⟨x, hx, ex⟩, ⟨y, hy, ey⟩⟩ h
          · rw [uq q2 d2 x2 y2 a1 a2 b1 b2 a3 a4 b3 b4] at w
            exact absurd z (pk.mpr w)
        · refine yy_goal hC.2 hP.2 a (fun h => absurd ⟨⟨q, hq, rfl⟩, ⟨d, hd, rfl⟩⟩ h) (fun q2 d2 a1 a2 b1 b2 h => ?_) (fun q2 d2 x2 y2 a1 a2 b1 b2 a3 a4 b3 b4 w => ?_) (fun q2 d2 x2 y2 a1 a2 b1 b2 a3 a4 b3 b4 w => ⟨rfl, zz_in hI⟩)
          · rw [nI_eq (by omega) (by omega)] at b2
            subst b2
            exact absurd ⟨⟨x, hx, ex⟩, ⟨y, hy, ey⟩⟩ h
          · rw [uq q2 d2 x2 y2 a1 a2 b1 b2 a3 a4 b3 b4] at w
            exact absurd w (pk.mp z)
      · have no : ∀ d2, d2 < 4 → nI d = nI d2 → ∀ x2 y2, x2 < C → y2 < C → mg_fb d2 v3 = nI x2 → mg_sb d2 v4 = nI y2 → False := fun d2 a2 b2 x2 y2 a3 a4 b3 b4 => by
          rw [nI_eq (by omega) (by omega)] at b2
          subst b2
          exact g ⟨⟨q, hq, rfl⟩, ⟨x2, a3, b3⟩, ⟨y2, a4, b4⟩⟩
        exact yy_goal hC.2 hP.2 a (fun h => absurd ⟨⟨q, hq, rfl⟩, ⟨d, hd, rfl⟩⟩ h) (fun q2 d2 a1 a2 b1 b2 h => ⟨rfl, zz_in hI⟩) (fun q2 d2 x2 y2 a1 a2 b1 b2 a3 a4 b3 b4 w => (no d2 a2 b2 x2 y2 a3 a4 b3 b4).elim) (fun q2 d2 x2 y2 a1 a2 b1 b2 a3 a4 b3 b4 w => (no d2 a2 b2 x2 y2 a3 a4 b3 b4).elim)
    · exact yy_goal hC.2 hP.2 a (fun _ => ⟨rfl, zz_in hI⟩) (fun q d a1 a2 b1 b2 _ => absurd ⟨⟨q, a1, b1⟩, ⟨d, a2, b2⟩⟩ h) (fun q d x y a1 a2 b1 b2 a3 a4 b3 b4 w => absurd ⟨⟨q, a1, b1⟩, ⟨d, a2, b2⟩⟩ h) (fun q d x y a1 a2 b1 b2 a3 a4 b3 b4 w => absurd ⟨⟨q, a1, b1⟩, ⟨d, a2, b2⟩⟩ h)
theorem i_vc_found {k : Nat} {u : SX} {v : SY} (I : i_Rel k u v) (hk : k + 5 ≤ 2563) (v1 : Int32) (v2 : Int32) (v3 : Int32) (v4 : Int32) : wpX_found (fun r => wpY_found (fun r' => r' = r ∧ i_Rel (k + 5) u v) v v1 v2 v3 v4) u v1 v2 v3 v4 := by
  refine zz_el (P := fun u v => wpX_found (fun r => wpY_found (fun r' => r' = r ∧ i_Rel (k + 5) u v) v v1 v2 v3 v4) u v1 v2 v3 v4) I ?_
  intro C Pn Rl rc sc dO zP zQ qT gC aC fC bC nA gO rE qp qs qt ce bl kn qu aR aF aS gL iA aQ bP fr ba an fa mo pa go hI
  have hJ := hI
  obtain ⟨⟨hC, hP, hR, hrc⟩, h2, h3, h4, h5, h6, h7, h8⟩ := hJ
  unfold wpX_found
  refine br_c (fun a => ?_) (fun a => ?_)
  · unfold wpY_found
    exact br_t a ⟨rfl, zz_in hI⟩
  · obtain ⟨p, p1, p2, p3, p4, p5, p6, p7, _⟩ := h8 a
    have hM := h7 (Or.inr a)
    refine xx_isPair hP.2 (fun h => br_f mg_10 ?_) (fun h => br_t rfl ?_)
    · refine xx_isFact hC.2 hP.2 (fun g => br_f mg_10 ?_) (fun g => br_t rfl ?_)
      · have hg := g
        have hh := h
        obtain ⟨⟨q, hq, rfl⟩, ⟨x, hx, rfl⟩, ⟨y, hy, rfl⟩⟩ := g
        obtain ⟨_, ⟨d, hd, rfl⟩⟩ := h
        have er : (8 : Int32) + nI q * 4 + nI d = nI (8 + q * 4 + d) := by rw [show (8 : Int32) = nI 8 from rfl, show (4 : Int32) = nI 4 from rfl, pk_mul, nI_add, nI_add]
        rw [er]
        have pk := p7 (q * 4 + d) (x * 5 + y) (by omega) (by omega)
        rw [show (8 + (q * 4 + d)) * 25 + (x * 5 + y) = (8 + q * 4 + d) * 25 + x * 5 + y by omega, show 25 * ((q * 4 + d) / 4) + (x * 5 + y) = 25 * q + 5 * x + y by omega, show (q * 4 + d) % 4 = d by omega, ← hM _ (by omega)] at pk
        have uq : ∀ q2 d2 x2 y2, q2 < Pn → d2 < 4 → x2 < C → y2 < C → nI q = nI q2 → nI d = nI d2 → nI x = nI x2 → nI y = nI y2 → q2 = q ∧ d2 = d ∧ x2 = x ∧ y2 = y := fun q2 d2 x2 y2 a1 a2 a3 a4 b1 b2 b3 b4 => by
          rw [nI_eq (by omega) (by omega)] at b1 b2 b3 b4
          omega
        refine xx_flag (by omega) (fun z => ?_) (fun z => ?_)
        · refine yy_found hC.2 hP.2 a (fun h => absurd ⟨hg, hh.2⟩ h) (fun q2 d2 x2 y2 a1 a2 a3 a4 b1 b2 b3 b4 w => ⟨rfl, zz_in hI⟩) (fun q2 d2 x2 y2 a1 a2 a3 a4 b1 b2 b3 b4 w1 w2 => ?_)
          obtain ⟨rfl, rfl, rfl, rfl⟩ := uq q2 d2 x2 y2 a1 a2 a3 a4 b1 b2 b3 b4
          exact absurd z (pk.mpr ⟨w1, w2⟩)
        · refine yy_found hC.2 hP.2 a (fun h => absurd ⟨hg, hh.2⟩ h) (fun q2 d2 x2 y2 a1 a2 a3 a4 b1 b2 b3 b4 w => ?_) (fun q2 d2 x2 y2 a1 a2 a3 a4 b1 b2 b3 b4 w1 w2 => ⟨rfl, zz_in hI⟩)
          obtain ⟨rfl, rfl, rfl, rfl⟩ := uq q2 d2 x2 y2 a1 a2 a3 a4 b1 b2 b3 b4
          obtain ⟨k1, k2⟩ := pk.mp z
          rcases w with w | w
          · exact absurd w k1
          · exact absurd w k2
      · exact yy_found hC.2 hP.2 a (fun _ => ⟨rfl, zz_in hI⟩) (fun q d x y a1 a2 a3 a4 b1 b2 b3 b4 w => absurd ⟨⟨q, a1, b1⟩, ⟨x, a3, b3⟩, ⟨y, a4, b4⟩⟩ g) (fun q d x y a1 a2 a3 a4 b1 b2 b3 b4 w w2 => absurd ⟨⟨q, a1, b1⟩, ⟨x, a3, b3⟩, ⟨y, a4, b4⟩⟩ g)
    · exact yy_found hC.2 hP.2 a (fun _ => ⟨rfl, zz_in hI⟩) (fun q d x y a1 a2 a3 a4 b1 b2 b3 b4 w => absurd ⟨⟨q, a1, b1⟩, ⟨d, a2, b2⟩⟩ h) (fun q d x y a1 a2 a3 a4 b1 b2 b3 b4 w w2 => absurd ⟨⟨q, a1, b1⟩, ⟨d, a2, b2⟩⟩ h)
theorem mg_cn_s0 {P : Nat → Prop} {i : Nat} (h : ¬ P i) : mg_cn P (i + 1) = mg_cn P i := by
  rw [show mg_cn P (i + 1) = mg_cn P i + mg_b (P i) from rfl, mg_b_f h, Nat.add_zero]
theorem mg_cn_s1 {P : Nat → Prop} {i : Nat} (h : P i) : mg_cn P (i + 1) = mg_cn P i + 1 := by
  rw [show mg_cn P (i + 1) = mg_cn P i + mg_b (P i) from rfl, mg_b_t h]
theorem mg_p0 (n : Nat) : nI n + 0 = nI n := Int32.add_zero _
section
variable {cC pC rL rC qp qs qt dO zP zQ : Int32} {ce bl fa mo pa go : Nat → Int32}
theorem yy_size_45 {post : Int32 → Prop} {x1 : Int32} (h : wY_size_75 post x1 (nI (mg_cn (mg_s go) 400)) cC pC rL rC qp qs qt dO zP zQ ce bl fa mo pa go) : ∀ n i, 400 < n + i → i ≤ 400 → wY_size_45 post x1 cC pC rL rC qp qs qt dO zP zQ ce bl fa mo pa go n (nI (mg_cn (mg_s go) i)) (nI i) := by
  intro n
  induction n with
  | zero => intro i h1 h2; omega
  | succ n ih =>
    intro i h1 h2
    unfold wY_size_45
    refine pk_le 400 i (fun e => ?_) (fun e => ⟨vp_in_nI (by omega) (by omega), ?_⟩)
    · have ei : i = 400 := by omega
      subst ei
      exact h
    · have ih' := ih (i + 1) (by omega) (by omega)
      rw [nI_clamp (show i < 2 ^ 31 by omega)]
      refine br_c (fun z => ?_) (fun z => ?_)
      · rw [mg_cn_s0 (P := mg_s go) (fun h => h z)] at ih'
        exact nm_r (mg_p0 _) (nm_r (nI_1 i) ih')
      · rw [mg_cn_s1 (P := mg_s go) z] at ih'
        exact nm_r (nI_1 _) (nm_r (nI_1 i) ih')
theorem yy_size_82 {post : Int32 → Prop} {x1 : Int32} (h : wY_size_111 post x1 (nI (mg_cn (mg_s fa) 100)) cC pC rL rC qp qs qt dO zP zQ ce bl fa mo pa go) : ∀ n i, 100 < n + i → i ≤ 100 → wY_size_82 post x1 cC pC rL rC qp qs qt dO zP zQ ce bl fa mo pa go n (nI (mg_cn (mg_s fa) i)) (nI i) := by
  intro n
  induction n with
  | zero => intro i h1 h2; omega
  | succ n ih =>
    intro i h1 h2
    unfold wY_size_82
    refine pk_le 100 i (fun e => ?_) (fun e => ⟨vp_in_nI (by omega) (by omega), ?_⟩)
    · have ei : i = 100 := by omega
      subst ei
      exact h
    · have ih' := ih (i + 1) (by omega) (by omega)
      rw [nI_clamp (show i < 2 ^ 31 by omega)]
      refine br_c (fun z => ?_) (fun z => ?_)
      · rw [mg_cn_s0 (P := mg_s fa) (fun h => h z)] at ih'
        exact nm_r (mg_p0 _) (nm_r (nI_1 i) ih')
      · rw [mg_cn_s1 (P := mg_s fa) z] at ih'
        exact nm_r (nI_1 _) (nm_r (nI_1 i) ih')
theorem yy_size_118 {post : Int32 → Prop} {M : Nat → Prop} (hM : ∀ k, k < 100 → (mo k ≠ 0 ↔ M k)) (h : post (nI (mg_cn (fun f => ∃ d, d < 4 ∧ M f ∧ go (mg_go f d) ≠ 0) 100))) : ∀ n i, 100 < n + i → i ≤ 100 → wY_size_118 post cC pC rL rC qp qs qt dO zP zQ ce bl fa mo pa go n (nI (mg_cn (fun f => ∃ d, d < 4 ∧ M f ∧ go (mg_go f d) ≠ 0) i)) (nI i) := by
  intro n
  induction n with
  | zero => intro i h1 h2; omega
  | succ n ih =>
    intro i h1 h2
    unfold wY_size_118
    refine pk_le 100 i (fun e => ?_) (fun e => ?_)
    · have ei : i = 100 := by omega
      subst ei
      exact h
    · have ih' := ih (i + 1) (by omega) (by omega)
      have yes : (∃ d, d < 4 ∧ M i ∧ go (mg_go i d) ≠ 0) → wY_size_118 post cC pC rL rC qp qs qt dO zP zQ ce bl fa mo pa go n (nI (mg_cn (fun f => ∃ d, d < 4 ∧ M f ∧ go (mg_go f d) ≠ 0) i + 1)) (nI (i + 1)) := fun z => by
        rw [mg_cn_s1 (P := fun f => ∃ d, d < 4 ∧ M f ∧ go (mg_go f d) ≠ 0) z] at ih'
        exact ih'
      have no : ∀ d, (mo i = 0 ∨ go (mg_go i d) = 0) → ¬ (M i ∧ go (mg_go i d) ≠ 0) := fun d hd hh => by
        rcases hd with g | g
        · exact (hM i e).mpr hh.1 g
        · exact hh.2 g
      refine yy_isFound (d := 0) e (by omega) (fun m1 m2 => br_f mg_10 (nm_r (nI_1 _) (nm_r (nI_1 i) (yes ⟨0, by omega, (hM i e).mp m1, m2⟩)))) (fun n0 => br_t rfl ?_)
      refine yy_isFound (d := 1) e (by omega) (fun m1 m2 => br_f mg_10 (nm_r (nI_1 _) (nm_r (nI_1 i) (yes ⟨1, by omega, (hM i e).mp m1, m2⟩)))) (fun n1 => br_t rfl ?_)
      refine yy_isFound (d := 2) e (by omega) (fun m1 m2 => br_f mg_10 (nm_r (nI_1 _) (nm_r (nI_1 i) (yes ⟨2, by omega, (hM i e).mp m1, m2⟩)))) (fun n2 => br_t rfl ?_)
      refine yy_isFound (d := 3) e (by omega) (fun m1 m2 => br_f mg_10 (nm_r (nI_1 _) (nm_r (nI_1 i) (yes ⟨3, by omega, (hM i e).mp m1, m2⟩)))) (fun n3 => br_t rfl ?_)
      have nn : ¬ ∃ d, d < 4 ∧ M i ∧ go (mg_go i d) ≠ 0 := fun ⟨d, hd, hh⟩ => by
        have hc : d = 0 ∨ d = 1 ∨ d = 2 ∨ d = 3 := by omega
        rcases hc with rfl | rfl | rfl | rfl
        · exact no 0 n0 hh
        · exact no 1 n1 hh
        · exact no 2 n2 hh
        · exact no 3 n3 hh
      rw [mg_cn_s0 (P := fun f => ∃ d, d < 4 ∧ M f ∧ go (mg_go f d) ≠ 0) nn] at ih'
      exact nm_r (mg_p0 _) (nm_r (nI_1 i) ih')
end
theorem i_vc_size {k : Nat} {u : SX} {v : SY} (I : i_Rel k u v) (hk : k + 5 ≤ 2563) (v1 : Int32) : wpX_size (fun r => wpY_size (fun r' => r' = r ∧ i_Rel (k + 5) u v) v v1) u v1 := by
  refine zz_el (P := fun u v => wpX_size (fun r => wpY_size (fun r' => r' = r ∧ i_Rel (k + 5) u v) v v1) u v1) I ?_
  intro C Pn Rl rc sc dO zP zQ qT gC aC fC bC nA gO rE qp qs qt ce bl kn qu aR aF aS gL iA aQ bP fr ba an fa mo pa go hI
  have hJ := hI
  obtain ⟨⟨hC, hP, hR, hrc⟩, h2, h3, h4, h5, h6, h7, h8⟩ := hJ
  unfold wpX_size
  refine br_c (fun a => ?_) (fun a => ?_)
  · unfold wpY_size
    exact br_t a ⟨rfl, zz_in hI⟩
  · refine br_c (fun b => ?_) (fun b => ?_)
    · refine br_c (fun c => ?_) (fun c => ?_)
      · unfold wpY_size
        exact br_f a (br_t b (br_t c ⟨rfl, zz_in hI⟩))
      · refine br_c (fun d => ?_) (fun d => ?_)
        · unfold wpY_size
          refine br_f a (br_t b (br_f c (br_t d ?_)))
          subst d
          unfold wY_size_36
          refine br_f (by decide) ?_
          unfold wY_size_75
          refine br_t rfl ⟨101, yy_size_82 ?_ 101 0 (by omega) (by omega)⟩
          unfold wY_size_111
          refine br_f (by decide) ⟨by rw [h5], zz_in hI⟩
        · refine br_c (fun e => ?_) (fun e => ?_)
          · unfold wpY_size
            exact br_f a (br_t b (br_f c (br_f d (br_t e ⟨rfl, zz_in hI⟩))))
          · have hM := h7 (Or.inr e)
            obtain ⟨p, p1, p2, p3, p4, p5, p6, p7, p8, p9, p10, p11⟩ := h8 e
            refine br_c (fun f => ?_) (fun f => ?_)
            · unfold wpY_size
              refine br_f a (br_t b (br_f c (br_f d (br_f e ?_))))
              subst f
              unfold wY_size_36
              refine br_t rfl ⟨401, yy_size_45 ?_ 401 0 (by omega) (by omega)⟩
              unfold wY_size_75
              refine br_f (by decide) ?_
              unfold wY_size_111
              exact br_f (by decide) ⟨p10.symm, zz_in hI⟩
            · unfold wpY_size
              refine br_f a (br_t b (br_f c (br_f d (br_f e ?_))))
              obtain ⟨j, hj, rfl⟩ := nI_of2 (n := 3) (M := 3) (by decide) a b
              have j3 : j = 3 := by
                have g0 : ¬ j = 0 := fun z => c (by rw [z]; rfl)
                have g1 : ¬ j = 1 := fun z => d (by rw [z]; rfl)
                have g2 : ¬ j = 2 := fun z => f (by rw [z]; rfl)
                omega
              subst j3
              unfold wY_size_36
              refine br_f f ?_
              unfold wY_size_75
              refine br_f d ?_
              unfold wY_size_111
              exact br_t rfl ⟨101, yy_size_118 hM ⟨p11.symm, zz_in hI⟩ 101 0 (by omega) (by omega)⟩
    · unfold wpY_size
      exact br_f a (br_f b ⟨rfl, zz_in hI⟩)
end
section
/-! X: collectAnswers, countGoals, countReached -/
theorem mg_q_of {C : Nat} {s t : Int32} {x y : Nat} (hC : C ≤ 5) (hs : mg_T C s) (ht : mg_T C t) (h : ∃ u, mg_tv s u = x ∧ mg_tv t u = y) : mg_q s t x y := by
  obtain ⟨u, e1, e2⟩ := h
  refine ⟨?_, ?_, ?_⟩
  · by_cases z : s < 0
    · exact Or.inl z
    · obtain ⟨a, ha, rfl⟩ := mg_T_pos hs z
      rw [mg_tvc (by omega)] at e1
      exact Or.inr (by rw [e1])
  · by_cases z : t < 0
    · exact Or.inl z
    · obtain ⟨a, ha, rfl⟩ := mg_T_pos ht z
      rw [mg_tvc (by omega)] at e2
      exact Or.inr (by rw [e2])
  · by_cases z : s < 0
    · by_cases w : s = t
      · subst w
        exact Or.inr (Or.inr (e1.symm.trans e2))
      · exact Or.inr (Or.inl w)
    · exact Or.inl z
theorem mg_q_to {C : Nat} {s t : Int32} {x y : Nat} (hC : C ≤ 5) (hs : mg_T C s) (ht : mg_T C t) (hx : x < C) (hy : y < C) (h : mg_q s t x y) : ∃ u, mg_tv s u = x ∧ mg_tv t u = y := by
  obtain ⟨h1, h2, h3⟩ := h
  have tc : ∀ u : Nat × Nat × Nat, (∃ a, a < C ∧ t = nI a) → mg_tv t u = y := fun u ⟨a, ha, e⟩ => by
    rw [e] at h2 ⊢
    rw [mg_tvc (by omega)]
    rcases h2 with g | g
    · exact absurd g (nI_pos (by omega))
    · exact (nI_eq (by omega) (by omega)).mp g
  rcases hs with rfl | rfl | rfl | ⟨a, ha, rfl⟩
  · refine ⟨(x, y, y), mg_tv1 _, ?_⟩
    rcases ht with rfl | rfl | rfl | ht
    · rcases h3 with g | g | g
      · exact absurd (by decide) g
      · exact absurd rfl g
      · rw [mg_tv1]; exact g
    · exact mg_tv2 _
    · exact mg_tv3 _
    · exact tc _ ht
  · refine ⟨(y, x, y), mg_tv2 _, ?_⟩
    rcases ht with rfl | rfl | rfl | ht
    · exact mg_tv1 _
    · rcases h3 with g | g | g
      · exact absurd (by decide) g
      · exact absurd rfl g
      · rw [mg_tv2]; exact g
    · exact mg_tv3 _
    · exact tc _ ht
  · refine ⟨(y, y, x), mg_tv3 _, ?_⟩
    rcases ht with rfl | rfl | rfl | ht
    · exact mg_tv1 _
    · exact mg_tv2 _
    · rcases h3 with g | g | g
      · exact absurd (by decide) g
      · exact absurd rfl g
      · rw [mg_tv3]; exact g
    · exact tc _ ht
  · refine ⟨(y, y, y), ?_, ?_⟩
    · rw [mg_tvc (by omega)]
      rcases h1 with g | g
      · exact absurd g (nI_pos (by omega))
      · exact (nI_eq (by omega) (by omega)).mp g
    · rcases ht with rfl | rfl | rfl | ht
      · exact mg_tv1 _
      · exact mg_tv2 _
      · exact mg_tv3 _
      · exact tc _ ht
/-- the answers so far -/
def mg_AN (C : Nat) (Q : Nat → Nat → Prop) (an : Nat → Int32) (x y : Nat) : Prop := ∀ x' y', x' < C → y' < C → Q x' y' → (x' < x ∨ (x' = x ∧ y' < y)) → mg_rk Q C x' y' < mg_rk Q C x y ∧ an (mg_rk Q C x' y') = nI (10 * x' + y')
theorem mg_AN_no {C : Nat} {Q : Nat → Nat → Prop} {an : Nat → Int32} {x y : Nat} (h : mg_AN C Q an x y) (hq : ¬ Q x y) : mg_AN C Q an x (y + 1) := fun x' y' a b c d => by
  rw [mg_rk_s, mg_b_f hq]
  refine h x' y' a b c ?_
  by_cases z : x' = x ∧ y' = y
  · rw [z.1, z.2] at c; exact absurd c hq
  · omega
theorem mg_AN_yes {C : Nat} {Q : Nat → Nat → Prop} {an : Nat → Int32} {x y : Nat} (h : mg_AN C Q an x y) (hq : Q x y) : mg_AN C Q (upd an (mg_rk Q C x y) (nI (10 * x + y))) x (y + 1) := fun x' y' a b c d => by
  rw [mg_rk_s, mg_b_t hq]
  by_cases z : x' = x ∧ y' = y
  · obtain ⟨rfl, rfl⟩ := z
    exact ⟨by omega, pk_us⟩
  · obtain ⟨g1, g2⟩ := h x' y' a b c (by omega)
    exact ⟨by omega, by rw [pk_un (by omega)]; exact g2⟩
section
variable {cC pC rL rC dO sC zP zQ qT gC aC fC bC nA gO rE : Int32} {ce bl kn qu aR aF aS gL iA aQ bP fr ba an : Nat → Int32}
theorem xx_collectAnswers_20 {post : SX → Prop} {J : _} {C q x : Nat} {s t : Int32} {Q : Nat → Nat → Prop} (hC : 1 ≤ C ∧ C ≤ 5) (hq : q < 16) (hs : mg_T C s) (ht : mg_T C t) (hx : x < C) (hQ : ∀ x y, x < C → y < C → ((kn ((8 + q) * 25 + x * 5 + y) ≠ 0 ∧ mg_q s t x y) ↔ Q x y))
    (K : ∀ an, mg_AN C Q an (x + 1) 0 → J (nI (x + 1)) (nI (mg_rk Q C (x + 1) 0)) ce bl kn qu aR aF aS gL iA aQ bP fr ba an) :
    ∀ n y an, C < n + y → y ≤ C → mg_AN C Q an x y → wX_collectAnswers_20 post J (nI q) s t (nI x) (nI C) pC rL rC dO sC zP zQ qT gC aC fC bC gO rE n (nI y) (nI (mg_rk Q C x y)) ce bl kn qu aR aF aS gL iA aQ bP fr ba an := by
  have hv0 : mg_V C 0 := ⟨by omega, by omega, by omega, by omega⟩
  have hs0 : ∀ s, mg_S 0 s := fun s => ⟨Or.inl rfl, Or.inl rfl, Or.inl rfl⟩
  intro n
  induction n with
  | zero => intro y an a b; omega
  | succ n ih =>
    intro y an a b hA
    unfold wX_collectAnswers_20
    refine pk_le C y (fun e => ?_) (fun e => ?_)
    · have ey : y = C := by omega
      subst ey
      rw [mg_rk_n]
      refine nm_r (nI_1 x) (K an (fun x' y' a1 a2 a3 a4 => ?_))
      have := hA x' y' a1 a2 a3 (by omega)
      rw [mg_rk_n] at this
      exact this
    · have ih0 := ih (y + 1) an (by omega) (by omega)
      have ih1 := ih (y + 1) (upd an (mg_rk Q C x y) (nI (10 * x + y))) (by omega) (by omega)
      have hl := mg_rk_le (Q := Q) (x := x) (y := y + 1) hC.2 hx (by omega)
      rw [mg_rk_s] at ih0 ih1 hl
      have skip : ¬ mg_q s t x y → wX_collectAnswers_20 post J (nI q) s t (nI x) (nI C) pC rL rC dO sC zP zQ qT gC aC fC bC gO rE n (nI (y + 1)) (nI (mg_rk Q C x y)) ce bl kn qu aR aF aS gL iA aQ bP fr ba an := fun h => by
        have nq : ¬ Q x y := fun g => h ((hQ x y hx e).mpr g).2
        rw [mg_b_f nq] at ih0
        exact ih0 (mg_AN_no hA nq)
      refine xx_match (c := 0) hC.2 hv0 hs hx (fun r1 g1 => ?_)
      rcases g1 with ⟨rfl, g1⟩ | ⟨c1, rfl, hV, hS, hB, hBB⟩
      · refine xx_match_neg (br_t (by decide) (nm_r (nI_1 y) (skip (fun h => ?_))))
        obtain ⟨u, e1, _⟩ := mg_q_to hC.2 hs ht hx e h
        exact g1 u (hs0 u) e1
      · refine xx_match hC.2 hV ht e (fun r2 g2 => ?_)
        rcases g2 with ⟨rfl, g2⟩ | ⟨c2, rfl, hV2, hS2, hB2, hBB2⟩
        · refine br_t (by decide) (nm_r (nI_1 y) (skip (fun h => ?_)))
          obtain ⟨u, e1, e2⟩ := mg_q_to hC.2 hs ht hx e h
          exact g2 u ((hS u).mpr ⟨hs0 u, e1⟩) e2
        · have hmq : mg_q s t x y := by
            have h2 := (hS2 _).mp (mg_can_S c2)
            have h1 := (hS _).mp h2.1
            exact mg_q_of hC.2 hs ht ⟨_, h1.2, h2.2⟩
          have ei : (8 + nI q) * 25 + nI x * 5 + nI y = nI ((8 + q) * 25 + x * 5 + y) := by rw [show (8 : Int32) = nI 8 from rfl, show (25 : Int32) = nI 25 from rfl, show (5 : Int32) = nI 5 from rfl, nI_add, pk_mul, pk_mul, nI_add, nI_add]
          have ex : (10 : Int32) * nI x + nI y = nI (10 * x + y) := by rw [show (10 : Int32) = nI 10 from rfl, pk_mul, nI_add]
          refine br_f (nI_pos (by have := hV2.1; omega)) ?_
          rw [ei, ex]
          refine And.intro (vp_in_nI (by omega) (by omega)) ?_
          rw [nI_clamp (show (8 + q) * 25 + x * 5 + y < 2 ^ 31 by omega)]
          refine br_c (fun z => ?_) (fun z => ?_)
          · have nq : ¬ Q x y := fun g => ((hQ x y hx e).mpr g).1 z
            rw [mg_b_f nq] at ih0
            exact nm_r (nI_1 y) (ih0 (mg_AN_no hA nq))
          · have yq : Q x y := (hQ x y hx e).mp ⟨z, hmq⟩
            rw [mg_b_t yq] at ih1 hl
            refine ⟨vp_in_nI (by omega) (by omega), ?_⟩
            rw [nI_clamp (show mg_rk Q C x y < 2 ^ 31 by omega)]
            exact nm_e (nm_r (nI_1 _) (nm_r (nI_1 y) (ih1 (mg_AN_yes hA yq))))
theorem xx_collectAnswers {post : SX → Prop} {C q : Nat} {s t : Int32} {Q : Nat → Nat → Prop} (hC : 1 ≤ C ∧ C ≤ 5) (hq : q < 16) (hs : mg_T C s) (ht : mg_T C t) (hQ : ∀ x y, x < C → y < C → ((kn ((8 + q) * 25 + x * 5 + y) ≠ 0 ∧ mg_q s t x y) ↔ Q x y))
    (K : ∀ an', (∀ x y, x < C → y < C → Q x y → an' (mg_rk Q C x y) = nI (10 * x + y)) → post (nI C, pC, rL, rC, dO, sC, zP, zQ, qT, gC, aC, fC, bC, nI (mg_rk Q C C 0), gO, rE, ce, bl, kn, qu, aR, aF, aS, gL, iA, aQ, bP, fr, ba, an')) : wpX_collectAnswers post (nI C, pC, rL, rC, dO, sC, zP, zQ, qT, gC, aC, fC, bC, nA, gO, rE, ce, bl, kn, qu, aR, aF, aS, gL, iA, aQ, bP, fr, ba, an) (nI q) s t := by
  have loop : ∀ n x an, C < n + x → x ≤ C → mg_AN C Q an x 0 → wX_collectAnswers_8 post (nI q) s t (nI C) pC rL rC dO sC zP zQ qT gC aC fC bC gO rE n (nI x) (nI (mg_rk Q C x 0)) ce bl kn qu aR aF aS gL iA aQ bP fr ba an := by
    intro n
    induction n with
    | zero => intro x an a b; omega
    | succ n ih =>
      intro x an a b hA
      unfold wX_collectAnswers_8
      refine pk_le C x (fun e => ?_) (fun e => ?_)
      · have ex : x = C := by omega
        subst ex
        exact K an (fun x' y' a1 a2 a3 => (hA x' y' a1 a2 a3 (Or.inl a1)).2)
      · exact ⟨C + 1, xx_collectAnswers_20 hC hq hs ht e hQ (fun an' h => ih (x + 1) an' (by omega) (by omega) h) (C + 1) 0 an (by omega) (by omega) hA⟩
  unfold wpX_collectAnswers
  exact ⟨C + 1, loop (C + 1) 0 an (by omega) (by omega) (fun x' y' a1 a2 a3 a4 => by omega)⟩
theorem xx_countGoals {post : SX → Prop} (h : post (cC, pC, rL, rC, dO, sC, zP, zQ, qT, gC, aC, fC, bC, nA, nI (mg_cn (fun k => kn (600 + k) ≠ 0) 400), rE, ce, bl, kn, qu, aR, aF, aS, gL, iA, aQ, bP, fr, ba, an)) : wpX_countGoals post (cC, pC, rL, rC, dO, sC, zP, zQ, qT, gC, aC, fC, bC, nA, gO, rE, ce, bl, kn, qu, aR, aF, aS, gL, iA, aQ, bP, fr, ba, an) := by
  have loop : ∀ n i, 400 < n + i → i ≤ 400 → wX_countGoals_9 post cC pC rL rC dO sC zP zQ qT gC aC fC bC nA rE ce bl kn qu aR aF aS gL iA aQ bP fr ba an n (nI (600 + i)) (nI (mg_cn (fun k => kn (600 + k) ≠ 0) i)) := by
    intro n
    induction n with
    | zero => intro i a b; omega
    | succ n ih =>
      intro i a b
      unfold wX_countGoals_9
      refine pk_le 1000 (600 + i) (fun e => ?_) (fun e => ⟨vp_in_nI (by omega) (by omega), ?_⟩)
      · have ei : i = 400 := by omega
        subst ei
        exact h
      · have ih' := ih (i + 1) (by omega) (by omega)
        rw [nI_clamp (show 600 + i < 2 ^ 31 by omega)]
        refine br_c (fun z => ?_) (fun z => ?_)
        · rw [mg_cn_s0 (P := fun k => kn (600 + k) ≠ 0) (fun h => h z)] at ih'
          exact nm_r (nI_1 _) ih'
        · rw [mg_cn_s1 (P := fun k => kn (600 + k) ≠ 0) z] at ih'
          exact nm_r (nI_1 _) (nm_r (nI_1 _) ih')
  unfold wpX_countGoals
  exact ⟨401, loop 401 0 (by omega) (by omega)⟩
theorem xx_countReached_14 {post : SX → Prop} {J : _} {p : Nat} {R : Nat → Prop} (hp : p < 4) (hR : ∀ p z, p < 4 → z < 25 → (R (25 * p + z) ↔ (kn ((8 + p * 4) * 25 + z) ≠ 0 ∨ kn ((8 + p * 4) * 25 + z + 25) ≠ 0 ∨ kn ((8 + p * 4) * 25 + z + 50) ≠ 0 ∨ kn ((8 + p * 4) * 25 + z + 75) ≠ 0)))
    (K : J (nI (p + 1)) (nI (mg_cn R (25 * (p + 1))))) : ∀ n z, 25 < n + z → z ≤ 25 → wX_countReached_14 post J (nI p) cC pC rL rC dO sC zP zQ qT gC aC fC bC nA gO ce bl kn qu aR aF aS gL iA aQ bP fr ba an n (nI z) (nI (mg_cn R (25 * p + z))) := by
  intro n
  induction n with
  | zero => intro z a b; omega
  | succ n ih =>
    intro z a b
    unfold wX_countReached_14
    refine pk_le 25 z (fun e => ?_) (fun e => ?_)
    · have ez : z = 25 := by omega
      subst ez
      exact nm_r (nI_1 p) K
    · have ih' := ih (z + 1) (by omega) (by omega)
      rw [← Nat.add_assoc] at ih'
      have yes : R (25 * p + z) → ∀ J7 : Int32 → Int32 → Prop, wX_countReached_77 post J7 (wX_countReached_14 post J (nI p) cC pC rL rC dO sC zP zQ qT gC aC fC bC nA gO ce bl kn qu aR aF aS gL iA aQ bP fr ba an n) (nI p) (nI z) cC pC rL rC dO sC zP zQ qT gC aC fC bC nA gO (nI (mg_cn R (25 * p + z))) ce bl kn qu aR aF aS gL iA aQ bP fr ba an := fun h J7 => by
        rw [mg_cn_s1 h] at ih'
        unfold wX_countReached_77
        exact nm_r (nI_1 _) (nm_r (nI_1 z) ih')
      have rz := hR p z hp e
      have e0 : (8 + nI p * 4) * 25 + nI z = nI ((8 + p * 4) * 25 + z) := by rw [show (8 : Int32) = nI 8 from rfl, show (4 : Int32) = nI 4 from rfl, show (25 : Int32) = nI 25 from rfl, pk_mul, nI_add, pk_mul, nI_add]
      have ad : ∀ k c : Nat, nI k + nI c = nI (k + c) := nI_add
      refine nm_r e0 ?_
      rw [show (25 : Int32) = nI 25 from rfl, show (50 : Int32) = nI 50 from rfl, show (75 : Int32) = nI 75 from rfl, ad _ 25, ad _ 50, ad _ 75]
      rw [nI_clamp (show (8 + p * 4) * 25 + z < 2 ^ 31 by omega), nI_clamp (show (8 + p * 4) * 25 + z + 25 < 2 ^ 31 by omega), nI_clamp (show (8 + p * 4) * 25 + z + 50 < 2 ^ 31 by omega), nI_clamp (show (8 + p * 4) * 25 + z + 75 < 2 ^ 31 by omega)]
      refine ⟨vp_in_nI (by omega) (by omega), br_c (fun k0 => ⟨vp_in_nI (by omega) (by omega), br_c (fun k1 => ⟨vp_in_nI (by omega) (by omega), br_c (fun k2 => ⟨vp_in_nI (by omega) (by omega), br_c (fun k3 => ?_) (fun k3 => yes (rz.mpr (Or.inr (Or.inr (Or.inr k3)))) _)⟩) (fun k2 => yes (rz.mpr (Or.inr (Or.inr (Or.inl k2)))) _)⟩) (fun k1 => yes (rz.mpr (Or.inr (Or.inl k1))) _)⟩) (fun k0 => yes (rz.mpr (Or.inl k0)) _)⟩
      have nr : ¬ R (25 * p + z) := fun h => by
        rcases rz.mp h with g | g | g | g
        · exact g k0
        · exact g k1
        · exact g k2
        · exact g k3
      rw [mg_cn_s0 nr] at ih'
      exact nm_r (nI_1 z) ih'
theorem xx_countReached {post : SX → Prop} {R : Nat → Prop} (hR : ∀ p z, p < 4 → z < 25 → (R (25 * p + z) ↔ (kn ((8 + p * 4) * 25 + z) ≠ 0 ∨ kn ((8 + p * 4) * 25 + z + 25) ≠ 0 ∨ kn ((8 + p * 4) * 25 + z + 50) ≠ 0 ∨ kn ((8 + p * 4) * 25 + z + 75) ≠ 0)))
    (h : post (cC, pC, rL, rC, dO, sC, zP, zQ, qT, gC, aC, fC, bC, nA, gO, nI (mg_cn R 100), ce, bl, kn, qu, aR, aF, aS, gL, iA, aQ, bP, fr, ba, an)) : wpX_countReached post (cC, pC, rL, rC, dO, sC, zP, zQ, qT, gC, aC, fC, bC, nA, gO, rE, ce, bl, kn, qu, aR, aF, aS, gL, iA, aQ, bP, fr, ba, an) := by
  have loop : ∀ n p, 4 < n + p → p ≤ 4 → wX_countReached_7 post cC pC rL rC dO sC zP zQ qT gC aC fC bC nA gO ce bl kn qu aR aF aS gL iA aQ bP fr ba an n (nI p) (nI (mg_cn R (25 * p))) := by
    intro n
    induction n with
    | zero => intro i a b; omega
    | succ n ih =>
      intro p a b
      unfold wX_countReached_7
      refine pk_le 4 p (fun e => ?_) (fun e => ?_)
      · have ei : p = 4 := by omega
        subst ei
        exact h
      · exact ⟨26, xx_countReached_14 e hR (ih (p + 1) (by omega) (by omega)) 26 0 (by omega) (by omega)⟩
  unfold wpX_countReached
  exact ⟨5, loop 5 0 (by omega) (by omega)⟩
end
end
section
/-! ask: the pure part, and X's side -/
theorem mg_perm_n {N : Nat} {π : Nat → Nat} {P : Nat → Prop} (h1 : ∀ k, k < N → π k < N) (h2 : ∀ i j, i < N → j < N → π i = π j → i = j) : ∀ n, n ≤ N → mg_cn (fun k => P (π k)) n = mg_cn (fun j => ∃ k, k < n ∧ π k = j ∧ P j) N
  | 0, _ => (mg_cn_0 (fun j _ h => by obtain ⟨k, hk, _⟩ := h; omega)).symm
  | n + 1, hn => by
    have ih := mg_perm_n (P := P) h1 h2 n (by omega)
    by_cases z : P (π n)
    · rw [mg_cn_s1 (P := fun k => P (π k)) z, ih]
      have nn : ¬ ∃ k, k < n ∧ π k = π n ∧ P (π n) := fun ⟨k, hk, e, _⟩ => by have := h2 k n (by omega) (by omega) e; omega
      rw [← mg_cn_add (P := fun j => ∃ k, k < n ∧ π k = j ∧ P j) nn (h1 n (by omega))]
      refine mg_cn_eq (fun j _ => ?_)
      constructor
      · rintro (⟨k, hk, e, p⟩ | e)
        · exact ⟨k, by omega, e, p⟩
        · exact ⟨n, by omega, e.symm, by rw [e]; exact z⟩
      · rintro ⟨k, hk, e, p⟩
        by_cases y : k = n
        · subst y; exact Or.inr e.symm
        · exact Or.inl ⟨k, by omega, e, p⟩
    · rw [mg_cn_s0 (P := fun k => P (π k)) z, ih]
      refine mg_cn_eq (fun j _ => ?_)
      constructor
      · rintro ⟨k, hk, e, p⟩
        exact ⟨k, by omega, e, p⟩
      · rintro ⟨k, hk, e, p⟩
        by_cases y : k = n
        · rw [y] at e; rw [e] at z; exact absurd p z
        · exact ⟨k, by omega, e, p⟩
theorem mg_perm_le {N : Nat} {π : Nat → Nat} {P : Nat → Prop} (h1 : ∀ k, k < N → π k < N) (h2 : ∀ i j, i < N → j < N → π i = π j → i = j) : mg_cn (fun k => P (π k)) N ≤ mg_cn P N := by
  rw [mg_perm_n h1 h2 N (Nat.le_refl _)]
  exact mg_cn_mono (fun j _ h => by obtain ⟨k, _, _, p⟩ := h; exact p)
theorem mg_perm {P : Nat → Prop} : mg_cn (fun k => P (mg_xy (600 + k))) 400 = mg_cn P 400 := by
  have a : ∀ k, k < 400 → mg_xy (600 + k) < 400 := fun k hk => by unfold mg_xy; omega
  have b : ∀ k, k < 400 → 600 ≤ mg_yx k ∧ mg_yx k < 1000 ∧ mg_xy (mg_yx k) = k := fun k hk => by unfold mg_yx mg_xy; omega
  have c : ∀ k, k < 400 → mg_yx (mg_xy (600 + k)) = 600 + k := fun k hk => mg_xyx (by omega) (by omega)
  refine Nat.le_antisymm (mg_perm_le (π := fun k => mg_xy (600 + k)) a (fun i j hi hj e => ?_)) ?_
  · have e1 := c i hi
    have e2 := c j hj
    have e3 : mg_xy (600 + i) = mg_xy (600 + j) := e
    rw [e3] at e1
    omega
  · have le := mg_perm_le (N := 400) (π := fun k => mg_yx k - 600) (P := fun k => P (mg_xy (600 + k))) (fun k hk => by have := b k hk; omega) (fun i j hi hj e => by
      have h1 := b i hi
      have h2 := b j hj
      have e3 : mg_yx i = mg_yx j := by
        have e' : mg_yx i - 600 = mg_yx j - 600 := e
        omega
      rw [← h1.2.2, ← h2.2.2, e3])
    refine Nat.le_trans (Nat.le_of_eq (mg_cn_eq (fun k hk => ?_))) le
    have h1 := b k hk
    rw [show 600 + (mg_yx k - 600) = mg_yx k by omega, h1.2.2]
theorem mg_M_dom {C Pn rc k : Nat} {ce bl fa : Nat → Int32} (hC : C ≤ 5) (hP : Pn ≤ 4) (hok : mg_ok C Pn ce bl rc) (hfa : ∀ f, f < 100 → fa f ≠ 0 → f / 5 % 5 < C ∧ f % 5 < C) (h : mg_M C ce bl rc fa k) : k / 5 % 5 < C ∧ k % 5 < C := by
  refine h (fun k => k / 5 % 5 < C ∧ k % 5 < C) (fun f hf => hfa f hf.1 hf.2) (fun R hR s hs _ => ?_)
  obtain ⟨r, hr, rfl⟩ := List.mem_map.mp hR
  rw [List.mem_range] at hr
  have hao := (hok r hr).1.2 0 (by omega)
  rw [show 12 * r + 3 * 0 = 12 * r by omega] at hao
  have hf := mg_ca_f hC hP hao hs
  have e : mg_f (mg_pr ce bl r).1 s = mg_f (mg_ca ce (12 * r)) s := rfl
  rw [e, hf.1]
  omega
noncomputable def mg_dd (s t : Int32) : Nat := mg_b (¬ s < 0) + 2 * mg_b (¬ t < 0)
theorem mg_dd_f (s t : Int32) : mg_dd s t < 4 ∧ (mg_dd s t % 2 = 1 ↔ ¬ s < 0) ∧ (mg_dd s t / 2 % 2 = 1 ↔ ¬ t < 0) := by
  unfold mg_dd
  by_cases h1 : s < 0
  · rw [mg_b_f (fun h => h h1)]
    by_cases h2 : t < 0
    · rw [mg_b_f (fun h => h h2)]
      exact ⟨by omega, ⟨fun h => by omega, fun h => absurd h1 h⟩, ⟨fun h => by omega, fun h => absurd h2 h⟩⟩
    · rw [mg_b_t h2]
      exact ⟨by omega, ⟨fun h => by omega, fun h => absurd h1 h⟩, ⟨fun _ => h2, fun _ => by omega⟩⟩
  · rw [mg_b_t h1]
    by_cases h2 : t < 0
    · rw [mg_b_f (fun h => h h2)]
      exact ⟨by omega, ⟨fun _ => h1, fun _ => by omega⟩, ⟨fun h => by omega, fun h => absurd h2 h⟩⟩
    · rw [mg_b_t h2]
      exact ⟨by omega, ⟨fun _ => h1, fun _ => by omega⟩, ⟨fun _ => h2, fun _ => by omega⟩⟩
def mg_cx (s : Int32) : Nat := if s < 0 then 0 else s.toNatClampNeg
theorem mg_cx_f {C : Nat} {s : Int32} (hC : 1 ≤ C ∧ C ≤ 5) (hs : mg_T C s) : mg_cx s < C ∧ (¬ s < 0 → s = nI (mg_cx s)) ∧ (s < 0 → mg_cx s = 0) := by
  unfold mg_cx
  by_cases z : s < 0
  · rw [if_pos z]
    exact ⟨by omega, fun h => absurd z h, fun _ => rfl⟩
  · obtain ⟨x, hx, rfl⟩ := mg_T_pos hs z
    rw [if_neg z, nI_clamp (by omega)]
    exact ⟨hx, fun _ => rfl, fun h => absurd h z⟩
theorem mg_fb_cx {C : Nat} {s t : Int32} (hC : 1 ≤ C ∧ C ≤ 5) (hs : mg_T C s) : mg_fb (mg_dd s t) s = nI (mg_cx s) := by
  have c := mg_cx_f hC hs
  have d := mg_dd_f s t
  unfold mg_fb
  by_cases z : s < 0
  · rw [if_neg (fun h => d.2.1.mp h z), c.2.2 z]; rfl
  · rw [if_pos (d.2.1.mpr z)]; exact c.2.1 z
theorem mg_sb_cx {C : Nat} {s t : Int32} (hC : 1 ≤ C ∧ C ≤ 5) (ht : mg_T C t) : mg_sb (mg_dd s t) t = nI (mg_cx t) := by
  have c := mg_cx_f hC ht
  have d := mg_dd_f s t
  unfold mg_sb
  by_cases z : t < 0
  · rw [if_neg (fun h => d.2.2.mp h z), c.2.2 z]; rfl
  · rw [if_pos (d.2.2.mpr z)]; exact c.2.1 z
/-- X's first goal -/
noncomputable def mg_g0 (p : Nat) (s t : Int32) : Nat := (24 + (p * 4 + mg_dd s t)) * 25 + mg_cx s * 5 + mg_cx t
theorem mg_g0_f {C p : Nat} {s t : Int32} (hC : 1 ≤ C ∧ C ≤ 5) (hp : p < 4) (hs : mg_T C s) (ht : mg_T C t) : 600 ≤ mg_g0 p s t ∧ mg_g0 p s t < 1000 ∧ mg_g0 p s t / 25 - 24 = p * 4 + mg_dd s t ∧ mg_xy (mg_g0 p s t) = 100 * mg_dd s t + 25 * p + 5 * mg_cx s + mg_cx t ∧ mg_g0 p s t / 5 % 5 < C ∧ mg_g0 p s t % 5 < C := by
  have d := (mg_dd_f s t).1
  have a := (mg_cx_f hC hs).1
  have b := (mg_cx_f hC ht).1
  unfold mg_g0 mg_xy
  omega
theorem mg_g0_q {C p x y : Nat} {s t : Int32} (hC : 1 ≤ C ∧ C ≤ 5) (hp : p < 4) (hs : mg_T C s) (ht : mg_T C t) (hx : x < C) (hy : y < C) (h : mg_q s t x y) : mg_go (25 * p + 5 * x + y) (mg_dd s t) = mg_xy (mg_g0 p s t) := by
  have g := mg_g0_f hC hp hs ht
  have d := mg_dd_f s t
  have a := mg_cx_f hC hs
  have b := mg_cx_f hC ht
  rw [g.2.2.2.1]
  unfold mg_go
  have ex : (if mg_dd s t % 2 = 1 then (25 * p + 5 * x + y) / 5 % 5 * 5 else 0) = 5 * mg_cx s := by
    by_cases z : s < 0
    · rw [if_neg (fun h => d.2.1.mp h z), a.2.2 z]
    · rw [if_pos (d.2.1.mpr z)]
      rcases h.1 with g | g
      · exact absurd g z
      · rw [a.2.1 z, nI_eq (by omega) (by omega)] at g
        omega
  have ey : (if mg_dd s t / 2 % 2 = 1 then (25 * p + 5 * x + y) % 5 else 0) = mg_cx t := by
    by_cases z : t < 0
    · rw [if_neg (fun h => d.2.2.mp h z), b.2.2 z]
    · rw [if_pos (d.2.2.mpr z)]
      rcases h.2.1 with g | g
      · exact absurd g z
      · rw [b.2.1 z, nI_eq (by omega) (by omega)] at g
        omega
  rw [ex, ey]
  omega
/-- what X's known says after a query -/
def mg_KX (C : Nat) (ce bl : Nat → Int32) (rc : Nat) (fa : Nat → Int32) (g0 : Nat) (kn kn' : Nat → Int32) : Prop :=
  (∀ k, k < 200 → kn' k = kn k) ∧ (∀ k, 600 ≤ k → k < 1000 → (kn' k ≠ 0 ↔ mg_gs C ce bl rc (mg_M C ce bl rc fa) (mg_xy g0) (mg_xy k))) ∧
  (∀ pr z, pr < 16 → z < 25 → (kn' ((8 + pr) * 25 + z) ≠ 0 ↔ (mg_M C ce bl rc fa (25 * (pr / 4) + z) ∧ mg_gs C ce bl rc (mg_M C ce bl rc fa) (mg_xy g0) (mg_go (25 * (pr / 4) + z) (pr % 4)))))
theorem mg_lm_1000 {C lo w k : Nat} {P : List mg_R} {K0 : Nat → Prop} (hC : C ≤ 5) (hwf : ∀ r, r ∈ P → mg_wf C lo w r) (hk : k < 1000) : mg_lm C P K0 k ↔ mg_lm C P (fun j => K0 j ∧ j < 1000) k := by
  constructor
  · intro h S hS hc
    exact h (fun j => j < 1000 → S j) (fun f hf h1 => hS f ⟨hf, h1⟩) (fun R hR s hs hb _ => hc R hR s hs (fun a ha => hb a ha (mg_f_1000 hC hs ((hwf R hR).2.1 a (Or.inr ha))))) hk
  · intro h
    exact h _ (fun f hf => mg_lm_in hf.1) mg_lm_cl
theorem mg_KX_of {C Pn rc q g0 t' : Nat} {ce bl fa kn kn2 kn' qu' : Nat → Int32} {P : List mg_R} (hC : 1 ≤ C ∧ C ≤ 5) (hP : Pn ≤ 4) (hok : mg_ok C Pn ce bl rc) (hfa : ∀ f, f < 100 → kn (100 + f) = fa f ∧ (fa f ≠ 0 → f / 5 % 5 < C ∧ f % 5 < C))
    (h2 : ∀ k, k < 200 → kn2 k = kn k) (h2b : ∀ k, k < 1000 → kn2 k ≠ 0 → k < 200 ∨ k = g0) (h2c : kn2 g0 ≠ 0) (g1 : 600 ≤ g0) (g2 : g0 < 1000) (g3 : g0 / 25 - 24 = q) (hm : ∀ x, x ∈ P ↔ ∃ pr, mg_as ce bl rc q pr ∧ mg_pm ce bl rc pr x) (hwf : ∀ r, r ∈ P → mg_wf C 200 800 r)
    (h4 : ∀ k, k < 200 → kn' k = kn2 k) (hQ : mg_Q C 200 800 kn' qu' t') (hl0 : ∀ k, kn' k ≠ 0 ↔ mg_lm C P (fun k => kn2 k ≠ 0) k) : mg_KX C ce bl rc fa g0 kn kn' := by
  have hl : ∀ k, k < 1000 → (kn' k ≠ 0 ↔ mg_lm C P (fun k => kn2 k ≠ 0 ∧ k < 1000) k) := fun k hk => (hl0 k).trans (mg_lm_1000 hC.2 hwf hk)
  have hset : mg_set C Pn ce bl rc (fun f => f < 100 ∧ fa f ≠ 0) (fun k => kn2 k ≠ 0 ∧ k < 1000) P q g0 := by
    refine ⟨hC, hP, hok, fun f hf => ⟨hf.1, (hfa f hf.1).2 hf.2⟩, fun f hf => ?_, fun k hk => h2b k hk.2 hk.1, ⟨h2c, g2⟩, g1, g2, g3, hm⟩
    show (kn2 (100 + f) ≠ 0 ∧ 100 + f < 1000) ↔ (f < 100 ∧ fa f ≠ 0)
    rw [h2 _ (by omega), (hfa f hf).1]
    exact ⟨fun h => ⟨hf, h.1⟩, fun h => ⟨h.2, by omega⟩⟩
  refine ⟨fun k hk => by rw [h4 k hk, h2 k hk], fun k k1 k2 => ?_, fun pr z hp hz => ?_⟩
  · rw [hl k k2]
    exact mg_goals_iff hset k1 k2
  · by_cases w : z / 5 < C ∧ z % 5 < C
    · have hf := mg_found_iff hset hp w.1 w.2
      rw [show (8 + pr) * 25 + z / 5 * 5 + z % 5 = (8 + pr) * 25 + z by omega, show 25 * (pr / 4) + 5 * (z / 5) + z % 5 = 25 * (pr / 4) + z by omega] at hf
      rw [hl _ (by omega)]
      exact hf
    · constructor
      · intro h
        obtain ⟨i, hi, e⟩ := hQ.2.1 ((8 + pr) * 25 + z) (by omega) (by omega) h
        obtain ⟨id, e1, _, _, e4, e5, _⟩ := hQ.1 i hi
        rw [e, nI_eq (by omega) (by omega)] at e1
        omega
      · rintro ⟨h, _⟩
        have := mg_M_dom hC.2 hP hok (fun f hf => (hfa f hf).2) h
        omega
section
variable {cC pC rL rC dO sC zP zQ qT gC aC fC bC nA gO rE : Int32} {ce bl kn qu aR aF aS gL iA aQ bP fr ba an : Nat → Int32}
theorem xx_ask {post : Int32 → SX → Prop} {C Pn rc p : Nat} {s t : Int32} {fa : Nat → Int32} (hC : 1 ≤ C ∧ C ≤ 5) (hP : Pn ≤ 4) (hrc : rc ≤ 8) (hok : mg_ok C Pn ce bl rc) (hp : p < Pn) (hs : mg_T C s) (ht : mg_T C t)
    (hfa : ∀ f, f < 100 → kn (100 + f) = fa f ∧ (fa f ≠ 0 → f / 5 % 5 < C ∧ f % 5 < C))
    (K : ∀ kn' qu' fC' bC' qT' gC' aC' aR' aF' aS' gL' iA' aQ' bP' fr' ba' an', mg_KX C ce bl rc fa (mg_g0 p s t) kn kn' → (∀ x, x < 16 → (iA' x ≠ 0 ↔ mg_as ce bl rc (p * 4 + mg_dd s t) x)) →
      (∀ x y, x < C → y < C → mg_Qa (mg_M C ce bl rc fa) p s t x y → an' (mg_rk (mg_Qa (mg_M C ce bl rc fa) p s t) C x y) = nI (10 * x + y)) →
      post (nI (mg_rk (mg_Qa (mg_M C ce bl rc fa) p s t) C C 0)) (nI C, nI Pn, rL, nI rc, dO, sC, zP, 1, qT', gC', aC', fC', bC', nI (mg_rk (mg_Qa (mg_M C ce bl rc fa) p s t) C C 0), nI (mg_cn (fun k => kn' (600 + k) ≠ 0) 400), nI (mg_cn (fun f => ∃ d, d < 4 ∧ mg_M C ce bl rc fa f ∧ mg_gs C ce bl rc (mg_M C ce bl rc fa) (mg_xy (mg_g0 p s t)) (mg_go f d)) 100), ce, bl, kn', qu', aR', aF', aS', gL', iA', aQ', bP', fr', ba', an')) :
    wpX_ask post (nI C, nI Pn, rL, nI rc, dO, sC, zP, zQ, qT, gC, aC, fC, bC, nA, gO, rE, ce, bl, kn, qu, aR, aF, aS, gL, iA, aQ, bP, fr, ba, an) (nI p) s t := by
  have hd := mg_dd_f s t
  have hg0 := mg_g0_f hC (show p < 4 by omega) hs ht
  have b0 : ∀ u, ¬ mg_bs 0 u := fun u h => by rcases h with ⟨_, h⟩ | ⟨_, h⟩ | ⟨_, h⟩ <;> omega
  have cx := (mg_cx_f hC hs).1
  have cy := (mg_cx_f hC ht).1
  unfold wpX_ask
  refine xx_isAtom hC.2 hP (fun _ => br_f mg_10 ?_) (fun h => absurd ⟨⟨p, hp, rfl⟩, hs, ht⟩ h)
  refine xx_adornment (b := 0) hC.2 hs ht (by omega) ?_
  have ed : mg_b (¬ s < 0 ∨ mg_bs 0 s) + 2 * mg_b (¬ t < 0 ∨ mg_bs 0 t) = mg_dd s t := by
    unfold mg_dd
    rw [mg_b_iff (show (¬ s < 0 ∨ mg_bs 0 s) ↔ ¬ s < 0 from ⟨fun h => h.elim (fun h => h) (fun h => absurd h (b0 s)), Or.inl⟩), mg_b_iff (show (¬ t < 0 ∨ mg_bs 0 t) ↔ ¬ t < 0 from ⟨fun h => h.elim (fun h => h) (fun h => absurd h (b0 t)), Or.inl⟩)]
  rw [ed]
  refine nm_r (e' := nI (p * 4 + mg_dd s t)) (by rw [show (4 : Int32) = nI 4 from rfl, pk_mul, nI_add]) ?_
  refine xx_reset (a := 200) (b := 1000) (by omega) (by omega) (fun kn1 r1 r2 => ?_)
  refine xx_rewriteProgram hC hP hrc hok (by omega) (fun P aR' aF' aS' gL' iA' aQ' na' bP' hg hl hm hiA => ?_)
  refine xx_firstIfBound hd.1 (xx_secondIfBound hd.1 ?_)
  rw [mg_fb_cx hC hs, mg_sb_cx hC ht]
  have eg : (24 + nI (p * 4 + mg_dd s t)) * 25 + nI (mg_cx s) * 5 + nI (mg_cx t) = nI (mg_g0 p s t) := by
    rw [show (24 : Int32) = nI 24 from rfl, show (25 : Int32) = nI 25 from rfl, show (5 : Int32) = nI 5 from rfl, nI_add, pk_mul, pk_mul, nI_add, nI_add]
    rfl
  rw [eg]
  have hQ0 : mg_Q C 200 800 kn1 qu 0 := ⟨fun i hi => by omega, fun id h1 h2 h3 => absurd (r1 id h1 (by omega)) h3, mg_cn_0 (fun k hk h => h (r1 _ (by omega) (by omega)))⟩
  refine xx_enqueue (lo := 200) (w := 800) (t := 0) (by omega) (by omega) (by omega) hg0.2.2.2.2.1 hg0.2.2.2.2.2 hQ0 (fun kn2 qu2 t2 hst2 h2a h2b => ?_)
  have hwf : ∀ x, x ∈ P → mg_wf C 200 800 x := fun x hx => by
    obtain ⟨pr, hA, hpm⟩ := (hm x).mp hx
    exact mg_pm_wf hC hP hok (mg_as_lt hP hok (by omega) hA) hpm
  refine xx_saturate (lo := 200) (w := 800) hC (by omega) hl hg.2 hwf hst2.1 (fun fC' bC' kn3 qu3 t3 fr' ba' hst3 hlm => ?_)
  have KX : mg_KX C ce bl rc fa (mg_g0 p s t) kn kn3 := by
    refine mg_KX_of (kn2 := kn2) (q := p * 4 + mg_dd s t) hC hP hok hfa (fun k hk => ?_) (fun k hk1 hk => ?_) h2a hg0.1 hg0.2.1 hg0.2.2.1 hm hwf (fun k hk => hst3.2.2.2.2 k (Or.inl hk)) hst3.1 hlm
    · rw [hst2.2.2.2.2 k (Or.inl hk), r2 k (Or.inl hk)]
    · rcases h2b k hk with g | g
      · by_cases z : k < 200
        · exact Or.inl z
        · exact absurd (r1 k (by omega) hk1) g
      · exact Or.inr g
  have hq4 : (p * 4 + mg_dd s t) / 4 = p := by omega
  have hq5 : (p * 4 + mg_dd s t) % 4 = mg_dd s t := by omega
  refine xx_collectAnswers (Q := mg_Qa (mg_M C ce bl rc fa) p s t) hC (by omega) hs ht (fun x y hx hy => ?_) (fun an' han => ?_)
  · have f := KX.2.2 (p * 4 + mg_dd s t) (x * 5 + y) (by omega) (by omega)
    rw [hq4, hq5, ← Nat.add_assoc, show 25 * p + (x * 5 + y) = 25 * p + 5 * x + y by omega] at f
    constructor
    · rintro ⟨h1, h2⟩
      exact ⟨(f.mp h1).1, h2⟩
    · rintro ⟨h1, h2⟩
      refine ⟨f.mpr ⟨h1, ?_⟩, h2⟩
      rw [mg_g0_q hC (by omega) hs ht hx hy h2]
      exact mg_gs_0
  · refine xx_countGoals ?_
    refine xx_countReached (R := fun f => ∃ d, d < 4 ∧ mg_M C ce bl rc fa f ∧ mg_gs C ce bl rc (mg_M C ce bl rc fa) (mg_xy (mg_g0 p s t)) (mg_go f d)) (fun p' z hp' hz => ?_) ?_
    · have f : ∀ d, d < 4 → (kn3 ((8 + (p' * 4 + d)) * 25 + z) ≠ 0 ↔ (mg_M C ce bl rc fa (25 * p' + z) ∧ mg_gs C ce bl rc (mg_M C ce bl rc fa) (mg_xy (mg_g0 p s t)) (mg_go (25 * p' + z) d))) := fun d hd => by
        have g := KX.2.2 (p' * 4 + d) z (by omega) hz
        rw [show (p' * 4 + d) / 4 = p' by omega, show (p' * 4 + d) % 4 = d by omega] at g
        exact g
      have f0 := f 0 (by omega)
      have f1 := f 1 (by omega)
      have f2 := f 2 (by omega)
      have f3 := f 3 (by omega)
      rw [show (8 + (p' * 4 + 0)) * 25 + z = (8 + p' * 4) * 25 + z by omega] at f0
      rw [show (8 + (p' * 4 + 1)) * 25 + z = (8 + p' * 4) * 25 + z + 25 by omega] at f1
      rw [show (8 + (p' * 4 + 2)) * 25 + z = (8 + p' * 4) * 25 + z + 50 by omega] at f2
      rw [show (8 + (p' * 4 + 3)) * 25 + z = (8 + p' * 4) * 25 + z + 75 by omega] at f3
      rw [f0, f1, f2, f3]
      constructor
      · rintro ⟨d, hd, h⟩
        have hc : d = 0 ∨ d = 1 ∨ d = 2 ∨ d = 3 := by omega
        rcases hc with rfl | rfl | rfl | rfl
        · exact Or.inl h
        · exact Or.inr (Or.inl h)
        · exact Or.inr (Or.inr (Or.inl h))
        · exact Or.inr (Or.inr (Or.inr h))
      · rintro (h | h | h | h)
        · exact ⟨0, by omega, h⟩
        · exact ⟨1, by omega, h⟩
        · exact ⟨2, by omega, h⟩
        · exact ⟨3, by omega, h⟩
    · exact K kn3 qu3 fC' bC' _ _ _ aR' aF' aS' gL' iA' aQ' bP' fr' ba' an' KX hiA han
end
end
section
/-! ask: Y's side -/
section
variable {cC pC rL rC qp qs qt dO zP zQ : Int32} {ce bl fa mo pa go : Nat → Int32}
theorem yy_ask_184 {post : Int32 → SY → Prop} {J : _} {C p x : Nat} {M : Nat → Prop} (hC : C ≤ 5) (hp : p < 4) (hx : x < C) (hM : ∀ k, k < 100 → (mo k ≠ 0 ↔ M k)) (K : J (nI (mg_rk (mg_Qa M p qs qt) C (x + 1) 0)) (nI (x + 1))) :
    ∀ n y, C < n + y → y ≤ C → wY_ask_184 post J (nI x) (nI C) pC rL rC (nI p) qs qt dO zP zQ ce bl fa mo pa go n (nI (mg_rk (mg_Qa M p qs qt) C x y)) (nI y) := by
  intro n
  induction n with
  | zero => intro y a b; omega
  | succ n ih =>
    intro y a b
    unfold wY_ask_184
    refine pk_le C y (fun e => ?_) (fun e => ?_)
    · have ey : y = C := by omega
      subst ey
      rw [mg_rk_n]
      exact nm_r (nI_1 x) K
    · have hf : 25 * p + 5 * x + y < 100 := by omega
      have ih' := ih (y + 1) (by omega) (by omega)
      rw [mg_rk_s] at ih'
      refine yy_isAnswer hp (by omega) (by omega) (fun m1 q1 => br_f mg_10 ?_) (fun hq => br_t rfl ?_)
      · rw [mg_b_t (P := mg_Qa M p qs qt x y) ⟨(hM _ hf).mp m1, q1⟩] at ih'
        exact nm_r (nI_1 _) (nm_r (nI_1 y) ih')
      · have hQ : ¬ mg_Qa M p qs qt x y := fun h => by
          rcases hq with g | g
          · exact (hM _ hf).mpr h.1 g
          · exact g h.2
        rw [mg_b_f hQ] at ih'
        exact nm_r (nI_1 y) ih'
theorem yy_ask_172 {post : Int32 → SY → Prop} {C p : Nat} {M : Nat → Prop} (hC : C ≤ 5) (hp : p < 4) (hM : ∀ k, k < 100 → (mo k ≠ 0 ↔ M k)) (h : post (nI (mg_rk (mg_Qa M p qs qt) C C 0)) (nI C, pC, rL, rC, nI p, qs, qt, dO, zP, zQ, ce, bl, fa, mo, pa, go)) :
    ∀ n x, C < n + x → x ≤ C → wY_ask_172 post (nI C) pC rL rC (nI p) qs qt dO zP zQ ce bl fa mo pa go n (nI (mg_rk (mg_Qa M p qs qt) C x 0)) (nI x) := by
  intro n
  induction n with
  | zero => intro x a b; omega
  | succ n ih =>
    intro x a b
    unfold wY_ask_172
    refine pk_le C x (fun e => ?_) (fun e => ?_)
    · have ex : x = C := by omega
      subst ex
      exact h
    · exact ⟨C + 1, yy_ask_184 hC hp e hM (ih (x + 1) (by omega) (by omega)) (C + 1) 0 (by omega) (by omega)⟩
theorem yy_ask_158 {post : Int32 → SY → Prop} {C Pn rc p g : Nat} {z0 z1 : Int32} {M : Nat → Prop} (hC : C ≤ 5) (hP : Pn ≤ 4) (hrc : rc ≤ 8) (hok : mg_ok C Pn ce bl rc) (hp : p < 4) (hM : ∀ k, k < 100 → (mo k ≠ 0 ↔ M k)) (hg : g < 400) (ez : z1 + z0 = nI g) (hgo : ∀ k, k < 400 → go k = 0)
    (K : ∀ go', (∀ k, k < 400 → (go' k ≠ 0 ↔ mg_gs C ce bl rc M g k)) → post (nI (mg_rk (mg_Qa M p qs qt) C C 0)) (nI C, pC, rL, nI rc, nI p, qs, qt, dO, zP, zQ, ce, bl, fa, mo, pa, go')) : wY_ask_158 post z0 z1 (nI C) pC rL (nI rc) (nI p) qs qt dO zP zQ ce bl fa mo pa go := by
  unfold wY_ask_158
  rw [ez]
  refine ⟨vp_in_nI hg (by omega), ?_⟩
  rw [nI_clamp (show g < 2 ^ 31 by omega), mg_nar1]
  refine nm_e (yy_goals hC hP hrc hok hM hg (fun k hk => ?_) (fun go' hgo' => ?_))
  · constructor
    · intro h
      rcases mg_s_upd.mp h with w | w
      · exact absurd (hgo k hk) w
      · exact w
    · intro h
      exact mg_s_upd.mpr (Or.inr h)
  · exact ⟨C + 1, yy_ask_172 hC hp hM (K go' hgo') (C + 1) 0 (by omega) (by omega)⟩
theorem yy_ask_104 {post : Int32 → SY → Prop} {C Pn rc p : Nat} {s t z0 z1 : Int32} {M : Nat → Prop} (hC : 1 ≤ C ∧ C ≤ 5) (hP : Pn ≤ 4) (hrc : rc ≤ 8) (hok : mg_ok C Pn ce bl rc) (hp : p < 4) (hs : mg_T C s) (ht : mg_T C t) (hM : ∀ k, k < 100 → (mo k ≠ 0 ↔ M k)) (ez : z1 + z0 = nI (mg_dd s t)) (hgo : ∀ k, k < 400 → go k = 0) (hpa : ∀ k, k < 16 → pa k = 0)
    (K : ∀ pa' go', (∀ k, k < 16 → (pa' k ≠ 0 ↔ mg_as ce bl rc (p * 4 + mg_dd s t) k)) → (∀ k, k < 400 → (go' k ≠ 0 ↔ mg_gs C ce bl rc M (mg_xy (mg_g0 p s t)) k)) → post (nI (mg_rk (mg_Qa M p qs qt) C C 0)) (nI C, pC, rL, nI rc, nI p, qs, qt, dO, zP, zQ, ce, bl, fa, mo, pa', go')) : wY_ask_104 post (nI p) s t z0 z1 (nI C) pC rL (nI rc) (nI p) qs qt dO zP zQ ce bl fa mo pa go := by
  have hd := mg_dd_f s t
  have hg0 := mg_g0_f hC hp hs ht
  have cs := mg_cx_f hC hs
  have ct := mg_cx_f hC ht
  unfold wY_ask_104
  refine nm_r ez ?_
  have e4 : (4 : Int32) * nI p + nI (mg_dd s t) = nI (p * 4 + mg_dd s t) := by rw [show (4 : Int32) = nI 4 from rfl, pk_mul, nI_add, Nat.mul_comm]
  rw [e4]
  refine ⟨vp_in_nI (by omega) (by omega), ?_⟩
  rw [nI_clamp (show p * 4 + mg_dd s t < 2 ^ 31 by omega), mg_nar1]
  refine nm_e (yy_closePairs hP hok hrc (show p * 4 + mg_dd s t < 16 by omega) (fun k hk => ?_) (fun pa' hpa' => ?_))
  · constructor
    · intro h
      rcases mg_s_upd.mp h with w | w
      · exact absurd (hpa k hk) w
      · exact w
    · intro h
      exact mg_s_upd.mpr (Or.inr h)
  · have f148 : wY_ask_148 post t (nI (5 * mg_cx s)) (100 * nI (mg_dd s t) + 25 * nI p) (nI C) pC rL (nI rc) (nI p) qs qt dO zP zQ ce bl fa mo pa' go := by
      have eb : (100 : Int32) * nI (mg_dd s t) + 25 * nI p = nI (100 * mg_dd s t + 25 * p) := by rw [show (100 : Int32) = nI 100 from rfl, show (25 : Int32) = nI 25 from rfl, pk_mul, pk_mul, nI_add]
      have f158 : wY_ask_158 post (nI (mg_cx t)) (nI (100 * mg_dd s t + 25 * p) + nI (5 * mg_cx s)) (nI C) pC rL (nI rc) (nI p) qs qt dO zP zQ ce bl fa mo pa' go := by
        refine yy_ask_158 hC.2 hP hrc hok hp hM (g := mg_xy (mg_g0 p s t)) ?_ ?_ hgo (fun go' hgo' => K pa' go' hpa' hgo')
        · rw [hg0.2.2.2.1]; omega
        · rw [nI_add, nI_add, hg0.2.2.2.1]
      rw [eb]
      unfold wY_ask_148
      refine br_c (fun z => ?_) (fun z => ?_)
      · rw [ct.2.2 z] at f158
        exact f158
      · rw [← ct.2.1 z] at f158
        exact f158
    refine br_c (fun z => ?_) (fun z => ?_)
    · rw [cs.2.2 z] at f148
      exact f148
    · have e5 : (5 : Int32) * s = nI (5 * mg_cx s) := by rw [show (5 : Int32) * s = 5 * nI (mg_cx s) from congrArg (fun w => 5 * w) (cs.2.1 z), show (5 : Int32) = nI 5 from rfl, pk_mul]
      rw [e5]
      exact f148
theorem yy_ask_64 {post : Int32 → SY → Prop} {C Pn rc p : Nat} {s t : Int32} {M : Nat → Prop} (hC : 1 ≤ C ∧ C ≤ 5) (hP : Pn ≤ 4) (hrc : rc ≤ 8) (hok : mg_ok C Pn ce bl rc) (hp : p < 4) (hs : mg_T C s) (ht : mg_T C t) (hM : ∀ k, k < 100 → (mo k ≠ 0 ↔ M k)) (hpa : ∀ k, k < 16 → pa k = 0)
    (K : ∀ pa' go', (∀ k, k < 16 → (pa' k ≠ 0 ↔ mg_as ce bl rc (p * 4 + mg_dd s t) k)) → (∀ k, k < 400 → (go' k ≠ 0 ↔ mg_gs C ce bl rc M (mg_xy (mg_g0 p s t)) k)) → post (nI (mg_rk (mg_Qa M p qs qt) C C 0)) (nI C, pC, rL, nI rc, nI p, qs, qt, dO, zP, zQ, ce, bl, fa, mo, pa', go')) :
    ∀ n i go, 400 < n + i → i ≤ 400 → (∀ k, k < i → go k = 0) → wY_ask_64 post (nI p) s t (nI C) pC rL (nI rc) (nI p) qs qt dO zP zQ n (nI i) ce bl fa mo pa go := by
  intro n
  induction n with
  | zero => intro i go a b; omega
  | succ n ih =>
    intro i go a b hg
    unfold wY_ask_64
    refine pk_le 400 i (fun e => ?_) (fun e => ⟨vp_in_nI (by omega) (by omega), ?_⟩)
    · have hgo : ∀ k, k < 400 → go k = 0 := fun k hk => hg k (by omega)
      refine br_c (fun z => ?_) (fun z => ?_)
      · unfold wY_ask_95
        refine br_c (fun y => ?_) (fun y => ?_)
        · refine yy_ask_104 hC hP hrc hok hp hs ht hM ?_ hgo hpa K
          unfold mg_dd
          rw [mg_b_f (fun h => h z), mg_b_f (fun h => h y)]; rfl
        · refine yy_ask_104 hC hP hrc hok hp hs ht hM ?_ hgo hpa K
          unfold mg_dd
          rw [mg_b_f (fun h => h z), mg_b_t y]; rfl
      · unfold wY_ask_95
        refine br_c (fun y => ?_) (fun y => ?_)
        · refine yy_ask_104 hC hP hrc hok hp hs ht hM ?_ hgo hpa K
          unfold mg_dd
          rw [mg_b_t z, mg_b_f (fun h => h y)]; rfl
        · refine yy_ask_104 hC hP hrc hok hp hs ht hM ?_ hgo hpa K
          unfold mg_dd
          rw [mg_b_t z, mg_b_t y]; rfl
    · rw [nI_clamp (show i < 2 ^ 31 by omega), mg_nar0]
      refine nm_e (nm_r (nI_1 i) (ih (i + 1) (upd go i 0) (by omega) (by omega) (fun k hk => ?_)))
      by_cases z : k = i
      · subst z; exact pk_us
      · rw [pk_un z]; exact hg k (by omega)
theorem yy_ask_40 {post : Int32 → SY → Prop} {C Pn rc p : Nat} {s t : Int32} {M : Nat → Prop} (hC : 1 ≤ C ∧ C ≤ 5) (hP : Pn ≤ 4) (hrc : rc ≤ 8) (hok : mg_ok C Pn ce bl rc) (hp : p < 4) (hs : mg_T C s) (ht : mg_T C t) (hM : ∀ k, k < 100 → (mo k ≠ 0 ↔ M k))
    (K : ∀ pa' go', (∀ k, k < 16 → (pa' k ≠ 0 ↔ mg_as ce bl rc (p * 4 + mg_dd s t) k)) → (∀ k, k < 400 → (go' k ≠ 0 ↔ mg_gs C ce bl rc M (mg_xy (mg_g0 p s t)) k)) → post (nI (mg_rk (mg_Qa M p qs qt) C C 0)) (nI C, pC, rL, nI rc, nI p, qs, qt, dO, zP, zQ, ce, bl, fa, mo, pa', go')) :
    ∀ n i pa, 16 < n + i → i ≤ 16 → (∀ k, k < i → pa k = 0) → wY_ask_40 post (nI p) s t (nI C) pC rL (nI rc) (nI p) qs qt dO zP zQ n (nI i) ce bl fa mo pa go := by
  intro n
  induction n with
  | zero => intro i pa a b; omega
  | succ n ih =>
    intro i pa a b hg
    unfold wY_ask_40
    refine pk_le 16 i (fun e => ?_) (fun e => ⟨vp_in_nI (by omega) (by omega), ?_⟩)
    · exact ⟨401, yy_ask_64 hC hP hrc hok hp hs ht hM (fun k hk => hg k (by omega)) K 401 0 go (by omega) (by omega) (fun k hk => by omega)⟩
    · rw [nI_clamp (show i < 2 ^ 31 by omega), mg_nar0]
      refine nm_e (nm_r (nI_1 i) (ih (i + 1) (upd pa i 0) (by omega) (by omega) (fun k hk => ?_)))
      by_cases z : k = i
      · subst z; exact pk_us
      · rw [pk_un z]; exact hg k (by omega)
theorem yy_ask {post : Int32 → SY → Prop} {C Pn rc p : Nat} {s t : Int32} (hC : 1 ≤ C ∧ C ≤ 5) (hP : Pn ≤ 4) (hrc : rc ≤ 8) (hok : mg_ok C Pn ce bl rc) (hp : p < Pn) (hs : mg_T C s) (ht : mg_T C t) (hfa : ∀ k, k < 100 → fa k = 0 ∨ fa k = 1)
    (K : ∀ mo' pa' go', (∀ k, k < 100 → (mo' k ≠ 0 ↔ mg_M C ce bl rc fa k)) → (∀ k, k < 16 → (pa' k ≠ 0 ↔ mg_as ce bl rc (p * 4 + mg_dd s t) k)) → (∀ k, k < 400 → (go' k ≠ 0 ↔ mg_gs C ce bl rc (mg_M C ce bl rc fa) (mg_xy (mg_g0 p s t)) k)) →
      post (nI (mg_rk (mg_Qa (mg_M C ce bl rc fa) p s t) C C 0)) (nI C, nI Pn, rL, nI rc, nI p, s, t, dO, zP, 1, ce, bl, fa, mo', pa', go')) : wpY_ask post (nI C, nI Pn, rL, nI rc, qp, qs, qt, dO, zP, zQ, ce, bl, fa, mo, pa, go) (nI p) s t := by
  unfold wpY_ask
  refine yy_badAtom hC.2 hP (fun _ => br_t rfl ?_) (fun h => absurd ⟨⟨p, hp, rfl⟩, hs, ht⟩ h)
  refine yy_makeModel hC.2 hP hrc hok hfa (fun mo' hmo => ?_)
  exact ⟨17, yy_ask_40 (M := mg_M C ce bl rc fa) hC hP hrc hok (by omega) hs ht hmo (fun pa' go' h1 h2 => K mo' pa' go' hmo h1 h2) 17 0 pa (by omega) (by omega) (fun k hk => by omega)⟩
end
end
section
/-! ask -/
theorem i_vc_ask {k : Nat} {u : SX} {v : SY} (I : i_Rel k u v) (hk : k + 5 ≤ 2563) (v1 : Int32) (v2 : Int32) (v3 : Int32) : wpX_ask (fun r u' => wpY_ask (fun r' v' => r' = r ∧ i_Rel (k + 5) u' v') v v1 v2 v3) u v1 v2 v3 := by
  refine zz_el (P := fun u v => wpX_ask (fun r u' => wpY_ask (fun r' v' => r' = r ∧ i_Rel (k + 5) u' v') v v1 v2 v3) u v1 v2 v3) I ?_
  intro C Pn Rl rc sc dO zP zQ qT gC aC fC bC nA gO rE qp qs qt ce bl kn qu aR aF aS gL iA aQ bP fr ba an fa mo pa go hI
  have hJ := hI
  obtain ⟨⟨hC, hP, hR, hrc⟩, h2, h3, h4, h5, h6, h7, h8⟩ := hJ
  by_cases ha : mg_aok C Pn v1 v2 v3
  · obtain ⟨⟨p, hp, rfl⟩, hs, ht⟩ := ha
    refine xx_ask (by omega) hP.2 (by omega) h2 hp hs ht (fun f hf => ⟨(h4 f hf).1, (h4 f hf).2.2⟩) (fun kn' qu' fC' bC' qT' gC' aC' aR' aF' aS' gL' iA' aQ' bP' fr' ba' an' KX hiA han => ?_)
    refine yy_ask (by omega) hP.2 (by omega) h2 hp hs ht (fun f hf => (h4 f hf).2.1) (fun mo' pa' go' hmo hpa hgo => ⟨rfl, ?_⟩)
    refine zz_in ⟨⟨hC, hP, hR, hrc⟩, h2, h3, fun f hf => ?_, h5, fun hz k hk => ?_, fun _ => hmo, fun _ => ⟨p, hp, rfl, hs, ht, fun k hk => (hiA k hk).trans (hpa k hk).symm, fun k k1 k2 => ?_, fun pr z hp' hz => ?_, rfl, han, ?_, ?_⟩⟩
    · rw [KX.1 _ (by omega)]; exact h4 f hf
    · rw [KX.1 _ (by omega)]; exact h6 hz k hk
    · rw [KX.2.1 k k1 k2, hgo _ (by unfold mg_xy; omega)]
    · rw [KX.2.2 pr z hp' hz, hgo _ (mg_go_lt (by omega) (by omega))]
    · refine congrArg nI ?_
      rw [mg_cn_eq (P := fun k => kn' (600 + k) ≠ 0) (Q := fun k => mg_gs C ce bl rc (mg_M C ce bl rc fa) (mg_xy (mg_g0 p v2 v3)) (mg_xy (600 + k))) (fun k hk => KX.2.1 (600 + k) (by omega) (by omega)), mg_perm (P := mg_gs C ce bl rc (mg_M C ce bl rc fa) (mg_xy (mg_g0 p v2 v3)))]
      exact mg_cn_eq (fun k hk => (hgo k hk).symm)
    · refine congrArg nI (mg_cn_eq (fun f hf => ?_))
      constructor
      · rintro ⟨d, hd, m, g⟩
        exact ⟨d, hd, m, (hgo _ (mg_go_lt hf hd)).mpr g⟩
      · rintro ⟨d, hd, m, g⟩
        exact ⟨d, hd, m, (hgo _ (mg_go_lt hf hd)).mp g⟩
  · unfold wpX_ask
    refine xx_isAtom hC.2 hP.2 (fun h => absurd h ha) (fun _ => br_t rfl ?_)
    unfold wpY_ask
    exact yy_badAtom hC.2 hP.2 (fun h => absurd h ha) (fun _ => br_f mg_10 ⟨rfl, zz_in hI⟩)
end
