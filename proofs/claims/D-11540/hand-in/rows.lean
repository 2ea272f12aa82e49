section
/-! ===== the pure picture ===== -/
def cv_z (z : Int) : Int32 := Int32.ofInt z
theorem cv_zt {z : Int} (h1 : -100000000 ≤ z) (h2 : z ≤ 100000000) : (cv_z z).toInt = z := Int32.toInt_ofInt_of_le (by omega) (by omega)
theorem cv_zadd (a b : Int) : cv_z a + cv_z b = cv_z (a + b) := (Int32.ofInt_add a b).symm
theorem cv_zsub (a b : Int) : cv_z a - cv_z b = cv_z (a - b) := (Int32.ofInt_sub a b).symm
theorem cv_zmul (a b : Int) : cv_z a * cv_z b = cv_z (a * b) := (Int32.ofInt_mul a b).symm
theorem cv_zneg (a : Int) : -cv_z a = cv_z (-a) := (Int32.ofInt_neg a).symm
theorem cv_zn (n : Nat) : nI n = cv_z (n : Int) := Int32.ofInt_eq_ofNat.symm
theorem cv_z0 : cv_z 0 = 0 := by decide
theorem cv_zle {a b : Int} (a1 : -100000000 ≤ a) (a2 : a ≤ 100000000) (b1 : -100000000 ≤ b) (b2 : b ≤ 100000000) : cv_z a ≤ cv_z b ↔ a ≤ b := by
  rw [Int32.le_iff_toInt_le, cv_zt a1 a2, cv_zt b1 b2]
theorem cv_zlt {a b : Int} (a1 : -100000000 ≤ a) (a2 : a ≤ 100000000) (b1 : -100000000 ≤ b) (b2 : b ≤ 100000000) : cv_z a < cv_z b ↔ a < b := by
  rw [Int32.lt_iff_toInt_lt, cv_zt a1 a2, cv_zt b1 b2]
/-- the place that stands for a place's group -/
def cv_grp (x g : Nat) : Nat := (if g % 2 = 0 then 0 else x % 4) + 4 * (if g / 2 % 2 = 0 then 0 else x / 4 % 5) + 20 * (if g / 4 % 2 = 0 then 0 else x / 20)
def cv_r (x F d : Nat) : Bool := decide (d % 2 = 0) || decide (F / 2 ^ (x % 4) % 2 = 1)
def cv_k (x F d : Nat) : Bool := decide (d / 2 % 2 = 0) || decide (F / 2 ^ (4 + x / 4 % 5) % 2 = 1)
def cv_m (x F d : Nat) : Bool := decide (d / 4 % 2 = 0) || decide (F / 2 ^ (9 + x / 20) % 2 = 1)
def cv_pass (x F d : Nat) : Bool := cv_r x F d && cv_k x F d && cv_m x F d
def cv_cuts (F : Nat) : Nat := (if F % 16 = 15 then 0 else 1) + (if F / 16 % 32 = 31 then 0 else 2) + (if F / 512 = 63 then 0 else 4)
/-- how many of the first facts are of a kind; what they add up to -/
def cv_cC (P : Nat → Nat) (φ : Nat → Bool) : Nat → Nat
  | 0 => 0
  | n + 1 => cv_cC P φ n + (if φ (P n) = true then 1 else 0)
def cv_cS (P : Nat → Nat) (A : Nat → Int) (φ : Nat → Bool) : Nat → Int
  | 0 => 0
  | n + 1 => cv_cS P A φ n + (if φ (P n) = true then A n else 0)
theorem cv_cC_congr {P : Nat → Nat} {φ ψ : Nat → Bool} : ∀ {N : Nat}, (∀ i, i < N → φ (P i) = ψ (P i)) → cv_cC P φ N = cv_cC P ψ N := by
  intro N
  induction N with
  | zero => intro _; rfl
  | succ n ih =>
    intro h
    unfold cv_cC
    rw [ih (fun i hi => h i (by omega)), h n (by omega)]
theorem cv_cS_congr {P : Nat → Nat} {A : Nat → Int} {φ ψ : Nat → Bool} : ∀ {N : Nat}, (∀ i, i < N → φ (P i) = ψ (P i)) → cv_cS P A φ N = cv_cS P A ψ N := by
  intro N
  induction N with
  | zero => intro _; rfl
  | succ n ih =>
    intro h
    unfold cv_cS
    rw [ih (fun i hi => h i (by omega)), h n (by omega)]
theorem cv_cC_or {P : Nat → Nat} {φ ψ χ : Nat → Bool} : ∀ {N : Nat}, (∀ i, i < N → χ (P i) = (φ (P i) || ψ (P i)) ∧ (φ (P i) && ψ (P i)) = false) → cv_cC P χ N = cv_cC P φ N + cv_cC P ψ N := by
  intro N
  induction N with
  | zero => intro _; rfl
  | succ n ih =>
    intro h
    have e := ih (fun i hi => h i (by omega))
    obtain ⟨h1, h2⟩ := h n (by omega)
    unfold cv_cC
    rw [e, h1]
    cases h3 : φ (P n) <;> cases h4 : ψ (P n) <;> simp [h3, h4] at h2 ⊢ <;> omega
theorem cv_cS_or {P : Nat → Nat} {A : Nat → Int} {φ ψ χ : Nat → Bool} : ∀ {N : Nat}, (∀ i, i < N → χ (P i) = (φ (P i) || ψ (P i)) ∧ (φ (P i) && ψ (P i)) = false) → cv_cS P A χ N = cv_cS P A φ N + cv_cS P A ψ N := by
  intro N
  induction N with
  | zero => intro _; rfl
  | succ n ih =>
    intro h
    have e := ih (fun i hi => h i (by omega))
    obtain ⟨h1, h2⟩ := h n (by omega)
    unfold cv_cS
    rw [e, h1]
    cases h3 : φ (P n) <;> cases h4 : ψ (P n) <;> simp [h3, h4] at h2 ⊢ <;> omega
theorem cv_cC_none {P : Nat → Nat} {φ : Nat → Bool} : ∀ {N : Nat}, cv_cC P φ N = 0 → ∀ i, i < N → φ (P i) = false := by
  intro N
  induction N with
  | zero => intro _ i hi; omega
  | succ n ih =>
    intro h i hi
    unfold cv_cC at h
    by_cases e : i = n
    · subst e
      cases h3 : φ (P i)
      · rfl
      · rw [h3] at h; simp at h
    · exact ih (by omega) i (by omega)
theorem cv_cC_zero {P : Nat → Nat} {φ : Nat → Bool} {N : Nat} (h : ∀ i, i < N → φ (P i) = false) : cv_cC P φ N = 0 := by
  induction N with
  | zero => rfl
  | succ n ih =>
    unfold cv_cC
    rw [ih (fun i hi => h i (by omega)), h n (by omega)]
    simp
theorem cv_cS_zero {P : Nat → Nat} {A : Nat → Int} {φ : Nat → Bool} {N : Nat} (h : ∀ i, i < N → φ (P i) = false) : cv_cS P A φ N = 0 := by
  induction N with
  | zero => rfl
  | succ n ih =>
    unfold cv_cS
    rw [ih (fun i hi => h i (by omega)), h n (by omega)]
    simp
theorem cv_cC_le (P : Nat → Nat) (φ : Nat → Bool) (N : Nat) : cv_cC P φ N ≤ N := by
  induction N with
  | zero => exact Nat.le_refl _
  | succ n ih =>
    unfold cv_cC
    split <;> omega
theorem cv_cS_bd {P : Nat → Nat} {A : Nat → Int} {φ : Nat → Bool} {N : Nat} (h : ∀ i, i < N → -50 ≤ A i ∧ A i ≤ 50) : -(50 * (N : Int)) ≤ cv_cS P A φ N ∧ cv_cS P A φ N ≤ 50 * (N : Int) := by
  induction N with
  | zero => exact ⟨by show -(50 * ((0 : Nat) : Int)) ≤ 0; omega, by show 0 ≤ 50 * ((0 : Nat) : Int); omega⟩
  | succ n ih =>
    have e := ih (fun i hi => h i (by omega))
    have e2 := h n (by omega)
    unfold cv_cS
    split <;> omega
/-! groups and filters -/
theorem cv_grp_lt {x : Nat} (g : Nat) (hx : x < 120) : cv_grp x g < 120 := by
  unfold cv_grp
  split <;> split <;> split <;> omega
theorem cv_grp_grp : ∀ x, x < 120 → ∀ g, g < 8 → ∀ r, r < 8 → g &&& r = r → cv_grp (cv_grp x g) r = cv_grp x r := by decide +kernel
theorem cv_grp_d1 : ∀ x, x < 120 → ∀ g, g < 8 → ∀ d, d < 8 → g &&& d = d → (d % 2 = 0 ∨ cv_grp x g % 4 = x % 4) := by decide +kernel
theorem cv_grp_d2 : ∀ x, x < 120 → ∀ g, g < 8 → ∀ d, d < 8 → g &&& d = d → (d / 2 % 2 = 0 ∨ cv_grp x g / 4 % 5 = x / 4 % 5) := by decide +kernel
theorem cv_grp_d3 : ∀ x, x < 120 → ∀ g, g < 8 → ∀ d, d < 8 → g &&& d = d → (d / 4 % 2 = 0 ∨ cv_grp x g / 20 = x / 20) := by decide +kernel
theorem cv_pass_grp {x g d : Nat} (F : Nat) (hx : x < 120) (hg : g < 8) (hd : d < 8) (h : g &&& d = d) : cv_pass (cv_grp x g) F d = cv_pass x F d := by
  have h1 := cv_grp_d1 x hx g hg d hd h
  have h2 := cv_grp_d2 x hx g hg d hd h
  have h3 := cv_grp_d3 x hx g hg d hd h
  have e1 : cv_r (cv_grp x g) F d = cv_r x F d := by
    unfold cv_r
    rcases h1 with h1 | h1
    · rw [decide_eq_true h1, Bool.true_or, Bool.true_or]
    · rw [h1]
  have e2 : cv_k (cv_grp x g) F d = cv_k x F d := by
    unfold cv_k
    rcases h2 with h2 | h2
    · rw [decide_eq_true h2, Bool.true_or, Bool.true_or]
    · rw [h2]
  have e3 : cv_m (cv_grp x g) F d = cv_m x F d := by
    unfold cv_m
    rcases h3 with h3 | h3
    · rw [decide_eq_true h3, Bool.true_or, Bool.true_or]
    · rw [h3]
  unfold cv_pass
  rw [e1, e2, e3]
theorem cv_b4 {F r : Nat} (h : F % 16 = 15) (hr : r < 4) : F / 2 ^ r % 2 = 1 := by
  match r, hr with
  | 0, _ => show F / 1 % 2 = 1; omega
  | 1, _ => show F / 2 % 2 = 1; omega
  | 2, _ => show F / 4 % 2 = 1; omega
  | 3, _ => show F / 8 % 2 = 1; omega
theorem cv_b5 {F r : Nat} (h : F / 16 % 32 = 31) (hr : r < 5) : F / 2 ^ (4 + r) % 2 = 1 := by
  match r, hr with
  | 0, _ => show F / 16 % 2 = 1; omega
  | 1, _ => show F / 32 % 2 = 1; omega
  | 2, _ => show F / 64 % 2 = 1; omega
  | 3, _ => show F / 128 % 2 = 1; omega
  | 4, _ => show F / 256 % 2 = 1; omega
theorem cv_b6 {F r : Nat} (h : F / 512 = 63) (hr : r < 6) : F / 2 ^ (9 + r) % 2 = 1 := by
  match r, hr with
  | 0, _ => show F / 512 % 2 = 1; omega
  | 1, _ => show F / 1024 % 2 = 1; omega
  | 2, _ => show F / 2048 % 2 = 1; omega
  | 3, _ => show F / 4096 % 2 = 1; omega
  | 4, _ => show F / 8192 % 2 = 1; omega
  | 5, _ => show F / 16384 % 2 = 1; omega
theorem cv_pass_need {x F d : Nat} (hx : x < 120) (h1 : d % 2 = 0 → F % 16 = 15) (h2 : d / 2 % 2 = 0 → F / 16 % 32 = 31) (h3 : d / 4 % 2 = 0 → F / 512 = 63) : cv_pass x F d = cv_pass x F 7 := by
  have e1 : cv_r x F d = cv_r x F 7 := by
    unfold cv_r
    by_cases z : d % 2 = 0
    · rw [decide_eq_true z, decide_eq_true (cv_b4 (h1 z) (by omega)), Bool.or_true, Bool.or_true]
    · rw [decide_eq_false z]; rfl
  have e2 : cv_k x F d = cv_k x F 7 := by
    unfold cv_k
    by_cases z : d / 2 % 2 = 0
    · rw [decide_eq_true z, decide_eq_true (cv_b5 (h2 z) (by omega)), Bool.or_true, Bool.or_true]
    · rw [decide_eq_false z]; rfl
  have e3 : cv_m x F d = cv_m x F 7 := by
    unfold cv_m
    by_cases z : d / 4 % 2 = 0
    · rw [decide_eq_true z, decide_eq_true (cv_b6 (h3 z) (by omega)), Bool.or_true, Bool.or_true]
    · rw [decide_eq_false z]; rfl
  unfold cv_pass
  rw [e1, e2, e3]
theorem cv_cuts_bits (F : Nat) : cv_cuts F < 8 ∧ (cv_cuts F % 2 = 0 → F % 16 = 15) ∧ (cv_cuts F / 2 % 2 = 0 → F / 16 % 32 = 31) ∧ (cv_cuts F / 4 % 2 = 0 → F / 512 = 63) := by
  unfold cv_cuts
  split <;> split <;> split <;> refine ⟨by omega, fun z => ?_, fun z => ?_, fun z => ?_⟩ <;> omega
theorem cv_or8 : ∀ c, c < 8 → ∀ r, r < 8 → (c ||| r) < 8 ∧ ((c ||| r) % 2 = 0 → c % 2 = 0) ∧ ((c ||| r) / 2 % 2 = 0 → c / 2 % 2 = 0) ∧ ((c ||| r) / 4 % 2 = 0 → c / 4 % 2 = 0) := by decide +kernel
theorem cv_orsub : ∀ g, g < 8 → ∀ c, c < 8 → ∀ r, r < 8 → g &&& (c ||| r) = c ||| r → g &&& r = r := by decide +kernel
/-- the question's group of a place is that of the place's cell, and it passes where the cell does -/
theorem cv_cell {x g r F : Nat} (hx : x < 120) (hg : g < 8) (hr : r < 8) (h : g &&& (cv_cuts F ||| r) = cv_cuts F ||| r) :
    cv_grp (cv_grp x g) r = cv_grp x r ∧ cv_pass (cv_grp x g) F (cv_cuts F ||| r) = cv_pass x F 7 := by
  obtain ⟨c8, c1, c2, c3⟩ := cv_cuts_bits F
  obtain ⟨d8, d1, d2, d3⟩ := cv_or8 _ c8 r hr
  refine ⟨cv_grp_grp x hx g hg r hr (cv_orsub g hg _ c8 r hr h), ?_⟩
  rw [cv_pass_grp F hx hg d8 h]
  exact cv_pass_need hx (fun z => c1 (d1 z)) (fun z => c2 (d2 z)) (fun z => c3 (d3 z))
/-! masks -/
theorem cv_and1 : ∀ g, g < 8 → (nI g &&& 1 = 0 ↔ g % 2 = 0) := by decide +kernel
theorem cv_and2 : ∀ g, g < 8 → (nI g &&& 2 = 0 ↔ g / 2 % 2 = 0) := by decide +kernel
theorem cv_and4 : ∀ g, g < 8 → (nI g &&& 4 = 0 ↔ g / 4 % 2 = 0) := by decide +kernel
theorem cv_sub8 : ∀ a, a < 8 → ∀ b, b < 8 → (nI a &&& nI b = nI b ↔ a &&& b = b) := by decide +kernel
theorem cv_nor8 : ∀ a, a < 8 → ∀ b, b < 8 → nI a ||| nI b = nI (a ||| b) := by decide +kernel
theorem cv_sl : ∀ n, n < 32 → ((nI n &&& 31).toBitVec.smod 32).toNat = n := by decide +kernel
theorem cv_bit {F s : Nat} {y : Int32} (hF : F < 32768) (hs : s < 32) (hy : y = nI s) : ((nI F >>> (y &&& 31)) &&& 1) = 1 ↔ F / 2 ^ s % 2 = 1 := by
  subst hy
  have hd : F / 2 ^ s ≤ F := Nat.div_le_self _ _
  rw [pk_shrN (by omega) _ s (cv_sl s hs), pk_andN (by omega) 1 (by decide)]
  exact nI_eq (b := 1) (by omega) (by omega)
end
section
/-! ===== the small methods ===== -/
section
variable {c : Int32} {a1 a2 a3 a4 a5 a6 a7 a8 a9 : Nat → Int32}
theorem cv_region {post : Int32 → Prop} {u : St2} {x : Nat} (hx : x < 120) (hp : post (nI (x % 4))) : wpX_region post u (nI x) := by
  obtain ⟨c, a1, a2, a3, a4, a5, a6, a7, a8, a9⟩ := u
  have e : nI x - nI x / 4 * 4 = nI (x % 4) := pk_rem (d := 4) (by omega) (by omega) (by omega)
  exact ⟨by decide, ek_v (P := post) e hp⟩
theorem cv_kind {post : Int32 → Prop} {u : St2} {x : Nat} (hx : x < 120) (hp : post (nI (x / 4 % 5))) : wpX_kind post u (nI x) := by
  obtain ⟨c, a1, a2, a3, a4, a5, a6, a7, a8, a9⟩ := u
  have e1 : nI x / 4 = nI (x / 4) := pk_div (d := 4) (by omega) (by omega) (by omega)
  have e : nI x / 4 - nI x / 4 / 5 * 5 = nI (x / 4 % 5) := by
    rw [e1]
    exact pk_rem (d := 5) (by omega) (by omega) (by omega)
  exact ⟨by decide, by decide, ek_v (P := post) e hp⟩
theorem cv_month {post : Int32 → Prop} {u : St2} {x : Nat} (hx : x < 120) (hp : post (nI (x / 20))) : wpX_month post u (nI x) := by
  obtain ⟨c, a1, a2, a3, a4, a5, a6, a7, a8, a9⟩ := u
  have e : nI x / 20 = nI (x / 20) := pk_div (d := 20) (by omega) (by omega) (by omega)
  exact ⟨by decide, ek_v (P := post) e hp⟩
theorem cv_group48 {post : Int32 → Prop} {r k m : Nat} (hp : post (nI (r + 4 * k + 20 * m))) : wX_group_48 post (nI r) (nI k) (nI m) c a1 a2 a3 a4 a5 a6 a7 a8 a9 := by
  have e4 : (4 : Int32) * nI k = nI (4 * k) := pk_mul 4 k
  have e20 : (20 : Int32) * nI m = nI (20 * m) := pk_mul 20 m
  have e : (nI r + 4 * nI k) + 20 * nI m = nI (r + 4 * k + 20 * m) := by
    rw [e4, e20, nI_add, nI_add]
  exact ek_v (P := post) e hp
theorem cv_group31 {post : Int32 → Prop} {x g r k : Nat} (hx : x < 120) (hg : g < 8) (hp : post (nI (r + 4 * k + 20 * (if g / 4 % 2 = 0 then 0 else x / 20)))) : wX_group_31 post (nI x) (nI g) (nI r) (nI k) c a1 a2 a3 a4 a5 a6 a7 a8 a9 := by
  refine ek_if (cv_and4 g hg) (fun z => ?_) (fun z => ?_)
  · rw [if_pos z] at hp
    exact cv_group48 (m := 0) hp
  · rw [if_neg z] at hp
    exact cv_month hx (cv_group48 hp)
theorem cv_group15 {post : Int32 → Prop} {x g r : Nat} (hx : x < 120) (hg : g < 8) (hp : post (nI (r + 4 * (if g / 2 % 2 = 0 then 0 else x / 4 % 5) + 20 * (if g / 4 % 2 = 0 then 0 else x / 20)))) : wX_group_15 post (nI x) (nI g) (nI r) c a1 a2 a3 a4 a5 a6 a7 a8 a9 := by
  refine ek_if (cv_and2 g hg) (fun z => ?_) (fun z => ?_)
  · rw [if_pos z] at hp
    exact cv_group31 (k := 0) hx hg hp
  · rw [if_neg z] at hp
    exact cv_kind hx (cv_group31 hx hg hp)
theorem cv_group {post : Int32 → Prop} {u : St2} {x g : Nat} (hx : x < 120) (hg : g < 8) (hp : post (nI (cv_grp x g))) : wpX_group post u (nI x) (nI g) := by
  obtain ⟨c, a1, a2, a3, a4, a5, a6, a7, a8, a9⟩ := u
  unfold cv_grp at hp
  refine ek_if (cv_and1 g hg) (fun z => ?_) (fun z => ?_)
  · rw [if_pos z] at hp
    exact cv_group15 (r := 0) hx hg hp
  · rw [if_neg z] at hp
    exact cv_region hx (cv_group15 hx hg hp)
/-! passes -/
def cv_bI (b : Bool) : Int32 := cond b 1 0
theorem cv_p81 {post : Int32 → Prop} {R K M : Bool} (h1 : (R && K && M) = true → post 1) (h0 : (R && K && M) = false → post 0) : wX_passes_81 post (cv_bI R) (cv_bI K) (cv_bI M) c a1 a2 a3 a4 a5 a6 a7 a8 a9 := by
  cases R
  · exact br_t rfl (h0 (by rfl))
  · refine br_f (by decide) ?_
    cases K
    · exact br_t rfl (h0 (by rfl))
    · refine br_f (by decide) ?_
      cases M
      · exact br_t rfl (h0 (by rfl))
      · exact br_f (by decide) (h1 (by rfl))
theorem cv_p52 {post : Int32 → Prop} {R K : Bool} {x F d : Nat} (hx : x < 120) (hF : F < 32768) (hd : d < 8) (h1 : (R && K && cv_m x F d) = true → post 1) (h0 : (R && K && cv_m x F d) = false → post 0) : wX_passes_52 post (nI x) (nI F) (nI d) (cv_bI R) (cv_bI K) c a1 a2 a3 a4 a5 a6 a7 a8 a9 := by
  refine ek_if (cv_and4 d hd) (fun z => ?_) (fun z => ?_)
  · have e : cv_m x F d = true := by unfold cv_m; rw [decide_eq_true z, Bool.true_or]
    rw [e] at h1 h0
    exact cv_p81 (M := true) h1 h0
  · refine cv_month hx ?_
    have ey : (9 : Int32) + nI (x / 20) = nI (9 + x / 20) := nI_add 9 (x / 20)
    refine ek_if (cv_bit hF (s := 9 + x / 20) (by omega) ey) (fun b => ?_) (fun b => ?_)
    · have e : cv_m x F d = true := by unfold cv_m; rw [decide_eq_true b, Bool.or_true]
      rw [e] at h1 h0
      exact cv_p81 (M := true) h1 h0
    · have e : cv_m x F d = false := by unfold cv_m; rw [decide_eq_false b, decide_eq_false z]; rfl
      rw [e] at h1 h0
      exact cv_p81 (M := false) h1 h0
theorem cv_p24 {post : Int32 → Prop} {R : Bool} {x F d : Nat} (hx : x < 120) (hF : F < 32768) (hd : d < 8) (h1 : (R && cv_k x F d && cv_m x F d) = true → post 1) (h0 : (R && cv_k x F d && cv_m x F d) = false → post 0) : wX_passes_24 post (nI x) (nI F) (nI d) (cv_bI R) c a1 a2 a3 a4 a5 a6 a7 a8 a9 := by
  refine ek_if (cv_and2 d hd) (fun z => ?_) (fun z => ?_)
  · have e : cv_k x F d = true := by unfold cv_k; rw [decide_eq_true z, Bool.true_or]
    rw [e] at h1 h0
    exact cv_p52 (K := true) hx hF hd h1 h0
  · refine cv_kind hx ?_
    have ey : (4 : Int32) + nI (x / 4 % 5) = nI (4 + x / 4 % 5) := nI_add 4 (x / 4 % 5)
    refine ek_if (cv_bit hF (s := 4 + x / 4 % 5) (by omega) ey) (fun b => ?_) (fun b => ?_)
    · have e : cv_k x F d = true := by unfold cv_k; rw [decide_eq_true b, Bool.or_true]
      rw [e] at h1 h0
      exact cv_p52 (K := true) hx hF hd h1 h0
    · have e : cv_k x F d = false := by unfold cv_k; rw [decide_eq_false b, decide_eq_false z]; rfl
      rw [e] at h1 h0
      exact cv_p52 (K := false) hx hF hd h1 h0
theorem cv_passes {post : Int32 → Prop} {u : St2} {x F d : Nat} (hx : x < 120) (hF : F < 32768) (hd : d < 8) (h1 : cv_pass x F d = true → post 1) (h0 : cv_pass x F d = false → post 0) : wpX_passes post u (nI x) (nI F) (nI d) := by
  obtain ⟨c, a1, a2, a3, a4, a5, a6, a7, a8, a9⟩ := u
  unfold cv_pass at h1 h0
  refine ek_if (cv_and1 d hd) (fun z => ?_) (fun z => ?_)
  · have e : cv_r x F d = true := by unfold cv_r; rw [decide_eq_true z, Bool.true_or]
    rw [e] at h1 h0
    exact cv_p24 (R := true) hx hF hd h1 h0
  · refine cv_region hx ?_
    refine ek_if (cv_bit hF (s := x % 4) (by omega) rfl) (fun b => ?_) (fun b => ?_)
    · have e : cv_r x F d = true := by unfold cv_r; rw [decide_eq_true b, Bool.or_true]
      rw [e] at h1 h0
      exact cv_p24 (R := true) hx hF hd h1 h0
    · have e : cv_r x F d = false := by unfold cv_r; rw [decide_eq_false b, decide_eq_false z]; rfl
      rw [e] at h1 h0
      exact cv_p24 (R := false) hx hF hd h1 h0
/-! cuts -/
theorem cv_c1 {F : Nat} (hF : F < 32768) : (nI F &&& 15 = 15 ↔ F % 16 = 15) := by
  rw [pk_andN (by omega) 4 (by decide)]
  exact nI_eq (b := 15) (by omega) (by omega)
theorem cv_c2 {F : Nat} (hF : F < 32768) : ((nI F >>> ((4 : Int32) &&& 31)) &&& 31 = 31 ↔ F / 16 % 32 = 31) := by
  rw [pk_shrN (by omega) _ 4 (by decide), pk_andN (by omega) 5 (by decide)]
  exact nI_eq (b := 31) (by omega) (by omega)
theorem cv_c3 {F : Nat} (hF : F < 32768) : (nI F >>> ((9 : Int32) &&& 31) = 63 ↔ F / 512 = 63) := by
  rw [pk_shrN (by omega) _ 9 (by decide)]
  exact nI_eq (b := 63) (by omega) (by omega)
theorem cv_cuts33 {post : Int32 → Prop} {F b : Nat} (hF : F < 32768) (hb : b < 4) (hp : post (nI (b + (if F / 512 = 63 then 0 else 4)))) : wX_cuts_33 post (nI F) (nI b) c a1 a2 a3 a4 a5 a6 a7 a8 a9 := by
  refine ek_if (cv_c3 hF) (fun z => ?_) (fun z => ?_)
  · rw [if_pos z] at hp
    exact hp
  · rw [if_neg z] at hp
    have e : ∀ b, b < 4 → nI b ||| 4 = nI (b + 4) := by decide +kernel
    exact ek_v (P := post) (e b hb) hp
theorem cv_cuts14 {post : Int32 → Prop} {F b : Nat} (hF : F < 32768) (hb : b < 2) (hp : post (nI (b + (if F / 16 % 32 = 31 then 0 else 2) + (if F / 512 = 63 then 0 else 4)))) : wX_cuts_14 post (nI F) (nI b) c a1 a2 a3 a4 a5 a6 a7 a8 a9 := by
  refine ek_if (cv_c2 hF) (fun z => ?_) (fun z => ?_)
  · rw [if_pos z] at hp
    exact cv_cuts33 hF (by omega) hp
  · rw [if_neg z] at hp
    have e : ∀ b, b < 2 → nI b ||| 2 = nI (b + 2) := by decide +kernel
    rw [e b hb]
    exact cv_cuts33 hF (by omega) hp
theorem cv_cutsW {post : Int32 → Prop} {u : St2} {F : Nat} (hF : F < 32768) (hp : post (nI (cv_cuts F))) : wpX_cuts post u (nI F) := by
  obtain ⟨c, a1, a2, a3, a4, a5, a6, a7, a8, a9⟩ := u
  unfold cv_cuts at hp
  refine ek_if (cv_c1 hF) (fun z => ?_) (fun z => ?_)
  · rw [if_pos z] at hp
    exact cv_cuts14 (b := 0) hF (by omega) hp
  · rw [if_neg z] at hp
    exact cv_cuts14 (b := 1) hF (by omega) hp
/-! filters and groupings in range -/
theorem cv_badF {post : Int32 → Prop} {u : St2} {F : Nat} (hF : F < 32768) (hp : post 0) : wpX_badFilter post u (nI F) := by
  obtain ⟨c, a1, a2, a3, a4, a5, a6, a7, a8, a9⟩ := u
  exact br_f (nI_pos (by omega)) (br_t (nI_le (b := 32767) (by omega) (by omega)) hp)
theorem cv_badG {post : Int32 → Prop} {u : St2} {g : Nat} (hg : g < 8) (hp : post 0) : wpX_badGrouping post u (nI g) := by
  obtain ⟨c, a1, a2, a3, a4, a5, a6, a7, a8, a9⟩ := u
  exact br_f (nI_pos (by omega)) (br_t (nI_lt (b := 8) hg (by omega)) hp)
theorem cv_note {post : St2 → Prop} {q : Nat} {v w : Int32} (hq : q < 120) (hp : post (c, a1, a2, a3, a4, a5, a6, a7, upd a8 q (a8 q + v), upd a9 q (a9 q + w))) : wpX_note post (c, a1, a2, a3, a4, a5, a6, a7, a8, a9) (nI q) v w := by
  refine ⟨pk_in q 120 hq, pk_in q 120 hq, nm_r (by rw [nI_clamp (by omega)]) ⟨pk_in q 120 hq, pk_in q 120 hq, nm_r (by rw [nI_clamp (by omega)]) hp⟩⟩
/-! cells, workWith: any answer will do -/
theorem cv_cells25 {post : Int32 → Prop} {x z : Int32} (h : ∀ r, post r) : wX_cells_25 post x z c a1 a2 a3 a4 a5 a6 a7 a8 a9 := br_c (fun _ => h _) (fun _ => h _)
theorem cv_cells11 {post : Int32 → Prop} {x z : Int32} (h : ∀ r, post r) : wX_cells_11 post x z c a1 a2 a3 a4 a5 a6 a7 a8 a9 := br_c (fun _ => cv_cells25 h) (fun _ => cv_cells25 h)
theorem cv_cells {post : Int32 → Prop} {u : St2} {x : Int32} (h : ∀ r, post r) : wpX_cells post u x := by
  obtain ⟨c, a1, a2, a3, a4, a5, a6, a7, a8, a9⟩ := u
  exact br_c (fun _ => cv_cells11 h) (fun _ => cv_cells11 h)
theorem cv_ww41 {post : Int32 → Prop} {J4 J18 : Int32 → Int32 → Prop} {x1 x2 x3 x4 : Int32} {i : Nat} (h : ∀ y, J18 y (nI (i + 1))) : wX_workWith_41 post J4 J18 x1 x2 x3 x4 (nI i) c a1 a2 a3 a4 a5 a6 a7 a8 a9 :=
  br_c (fun _ => cv_cells (fun r => br_c (fun _ => nm_r (nI_1 i) (h _)) (fun _ => cv_cells (fun r => nm_r (nI_1 i) (h _))))) (fun _ => nm_r (nI_1 i) (h _))
theorem cv_ww18 {post : Int32 → Prop} {J4 : Int32 → Int32 → Prop} {x1 x2 : Int32} {g : Nat} (hJ : ∀ y, J4 y (nI (g + 1))) : ∃ n, wX_workWith_18 post J4 x1 x2 (nI g) c a1 a2 a3 a4 a5 a6 a7 a8 a9 n 160 0 :=
  pk_loop (fun n i s => wX_workWith_18 post J4 x1 x2 (nI g) c a1 a2 a3 a4 a5 a6 a7 a8 a9 n s (nI i)) (fun _ _ => True) 8 0 160 (by omega) trivial
    (fun n s _ => pk_le 8 8 (fun _ => nm_e (nm_r (nI_1 g) (hJ _))) (fun z => absurd z (by omega)))
    (fun n i s hi _ hw => pk_le 8 i (fun z => absurd z (by omega)) (fun _ => ⟨pk_in i 8 hi, br_c (fun _ => br_c (fun _ => cv_ww41 (fun y => hw y trivial)) (fun _ => nm_r (nI_1 i) (hw _ trivial))) (fun _ => cv_ww41 (fun y => hw y trivial))⟩))
theorem cv_workWith {post : Int32 → Prop} {u : St2} {x : Int32} (h : ∀ r, post r) : wpX_workWith post u x := by
  obtain ⟨c, a1, a2, a3, a4, a5, a6, a7, a8, a9⟩ := u
  exact pk_loop (fun n i s => wX_workWith_4 post x c a1 a2 a3 a4 a5 a6 a7 a8 a9 n s (nI i)) (fun _ _ => True) 8 0 0 (by omega) trivial
    (fun n s _ => pk_le 8 8 (fun _ => h _) (fun z => absurd z (by omega)))
    (fun n i s hi _ hw => pk_le 8 i (fun z => absurd z (by omega)) (fun _ => cv_ww18 (fun y => hw y trivial)))
/-- smallest: -1, or a kept grouping that has all that is needed -/
theorem cv_smallest {post : Int32 → Prop} {d : Nat} (hd : d < 8) (hm : post (-1)) (hs : ∀ g, g < 8 → ¬ a5 g = 0 → g &&& d = d → post (nI g)) : wpX_smallest post (c, a1, a2, a3, a4, a5, a6, a7, a8, a9) (nI d) := by
  refine pk_loop (fun n i s => wX_smallest_4 post (nI d) c a1 a2 a3 a4 a5 a6 a7 a8 a9 n s (nI i)) (fun _ s => s = -1 ∨ ∃ g, g < 8 ∧ s = nI g ∧ ¬ a5 g = 0 ∧ g &&& d = d) 8 0 (-1) (by omega) (Or.inl rfl) ?_ ?_
  · intro n s h
    refine pk_le 8 8 (fun _ => ?_) (fun z => absurd z (by omega))
    rcases h with h | ⟨g, h1, h2, h3, h4⟩
    · rw [h]; exact hm
    · rw [h2]; exact hs g h1 h3 h4
  · intro n i s hi h hw
    refine pk_le 8 i (fun z => absurd z (by omega)) (fun _ => ⟨pk_in i 8 hi, ?_⟩)
    have hc : (nI i).toNatClampNeg = i := nI_clamp (by omega)
    rw [hc]
    refine br_c (fun _ => nm_r (nI_1 i) (hw s h)) (fun h5 => ek_if (cv_sub8 i hi d hd) (fun h6 => ?_) (fun _ => nm_r (nI_1 i) (hw s h)))
    have hn := hw (nI i) (Or.inr ⟨i, hi, rfl, h5, h6⟩)
    exact br_c (fun _ => nm_r (nI_1 i) hn) (fun _ => cv_cells (fun r => cv_cells (fun r' => br_c (fun _ => nm_r (nI_1 i) (hw s h)) (fun _ => nm_r (nI_1 i) hn))))
end
end
section
/-! ===== the methods that store ===== -/
/-- the facts: N of them, at places P, of amounts A -/
def cv_F (N : Nat) (P : Nat → Nat) (A : Nat → Int) (a1 a2 : Nat → Int32) : Prop := N ≤ 40 ∧ ∀ i, i < N → P i < 120 ∧ a1 i = nI (P i) ∧ a2 i = cv_z (A i)
/-- a table of 120 cells from o on -/
def cv_T (o : Nat) (C : Nat → Nat) (S : Nat → Int) (b d : Nat → Int32) : Prop := ∀ q, q < 120 → b (q + o) = nI (C q) ∧ d (q + o) = cv_z (S q)
def cv_pg (g q x : Nat) : Bool := decide (cv_grp x g = q)
/-- the kept groupings' cells are right -/
def cv_E (N : Nat) (P : Nat → Nat) (A : Nat → Int) (a5 a6 a7 : Nat → Int32) : Prop := ∀ g, g < 8 → ¬ a5 g = 0 → cv_T (120 * g) (fun q => cv_cC P (cv_pg g q) N) (fun q => cv_cS P A (cv_pg g q) N) a6 a7
theorem cv_T_put {o : Nat} {C C' : Nat → Nat} {S S' : Nat → Int} {b d : Nat → Int32} {r v : Nat} {w : Int} {x y : Int32} (h : cv_T o C S b d) (hr : r < 120) (hx : x = b (r + o) + nI v) (hy : y = d (r + o) + cv_z w) (hv : C' r = C r + v) (hw : S' r = S r + w) (hC : ∀ q, q < 120 → q ≠ r → C' q = C q ∧ S' q = S q) :
    cv_T o C' S' (upd b (r + o) x) (upd d (r + o) y) := by
  intro q hq
  by_cases e : q = r
  · subst e
    rw [pk_us, pk_us, hx, hy, (h q hq).1, (h q hq).2, hv, hw, nI_add, cv_zadd]
    exact ⟨rfl, rfl⟩
  · rw [pk_un (by omega), pk_un (by omega), (hC q hq e).1, (hC q hq e).2]
    exact h q hq
theorem cv_cC_y {P : Nat → Nat} {φ : Nat → Bool} {i : Nat} (h : φ (P i) = true) : cv_cC P φ (i + 1) = cv_cC P φ i + 1 := by
  show cv_cC P φ i + (if φ (P i) = true then 1 else 0) = _
  rw [if_pos h]
theorem cv_cC_n {P : Nat → Nat} {φ : Nat → Bool} {i : Nat} (h : φ (P i) = false) : cv_cC P φ (i + 1) = cv_cC P φ i := by
  show cv_cC P φ i + (if φ (P i) = true then 1 else 0) = _
  rw [if_neg (by rw [h]; decide)]
  rfl
theorem cv_cS_y {P : Nat → Nat} {A : Nat → Int} {φ : Nat → Bool} {i : Nat} (h : φ (P i) = true) : cv_cS P A φ (i + 1) = cv_cS P A φ i + A i := by
  show cv_cS P A φ i + (if φ (P i) = true then A i else 0) = _
  rw [if_pos h]
theorem cv_cS_n {P : Nat → Nat} {A : Nat → Int} {φ : Nat → Bool} {i : Nat} (h : φ (P i) = false) : cv_cS P A φ (i + 1) = cv_cS P A φ i := by
  show cv_cS P A φ i + (if φ (P i) = true then A i else 0) = _
  rw [if_neg (by rw [h]; decide), Int.add_zero]
theorem cv_at (g r : Nat) : (120 : Int32) * nI g + nI r = nI (r + 120 * g) := by
  rw [show (120 : Int32) * nI g = nI (120 * g) from pk_mul 120 g, nI_add, Nat.add_comm]
section
variable {c : Int32} {a1 a2 a3 a4 a5 a6 a7 a8 a9 : Nat → Int32}
/-- enter: whatever becomes of the cells -/
theorem cv_enter {post : St2 → Prop} {x : Nat} {v w : Int32} (hx : x < 120) (hp : ∀ b6 b7, post (c, a1, a2, a3, a4, a5, b6, b7, a8, a9)) : wpX_enter post (c, a1, a2, a3, a4, a5, a6, a7, a8, a9) (nI x) v w := by
  refine pk_loop (σ := (Nat → Int32) × (Nat → Int32)) (fun n i s => wX_enter_3 post (nI x) v w c n (nI i) a1 a2 a3 a4 a5 s.1 s.2 a8 a9) (fun _ _ => True) 8 0 (a6, a7) (by omega) trivial
    (fun n s _ => pk_le 8 8 (fun _ => hp _ _) (fun z => absurd z (by omega))) ?_
  intro n i s hi _ hw
  refine pk_le 8 i (fun z => absurd z (by omega)) (fun _ => ⟨pk_in i 8 hi, br_c (fun _ => nm_r (nI_1 i) (hw s trivial)) (fun _ => cv_group hx hi ?_)⟩)
  have hg := cv_grp_lt i hx
  have hk : cv_grp x i + 120 * i < 960 := by omega
  exact nm_r (cv_at i (cv_grp x i)) ⟨pk_in _ 960 hk, pk_in _ 960 hk, nm_e ⟨pk_in _ 960 hk, pk_in _ 960 hk, nm_e (nm_r (nI_1 i) (hw (_, _) trivial))⟩⟩
/-- fill, its second loop -/
theorem cv_fill40 {post : St2 → Prop} {N g : Nat} {P : Nat → Nat} {A : Nat → Int} {b6 b7 : Nat → Int32} (hF : cv_F N P A a1 a2) (hg : g < 8) (h0 : ∀ q, q < 120 → b6 (q + 120 * g) = 0 ∧ b7 (q + 120 * g) = 0)
    (hp : ∀ d6 d7, cv_T (120 * g) (fun q => cv_cC P (cv_pg g q) N) (fun q => cv_cS P A (cv_pg g q) N) d6 d7 → (∀ j, (∀ q, q < 120 → j ≠ q + 120 * g) → d6 j = b6 j ∧ d7 j = b7 j) → post (nI N, a1, a2, a3, a4, a5, d6, d7, a8, a9)) :
    ∃ n, wX_fill_40 post (nI g) (nI N) n 0 a1 a2 a3 a4 a5 b6 b7 a8 a9 := by
  obtain ⟨hN, hf⟩ := hF
  refine pk_loop (σ := (Nat → Int32) × (Nat → Int32)) (fun n i s => wX_fill_40 post (nI g) (nI N) n (nI i) a1 a2 a3 a4 a5 s.1 s.2 a8 a9)
    (fun i s => cv_T (120 * g) (fun q => cv_cC P (cv_pg g q) i) (fun q => cv_cS P A (cv_pg g q) i) s.1 s.2 ∧ (∀ j, (∀ q, q < 120 → j ≠ q + 120 * g) → s.1 j = b6 j ∧ s.2 j = b7 j)) N 0 (b6, b7) (by omega) ⟨?_, fun j _ => ⟨rfl, rfl⟩⟩ ?_ ?_
  · intro q hq
    exact ⟨(h0 q hq).1, (h0 q hq).2.trans cv_z0.symm⟩
  · intro n s h
    exact pk_le N N (fun _ => hp _ _ h.1 h.2) (fun z => absurd z (by omega))
  · intro n i s hi h hw
    obtain ⟨hP, h1, h2⟩ := hf i hi
    have hci : (nI i).toNatClampNeg = i := nI_clamp (by omega)
    have hr := cv_grp_lt g hP
    have hk : cv_grp (P i) g + 120 * g < 960 := by omega
    have hck : (nI (cv_grp (P i) g + 120 * g)).toNatClampNeg = cv_grp (P i) g + 120 * g := nI_clamp (by omega)
    refine pk_le N i (fun z => absurd z (by omega)) (fun _ => ⟨pk_in i 40 (by omega), ?_⟩)
    rw [hci, h1]
    refine cv_group hP hg (nm_r (cv_at g _) ?_)
    rw [hck]
    refine ⟨pk_in _ 960 hk, pk_in _ 960 hk, nm_e ⟨pk_in _ 960 hk, pk_in i 40 (by omega), pk_in _ 960 hk, nm_e (nm_r (nI_1 i) (hw (_, _) ⟨?_, ?_⟩))⟩⟩
    · refine cv_T_put h.1 hr rfl (by rw [h2]) (cv_cC_y (decide_eq_true rfl)) (cv_cS_y (decide_eq_true rfl)) (fun q hq hne => ?_)
      have hn : cv_pg g q (P i) = false := decide_eq_false (fun z => hne z.symm)
      exact ⟨cv_cC_n hn, cv_cS_n hn⟩
    · intro j hj
      have hjk := hj _ hr
      show upd s.1 _ _ j = b6 j ∧ upd s.2 _ _ j = b7 j
      rw [pk_un hjk, pk_un hjk]
      exact h.2 j hj
theorem cv_fill {post : St2 → Prop} {N g : Nat} {P : Nat → Nat} {A : Nat → Int} (hF : cv_F N P A a1 a2) (hg : g < 8)
    (hp : ∀ d6 d7, cv_T (120 * g) (fun q => cv_cC P (cv_pg g q) N) (fun q => cv_cS P A (cv_pg g q) N) d6 d7 → (∀ j, (∀ q, q < 120 → j ≠ q + 120 * g) → d6 j = a6 j ∧ d7 j = a7 j) → post (nI N, a1, a2, a3, a4, a5, d6, d7, a8, a9)) :
    wpX_fill post (nI N, a1, a2, a3, a4, a5, a6, a7, a8, a9) (nI g) := by
  refine pk_loop (σ := (Nat → Int32) × (Nat → Int32)) (fun n i s => wX_fill_2 post (nI g) (nI N) n (nI i) a1 a2 a3 a4 a5 s.1 s.2 a8 a9)
    (fun i s => (∀ q, q < i → s.1 (q + 120 * g) = 0 ∧ s.2 (q + 120 * g) = 0) ∧ (∀ j, (∀ q, q < 120 → j ≠ q + 120 * g) → s.1 j = a6 j ∧ s.2 j = a7 j)) 120 0 (a6, a7) (by omega) ⟨fun q hq => absurd hq (by omega), fun j _ => ⟨rfl, rfl⟩⟩ ?_ ?_
  · intro n s h
    refine pk_le 120 120 (fun _ => cv_fill40 hF hg h.1 (fun d6 d7 hT ho => hp d6 d7 hT (fun j hj => ?_))) (fun z => absurd z (by omega))
    rw [(ho j hj).1, (ho j hj).2]
    exact h.2 j hj
  · intro n i s hi h hw
    have hk : i + 120 * g < 960 := by omega
    have hck : (nI (i + 120 * g)).toNatClampNeg = i + 120 * g := nI_clamp (by omega)
    refine pk_le 120 i (fun z => absurd z (by omega)) (fun _ => ?_)
    rw [cv_at, hck]
    refine ⟨pk_in _ 960 hk, nm_e ⟨pk_in _ 960 hk, nm_e (nm_r (nI_1 i) (hw (_, _) ⟨?_, ?_⟩))⟩⟩
    · intro q hq
      show upd s.1 _ _ _ = 0 ∧ upd s.2 _ _ _ = 0
      by_cases e : q = i
      · subst e
        rw [pk_us, pk_us]
        exact ⟨rfl, rfl⟩
      · rw [pk_un (by omega), pk_un (by omega)]
        exact h.1 q (by omega)
    · intro j hj
      have hjk := hj i hi
      show upd s.1 _ _ j = a6 j ∧ upd s.2 _ _ j = a7 j
      rw [pk_un hjk, pk_un hjk]
      exact h.2 j hj
theorem cv_E_put {N b : Nat} {P : Nat → Nat} {A : Nat → Int} {d6 d7 : Nat → Int32} (hE : cv_E N P A a5 a6 a7) (hb : b < 8) (hT : cv_T (120 * b) (fun q => cv_cC P (cv_pg b q) N) (fun q => cv_cS P A (cv_pg b q) N) d6 d7)
    (ho : ∀ j, (∀ q, q < 120 → j ≠ q + 120 * b) → d6 j = a6 j ∧ d7 j = a7 j) : cv_E N P A (upd a5 b 1) d6 d7 := by
  intro g hg h5
  by_cases e : g = b
  · subst e
    exact hT
  · rw [pk_un e] at h5
    intro q hq
    obtain ⟨e1, e2⟩ := ho (q + 120 * g) (fun q' hq' => by omega)
    rw [e1, e2]
    exact hE g hg h5 q hq
/-- plan -/
theorem cv_plan138 {post : Int32 → St2 → Prop} {J : Int32 → Int32 → Int32 → Int32 → (Nat → Int32) → (Nat → Int32) → (Nat → Int32) → (Nat → Int32) → (Nat → Int32) → (Nat → Int32) → (Nat → Int32) → (Nat → Int32) → (Nat → Int32) → Prop} {x2 : Int32} {r b N : Nat} {P : Nat → Nat} {A : Nat → Int}
    (hF : cv_F N P A a1 a2) (hE : cv_E N P A a5 a6 a7) (hb : b < 8) (hJ : ∀ y z b5 b6 b7, cv_E N P A b5 b6 b7 → J y z (nI (r + 1)) (nI N) a1 a2 a3 a4 b5 b6 b7 a8 a9) :
    wX_plan_138 post J x2 (nI r) (nI b) 1 (nI N) a1 a2 a3 a4 a5 a6 a7 a8 a9 := by
  have hc : (nI b).toNatClampNeg = b := nI_clamp (by omega)
  refine br_f (by decide) ⟨pk_in b 8 hb, nm_r (by rw [hc]) (cv_cells (fun w => nm_e (cv_fill hF hb (fun d6 d7 hT ho => nm_r (nI_1 r) (hJ _ _ _ _ _ (cv_E_put hE hb hT ho))))))⟩
theorem cv_plan69 {post : Int32 → St2 → Prop} {J : Int32 → Int32 → Int32 → Int32 → (Nat → Int32) → (Nat → Int32) → (Nat → Int32) → (Nat → Int32) → (Nat → Int32) → (Nat → Int32) → (Nat → Int32) → (Nat → Int32) → (Nat → Int32) → Prop} {x2 x5 : Int32} {r N : Nat} {P : Nat → Nat} {A : Nat → Int}
    (hF : cv_F N P A a1 a2) (hE : cv_E N P A a5 a6 a7) (hJ : ∀ y z b5 b6 b7, cv_E N P A b5 b6 b7 → J y z (nI (r + 1)) (nI N) a1 a2 a3 a4 b5 b6 b7 a8 a9) :
    ∃ n, wX_plan_69 post J x2 (nI r) x5 (nI N) a1 a2 a3 a4 a5 a6 a7 a8 a9 n (-1) 0 0 := by
  refine pk_loop (σ := Int32 × Int32) (fun n i s => wX_plan_69 post J x2 (nI r) x5 (nI N) a1 a2 a3 a4 a5 a6 a7 a8 a9 n s.1 s.2 (nI i)) (fun _ s => s.1 = -1 ∨ ∃ b, b < 8 ∧ s.1 = nI b) 8 0 (-1, 0) (by omega) (Or.inl rfl) ?_ ?_
  · intro n s h
    refine pk_le 8 8 (fun _ => ?_) (fun z => absurd z (by omega))
    rcases h with h | ⟨b, hb, h⟩
    · exact br_t (by rw [h]; decide) (br_t rfl (nm_r (nI_1 r) (hJ _ _ _ _ _ hE)))
    · rw [h]
      exact br_f (nI_pos (by omega)) (cv_plan138 hF hE hb hJ)
  · intro n i s hi h hw
    refine pk_le 8 i (fun z => absurd z (by omega)) (fun _ => cv_workWith (fun w => nm_e ⟨pk_in i 8 hi, br_c (fun _ => cv_cells (fun w' => br_c (fun _ => nm_r (nI_1 i) (hw s h)) (fun _ => br_c (fun _ => nm_r (nI_1 i) (hw s h)) (fun _ => nm_r (nI_1 i) (hw (nI i, _) (Or.inr ⟨i, hi, rfl⟩)))))) (fun _ => nm_r (nI_1 i) (hw s h))⟩))
theorem cv_plan42 {post : Int32 → St2 → Prop} {x2 : Int32} {N : Nat} {P : Nat → Nat} {A : Nat → Int} (hF : cv_F N P A a1 a2) (hE : cv_E N P A a5 a6 a7)
    (hp : ∀ b5 b6 b7, cv_E N P A b5 b6 b7 → post 0 (nI N, a1, a2, a3, a4, b5, b6, b7, a8, a9)) : ∃ n, wX_plan_42 post n x2 1 0 (nI N) a1 a2 a3 a4 a5 a6 a7 a8 a9 := by
  refine pk_loop (σ := Int32 × Int32 × (Nat → Int32) × (Nat → Int32) × (Nat → Int32)) (fun n i s => wX_plan_42 post n s.1 s.2.1 (nI i) (nI N) a1 a2 a3 a4 s.2.2.1 s.2.2.2.1 s.2.2.2.2 a8 a9) (fun _ s => cv_E N P A s.2.2.1 s.2.2.2.1 s.2.2.2.2) 8 0 (x2, 1, a5, a6, a7) (by omega) hE ?_ ?_
  · intro n s h
    exact pk_le 8 8 (fun _ => hp _ _ _ h) (fun z => absurd z (by omega))
  · intro n i s hi h hw
    exact pk_le 8 i (fun z => absurd z (by omega)) (fun _ => br_c (fun _ => hp _ _ _ h) (fun _ => cv_workWith (fun w => cv_plan69 hF h (fun y z b5 b6 b7 hb => hw (y, z, b5, b6, b7) hb))))
theorem cv_plan {post : Int32 → St2 → Prop} {N ρ : Nat} {P : Nat → Nat} {A : Nat → Int} (hF : cv_F N P A a1 a2) (hρ : ρ ≤ 200)
    (hp : ∀ b5 b6 b7, cv_E N P A b5 b6 b7 → post 0 (nI N, a1, a2, a3, a4, b5, b6, b7, a8, a9)) : wpX_plan post (nI N, a1, a2, a3, a4, a5, a6, a7, a8, a9) (nI ρ) := by
  refine br_f (nI_pos (by omega)) (br_t (nI_le (b := 200) hρ (by omega)) ?_)
  refine pk_loop (fun n i s => wX_plan_16 post (nI ρ) (nI N) n (nI i) a1 a2 a3 a4 s a6 a7 a8 a9) (fun i s => ∀ g, g < i → s g = 0) 8 0 a5 (by omega) (fun g hg => absurd hg (by omega)) ?_ ?_
  · intro n s h
    exact pk_le 8 8 (fun _ => cv_plan42 hF (fun g hg h5 => absurd (h g hg) h5) hp) (fun z => absurd z (by omega))
  · intro n i s hi h hw
    have hc : (nI i).toNatClampNeg = i := nI_clamp (by omega)
    refine pk_le 8 i (fun z => absurd z (by omega)) (fun _ => ⟨pk_in i 8 hi, nm_r (by rw [hc]) (nm_r (nI_1 i) (hw _ (fun g hg => ?_)))⟩)
    by_cases e : g = i
    · subst e
      exact pk_us
    · rw [pk_un e]
      exact h g (by omega)
/-- add -/
theorem cv_add {post : Int32 → St2 → Prop} {N x : Nat} {w : Int32} (hN : N < 40) (hx : x < 120) (h1 : ¬ w < (-50)) (h2 : w ≤ 50)
    (hp : ∀ b6 b7, post (nI N) (nI (N + 1), upd a1 N (nI x), upd a2 N w, upd a3 x (nI N), upd a4 N (a3 x), a5, b6, b7, a8, a9)) : wpX_add post (nI N, a1, a2, a3, a4, a5, a6, a7, a8, a9) (nI x) w := by
  have hcN : (nI N).toNatClampNeg = N := nI_clamp (by omega)
  have hcx : (nI x).toNatClampNeg = x := nI_clamp (by omega)
  have hne : ¬ nI N = 40 := fun z => absurd ((nI_eq (b := 40) (by omega) (by omega)).mp z) (by omega)
  refine br_f (nI_pos (by omega)) (br_f (nI_ge (b := 120) hx (by omega)) (br_f h1 (br_t h2 (br_f hne ?_))))
  rw [hcN, hcx]
  refine ⟨pk_in N 40 hN, nm_e ⟨pk_in N 40 hN, nm_e ⟨pk_in x 120 hx, pk_in N 40 hN, nm_e ⟨pk_in x 120 hx, nm_e (nm_r (nI_1 N) (cv_enter hx (fun b6 b7 => ?_)))⟩⟩⟩⟩
  exact ek_v (P := fun r => post r _) (nI_pred N) (hp b6 b7)
theorem cv_addFull {post : Int32 → St2 → Prop} {x : Nat} {w : Int32} (hx : x < 120) (h1 : ¬ w < (-50)) (h2 : w ≤ 50)
    (hp : post (-2000000) (nI 40, a1, a2, a3, a4, a5, a6, a7, a8, a9)) : wpX_add post (nI 40, a1, a2, a3, a4, a5, a6, a7, a8, a9) (nI x) w :=
  br_f (nI_pos (by omega)) (br_f (nI_ge (b := 120) hx (by omega)) (br_f h1 (br_t h2 (br_t rfl hp))))
theorem cv_change {post : Int32 → St2 → Prop} {N i x : Nat} {w : Int32} (hN : N ≤ 40) (hi : i < N) (ha : a1 i = nI x) (hx : x < 120) (h1 : ¬ w < (-50)) (h2 : w ≤ 50)
    (hp : ∀ b6 b7, post (a2 i) (nI N, a1, upd a2 i w, a3, a4, a5, b6, b7, a8, a9)) : wpX_change post (nI N, a1, a2, a3, a4, a5, a6, a7, a8, a9) (nI i) w := by
  have hc : (nI i).toNatClampNeg = i := nI_clamp (by omega)
  refine br_f (nI_pos (by omega)) (br_f (nI_ge hi (by omega)) (br_f h1 (br_t h2 ?_)))
  rw [hc, ha]
  exact ⟨pk_in i 40 (by omega), nm_e ⟨pk_in i 40 (by omega), nm_e ⟨pk_in i 40 (by omega), cv_enter hx (fun b6 b7 => hp b6 b7)⟩⟩⟩
theorem cv_remove {post : Int32 → St2 → Prop} {M x : Nat} (hM : M < 40) (ha : a1 M = nI x) (hx : x < 120)
    (hp : ∀ b6 b7, post (a2 M) (nI M, a1, a2, upd a3 x (a4 M), a4, a5, b6, b7, a8, a9)) : wpX_remove post (nI (M + 1), a1, a2, a3, a4, a5, a6, a7, a8, a9) := by
  have hcM : (nI M).toNatClampNeg = M := nI_clamp (by omega)
  have hcx : (nI x).toNatClampNeg = x := nI_clamp (by omega)
  refine br_f (nI_ne0 (by omega) (by omega)) (nm_r (nI_pred M) ?_)
  rw [hcM]
  refine ⟨pk_in M 40 hM, nm_r ha ⟨pk_in M 40 hM, pk_in x 120 hx, nm_r (by rw [hcx]) ⟨pk_in M 40 hM, cv_enter hx (fun b6 b7 => ⟨pk_in M 40 hM, ?_⟩)⟩⟩⟩
  exact ek_v (P := fun k => post (a2 k) _) hcM (hp b6 b7)
theorem cv_init {post : St2 → Prop} {mc ms : Nat} (hc : 9 ≤ mc) (hs : 2408 ≤ ms)
    (hp : ∀ b3, (∀ q, q < 120 → b3 q = -1) → post (0, fun _ => 0, fun _ => 0, b3, fun _ => 0, fun _ => 0, fun _ => 0, fun _ => 0, fun _ => 0, fun _ => 0)) : wpX_init post mc ms 0 := by
  refine ⟨by omega, by omega, by omega, by omega, by omega, by omega, by omega, by omega, by omega, by omega, by omega, by omega, by omega, by omega, by omega, by omega, by omega, by omega, ?_⟩
  refine pk_loop (fun n i s => wX_init_80 post mc ms 9 2408 0 n (nI i) (fun _ => 0) (fun _ => 0) s (fun _ => 0) (fun _ => 0) (fun _ => 0) (fun _ => 0) (fun _ => 0) (fun _ => 0)) (fun i s => ∀ q, q < i → s q = -1) 120 0 (fun _ => 0) (by omega) (fun q hq => absurd hq (by omega)) ?_ ?_
  · intro n s h
    exact pk_le 120 120 (fun _ => hp s h) (fun z => absurd z (by omega))
  · intro n i s hi h hw
    have hci : (nI i).toNatClampNeg = i := nI_clamp (by omega)
    refine pk_le 120 i (fun z => absurd z (by omega)) (fun _ => ⟨pk_in i 120 hi, nm_r (by rw [hci]) (nm_r (nI_1 i) (hw _ (fun q hq => ?_)))⟩)
    by_cases e : q = i
    · subst e
      exact pk_us
    · rw [pk_un e]
      exact h q (by omega)
end
end
section
/-! ===== gather ===== -/
def cv_pq (r F q x : Nat) : Bool := cv_pass x F 7 && decide (cv_grp x r = q)
/-- a cell y below p that passes and is of group q -/
def cv_pp (r F d q p y : Nat) : Bool := decide (y < p) && (cv_pass y F d && decide (cv_grp y r = q))
theorem cv_pp_ne {r F d q p y : Nat} (h : y ≠ p) : cv_pp r F d q (p + 1) y = cv_pp r F d q p y := by
  unfold cv_pp
  rw [decide_eq_decide.mpr (show y < p + 1 ↔ y < p by omega)]
theorem cv_pp_lo {r F d q p y : Nat} (h : (cv_pass p F d && decide (cv_grp p r = q)) = false) : cv_pp r F d q (p + 1) y = cv_pp r F d q p y := by
  by_cases e : y = p
  · subst e
    unfold cv_pp
    rw [h, Bool.and_false, Bool.and_false]
  · exact cv_pp_ne e
theorem cv_pp_yes {r F d q p y : Nat} (h : (cv_pass p F d && decide (cv_grp p r = q)) = true) : cv_pp r F d q (p + 1) y = (cv_pp r F d q p y || decide (y = p)) ∧ (cv_pp r F d q p y && decide (y = p)) = false := by
  by_cases e : y = p
  · subst e
    unfold cv_pp
    rw [h, decide_eq_true (Nat.lt_succ_self y), decide_eq_false (Nat.lt_irrefl y), decide_eq_true rfl]
    exact ⟨rfl, rfl⟩
  · rw [cv_pp_ne e, decide_eq_false e, Bool.or_false, Bool.and_false]
    exact ⟨rfl, rfl⟩
section
variable {c : Int32} {a1 a2 a3 a4 a5 a6 a7 a8 a9 : Nat → Int32}
theorem cv_gather51 {post : St2 → Prop} {N r F : Nat} {P : Nat → Nat} {A : Nat → Int} {b8 b9 : Nat → Int32} (hF : cv_F N P A a1 a2) (hr : r < 8) (hf : F < 32768) (h0 : ∀ q, q < 120 → b8 q = 0 ∧ b9 q = 0)
    (hp : ∀ d8 d9, cv_T 0 (fun q => cv_cC P (cv_pq r F q) N) (fun q => cv_cS P A (cv_pq r F q) N) d8 d9 → post (nI N, a1, a2, a3, a4, a5, a6, a7, d8, d9)) :
    ∃ n, wX_gather_51 post (nI r) (nI F) n 0 (nI N) a1 a2 a3 a4 a5 a6 a7 b8 b9 := by
  obtain ⟨hN, hfa⟩ := hF
  refine pk_loop (σ := (Nat → Int32) × (Nat → Int32)) (fun n i s => wX_gather_51 post (nI r) (nI F) n (nI i) (nI N) a1 a2 a3 a4 a5 a6 a7 s.1 s.2)
    (fun i s => cv_T 0 (fun q => cv_cC P (cv_pq r F q) i) (fun q => cv_cS P A (cv_pq r F q) i) s.1 s.2) N 0 (b8, b9) (by omega) ?_ ?_ ?_
  · intro q hq
    exact ⟨(h0 q hq).1, (h0 q hq).2.trans cv_z0.symm⟩
  · intro n s h
    exact pk_le N N (fun _ => hp _ _ h) (fun z => absurd z (by omega))
  · intro n i s hi h hw
    obtain ⟨hP, h1, h2⟩ := hfa i hi
    have hci : (nI i).toNatClampNeg = i := nI_clamp (by omega)
    refine pk_le N i (fun z => absurd z (by omega)) (fun _ => ⟨pk_in i 40 (by omega), ?_⟩)
    rw [hci, h1]
    refine cv_passes (d := 7) hP hf (by omega) (fun hy => br_f (by decide) ⟨pk_in i 40 (by omega), cv_group hP hr ⟨pk_in i 40 (by omega), cv_note (cv_grp_lt r hP) (nm_r (nI_1 i) (hw (_, _) ?_))⟩⟩) (fun hn => br_t rfl (nm_r (nI_1 i) (hw s ?_)))
    · have hyes : cv_pq r F (cv_grp (P i) r) (P i) = true := by
        unfold cv_pq
        rw [hy, decide_eq_true rfl]
        rfl
      refine cv_T_put (o := 0) (r := cv_grp (P i) r) (v := 1) (w := A i) h (cv_grp_lt r hP) rfl (by rw [h2]; rfl) (cv_cC_y hyes) (cv_cS_y hyes) (fun q hq hne => ?_)
      have hno : cv_pq r F q (P i) = false := by
        unfold cv_pq
        rw [decide_eq_false (fun z => hne z.symm), Bool.and_false]
      exact ⟨cv_cC_n hno, cv_cS_n hno⟩
    · intro q hq
      have hno : cv_pq r F q (P i) = false := by
        unfold cv_pq
        rw [hn, Bool.false_and]
      show s.1 (q + 0) = nI (cv_cC P (cv_pq r F q) (i + 1)) ∧ s.2 (q + 0) = cv_z (cv_cS P A (cv_pq r F q) (i + 1))
      rw [cv_cC_n hno, cv_cS_n hno]
      exact h q hq
theorem cv_gather115 {post : St2 → Prop} {N r F g : Nat} {P : Nat → Nat} {A : Nat → Int} {b8 b9 : Nat → Int32} (hF : cv_F N P A a1 a2) (hr : r < 8) (hf : F < 32768) (hg : g < 8)
    (hT : cv_T (120 * g) (fun q => cv_cC P (cv_pg g q) N) (fun q => cv_cS P A (cv_pg g q) N) a6 a7) (hd : g &&& (cv_cuts F ||| r) = cv_cuts F ||| r) (h0 : ∀ q, q < 120 → b8 q = 0 ∧ b9 q = 0)
    (hp : ∀ d8 d9, cv_T 0 (fun q => cv_cC P (cv_pq r F q) N) (fun q => cv_cS P A (cv_pq r F q) N) d8 d9 → post (nI N, a1, a2, a3, a4, a5, a6, a7, d8, d9)) :
    ∃ n, wX_gather_115 post (nI r) (nI F) (nI (cv_cuts F ||| r)) (nI g) n 0 (nI N) a1 a2 a3 a4 a5 a6 a7 b8 b9 := by
  obtain ⟨hN, hfa⟩ := hF
  have hd8 : (cv_cuts F ||| r) < 8 := (cv_or8 _ (cv_cuts_bits F).1 r hr).1
  have hcell : ∀ i, i < N → cv_grp (cv_grp (P i) g) r = cv_grp (P i) r ∧ cv_pass (cv_grp (P i) g) F (cv_cuts F ||| r) = cv_pass (P i) F 7 := fun i hi => cv_cell (hfa i hi).1 hg hr hd
  generalize (cv_cuts F ||| r) = d at hd8 hcell ⊢
  refine pk_loop (σ := (Nat → Int32) × (Nat → Int32)) (fun n p s => wX_gather_115 post (nI r) (nI F) (nI d) (nI g) n (nI p) (nI N) a1 a2 a3 a4 a5 a6 a7 s.1 s.2)
    (fun p s => cv_T 0 (fun q => cv_cC P (fun x => cv_pp r F d q p (cv_grp x g)) N) (fun q => cv_cS P A (fun x => cv_pp r F d q p (cv_grp x g)) N) s.1 s.2) 120 0 (b8, b9) (by omega) ?_ ?_ ?_
  · intro q hq
    have hz : ∀ i, i < N → (fun x => cv_pp r F d q 0 (cv_grp x g)) (P i) = false := by
      intro i hi
      show cv_pp r F d q 0 (cv_grp (P i) g) = false
      unfold cv_pp
      rw [decide_eq_false (Nat.not_lt_zero _), Bool.false_and]
    show b8 (q + 0) = nI (cv_cC P (fun x => cv_pp r F d q 0 (cv_grp x g)) N) ∧ b9 (q + 0) = cv_z (cv_cS P A (fun x => cv_pp r F d q 0 (cv_grp x g)) N)
    rw [cv_cC_zero (P := P) (φ := fun x => cv_pp r F d q 0 (cv_grp x g)) hz, cv_cS_zero (P := P) (φ := fun x => cv_pp r F d q 0 (cv_grp x g)) hz]
    exact ⟨(h0 q hq).1, (h0 q hq).2.trans cv_z0.symm⟩
  · intro n s h
    refine pk_le 120 120 (fun _ => hp _ _ (fun q hq => ?_)) (fun z => absurd z (by omega))
    have he : ∀ i, i < N → cv_pq r F q (P i) = (fun x => cv_pp r F d q 120 (cv_grp x g)) (P i) := by
      intro i hi
      show cv_pq r F q (P i) = cv_pp r F d q 120 (cv_grp (P i) g)
      unfold cv_pp cv_pq
      rw [(hcell i hi).1, (hcell i hi).2, decide_eq_true (cv_grp_lt g (hfa i hi).1), Bool.true_and]
    show s.1 (q + 0) = nI (cv_cC P (cv_pq r F q) N) ∧ s.2 (q + 0) = cv_z (cv_cS P A (cv_pq r F q) N)
    rw [cv_cC_congr (P := P) (ψ := fun x => cv_pp r F d q 120 (cv_grp x g)) he, cv_cS_congr (P := P) (ψ := fun x => cv_pp r F d q 120 (cv_grp x g)) he]
    exact h q hq
  · intro n p s hi h hw
    have hk : p + 120 * g < 960 := by omega
    have hck : (nI (p + 120 * g)).toNatClampNeg = p + 120 * g := nI_clamp (by omega)
    obtain ⟨t6, t7⟩ := hT p hi
    have t6' : a6 (p + 120 * g) = nI (cv_cC P (cv_pg g p) N) := t6
    have t7' : a7 (p + 120 * g) = cv_z (cv_cS P A (cv_pg g p) N) := t7
    have hCN := cv_cC_le P (cv_pg g p) N
    -- nothing new in cell p for the group q
    have keep : (∀ q, q < 120 → ∀ i, i < N → cv_pp r F d q (p + 1) (cv_grp (P i) g) = cv_pp r F d q p (cv_grp (P i) g)) → cv_T 0 (fun q => cv_cC P (fun x => cv_pp r F d q (p + 1) (cv_grp x g)) N) (fun q => cv_cS P A (fun x => cv_pp r F d q (p + 1) (cv_grp x g)) N) s.1 s.2 := by
      intro hq q hq120
      show s.1 (q + 0) = nI (cv_cC P (fun x => cv_pp r F d q (p + 1) (cv_grp x g)) N) ∧ s.2 (q + 0) = cv_z (cv_cS P A (fun x => cv_pp r F d q (p + 1) (cv_grp x g)) N)
      rw [cv_cC_congr (φ := fun x => cv_pp r F d q (p + 1) (cv_grp x g)) (ψ := fun x => cv_pp r F d q p (cv_grp x g)) (hq q hq120), cv_cS_congr (φ := fun x => cv_pp r F d q (p + 1) (cv_grp x g)) (ψ := fun x => cv_pp r F d q p (cv_grp x g)) (hq q hq120)]
      exact h q hq120
    refine pk_le 120 p (fun z => absurd z (by omega)) (fun _ => ?_)
    rw [cv_at, hck, t6', t7']
    refine ⟨pk_in _ 960 hk, pk_le (cv_cC P (cv_pg g p) N) 0 (fun z => nm_r (nI_1 p) (hw s (keep ?_))) (fun z => ?_)⟩
    · intro q hq i hi'
      have hn := cv_cC_none (Nat.le_zero.mp z) i hi'
      exact cv_pp_ne (of_decide_eq_false hn)
    · refine cv_passes hi hf hd8 (fun hy => br_f (by decide) (cv_group hi hr ⟨pk_in _ 960 hk, pk_in _ 960 hk, cv_note (cv_grp_lt r hi) (nm_r (nI_1 p) (hw (_, _) ?_))⟩)) (fun hn => br_t rfl (nm_r (nI_1 p) (hw s (keep ?_))))
      · have hyes : (cv_pass p F d && decide (cv_grp p r = cv_grp p r)) = true := by
          rw [hy, decide_eq_true rfl]
          rfl
        refine cv_T_put (o := 0) (r := cv_grp p r) (v := cv_cC P (cv_pg g p) N) (w := cv_cS P A (cv_pg g p) N) h (cv_grp_lt r hi) rfl rfl ?_ ?_ (fun q hq hne => ?_)
        · exact cv_cC_or (χ := fun x => cv_pp r F d (cv_grp p r) (p + 1) (cv_grp x g)) (φ := fun x => cv_pp r F d (cv_grp p r) p (cv_grp x g)) (ψ := cv_pg g p) (fun i _ => cv_pp_yes hyes)
        · exact cv_cS_or (χ := fun x => cv_pp r F d (cv_grp p r) (p + 1) (cv_grp x g)) (φ := fun x => cv_pp r F d (cv_grp p r) p (cv_grp x g)) (ψ := cv_pg g p) (fun i _ => cv_pp_yes hyes)
        · have hno : (cv_pass p F d && decide (cv_grp p r = q)) = false := by
            rw [decide_eq_false (fun z => hne z.symm), Bool.and_false]
          exact ⟨cv_cC_congr (fun i _ => cv_pp_lo hno), cv_cS_congr (fun i _ => cv_pp_lo hno)⟩
      · intro q hq i hi'
        exact cv_pp_lo (by rw [hn, Bool.false_and])
/-- gather: each group's count and sum over the facts that pass -/
theorem cv_gather {post : St2 → Prop} {N r F : Nat} {P : Nat → Nat} {A : Nat → Int} (hF : cv_F N P A a1 a2) (hE : cv_E N P A a5 a6 a7) (hr : r < 8) (hf : F < 32768)
    (hp : ∀ d8 d9, cv_T 0 (fun q => cv_cC P (cv_pq r F q) N) (fun q => cv_cS P A (cv_pq r F q) N) d8 d9 → post (nI N, a1, a2, a3, a4, a5, a6, a7, d8, d9)) :
    wpX_gather post (nI N, a1, a2, a3, a4, a5, a6, a7, a8, a9) (nI r) (nI F) := by
  refine pk_loop (σ := (Nat → Int32) × (Nat → Int32)) (fun n i s => wX_gather_2 post (nI r) (nI F) (nI N) n (nI i) a1 a2 a3 a4 a5 a6 a7 s.1 s.2)
    (fun i s => ∀ q, q < i → s.1 q = 0 ∧ s.2 q = 0) 120 0 (a8, a9) (by omega) (fun q hq => absurd hq (by omega)) ?_ ?_
  · intro n s h
    have hc8 := (cv_cuts_bits F).1
    refine pk_le 120 120 (fun _ => cv_cutsW hf (nm_r (cv_nor8 _ hc8 r hr) (cv_smallest (cv_or8 _ hc8 r hr).1 (br_f (by decide) (cv_gather51 hF hr hf h hp)) (fun g hg h5 hs => br_t (nI_pos' (by omega)) (cv_gather115 hF hr hf hg (hE g hg h5) hs h hp))))) (fun z => absurd z (by omega))
  · intro n i s hi h hw
    have hci : (nI i).toNatClampNeg = i := nI_clamp (by omega)
    refine pk_le 120 i (fun z => absurd z (by omega)) (fun _ => ?_)
    rw [hci]
    refine ⟨pk_in i 120 hi, nm_e ⟨pk_in i 120 hi, nm_e (nm_r (nI_1 i) (hw (_, _) (fun q hq => ?_)))⟩⟩
    show upd s.1 _ _ q = 0 ∧ upd s.2 _ _ q = 0
    by_cases e : q = i
    · subst e
      rw [pk_us, pk_us]
      exact ⟨rfl, rfl⟩
    · rw [pk_un e, pk_un e]
      exact h q (by omega)
end
end
section
/-! ===== the questions ===== -/
section
variable {c : Int32} {a1 a2 a3 a4 a5 a6 a7 a8 a9 : Nat → Int32}
theorem cv_sum {post : Int32 → St2 → Prop} {N F : Nat} {P : Nat → Nat} {A : Nat → Int} (hF : cv_F N P A a1 a2) (hE : cv_E N P A a5 a6 a7) (hf : F < 32768)
    (hp : ∀ d8 d9, post (cv_z (cv_cS P A (cv_pq 0 F 0) N)) (nI N, a1, a2, a3, a4, a5, a6, a7, d8, d9)) : wpX_sum post (nI N, a1, a2, a3, a4, a5, a6, a7, a8, a9) (nI F) := by
  unfold wpX_sum
  refine cv_badF hf ?_
  refine br_t rfl ?_
  refine cv_gather (r := 0) hF hE (by omega) hf (fun d8 d9 hT => ?_)
  exact ek_v (P := fun r => post r _) (hT 0 (by omega)).2 (hp d8 d9)
theorem cv_count {post : Int32 → St2 → Prop} {N F : Nat} {P : Nat → Nat} {A : Nat → Int} (hF : cv_F N P A a1 a2) (hE : cv_E N P A a5 a6 a7) (hf : F < 32768)
    (hp : ∀ d8 d9, post (nI (cv_cC P (cv_pq 0 F 0) N)) (nI N, a1, a2, a3, a4, a5, a6, a7, d8, d9)) : wpX_count post (nI N, a1, a2, a3, a4, a5, a6, a7, a8, a9) (nI F) := by
  unfold wpX_count
  refine cv_badF hf ?_
  refine br_t rfl ?_
  refine cv_gather (r := 0) hF hE (by omega) hf (fun d8 d9 hT => ?_)
  exact ek_v (P := fun r => post r _) (hT 0 (by omega)).1 (hp d8 d9)
/-- the loop of top: a strict maximum is found -/
theorem cv_top11 {post : Int32 → St2 → Prop} {C : Nat → Nat} {S : Nat → Int} {p : Nat} (hT : cv_T 0 C S a8 a9) (hC : ∀ q, q < 120 → C q < 1000) (hS : ∀ q, q < 120 → -100000 ≤ S q ∧ S q ≤ 100000) (hp : p < 120) (hp0 : 0 < C p)
    (hm : ∀ q, q < 120 → q ≠ p → 0 < C q → S q < S p) (H : post (nI p) (c, a1, a2, a3, a4, a5, a6, a7, a8, a9)) : ∃ n, wX_top_11 post c a1 a2 a3 a4 a5 a6 a7 a8 a9 n (-1) 0 := by
  refine pk_loop (fun n i s => wX_top_11 post c a1 a2 a3 a4 a5 a6 a7 a8 a9 n s (nI i)) (fun i s => (s = -1 ∨ ∃ b, b < 120 ∧ s = nI b ∧ 0 < C b) ∧ (p < i → s = nI p)) 120 0 (-1) (by omega) ⟨Or.inl rfl, fun z => absurd z (by omega)⟩ ?_ ?_
  · intro n s h
    refine pk_le 120 120 (fun _ => ?_) (fun z => absurd z (by omega))
    rw [h.2 hp]
    exact H
  · intro n i s hi h hw
    have hci : (nI i).toNatClampNeg = i := nI_clamp (by omega)
    have e8 : a8 i = nI (C i) := (hT i hi).1
    have e9 : a9 i = cv_z (S i) := (hT i hi).2
    have hCi := hC i hi
    refine pk_le 120 i (fun z => absurd z (by omega)) (fun _ => ⟨pk_in i 120 hi, ?_⟩)
    rw [hci, e8, e9]
    refine pk_le (C i) 0 (fun z => nm_r (nI_1 i) (hw s ⟨h.1, fun t => h.2 ?_⟩)) (fun z => ?_)
    · have : p ≠ i := by
        intro e
        subst e
        omega
      omega
    · obtain ⟨hb, hpi⟩ := h
      rcases hb with hb | ⟨b, hb, eb, cb⟩
      · refine br_t (by rw [hb]; decide) (nm_r (nI_1 i) (hw _ ⟨Or.inr ⟨i, hi, rfl, z⟩, fun t => ?_⟩))
        have : ¬ p < i := by
          intro t2
          have e := (hb.symm.trans (hpi t2))
          have hneg := nI_pos (n := p) (by omega)
          rw [← e] at hneg
          exact hneg (by decide)
        rw [show p = i by omega]
      · have ecb : s.toNatClampNeg = b := by rw [eb]; exact nI_clamp (by omega)
        have e9b : a9 b = cv_z (S b) := (hT b hb).2
        have hSi := hS i hi
        have hSb := hS b hb
        refine br_f (by rw [eb]; exact nI_pos (by omega)) ⟨pk_in i 120 hi, pk_in b 120 hb eb, ?_⟩
        rw [ecb, e9b]
        refine ek_if (cv_zle (by omega) (by omega) (by omega) (by omega)) (fun z2 => nm_r (nI_1 i) (hw s ⟨Or.inr ⟨b, hb, eb, cb⟩, fun t => ?_⟩)) (fun z2 => nm_r (nI_1 i) (hw _ ⟨Or.inr ⟨i, hi, rfl, z⟩, fun t => ?_⟩))
        · by_cases e : p < i
          · exact hpi e
          · have e' : i = p := by omega
            by_cases ebp : b = p
            · rw [eb, ebp]
            · have := hm b hb ebp cb
              rw [e'] at z2
              omega
        · by_cases e : p < i
          · have ebp : b = p := (nI_eq (by omega) (by omega)).mp (eb.symm.trans (hpi e))
            have := hm i hi (by omega) z
            rw [ebp] at z2
            omega
          · rw [show p = i by omega]
theorem cv_top {post : Int32 → St2 → Prop} {N r F p : Nat} {P : Nat → Nat} {A : Nat → Int} (hF : cv_F N P A a1 a2) (hE : cv_E N P A a5 a6 a7) (hA : ∀ i, i < N → -50 ≤ A i ∧ A i ≤ 50) (hr : r < 8) (hf : F < 32768) (hp : p < 120) (hp0 : 0 < cv_cC P (cv_pq r F p) N)
    (hm : ∀ q, q < 120 → q ≠ p → 0 < cv_cC P (cv_pq r F q) N → cv_cS P A (cv_pq r F q) N < cv_cS P A (cv_pq r F p) N)
    (H : ∀ d8 d9, d9 p = cv_z (cv_cS P A (cv_pq r F p) N) → post (nI p) (nI N, a1, a2, a3, a4, a5, a6, a7, d8, d9)) : wpX_top post (nI N, a1, a2, a3, a4, a5, a6, a7, a8, a9) (nI r) (nI F) := by
  have hN := hF.1
  unfold wpX_top
  refine cv_gather hF hE hr hf (fun d8 d9 hT => ?_)
  refine cv_top11 hT (fun q _ => ?_) (fun q _ => ?_) hp hp0 hm (H d8 d9 (hT p hp).2)
  · have := cv_cC_le P (cv_pq r F q) N
    omega
  · have := cv_cS_bd (P := P) (φ := cv_pq r F q) hA
    omega
theorem cv_topSum {post : Int32 → St2 → Prop} {N r F p : Nat} {P : Nat → Nat} {A : Nat → Int} (hF : cv_F N P A a1 a2) (hE : cv_E N P A a5 a6 a7) (hA : ∀ i, i < N → -50 ≤ A i ∧ A i ≤ 50) (hr : r < 8) (hf : F < 32768) (hp : p < 120) (hp0 : 0 < cv_cC P (cv_pq r F p) N)
    (hm : ∀ q, q < 120 → q ≠ p → 0 < cv_cC P (cv_pq r F q) N → cv_cS P A (cv_pq r F q) N < cv_cS P A (cv_pq r F p) N)
    (H : ∀ d8 d9, post (cv_z (cv_cS P A (cv_pq r F p) N)) (nI N, a1, a2, a3, a4, a5, a6, a7, d8, d9)) : wpX_topSum post (nI N, a1, a2, a3, a4, a5, a6, a7, a8, a9) (nI r) (nI F) := by
  have hcp : (nI p).toNatClampNeg = p := nI_clamp (by omega)
  unfold wpX_topSum
  refine cv_badG hr ?_
  refine br_t rfl ?_
  refine cv_badF hf ?_
  refine br_t rfl ?_
  refine cv_top hF hE hA hr hf hp hp0 hm (fun d8 d9 e => ?_)
  refine br_t (nI_pos' (by omega)) ⟨pk_in p 120 hp, ?_⟩
  exact ek_v (P := fun r => post r _) (show d9 (nI p).toNatClampNeg = _ by rw [hcp]; exact e) (H d8 d9)
theorem cv_topGroup {post : Int32 → St2 → Prop} {N r F p : Nat} {P : Nat → Nat} {A : Nat → Int} (hF : cv_F N P A a1 a2) (hE : cv_E N P A a5 a6 a7) (hA : ∀ i, i < N → -50 ≤ A i ∧ A i ≤ 50) (hr : r < 8) (hf : F < 32768) (hp : p < 120) (hp0 : 0 < cv_cC P (cv_pq r F p) N)
    (hm : ∀ q, q < 120 → q ≠ p → 0 < cv_cC P (cv_pq r F q) N → cv_cS P A (cv_pq r F q) N < cv_cS P A (cv_pq r F p) N)
    (H : ∀ d8 d9, post (nI p) (nI N, a1, a2, a3, a4, a5, a6, a7, d8, d9)) : wpX_topGroup post (nI N, a1, a2, a3, a4, a5, a6, a7, a8, a9) (nI r) (nI F) := by
  unfold wpX_topGroup
  refine cv_badG hr ?_
  refine br_t rfl ?_
  refine cv_badF hf ?_
  refine br_t rfl ?_
  refine cv_top hF hE hA hr hf hp hp0 hm (fun d8 d9 e => ?_)
  exact br_t (nI_pos' (by omega)) (H d8 d9)
/-- groups: how many groups have a fact -/
theorem cv_groups {post : Int32 → St2 → Prop} {N r F : Nat} {P : Nat → Nat} {A : Nat → Int} (hF : cv_F N P A a1 a2) (hE : cv_E N P A a5 a6 a7) (hr : r < 8) (hf : F < 32768)
    (H : ∀ d8 d9, post (nI (cv_cC id (fun q => decide (0 < cv_cC P (cv_pq r F q) N)) 120)) (nI N, a1, a2, a3, a4, a5, a6, a7, d8, d9)) : wpX_groups post (nI N, a1, a2, a3, a4, a5, a6, a7, a8, a9) (nI r) (nI F) := by
  have hN := hF.1
  unfold wpX_groups
  refine cv_badG hr ?_
  refine br_t rfl ?_
  refine cv_badF hf ?_
  refine br_t rfl ?_
  refine cv_gather hF hE hr hf (fun d8 d9 hT => ?_)
  refine pk_loop (fun n i s => wX_groups_30 post (nI N) a1 a2 a3 a4 a5 a6 a7 d8 d9 n s (nI i)) (fun i s => s = nI (cv_cC id (fun q => decide (0 < cv_cC P (cv_pq r F q) N)) i)) 120 0 0 (by omega) rfl ?_ ?_
  · intro n s h
    refine pk_le 120 120 (fun _ => ?_) (fun z => absurd z (by omega))
    rw [h]
    exact H d8 d9
  · intro n i s hi h hw
    have hci : (nI i).toNatClampNeg = i := nI_clamp (by omega)
    have e8 : d8 i = nI (cv_cC P (cv_pq r F i) N) := (hT i hi).1
    have hle := cv_cC_le P (cv_pq r F i) N
    refine pk_le 120 i (fun z => absurd z (by omega)) (fun _ => ⟨pk_in i 120 hi, ?_⟩)
    rw [hci, e8]
    refine pk_le (cv_cC P (cv_pq r F i) N) 0 (fun z => nm_r (nI_1 i) (hw s ?_)) (fun z => nm_e (nm_r (nI_1 i) (hw _ ?_)))
    · rw [cv_cC_n (P := id) (decide_eq_false (by show ¬ 0 < cv_cC P (cv_pq r F i) N; omega))]
      exact h
    · rw [cv_cC_y (P := id) (decide_eq_true (by show 0 < cv_cC P (cv_pq r F i) N; omega)), h, nI_1]
/-- atLeast -/
theorem cv_atLeast {post : Int32 → St2 → Prop} {N r : Nat} {y : Int} {P : Nat → Nat} {A : Nat → Int} (hF : cv_F N P A a1 a2) (hE : cv_E N P A a5 a6 a7) (hA : ∀ i, i < N → -50 ≤ A i ∧ A i ≤ 50) (hr : r < 8) (hy : -100000 ≤ y ∧ y ≤ 100000)
    (H : ∀ d8 d9, post (nI (cv_cC id (fun q => decide (0 < cv_cC P (cv_pq r 32767 q) N ∧ y ≤ cv_cS P A (cv_pq r 32767 q) N)) 120)) (nI N, a1, a2, a3, a4, a5, a6, a7, d8, d9)) : wpX_atLeast post (nI N, a1, a2, a3, a4, a5, a6, a7, a8, a9) (nI r) (cv_z y) := by
  have hN := hF.1
  unfold wpX_atLeast
  refine cv_badG hr ?_
  refine br_t rfl ?_
  refine cv_gather (F := 32767) hF hE hr (by omega) (fun d8 d9 hT => ?_)
  refine pk_loop (fun n i s => wX_atLeast_24 post (cv_z y) (nI N) a1 a2 a3 a4 a5 a6 a7 d8 d9 n s (nI i)) (fun i s => s = nI (cv_cC id (fun q => decide (0 < cv_cC P (cv_pq r 32767 q) N ∧ y ≤ cv_cS P A (cv_pq r 32767 q) N)) i)) 120 0 0 (by omega) rfl ?_ ?_
  · intro n s h
    refine pk_le 120 120 (fun _ => ?_) (fun z => absurd z (by omega))
    rw [h]
    exact H d8 d9
  · intro n i s hi h hw
    have hci : (nI i).toNatClampNeg = i := nI_clamp (by omega)
    have e8 : d8 i = nI (cv_cC P (cv_pq r 32767 i) N) := (hT i hi).1
    have e9 : d9 i = cv_z (cv_cS P A (cv_pq r 32767 i) N) := (hT i hi).2
    have hle := cv_cC_le P (cv_pq r 32767 i) N
    have hbd := cv_cS_bd (P := P) (φ := cv_pq r 32767 i) hA
    refine pk_le 120 i (fun z => absurd z (by omega)) (fun _ => ⟨pk_in i 120 hi, ?_⟩)
    rw [hci, e8, e9]
    refine pk_le (cv_cC P (cv_pq r 32767 i) N) 0 (fun z => nm_r (nI_1 i) (hw s ?_)) (fun z => ⟨pk_in i 120 hi, ek_if (cv_zlt (by omega) (by omega) (by omega) (by omega)) (fun z2 => nm_r (nI_1 i) (hw s ?_)) (fun z2 => nm_e (nm_r (nI_1 i) (hw _ ?_)))⟩)
    · rw [cv_cC_n (P := id) (decide_eq_false (by show ¬ (0 < cv_cC P (cv_pq r 32767 i) N ∧ y ≤ cv_cS P A (cv_pq r 32767 i) N); omega))]
      exact h
    · rw [cv_cC_n (P := id) (decide_eq_false (by show ¬ (0 < cv_cC P (cv_pq r 32767 i) N ∧ y ≤ cv_cS P A (cv_pq r 32767 i) N); omega))]
      exact h
    · rw [cv_cC_y (P := id) (decide_eq_true (by show (0 < cv_cC P (cv_pq r 32767 i) N ∧ y ≤ cv_cS P A (cv_pq r 32767 i) N); omega)), h, nI_1]
theorem cv_growth {post : Int32 → St2 → Prop} {N : Nat} {P : Nat → Nat} {A : Nat → Int} (hF : cv_F N P A a1 a2) (hE : cv_E N P A a5 a6 a7)
    (H : ∀ d8 d9, post (cv_z (cv_cS P A (cv_pq 4 32767 20) N - cv_cS P A (cv_pq 4 32767 0) N)) (nI N, a1, a2, a3, a4, a5, a6, a7, d8, d9)) : wpX_growth post (nI N, a1, a2, a3, a4, a5, a6, a7, a8, a9) 1 := by
  refine br_f (by decide) (br_t (by decide) ?_)
  refine cv_gather (r := 4) (F := 32767) hF hE (by omega) (by omega) (fun d8 d9 hT => ?_)
  refine ⟨vp_in_iff.mpr (by decide), vp_in_iff.mpr (by decide), ?_⟩
  have e20 : d9 ((20 : Int32) * 1).toNatClampNeg = cv_z (cv_cS P A (cv_pq 4 32767 20) N) := by
    rw [show ((20 : Int32) * 1).toNatClampNeg = 20 by decide]
    exact (hT 20 (by omega)).2
  have e0 : d9 ((20 : Int32) * 1 - 20).toNatClampNeg = cv_z (cv_cS P A (cv_pq 4 32767 0) N) := by
    rw [show ((20 : Int32) * 1 - 20).toNatClampNeg = 0 by decide]
    exact (hT 0 (by omega)).2
  exact ek_v (P := fun r => post r _) (show d9 ((20 : Int32) * 1).toNatClampNeg - d9 ((20 : Int32) * 1 - 20).toNatClampNeg = _ by rw [e20, e0, cv_zsub]) (H d8 d9)
theorem cv_quarter {post : Int32 → St2 → Prop} {N : Nat} {P : Nat → Nat} {A : Nat → Int} (hF : cv_F N P A a1 a2) (hE : cv_E N P A a5 a6 a7)
    (H : ∀ d8 d9, post (cv_z (cv_cS P A (cv_pq 0 4081 0) N)) (nI N, a1, a2, a3, a4, a5, a6, a7, d8, d9)) : wpX_quarter post (nI N, a1, a2, a3, a4, a5, a6, a7, a8, a9) 0 0 := by
  refine br_f (by decide) (br_f (by decide) (br_f (by decide) (br_t (by decide) ?_)))
  rw [show (((1 : Int32) <<< ((0 : Int32) &&& 31) ||| (496 : Int32)) ||| (7 : Int32) <<< (((9 : Int32) + 3 * 0) &&& 31)) = nI 4081 by decide]
  refine cv_gather (r := 0) (F := 4081) hF hE (by omega) (by omega) (fun d8 d9 hT => ?_)
  exact ek_v (P := fun r => post r _) (hT 0 (by omega)).2 (H d8 d9)
/-! the greatest amount, along lists of one fact each -/
def cv_L (N : Nat) (P : Nat → Nat) (a3 a4 : Nat → Int32) : Prop := (∀ q, q < 120 → (∀ i, i < N → P i ≠ q) → a3 q = -1) ∧ (∀ i, i < N → a3 (P i) = nI i ∧ a4 i = -1)
theorem cv_greatestAt {post : Int32 → Prop} {N i : Nat} {P : Nat → Nat} {A : Nat → Int} (hF : cv_F N P A a1 a2) (hL : cv_L N P a3 a4) (hA : -50 ≤ A i ∧ A i ≤ 50) (hi : i < N) (hp : post (cv_z (A i))) : wpX_greatestAt post (nI N, a1, a2, a3, a4, a5, a6, a7, a8, a9) (nI (P i)) := by
  obtain ⟨hN, hf⟩ := hF
  obtain ⟨hP, h1, h2⟩ := hf i hi
  obtain ⟨h3, h4⟩ := hL.2 i hi
  have hcP : (nI (P i)).toNatClampNeg = P i := nI_clamp (by omega)
  have hci : (nI i).toNatClampNeg = i := nI_clamp (by omega)
  refine ⟨pk_in (P i) 120 hP, nm_r (show a3 (nI (P i)).toNatClampNeg = nI i by rw [hcP]; exact h3) ⟨2, ?_⟩⟩
  refine br_f (by decide) (br_f (nI_pos (by omega)) ⟨pk_in i 40 (by omega), ?_⟩)
  rw [hci, h2]
  have hb : ¬ cv_z (A i) ≤ (-4000000) := by
    rw [show (-4000000 : Int32) = cv_z (-4000000) by decide, cv_zle (by omega) (by omega) (by omega) (by omega)]
    omega
  refine br_f hb ⟨pk_in i 40 (by omega), pk_in i 40 (by omega), nm_r (show a4 (nI i).toNatClampNeg = -1 by rw [hci]; exact h4) (nm_e ?_)⟩
  exact br_f (by decide) (br_t (by decide) hp)
theorem cv_greatest {post : Int32 → Prop} {N F : Nat} {P : Nat → Nat} {A : Nat → Int} {v : Int} (hF : cv_F N P A a1 a2) (hL : cv_L N P a3 a4) (hA : ∀ i, i < N → -50 ≤ A i ∧ A i ≤ 50) (hf : F < 32768)
    (hv1 : ∀ i, i < N → cv_pass (P i) F 7 = true → A i ≤ v) (hv2 : v = -4000000 ∨ ∃ i, i < N ∧ cv_pass (P i) F 7 = true ∧ A i = v) (hp : post (cv_z v)) : wpX_greatest post (nI N, a1, a2, a3, a4, a5, a6, a7, a8, a9) (nI F) := by
  unfold wpX_greatest
  refine cv_badF hf ?_
  refine br_t rfl ?_
  refine pk_loop (fun n p s => wX_greatest_16 post (nI F) (nI N) a1 a2 a3 a4 a5 a6 a7 a8 a9 n s (nI p))
    (fun p s => ∃ z : Int, s = cv_z z ∧ (z = -4000000 ∨ ∃ i, i < N ∧ cv_pass (P i) F 7 = true ∧ A i = z) ∧ (∀ i, i < N → P i < p → cv_pass (P i) F 7 = true → A i ≤ z)) 120 0 (-4000000) (by omega) ⟨-4000000, by decide, Or.inl rfl, fun i _ z => absurd z (by omega)⟩ ?_ ?_
  · intro n s h
    refine pk_le 120 120 (fun _ => ?_) (fun z => absurd z (by omega))
    obtain ⟨z, e, h1, h2⟩ := h
    have ez : z = v := by
      rcases hv2 with hv | ⟨j, hj, hjp, hjv⟩
      · rcases h1 with h1 | ⟨i, hi, hip, hiz⟩
        · omega
        · have := hA i hi
          have := hv1 i hi hip
          omega
      · have g1 := h2 j hj (hF.2 j hj).1 hjp
        have g2 := hA j hj
        rcases h1 with h1 | ⟨i, hi, hip, hiz⟩
        · omega
        · have := hv1 i hi hip
          omega
    rw [e, ez]
    exact hp
  · intro n p s hi h hw
    obtain ⟨z, e, h1, h2⟩ := h
    have hcp : (nI p).toNatClampNeg = p := nI_clamp (by omega)
    refine pk_le 120 p (fun z => absurd z (by omega)) (fun _ => ⟨pk_in p 120 hi, ?_⟩)
    rw [hcp]
    by_cases hex : ∃ i, i < N ∧ P i = p
    · obtain ⟨i, hiN, hiP⟩ := hex
      have e3 : a3 p = nI i := by rw [← hiP]; exact (hL.2 i hiN).1
      have hN := hF.1
      have hAi := hA i hiN
      have huniq : ∀ j, j < N → P j = p → j = i := by
        intro j hj hjp
        have e4 := (hL.2 j hj).1
        rw [hjp, e3] at e4
        exact ((nI_eq (by omega) (by omega)).mp e4).symm
      have hzb : -4000000 ≤ z ∧ z ≤ 50 := by
        rcases h1 with h1 | ⟨j, hj, _, hjz⟩
        · omega
        · have := hA j hj
          omega
      refine br_f (by rw [e3]; exact nI_pos (by omega)) (cv_passes (d := 7) hi hf (by omega) (fun hy => br_f (by decide) ?_) (fun hn => br_t rfl (nm_r (nI_1 p) (hw s ⟨z, e, h1, fun j hj hjp hjy => ?_⟩))))
      · rw [← hiP]
        refine cv_greatestAt hF hL hAi hiN ?_
        rw [e, hiP]
        refine ek_if (cv_zle (by omega) (by omega) (by omega) (by omega)) (fun z2 => nm_r (nI_1 p) (hw _ ⟨z, rfl, h1, fun j hj hjp hjy => ?_⟩)) (fun z2 => nm_r (nI_1 p) (hw _ ⟨A i, rfl, Or.inr ⟨i, hiN, by rw [hiP]; exact hy, rfl⟩, fun j hj hjp hjy => ?_⟩))
        · by_cases ej : P j = p
          · rw [huniq j hj ej]
            exact z2
          · exact h2 j hj (by omega) hjy
        · by_cases ej : P j = p
          · rw [huniq j hj ej]
            exact Int.le_refl _
          · have := h2 j hj (by omega) hjy
            omega
      · by_cases ej : P j = p
        · rw [ej, hn] at hjy
          exact absurd hjy (by decide)
        · exact h2 j hj (by omega) hjy
    · have e3 : a3 p = -1 := hL.1 p hi (fun i hiN hiP => hex ⟨i, hiN, hiP⟩)
      refine br_t (by rw [e3]; decide) (nm_r (nI_1 p) (hw s ⟨z, e, h1, fun j hj hjp hjy => ?_⟩))
      have ej : P j ≠ p := fun z => hex ⟨j, hj, z⟩
      exact h2 j hj (by omega) hjy
end
end
section
/-! ===== the plain law: the law's own facts ===== -/
def cv_LP (n m k t : Nat) : Nat := if t < n * m then t / m + 4 * k + 20 * (t % m) else 119
def cv_LA (n m : Nat) (b : Int) (t : Nat) : Int := if t < n * m then b + ((t / m : Nat) : Int) - ((t % m : Nat) : Int) else 0
def cv_W (n k : Nat) : Nat := 2 ^ n - 1 + 16 * 2 ^ k + 32256
def cv_C (n m k r F q : Nat) : Nat := cv_cC (cv_LP n m k) (cv_pq r F q) (n * m)
def cv_D (n m k r F q : Nat) : Int := cv_cS (cv_LP n m k) (cv_LA n m 0) (cv_pq r F q) (n * m)
theorem cv_t1 : ∀ n, n < 5 → ∀ m, m < 7 → ∀ k, k < 5 → cv_C n m k 0 (cv_W n k) 0 = n * m := by decide +kernel
theorem cv_t2 : ∀ n, n < 5 → ∀ m, m < 7 → ∀ k, k < 5 → cv_D n m k 0 (cv_W n k) 0 = ((m * n * (n - 1) / 2 : Nat) : Int) - ((n * m * (m - 1) / 2 : Nat) : Int) := by decide +kernel
/-! the strict maxima -/
def cv_mx1 (n m k r F p t : Nat) : Bool := decide (cv_grp (cv_LP n m k t) r = p) || (decide (cv_C n m k r F (cv_grp (cv_LP n m k t) r) = cv_C n m k r F p) && decide (cv_D n m k r F (cv_grp (cv_LP n m k t) r) < cv_D n m k r F p))
def cv_mx (n m k r F p : Nat) : Prop := 0 < cv_C n m k r F p ∧ ∀ t, t < n * m → cv_mx1 n m k r F p t = true
theorem cv_x1a : ∀ n, n < 5 → ∀ m, m < 7 → ∀ k, k < 5 → n = 0 ∨ m = 0 ∨ 0 < cv_C n m k 1 32767 (n - 1) := by decide +kernel
theorem cv_x1b : ∀ n, n < 5 → ∀ m, m < 7 → ∀ k, k < 5 → n = 0 ∨ m = 0 ∨ ∀ t, t < n * m → cv_mx1 n m k 1 32767 (n - 1) t = true := by decide +kernel
theorem cv_x1 {n m k : Nat} (hn : n < 5) (hm : m < 7) (hk : k < 5) (n0 : 0 < n) (m0 : 0 < m) : cv_mx n m k 1 32767 (n - 1) :=
  ⟨(((cv_x1a n hn m hm k hk).resolve_left (by omega)).resolve_left (by omega)), (((cv_x1b n hn m hm k hk).resolve_left (by omega)).resolve_left (by omega))⟩
theorem cv_x4a : ∀ n, n < 5 → ∀ m, m < 7 → ∀ k, k < 5 → n = 0 ∨ m = 0 ∨ 0 < cv_C n m k 4 32767 0 := by decide +kernel
theorem cv_x4b : ∀ n, n < 5 → ∀ m, m < 7 → ∀ k, k < 5 → n = 0 ∨ m = 0 ∨ ∀ t, t < n * m → cv_mx1 n m k 4 32767 0 t = true := by decide +kernel
theorem cv_x4 {n m k : Nat} (hn : n < 5) (hm : m < 7) (hk : k < 5) (n0 : 0 < n) (m0 : 0 < m) : cv_mx n m k 4 32767 0 :=
  ⟨(((cv_x4a n hn m hm k hk).resolve_left (by omega)).resolve_left (by omega)), (((cv_x4b n hn m hm k hk).resolve_left (by omega)).resolve_left (by omega))⟩
theorem cv_x2a : ∀ n, n < 5 → ∀ m, m < 7 → ∀ k, k < 5 → n = 0 ∨ m = 0 ∨ 0 < cv_C n m k 2 32767 (4 * k) := by decide +kernel
theorem cv_x2b : ∀ n, n < 5 → ∀ m, m < 7 → ∀ k, k < 5 → n = 0 ∨ m = 0 ∨ ∀ t, t < n * m → cv_mx1 n m k 2 32767 (4 * k) t = true := by decide +kernel
theorem cv_x2 {n m k : Nat} (hn : n < 5) (hm : m < 7) (hk : k < 5) (n0 : 0 < n) (m0 : 0 < m) : cv_mx n m k 2 32767 (4 * k) :=
  ⟨(((cv_x2a n hn m hm k hk).resolve_left (by omega)).resolve_left (by omega)), (((cv_x2b n hn m hm k hk).resolve_left (by omega)).resolve_left (by omega))⟩
theorem cv_x2wa : ∀ n, n < 5 → ∀ m, m < 7 → ∀ k, k < 5 → n = 0 ∨ m = 0 ∨ 0 < cv_C n m k 2 (cv_W n k) (4 * k) := by decide +kernel
theorem cv_x2wb : ∀ n, n < 5 → ∀ m, m < 7 → ∀ k, k < 5 → n = 0 ∨ m = 0 ∨ ∀ t, t < n * m → cv_mx1 n m k 2 (cv_W n k) (4 * k) t = true := by decide +kernel
theorem cv_x2w {n m k : Nat} (hn : n < 5) (hm : m < 7) (hk : k < 5) (n0 : 0 < n) (m0 : 0 < m) : cv_mx n m k 2 (cv_W n k) (4 * k) :=
  ⟨(((cv_x2wa n hn m hm k hk).resolve_left (by omega)).resolve_left (by omega)), (((cv_x2wb n hn m hm k hk).resolve_left (by omega)).resolve_left (by omega))⟩
theorem cv_x7a : ∀ n, n < 5 → ∀ m, m < 7 → ∀ k, k < 5 → n = 0 ∨ m = 0 ∨ 0 < cv_C n m k 7 32767 (n - 1 + 4 * k) := by decide +kernel
theorem cv_x7b : ∀ n, n < 5 → ∀ m, m < 7 → ∀ k, k < 5 → n = 0 ∨ m = 0 ∨ ∀ t, t < n * m → cv_mx1 n m k 7 32767 (n - 1 + 4 * k) t = true := by decide +kernel
theorem cv_x7 {n m k : Nat} (hn : n < 5) (hm : m < 7) (hk : k < 5) (n0 : 0 < n) (m0 : 0 < m) : cv_mx n m k 7 32767 (n - 1 + 4 * k) :=
  ⟨(((cv_x7a n hn m hm k hk).resolve_left (by omega)).resolve_left (by omega)), (((cv_x7b n hn m hm k hk).resolve_left (by omega)).resolve_left (by omega))⟩
/-! counts and sums of the groups asked for -/
theorem cv_v1 : ∀ n, n < 5 → ∀ m, m < 7 → ∀ k, k < 5 → n = 0 ∨ m = 0 ∨ (cv_C n m k 1 32767 (n - 1) = m ∧ cv_D n m k 1 32767 (n - 1) = ((m * (n - 1) : Nat) : Int) - ((m * (m - 1) / 2 : Nat) : Int)) := by decide +kernel
theorem cv_v4 : ∀ n, n < 5 → ∀ m, m < 7 → ∀ k, k < 5 → n = 0 ∨ m = 0 ∨ (cv_C n m k 4 32767 0 = n ∧ cv_D n m k 4 32767 0 = ((n * (n - 1) / 2 : Nat) : Int)) := by decide +kernel
theorem cv_v2w : ∀ n, n < 5 → ∀ m, m < 7 → ∀ k, k < 5 → cv_C n m k 2 (cv_W n k) (4 * k) = n * m ∧ cv_D n m k 2 (cv_W n k) (4 * k) = ((m * n * (n - 1) / 2 : Nat) : Int) - ((n * m * (m - 1) / 2 : Nat) : Int) := by decide +kernel
theorem cv_v7 : ∀ n, n < 5 → ∀ m, m < 7 → ∀ k, k < 5 → n = 0 ∨ m = 0 ∨ (cv_C n m k 7 32767 (n - 1 + 4 * k) = 1 ∧ cv_D n m k 7 32767 (n - 1 + 4 * k) = ((n - 1 : Nat) : Int)) := by decide +kernel
theorem cv_vg : ∀ n, n < 5 → ∀ m, m < 7 → ∀ k, k < 5 → n = 0 ∨ m = 0 ∨ (cv_C n m k 4 32767 20 = (if m ≤ 1 then 0 else n) ∧ cv_D n m k 4 32767 20 = (if m ≤ 1 then 0 else ((n * (n - 1) / 2 : Nat) : Int) - (n : Int))) := by decide +kernel
theorem cv_vq : ∀ n, n < 5 → ∀ m, m < 7 → ∀ k, k < 5 → n = 0 ∨ m = 0 ∨ (cv_C n m k 0 4081 0 = (if 3 ≤ m then 3 else m) ∧ cv_D n m k 0 4081 0 = (if 2 ≤ m then (if m = 2 then -1 else -3) else 0)) := by decide +kernel
end
section
/-! how many groups have a fact -/
theorem cv_n7 : ∀ n, n < 5 → ∀ m, m < 7 → ∀ k, k < 5 → cv_cC id (fun q => decide (0 < cv_C n m k 7 32767 q)) 120 = n * m := by decide +kernel
theorem cv_n5 : ∀ n, n < 5 → ∀ m, m < 7 → ∀ k, k < 5 → cv_cC id (fun q => decide (0 < cv_C n m k 5 32767 q)) 120 = n * m := by decide +kernel
theorem cv_n3 : ∀ n, n < 5 → ∀ m, m < 7 → ∀ k, k < 5 → m = 0 ∨ cv_cC id (fun q => decide (0 < cv_C n m k 3 32767 q)) 120 = n := by decide +kernel
theorem cv_n0 : ∀ n, n < 5 → ∀ m, m < 7 → ∀ k, k < 5 → n = 0 ∨ m = 0 ∨ cv_cC id (fun q => decide (0 < cv_C n m k 0 (cv_W n k) q)) 120 = 1 := by decide +kernel
end
section
/-! ===== the law's facts, drawn together ===== -/
theorem cv_cC_ex {P : Nat → Nat} {φ : Nat → Bool} {N : Nat} (h : 0 < cv_cC P φ N) : ∃ t, t < N ∧ φ (P t) = true := by
  by_cases e : ∃ t, t < N ∧ φ (P t) = true
  · exact e
  · have hz : ∀ i, i < N → φ (P i) = false := by
      intro i hi
      cases hp : φ (P i)
      · rfl
      · exact absurd ⟨i, hi, hp⟩ e
    rw [cv_cC_zero hz] at h
    omega
theorem cv_div_lt {n m t : Nat} (h : t < n * m) : t / m < n := by
  apply Nat.div_lt_of_lt_mul
  rw [Nat.mul_comm]
  exact h
theorem cv_m_pos {n m t : Nat} (h : t < n * m) : 0 < m := by
  rcases Nat.eq_zero_or_pos m with e | e
  · rw [e, Nat.mul_zero] at h
    omega
  · exact e
theorem cv_LP_lt {n m k : Nat} (t : Nat) (hn : n < 5) (hm : m < 7) (hk : k < 5) : cv_LP n m k t < 120 := by
  unfold cv_LP
  split
  · rename_i h
    have h1 := cv_div_lt h
    have h2 := Nat.mod_lt t (cv_m_pos h)
    omega
  · omega
theorem cv_LA_bd {n m : Nat} {b : Int} (t : Nat) (hn : n < 5) (hm : m < 7) (b1 : -15 ≤ b) (b2 : b ≤ 16) : -50 ≤ cv_LA n m b t ∧ cv_LA n m b t ≤ 50 := by
  unfold cv_LA
  split
  · rename_i h
    have h1 := cv_div_lt h
    have h2 := Nat.mod_lt t (cv_m_pos h)
    generalize t / m = u at *
    generalize t % m = v at *
    omega
  · omega
theorem cv_ij {m i j : Nat} (hj : j < m) : (i * m + j) / m = i ∧ (i * m + j) % m = j := by
  have h0 : 0 < m := by omega
  constructor
  · rw [Nat.mul_comm, Nat.mul_add_div h0, Nat.div_eq_of_lt hj]
    omega
  · rw [Nat.mul_comm, Nat.mul_add_mod, Nat.mod_eq_of_lt hj]
theorem cv_ij_lt {n m i j : Nat} (hi : i < n) (hj : j < m) : i * m + j < n * m := by
  have : (i + 1) * m ≤ n * m := Nat.mul_le_mul_right m hi
  rw [Nat.add_mul, Nat.one_mul] at this
  omega
theorem cv_LP_at {n m k i j : Nat} (hi : i < n) (hj : j < m) : cv_LP n m k (i * m + j) = i + 4 * k + 20 * j := by
  unfold cv_LP
  rw [if_pos (cv_ij_lt hi hj), (cv_ij hj).1, (cv_ij hj).2]
theorem cv_LA_at {n m i j : Nat} {b : Int} (hi : i < n) (hj : j < m) : cv_LA n m b (i * m + j) = b + (i : Int) - (j : Int) := by
  unfold cv_LA
  rw [if_pos (cv_ij_lt hi hj), (cv_ij hj).1, (cv_ij hj).2]
theorem cv_LP_inj {n m k t s : Nat} (hn : n < 5) (hk : k < 5) (ht : t < n * m) (hs : s < n * m) (h : cv_LP n m k t = cv_LP n m k s) : t = s := by
  unfold cv_LP at h
  rw [if_pos ht, if_pos hs] at h
  have t1 := cv_div_lt ht
  have s1 := cv_div_lt hs
  have key : ∀ u v u' v' : Nat, u < n → u' < n → u + 4 * k + 20 * v = u' + 4 * k + 20 * v' → u = u' ∧ v = v' := by
    intro u v u' v' h1 h2 h3
    omega
  obtain ⟨e1, e2⟩ := key _ _ _ _ t1 s1 h
  rw [← Nat.div_add_mod t m, ← Nat.div_add_mod s m, e1, e2]
theorem cv_lin {n m k : Nat} {b : Int} {φ : Nat → Bool} : ∀ N, N ≤ n * m → cv_cS (cv_LP n m k) (cv_LA n m b) φ N = (cv_cC (cv_LP n m k) φ N : Int) * b + cv_cS (cv_LP n m k) (cv_LA n m 0) φ N := by
  intro N
  induction N with
  | zero =>
    intro _
    show (0 : Int) = ((0 : Nat) : Int) * b + 0
    rw [Int.natCast_zero, Int.zero_mul]
    rfl
  | succ N ih =>
    intro h
    have e := ih (by omega)
    cases hp : φ (cv_LP n m k N)
    · rw [cv_cS_n hp, cv_cS_n hp, cv_cC_n hp]
      exact e
    · rw [cv_cS_y hp, cv_cS_y hp, cv_cC_y hp, e, Int.natCast_add, Int.add_mul, Int.natCast_one, Int.one_mul]
      unfold cv_LA
      rw [if_pos (by omega), if_pos (by omega)]
      omega
theorem cv_S {n m k r F q : Nat} {b : Int} : cv_cS (cv_LP n m k) (cv_LA n m b) (cv_pq r F q) (n * m) = (cv_C n m k r F q : Int) * b + cv_D n m k r F q := cv_lin _ (Nat.le_refl _)
theorem cv_maxOK {n m k r F p : Nat} (b : Int) (h : cv_mx n m k r F p) : ∀ q, q < 120 → q ≠ p → 0 < cv_cC (cv_LP n m k) (cv_pq r F q) (n * m) → cv_cS (cv_LP n m k) (cv_LA n m b) (cv_pq r F q) (n * m) < cv_cS (cv_LP n m k) (cv_LA n m b) (cv_pq r F p) (n * m) := by
  intro q _ hne hq
  obtain ⟨t, ht, hpt⟩ := cv_cC_ex hq
  have hg : cv_grp (cv_LP n m k t) r = q := by
    unfold cv_pq at hpt
    rw [Bool.and_eq_true] at hpt
    exact of_decide_eq_true hpt.2
  have h1 := h.2 t ht
  unfold cv_mx1 at h1
  rw [hg, Bool.or_eq_true, Bool.and_eq_true] at h1
  rcases h1 with h1 | ⟨h1, h2⟩
  · exact absurd (of_decide_eq_true h1) hne
  · have g1 := of_decide_eq_true h1
    have g2 := of_decide_eq_true h2
    rw [cv_S, cv_S, g1]
    omega
/-! numbers of the law as Int32 -/
theorem cv_n1 {n : Nat} (h : 0 < n) : nI n - 1 = nI (n - 1) := pk_sub (b := 1) h
theorem cv_half {a : Nat} (h : a < 2 ^ 31) : nI a / 2 = nI (a / 2) := pk_div (d := 2) h (by omega) (by omega)
theorem cv_small {n m : Nat} (hn : n < 5) (hm : m < 7) : n * m ≤ 24 ∧ m * n * (n - 1) ≤ 72 ∧ n * m * (m - 1) ≤ 120 ∧ m * (m - 1) ≤ 30 ∧ n * (n - 1) ≤ 12 := by
  have h1 : n * m ≤ 4 * 6 := Nat.mul_le_mul (by omega) (by omega)
  have h1' : m * n ≤ 6 * 4 := Nat.mul_le_mul (by omega) (by omega)
  have h2 : m * n * (n - 1) ≤ 24 * 3 := Nat.mul_le_mul h1' (by omega)
  have h3 : n * m * (m - 1) ≤ 24 * 5 := Nat.mul_le_mul h1 (by omega)
  have h4 : m * (m - 1) ≤ 6 * 5 := Nat.mul_le_mul (by omega) (by omega)
  have h5 : n * (n - 1) ≤ 4 * 3 := Nat.mul_le_mul (by omega) (by omega)
  omega
theorem cv_whole {n m : Nat} (b : Int) (hn : n < 5) (hm : m < 7) (n0 : 0 < n) (m0 : 0 < m) : (((nI n * nI m) * cv_z b) + (((nI m * nI n) * (nI n - 1)) / 2)) - (((nI n * nI m) * (nI m - 1)) / 2) = cv_z (((n * m : Nat) : Int) * b + (((m * n * (n - 1) / 2 : Nat) : Int) - ((n * m * (m - 1) / 2 : Nat) : Int))) := by
  obtain ⟨h1, h2, h3, h4, h5⟩ := cv_small hn hm
  rw [cv_n1 n0, cv_n1 m0, pk_mul, pk_mul, pk_mul, pk_mul, cv_half (by omega), cv_half (by omega), cv_zn, cv_zmul, cv_zn, cv_zadd, cv_zn, cv_zsub, Int.add_sub_assoc]
theorem cv_topv {n m : Nat} (b : Int) (hn : n < 5) (hm : m < 7) (n0 : 0 < n) (m0 : 0 < m) : ((nI m * cv_z b) + (nI m * (nI n - 1))) - ((nI m * (nI m - 1)) / 2) = cv_z ((m : Int) * b + (((m * (n - 1) : Nat) : Int) - ((m * (m - 1) / 2 : Nat) : Int))) := by
  obtain ⟨h1, h2, h3, h4, h5⟩ := cv_small hn hm
  rw [cv_n1 n0, cv_n1 m0, pk_mul, pk_mul, cv_half (by omega), cv_zn m, cv_zmul, cv_zn, cv_zadd, cv_zn, cv_zsub, Int.add_sub_assoc]
theorem cv_monthv {n m : Nat} (b : Int) (hn : n < 5) (hm : m < 7) (n0 : 0 < n) : (nI n * cv_z b) + ((nI n * (nI n - 1)) / 2) = cv_z ((n : Int) * b + ((n * (n - 1) / 2 : Nat) : Int)) := by
  obtain ⟨h1, h2, h3, h4, h5⟩ := cv_small hn hm
  rw [cv_n1 n0, pk_mul, cv_half (by omega), cv_zn n, cv_zmul, cv_zn, cv_zadd]
theorem cv_wide : ∀ n, n < 5 → ((1 : Int32) <<< (nI n &&& 31)) - 1 = nI (2 ^ n - 1) := by decide +kernel
theorem cv_filt : ∀ n, n < 5 → ∀ k, k < 5 → (nI (2 ^ n - 1) + (16 * ((1 : Int32) <<< (nI k &&& 31)))) + 32256 = nI (cv_W n k) := by decide +kernel
theorem cv_W_lt : ∀ n, n < 5 → ∀ k, k < 5 → cv_W n k < 32768 := by decide +kernel
theorem cv_bn {n : Nat} (b : Int) : (cv_z b + nI n) - 1 = cv_z (b + (n : Int) - 1) := by
  rw [cv_zn, cv_zadd, show (1 : Int32) = cv_z 1 by decide, cv_zsub]
/-! what each question answers -/
section
variable {n m k : Nat} {b : Int}
theorem cv_passAll {x : Nat} (hx : x < 120) : cv_pass x 32767 7 = true := (cv_pass_need (d := 0) hx (fun _ => rfl) (fun _ => rfl) (fun _ => rfl)).symm.trans rfl
theorem cv_pass0 : ∀ x, x < 120 → cv_pass x 0 7 = false := by decide +kernel
theorem cv_pass16 : ∀ x, x < 120 → cv_pass x 16 7 = false := by decide +kernel
theorem cv_q_sum (hn : n < 5) (hm : m < 7) (hk : k < 5) : cv_cS (cv_LP n m k) (cv_LA n m b) (cv_pq 0 (cv_W n k) 0) (n * m) = ((n * m : Nat) : Int) * b + (((m * n * (n - 1) / 2 : Nat) : Int) - ((n * m * (m - 1) / 2 : Nat) : Int)) := by
  rw [cv_S, cv_t1 n hn m hm k hk, cv_t2 n hn m hm k hk]
theorem cv_q_top1 (hn : n < 5) (hm : m < 7) (hk : k < 5) (n0 : 0 < n) (m0 : 0 < m) : cv_cS (cv_LP n m k) (cv_LA n m b) (cv_pq 1 32767 (n - 1)) (n * m) = (m : Int) * b + (((m * (n - 1) : Nat) : Int) - ((m * (m - 1) / 2 : Nat) : Int)) := by
  have h := ((cv_v1 n hn m hm k hk).resolve_left (by omega)).resolve_left (by omega)
  rw [cv_S, h.1, h.2]
theorem cv_q_top4 (hn : n < 5) (hm : m < 7) (hk : k < 5) (n0 : 0 < n) (m0 : 0 < m) : cv_cS (cv_LP n m k) (cv_LA n m b) (cv_pq 4 32767 0) (n * m) = (n : Int) * b + ((n * (n - 1) / 2 : Nat) : Int) := by
  have h := ((cv_v4 n hn m hm k hk).resolve_left (by omega)).resolve_left (by omega)
  rw [cv_S, h.1, h.2]
theorem cv_q_top2 (hn : n < 5) (hm : m < 7) (hk : k < 5) : cv_cS (cv_LP n m k) (cv_LA n m b) (cv_pq 2 (cv_W n k) (4 * k)) (n * m) = ((n * m : Nat) : Int) * b + (((m * n * (n - 1) / 2 : Nat) : Int) - ((n * m * (m - 1) / 2 : Nat) : Int)) := by
  have h := cv_v2w n hn m hm k hk
  rw [cv_S, h.1, h.2]
theorem cv_q_top7 (hn : n < 5) (hm : m < 7) (hk : k < 5) (n0 : 0 < n) (m0 : 0 < m) : cv_cS (cv_LP n m k) (cv_LA n m b) (cv_pq 7 32767 (n - 1 + 4 * k)) (n * m) = b + (n : Int) - 1 := by
  have h := ((cv_v7 n hn m hm k hk).resolve_left (by omega)).resolve_left (by omega)
  rw [cv_S, h.1, h.2]
  omega
theorem cv_one : ∀ p, p < 120 → cv_cC id (fun q => decide (q = p)) 120 = 1 := by decide +kernel
theorem cv_q_atLeast (hn : n < 5) (hm : m < 7) (hk : k < 5) (n0 : 0 < n) (m0 : 0 < m) : cv_cC id (fun q => decide (0 < cv_cC (cv_LP n m k) (cv_pq 7 32767 q) (n * m) ∧ b + (n : Int) - 1 ≤ cv_cS (cv_LP n m k) (cv_LA n m b) (cv_pq 7 32767 q) (n * m))) 120 = 1 := by
  have hx := cv_x7 hn hm hk n0 m0
  have hmax := cv_maxOK b hx
  have hS := cv_q_top7 (b := b) hn hm hk n0 m0
  rw [← cv_one (n - 1 + 4 * k) (by omega)]
  refine cv_cC_congr (fun i hi => ?_)
  show decide (0 < cv_cC (cv_LP n m k) (cv_pq 7 32767 i) (n * m) ∧ b + (n : Int) - 1 ≤ cv_cS (cv_LP n m k) (cv_LA n m b) (cv_pq 7 32767 i) (n * m)) = decide (i = n - 1 + 4 * k)
  refine decide_eq_decide.mpr ⟨fun ⟨z1, z2⟩ => ?_, fun z => ?_⟩
  · by_cases e : i = n - 1 + 4 * k
    · exact e
    · have := hmax i hi e z1
      omega
  · rw [z]
    exact ⟨hx.1, by omega⟩
theorem cv_q_sum0 (hn : n < 5) (hm : m < 7) (hk : k < 5) : cv_cS (cv_LP n m k) (cv_LA n m b) (cv_pq 0 0 0) (n * m) = 0 := by
  refine cv_cS_zero (fun i _ => ?_)
  unfold cv_pq
  rw [cv_pass0 _ (cv_LP_lt i hn hm hk), Bool.false_and]
theorem cv_q_growth (hn : n < 5) (hm : m < 7) (hk : k < 5) (n0 : 0 < n) (m0 : 0 < m) : cv_cS (cv_LP n m k) (cv_LA n m b) (cv_pq 4 32767 20) (n * m) - cv_cS (cv_LP n m k) (cv_LA n m b) (cv_pq 4 32767 0) (n * m) = if m ≤ 1 then -((n : Int) * b + ((n * (n - 1) / 2 : Nat) : Int)) else -(n : Int) := by
  have h := ((cv_vg n hn m hm k hk).resolve_left (by omega)).resolve_left (by omega)
  rw [cv_q_top4 hn hm hk n0 m0, cv_S, h.1, h.2]
  split
  · rw [Int.natCast_zero, Int.zero_mul]
    omega
  · omega
theorem cv_q_quarter (hn : n < 5) (hm : m < 7) (hk : k < 5) (n0 : 0 < n) (m0 : 0 < m) : cv_cS (cv_LP n m k) (cv_LA n m b) (cv_pq 0 4081 0) (n * m) = (((if 3 ≤ m then 3 else m) : Nat) : Int) * b - (if 2 ≤ m then (if m = 2 then 1 else 3) else 0) := by
  have h := ((cv_vq n hn m hm k hk).resolve_left (by omega)).resolve_left (by omega)
  rw [cv_S, h.1, h.2]
  generalize (((if 3 ≤ m then 3 else m) : Nat) : Int) * b = y
  split
  · split <;> omega
  · omega
end
end
section
/-! ===== the law's end ===== -/
theorem cv_F_add {N : Nat} {P : Nat → Nat} {A : Nat → Int} {a1 a2 : Nat → Int32} {x v : Int32} (hF : cv_F N P A a1 a2) (hN : N < 40) (hx : P N < 120) (ex : x = nI (P N)) (ev : v = cv_z (A N)) : cv_F (N + 1) P A (upd a1 N x) (upd a2 N v) := by
  refine ⟨by omega, fun i hi => ?_⟩
  by_cases e : i = N
  · subst e
    rw [pk_us, pk_us]
    exact ⟨hx, ex, ev⟩
  · rw [pk_un e, pk_un e]
    exact hF.2 i (by omega)
section
variable {a1 a2 a3 a4 a5 a6 a7 a8 a9 : Nat → Int32} {post : Int32 → St0 → Prop} {mc ms kc ks : Nat}
theorem cv_833 {z : Int32} (hp : post 1 ()) : wL_lawOf_833 post mc ms z z kc ks (nI 39) a1 a2 a3 a4 a5 a6 a7 a8 a9 := by
  refine br_t rfl ?_
  refine br_t rfl ?_
  refine cv_add (N := 39) (x := 0) (by omega) (by omega) (by decide) (by decide) (fun b6 b7 => ?_)
  exact br_t rfl hp
theorem cv_end {x3 : Int32} {n m : Nat} {P : Nat → Nat} {A : Nat → Int} {x8 : Int32} {nf : Nat} (hF : cv_F 40 P A a1 a2) (hnm : n * m ≤ 24) (hA : ∀ t, n * m ≤ t → A t = 0) (hp : post 1 ()) :
    wL_lawOf_642 post mc ms x3 (nI n) (nI m) x8 kc ks (nf + 1) (nI 40) 1 (nI 8) (nI 40) a1 a2 a3 a4 a5 a6 a7 a8 a9 := by
  refine pk_le 8 8 (fun _ => ?_) (fun z => absurd z (by omega))
  obtain ⟨l, hl, el⟩ := pk_andE x3 (m := 7) 3 (by decide)
  have hl8 : l < 8 := hl
  refine nm_r el ?_
  have e39 : (39 : Int32) - nI l = nI (39 - l) := pk_sub (a := 39) (by omega)
  rw [e39]
  obtain ⟨hP, h1, h2⟩ := hF.2 (39 - l) (by omega)
  obtain ⟨hP', h1', h2'⟩ := hF.2 39 (by omega)
  rw [hA _ (by omega), cv_z0] at h2
  rw [hA _ (by omega), cv_z0] at h2'
  refine cv_change (N := 40) (Nat.le_refl _) (by omega) h1 hP (by decide) (by decide) (fun b6 b7 => ?_)
  refine br_f (by decide) ?_
  refine br_t rfl ?_
  refine pk_le (n * m) (39 - l) (fun _ => ?_) (fun z => absurd z (by omega)) (pk_mul n m)
  refine br_t h2 ?_
  refine cv_addFull (x := 0) (by omega) (by decide) (by decide) ?_
  refine br_t rfl ?_
  refine cv_remove (M := 39) (by omega) h1' hP' (fun c6 c7 => ?_)
  refine pk_eq l 0 (fun z => ?_) (fun z => ?_)
  · have e : upd a2 (39 - l) 7 39 = 7 := by
      rw [z]
      exact pk_us
    rw [e]
    exact cv_833 hp
  · have e : upd a2 (39 - l) 7 39 = 0 := by
      rw [pk_un (by omega)]
      exact h2'
    rw [e]
    exact cv_833 hp
theorem cv_652 {J : Int32 → Int32 → Int32 → Int32 → (Nat → Int32) → (Nat → Int32) → (Nat → Int32) → (Nat → Int32) → (Nat → Int32) → (Nat → Int32) → (Nat → Int32) → (Nat → Int32) → (Nat → Int32) → Prop} {x3 x5 x6 x8 : Int32} {i B : Nat} {P : Nat → Nat} {A : Nat → Int} {N : Nat}
    (hN : N = min 40 B) (hF : cv_F N P A a1 a2) (hP : ∀ t, B ≤ t → P t = 119 ∧ A t = 0)
    (hJ : ∀ s : Nat × (Nat → Int32) × (Nat → Int32) × (Nat → Int32) × (Nat → Int32) × (Nat → Int32) × (Nat → Int32) × (Nat → Int32) × (Nat → Int32) × (Nat → Int32), s.1 = min 40 (B + 6) ∧ cv_F s.1 P A s.2.1 s.2.2.1 → J (nI s.1) 1 (nI (i + 1)) (nI s.1) s.2.1 s.2.2.1 s.2.2.2.1 s.2.2.2.2.1 s.2.2.2.2.2.1 s.2.2.2.2.2.2.1 s.2.2.2.2.2.2.2.1 s.2.2.2.2.2.2.2.2.1 s.2.2.2.2.2.2.2.2.2) :
    ∃ nf, wL_lawOf_652 post mc ms J x3 x5 x6 x8 (nI i) kc ks nf (nI N) 1 0 (nI N) a1 a2 a3 a4 a5 a6 a7 a8 a9 := by
  refine pk_loop (σ := Nat × (Nat → Int32) × (Nat → Int32) × (Nat → Int32) × (Nat → Int32) × (Nat → Int32) × (Nat → Int32) × (Nat → Int32) × (Nat → Int32) × (Nat → Int32)) (fun nf j s => wL_lawOf_652 post mc ms J x3 x5 x6 x8 (nI i) kc ks nf (nI s.1) 1 (nI j) (nI s.1) s.2.1 s.2.2.1 s.2.2.2.1 s.2.2.2.2.1 s.2.2.2.2.2.1 s.2.2.2.2.2.2.1 s.2.2.2.2.2.2.2.1 s.2.2.2.2.2.2.2.2.1 s.2.2.2.2.2.2.2.2.2)
    (fun j s => s.1 = min 40 (B + j) ∧ cv_F s.1 P A s.2.1 s.2.2.1) 6 0 (N, a1, a2, a3, a4, a5, a6, a7, a8, a9) (by omega) ⟨hN, hF⟩ ?_ ?_
  · intro nf s h
    exact pk_le 6 6 (fun _ => nm_r (nI_1 i) (hJ s h)) (fun z => absurd z (by omega))
  · intro nf j s hj h hw
    obtain ⟨N, a1, a2, a3, a4, a5, a6, a7, a8, a9⟩ := s
    obtain ⟨h1, h2⟩ := h
    have h1' : N = min 40 (B + j) := h1
    have h2' : cv_F N P A a1 a2 := h2
    have hN40 : N ≤ 40 := by omega
    refine pk_le 6 j (fun z => absurd z (by omega)) (fun _ => pk_le 40 N (fun z => ?_) (fun z => ?_))
    · have e : N = 40 := by omega
      subst e
      refine br_f (by decide) ?_
      refine cv_addFull (x := 119) (by omega) (by decide) (by decide) ?_
      refine br_t rfl ?_
      exact br_t (by decide) (nm_r (nI_1 j) (hw (40, a1, a2, a3, a4, a5, a6, a7, a8, a9) ⟨by show 40 = min 40 (B + (j + 1)); omega, h2'⟩))
    · obtain ⟨p1, p2⟩ := hP N (by omega)
      refine br_f (by decide) ?_
      refine cv_add (N := N) (x := 119) (by omega) (by omega) (by decide) (by decide) (fun b6 b7 => ?_)
      refine br_t rfl ?_
      refine br_f (nI_pos (by omega)) (nm_r (nI_1 N) (nm_r (nI_1 j) (hw (N + 1, upd a1 N (nI 119), upd a2 N 0, upd a3 119 (nI N), upd a4 N (a3 119), a5, b6, b7, a8, a9) ⟨?_, ?_⟩)))
      · show N + 1 = min 40 (B + (j + 1))
        omega
      · exact cv_F_add h2' (by omega) (by omega) (by rw [p1]) (by rw [p2, cv_z0])
theorem cv_642 {x3 : Int32} {n m : Nat} {P : Nat → Nat} {A : Nat → Int} {x8 : Int32} (hF : cv_F (n * m) P A a1 a2) (hnm : n * m ≤ 24) (hP : ∀ t, n * m ≤ t → P t = 119 ∧ A t = 0) (hp : post 1 ()) :
    ∃ nf, wL_lawOf_642 post mc ms x3 (nI n) (nI m) x8 kc ks nf (nI (n * m)) 1 0 (nI (n * m)) a1 a2 a3 a4 a5 a6 a7 a8 a9 := by
  refine pk_loop (σ := Nat × (Nat → Int32) × (Nat → Int32) × (Nat → Int32) × (Nat → Int32) × (Nat → Int32) × (Nat → Int32) × (Nat → Int32) × (Nat → Int32) × (Nat → Int32)) (fun nf i s => wL_lawOf_642 post mc ms x3 (nI n) (nI m) x8 kc ks nf (nI s.1) 1 (nI i) (nI s.1) s.2.1 s.2.2.1 s.2.2.2.1 s.2.2.2.2.1 s.2.2.2.2.2.1 s.2.2.2.2.2.2.1 s.2.2.2.2.2.2.2.1 s.2.2.2.2.2.2.2.2.1 s.2.2.2.2.2.2.2.2.2)
    (fun i s => s.1 = min 40 (n * m + 6 * i) ∧ cv_F s.1 P A s.2.1 s.2.2.1) 8 0 (n * m, a1, a2, a3, a4, a5, a6, a7, a8, a9) (by omega) ⟨by show n * m = min 40 (n * m + 6 * 0); omega, hF⟩ ?_ ?_
  · intro nf s h
    obtain ⟨N, a1, a2, a3, a4, a5, a6, a7, a8, a9⟩ := s
    obtain ⟨h1, h2⟩ := h
    have h1' : N = min 40 (n * m + 6 * 8) := h1
    have e : N = 40 := by omega
    subst e
    exact cv_end h2 hnm (fun t ht => (hP t ht).2) hp
  · intro nf i s hi h hw
    obtain ⟨N, a1, a2, a3, a4, a5, a6, a7, a8, a9⟩ := s
    obtain ⟨h1, h2⟩ := h
    refine pk_le 8 i (fun z => absurd z (by omega)) (fun _ => cv_652 (B := n * m + 6 * i) h1 h2 (fun t ht => hP t (by omega)) (fun s hs => hw s ⟨?_, hs.2⟩))
    have := hs.1
    rw [this]
    show min 40 (n * m + 6 * i + 6) = min 40 (n * m + 6 * (i + 1))
    omega
end
end
section
/-! ===== the law's checks in the middle ===== -/
section
variable {a1 a2 a3 a4 a5 a6 a7 a8 a9 : Nat → Int32} {post : Int32 → St0 → Prop} {mc ms kc ks : Nat}
theorem cv_604 {x3 : Int32} {n m w N : Nat} {b y : Int} (hm : m < 7) (hy : y = (w : Int) * b - (if 2 ≤ m then (if m = 2 then 1 else 3) else 0)) (hT : ∃ nf, wL_lawOf_642 post mc ms x3 (nI n) (nI m) (cv_z b) kc ks nf (nI N) 1 0 (nI N) a1 a2 a3 a4 a5 a6 a7 a8 a9) :
    wL_lawOf_604 post mc ms x3 (nI n) (nI m) (cv_z b) (nI N) (nI w) (cv_z y) kc ks (nI N) a1 a2 a3 a4 a5 a6 a7 a8 a9 := by
  refine pk_le 2 m (fun z => pk_eq m 2 (fun z2 => ?_) (fun z2 => ?_)) (fun z => ?_)
  · refine br_t ?_ hT
    rw [hy, if_pos z, if_pos z2, cv_zn, cv_zmul, show (1 : Int32) = cv_z 1 by decide, cv_zsub]
  · refine br_t ?_ hT
    rw [hy, if_pos z, if_neg z2, cv_zn, cv_zmul, show (3 : Int32) = cv_z 3 by decide, cv_zsub]
  · refine br_t ?_ hT
    rw [hy, if_neg (by omega), cv_zn, cv_zmul, show (0 : Int32) = cv_z 0 by decide, cv_zsub]
theorem cv_501 {x3 z : Int32} {n m k : Nat} {b : Int} (hn : n < 5) (hm : m < 7) (hk : k < 5) (n0 : 0 < n) (m0 : 0 < m) (b1 : -15 ≤ b) (b2 : b ≤ 16) (hF : cv_F (n * m) (cv_LP n m k) (cv_LA n m b) a1 a2) (hL : cv_L (n * m) (cv_LP n m k) a3 a4) (hE : cv_E (n * m) (cv_LP n m k) (cv_LA n m b) a5 a6 a7) (hp : post 1 ()) :
    wL_lawOf_501 post mc ms x3 (nI n) (nI m) (nI k) (cv_z b) (nI (n * m)) z z kc ks (nI (n * m)) a1 a2 a3 a4 a5 a6 a7 a8 a9 := by
  have hA : ∀ i, i < n * m → -50 ≤ cv_LA n m b i ∧ cv_LA n m b i ≤ 50 := fun i _ => cv_LA_bd i hn hm b1 b2
  have hnm := (cv_small hn hm).1
  have hO : ∀ t, n * m ≤ t → cv_LP n m k t = 119 ∧ cv_LA n m b t = 0 := by
    intro t ht
    unfold cv_LP cv_LA
    rw [if_neg (by omega), if_neg (by omega)]
    exact ⟨rfl, rfl⟩
  refine br_t rfl ?_
  refine cv_topSum (r := 7) (F := 32767) (p := n - 1 + 4 * k) hF hE hA (by omega) (by omega) (by omega) (cv_x7 hn hm hk n0 m0).1 (cv_maxOK b (cv_x7 hn hm hk n0 m0)) (fun d8 d9 => ?_)
  refine br_t (by rw [cv_q_top7 hn hm hk n0 m0, cv_bn]) ?_
  refine cv_topGroup (r := 7) (F := 32767) (p := n - 1 + 4 * k) hF hE hA (by omega) (by omega) (by omega) (cv_x7 hn hm hk n0 m0).1 (cv_maxOK b (cv_x7 hn hm hk n0 m0)) (fun d8 d9 => ?_)
  refine br_t (by rw [cv_n1 n0, show (4 : Int32) * nI k = nI (4 * k) from pk_mul 4 k, nI_add]) ?_
  rw [cv_bn]
  refine cv_atLeast (r := 7) hF hE hA (by omega) ⟨by omega, by omega⟩ (fun d8 d9 => ?_)
  refine br_t (by rw [cv_q_atLeast hn hm hk n0 m0]; rfl) ?_
  refine cv_sum (F := 0) hF hE (by omega) (fun d8 d9 => ?_)
  refine br_t (by rw [cv_q_sum0 hn hm hk, cv_z0]) ?_
  refine cv_greatest (F := 16) (v := -4000000) hF hL hA (by omega) (fun i hi hpz => ?_) (Or.inl rfl) ?_
  · rw [cv_pass16 _ (cv_LP_lt i hn hm hk)] at hpz
    exact absurd hpz (by decide)
  refine br_t (by decide) ?_
  refine cv_quarter hF hE (fun d8 d9 => ?_)
  have hq := cv_q_quarter (b := b) hn hm hk n0 m0
  refine pk_le 3 m (fun z => ?_) (fun z => ?_)
  · rw [if_pos z] at hq
    exact cv_604 (w := 3) hm hq (cv_642 hF hnm hO hp)
  · rw [if_neg (by omega)] at hq
    exact cv_604 hm hq (cv_642 hF hnm hO hp)
theorem cv_mid {x1 x3 : Int32} {n m k : Nat} {b : Int} {nf : Nat} (hn : n < 5) (hm : m < 7) (hk : k < 5) (n0 : 0 < n) (m0 : 0 < m) (b1 : -15 ≤ b) (b2 : b ≤ 16) (hF : cv_F (n * m) (cv_LP n m k) (cv_LA n m b) a1 a2) (hL : cv_L (n * m) (cv_LP n m k) a3 a4) (hp : post 1 ()) :
    wL_lawOf_76 post mc ms x1 x3 (nI n) (nI m) (nI k) (cv_z b) (nI (2 ^ n - 1)) kc ks (nf + 1) (nI (n * m)) 1 (nI 4) (nI (n * m)) a1 a2 a3 a4 a5 a6 a7 a8 a9 := by
  have hA : ∀ i, i < n * m → -50 ≤ cv_LA n m b i ∧ cv_LA n m b i ≤ 50 := fun i _ => cv_LA_bd i hn hm b1 b2
  have hW := cv_W_lt n hn k hk
  refine pk_le 4 4 (fun _ => ?_) (fun z => absurd z (by omega))
  obtain ⟨ρ, hρ, eρ⟩ := pk_andE (x1 >>> ((7 : Int32) &&& 31)) (m := 127) 7 (by decide)
  have hρ' : ρ < 128 := hρ
  rw [eρ]
  refine cv_plan hF (by omega) (fun b5 b6 b7 hE => ?_)
  refine ⟨by decide, by decide, nm_r (cv_whole b hn hm n0 m0) ⟨by decide, nm_r (cv_topv b hn hm n0 m0) ⟨by decide, nm_r (cv_monthv (m := m) b hn hm n0) (nm_r (cv_filt n hn k hk) ?_)⟩⟩⟩
  refine br_f (by decide) ?_
  refine br_t (pk_mul n m).symm ?_
  refine cv_sum hF hE hW (fun d8 d9 => ?_)
  refine br_t (by rw [cv_q_sum hn hm hk]) ?_
  refine cv_count hF hE hW (fun d8 d9 => ?_)
  refine br_t (by rw [pk_mul]; exact congrArg nI (cv_t1 n hn m hm k hk)) ?_
  refine cv_topSum (r := 1) (F := 32767) (p := n - 1) hF hE hA (by omega) (by omega) (by omega) (cv_x1 hn hm hk n0 m0).1 (cv_maxOK b (cv_x1 hn hm hk n0 m0)) (fun d8 d9 => ?_)
  refine br_t (by rw [cv_q_top1 hn hm hk n0 m0]) ?_
  refine cv_topGroup (r := 1) (F := 32767) (p := n - 1) hF hE hA (by omega) (by omega) (by omega) (cv_x1 hn hm hk n0 m0).1 (cv_maxOK b (cv_x1 hn hm hk n0 m0)) (fun d8 d9 => ?_)
  refine br_t (cv_n1 n0).symm ?_
  refine cv_topSum (r := 4) (F := 32767) (p := 0) hF hE hA (by omega) (by omega) (by omega) (cv_x4 hn hm hk n0 m0).1 (cv_maxOK b (cv_x4 hn hm hk n0 m0)) (fun d8 d9 => ?_)
  refine br_t (by rw [cv_q_top4 hn hm hk n0 m0]) ?_
  refine cv_topGroup (r := 4) (F := 32767) (p := 0) hF hE hA (by omega) (by omega) (by omega) (cv_x4 hn hm hk n0 m0).1 (cv_maxOK b (cv_x4 hn hm hk n0 m0)) (fun d8 d9 => ?_)
  refine br_t rfl ?_
  refine cv_topGroup (r := 2) (F := 32767) (p := 4 * k) hF hE hA (by omega) (by omega) (by omega) (cv_x2 hn hm hk n0 m0).1 (cv_maxOK b (cv_x2 hn hm hk n0 m0)) (fun d8 d9 => ?_)
  refine br_t (pk_mul 4 k).symm ?_
  refine cv_topSum (r := 2) (F := cv_W n k) (p := 4 * k) hF hE hA (by omega) hW (by omega) (cv_x2w hn hm hk n0 m0).1 (cv_maxOK b (cv_x2w hn hm hk n0 m0)) (fun d8 d9 => ?_)
  refine br_t (by rw [cv_q_top2 hn hm hk]) ?_
  refine cv_groups (r := 7) (F := 32767) hF hE (by omega) (by omega) (fun d8 d9 => ?_)
  refine br_t (by rw [pk_mul]; exact congrArg nI (cv_n7 n hn m hm k hk)) ?_
  refine cv_groups (r := 5) (F := 32767) hF hE (by omega) (by omega) (fun d8 d9 => ?_)
  refine br_t (by rw [pk_mul]; exact congrArg nI (cv_n5 n hn m hm k hk)) ?_
  refine cv_groups (r := 3) (F := 32767) hF hE (by omega) (by omega) (fun d8 d9 => ?_)
  refine br_t (congrArg nI ((cv_n3 n hn m hm k hk).resolve_left (by omega))) ?_
  refine cv_groups (r := 0) (F := cv_W n k) hF hE (by omega) hW (fun d8 d9 => ?_)
  refine br_t (congrArg nI (((cv_n0 n hn m hm k hk).resolve_left (by omega)).resolve_left (by omega))) ?_
  refine cv_greatest (F := 32767) (v := b + (n : Int) - 1) hF hL hA (by omega) (fun i hi _ => ?_) (Or.inr ⟨(n - 1) * m + 0, cv_ij_lt (by omega) m0, cv_passAll (cv_LP_lt _ hn hm hk), ?_⟩) ?_
  · unfold cv_LA
    rw [if_pos hi]
    have h1 := cv_div_lt hi
    generalize i / m = u at *
    generalize i % m = v at *
    omega
  · rw [cv_LA_at (by omega) m0]
    omega
  refine br_t (cv_bn b).symm ?_
  refine cv_growth hF hE (fun d8 d9 => ?_)
  have hq := cv_q_growth (b := b) hn hm hk n0 m0
  refine pk_le m 1 (fun z => ?_) (fun z => ?_)
  · rw [if_pos z] at hq
    rw [hq, cv_zneg]
    exact cv_501 hn hm hk n0 m0 b1 b2 hF hL hE hp
  · rw [if_neg (by omega)] at hq
    have e : -nI n = cv_z (-(n : Int)) := by rw [cv_zn, cv_zneg]
    rw [hq, e]
    exact cv_501 hn hm hk n0 m0 b1 b2 hF hL hE hp
end
end
section
/-! ===== the law's first loops ===== -/
theorem cv_L_add {N : Nat} {P : Nat → Nat} {a3 a4 : Nat → Int32} (hL : cv_L N P a3 a4) (hx : P N < 120) (hne : ∀ i, i < N → P i ≠ P N) : cv_L (N + 1) P (upd a3 (P N) (nI N)) (upd a4 N (a3 (P N))) := by
  refine ⟨fun q hq hn => ?_, fun i hi => ?_⟩
  · rw [pk_un (fun z => hn N (by omega) z.symm)]
    exact hL.1 q hq (fun i hi => hn i (by omega))
  · by_cases e : i = N
    · subst e
      rw [pk_us, pk_us]
      exact ⟨rfl, hL.1 _ hx hne⟩
    · rw [pk_un (hne i (by omega)), pk_un e]
      exact hL.2 i (by omega)
section
variable {a1 a2 a3 a4 a5 a6 a7 a8 a9 : Nat → Int32} {post : Int32 → St0 → Prop} {mc ms kc ks : Nat}
theorem cv_85 {J : Int32 → Int32 → Int32 → Int32 → (Nat → Int32) → (Nat → Int32) → (Nat → Int32) → (Nat → Int32) → (Nat → Int32) → (Nat → Int32) → (Nat → Int32) → (Nat → Int32) → (Nat → Int32) → Prop} {x1 x3 x9 : Int32} {n m k i N : Nat} {b : Int} (hn : n < 5) (hm : m < 7) (hk : k < 5) (n0 : 0 < n) (m0 : 0 < m) (b1 : -15 ≤ b) (b2 : b ≤ 16) (hi : i < 4) (hN : N = if i < n then i * m else n * m) (hF : cv_F N (cv_LP n m k) (cv_LA n m b) a1 a2) (hL : cv_L N (cv_LP n m k) a3 a4)
    (hJ : ∀ s : Nat × (Nat → Int32) × (Nat → Int32) × (Nat → Int32) × (Nat → Int32) × (Nat → Int32) × (Nat → Int32) × (Nat → Int32) × (Nat → Int32) × (Nat → Int32), s.1 = (if i + 1 < n then (i + 1) * m else n * m) ∧ cv_F s.1 (cv_LP n m k) (cv_LA n m b) s.2.1 s.2.2.1 ∧ cv_L s.1 (cv_LP n m k) s.2.2.2.1 s.2.2.2.2.1 → J (nI s.1) 1 (nI (i + 1)) (nI s.1) s.2.1 s.2.2.1 s.2.2.2.1 s.2.2.2.2.1 s.2.2.2.2.2.1 s.2.2.2.2.2.2.1 s.2.2.2.2.2.2.2.1 s.2.2.2.2.2.2.2.2.1 s.2.2.2.2.2.2.2.2.2) :
    ∃ nf, wL_lawOf_85 post mc ms J x1 x3 (nI n) (nI m) (nI k) (cv_z b) x9 (nI i) kc ks nf (nI N) 1 0 (nI N) a1 a2 a3 a4 a5 a6 a7 a8 a9 := by
  have hnm := (cv_small hn hm).1
  refine pk_loop (σ := Nat × (Nat → Int32) × (Nat → Int32) × (Nat → Int32) × (Nat → Int32) × (Nat → Int32) × (Nat → Int32) × (Nat → Int32) × (Nat → Int32) × (Nat → Int32)) (fun nf j s => wL_lawOf_85 post mc ms J x1 x3 (nI n) (nI m) (nI k) (cv_z b) x9 (nI i) kc ks nf (nI s.1) 1 (nI j) (nI s.1) s.2.1 s.2.2.1 s.2.2.2.1 s.2.2.2.2.1 s.2.2.2.2.2.1 s.2.2.2.2.2.2.1 s.2.2.2.2.2.2.2.1 s.2.2.2.2.2.2.2.2.1 s.2.2.2.2.2.2.2.2.2)
    (fun j s => s.1 = (if i < n then i * m + min j m else n * m) ∧ cv_F s.1 (cv_LP n m k) (cv_LA n m b) s.2.1 s.2.2.1 ∧ cv_L s.1 (cv_LP n m k) s.2.2.2.1 s.2.2.2.2.1) 6 0 (N, a1, a2, a3, a4, a5, a6, a7, a8, a9) (by omega) ⟨?_, hF, hL⟩ ?_ ?_
  · show N = if i < n then i * m + min 0 m else n * m
    rw [hN, Nat.zero_min, Nat.add_zero]
  · intro nf s h
    refine pk_le 6 6 (fun _ => nm_r (nI_1 i) (hJ s ⟨?_, h.2⟩)) (fun z => absurd z (by omega))
    rw [h.1, show min 6 m = m by omega]
    by_cases e : i < n
    · rw [if_pos e]
      by_cases e2 : i + 1 < n
      · rw [if_pos e2, Nat.add_mul, Nat.one_mul]
      · rw [if_neg e2, show n = i + 1 by omega, Nat.add_mul, Nat.one_mul]
    · rw [if_neg e, if_neg (by omega)]
  · intro nf j s hj h hw
    obtain ⟨N, a1, a2, a3, a4, a5, a6, a7, a8, a9⟩ := s
    obtain ⟨h1, h2, h3⟩ := h
    have h1' : N = if i < n then i * m + min j m else n * m := h1
    have h2' : cv_F N (cv_LP n m k) (cv_LA n m b) a1 a2 := h2
    have h3' : cv_L N (cv_LP n m k) a3 a4 := h3
    refine pk_le 6 j (fun z => absurd z (by omega)) (fun _ => pk_le n i (fun z => ?_) (fun z => pk_le m j (fun z2 => ?_) (fun z2 => ?_)))
    · refine nm_r (nI_1 j) (hw (N, a1, a2, a3, a4, a5, a6, a7, a8, a9) ⟨?_, h2', h3'⟩)
      show N = if i < n then i * m + min (j + 1) m else n * m
      rw [h1', if_neg (by omega), if_neg (by omega)]
    · refine nm_r (nI_1 j) (hw (N, a1, a2, a3, a4, a5, a6, a7, a8, a9) ⟨?_, h2', h3'⟩)
      show N = if i < n then i * m + min (j + 1) m else n * m
      rw [h1', if_pos z, if_pos z, show min (j + 1) m = min j m by omega]
    · have eN : N = i * m + j := by
        rw [h1', if_pos z, show min j m = j by omega]
      have hlt : N < n * m := by
        rw [eN]
        exact cv_ij_lt z z2
      have ep : (nI i + (4 : Int32) * nI k) + (20 : Int32) * nI j = nI (cv_LP n m k N) := by
        rw [eN, cv_LP_at z z2, show (4 : Int32) * nI k = nI (4 * k) from pk_mul 4 k, show (20 : Int32) * nI j = nI (20 * j) from pk_mul 20 j, nI_add, nI_add]
      have ea : (cv_z b + nI i) - nI j = cv_z (cv_LA n m b N) := by
        rw [eN, cv_LA_at z z2, cv_zn, cv_zn, cv_zadd, cv_zsub]
      have hPN : cv_LP n m k N < 120 := cv_LP_lt N hn hm hk
      have hAN := cv_LA_bd (b := b) N hn hm b1 b2
      have g1 : ¬ cv_z (cv_LA n m b N) < (-50) := by
        rw [show (-50 : Int32) = cv_z (-50) by decide, cv_zlt (by omega) (by omega) (by omega) (by omega)]
        omega
      have g2 : cv_z (cv_LA n m b N) ≤ 50 := by
        rw [show (50 : Int32) = cv_z 50 by decide, cv_zle (by omega) (by omega) (by omega) (by omega)]
        omega
      refine br_f (by decide) ?_
      rw [ep, ea]
      refine cv_add (N := N) (by omega) hPN g1 g2 (fun b6 b7 => ?_)
      refine br_t rfl ?_
      refine nm_r (nI_1 N) (nm_r (nI_1 j) (hw (N + 1, upd a1 N (nI (cv_LP n m k N)), upd a2 N (cv_z (cv_LA n m b N)), upd a3 (cv_LP n m k N) (nI N), upd a4 N (a3 (cv_LP n m k N)), a5, b6, b7, a8, a9) ⟨?_, ?_, ?_⟩))
      · show N + 1 = if i < n then i * m + min (j + 1) m else n * m
        rw [eN, if_pos z, show min (j + 1) m = j + 1 by omega, Nat.add_assoc]
      · exact cv_F_add h2' (by omega) hPN rfl rfl
      · exact cv_L_add h3' hPN (fun t ht e => absurd (cv_LP_inj hn hk (by omega) hlt e) (by omega))
theorem cv_76 {x1 x3 : Int32} {n m k : Nat} {b : Int} (hn : n < 5) (hm : m < 7) (hk : k < 5) (n0 : 0 < n) (m0 : 0 < m) (b1 : -15 ≤ b) (b2 : b ≤ 16) (hL : cv_L 0 (cv_LP n m k) a3 a4) (hp : post 1 ()) :
    ∃ nf, wL_lawOf_76 post mc ms x1 x3 (nI n) (nI m) (nI k) (cv_z b) (nI (2 ^ n - 1)) kc ks nf 0 1 0 (nI 0) a1 a2 a3 a4 a5 a6 a7 a8 a9 := by
  refine pk_loop (σ := Nat × (Nat → Int32) × (Nat → Int32) × (Nat → Int32) × (Nat → Int32) × (Nat → Int32) × (Nat → Int32) × (Nat → Int32) × (Nat → Int32) × (Nat → Int32)) (fun nf i s => wL_lawOf_76 post mc ms x1 x3 (nI n) (nI m) (nI k) (cv_z b) (nI (2 ^ n - 1)) kc ks nf (nI s.1) 1 (nI i) (nI s.1) s.2.1 s.2.2.1 s.2.2.2.1 s.2.2.2.2.1 s.2.2.2.2.2.1 s.2.2.2.2.2.2.1 s.2.2.2.2.2.2.2.1 s.2.2.2.2.2.2.2.2.1 s.2.2.2.2.2.2.2.2.2)
    (fun i s => s.1 = (if i < n then i * m else n * m) ∧ cv_F s.1 (cv_LP n m k) (cv_LA n m b) s.2.1 s.2.2.1 ∧ cv_L s.1 (cv_LP n m k) s.2.2.2.1 s.2.2.2.2.1) 4 0 (0, a1, a2, a3, a4, a5, a6, a7, a8, a9) (by omega) ⟨?_, ⟨by show (0 : Nat) ≤ 40; omega, fun i hi => absurd hi (Nat.not_lt_zero i)⟩, hL⟩ ?_ ?_
  · show 0 = if 0 < n then 0 * m else n * m
    rw [if_pos n0, Nat.zero_mul]
  · intro nf s h
    obtain ⟨N, a1, a2, a3, a4, a5, a6, a7, a8, a9⟩ := s
    obtain ⟨h1, h2, h3⟩ := h
    have h1' : N = if 4 < n then 4 * m else n * m := h1
    rw [if_neg (by omega)] at h1'
    subst h1'
    exact cv_mid hn hm hk n0 m0 b1 b2 h2 h3 hp
  · intro nf i s hi h hw
    obtain ⟨N, a1, a2, a3, a4, a5, a6, a7, a8, a9⟩ := s
    obtain ⟨h1, h2, h3⟩ := h
    exact pk_le 4 i (fun z => absurd z (by omega)) (fun _ => cv_85 hn hm hk n0 m0 b1 b2 hi h1 h2 h3 (fun s hs => hw s hs))
end
theorem cv_lawOf {post : Int32 → St0 → Prop} {mc ms : Nat} {p0 p1 p2 p3 : Int32} (hc : 10 ≤ mc) (hs : 2418 ≤ ms) (hp : post 1 ()) : wpL_lawOf post mc ms () p0 p1 p2 p3 := by
  obtain ⟨u, hu, eu⟩ := pk_andE p0 (m := 3) 2 (by decide)
  obtain ⟨v, hv, ev⟩ := pk_andE (p0 >>> ((2 : Int32) &&& 31)) (m := 7) 3 (by decide)
  obtain ⟨w, hw, ew⟩ := pk_andE (p2 >>> ((6 : Int32) &&& 31)) (m := 7) 3 (by decide)
  obtain ⟨y, hy, ey⟩ := pk_andE p2 (m := 31) 5 (by decide)
  obtain ⟨ρ, hρ, eρ⟩ := pk_andE p1 (m := 127) 7 (by decide)
  have hu' : u < 4 := hu
  have hv' : v < 8 := hv
  have hw' : w < 8 := hw
  have hy' : y < 32 := hy
  have hρ' : ρ < 128 := hρ
  have e5 : (1 : Int32) + (p0 &&& 3) = nI (1 + u) := by
    rw [eu]
    exact nI_add 1 u
  have e6 : (1 : Int32) + (((p0 >>> ((2 : Int32) &&& 31)) &&& 7) - ((p0 >>> ((2 : Int32) &&& 31)) &&& 7) / 6 * 6) = nI (1 + v % 6) := by
    rw [ev, show nI v - nI v / 6 * 6 = nI (v % 6) from pk_rem (d := 6) (by omega) (by omega) (by omega)]
    exact nI_add 1 (v % 6)
  have e7 : ((p2 >>> ((6 : Int32) &&& 31)) &&& 7) - ((p2 >>> ((6 : Int32) &&& 31)) &&& 7) / 5 * 5 = nI (w % 5) := by
    rw [ew]
    exact pk_rem (d := 5) (by omega) (by omega) (by omega)
  have e8 : (p2 &&& 31) - 15 = cv_z ((y : Int) - 15) := by
    rw [ey, cv_zn, show (15 : Int32) = cv_z 15 by decide, cv_zsub]
  refine ⟨by omega, by omega, 9, 2408, by omega, by omega, cv_init (by omega) (by omega) (fun b3 hb3 => ?_)⟩
  refine nm_r e5 ⟨by decide, nm_r e6 ⟨by decide, nm_r e7 (nm_r e8 (nm_r (cv_wide (1 + u) (by omega)) ?_))⟩⟩
  rw [eρ]
  refine cv_plan (N := 0) (P := cv_LP (1 + u) (1 + v % 6) (w % 5)) (A := cv_LA (1 + u) (1 + v % 6) ((y : Int) - 15)) ⟨by omega, fun i hi => absurd hi (Nat.not_lt_zero i)⟩ (by omega) (fun b5 b6 b7 _ => ?_)
  exact cv_76 (by omega) (by omega) (by omega) (by omega) (by omega) (by omega) (by omega) ⟨fun q hq _ => hb3 q hq, fun i hi => absurd hi (Nat.not_lt_zero i)⟩ hp
theorem cv_cellAt {post : Int32 → Prop} {L j : Nat} {xs : Nat → Int32} {u : St0} (hL : L ≤ 4) (hj : j < 4) (h : ∀ r, post r) : wpL_cellAt post L xs u (nI j) :=
  pk_le L j (fun _ => h _) (fun z => ⟨pk_in j L z, h _⟩)
theorem i_vc (xs : Nat → Int32) (L : Nat) (hL : L ≤ 4) : wpL_law (fun r => r = 1) L xs := by
  unfold wpL_law
  refine cv_cellAt (j := 0) hL (by omega) (fun r1 => ?_)
  refine cv_cellAt (j := 1) hL (by omega) (fun r2 => ?_)
  refine cv_cellAt (j := 2) hL (by omega) (fun r3 => ?_)
  refine cv_cellAt (j := 3) hL (by omega) (fun r4 => ?_)
  exact ⟨1226, 19616, by omega, by omega, cv_lawOf (by omega) (by omega) rfl⟩
end
